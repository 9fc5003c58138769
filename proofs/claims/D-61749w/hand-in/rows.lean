section
-- ===== PART A: goes FIRST, ahead of the names: the tables' words, and 'selects' of the private methods out of them =====
/-- a private method of a class that the tables say can be made, by its rows of tables_1 -/
def lw_okq (q : MethodName × Nat) : Prop := (q.1.cls ≠ "java/lang/invoke/MethodHandle" ∧ q.1.cls ≠ "java/lang/invoke/VarHandle") ∧ Cond.instantiable q.1.cls q.2 ∈ tables_1 ∧ Cond.privateMethod q.1 ∈ tables_1 ∧ Cond.instanceMethod q.1 ∈ tables_1
set_option maxRecDepth 100000
theorem lw_t1 {w : Cond} (h : w ∈ tables_1_1) : w ∈ tables_1 := List.mem_append_left _ h
theorem lw_t2 {w : Cond} (h : w ∈ tables_1_2) : w ∈ tables_1 := List.mem_append_right _ h
theorem lw_p0 : lw_okq (⟨"FuelGate", "endRun", "()V"⟩, 17) := ⟨⟨by decide +kernel, by decide +kernel⟩, lw_t1 (List.mem_of_getElem? (i := 4) rfl), lw_t1 (List.mem_of_getElem? (i := 70) rfl), lw_t1 (List.mem_of_getElem? (i := 71) rfl)⟩
theorem lw_p1 : lw_okq (⟨"FuelGate", "check", "()V"⟩, 17) := ⟨⟨by decide +kernel, by decide +kernel⟩, lw_t1 (List.mem_of_getElem? (i := 4) rfl), lw_t1 (List.mem_of_getElem? (i := 86) rfl), lw_t1 (List.mem_of_getElem? (i := 87) rfl)⟩
theorem lw_p2 : lw_okq (⟨"FuelGate", "comeTo", "(II)V"⟩, 17) := ⟨⟨by decide +kernel, by decide +kernel⟩, lw_t1 (List.mem_of_getElem? (i := 4) rfl), lw_t1 (List.mem_of_getElem? (i := 90) rfl), lw_t1 (List.mem_of_getElem? (i := 91) rfl)⟩
theorem lw_p3 : lw_okq (⟨"FuelGate", "follow", "(I)V"⟩, 17) := ⟨⟨by decide +kernel, by decide +kernel⟩, lw_t1 (List.mem_of_getElem? (i := 4) rfl), lw_t1 (List.mem_of_getElem? (i := 94) rfl), lw_t1 (List.mem_of_getElem? (i := 95) rfl)⟩
theorem lw_p4 : lw_okq (⟨"FuelGate", "makeBlocks", "()V"⟩, 17) := ⟨⟨by decide +kernel, by decide +kernel⟩, lw_t1 (List.mem_of_getElem? (i := 4) rfl), lw_t1 (List.mem_of_getElem? (i := 107) rfl), lw_t1 (List.mem_of_getElem? (i := 108) rfl)⟩
theorem lw_p5 : lw_okq (⟨"FuelGate", "costOf", "(I)I"⟩, 17) := ⟨⟨by decide +kernel, by decide +kernel⟩, lw_t1 (List.mem_of_getElem? (i := 4) rfl), lw_t1 (List.mem_of_getElem? (i := 111) rfl), lw_t1 (List.mem_of_getElem? (i := 112) rfl)⟩
theorem lw_p6 : lw_okq (⟨"FuelGate", "carryOn", "()V"⟩, 17) := ⟨⟨by decide +kernel, by decide +kernel⟩, lw_t1 (List.mem_of_getElem? (i := 4) rfl), lw_t1 (List.mem_of_getElem? (i := 118) rfl), lw_t1 (List.mem_of_getElem? (i := 119) rfl)⟩
theorem lw_p7 : lw_okq (⟨"FuelGate", "runBlock", "()V"⟩, 17) := ⟨⟨by decide +kernel, by decide +kernel⟩, lw_t1 (List.mem_of_getElem? (i := 4) rfl), lw_t1 (List.mem_of_getElem? (i := 122) rfl), lw_t1 (List.mem_of_getElem? (i := 123) rfl)⟩
theorem lw_p8 : lw_okq (⟨"FuelGate", "perform", "()V"⟩, 17) := ⟨⟨by decide +kernel, by decide +kernel⟩, lw_t1 (List.mem_of_getElem? (i := 4) rfl), lw_t1 (List.mem_of_getElem? (i := 126) rfl), lw_t1 (List.mem_of_getElem? (i := 127) rfl)⟩
theorem lw_p9 : lw_okq (⟨"FuelGate", "push", "(I)V"⟩, 17) := ⟨⟨by decide +kernel, by decide +kernel⟩, lw_t1 (List.mem_of_getElem? (i := 4) rfl), lw_t1 (List.mem_of_getElem? (i := 130) rfl), lw_t1 (List.mem_of_getElem? (i := 131) rfl)⟩
theorem lw_p10 : lw_okq (⟨"FuelGate", "arithmetic", "(I)V"⟩, 17) := ⟨⟨by decide +kernel, by decide +kernel⟩, lw_t1 (List.mem_of_getElem? (i := 4) rfl), lw_t1 (List.mem_of_getElem? (i := 134) rfl), lw_t1 (List.mem_of_getElem? (i := 135) rfl)⟩
theorem lw_p11 : lw_okq (⟨"FuelGate", "exchange", "()V"⟩, 17) := ⟨⟨by decide +kernel, by decide +kernel⟩, lw_t1 (List.mem_of_getElem? (i := 4) rfl), lw_t1 (List.mem_of_getElem? (i := 138) rfl), lw_t1 (List.mem_of_getElem? (i := 139) rfl)⟩
theorem lw_p12 : lw_okq (⟨"FuelGate", "crawl", "()V"⟩, 17) := ⟨⟨by decide +kernel, by decide +kernel⟩, lw_t1 (List.mem_of_getElem? (i := 4) rfl), lw_t1 (List.mem_of_getElem? (i := 142) rfl), lw_t1 (List.mem_of_getElem? (i := 143) rfl)⟩
theorem lw_p13 : lw_okq (⟨"FuelGateModel", "over", "()V"⟩, 10) := ⟨⟨by decide +kernel, by decide +kernel⟩, lw_t1 (List.mem_of_getElem? (i := 182) rfl), lw_t1 (List.mem_of_getElem? (i := 223) rfl), lw_t1 (List.mem_of_getElem? (i := 224) rfl)⟩
theorem lw_p14 : lw_okq (⟨"FuelGateModel", "come", "(II)Z"⟩, 10) := ⟨⟨by decide +kernel, by decide +kernel⟩, lw_t1 (List.mem_of_getElem? (i := 182) rfl), lw_t2 (List.mem_of_getElem? (i := 3) rfl), lw_t2 (List.mem_of_getElem? (i := 4) rfl)⟩
theorem lw_p15 : lw_okq (⟨"FuelGateModel", "check", "(I)Z"⟩, 10) := ⟨⟨by decide +kernel, by decide +kernel⟩, lw_t1 (List.mem_of_getElem? (i := 182) rfl), lw_t2 (List.mem_of_getElem? (i := 7) rfl), lw_t2 (List.mem_of_getElem? (i := 8) rfl)⟩
def lw_privs_1 : List (MethodName × Nat) := [(⟨"FuelGate", "endRun", "()V"⟩, 17), (⟨"FuelGate", "check", "()V"⟩, 17), (⟨"FuelGate", "comeTo", "(II)V"⟩, 17), (⟨"FuelGate", "follow", "(I)V"⟩, 17), (⟨"FuelGate", "makeBlocks", "()V"⟩, 17), (⟨"FuelGate", "costOf", "(I)I"⟩, 17), (⟨"FuelGate", "carryOn", "()V"⟩, 17), (⟨"FuelGate", "runBlock", "()V"⟩, 17), (⟨"FuelGate", "perform", "()V"⟩, 17), (⟨"FuelGate", "push", "(I)V"⟩, 17), (⟨"FuelGate", "arithmetic", "(I)V"⟩, 17), (⟨"FuelGate", "exchange", "()V"⟩, 17), (⟨"FuelGate", "crawl", "()V"⟩, 17), (⟨"FuelGateModel", "over", "()V"⟩, 10), (⟨"FuelGateModel", "come", "(II)Z"⟩, 10), (⟨"FuelGateModel", "check", "(I)Z"⟩, 10)]
theorem lw_r1 : ∀ q ∈ lw_privs_1, lw_okq q := List.forall_mem_cons.mpr ⟨lw_p0, List.forall_mem_cons.mpr ⟨lw_p1, List.forall_mem_cons.mpr ⟨lw_p2, List.forall_mem_cons.mpr ⟨lw_p3, List.forall_mem_cons.mpr ⟨lw_p4, List.forall_mem_cons.mpr ⟨lw_p5, List.forall_mem_cons.mpr ⟨lw_p6, List.forall_mem_cons.mpr ⟨lw_p7, List.forall_mem_cons.mpr ⟨lw_p8, List.forall_mem_cons.mpr ⟨lw_p9, List.forall_mem_cons.mpr ⟨lw_p10, List.forall_mem_cons.mpr ⟨lw_p11, List.forall_mem_cons.mpr ⟨lw_p12, List.forall_mem_cons.mpr ⟨lw_p13, List.forall_mem_cons.mpr ⟨lw_p14, List.forall_mem_cons.mpr ⟨lw_p15, fun _ h => absurd h List.not_mem_nil⟩⟩⟩⟩⟩⟩⟩⟩⟩⟩⟩⟩⟩⟩⟩⟩
theorem lw_p16 : lw_okq (⟨"FuelGateModel", "change", "(I)I"⟩, 10) := ⟨⟨by decide +kernel, by decide +kernel⟩, lw_t1 (List.mem_of_getElem? (i := 182) rfl), lw_t2 (List.mem_of_getElem? (i := 11) rfl), lw_t2 (List.mem_of_getElem? (i := 12) rfl)⟩
theorem lw_p17 : lw_okq (⟨"FuelGateModel", "needs", "(I)I"⟩, 10) := ⟨⟨by decide +kernel, by decide +kernel⟩, lw_t1 (List.mem_of_getElem? (i := 182) rfl), lw_t2 (List.mem_of_getElem? (i := 15) rfl), lw_t2 (List.mem_of_getElem? (i := 16) rfl)⟩
theorem lw_p18 : lw_okq (⟨"FuelGateModel", "held", "(I)I"⟩, 10) := ⟨⟨by decide +kernel, by decide +kernel⟩, lw_t1 (List.mem_of_getElem? (i := 182) rfl), lw_t2 (List.mem_of_getElem? (i := 19) rfl), lw_t2 (List.mem_of_getElem? (i := 20) rfl)⟩
theorem lw_p19 : lw_okq (⟨"FuelGateModel", "least", "(II)I"⟩, 10) := ⟨⟨by decide +kernel, by decide +kernel⟩, lw_t1 (List.mem_of_getElem? (i := 182) rfl), lw_t2 (List.mem_of_getElem? (i := 23) rfl), lw_t2 (List.mem_of_getElem? (i := 24) rfl)⟩
theorem lw_p20 : lw_okq (⟨"FuelGateModel", "goOn", "()I"⟩, 10) := ⟨⟨by decide +kernel, by decide +kernel⟩, lw_t1 (List.mem_of_getElem? (i := 182) rfl), lw_t2 (List.mem_of_getElem? (i := 27) rfl), lw_t2 (List.mem_of_getElem? (i := 28) rfl)⟩
theorem lw_p21 : lw_okq (⟨"FuelGateModel", "cost", "(I)I"⟩, 10) := ⟨⟨by decide +kernel, by decide +kernel⟩, lw_t1 (List.mem_of_getElem? (i := 182) rfl), lw_t2 (List.mem_of_getElem? (i := 31) rfl), lw_t2 (List.mem_of_getElem? (i := 32) rfl)⟩
theorem lw_p22 : lw_okq (⟨"FuelGateModel", "carryOut", "()V"⟩, 10) := ⟨⟨by decide +kernel, by decide +kernel⟩, lw_t1 (List.mem_of_getElem? (i := 182) rfl), lw_t2 (List.mem_of_getElem? (i := 35) rfl), lw_t2 (List.mem_of_getElem? (i := 36) rfl)⟩
theorem lw_p23 : lw_okq (⟨"FuelGateModel", "put", "(I)V"⟩, 10) := ⟨⟨by decide +kernel, by decide +kernel⟩, lw_t1 (List.mem_of_getElem? (i := 182) rfl), lw_t2 (List.mem_of_getElem? (i := 39) rfl), lw_t2 (List.mem_of_getElem? (i := 40) rfl)⟩
theorem lw_p24 : lw_okq (⟨"FuelGateModel", "two", "(I)V"⟩, 10) := ⟨⟨by decide +kernel, by decide +kernel⟩, lw_t1 (List.mem_of_getElem? (i := 182) rfl), lw_t2 (List.mem_of_getElem? (i := 47) rfl), lw_t2 (List.mem_of_getElem? (i := 48) rfl)⟩
theorem lw_p25 : lw_okq (⟨"FuelGateModel", "take", "()I"⟩, 10) := ⟨⟨by decide +kernel, by decide +kernel⟩, lw_t1 (List.mem_of_getElem? (i := 182) rfl), lw_t2 (List.mem_of_getElem? (i := 51) rfl), lw_t2 (List.mem_of_getElem? (i := 52) rfl)⟩
def lw_privs_2 : List (MethodName × Nat) := [(⟨"FuelGateModel", "change", "(I)I"⟩, 10), (⟨"FuelGateModel", "needs", "(I)I"⟩, 10), (⟨"FuelGateModel", "held", "(I)I"⟩, 10), (⟨"FuelGateModel", "least", "(II)I"⟩, 10), (⟨"FuelGateModel", "goOn", "()I"⟩, 10), (⟨"FuelGateModel", "cost", "(I)I"⟩, 10), (⟨"FuelGateModel", "carryOut", "()V"⟩, 10), (⟨"FuelGateModel", "put", "(I)V"⟩, 10), (⟨"FuelGateModel", "two", "(I)V"⟩, 10), (⟨"FuelGateModel", "take", "()I"⟩, 10)]
theorem lw_r2 : ∀ q ∈ lw_privs_2, lw_okq q := List.forall_mem_cons.mpr ⟨lw_p16, List.forall_mem_cons.mpr ⟨lw_p17, List.forall_mem_cons.mpr ⟨lw_p18, List.forall_mem_cons.mpr ⟨lw_p19, List.forall_mem_cons.mpr ⟨lw_p20, List.forall_mem_cons.mpr ⟨lw_p21, List.forall_mem_cons.mpr ⟨lw_p22, List.forall_mem_cons.mpr ⟨lw_p23, List.forall_mem_cons.mpr ⟨lw_p24, List.forall_mem_cons.mpr ⟨lw_p25, fun _ h => absurd h List.not_mem_nil⟩⟩⟩⟩⟩⟩⟩⟩⟩⟩
def lw_privs : List (MethodName × Nat) := lw_privs_1 ++ (lw_privs_2)
def lw_tbl : List Cond := k2_sels lw_privs ++ tables_1
theorem lw_privs_ok : ∀ q ∈ lw_privs, lw_okq q := by
  show ∀ q ∈ lw_privs_1 ++ (lw_privs_2), lw_okq q
  exact List.forall_mem_append.mpr ⟨lw_r1, lw_r2⟩
-- ===== ONE list of words for every method: the tables' words that hold all through a run =====
def lw_all : List Cond := lw_tbl.filter goodWord
/-- a word of the tables by its place: claim/WORDS.tsv -/
theorem lw_w {w : Cond} (i : Nat) (h : lw_tbl[i]? = some w) (g : goodWord w = true) : w ∈ lw_all := List.mem_filter.mpr ⟨List.mem_of_getElem? h, g⟩
theorem lw_all_tbl {w : Cond} (h : w ∈ lw_all) : w ∈ lw_tbl := (List.mem_filter.mp h).1
theorem lw_self : GoodIn lw_all lw_all := fun w h => ⟨h, good_of_word (List.mem_filter.mp h).2⟩
/-- a class's field words, by their places -/
theorem lw_in (ws : List Cond) (ps : List Nat) (hp : ws = ps.filterMap (fun i => lw_tbl[i]?)) (hg : ws.all goodWord = true) : ∀ w ∈ ws, w ∈ lw_all := by
  intro w h
  have h1 := List.all_eq_true.mp hg w h
  rw [hp] at h
  obtain ⟨i, -, hi⟩ := List.mem_filterMap.mp h
  exact lw_w i hi h1
/-- the words of a contract for the method y with code b, L locals, answer r -/
abbrev ws_ (y : MethodName) (b : ByteArray) (L : Nat) (r : Option FieldType) : List Cond := Cond.code y b L r :: lw_all
theorem lw_meth {y : MethodName} {b : ByteArray} {L : Nat} {r : Option FieldType} (h : Cond.code y b L r ∈ lw_all) : GoodIn lw_all (ws_ y b L r) := by
  intro w hw
  rcases List.mem_cons.mp hw with e | e
  · rw [e]
    exact lw_self _ h
  · exact lw_self _ e
theorem lw_app {a c : List Cond} (ha : ∀ w ∈ a, w ∈ lw_all) (hc : GoodIn lw_all c) : GoodIn lw_all (a ++ c) := by
  intro w hw
  rcases List.mem_append.mp hw with e | e
  · exact lw_self w (ha w e)
  · exact hc w e
/-- what a call through an object asks: cwV n hts (lw_V ..) -/
theorem lw_V {own : String} {idx : Nat} {C : String} {y : MethodName} {b : ByteArray} {L : Nat} {r : Option FieldType} (h1 : Cond.methodLink own idx y ∈ lw_all) (h2 : Cond.instanceMethod y ∈ lw_all) (h3 : Cond.selects C y y ∈ lw_all) (h4 : Cond.initialized C ∈ lw_all) (h5 : Cond.code y b L r ∈ lw_all) : GoodIn lw_all (wsV own idx C y (ws_ y b L r)) := by
  refine lw_app ?_ (lw_meth h5)
  intro w hw
  simp only [List.mem_cons, List.not_mem_nil, or_false] at hw
  rcases hw with e | e | e | e
  · rw [e]; exact h1
  · rw [e]; exact h2
  · rw [e]; exact h3
  · rw [e]; exact h4
/-- what a static call asks: va_cwS n hts (lw_S ..) -/
theorem lw_S {own : String} {idx : Nat} {y : MethodName} {b : ByteArray} {L : Nat} {r : Option FieldType} (h1 : Cond.methodLink own idx y ∈ lw_all) (h2 : Cond.static y ∈ lw_all) (h3 : Cond.initialized y.cls ∈ lw_all) (h4 : Cond.code y b L r ∈ lw_all) : GoodIn lw_all (va_wsS own idx y (ws_ y b L r)) := by
  refine lw_app ?_ (lw_meth h4)
  intro w hw
  simp only [List.mem_cons, List.not_mem_nil, or_false] at hw
  rcases hw with e | e | e
  · rw [e]; exact h1
  · rw [e]; exact h2
  · rw [e]; exact h3
/-- the words of a contract for a method WITH HANDLERS (hh: its table) -/
abbrev wsW_ (y : MethodName) (b : ByteArray) (L : Nat) (r : Option FieldType) (hh : List (Nat × Nat × Nat × Nat)) : List Cond := Cond.codeWith y b L r hh :: lw_all
theorem lw_methW {y : MethodName} {b : ByteArray} {L : Nat} {r : Option FieldType} {hh : List (Nat × Nat × Nat × Nat)} (h : Cond.codeWith y b L r hh ∈ lw_all) : GoodIn lw_all (wsW_ y b L r hh) := by
  intro w hw
  rcases List.mem_cons.mp hw with e | e
  · rw [e]
    exact lw_self _ h
  · exact lw_self _ e
/-- any list of words by their places (lw_in), good -/
theorem lw_good {ws : List Cond} (h : ∀ w ∈ ws, w ∈ lw_all) : GoodIn lw_all ws := fun w hw => lw_self w (h w hw)
/-- what a call of a method with handlers asks: vx_cwVW n hts (lw_VW ..), vx_cwSW n hts (lw_SW ..) -/
theorem lw_VW {own : String} {idx : Nat} {C : String} {y : MethodName} {b : ByteArray} {L : Nat} {r : Option FieldType} {hh : List (Nat × Nat × Nat × Nat)} (h1 : Cond.methodLink own idx y ∈ lw_all) (h2 : Cond.instanceMethod y ∈ lw_all) (h3 : Cond.selects C y y ∈ lw_all) (h4 : Cond.initialized C ∈ lw_all) (h5 : Cond.codeWith y b L r hh ∈ lw_all) : GoodIn lw_all (wsV own idx C y (wsW_ y b L r hh)) := by
  refine lw_app ?_ (lw_methW h5)
  intro w hw
  simp only [List.mem_cons, List.not_mem_nil, or_false] at hw
  rcases hw with e | e | e | e
  · rw [e]; exact h1
  · rw [e]; exact h2
  · rw [e]; exact h3
  · rw [e]; exact h4
theorem lw_SW {own : String} {idx : Nat} {y : MethodName} {b : ByteArray} {L : Nat} {r : Option FieldType} {hh : List (Nat × Nat × Nat × Nat)} (h1 : Cond.methodLink own idx y ∈ lw_all) (h2 : Cond.static y ∈ lw_all) (h3 : Cond.initialized y.cls ∈ lw_all) (h4 : Cond.codeWith y b L r hh ∈ lw_all) : GoodIn lw_all (va_wsS own idx y (wsW_ y b L r hh)) := by
  refine lw_app ?_ (lw_methW h4)
  intro w hw
  simp only [List.mem_cons, List.not_mem_nil, or_false] at hw
  rcases hw with e | e | e
  · rw [e]; exact h1
  · rw [e]; exact h2
  · rw [e]; exact h3
/-- a word by its place in its run of the tables -/
theorem lw_at {r : List Cond} (hr : ∀ w ∈ r, w ∈ lw_tbl) {w : Cond} (i : Nat) (h : r[i]? = some w) : w ∈ lw_tbl := hr w (List.mem_of_getElem? h)
theorem lw_g {w : Cond} (h : w ∈ lw_tbl) (g : goodWord w = true) : w ∈ lw_all := List.mem_filter.mpr ⟨h, g⟩
theorem lw_ms : ∀ w ∈ k2_sels lw_privs, w ∈ lw_tbl := fun w h => show w ∈ k2_sels lw_privs ++ tables_1 from List.mem_append_left _ h
theorem lw_m1 : ∀ w ∈ tables_1_1, w ∈ lw_tbl := fun w h => show w ∈ k2_sels lw_privs ++ tables_1 from List.mem_append_right (k2_sels lw_privs) (show w ∈ tables_1 from List.mem_append_left _ h)
theorem lw_m2 : ∀ w ∈ tables_1_2, w ∈ lw_tbl := fun w h => show w ∈ k2_sels lw_privs ++ tables_1 from List.mem_append_right (k2_sels lw_privs) (show w ∈ tables_1 from List.mem_append_right _ h)
theorem qs0 : (Cond.selects "FuelGate" ⟨"FuelGate", "endRun", "()V"⟩ ⟨"FuelGate", "endRun", "()V"⟩) ∈ lw_all := lw_g (lw_at lw_ms 0 rfl) rfl
theorem qs1 : (Cond.selects "FuelGate" ⟨"FuelGate", "check", "()V"⟩ ⟨"FuelGate", "check", "()V"⟩) ∈ lw_all := lw_g (lw_at lw_ms 1 rfl) rfl
theorem qs2 : (Cond.selects "FuelGate" ⟨"FuelGate", "comeTo", "(II)V"⟩ ⟨"FuelGate", "comeTo", "(II)V"⟩) ∈ lw_all := lw_g (lw_at lw_ms 2 rfl) rfl
theorem qs3 : (Cond.selects "FuelGate" ⟨"FuelGate", "follow", "(I)V"⟩ ⟨"FuelGate", "follow", "(I)V"⟩) ∈ lw_all := lw_g (lw_at lw_ms 3 rfl) rfl
theorem qs4 : (Cond.selects "FuelGate" ⟨"FuelGate", "makeBlocks", "()V"⟩ ⟨"FuelGate", "makeBlocks", "()V"⟩) ∈ lw_all := lw_g (lw_at lw_ms 4 rfl) rfl
theorem qs5 : (Cond.selects "FuelGate" ⟨"FuelGate", "costOf", "(I)I"⟩ ⟨"FuelGate", "costOf", "(I)I"⟩) ∈ lw_all := lw_g (lw_at lw_ms 5 rfl) rfl
theorem qs6 : (Cond.selects "FuelGate" ⟨"FuelGate", "carryOn", "()V"⟩ ⟨"FuelGate", "carryOn", "()V"⟩) ∈ lw_all := lw_g (lw_at lw_ms 6 rfl) rfl
theorem qs7 : (Cond.selects "FuelGate" ⟨"FuelGate", "runBlock", "()V"⟩ ⟨"FuelGate", "runBlock", "()V"⟩) ∈ lw_all := lw_g (lw_at lw_ms 7 rfl) rfl
theorem qs8 : (Cond.selects "FuelGate" ⟨"FuelGate", "perform", "()V"⟩ ⟨"FuelGate", "perform", "()V"⟩) ∈ lw_all := lw_g (lw_at lw_ms 8 rfl) rfl
theorem qs9 : (Cond.selects "FuelGate" ⟨"FuelGate", "push", "(I)V"⟩ ⟨"FuelGate", "push", "(I)V"⟩) ∈ lw_all := lw_g (lw_at lw_ms 9 rfl) rfl
theorem qs10 : (Cond.selects "FuelGate" ⟨"FuelGate", "arithmetic", "(I)V"⟩ ⟨"FuelGate", "arithmetic", "(I)V"⟩) ∈ lw_all := lw_g (lw_at lw_ms 10 rfl) rfl
theorem qs11 : (Cond.selects "FuelGate" ⟨"FuelGate", "exchange", "()V"⟩ ⟨"FuelGate", "exchange", "()V"⟩) ∈ lw_all := lw_g (lw_at lw_ms 11 rfl) rfl
theorem qs12 : (Cond.selects "FuelGate" ⟨"FuelGate", "crawl", "()V"⟩ ⟨"FuelGate", "crawl", "()V"⟩) ∈ lw_all := lw_g (lw_at lw_ms 12 rfl) rfl
theorem qs13 : (Cond.selects "FuelGateModel" ⟨"FuelGateModel", "over", "()V"⟩ ⟨"FuelGateModel", "over", "()V"⟩) ∈ lw_all := lw_g (lw_at lw_ms 13 rfl) rfl
theorem qs14 : (Cond.selects "FuelGateModel" ⟨"FuelGateModel", "come", "(II)Z"⟩ ⟨"FuelGateModel", "come", "(II)Z"⟩) ∈ lw_all := lw_g (lw_at lw_ms 14 rfl) rfl
theorem qs15 : (Cond.selects "FuelGateModel" ⟨"FuelGateModel", "check", "(I)Z"⟩ ⟨"FuelGateModel", "check", "(I)Z"⟩) ∈ lw_all := lw_g (lw_at lw_ms 15 rfl) rfl
theorem qs16 : (Cond.selects "FuelGateModel" ⟨"FuelGateModel", "change", "(I)I"⟩ ⟨"FuelGateModel", "change", "(I)I"⟩) ∈ lw_all := lw_g (lw_at lw_ms 16 rfl) rfl
theorem qs17 : (Cond.selects "FuelGateModel" ⟨"FuelGateModel", "needs", "(I)I"⟩ ⟨"FuelGateModel", "needs", "(I)I"⟩) ∈ lw_all := lw_g (lw_at lw_ms 17 rfl) rfl
theorem qs18 : (Cond.selects "FuelGateModel" ⟨"FuelGateModel", "held", "(I)I"⟩ ⟨"FuelGateModel", "held", "(I)I"⟩) ∈ lw_all := lw_g (lw_at lw_ms 18 rfl) rfl
theorem qs19 : (Cond.selects "FuelGateModel" ⟨"FuelGateModel", "least", "(II)I"⟩ ⟨"FuelGateModel", "least", "(II)I"⟩) ∈ lw_all := lw_g (lw_at lw_ms 19 rfl) rfl
theorem qs20 : (Cond.selects "FuelGateModel" ⟨"FuelGateModel", "goOn", "()I"⟩ ⟨"FuelGateModel", "goOn", "()I"⟩) ∈ lw_all := lw_g (lw_at lw_ms 20 rfl) rfl
theorem qs21 : (Cond.selects "FuelGateModel" ⟨"FuelGateModel", "cost", "(I)I"⟩ ⟨"FuelGateModel", "cost", "(I)I"⟩) ∈ lw_all := lw_g (lw_at lw_ms 21 rfl) rfl
theorem qs22 : (Cond.selects "FuelGateModel" ⟨"FuelGateModel", "carryOut", "()V"⟩ ⟨"FuelGateModel", "carryOut", "()V"⟩) ∈ lw_all := lw_g (lw_at lw_ms 22 rfl) rfl
theorem qs23 : (Cond.selects "FuelGateModel" ⟨"FuelGateModel", "put", "(I)V"⟩ ⟨"FuelGateModel", "put", "(I)V"⟩) ∈ lw_all := lw_g (lw_at lw_ms 23 rfl) rfl
theorem qs24 : (Cond.selects "FuelGateModel" ⟨"FuelGateModel", "two", "(I)V"⟩ ⟨"FuelGateModel", "two", "(I)V"⟩) ∈ lw_all := lw_g (lw_at lw_ms 24 rfl) rfl
theorem qs25 : (Cond.selects "FuelGateModel" ⟨"FuelGateModel", "take", "()I"⟩ ⟨"FuelGateModel", "take", "()I"⟩) ∈ lw_all := lw_g (lw_at lw_ms 25 rfl) rfl
end
section
/-! FuelGate -/
set_option maxRecDepth 100000
def RX0 : String := "FuelGate"
def TX0 : u_T := fun k => match k with
  | 0 => ("FuelGate", "size", "I", false)
  | 1 => ("FuelGate", "op", "[I", true)
  | 2 => ("FuelGate", "con", "[I", true)
  | 3 => ("FuelGate", "checked", "Z", false)
  | 4 => ("FuelGate", "good", "Z", false)
  | 5 => ("FuelGate", "heights", "[I", true)
  | 6 => ("FuelGate", "leader", "[Z", true)
  | 7 => ("FuelGate", "blockCost", "[I", true)
  | 8 => ("FuelGate", "blockEnd", "[I", true)
  | 9 => ("FuelGate", "list", "[I", true)
  | 10 => ("FuelGate", "listed", "I", false)
  | 11 => ("FuelGate", "state", "I", false)
  | 12 => ("FuelGate", "fuel", "I", false)
  | 13 => ("FuelGate", "at", "I", false)
  | 14 => ("FuelGate", "depth", "I", false)
  | 15 => ("FuelGate", "stack", "[I", true)
  | _ => ("FuelGate", "cells", "[I", true)
def tyX0 : Nat → FieldType := fun k => match k with
  | 0 => .int
  | 1 => .array .int
  | 2 => .array .int
  | 3 => .boolean
  | 4 => .boolean
  | 5 => .array .int
  | 6 => .array .boolean
  | 7 => .array .int
  | 8 => .array .int
  | 9 => .array .int
  | 10 => .int
  | 11 => .int
  | 12 => .int
  | 13 => .int
  | 14 => .int
  | 15 => .array .int
  | _ => .array .int
abbrev wsX00 : List Cond := u_ws RX0 TX0 17
set_option maxRecDepth 100000 in
theorem nmX0 : ∀ a, a < 17 → ∀ b, b < 17 → a ≠ b → (TX0 a).2.1 ≠ (TX0 b).2.1 := by decide +kernel
set_option maxRecDepth 100000 in
theorem tyX0_ok : ∀ k, k < 17 → parseFieldDescriptor (TX0 k).2.2.1 = some (tyX0 k) := by decide +kernel
abbrev cX0_init : ByteArray := prog_1_method_1_code
def yX0_init : MethodName := ⟨RX0, "<init>", "()V"⟩
theorem dX0_init_0 : decode cX0_init 0 = .ok (.aload_n 0, 1) := by decide +kernel
theorem dX0_init_1 : decode cX0_init 1 = .ok (.invokespecial 1, 3) := by decide +kernel
theorem dX0_init_4 : decode cX0_init 4 = .ok (.aload_n 0, 1) := by decide +kernel
theorem dX0_init_5 : decode cX0_init 5 = .ok (.bipush 24, 2) := by decide +kernel
theorem dX0_init_7 : decode cX0_init 7 = .ok (.newarray .int, 2) := by decide +kernel
theorem dX0_init_9 : decode cX0_init 9 = .ok (.putfield 7, 3) := by decide +kernel
theorem dX0_init_12 : decode cX0_init 12 = .ok (.aload_n 0, 1) := by decide +kernel
theorem dX0_init_13 : decode cX0_init 13 = .ok (.bipush 24, 2) := by decide +kernel
theorem dX0_init_15 : decode cX0_init 15 = .ok (.newarray .int, 2) := by decide +kernel
theorem dX0_init_17 : decode cX0_init 17 = .ok (.putfield 13, 3) := by decide +kernel
theorem dX0_init_20 : decode cX0_init 20 = .ok (.aload_n 0, 1) := by decide +kernel
theorem dX0_init_21 : decode cX0_init 21 = .ok (.bipush 24, 2) := by decide +kernel
theorem dX0_init_23 : decode cX0_init 23 = .ok (.newarray .int, 2) := by decide +kernel
theorem dX0_init_25 : decode cX0_init 25 = .ok (.putfield 16, 3) := by decide +kernel
theorem dX0_init_28 : decode cX0_init 28 = .ok (.aload_n 0, 1) := by decide +kernel
theorem dX0_init_29 : decode cX0_init 29 = .ok (.bipush 24, 2) := by decide +kernel
theorem dX0_init_31 : decode cX0_init 31 = .ok (.newarray .boolean, 2) := by decide +kernel
theorem dX0_init_33 : decode cX0_init 33 = .ok (.putfield 19, 3) := by decide +kernel
theorem dX0_init_36 : decode cX0_init 36 = .ok (.aload_n 0, 1) := by decide +kernel
theorem dX0_init_37 : decode cX0_init 37 = .ok (.bipush 24, 2) := by decide +kernel
theorem dX0_init_39 : decode cX0_init 39 = .ok (.newarray .int, 2) := by decide +kernel
theorem dX0_init_41 : decode cX0_init 41 = .ok (.putfield 23, 3) := by decide +kernel
theorem dX0_init_44 : decode cX0_init 44 = .ok (.aload_n 0, 1) := by decide +kernel
theorem dX0_init_45 : decode cX0_init 45 = .ok (.bipush 24, 2) := by decide +kernel
theorem dX0_init_47 : decode cX0_init 47 = .ok (.newarray .int, 2) := by decide +kernel
theorem dX0_init_49 : decode cX0_init 49 = .ok (.putfield 26, 3) := by decide +kernel
theorem dX0_init_52 : decode cX0_init 52 = .ok (.aload_n 0, 1) := by decide +kernel
theorem dX0_init_53 : decode cX0_init 53 = .ok (.bipush 24, 2) := by decide +kernel
theorem dX0_init_55 : decode cX0_init 55 = .ok (.newarray .int, 2) := by decide +kernel
theorem dX0_init_57 : decode cX0_init 57 = .ok (.putfield 29, 3) := by decide +kernel
theorem dX0_init_60 : decode cX0_init 60 = .ok (.aload_n 0, 1) := by decide +kernel
theorem dX0_init_61 : decode cX0_init 61 = .ok (.bipush 9, 2) := by decide +kernel
theorem dX0_init_63 : decode cX0_init 63 = .ok (.newarray .int, 2) := by decide +kernel
theorem dX0_init_65 : decode cX0_init 65 = .ok (.putfield 32, 3) := by decide +kernel
theorem dX0_init_68 : decode cX0_init 68 = .ok (.aload_n 0, 1) := by decide +kernel
theorem dX0_init_69 : decode cX0_init 69 = .ok (.iconst 4, 1) := by decide +kernel
theorem dX0_init_70 : decode cX0_init 70 = .ok (.newarray .int, 2) := by decide +kernel
theorem dX0_init_72 : decode cX0_init 72 = .ok (.putfield 35, 3) := by decide +kernel
theorem dX0_init_75 : decode cX0_init 75 = .ok (.aload_n 0, 1) := by decide +kernel
theorem dX0_init_76 : decode cX0_init 76 = .ok (.iconst 0, 1) := by decide +kernel
theorem dX0_init_77 : decode cX0_init 77 = .ok (.putfield 38, 3) := by decide +kernel
theorem dX0_init_80 : decode cX0_init 80 = .ok (.return_, 1) := by decide +kernel
abbrev cX0_emit : ByteArray := prog_1_method_3_code
def yX0_emit : MethodName := ⟨RX0, "emit", "(II)I"⟩
theorem dX0_emit_0 : decode cX0_emit 0 = .ok (.iload_n 1, 1) := by decide +kernel
theorem dX0_emit_1 : decode cX0_emit 1 = .ok (.ifCond .lt 9, 3) := by decide +kernel
theorem dX0_emit_4 : decode cX0_emit 4 = .ok (.iload_n 1, 1) := by decide +kernel
theorem dX0_emit_5 : decode cX0_emit 5 = .ok (.bipush 14, 2) := by decide +kernel
theorem dX0_emit_7 : decode cX0_emit 7 = .ok (.if_icmp .le 5, 3) := by decide +kernel
theorem dX0_emit_10 : decode cX0_emit 10 = .ok (.iconst (-1), 1) := by decide +kernel
theorem dX0_emit_11 : decode cX0_emit 11 = .ok (.ireturn, 1) := by decide +kernel
theorem dX0_emit_12 : decode cX0_emit 12 = .ok (.aload_n 0, 1) := by decide +kernel
theorem dX0_emit_13 : decode cX0_emit 13 = .ok (.getfield 49, 3) := by decide +kernel
theorem dX0_emit_16 : decode cX0_emit 16 = .ok (.bipush 24, 2) := by decide +kernel
theorem dX0_emit_18 : decode cX0_emit 18 = .ok (.if_icmp .lt 6, 3) := by decide +kernel
theorem dX0_emit_21 : decode cX0_emit 21 = .ok (.bipush (-2), 2) := by decide +kernel
theorem dX0_emit_23 : decode cX0_emit 23 = .ok (.ireturn, 1) := by decide +kernel
theorem dX0_emit_24 : decode cX0_emit 24 = .ok (.aload_n 0, 1) := by decide +kernel
theorem dX0_emit_25 : decode cX0_emit 25 = .ok (.getfield 7, 3) := by decide +kernel
theorem dX0_emit_28 : decode cX0_emit 28 = .ok (.aload_n 0, 1) := by decide +kernel
theorem dX0_emit_29 : decode cX0_emit 29 = .ok (.getfield 49, 3) := by decide +kernel
theorem dX0_emit_32 : decode cX0_emit 32 = .ok (.iload_n 1, 1) := by decide +kernel
theorem dX0_emit_33 : decode cX0_emit 33 = .ok (.iastore, 1) := by decide +kernel
theorem dX0_emit_34 : decode cX0_emit 34 = .ok (.aload_n 0, 1) := by decide +kernel
theorem dX0_emit_35 : decode cX0_emit 35 = .ok (.getfield 13, 3) := by decide +kernel
theorem dX0_emit_38 : decode cX0_emit 38 = .ok (.aload_n 0, 1) := by decide +kernel
theorem dX0_emit_39 : decode cX0_emit 39 = .ok (.getfield 49, 3) := by decide +kernel
theorem dX0_emit_42 : decode cX0_emit 42 = .ok (.iload_n 2, 1) := by decide +kernel
theorem dX0_emit_43 : decode cX0_emit 43 = .ok (.iastore, 1) := by decide +kernel
theorem dX0_emit_44 : decode cX0_emit 44 = .ok (.aload_n 0, 1) := by decide +kernel
theorem dX0_emit_45 : decode cX0_emit 45 = .ok (.dup, 1) := by decide +kernel
theorem dX0_emit_46 : decode cX0_emit 46 = .ok (.getfield 49, 3) := by decide +kernel
theorem dX0_emit_49 : decode cX0_emit 49 = .ok (.iconst 1, 1) := by decide +kernel
theorem dX0_emit_50 : decode cX0_emit 50 = .ok (.iadd, 1) := by decide +kernel
theorem dX0_emit_51 : decode cX0_emit 51 = .ok (.putfield 49, 3) := by decide +kernel
theorem dX0_emit_54 : decode cX0_emit 54 = .ok (.aload_n 0, 1) := by decide +kernel
theorem dX0_emit_55 : decode cX0_emit 55 = .ok (.invokevirtual 52, 3) := by decide +kernel
theorem dX0_emit_58 : decode cX0_emit 58 = .ok (.aload_n 0, 1) := by decide +kernel
theorem dX0_emit_59 : decode cX0_emit 59 = .ok (.getfield 49, 3) := by decide +kernel
theorem dX0_emit_62 : decode cX0_emit 62 = .ok (.iconst 1, 1) := by decide +kernel
theorem dX0_emit_63 : decode cX0_emit 63 = .ok (.isub, 1) := by decide +kernel
theorem dX0_emit_64 : decode cX0_emit 64 = .ok (.ireturn, 1) := by decide +kernel
abbrev cX0_endRun : ByteArray := prog_1_method_2_code
def yX0_endRun : MethodName := ⟨RX0, "endRun", "()V"⟩
theorem dX0_endRun_0 : decode cX0_endRun 0 = .ok (.aload_n 0, 1) := by decide +kernel
theorem dX0_endRun_1 : decode cX0_endRun 1 = .ok (.iconst 0, 1) := by decide +kernel
theorem dX0_endRun_2 : decode cX0_endRun 2 = .ok (.putfield 38, 3) := by decide +kernel
theorem dX0_endRun_5 : decode cX0_endRun 5 = .ok (.aload_n 0, 1) := by decide +kernel
theorem dX0_endRun_6 : decode cX0_endRun 6 = .ok (.iconst 0, 1) := by decide +kernel
theorem dX0_endRun_7 : decode cX0_endRun 7 = .ok (.putfield 42, 3) := by decide +kernel
theorem dX0_endRun_10 : decode cX0_endRun 10 = .ok (.aload_n 0, 1) := by decide +kernel
theorem dX0_endRun_11 : decode cX0_endRun 11 = .ok (.iconst 0, 1) := by decide +kernel
theorem dX0_endRun_12 : decode cX0_endRun 12 = .ok (.putfield 45, 3) := by decide +kernel
theorem dX0_endRun_15 : decode cX0_endRun 15 = .ok (.return_, 1) := by decide +kernel
abbrev cX0_clear : ByteArray := prog_1_method_4_code
def yX0_clear : MethodName := ⟨RX0, "clear", "()V"⟩
theorem dX0_clear_0 : decode cX0_clear 0 = .ok (.aload_n 0, 1) := by decide +kernel
theorem dX0_clear_1 : decode cX0_clear 1 = .ok (.iconst 0, 1) := by decide +kernel
theorem dX0_clear_2 : decode cX0_clear 2 = .ok (.putfield 49, 3) := by decide +kernel
theorem dX0_clear_5 : decode cX0_clear 5 = .ok (.aload_n 0, 1) := by decide +kernel
theorem dX0_clear_6 : decode cX0_clear 6 = .ok (.invokevirtual 52, 3) := by decide +kernel
theorem dX0_clear_9 : decode cX0_clear 9 = .ok (.return_, 1) := by decide +kernel
abbrev cX0_cell : ByteArray := prog_1_method_5_code
def yX0_cell : MethodName := ⟨RX0, "cell", "(II)I"⟩
theorem dX0_cell_0 : decode cX0_cell 0 = .ok (.aload_n 0, 1) := by decide +kernel
theorem dX0_cell_1 : decode cX0_cell 1 = .ok (.getfield 35, 3) := by decide +kernel
theorem dX0_cell_4 : decode cX0_cell 4 = .ok (.iload_n 1, 1) := by decide +kernel
theorem dX0_cell_5 : decode cX0_cell 5 = .ok (.iconst 3, 1) := by decide +kernel
theorem dX0_cell_6 : decode cX0_cell 6 = .ok (.iand, 1) := by decide +kernel
theorem dX0_cell_7 : decode cX0_cell 7 = .ok (.iaload, 1) := by decide +kernel
theorem dX0_cell_8 : decode cX0_cell 8 = .ok (.istore_n 3, 1) := by decide +kernel
theorem dX0_cell_9 : decode cX0_cell 9 = .ok (.aload_n 0, 1) := by decide +kernel
theorem dX0_cell_10 : decode cX0_cell 10 = .ok (.getfield 35, 3) := by decide +kernel
theorem dX0_cell_13 : decode cX0_cell 13 = .ok (.iload_n 1, 1) := by decide +kernel
theorem dX0_cell_14 : decode cX0_cell 14 = .ok (.iconst 3, 1) := by decide +kernel
theorem dX0_cell_15 : decode cX0_cell 15 = .ok (.iand, 1) := by decide +kernel
theorem dX0_cell_16 : decode cX0_cell 16 = .ok (.iload_n 2, 1) := by decide +kernel
theorem dX0_cell_17 : decode cX0_cell 17 = .ok (.iastore, 1) := by decide +kernel
theorem dX0_cell_18 : decode cX0_cell 18 = .ok (.iload_n 3, 1) := by decide +kernel
theorem dX0_cell_19 : decode cX0_cell 19 = .ok (.ireturn, 1) := by decide +kernel
abbrev cX0_run : ByteArray := prog_1_method_22_code
def yX0_run : MethodName := ⟨RX0, "run", "(I)I"⟩
theorem dX0_run_0 : decode cX0_run 0 = .ok (.aload_n 0, 1) := by decide +kernel
theorem dX0_run_1 : decode cX0_run 1 = .ok (.invokevirtual 110, 3) := by decide +kernel
theorem dX0_run_4 : decode cX0_run 4 = .ok (.aload_n 0, 1) := by decide +kernel
theorem dX0_run_5 : decode cX0_run 5 = .ok (.getfield 55, 3) := by decide +kernel
theorem dX0_run_8 : decode cX0_run 8 = .ok (.ifCond .ne 6, 3) := by decide +kernel
theorem dX0_run_11 : decode cX0_run 11 = .ok (.bipush (-3), 2) := by decide +kernel
theorem dX0_run_13 : decode cX0_run 13 = .ok (.ireturn, 1) := by decide +kernel
theorem dX0_run_14 : decode cX0_run 14 = .ok (.aload_n 0, 1) := by decide +kernel
theorem dX0_run_15 : decode cX0_run 15 = .ok (.iload_n 1, 1) := by decide +kernel
theorem dX0_run_16 : decode cX0_run 16 = .ok (.invokestatic 113, 3) := by decide +kernel
theorem dX0_run_19 : decode cX0_run 19 = .ok (.putfield 42, 3) := by decide +kernel
theorem dX0_run_22 : decode cX0_run 22 = .ok (.aload_n 0, 1) := by decide +kernel
theorem dX0_run_23 : decode cX0_run 23 = .ok (.iconst 0, 1) := by decide +kernel
theorem dX0_run_24 : decode cX0_run 24 = .ok (.putfield 89, 3) := by decide +kernel
theorem dX0_run_27 : decode cX0_run 27 = .ok (.aload_n 0, 1) := by decide +kernel
theorem dX0_run_28 : decode cX0_run 28 = .ok (.iconst 0, 1) := by decide +kernel
theorem dX0_run_29 : decode cX0_run 29 = .ok (.putfield 86, 3) := by decide +kernel
theorem dX0_run_32 : decode cX0_run 32 = .ok (.aload_n 0, 1) := by decide +kernel
theorem dX0_run_33 : decode cX0_run 33 = .ok (.invokevirtual 116, 3) := by decide +kernel
theorem dX0_run_36 : decode cX0_run 36 = .ok (.aload_n 0, 1) := by decide +kernel
theorem dX0_run_37 : decode cX0_run 37 = .ok (.getfield 38, 3) := by decide +kernel
theorem dX0_run_40 : decode cX0_run 40 = .ok (.ireturn, 1) := by decide +kernel
abbrev cX0_check : ByteArray := prog_1_method_12_code
def yX0_check : MethodName := ⟨RX0, "check", "()V"⟩
theorem dX0_check_0 : decode cX0_check 0 = .ok (.aload_n 0, 1) := by decide +kernel
theorem dX0_check_1 : decode cX0_check 1 = .ok (.getfield 45, 3) := by decide +kernel
theorem dX0_check_4 : decode cX0_check 4 = .ok (.ifCond .eq 4, 3) := by decide +kernel
theorem dX0_check_7 : decode cX0_check 7 = .ok (.return_, 1) := by decide +kernel
theorem dX0_check_8 : decode cX0_check 8 = .ok (.aload_n 0, 1) := by decide +kernel
theorem dX0_check_9 : decode cX0_check 9 = .ok (.iconst 1, 1) := by decide +kernel
theorem dX0_check_10 : decode cX0_check 10 = .ok (.putfield 45, 3) := by decide +kernel
theorem dX0_check_13 : decode cX0_check 13 = .ok (.aload_n 0, 1) := by decide +kernel
theorem dX0_check_14 : decode cX0_check 14 = .ok (.aload_n 0, 1) := by decide +kernel
theorem dX0_check_15 : decode cX0_check 15 = .ok (.getfield 49, 3) := by decide +kernel
theorem dX0_check_18 : decode cX0_check 18 = .ok (.ifCond .le 7, 3) := by decide +kernel
theorem dX0_check_21 : decode cX0_check 21 = .ok (.iconst 1, 1) := by decide +kernel
theorem dX0_check_22 : decode cX0_check 22 = .ok (.goto 4, 3) := by decide +kernel
theorem dX0_check_25 : decode cX0_check 25 = .ok (.iconst 0, 1) := by decide +kernel
theorem dX0_check_26 : decode cX0_check 26 = .ok (.putfield 55, 3) := by decide +kernel
theorem dX0_check_29 : decode cX0_check 29 = .ok (.aload_n 0, 1) := by decide +kernel
theorem dX0_check_30 : decode cX0_check 30 = .ok (.iconst 0, 1) := by decide +kernel
theorem dX0_check_31 : decode cX0_check 31 = .ok (.putfield 58, 3) := by decide +kernel
theorem dX0_check_34 : decode cX0_check 34 = .ok (.iconst 0, 1) := by decide +kernel
theorem dX0_check_35 : decode cX0_check 35 = .ok (.istore_n 1, 1) := by decide +kernel
theorem dX0_check_36 : decode cX0_check 36 = .ok (.iload_n 1, 1) := by decide +kernel
theorem dX0_check_37 : decode cX0_check 37 = .ok (.bipush 24, 2) := by decide +kernel
theorem dX0_check_39 : decode cX0_check 39 = .ok (.if_icmp .ge 31, 3) := by decide +kernel
theorem dX0_check_42 : decode cX0_check 42 = .ok (.aload_n 0, 1) := by decide +kernel
theorem dX0_check_43 : decode cX0_check 43 = .ok (.getfield 16, 3) := by decide +kernel
theorem dX0_check_46 : decode cX0_check 46 = .ok (.iload_n 1, 1) := by decide +kernel
theorem dX0_check_47 : decode cX0_check 47 = .ok (.iconst (-1), 1) := by decide +kernel
theorem dX0_check_48 : decode cX0_check 48 = .ok (.iastore, 1) := by decide +kernel
theorem dX0_check_49 : decode cX0_check 49 = .ok (.aload_n 0, 1) := by decide +kernel
theorem dX0_check_50 : decode cX0_check 50 = .ok (.getfield 19, 3) := by decide +kernel
theorem dX0_check_53 : decode cX0_check 53 = .ok (.iload_n 1, 1) := by decide +kernel
theorem dX0_check_54 : decode cX0_check 54 = .ok (.iload_n 1, 1) := by decide +kernel
theorem dX0_check_55 : decode cX0_check 55 = .ok (.ifCond .ne 7, 3) := by decide +kernel
theorem dX0_check_58 : decode cX0_check 58 = .ok (.iconst 1, 1) := by decide +kernel
theorem dX0_check_59 : decode cX0_check 59 = .ok (.goto 4, 3) := by decide +kernel
theorem dX0_check_62 : decode cX0_check 62 = .ok (.iconst 0, 1) := by decide +kernel
theorem dX0_check_63 : decode cX0_check 63 = .ok (.bastore, 1) := by decide +kernel
theorem dX0_check_64 : decode cX0_check 64 = .ok (.iinc 1 1, 3) := by decide +kernel
theorem dX0_check_67 : decode cX0_check 67 = .ok (.goto (-31), 3) := by decide +kernel
theorem dX0_check_70 : decode cX0_check 70 = .ok (.aload_n 0, 1) := by decide +kernel
theorem dX0_check_71 : decode cX0_check 71 = .ok (.getfield 55, 3) := by decide +kernel
theorem dX0_check_74 : decode cX0_check 74 = .ok (.ifCond .eq 9, 3) := by decide +kernel
theorem dX0_check_77 : decode cX0_check 77 = .ok (.aload_n 0, 1) := by decide +kernel
theorem dX0_check_78 : decode cX0_check 78 = .ok (.iconst 0, 1) := by decide +kernel
theorem dX0_check_79 : decode cX0_check 79 = .ok (.iconst 0, 1) := by decide +kernel
theorem dX0_check_80 : decode cX0_check 80 = .ok (.invokevirtual 72, 3) := by decide +kernel
theorem dX0_check_83 : decode cX0_check 83 = .ok (.iconst 0, 1) := by decide +kernel
theorem dX0_check_84 : decode cX0_check 84 = .ok (.istore_n 1, 1) := by decide +kernel
theorem dX0_check_85 : decode cX0_check 85 = .ok (.iload_n 1, 1) := by decide +kernel
theorem dX0_check_86 : decode cX0_check 86 = .ok (.aload_n 0, 1) := by decide +kernel
theorem dX0_check_87 : decode cX0_check 87 = .ok (.getfield 58, 3) := by decide +kernel
theorem dX0_check_90 : decode cX0_check 90 = .ok (.if_icmp .ge 26, 3) := by decide +kernel
theorem dX0_check_93 : decode cX0_check 93 = .ok (.aload_n 0, 1) := by decide +kernel
theorem dX0_check_94 : decode cX0_check 94 = .ok (.getfield 55, 3) := by decide +kernel
theorem dX0_check_97 : decode cX0_check 97 = .ok (.ifCond .eq 19, 3) := by decide +kernel
theorem dX0_check_100 : decode cX0_check 100 = .ok (.aload_n 0, 1) := by decide +kernel
theorem dX0_check_101 : decode cX0_check 101 = .ok (.aload_n 0, 1) := by decide +kernel
theorem dX0_check_102 : decode cX0_check 102 = .ok (.getfield 29, 3) := by decide +kernel
theorem dX0_check_105 : decode cX0_check 105 = .ok (.iload_n 1, 1) := by decide +kernel
theorem dX0_check_106 : decode cX0_check 106 = .ok (.iaload, 1) := by decide +kernel
theorem dX0_check_107 : decode cX0_check 107 = .ok (.invokevirtual 76, 3) := by decide +kernel
theorem dX0_check_110 : decode cX0_check 110 = .ok (.iinc 1 1, 3) := by decide +kernel
theorem dX0_check_113 : decode cX0_check 113 = .ok (.goto (-28), 3) := by decide +kernel
theorem dX0_check_116 : decode cX0_check 116 = .ok (.aload_n 0, 1) := by decide +kernel
theorem dX0_check_117 : decode cX0_check 117 = .ok (.getfield 55, 3) := by decide +kernel
theorem dX0_check_120 : decode cX0_check 120 = .ok (.ifCond .eq 7, 3) := by decide +kernel
theorem dX0_check_123 : decode cX0_check 123 = .ok (.aload_n 0, 1) := by decide +kernel
theorem dX0_check_124 : decode cX0_check 124 = .ok (.invokevirtual 80, 3) := by decide +kernel
theorem dX0_check_127 : decode cX0_check 127 = .ok (.return_, 1) := by decide +kernel
abbrev cX0_comeTo : ByteArray := prog_1_method_10_code
def yX0_comeTo : MethodName := ⟨RX0, "comeTo", "(II)V"⟩
theorem dX0_comeTo_0 : decode cX0_comeTo 0 = .ok (.iload_n 1, 1) := by decide +kernel
theorem dX0_comeTo_1 : decode cX0_comeTo 1 = .ok (.ifCond .lt 11, 3) := by decide +kernel
theorem dX0_comeTo_4 : decode cX0_comeTo 4 = .ok (.iload_n 1, 1) := by decide +kernel
theorem dX0_comeTo_5 : decode cX0_comeTo 5 = .ok (.aload_n 0, 1) := by decide +kernel
theorem dX0_comeTo_6 : decode cX0_comeTo 6 = .ok (.getfield 49, 3) := by decide +kernel
theorem dX0_comeTo_9 : decode cX0_comeTo 9 = .ok (.if_icmp .lt 9, 3) := by decide +kernel
theorem dX0_comeTo_12 : decode cX0_comeTo 12 = .ok (.aload_n 0, 1) := by decide +kernel
theorem dX0_comeTo_13 : decode cX0_comeTo 13 = .ok (.iconst 0, 1) := by decide +kernel
theorem dX0_comeTo_14 : decode cX0_comeTo 14 = .ok (.putfield 55, 3) := by decide +kernel
theorem dX0_comeTo_17 : decode cX0_comeTo 17 = .ok (.return_, 1) := by decide +kernel
theorem dX0_comeTo_18 : decode cX0_comeTo 18 = .ok (.aload_n 0, 1) := by decide +kernel
theorem dX0_comeTo_19 : decode cX0_comeTo 19 = .ok (.getfield 16, 3) := by decide +kernel
theorem dX0_comeTo_22 : decode cX0_comeTo 22 = .ok (.iload_n 1, 1) := by decide +kernel
theorem dX0_comeTo_23 : decode cX0_comeTo 23 = .ok (.iaload, 1) := by decide +kernel
theorem dX0_comeTo_24 : decode cX0_comeTo 24 = .ok (.ifCond .ge 33, 3) := by decide +kernel
theorem dX0_comeTo_27 : decode cX0_comeTo 27 = .ok (.aload_n 0, 1) := by decide +kernel
theorem dX0_comeTo_28 : decode cX0_comeTo 28 = .ok (.getfield 16, 3) := by decide +kernel
theorem dX0_comeTo_31 : decode cX0_comeTo 31 = .ok (.iload_n 1, 1) := by decide +kernel
theorem dX0_comeTo_32 : decode cX0_comeTo 32 = .ok (.iload_n 2, 1) := by decide +kernel
theorem dX0_comeTo_33 : decode cX0_comeTo 33 = .ok (.iastore, 1) := by decide +kernel
theorem dX0_comeTo_34 : decode cX0_comeTo 34 = .ok (.aload_n 0, 1) := by decide +kernel
theorem dX0_comeTo_35 : decode cX0_comeTo 35 = .ok (.getfield 29, 3) := by decide +kernel
theorem dX0_comeTo_38 : decode cX0_comeTo 38 = .ok (.aload_n 0, 1) := by decide +kernel
theorem dX0_comeTo_39 : decode cX0_comeTo 39 = .ok (.getfield 58, 3) := by decide +kernel
theorem dX0_comeTo_42 : decode cX0_comeTo 42 = .ok (.iload_n 1, 1) := by decide +kernel
theorem dX0_comeTo_43 : decode cX0_comeTo 43 = .ok (.iastore, 1) := by decide +kernel
theorem dX0_comeTo_44 : decode cX0_comeTo 44 = .ok (.aload_n 0, 1) := by decide +kernel
theorem dX0_comeTo_45 : decode cX0_comeTo 45 = .ok (.dup, 1) := by decide +kernel
theorem dX0_comeTo_46 : decode cX0_comeTo 46 = .ok (.getfield 58, 3) := by decide +kernel
theorem dX0_comeTo_49 : decode cX0_comeTo 49 = .ok (.iconst 1, 1) := by decide +kernel
theorem dX0_comeTo_50 : decode cX0_comeTo 50 = .ok (.iadd, 1) := by decide +kernel
theorem dX0_comeTo_51 : decode cX0_comeTo 51 = .ok (.putfield 58, 3) := by decide +kernel
theorem dX0_comeTo_54 : decode cX0_comeTo 54 = .ok (.goto 18, 3) := by decide +kernel
theorem dX0_comeTo_57 : decode cX0_comeTo 57 = .ok (.aload_n 0, 1) := by decide +kernel
theorem dX0_comeTo_58 : decode cX0_comeTo 58 = .ok (.getfield 16, 3) := by decide +kernel
theorem dX0_comeTo_61 : decode cX0_comeTo 61 = .ok (.iload_n 1, 1) := by decide +kernel
theorem dX0_comeTo_62 : decode cX0_comeTo 62 = .ok (.iaload, 1) := by decide +kernel
theorem dX0_comeTo_63 : decode cX0_comeTo 63 = .ok (.iload_n 2, 1) := by decide +kernel
theorem dX0_comeTo_64 : decode cX0_comeTo 64 = .ok (.if_icmp .eq 8, 3) := by decide +kernel
theorem dX0_comeTo_67 : decode cX0_comeTo 67 = .ok (.aload_n 0, 1) := by decide +kernel
theorem dX0_comeTo_68 : decode cX0_comeTo 68 = .ok (.iconst 0, 1) := by decide +kernel
theorem dX0_comeTo_69 : decode cX0_comeTo 69 = .ok (.putfield 55, 3) := by decide +kernel
theorem dX0_comeTo_72 : decode cX0_comeTo 72 = .ok (.return_, 1) := by decide +kernel
abbrev cX0_follow : ByteArray := prog_1_method_11_code
def yX0_follow : MethodName := ⟨RX0, "follow", "(I)V"⟩
theorem dX0_follow_0 : decode cX0_follow 0 = .ok (.aload_n 0, 1) := by decide +kernel
theorem dX0_follow_1 : decode cX0_follow 1 = .ok (.getfield 7, 3) := by decide +kernel
theorem dX0_follow_4 : decode cX0_follow 4 = .ok (.iload_n 1, 1) := by decide +kernel
theorem dX0_follow_5 : decode cX0_follow 5 = .ok (.iaload, 1) := by decide +kernel
theorem dX0_follow_6 : decode cX0_follow 6 = .ok (.istore_n 2, 1) := by decide +kernel
theorem dX0_follow_7 : decode cX0_follow 7 = .ok (.aload_n 0, 1) := by decide +kernel
theorem dX0_follow_8 : decode cX0_follow 8 = .ok (.getfield 16, 3) := by decide +kernel
theorem dX0_follow_11 : decode cX0_follow 11 = .ok (.iload_n 1, 1) := by decide +kernel
theorem dX0_follow_12 : decode cX0_follow 12 = .ok (.iaload, 1) := by decide +kernel
theorem dX0_follow_13 : decode cX0_follow 13 = .ok (.istore_n 3, 1) := by decide +kernel
theorem dX0_follow_14 : decode cX0_follow 14 = .ok (.iload_n 3, 1) := by decide +kernel
theorem dX0_follow_15 : decode cX0_follow 15 = .ok (.iload_n 2, 1) := by decide +kernel
theorem dX0_follow_16 : decode cX0_follow 16 = .ok (.invokestatic 61, 3) := by decide +kernel
theorem dX0_follow_19 : decode cX0_follow 19 = .ok (.iadd, 1) := by decide +kernel
theorem dX0_follow_20 : decode cX0_follow 20 = .ok (.istore 4, 2) := by decide +kernel
theorem dX0_follow_22 : decode cX0_follow 22 = .ok (.iload_n 3, 1) := by decide +kernel
theorem dX0_follow_23 : decode cX0_follow 23 = .ok (.iload_n 2, 1) := by decide +kernel
theorem dX0_follow_24 : decode cX0_follow 24 = .ok (.invokestatic 65, 3) := by decide +kernel
theorem dX0_follow_27 : decode cX0_follow 27 = .ok (.if_icmp .lt 10, 3) := by decide +kernel
theorem dX0_follow_30 : decode cX0_follow 30 = .ok (.iload 4, 2) := by decide +kernel
theorem dX0_follow_32 : decode cX0_follow 32 = .ok (.bipush 8, 2) := by decide +kernel
theorem dX0_follow_34 : decode cX0_follow 34 = .ok (.if_icmp .le 9, 3) := by decide +kernel
theorem dX0_follow_37 : decode cX0_follow 37 = .ok (.aload_n 0, 1) := by decide +kernel
theorem dX0_follow_38 : decode cX0_follow 38 = .ok (.iconst 0, 1) := by decide +kernel
theorem dX0_follow_39 : decode cX0_follow 39 = .ok (.putfield 55, 3) := by decide +kernel
theorem dX0_follow_42 : decode cX0_follow 42 = .ok (.return_, 1) := by decide +kernel
theorem dX0_follow_43 : decode cX0_follow 43 = .ok (.iload_n 2, 1) := by decide +kernel
theorem dX0_follow_44 : decode cX0_follow 44 = .ok (.bipush 13, 2) := by decide +kernel
theorem dX0_follow_46 : decode cX0_follow 46 = .ok (.if_icmp .ne 4, 3) := by decide +kernel
theorem dX0_follow_49 : decode cX0_follow 49 = .ok (.return_, 1) := by decide +kernel
theorem dX0_follow_50 : decode cX0_follow 50 = .ok (.iload_n 2, 1) := by decide +kernel
theorem dX0_follow_51 : decode cX0_follow 51 = .ok (.invokestatic 68, 3) := by decide +kernel
theorem dX0_follow_54 : decode cX0_follow 54 = .ok (.ifCond .eq 34, 3) := by decide +kernel
theorem dX0_follow_57 : decode cX0_follow 57 = .ok (.aload_n 0, 1) := by decide +kernel
theorem dX0_follow_58 : decode cX0_follow 58 = .ok (.aload_n 0, 1) := by decide +kernel
theorem dX0_follow_59 : decode cX0_follow 59 = .ok (.getfield 13, 3) := by decide +kernel
theorem dX0_follow_62 : decode cX0_follow 62 = .ok (.iload_n 1, 1) := by decide +kernel
theorem dX0_follow_63 : decode cX0_follow 63 = .ok (.iaload, 1) := by decide +kernel
theorem dX0_follow_64 : decode cX0_follow 64 = .ok (.iload 4, 2) := by decide +kernel
theorem dX0_follow_66 : decode cX0_follow 66 = .ok (.invokevirtual 72, 3) := by decide +kernel
theorem dX0_follow_69 : decode cX0_follow 69 = .ok (.aload_n 0, 1) := by decide +kernel
theorem dX0_follow_70 : decode cX0_follow 70 = .ok (.getfield 55, 3) := by decide +kernel
theorem dX0_follow_73 : decode cX0_follow 73 = .ok (.ifCond .eq 15, 3) := by decide +kernel
theorem dX0_follow_76 : decode cX0_follow 76 = .ok (.aload_n 0, 1) := by decide +kernel
theorem dX0_follow_77 : decode cX0_follow 77 = .ok (.getfield 19, 3) := by decide +kernel
theorem dX0_follow_80 : decode cX0_follow 80 = .ok (.aload_n 0, 1) := by decide +kernel
theorem dX0_follow_81 : decode cX0_follow 81 = .ok (.getfield 13, 3) := by decide +kernel
theorem dX0_follow_84 : decode cX0_follow 84 = .ok (.iload_n 1, 1) := by decide +kernel
theorem dX0_follow_85 : decode cX0_follow 85 = .ok (.iaload, 1) := by decide +kernel
theorem dX0_follow_86 : decode cX0_follow 86 = .ok (.iconst 1, 1) := by decide +kernel
theorem dX0_follow_87 : decode cX0_follow 87 = .ok (.bastore, 1) := by decide +kernel
theorem dX0_follow_88 : decode cX0_follow 88 = .ok (.iload_n 2, 1) := by decide +kernel
theorem dX0_follow_89 : decode cX0_follow 89 = .ok (.bipush 8, 2) := by decide +kernel
theorem dX0_follow_91 : decode cX0_follow 91 = .ok (.if_icmp .eq 12, 3) := by decide +kernel
theorem dX0_follow_94 : decode cX0_follow 94 = .ok (.aload_n 0, 1) := by decide +kernel
theorem dX0_follow_95 : decode cX0_follow 95 = .ok (.iload_n 1, 1) := by decide +kernel
theorem dX0_follow_96 : decode cX0_follow 96 = .ok (.iconst 1, 1) := by decide +kernel
theorem dX0_follow_97 : decode cX0_follow 97 = .ok (.iadd, 1) := by decide +kernel
theorem dX0_follow_98 : decode cX0_follow 98 = .ok (.iload 4, 2) := by decide +kernel
theorem dX0_follow_100 : decode cX0_follow 100 = .ok (.invokevirtual 72, 3) := by decide +kernel
theorem dX0_follow_103 : decode cX0_follow 103 = .ok (.iload_n 2, 1) := by decide +kernel
theorem dX0_follow_104 : decode cX0_follow 104 = .ok (.bipush 8, 2) := by decide +kernel
theorem dX0_follow_106 : decode cX0_follow 106 = .ok (.if_icmp .eq 26, 3) := by decide +kernel
theorem dX0_follow_109 : decode cX0_follow 109 = .ok (.iload_n 2, 1) := by decide +kernel
theorem dX0_follow_110 : decode cX0_follow 110 = .ok (.invokestatic 68, 3) := by decide +kernel
theorem dX0_follow_113 : decode cX0_follow 113 = .ok (.ifCond .eq 19, 3) := by decide +kernel
theorem dX0_follow_116 : decode cX0_follow 116 = .ok (.aload_n 0, 1) := by decide +kernel
theorem dX0_follow_117 : decode cX0_follow 117 = .ok (.getfield 55, 3) := by decide +kernel
theorem dX0_follow_120 : decode cX0_follow 120 = .ok (.ifCond .eq 12, 3) := by decide +kernel
theorem dX0_follow_123 : decode cX0_follow 123 = .ok (.aload_n 0, 1) := by decide +kernel
theorem dX0_follow_124 : decode cX0_follow 124 = .ok (.getfield 19, 3) := by decide +kernel
theorem dX0_follow_127 : decode cX0_follow 127 = .ok (.iload_n 1, 1) := by decide +kernel
theorem dX0_follow_128 : decode cX0_follow 128 = .ok (.iconst 1, 1) := by decide +kernel
theorem dX0_follow_129 : decode cX0_follow 129 = .ok (.iadd, 1) := by decide +kernel
theorem dX0_follow_130 : decode cX0_follow 130 = .ok (.iconst 1, 1) := by decide +kernel
theorem dX0_follow_131 : decode cX0_follow 131 = .ok (.bastore, 1) := by decide +kernel
theorem dX0_follow_132 : decode cX0_follow 132 = .ok (.return_, 1) := by decide +kernel
end
section
set_option maxRecDepth 100000
abbrev cX0_growth : ByteArray := prog_1_method_7_code
def yX0_growth : MethodName := ⟨RX0, "growth", "(I)I"⟩
theorem dX0_growth_0 : decode cX0_growth 0 = .ok (.iload_n 0, 1) := by decide +kernel
theorem dX0_growth_1 : decode cX0_growth 1 = .ok (.tableswitch 71 0 12 #[67, 69, 67, 69, 69, 69, 71, 67, 71, 69, 69, 67, 69], 67) := by decide +kernel
theorem dX0_growth_68 : decode cX0_growth 68 = .ok (.iconst 1, 1) := by decide +kernel
theorem dX0_growth_69 : decode cX0_growth 69 = .ok (.ireturn, 1) := by decide +kernel
theorem dX0_growth_70 : decode cX0_growth 70 = .ok (.iconst (-1), 1) := by decide +kernel
theorem dX0_growth_71 : decode cX0_growth 71 = .ok (.ireturn, 1) := by decide +kernel
theorem dX0_growth_72 : decode cX0_growth 72 = .ok (.iconst 0, 1) := by decide +kernel
theorem dX0_growth_73 : decode cX0_growth 73 = .ok (.ireturn, 1) := by decide +kernel
abbrev cX0_uses : ByteArray := prog_1_method_6_code
def yX0_uses : MethodName := ⟨RX0, "uses", "(I)I"⟩
theorem dX0_uses_0 : decode cX0_uses 0 = .ok (.iload_n 0, 1) := by decide +kernel
theorem dX0_uses_1 : decode cX0_uses 1 = .ok (.tableswitch 67 1 12 #[63, 63, 65, 65, 65, 65, 65, 67, 63, 63, 67, 63], 63) := by decide +kernel
theorem dX0_uses_64 : decode cX0_uses 64 = .ok (.iconst 1, 1) := by decide +kernel
theorem dX0_uses_65 : decode cX0_uses 65 = .ok (.ireturn, 1) := by decide +kernel
theorem dX0_uses_66 : decode cX0_uses 66 = .ok (.iconst 2, 1) := by decide +kernel
theorem dX0_uses_67 : decode cX0_uses 67 = .ok (.ireturn, 1) := by decide +kernel
theorem dX0_uses_68 : decode cX0_uses 68 = .ok (.iconst 0, 1) := by decide +kernel
theorem dX0_uses_69 : decode cX0_uses 69 = .ok (.ireturn, 1) := by decide +kernel
abbrev cX0_jumps : ByteArray := prog_1_method_8_code
def yX0_jumps : MethodName := ⟨RX0, "jumps", "(I)Z"⟩
theorem dX0_jumps_0 : decode cX0_jumps 0 = .ok (.iload_n 0, 1) := by decide +kernel
theorem dX0_jumps_1 : decode cX0_jumps 1 = .ok (.bipush 8, 2) := by decide +kernel
theorem dX0_jumps_3 : decode cX0_jumps 3 = .ok (.if_icmp .lt 13, 3) := by decide +kernel
theorem dX0_jumps_6 : decode cX0_jumps 6 = .ok (.iload_n 0, 1) := by decide +kernel
theorem dX0_jumps_7 : decode cX0_jumps 7 = .ok (.bipush 10, 2) := by decide +kernel
theorem dX0_jumps_9 : decode cX0_jumps 9 = .ok (.if_icmp .gt 7, 3) := by decide +kernel
theorem dX0_jumps_12 : decode cX0_jumps 12 = .ok (.iconst 1, 1) := by decide +kernel
theorem dX0_jumps_13 : decode cX0_jumps 13 = .ok (.goto 4, 3) := by decide +kernel
theorem dX0_jumps_16 : decode cX0_jumps 16 = .ok (.iconst 0, 1) := by decide +kernel
theorem dX0_jumps_17 : decode cX0_jumps 17 = .ok (.ireturn, 1) := by decide +kernel
abbrev cX0_makeBlocks : ByteArray := prog_1_method_13_code
def yX0_makeBlocks : MethodName := ⟨RX0, "makeBlocks", "()V"⟩
theorem dX0_makeBlocks_0 : decode cX0_makeBlocks 0 = .ok (.aload_n 0, 1) := by decide +kernel
theorem dX0_makeBlocks_1 : decode cX0_makeBlocks 1 = .ok (.getfield 49, 3) := by decide +kernel
theorem dX0_makeBlocks_4 : decode cX0_makeBlocks 4 = .ok (.iconst 1, 1) := by decide +kernel
theorem dX0_makeBlocks_5 : decode cX0_makeBlocks 5 = .ok (.isub, 1) := by decide +kernel
theorem dX0_makeBlocks_6 : decode cX0_makeBlocks 6 = .ok (.istore_n 1, 1) := by decide +kernel
theorem dX0_makeBlocks_7 : decode cX0_makeBlocks 7 = .ok (.iload_n 1, 1) := by decide +kernel
theorem dX0_makeBlocks_8 : decode cX0_makeBlocks 8 = .ok (.ifCond .lt 111, 3) := by decide +kernel
theorem dX0_makeBlocks_11 : decode cX0_makeBlocks 11 = .ok (.aload_n 0, 1) := by decide +kernel
theorem dX0_makeBlocks_12 : decode cX0_makeBlocks 12 = .ok (.iload_n 1, 1) := by decide +kernel
theorem dX0_makeBlocks_13 : decode cX0_makeBlocks 13 = .ok (.invokevirtual 83, 3) := by decide +kernel
theorem dX0_makeBlocks_16 : decode cX0_makeBlocks 16 = .ok (.istore_n 2, 1) := by decide +kernel
theorem dX0_makeBlocks_17 : decode cX0_makeBlocks 17 = .ok (.aload_n 0, 1) := by decide +kernel
theorem dX0_makeBlocks_18 : decode cX0_makeBlocks 18 = .ok (.getfield 7, 3) := by decide +kernel
theorem dX0_makeBlocks_21 : decode cX0_makeBlocks 21 = .ok (.iload_n 1, 1) := by decide +kernel
theorem dX0_makeBlocks_22 : decode cX0_makeBlocks 22 = .ok (.iaload, 1) := by decide +kernel
theorem dX0_makeBlocks_23 : decode cX0_makeBlocks 23 = .ok (.invokestatic 68, 3) := by decide +kernel
theorem dX0_makeBlocks_26 : decode cX0_makeBlocks 26 = .ok (.ifCond .ne 35, 3) := by decide +kernel
theorem dX0_makeBlocks_29 : decode cX0_makeBlocks 29 = .ok (.aload_n 0, 1) := by decide +kernel
theorem dX0_makeBlocks_30 : decode cX0_makeBlocks 30 = .ok (.getfield 7, 3) := by decide +kernel
theorem dX0_makeBlocks_33 : decode cX0_makeBlocks 33 = .ok (.iload_n 1, 1) := by decide +kernel
theorem dX0_makeBlocks_34 : decode cX0_makeBlocks 34 = .ok (.iaload, 1) := by decide +kernel
theorem dX0_makeBlocks_35 : decode cX0_makeBlocks 35 = .ok (.bipush 13, 2) := by decide +kernel
theorem dX0_makeBlocks_37 : decode cX0_makeBlocks 37 = .ok (.if_icmp .eq 24, 3) := by decide +kernel
theorem dX0_makeBlocks_40 : decode cX0_makeBlocks 40 = .ok (.iload_n 1, 1) := by decide +kernel
theorem dX0_makeBlocks_41 : decode cX0_makeBlocks 41 = .ok (.aload_n 0, 1) := by decide +kernel
theorem dX0_makeBlocks_42 : decode cX0_makeBlocks 42 = .ok (.getfield 49, 3) := by decide +kernel
theorem dX0_makeBlocks_45 : decode cX0_makeBlocks 45 = .ok (.iconst 1, 1) := by decide +kernel
theorem dX0_makeBlocks_46 : decode cX0_makeBlocks 46 = .ok (.isub, 1) := by decide +kernel
theorem dX0_makeBlocks_47 : decode cX0_makeBlocks 47 = .ok (.if_icmp .eq 14, 3) := by decide +kernel
theorem dX0_makeBlocks_50 : decode cX0_makeBlocks 50 = .ok (.aload_n 0, 1) := by decide +kernel
theorem dX0_makeBlocks_51 : decode cX0_makeBlocks 51 = .ok (.getfield 19, 3) := by decide +kernel
theorem dX0_makeBlocks_54 : decode cX0_makeBlocks 54 = .ok (.iload_n 1, 1) := by decide +kernel
theorem dX0_makeBlocks_55 : decode cX0_makeBlocks 55 = .ok (.iconst 1, 1) := by decide +kernel
theorem dX0_makeBlocks_56 : decode cX0_makeBlocks 56 = .ok (.iadd, 1) := by decide +kernel
theorem dX0_makeBlocks_57 : decode cX0_makeBlocks 57 = .ok (.baload, 1) := by decide +kernel
theorem dX0_makeBlocks_58 : decode cX0_makeBlocks 58 = .ok (.ifCond .eq 7, 3) := by decide +kernel
theorem dX0_makeBlocks_61 : decode cX0_makeBlocks 61 = .ok (.iconst 1, 1) := by decide +kernel
theorem dX0_makeBlocks_62 : decode cX0_makeBlocks 62 = .ok (.goto 4, 3) := by decide +kernel
theorem dX0_makeBlocks_65 : decode cX0_makeBlocks 65 = .ok (.iconst 0, 1) := by decide +kernel
theorem dX0_makeBlocks_66 : decode cX0_makeBlocks 66 = .ok (.istore_n 3, 1) := by decide +kernel
theorem dX0_makeBlocks_67 : decode cX0_makeBlocks 67 = .ok (.aload_n 0, 1) := by decide +kernel
theorem dX0_makeBlocks_68 : decode cX0_makeBlocks 68 = .ok (.getfield 26, 3) := by decide +kernel
theorem dX0_makeBlocks_71 : decode cX0_makeBlocks 71 = .ok (.iload_n 1, 1) := by decide +kernel
theorem dX0_makeBlocks_72 : decode cX0_makeBlocks 72 = .ok (.iload_n 3, 1) := by decide +kernel
theorem dX0_makeBlocks_73 : decode cX0_makeBlocks 73 = .ok (.ifCond .eq 7, 3) := by decide +kernel
theorem dX0_makeBlocks_76 : decode cX0_makeBlocks 76 = .ok (.iload_n 1, 1) := by decide +kernel
theorem dX0_makeBlocks_77 : decode cX0_makeBlocks 77 = .ok (.goto 11, 3) := by decide +kernel
theorem dX0_makeBlocks_80 : decode cX0_makeBlocks 80 = .ok (.aload_n 0, 1) := by decide +kernel
theorem dX0_makeBlocks_81 : decode cX0_makeBlocks 81 = .ok (.getfield 26, 3) := by decide +kernel
theorem dX0_makeBlocks_84 : decode cX0_makeBlocks 84 = .ok (.iload_n 1, 1) := by decide +kernel
theorem dX0_makeBlocks_85 : decode cX0_makeBlocks 85 = .ok (.iconst 1, 1) := by decide +kernel
theorem dX0_makeBlocks_86 : decode cX0_makeBlocks 86 = .ok (.iadd, 1) := by decide +kernel
theorem dX0_makeBlocks_87 : decode cX0_makeBlocks 87 = .ok (.iaload, 1) := by decide +kernel
theorem dX0_makeBlocks_88 : decode cX0_makeBlocks 88 = .ok (.iastore, 1) := by decide +kernel
theorem dX0_makeBlocks_89 : decode cX0_makeBlocks 89 = .ok (.aload_n 0, 1) := by decide +kernel
theorem dX0_makeBlocks_90 : decode cX0_makeBlocks 90 = .ok (.getfield 23, 3) := by decide +kernel
theorem dX0_makeBlocks_93 : decode cX0_makeBlocks 93 = .ok (.iload_n 1, 1) := by decide +kernel
theorem dX0_makeBlocks_94 : decode cX0_makeBlocks 94 = .ok (.iload_n 3, 1) := by decide +kernel
theorem dX0_makeBlocks_95 : decode cX0_makeBlocks 95 = .ok (.ifCond .eq 7, 3) := by decide +kernel
theorem dX0_makeBlocks_98 : decode cX0_makeBlocks 98 = .ok (.iload_n 2, 1) := by decide +kernel
theorem dX0_makeBlocks_99 : decode cX0_makeBlocks 99 = .ok (.goto 13, 3) := by decide +kernel
theorem dX0_makeBlocks_102 : decode cX0_makeBlocks 102 = .ok (.iload_n 2, 1) := by decide +kernel
theorem dX0_makeBlocks_103 : decode cX0_makeBlocks 103 = .ok (.aload_n 0, 1) := by decide +kernel
theorem dX0_makeBlocks_104 : decode cX0_makeBlocks 104 = .ok (.getfield 23, 3) := by decide +kernel
theorem dX0_makeBlocks_107 : decode cX0_makeBlocks 107 = .ok (.iload_n 1, 1) := by decide +kernel
theorem dX0_makeBlocks_108 : decode cX0_makeBlocks 108 = .ok (.iconst 1, 1) := by decide +kernel
theorem dX0_makeBlocks_109 : decode cX0_makeBlocks 109 = .ok (.iadd, 1) := by decide +kernel
theorem dX0_makeBlocks_110 : decode cX0_makeBlocks 110 = .ok (.iaload, 1) := by decide +kernel
theorem dX0_makeBlocks_111 : decode cX0_makeBlocks 111 = .ok (.iadd, 1) := by decide +kernel
theorem dX0_makeBlocks_112 : decode cX0_makeBlocks 112 = .ok (.iastore, 1) := by decide +kernel
theorem dX0_makeBlocks_113 : decode cX0_makeBlocks 113 = .ok (.iinc 1 (-1), 3) := by decide +kernel
theorem dX0_makeBlocks_116 : decode cX0_makeBlocks 116 = .ok (.goto (-109), 3) := by decide +kernel
theorem dX0_makeBlocks_119 : decode cX0_makeBlocks 119 = .ok (.return_, 1) := by decide +kernel
abbrev cX0_costOf : ByteArray := prog_1_method_9_code
def yX0_costOf : MethodName := ⟨RX0, "costOf", "(I)I"⟩
theorem dX0_costOf_0 : decode cX0_costOf 0 = .ok (.aload_n 0, 1) := by decide +kernel
theorem dX0_costOf_1 : decode cX0_costOf 1 = .ok (.getfield 7, 3) := by decide +kernel
theorem dX0_costOf_4 : decode cX0_costOf 4 = .ok (.iload_n 1, 1) := by decide +kernel
theorem dX0_costOf_5 : decode cX0_costOf 5 = .ok (.iaload, 1) := by decide +kernel
theorem dX0_costOf_6 : decode cX0_costOf 6 = .ok (.iconst 5, 1) := by decide +kernel
theorem dX0_costOf_7 : decode cX0_costOf 7 = .ok (.if_icmp .ne 5, 3) := by decide +kernel
theorem dX0_costOf_10 : decode cX0_costOf 10 = .ok (.iconst 3, 1) := by decide +kernel
theorem dX0_costOf_11 : decode cX0_costOf 11 = .ok (.ireturn, 1) := by decide +kernel
theorem dX0_costOf_12 : decode cX0_costOf 12 = .ok (.aload_n 0, 1) := by decide +kernel
theorem dX0_costOf_13 : decode cX0_costOf 13 = .ok (.getfield 7, 3) := by decide +kernel
theorem dX0_costOf_16 : decode cX0_costOf 16 = .ok (.iload_n 1, 1) := by decide +kernel
theorem dX0_costOf_17 : decode cX0_costOf 17 = .ok (.iaload, 1) := by decide +kernel
theorem dX0_costOf_18 : decode cX0_costOf 18 = .ok (.bipush 14, 2) := by decide +kernel
theorem dX0_costOf_20 : decode cX0_costOf 20 = .ok (.if_icmp .ne 17, 3) := by decide +kernel
theorem dX0_costOf_23 : decode cX0_costOf 23 = .ok (.aload_n 0, 1) := by decide +kernel
theorem dX0_costOf_24 : decode cX0_costOf 24 = .ok (.getfield 13, 3) := by decide +kernel
theorem dX0_costOf_27 : decode cX0_costOf 27 = .ok (.iload_n 1, 1) := by decide +kernel
theorem dX0_costOf_28 : decode cX0_costOf 28 = .ok (.iaload, 1) := by decide +kernel
theorem dX0_costOf_29 : decode cX0_costOf 29 = .ok (.bipush 15, 2) := by decide +kernel
theorem dX0_costOf_31 : decode cX0_costOf 31 = .ok (.iand, 1) := by decide +kernel
theorem dX0_costOf_32 : decode cX0_costOf 32 = .ok (.iconst 1, 1) := by decide +kernel
theorem dX0_costOf_33 : decode cX0_costOf 33 = .ok (.iadd, 1) := by decide +kernel
theorem dX0_costOf_34 : decode cX0_costOf 34 = .ok (.goto 4, 3) := by decide +kernel
theorem dX0_costOf_37 : decode cX0_costOf 37 = .ok (.iconst 1, 1) := by decide +kernel
theorem dX0_costOf_38 : decode cX0_costOf 38 = .ok (.ireturn, 1) := by decide +kernel
abbrev cX0_clampFuel : ByteArray := prog_1_method_21_code
def yX0_clampFuel : MethodName := ⟨RX0, "clampFuel", "(I)I"⟩
theorem dX0_clampFuel_0 : decode cX0_clampFuel 0 = .ok (.iload_n 0, 1) := by decide +kernel
theorem dX0_clampFuel_1 : decode cX0_clampFuel 1 = .ok (.ifCond .ge 5, 3) := by decide +kernel
theorem dX0_clampFuel_4 : decode cX0_clampFuel 4 = .ok (.iconst 0, 1) := by decide +kernel
theorem dX0_clampFuel_5 : decode cX0_clampFuel 5 = .ok (.ireturn, 1) := by decide +kernel
theorem dX0_clampFuel_6 : decode cX0_clampFuel 6 = .ok (.iload_n 0, 1) := by decide +kernel
theorem dX0_clampFuel_7 : decode cX0_clampFuel 7 = .ok (.sipush 2000, 3) := by decide +kernel
theorem dX0_clampFuel_10 : decode cX0_clampFuel 10 = .ok (.if_icmp .le 9, 3) := by decide +kernel
theorem dX0_clampFuel_13 : decode cX0_clampFuel 13 = .ok (.sipush 2000, 3) := by decide +kernel
theorem dX0_clampFuel_16 : decode cX0_clampFuel 16 = .ok (.goto 4, 3) := by decide +kernel
theorem dX0_clampFuel_19 : decode cX0_clampFuel 19 = .ok (.iload_n 0, 1) := by decide +kernel
theorem dX0_clampFuel_20 : decode cX0_clampFuel 20 = .ok (.ireturn, 1) := by decide +kernel
abbrev cX0_carryOn : ByteArray := prog_1_method_20_code
def yX0_carryOn : MethodName := ⟨RX0, "carryOn", "()V"⟩
theorem dX0_carryOn_0 : decode cX0_carryOn 0 = .ok (.aload_n 0, 1) := by decide +kernel
theorem dX0_carryOn_1 : decode cX0_carryOn 1 = .ok (.iconst 0, 1) := by decide +kernel
theorem dX0_carryOn_2 : decode cX0_carryOn 2 = .ok (.putfield 38, 3) := by decide +kernel
theorem dX0_carryOn_5 : decode cX0_carryOn 5 = .ok (.iconst 0, 1) := by decide +kernel
theorem dX0_carryOn_6 : decode cX0_carryOn 6 = .ok (.istore_n 1, 1) := by decide +kernel
theorem dX0_carryOn_7 : decode cX0_carryOn 7 = .ok (.iload_n 1, 1) := by decide +kernel
theorem dX0_carryOn_8 : decode cX0_carryOn 8 = .ok (.sipush 2000, 3) := by decide +kernel
theorem dX0_carryOn_11 : decode cX0_carryOn 11 = .ok (.if_icmp .gt 43, 3) := by decide +kernel
theorem dX0_carryOn_14 : decode cX0_carryOn 14 = .ok (.aload_n 0, 1) := by decide +kernel
theorem dX0_carryOn_15 : decode cX0_carryOn 15 = .ok (.getfield 38, 3) := by decide +kernel
theorem dX0_carryOn_18 : decode cX0_carryOn 18 = .ok (.ifCond .ne 36, 3) := by decide +kernel
theorem dX0_carryOn_21 : decode cX0_carryOn 21 = .ok (.aload_n 0, 1) := by decide +kernel
theorem dX0_carryOn_22 : decode cX0_carryOn 22 = .ok (.getfield 42, 3) := by decide +kernel
theorem dX0_carryOn_25 : decode cX0_carryOn 25 = .ok (.aload_n 0, 1) := by decide +kernel
theorem dX0_carryOn_26 : decode cX0_carryOn 26 = .ok (.getfield 23, 3) := by decide +kernel
theorem dX0_carryOn_29 : decode cX0_carryOn 29 = .ok (.aload_n 0, 1) := by decide +kernel
theorem dX0_carryOn_30 : decode cX0_carryOn 30 = .ok (.getfield 89, 3) := by decide +kernel
theorem dX0_carryOn_33 : decode cX0_carryOn 33 = .ok (.iaload, 1) := by decide +kernel
theorem dX0_carryOn_34 : decode cX0_carryOn 34 = .ok (.if_icmp .lt 10, 3) := by decide +kernel
theorem dX0_carryOn_37 : decode cX0_carryOn 37 = .ok (.aload_n 0, 1) := by decide +kernel
theorem dX0_carryOn_38 : decode cX0_carryOn 38 = .ok (.invokevirtual 104, 3) := by decide +kernel
theorem dX0_carryOn_41 : decode cX0_carryOn 41 = .ok (.goto 7, 3) := by decide +kernel
theorem dX0_carryOn_44 : decode cX0_carryOn 44 = .ok (.aload_n 0, 1) := by decide +kernel
theorem dX0_carryOn_45 : decode cX0_carryOn 45 = .ok (.invokevirtual 107, 3) := by decide +kernel
theorem dX0_carryOn_48 : decode cX0_carryOn 48 = .ok (.iinc 1 1, 3) := by decide +kernel
theorem dX0_carryOn_51 : decode cX0_carryOn 51 = .ok (.goto (-44), 3) := by decide +kernel
theorem dX0_carryOn_54 : decode cX0_carryOn 54 = .ok (.return_, 1) := by decide +kernel
abbrev cX0_runBlock : ByteArray := prog_1_method_18_code
def yX0_runBlock : MethodName := ⟨RX0, "runBlock", "()V"⟩
theorem dX0_runBlock_0 : decode cX0_runBlock 0 = .ok (.aload_n 0, 1) := by decide +kernel
theorem dX0_runBlock_1 : decode cX0_runBlock 1 = .ok (.getfield 26, 3) := by decide +kernel
theorem dX0_runBlock_4 : decode cX0_runBlock 4 = .ok (.aload_n 0, 1) := by decide +kernel
theorem dX0_runBlock_5 : decode cX0_runBlock 5 = .ok (.getfield 89, 3) := by decide +kernel
theorem dX0_runBlock_8 : decode cX0_runBlock 8 = .ok (.iaload, 1) := by decide +kernel
theorem dX0_runBlock_9 : decode cX0_runBlock 9 = .ok (.istore_n 1, 1) := by decide +kernel
theorem dX0_runBlock_10 : decode cX0_runBlock 10 = .ok (.iload_n 1, 1) := by decide +kernel
theorem dX0_runBlock_11 : decode cX0_runBlock 11 = .ok (.aload_n 0, 1) := by decide +kernel
theorem dX0_runBlock_12 : decode cX0_runBlock 12 = .ok (.getfield 89, 3) := by decide +kernel
theorem dX0_runBlock_15 : decode cX0_runBlock 15 = .ok (.isub, 1) := by decide +kernel
theorem dX0_runBlock_16 : decode cX0_runBlock 16 = .ok (.iconst 1, 1) := by decide +kernel
theorem dX0_runBlock_17 : decode cX0_runBlock 17 = .ok (.iadd, 1) := by decide +kernel
theorem dX0_runBlock_18 : decode cX0_runBlock 18 = .ok (.istore_n 2, 1) := by decide +kernel
theorem dX0_runBlock_19 : decode cX0_runBlock 19 = .ok (.aload_n 0, 1) := by decide +kernel
theorem dX0_runBlock_20 : decode cX0_runBlock 20 = .ok (.dup, 1) := by decide +kernel
theorem dX0_runBlock_21 : decode cX0_runBlock 21 = .ok (.getfield 42, 3) := by decide +kernel
theorem dX0_runBlock_24 : decode cX0_runBlock 24 = .ok (.aload_n 0, 1) := by decide +kernel
theorem dX0_runBlock_25 : decode cX0_runBlock 25 = .ok (.getfield 23, 3) := by decide +kernel
theorem dX0_runBlock_28 : decode cX0_runBlock 28 = .ok (.aload_n 0, 1) := by decide +kernel
theorem dX0_runBlock_29 : decode cX0_runBlock 29 = .ok (.getfield 89, 3) := by decide +kernel
theorem dX0_runBlock_32 : decode cX0_runBlock 32 = .ok (.iaload, 1) := by decide +kernel
theorem dX0_runBlock_33 : decode cX0_runBlock 33 = .ok (.isub, 1) := by decide +kernel
theorem dX0_runBlock_34 : decode cX0_runBlock 34 = .ok (.putfield 42, 3) := by decide +kernel
theorem dX0_runBlock_37 : decode cX0_runBlock 37 = .ok (.iconst 0, 1) := by decide +kernel
theorem dX0_runBlock_38 : decode cX0_runBlock 38 = .ok (.istore_n 3, 1) := by decide +kernel
theorem dX0_runBlock_39 : decode cX0_runBlock 39 = .ok (.iload_n 3, 1) := by decide +kernel
theorem dX0_runBlock_40 : decode cX0_runBlock 40 = .ok (.iload_n 2, 1) := by decide +kernel
theorem dX0_runBlock_41 : decode cX0_runBlock 41 = .ok (.if_icmp .ge 13, 3) := by decide +kernel
theorem dX0_runBlock_44 : decode cX0_runBlock 44 = .ok (.aload_n 0, 1) := by decide +kernel
theorem dX0_runBlock_45 : decode cX0_runBlock 45 = .ok (.invokevirtual 101, 3) := by decide +kernel
theorem dX0_runBlock_48 : decode cX0_runBlock 48 = .ok (.iinc 3 1, 3) := by decide +kernel
theorem dX0_runBlock_51 : decode cX0_runBlock 51 = .ok (.goto (-12), 3) := by decide +kernel
theorem dX0_runBlock_54 : decode cX0_runBlock 54 = .ok (.return_, 1) := by decide +kernel
abbrev cX0_perform : ByteArray := prog_1_method_16_code
def yX0_perform : MethodName := ⟨RX0, "perform", "()V"⟩
theorem dX0_perform_0 : decode cX0_perform 0 = .ok (.aload_n 0, 1) := by decide +kernel
theorem dX0_perform_1 : decode cX0_perform 1 = .ok (.getfield 7, 3) := by decide +kernel
theorem dX0_perform_4 : decode cX0_perform 4 = .ok (.aload_n 0, 1) := by decide +kernel
theorem dX0_perform_5 : decode cX0_perform 5 = .ok (.getfield 89, 3) := by decide +kernel
theorem dX0_perform_8 : decode cX0_perform 8 = .ok (.iaload, 1) := by decide +kernel
theorem dX0_perform_9 : decode cX0_perform 9 = .ok (.istore_n 1, 1) := by decide +kernel
theorem dX0_perform_10 : decode cX0_perform 10 = .ok (.aload_n 0, 1) := by decide +kernel
theorem dX0_perform_11 : decode cX0_perform 11 = .ok (.getfield 89, 3) := by decide +kernel
theorem dX0_perform_14 : decode cX0_perform 14 = .ok (.iconst 1, 1) := by decide +kernel
theorem dX0_perform_15 : decode cX0_perform 15 = .ok (.iadd, 1) := by decide +kernel
theorem dX0_perform_16 : decode cX0_perform 16 = .ok (.istore_n 2, 1) := by decide +kernel
theorem dX0_perform_17 : decode cX0_perform 17 = .ok (.iload_n 1, 1) := by decide +kernel
theorem dX0_perform_18 : decode cX0_perform 18 = .ok (.tableswitch 290 0 12 #[66, 82, 95, 113, 113, 113, 121, 128, 146, 159, 194, 229, 252], 66) := by decide +kernel
theorem dX0_perform_84 : decode cX0_perform 84 = .ok (.aload_n 0, 1) := by decide +kernel
theorem dX0_perform_85 : decode cX0_perform 85 = .ok (.aload_n 0, 1) := by decide +kernel
theorem dX0_perform_86 : decode cX0_perform 86 = .ok (.getfield 13, 3) := by decide +kernel
theorem dX0_perform_89 : decode cX0_perform 89 = .ok (.aload_n 0, 1) := by decide +kernel
theorem dX0_perform_90 : decode cX0_perform 90 = .ok (.getfield 89, 3) := by decide +kernel
theorem dX0_perform_93 : decode cX0_perform 93 = .ok (.iaload, 1) := by decide +kernel
theorem dX0_perform_94 : decode cX0_perform 94 = .ok (.invokevirtual 92, 3) := by decide +kernel
theorem dX0_perform_97 : decode cX0_perform 97 = .ok (.goto 211, 3) := by decide +kernel
theorem dX0_perform_100 : decode cX0_perform 100 = .ok (.aload_n 0, 1) := by decide +kernel
theorem dX0_perform_101 : decode cX0_perform 101 = .ok (.dup, 1) := by decide +kernel
theorem dX0_perform_102 : decode cX0_perform 102 = .ok (.getfield 86, 3) := by decide +kernel
theorem dX0_perform_105 : decode cX0_perform 105 = .ok (.iconst 1, 1) := by decide +kernel
theorem dX0_perform_106 : decode cX0_perform 106 = .ok (.isub, 1) := by decide +kernel
theorem dX0_perform_107 : decode cX0_perform 107 = .ok (.putfield 86, 3) := by decide +kernel
theorem dX0_perform_110 : decode cX0_perform 110 = .ok (.goto 198, 3) := by decide +kernel
theorem dX0_perform_113 : decode cX0_perform 113 = .ok (.aload_n 0, 1) := by decide +kernel
theorem dX0_perform_114 : decode cX0_perform 114 = .ok (.aload_n 0, 1) := by decide +kernel
theorem dX0_perform_115 : decode cX0_perform 115 = .ok (.getfield 32, 3) := by decide +kernel
theorem dX0_perform_118 : decode cX0_perform 118 = .ok (.aload_n 0, 1) := by decide +kernel
theorem dX0_perform_119 : decode cX0_perform 119 = .ok (.getfield 86, 3) := by decide +kernel
theorem dX0_perform_122 : decode cX0_perform 122 = .ok (.iconst 1, 1) := by decide +kernel
theorem dX0_perform_123 : decode cX0_perform 123 = .ok (.isub, 1) := by decide +kernel
theorem dX0_perform_124 : decode cX0_perform 124 = .ok (.iaload, 1) := by decide +kernel
theorem dX0_perform_125 : decode cX0_perform 125 = .ok (.invokevirtual 92, 3) := by decide +kernel
theorem dX0_perform_128 : decode cX0_perform 128 = .ok (.goto 180, 3) := by decide +kernel
theorem dX0_perform_131 : decode cX0_perform 131 = .ok (.aload_n 0, 1) := by decide +kernel
theorem dX0_perform_132 : decode cX0_perform 132 = .ok (.iload_n 1, 1) := by decide +kernel
theorem dX0_perform_133 : decode cX0_perform 133 = .ok (.invokevirtual 95, 3) := by decide +kernel
theorem dX0_perform_136 : decode cX0_perform 136 = .ok (.goto 172, 3) := by decide +kernel
theorem dX0_perform_139 : decode cX0_perform 139 = .ok (.aload_n 0, 1) := by decide +kernel
theorem dX0_perform_140 : decode cX0_perform 140 = .ok (.invokevirtual 98, 3) := by decide +kernel
theorem dX0_perform_143 : decode cX0_perform 143 = .ok (.goto 165, 3) := by decide +kernel
theorem dX0_perform_146 : decode cX0_perform 146 = .ok (.aload_n 0, 1) := by decide +kernel
theorem dX0_perform_147 : decode cX0_perform 147 = .ok (.aload_n 0, 1) := by decide +kernel
theorem dX0_perform_148 : decode cX0_perform 148 = .ok (.getfield 32, 3) := by decide +kernel
theorem dX0_perform_151 : decode cX0_perform 151 = .ok (.aload_n 0, 1) := by decide +kernel
theorem dX0_perform_152 : decode cX0_perform 152 = .ok (.getfield 86, 3) := by decide +kernel
theorem dX0_perform_155 : decode cX0_perform 155 = .ok (.iconst 2, 1) := by decide +kernel
theorem dX0_perform_156 : decode cX0_perform 156 = .ok (.isub, 1) := by decide +kernel
theorem dX0_perform_157 : decode cX0_perform 157 = .ok (.iaload, 1) := by decide +kernel
theorem dX0_perform_158 : decode cX0_perform 158 = .ok (.invokevirtual 92, 3) := by decide +kernel
theorem dX0_perform_161 : decode cX0_perform 161 = .ok (.goto 147, 3) := by decide +kernel
theorem dX0_perform_164 : decode cX0_perform 164 = .ok (.aload_n 0, 1) := by decide +kernel
theorem dX0_perform_165 : decode cX0_perform 165 = .ok (.getfield 13, 3) := by decide +kernel
theorem dX0_perform_168 : decode cX0_perform 168 = .ok (.aload_n 0, 1) := by decide +kernel
theorem dX0_perform_169 : decode cX0_perform 169 = .ok (.getfield 89, 3) := by decide +kernel
theorem dX0_perform_172 : decode cX0_perform 172 = .ok (.iaload, 1) := by decide +kernel
theorem dX0_perform_173 : decode cX0_perform 173 = .ok (.istore_n 2, 1) := by decide +kernel
theorem dX0_perform_174 : decode cX0_perform 174 = .ok (.goto 134, 3) := by decide +kernel
theorem dX0_perform_177 : decode cX0_perform 177 = .ok (.aload_n 0, 1) := by decide +kernel
theorem dX0_perform_178 : decode cX0_perform 178 = .ok (.dup, 1) := by decide +kernel
theorem dX0_perform_179 : decode cX0_perform 179 = .ok (.getfield 86, 3) := by decide +kernel
theorem dX0_perform_182 : decode cX0_perform 182 = .ok (.iconst 1, 1) := by decide +kernel
theorem dX0_perform_183 : decode cX0_perform 183 = .ok (.isub, 1) := by decide +kernel
theorem dX0_perform_184 : decode cX0_perform 184 = .ok (.putfield 86, 3) := by decide +kernel
theorem dX0_perform_187 : decode cX0_perform 187 = .ok (.aload_n 0, 1) := by decide +kernel
theorem dX0_perform_188 : decode cX0_perform 188 = .ok (.getfield 32, 3) := by decide +kernel
theorem dX0_perform_191 : decode cX0_perform 191 = .ok (.aload_n 0, 1) := by decide +kernel
theorem dX0_perform_192 : decode cX0_perform 192 = .ok (.getfield 86, 3) := by decide +kernel
theorem dX0_perform_195 : decode cX0_perform 195 = .ok (.iaload, 1) := by decide +kernel
theorem dX0_perform_196 : decode cX0_perform 196 = .ok (.ifCond .ne 112, 3) := by decide +kernel
theorem dX0_perform_199 : decode cX0_perform 199 = .ok (.aload_n 0, 1) := by decide +kernel
theorem dX0_perform_200 : decode cX0_perform 200 = .ok (.getfield 13, 3) := by decide +kernel
theorem dX0_perform_203 : decode cX0_perform 203 = .ok (.aload_n 0, 1) := by decide +kernel
theorem dX0_perform_204 : decode cX0_perform 204 = .ok (.getfield 89, 3) := by decide +kernel
theorem dX0_perform_207 : decode cX0_perform 207 = .ok (.iaload, 1) := by decide +kernel
theorem dX0_perform_208 : decode cX0_perform 208 = .ok (.istore_n 2, 1) := by decide +kernel
theorem dX0_perform_209 : decode cX0_perform 209 = .ok (.goto 99, 3) := by decide +kernel
theorem dX0_perform_212 : decode cX0_perform 212 = .ok (.aload_n 0, 1) := by decide +kernel
theorem dX0_perform_213 : decode cX0_perform 213 = .ok (.dup, 1) := by decide +kernel
theorem dX0_perform_214 : decode cX0_perform 214 = .ok (.getfield 86, 3) := by decide +kernel
theorem dX0_perform_217 : decode cX0_perform 217 = .ok (.iconst 1, 1) := by decide +kernel
theorem dX0_perform_218 : decode cX0_perform 218 = .ok (.isub, 1) := by decide +kernel
theorem dX0_perform_219 : decode cX0_perform 219 = .ok (.putfield 86, 3) := by decide +kernel
theorem dX0_perform_222 : decode cX0_perform 222 = .ok (.aload_n 0, 1) := by decide +kernel
theorem dX0_perform_223 : decode cX0_perform 223 = .ok (.getfield 32, 3) := by decide +kernel
theorem dX0_perform_226 : decode cX0_perform 226 = .ok (.aload_n 0, 1) := by decide +kernel
theorem dX0_perform_227 : decode cX0_perform 227 = .ok (.getfield 86, 3) := by decide +kernel
theorem dX0_perform_230 : decode cX0_perform 230 = .ok (.iaload, 1) := by decide +kernel
theorem dX0_perform_231 : decode cX0_perform 231 = .ok (.ifCond .le 77, 3) := by decide +kernel
theorem dX0_perform_234 : decode cX0_perform 234 = .ok (.aload_n 0, 1) := by decide +kernel
theorem dX0_perform_235 : decode cX0_perform 235 = .ok (.getfield 13, 3) := by decide +kernel
theorem dX0_perform_238 : decode cX0_perform 238 = .ok (.aload_n 0, 1) := by decide +kernel
theorem dX0_perform_239 : decode cX0_perform 239 = .ok (.getfield 89, 3) := by decide +kernel
theorem dX0_perform_242 : decode cX0_perform 242 = .ok (.iaload, 1) := by decide +kernel
theorem dX0_perform_243 : decode cX0_perform 243 = .ok (.istore_n 2, 1) := by decide +kernel
theorem dX0_perform_244 : decode cX0_perform 244 = .ok (.goto 64, 3) := by decide +kernel
theorem dX0_perform_247 : decode cX0_perform 247 = .ok (.aload_n 0, 1) := by decide +kernel
theorem dX0_perform_248 : decode cX0_perform 248 = .ok (.aload_n 0, 1) := by decide +kernel
theorem dX0_perform_249 : decode cX0_perform 249 = .ok (.getfield 35, 3) := by decide +kernel
theorem dX0_perform_252 : decode cX0_perform 252 = .ok (.aload_n 0, 1) := by decide +kernel
theorem dX0_perform_253 : decode cX0_perform 253 = .ok (.getfield 13, 3) := by decide +kernel
theorem dX0_perform_256 : decode cX0_perform 256 = .ok (.aload_n 0, 1) := by decide +kernel
theorem dX0_perform_257 : decode cX0_perform 257 = .ok (.getfield 89, 3) := by decide +kernel
theorem dX0_perform_260 : decode cX0_perform 260 = .ok (.iaload, 1) := by decide +kernel
theorem dX0_perform_261 : decode cX0_perform 261 = .ok (.iconst 3, 1) := by decide +kernel
theorem dX0_perform_262 : decode cX0_perform 262 = .ok (.iand, 1) := by decide +kernel
theorem dX0_perform_263 : decode cX0_perform 263 = .ok (.iaload, 1) := by decide +kernel
theorem dX0_perform_264 : decode cX0_perform 264 = .ok (.invokevirtual 92, 3) := by decide +kernel
theorem dX0_perform_267 : decode cX0_perform 267 = .ok (.goto 41, 3) := by decide +kernel
theorem dX0_perform_270 : decode cX0_perform 270 = .ok (.aload_n 0, 1) := by decide +kernel
theorem dX0_perform_271 : decode cX0_perform 271 = .ok (.dup, 1) := by decide +kernel
theorem dX0_perform_272 : decode cX0_perform 272 = .ok (.getfield 86, 3) := by decide +kernel
theorem dX0_perform_275 : decode cX0_perform 275 = .ok (.iconst 1, 1) := by decide +kernel
theorem dX0_perform_276 : decode cX0_perform 276 = .ok (.isub, 1) := by decide +kernel
theorem dX0_perform_277 : decode cX0_perform 277 = .ok (.putfield 86, 3) := by decide +kernel
theorem dX0_perform_280 : decode cX0_perform 280 = .ok (.aload_n 0, 1) := by decide +kernel
theorem dX0_perform_281 : decode cX0_perform 281 = .ok (.getfield 35, 3) := by decide +kernel
theorem dX0_perform_284 : decode cX0_perform 284 = .ok (.aload_n 0, 1) := by decide +kernel
theorem dX0_perform_285 : decode cX0_perform 285 = .ok (.getfield 13, 3) := by decide +kernel
theorem dX0_perform_288 : decode cX0_perform 288 = .ok (.aload_n 0, 1) := by decide +kernel
theorem dX0_perform_289 : decode cX0_perform 289 = .ok (.getfield 89, 3) := by decide +kernel
theorem dX0_perform_292 : decode cX0_perform 292 = .ok (.iaload, 1) := by decide +kernel
theorem dX0_perform_293 : decode cX0_perform 293 = .ok (.iconst 3, 1) := by decide +kernel
theorem dX0_perform_294 : decode cX0_perform 294 = .ok (.iand, 1) := by decide +kernel
theorem dX0_perform_295 : decode cX0_perform 295 = .ok (.aload_n 0, 1) := by decide +kernel
theorem dX0_perform_296 : decode cX0_perform 296 = .ok (.getfield 32, 3) := by decide +kernel
theorem dX0_perform_299 : decode cX0_perform 299 = .ok (.aload_n 0, 1) := by decide +kernel
theorem dX0_perform_300 : decode cX0_perform 300 = .ok (.getfield 86, 3) := by decide +kernel
theorem dX0_perform_303 : decode cX0_perform 303 = .ok (.iaload, 1) := by decide +kernel
theorem dX0_perform_304 : decode cX0_perform 304 = .ok (.iastore, 1) := by decide +kernel
theorem dX0_perform_305 : decode cX0_perform 305 = .ok (.goto 3, 3) := by decide +kernel
theorem dX0_perform_308 : decode cX0_perform 308 = .ok (.iload_n 1, 1) := by decide +kernel
theorem dX0_perform_309 : decode cX0_perform 309 = .ok (.bipush 13, 2) := by decide +kernel
theorem dX0_perform_311 : decode cX0_perform 311 = .ok (.if_icmp .ne 11, 3) := by decide +kernel
theorem dX0_perform_314 : decode cX0_perform 314 = .ok (.aload_n 0, 1) := by decide +kernel
theorem dX0_perform_315 : decode cX0_perform 315 = .ok (.iconst 1, 1) := by decide +kernel
theorem dX0_perform_316 : decode cX0_perform 316 = .ok (.putfield 38, 3) := by decide +kernel
theorem dX0_perform_319 : decode cX0_perform 319 = .ok (.goto 8, 3) := by decide +kernel
theorem dX0_perform_322 : decode cX0_perform 322 = .ok (.aload_n 0, 1) := by decide +kernel
theorem dX0_perform_323 : decode cX0_perform 323 = .ok (.iload_n 2, 1) := by decide +kernel
theorem dX0_perform_324 : decode cX0_perform 324 = .ok (.putfield 89, 3) := by decide +kernel
theorem dX0_perform_327 : decode cX0_perform 327 = .ok (.return_, 1) := by decide +kernel
abbrev cX0_push : ByteArray := prog_1_method_15_code
def yX0_push : MethodName := ⟨RX0, "push", "(I)V"⟩
theorem dX0_push_0 : decode cX0_push 0 = .ok (.aload_n 0, 1) := by decide +kernel
theorem dX0_push_1 : decode cX0_push 1 = .ok (.getfield 32, 3) := by decide +kernel
theorem dX0_push_4 : decode cX0_push 4 = .ok (.aload_n 0, 1) := by decide +kernel
theorem dX0_push_5 : decode cX0_push 5 = .ok (.getfield 86, 3) := by decide +kernel
theorem dX0_push_8 : decode cX0_push 8 = .ok (.iload_n 1, 1) := by decide +kernel
theorem dX0_push_9 : decode cX0_push 9 = .ok (.iastore, 1) := by decide +kernel
theorem dX0_push_10 : decode cX0_push 10 = .ok (.aload_n 0, 1) := by decide +kernel
theorem dX0_push_11 : decode cX0_push 11 = .ok (.dup, 1) := by decide +kernel
theorem dX0_push_12 : decode cX0_push 12 = .ok (.getfield 86, 3) := by decide +kernel
theorem dX0_push_15 : decode cX0_push 15 = .ok (.iconst 1, 1) := by decide +kernel
theorem dX0_push_16 : decode cX0_push 16 = .ok (.iadd, 1) := by decide +kernel
theorem dX0_push_17 : decode cX0_push 17 = .ok (.putfield 86, 3) := by decide +kernel
theorem dX0_push_20 : decode cX0_push 20 = .ok (.return_, 1) := by decide +kernel
abbrev cX0_arithmetic : ByteArray := prog_1_method_14_code
def yX0_arithmetic : MethodName := ⟨RX0, "arithmetic", "(I)V"⟩
theorem dX0_arithmetic_0 : decode cX0_arithmetic 0 = .ok (.aload_n 0, 1) := by decide +kernel
theorem dX0_arithmetic_1 : decode cX0_arithmetic 1 = .ok (.getfield 32, 3) := by decide +kernel
theorem dX0_arithmetic_4 : decode cX0_arithmetic 4 = .ok (.aload_n 0, 1) := by decide +kernel
theorem dX0_arithmetic_5 : decode cX0_arithmetic 5 = .ok (.getfield 86, 3) := by decide +kernel
theorem dX0_arithmetic_8 : decode cX0_arithmetic 8 = .ok (.iconst 2, 1) := by decide +kernel
theorem dX0_arithmetic_9 : decode cX0_arithmetic 9 = .ok (.isub, 1) := by decide +kernel
theorem dX0_arithmetic_10 : decode cX0_arithmetic 10 = .ok (.iaload, 1) := by decide +kernel
theorem dX0_arithmetic_11 : decode cX0_arithmetic 11 = .ok (.istore_n 2, 1) := by decide +kernel
theorem dX0_arithmetic_12 : decode cX0_arithmetic 12 = .ok (.aload_n 0, 1) := by decide +kernel
theorem dX0_arithmetic_13 : decode cX0_arithmetic 13 = .ok (.getfield 32, 3) := by decide +kernel
theorem dX0_arithmetic_16 : decode cX0_arithmetic 16 = .ok (.aload_n 0, 1) := by decide +kernel
theorem dX0_arithmetic_17 : decode cX0_arithmetic 17 = .ok (.getfield 86, 3) := by decide +kernel
theorem dX0_arithmetic_20 : decode cX0_arithmetic 20 = .ok (.iconst 1, 1) := by decide +kernel
theorem dX0_arithmetic_21 : decode cX0_arithmetic 21 = .ok (.isub, 1) := by decide +kernel
theorem dX0_arithmetic_22 : decode cX0_arithmetic 22 = .ok (.iaload, 1) := by decide +kernel
theorem dX0_arithmetic_23 : decode cX0_arithmetic 23 = .ok (.istore_n 3, 1) := by decide +kernel
theorem dX0_arithmetic_24 : decode cX0_arithmetic 24 = .ok (.aload_n 0, 1) := by decide +kernel
theorem dX0_arithmetic_25 : decode cX0_arithmetic 25 = .ok (.dup, 1) := by decide +kernel
theorem dX0_arithmetic_26 : decode cX0_arithmetic 26 = .ok (.getfield 86, 3) := by decide +kernel
theorem dX0_arithmetic_29 : decode cX0_arithmetic 29 = .ok (.iconst 1, 1) := by decide +kernel
theorem dX0_arithmetic_30 : decode cX0_arithmetic 30 = .ok (.isub, 1) := by decide +kernel
theorem dX0_arithmetic_31 : decode cX0_arithmetic 31 = .ok (.putfield 86, 3) := by decide +kernel
theorem dX0_arithmetic_34 : decode cX0_arithmetic 34 = .ok (.iload_n 1, 1) := by decide +kernel
theorem dX0_arithmetic_35 : decode cX0_arithmetic 35 = .ok (.iconst 3, 1) := by decide +kernel
theorem dX0_arithmetic_36 : decode cX0_arithmetic 36 = .ok (.if_icmp .ne 20, 3) := by decide +kernel
theorem dX0_arithmetic_39 : decode cX0_arithmetic 39 = .ok (.aload_n 0, 1) := by decide +kernel
theorem dX0_arithmetic_40 : decode cX0_arithmetic 40 = .ok (.getfield 32, 3) := by decide +kernel
theorem dX0_arithmetic_43 : decode cX0_arithmetic 43 = .ok (.aload_n 0, 1) := by decide +kernel
theorem dX0_arithmetic_44 : decode cX0_arithmetic 44 = .ok (.getfield 86, 3) := by decide +kernel
theorem dX0_arithmetic_47 : decode cX0_arithmetic 47 = .ok (.iconst 1, 1) := by decide +kernel
theorem dX0_arithmetic_48 : decode cX0_arithmetic 48 = .ok (.isub, 1) := by decide +kernel
theorem dX0_arithmetic_49 : decode cX0_arithmetic 49 = .ok (.iload_n 2, 1) := by decide +kernel
theorem dX0_arithmetic_50 : decode cX0_arithmetic 50 = .ok (.iload_n 3, 1) := by decide +kernel
theorem dX0_arithmetic_51 : decode cX0_arithmetic 51 = .ok (.iadd, 1) := by decide +kernel
theorem dX0_arithmetic_52 : decode cX0_arithmetic 52 = .ok (.iastore, 1) := by decide +kernel
theorem dX0_arithmetic_53 : decode cX0_arithmetic 53 = .ok (.goto 39, 3) := by decide +kernel
theorem dX0_arithmetic_56 : decode cX0_arithmetic 56 = .ok (.iload_n 1, 1) := by decide +kernel
theorem dX0_arithmetic_57 : decode cX0_arithmetic 57 = .ok (.iconst 4, 1) := by decide +kernel
theorem dX0_arithmetic_58 : decode cX0_arithmetic 58 = .ok (.if_icmp .ne 20, 3) := by decide +kernel
theorem dX0_arithmetic_61 : decode cX0_arithmetic 61 = .ok (.aload_n 0, 1) := by decide +kernel
theorem dX0_arithmetic_62 : decode cX0_arithmetic 62 = .ok (.getfield 32, 3) := by decide +kernel
theorem dX0_arithmetic_65 : decode cX0_arithmetic 65 = .ok (.aload_n 0, 1) := by decide +kernel
theorem dX0_arithmetic_66 : decode cX0_arithmetic 66 = .ok (.getfield 86, 3) := by decide +kernel
theorem dX0_arithmetic_69 : decode cX0_arithmetic 69 = .ok (.iconst 1, 1) := by decide +kernel
theorem dX0_arithmetic_70 : decode cX0_arithmetic 70 = .ok (.isub, 1) := by decide +kernel
theorem dX0_arithmetic_71 : decode cX0_arithmetic 71 = .ok (.iload_n 2, 1) := by decide +kernel
theorem dX0_arithmetic_72 : decode cX0_arithmetic 72 = .ok (.iload_n 3, 1) := by decide +kernel
theorem dX0_arithmetic_73 : decode cX0_arithmetic 73 = .ok (.isub, 1) := by decide +kernel
theorem dX0_arithmetic_74 : decode cX0_arithmetic 74 = .ok (.iastore, 1) := by decide +kernel
theorem dX0_arithmetic_75 : decode cX0_arithmetic 75 = .ok (.goto 17, 3) := by decide +kernel
theorem dX0_arithmetic_78 : decode cX0_arithmetic 78 = .ok (.aload_n 0, 1) := by decide +kernel
theorem dX0_arithmetic_79 : decode cX0_arithmetic 79 = .ok (.getfield 32, 3) := by decide +kernel
theorem dX0_arithmetic_82 : decode cX0_arithmetic 82 = .ok (.aload_n 0, 1) := by decide +kernel
theorem dX0_arithmetic_83 : decode cX0_arithmetic 83 = .ok (.getfield 86, 3) := by decide +kernel
theorem dX0_arithmetic_86 : decode cX0_arithmetic 86 = .ok (.iconst 1, 1) := by decide +kernel
theorem dX0_arithmetic_87 : decode cX0_arithmetic 87 = .ok (.isub, 1) := by decide +kernel
theorem dX0_arithmetic_88 : decode cX0_arithmetic 88 = .ok (.iload_n 2, 1) := by decide +kernel
theorem dX0_arithmetic_89 : decode cX0_arithmetic 89 = .ok (.iload_n 3, 1) := by decide +kernel
theorem dX0_arithmetic_90 : decode cX0_arithmetic 90 = .ok (.imul, 1) := by decide +kernel
theorem dX0_arithmetic_91 : decode cX0_arithmetic 91 = .ok (.iastore, 1) := by decide +kernel
theorem dX0_arithmetic_92 : decode cX0_arithmetic 92 = .ok (.return_, 1) := by decide +kernel
abbrev cX0_exchange : ByteArray := prog_1_method_17_code
def yX0_exchange : MethodName := ⟨RX0, "exchange", "()V"⟩
theorem dX0_exchange_0 : decode cX0_exchange 0 = .ok (.aload_n 0, 1) := by decide +kernel
theorem dX0_exchange_1 : decode cX0_exchange 1 = .ok (.getfield 32, 3) := by decide +kernel
theorem dX0_exchange_4 : decode cX0_exchange 4 = .ok (.aload_n 0, 1) := by decide +kernel
theorem dX0_exchange_5 : decode cX0_exchange 5 = .ok (.getfield 86, 3) := by decide +kernel
theorem dX0_exchange_8 : decode cX0_exchange 8 = .ok (.iconst 1, 1) := by decide +kernel
theorem dX0_exchange_9 : decode cX0_exchange 9 = .ok (.isub, 1) := by decide +kernel
theorem dX0_exchange_10 : decode cX0_exchange 10 = .ok (.iaload, 1) := by decide +kernel
theorem dX0_exchange_11 : decode cX0_exchange 11 = .ok (.istore_n 1, 1) := by decide +kernel
theorem dX0_exchange_12 : decode cX0_exchange 12 = .ok (.aload_n 0, 1) := by decide +kernel
theorem dX0_exchange_13 : decode cX0_exchange 13 = .ok (.getfield 32, 3) := by decide +kernel
theorem dX0_exchange_16 : decode cX0_exchange 16 = .ok (.aload_n 0, 1) := by decide +kernel
theorem dX0_exchange_17 : decode cX0_exchange 17 = .ok (.getfield 86, 3) := by decide +kernel
theorem dX0_exchange_20 : decode cX0_exchange 20 = .ok (.iconst 1, 1) := by decide +kernel
theorem dX0_exchange_21 : decode cX0_exchange 21 = .ok (.isub, 1) := by decide +kernel
theorem dX0_exchange_22 : decode cX0_exchange 22 = .ok (.aload_n 0, 1) := by decide +kernel
theorem dX0_exchange_23 : decode cX0_exchange 23 = .ok (.getfield 32, 3) := by decide +kernel
theorem dX0_exchange_26 : decode cX0_exchange 26 = .ok (.aload_n 0, 1) := by decide +kernel
theorem dX0_exchange_27 : decode cX0_exchange 27 = .ok (.getfield 86, 3) := by decide +kernel
theorem dX0_exchange_30 : decode cX0_exchange 30 = .ok (.iconst 2, 1) := by decide +kernel
theorem dX0_exchange_31 : decode cX0_exchange 31 = .ok (.isub, 1) := by decide +kernel
theorem dX0_exchange_32 : decode cX0_exchange 32 = .ok (.iaload, 1) := by decide +kernel
theorem dX0_exchange_33 : decode cX0_exchange 33 = .ok (.iastore, 1) := by decide +kernel
theorem dX0_exchange_34 : decode cX0_exchange 34 = .ok (.aload_n 0, 1) := by decide +kernel
theorem dX0_exchange_35 : decode cX0_exchange 35 = .ok (.getfield 32, 3) := by decide +kernel
theorem dX0_exchange_38 : decode cX0_exchange 38 = .ok (.aload_n 0, 1) := by decide +kernel
theorem dX0_exchange_39 : decode cX0_exchange 39 = .ok (.getfield 86, 3) := by decide +kernel
theorem dX0_exchange_42 : decode cX0_exchange 42 = .ok (.iconst 2, 1) := by decide +kernel
theorem dX0_exchange_43 : decode cX0_exchange 43 = .ok (.isub, 1) := by decide +kernel
theorem dX0_exchange_44 : decode cX0_exchange 44 = .ok (.iload_n 1, 1) := by decide +kernel
theorem dX0_exchange_45 : decode cX0_exchange 45 = .ok (.iastore, 1) := by decide +kernel
theorem dX0_exchange_46 : decode cX0_exchange 46 = .ok (.return_, 1) := by decide +kernel
abbrev cX0_crawl : ByteArray := prog_1_method_19_code
def yX0_crawl : MethodName := ⟨RX0, "crawl", "()V"⟩
theorem dX0_crawl_0 : decode cX0_crawl 0 = .ok (.iconst 0, 1) := by decide +kernel
theorem dX0_crawl_1 : decode cX0_crawl 1 = .ok (.istore_n 1, 1) := by decide +kernel
theorem dX0_crawl_2 : decode cX0_crawl 2 = .ok (.iload_n 1, 1) := by decide +kernel
theorem dX0_crawl_3 : decode cX0_crawl 3 = .ok (.bipush 24, 2) := by decide +kernel
theorem dX0_crawl_5 : decode cX0_crawl 5 = .ok (.if_icmp .ge 45, 3) := by decide +kernel
theorem dX0_crawl_8 : decode cX0_crawl 8 = .ok (.aload_n 0, 1) := by decide +kernel
theorem dX0_crawl_9 : decode cX0_crawl 9 = .ok (.getfield 42, 3) := by decide +kernel
theorem dX0_crawl_12 : decode cX0_crawl 12 = .ok (.aload_n 0, 1) := by decide +kernel
theorem dX0_crawl_13 : decode cX0_crawl 13 = .ok (.aload_n 0, 1) := by decide +kernel
theorem dX0_crawl_14 : decode cX0_crawl 14 = .ok (.getfield 89, 3) := by decide +kernel
theorem dX0_crawl_17 : decode cX0_crawl 17 = .ok (.invokevirtual 83, 3) := by decide +kernel
theorem dX0_crawl_20 : decode cX0_crawl 20 = .ok (.if_icmp .lt 30, 3) := by decide +kernel
theorem dX0_crawl_23 : decode cX0_crawl 23 = .ok (.aload_n 0, 1) := by decide +kernel
theorem dX0_crawl_24 : decode cX0_crawl 24 = .ok (.dup, 1) := by decide +kernel
theorem dX0_crawl_25 : decode cX0_crawl 25 = .ok (.getfield 42, 3) := by decide +kernel
theorem dX0_crawl_28 : decode cX0_crawl 28 = .ok (.aload_n 0, 1) := by decide +kernel
theorem dX0_crawl_29 : decode cX0_crawl 29 = .ok (.aload_n 0, 1) := by decide +kernel
theorem dX0_crawl_30 : decode cX0_crawl 30 = .ok (.getfield 89, 3) := by decide +kernel
theorem dX0_crawl_33 : decode cX0_crawl 33 = .ok (.invokevirtual 83, 3) := by decide +kernel
theorem dX0_crawl_36 : decode cX0_crawl 36 = .ok (.isub, 1) := by decide +kernel
theorem dX0_crawl_37 : decode cX0_crawl 37 = .ok (.putfield 42, 3) := by decide +kernel
theorem dX0_crawl_40 : decode cX0_crawl 40 = .ok (.aload_n 0, 1) := by decide +kernel
theorem dX0_crawl_41 : decode cX0_crawl 41 = .ok (.invokevirtual 101, 3) := by decide +kernel
theorem dX0_crawl_44 : decode cX0_crawl 44 = .ok (.iinc 1 1, 3) := by decide +kernel
theorem dX0_crawl_47 : decode cX0_crawl 47 = .ok (.goto (-45), 3) := by decide +kernel
theorem dX0_crawl_50 : decode cX0_crawl 50 = .ok (.aload_n 0, 1) := by decide +kernel
theorem dX0_crawl_51 : decode cX0_crawl 51 = .ok (.iconst 2, 1) := by decide +kernel
theorem dX0_crawl_52 : decode cX0_crawl 52 = .ok (.putfield 38, 3) := by decide +kernel
theorem dX0_crawl_55 : decode cX0_crawl 55 = .ok (.return_, 1) := by decide +kernel
abbrev cX0_refuel : ByteArray := prog_1_method_23_code
def yX0_refuel : MethodName := ⟨RX0, "refuel", "(I)I"⟩
theorem dX0_refuel_0 : decode cX0_refuel 0 = .ok (.aload_n 0, 1) := by decide +kernel
theorem dX0_refuel_1 : decode cX0_refuel 1 = .ok (.getfield 38, 3) := by decide +kernel
theorem dX0_refuel_4 : decode cX0_refuel 4 = .ok (.iconst 2, 1) := by decide +kernel
theorem dX0_refuel_5 : decode cX0_refuel 5 = .ok (.if_icmp .eq 8, 3) := by decide +kernel
theorem dX0_refuel_8 : decode cX0_refuel 8 = .ok (.aload_n 0, 1) := by decide +kernel
theorem dX0_refuel_9 : decode cX0_refuel 9 = .ok (.getfield 38, 3) := by decide +kernel
theorem dX0_refuel_12 : decode cX0_refuel 12 = .ok (.ireturn, 1) := by decide +kernel
theorem dX0_refuel_13 : decode cX0_refuel 13 = .ok (.iload_n 1, 1) := by decide +kernel
theorem dX0_refuel_14 : decode cX0_refuel 14 = .ok (.invokestatic 113, 3) := by decide +kernel
theorem dX0_refuel_17 : decode cX0_refuel 17 = .ok (.istore_n 2, 1) := by decide +kernel
theorem dX0_refuel_18 : decode cX0_refuel 18 = .ok (.aload_n 0, 1) := by decide +kernel
theorem dX0_refuel_19 : decode cX0_refuel 19 = .ok (.aload_n 0, 1) := by decide +kernel
theorem dX0_refuel_20 : decode cX0_refuel 20 = .ok (.getfield 42, 3) := by decide +kernel
theorem dX0_refuel_23 : decode cX0_refuel 23 = .ok (.iload_n 2, 1) := by decide +kernel
theorem dX0_refuel_24 : decode cX0_refuel 24 = .ok (.iadd, 1) := by decide +kernel
theorem dX0_refuel_25 : decode cX0_refuel 25 = .ok (.invokestatic 113, 3) := by decide +kernel
theorem dX0_refuel_28 : decode cX0_refuel 28 = .ok (.putfield 42, 3) := by decide +kernel
theorem dX0_refuel_31 : decode cX0_refuel 31 = .ok (.aload_n 0, 1) := by decide +kernel
theorem dX0_refuel_32 : decode cX0_refuel 32 = .ok (.invokevirtual 116, 3) := by decide +kernel
theorem dX0_refuel_35 : decode cX0_refuel 35 = .ok (.aload_n 0, 1) := by decide +kernel
theorem dX0_refuel_36 : decode cX0_refuel 36 = .ok (.getfield 38, 3) := by decide +kernel
theorem dX0_refuel_39 : decode cX0_refuel 39 = .ok (.ireturn, 1) := by decide +kernel
abbrev cX0_sound : ByteArray := prog_1_method_24_code
def yX0_sound : MethodName := ⟨RX0, "sound", "()Z"⟩
theorem dX0_sound_0 : decode cX0_sound 0 = .ok (.aload_n 0, 1) := by decide +kernel
theorem dX0_sound_1 : decode cX0_sound 1 = .ok (.invokevirtual 110, 3) := by decide +kernel
theorem dX0_sound_4 : decode cX0_sound 4 = .ok (.aload_n 0, 1) := by decide +kernel
theorem dX0_sound_5 : decode cX0_sound 5 = .ok (.getfield 55, 3) := by decide +kernel
theorem dX0_sound_8 : decode cX0_sound 8 = .ok (.ireturn, 1) := by decide +kernel
abbrev cX0_height : ByteArray := prog_1_method_25_code
def yX0_height : MethodName := ⟨RX0, "height", "(I)I"⟩
theorem dX0_height_0 : decode cX0_height 0 = .ok (.aload_n 0, 1) := by decide +kernel
theorem dX0_height_1 : decode cX0_height 1 = .ok (.invokevirtual 110, 3) := by decide +kernel
theorem dX0_height_4 : decode cX0_height 4 = .ok (.aload_n 0, 1) := by decide +kernel
theorem dX0_height_5 : decode cX0_height 5 = .ok (.getfield 55, 3) := by decide +kernel
theorem dX0_height_8 : decode cX0_height 8 = .ok (.ifCond .eq 24, 3) := by decide +kernel
theorem dX0_height_11 : decode cX0_height 11 = .ok (.iload_n 1, 1) := by decide +kernel
theorem dX0_height_12 : decode cX0_height 12 = .ok (.ifCond .lt 20, 3) := by decide +kernel
theorem dX0_height_15 : decode cX0_height 15 = .ok (.iload_n 1, 1) := by decide +kernel
theorem dX0_height_16 : decode cX0_height 16 = .ok (.aload_n 0, 1) := by decide +kernel
theorem dX0_height_17 : decode cX0_height 17 = .ok (.getfield 49, 3) := by decide +kernel
theorem dX0_height_20 : decode cX0_height 20 = .ok (.if_icmp .ge 12, 3) := by decide +kernel
theorem dX0_height_23 : decode cX0_height 23 = .ok (.aload_n 0, 1) := by decide +kernel
theorem dX0_height_24 : decode cX0_height 24 = .ok (.getfield 16, 3) := by decide +kernel
theorem dX0_height_27 : decode cX0_height 27 = .ok (.iload_n 1, 1) := by decide +kernel
theorem dX0_height_28 : decode cX0_height 28 = .ok (.iaload, 1) := by decide +kernel
theorem dX0_height_29 : decode cX0_height 29 = .ok (.ifCond .ge 6, 3) := by decide +kernel
theorem dX0_height_32 : decode cX0_height 32 = .ok (.bipush (-4), 2) := by decide +kernel
theorem dX0_height_34 : decode cX0_height 34 = .ok (.ireturn, 1) := by decide +kernel
theorem dX0_height_35 : decode cX0_height 35 = .ok (.aload_n 0, 1) := by decide +kernel
theorem dX0_height_36 : decode cX0_height 36 = .ok (.getfield 16, 3) := by decide +kernel
theorem dX0_height_39 : decode cX0_height 39 = .ok (.iload_n 1, 1) := by decide +kernel
theorem dX0_height_40 : decode cX0_height 40 = .ok (.iaload, 1) := by decide +kernel
theorem dX0_height_41 : decode cX0_height 41 = .ok (.ireturn, 1) := by decide +kernel
abbrev cX0_state : ByteArray := prog_1_method_26_code
def yX0_state : MethodName := ⟨RX0, "state", "()I"⟩
theorem dX0_state_0 : decode cX0_state 0 = .ok (.aload_n 0, 1) := by decide +kernel
theorem dX0_state_1 : decode cX0_state 1 = .ok (.getfield 38, 3) := by decide +kernel
theorem dX0_state_4 : decode cX0_state 4 = .ok (.ireturn, 1) := by decide +kernel
abbrev cX0_fuel : ByteArray := prog_1_method_27_code
def yX0_fuel : MethodName := ⟨RX0, "fuel", "()I"⟩
theorem dX0_fuel_0 : decode cX0_fuel 0 = .ok (.aload_n 0, 1) := by decide +kernel
theorem dX0_fuel_1 : decode cX0_fuel 1 = .ok (.getfield 42, 3) := by decide +kernel
theorem dX0_fuel_4 : decode cX0_fuel 4 = .ok (.ireturn, 1) := by decide +kernel
abbrev cX0_place : ByteArray := prog_1_method_28_code
def yX0_place : MethodName := ⟨RX0, "place", "()I"⟩
theorem dX0_place_0 : decode cX0_place 0 = .ok (.aload_n 0, 1) := by decide +kernel
theorem dX0_place_1 : decode cX0_place 1 = .ok (.getfield 38, 3) := by decide +kernel
theorem dX0_place_4 : decode cX0_place 4 = .ok (.ifCond .ne 8, 3) := by decide +kernel
theorem dX0_place_7 : decode cX0_place 7 = .ok (.bipush (-4), 2) := by decide +kernel
theorem dX0_place_9 : decode cX0_place 9 = .ok (.goto 7, 3) := by decide +kernel
theorem dX0_place_12 : decode cX0_place 12 = .ok (.aload_n 0, 1) := by decide +kernel
theorem dX0_place_13 : decode cX0_place 13 = .ok (.getfield 89, 3) := by decide +kernel
theorem dX0_place_16 : decode cX0_place 16 = .ok (.ireturn, 1) := by decide +kernel
abbrev cX0_depth : ByteArray := prog_1_method_29_code
def yX0_depth : MethodName := ⟨RX0, "depth", "()I"⟩
theorem dX0_depth_0 : decode cX0_depth 0 = .ok (.aload_n 0, 1) := by decide +kernel
theorem dX0_depth_1 : decode cX0_depth 1 = .ok (.getfield 38, 3) := by decide +kernel
theorem dX0_depth_4 : decode cX0_depth 4 = .ok (.ifCond .ne 7, 3) := by decide +kernel
theorem dX0_depth_7 : decode cX0_depth 7 = .ok (.iconst 0, 1) := by decide +kernel
theorem dX0_depth_8 : decode cX0_depth 8 = .ok (.goto 7, 3) := by decide +kernel
theorem dX0_depth_11 : decode cX0_depth 11 = .ok (.aload_n 0, 1) := by decide +kernel
theorem dX0_depth_12 : decode cX0_depth 12 = .ok (.getfield 86, 3) := by decide +kernel
theorem dX0_depth_15 : decode cX0_depth 15 = .ok (.ireturn, 1) := by decide +kernel
abbrev cX0_top : ByteArray := prog_1_method_30_code
def yX0_top : MethodName := ⟨RX0, "top", "(I)I"⟩
theorem dX0_top_0 : decode cX0_top 0 = .ok (.aload_n 0, 1) := by decide +kernel
theorem dX0_top_1 : decode cX0_top 1 = .ok (.getfield 38, 3) := by decide +kernel
theorem dX0_top_4 : decode cX0_top 4 = .ok (.ifCond .eq 15, 3) := by decide +kernel
theorem dX0_top_7 : decode cX0_top 7 = .ok (.iload_n 1, 1) := by decide +kernel
theorem dX0_top_8 : decode cX0_top 8 = .ok (.ifCond .lt 11, 3) := by decide +kernel
theorem dX0_top_11 : decode cX0_top 11 = .ok (.iload_n 1, 1) := by decide +kernel
theorem dX0_top_12 : decode cX0_top 12 = .ok (.aload_n 0, 1) := by decide +kernel
theorem dX0_top_13 : decode cX0_top 13 = .ok (.getfield 86, 3) := by decide +kernel
theorem dX0_top_16 : decode cX0_top 16 = .ok (.if_icmp .lt 5, 3) := by decide +kernel
theorem dX0_top_19 : decode cX0_top 19 = .ok (.iconst 0, 1) := by decide +kernel
theorem dX0_top_20 : decode cX0_top 20 = .ok (.ireturn, 1) := by decide +kernel
theorem dX0_top_21 : decode cX0_top 21 = .ok (.aload_n 0, 1) := by decide +kernel
theorem dX0_top_22 : decode cX0_top 22 = .ok (.getfield 32, 3) := by decide +kernel
theorem dX0_top_25 : decode cX0_top 25 = .ok (.aload_n 0, 1) := by decide +kernel
theorem dX0_top_26 : decode cX0_top 26 = .ok (.getfield 86, 3) := by decide +kernel
theorem dX0_top_29 : decode cX0_top 29 = .ok (.iconst 1, 1) := by decide +kernel
theorem dX0_top_30 : decode cX0_top 30 = .ok (.isub, 1) := by decide +kernel
theorem dX0_top_31 : decode cX0_top 31 = .ok (.iload_n 1, 1) := by decide +kernel
theorem dX0_top_32 : decode cX0_top 32 = .ok (.isub, 1) := by decide +kernel
theorem dX0_top_33 : decode cX0_top 33 = .ok (.iaload, 1) := by decide +kernel
theorem dX0_top_34 : decode cX0_top 34 = .ok (.ireturn, 1) := by decide +kernel
abbrev cX0_get : ByteArray := prog_1_method_31_code
def yX0_get : MethodName := ⟨RX0, "get", "(I)I"⟩
theorem dX0_get_0 : decode cX0_get 0 = .ok (.aload_n 0, 1) := by decide +kernel
theorem dX0_get_1 : decode cX0_get 1 = .ok (.getfield 35, 3) := by decide +kernel
theorem dX0_get_4 : decode cX0_get 4 = .ok (.iload_n 1, 1) := by decide +kernel
theorem dX0_get_5 : decode cX0_get 5 = .ok (.iconst 3, 1) := by decide +kernel
theorem dX0_get_6 : decode cX0_get 6 = .ok (.iand, 1) := by decide +kernel
theorem dX0_get_7 : decode cX0_get 7 = .ok (.iaload, 1) := by decide +kernel
theorem dX0_get_8 : decode cX0_get 8 = .ok (.ireturn, 1) := by decide +kernel
theorem q27 : (Jvm.Cond.initialized "FuelGate") ∈ lw_all := lw_g (lw_at lw_m1 1 rfl) rfl
theorem q30 : (Jvm.Cond.instantiable "FuelGate" (17 : Nat)) ∈ lw_all := lw_g (lw_at lw_m1 4 rfl) rfl
theorem q32 : (Jvm.Cond.instanceMethod ({ cls := "FuelGate", name := "<init>", desc := "()V" } : Jvm.MethodName)) ∈ lw_all := lw_g (lw_at lw_m1 6 rfl) rfl
theorem q33 : (Jvm.Cond.code ({ cls := "FuelGate", name := "<init>", desc := "()V" } : Jvm.MethodName) prog_1_method_1_code (1 : Nat) (Option.none : Option Jvm.ClassFile.FieldType)) ∈ lw_all := lw_g (lw_at lw_m1 7 rfl) rfl
theorem q34 : (Jvm.Cond.methodLink "FuelGate" (1 : Nat) ({ cls := "java/lang/Object", name := "<init>", desc := "()V" } : Jvm.MethodName)) ∈ lw_all := lw_g (lw_at lw_m1 8 rfl) rfl
theorem q37 : (Jvm.Cond.fieldLink "FuelGate" (49 : Nat) "FuelGate" "size" "I") ∈ lw_all := lw_g (lw_at lw_m1 11 rfl) rfl
theorem q38 : (Jvm.Cond.fieldLink "FuelGate" (7 : Nat) "FuelGate" "op" "[I") ∈ lw_all := lw_g (lw_at lw_m1 12 rfl) rfl
theorem q39 : (Jvm.Cond.fieldLink "FuelGate" (13 : Nat) "FuelGate" "con" "[I") ∈ lw_all := lw_g (lw_at lw_m1 13 rfl) rfl
theorem q40 : (Jvm.Cond.fieldLink "FuelGate" (45 : Nat) "FuelGate" "checked" "Z") ∈ lw_all := lw_g (lw_at lw_m1 14 rfl) rfl
theorem q41 : (Jvm.Cond.fieldLink "FuelGate" (55 : Nat) "FuelGate" "good" "Z") ∈ lw_all := lw_g (lw_at lw_m1 15 rfl) rfl
theorem q42 : (Jvm.Cond.fieldLink "FuelGate" (16 : Nat) "FuelGate" "heights" "[I") ∈ lw_all := lw_g (lw_at lw_m1 16 rfl) rfl
theorem q43 : (Jvm.Cond.fieldLink "FuelGate" (19 : Nat) "FuelGate" "leader" "[Z") ∈ lw_all := lw_g (lw_at lw_m1 17 rfl) rfl
theorem q44 : (Jvm.Cond.fieldLink "FuelGate" (23 : Nat) "FuelGate" "blockCost" "[I") ∈ lw_all := lw_g (lw_at lw_m1 18 rfl) rfl
theorem q45 : (Jvm.Cond.fieldLink "FuelGate" (26 : Nat) "FuelGate" "blockEnd" "[I") ∈ lw_all := lw_g (lw_at lw_m1 19 rfl) rfl
theorem q46 : (Jvm.Cond.fieldLink "FuelGate" (29 : Nat) "FuelGate" "list" "[I") ∈ lw_all := lw_g (lw_at lw_m1 20 rfl) rfl
theorem q47 : (Jvm.Cond.fieldLink "FuelGate" (58 : Nat) "FuelGate" "listed" "I") ∈ lw_all := lw_g (lw_at lw_m1 21 rfl) rfl
theorem q48 : (Jvm.Cond.fieldLink "FuelGate" (38 : Nat) "FuelGate" "state" "I") ∈ lw_all := lw_g (lw_at lw_m1 22 rfl) rfl
theorem q49 : (Jvm.Cond.fieldLink "FuelGate" (42 : Nat) "FuelGate" "fuel" "I") ∈ lw_all := lw_g (lw_at lw_m1 23 rfl) rfl
theorem q50 : (Jvm.Cond.fieldLink "FuelGate" (89 : Nat) "FuelGate" "at" "I") ∈ lw_all := lw_g (lw_at lw_m1 24 rfl) rfl
theorem q51 : (Jvm.Cond.fieldLink "FuelGate" (86 : Nat) "FuelGate" "depth" "I") ∈ lw_all := lw_g (lw_at lw_m1 25 rfl) rfl
theorem q52 : (Jvm.Cond.fieldLink "FuelGate" (32 : Nat) "FuelGate" "stack" "[I") ∈ lw_all := lw_g (lw_at lw_m1 26 rfl) rfl
theorem q53 : (Jvm.Cond.fieldLink "FuelGate" (35 : Nat) "FuelGate" "cells" "[I") ∈ lw_all := lw_g (lw_at lw_m1 27 rfl) rfl
theorem q54 : (Jvm.Cond.lays "FuelGate" "FuelGate" "size" "I") ∈ lw_all := lw_g (lw_at lw_m1 28 rfl) rfl
theorem q55 : (Jvm.Cond.soleField "FuelGate" "size") ∈ lw_all := lw_g (lw_at lw_m1 29 rfl) rfl
theorem q56 : (Jvm.Cond.laysFinal "FuelGate" "FuelGate" "op" "[I") ∈ lw_all := lw_g (lw_at lw_m1 30 rfl) rfl
theorem q57 : (Jvm.Cond.soleField "FuelGate" "op") ∈ lw_all := lw_g (lw_at lw_m1 31 rfl) rfl
theorem q58 : (Jvm.Cond.laysFinal "FuelGate" "FuelGate" "con" "[I") ∈ lw_all := lw_g (lw_at lw_m1 32 rfl) rfl
theorem q59 : (Jvm.Cond.soleField "FuelGate" "con") ∈ lw_all := lw_g (lw_at lw_m1 33 rfl) rfl
theorem q60 : (Jvm.Cond.lays "FuelGate" "FuelGate" "checked" "Z") ∈ lw_all := lw_g (lw_at lw_m1 34 rfl) rfl
theorem q61 : (Jvm.Cond.soleField "FuelGate" "checked") ∈ lw_all := lw_g (lw_at lw_m1 35 rfl) rfl
theorem q62 : (Jvm.Cond.lays "FuelGate" "FuelGate" "good" "Z") ∈ lw_all := lw_g (lw_at lw_m1 36 rfl) rfl
theorem q63 : (Jvm.Cond.soleField "FuelGate" "good") ∈ lw_all := lw_g (lw_at lw_m1 37 rfl) rfl
theorem q64 : (Jvm.Cond.laysFinal "FuelGate" "FuelGate" "heights" "[I") ∈ lw_all := lw_g (lw_at lw_m1 38 rfl) rfl
theorem q65 : (Jvm.Cond.soleField "FuelGate" "heights") ∈ lw_all := lw_g (lw_at lw_m1 39 rfl) rfl
theorem q66 : (Jvm.Cond.laysFinal "FuelGate" "FuelGate" "leader" "[Z") ∈ lw_all := lw_g (lw_at lw_m1 40 rfl) rfl
theorem q67 : (Jvm.Cond.soleField "FuelGate" "leader") ∈ lw_all := lw_g (lw_at lw_m1 41 rfl) rfl
theorem q68 : (Jvm.Cond.laysFinal "FuelGate" "FuelGate" "blockCost" "[I") ∈ lw_all := lw_g (lw_at lw_m1 42 rfl) rfl
theorem q69 : (Jvm.Cond.soleField "FuelGate" "blockCost") ∈ lw_all := lw_g (lw_at lw_m1 43 rfl) rfl
theorem q70 : (Jvm.Cond.laysFinal "FuelGate" "FuelGate" "blockEnd" "[I") ∈ lw_all := lw_g (lw_at lw_m1 44 rfl) rfl
theorem q71 : (Jvm.Cond.soleField "FuelGate" "blockEnd") ∈ lw_all := lw_g (lw_at lw_m1 45 rfl) rfl
theorem q72 : (Jvm.Cond.laysFinal "FuelGate" "FuelGate" "list" "[I") ∈ lw_all := lw_g (lw_at lw_m1 46 rfl) rfl
theorem q73 : (Jvm.Cond.soleField "FuelGate" "list") ∈ lw_all := lw_g (lw_at lw_m1 47 rfl) rfl
theorem q74 : (Jvm.Cond.lays "FuelGate" "FuelGate" "listed" "I") ∈ lw_all := lw_g (lw_at lw_m1 48 rfl) rfl
theorem q75 : (Jvm.Cond.soleField "FuelGate" "listed") ∈ lw_all := lw_g (lw_at lw_m1 49 rfl) rfl
theorem q76 : (Jvm.Cond.lays "FuelGate" "FuelGate" "state" "I") ∈ lw_all := lw_g (lw_at lw_m1 50 rfl) rfl
theorem q77 : (Jvm.Cond.soleField "FuelGate" "state") ∈ lw_all := lw_g (lw_at lw_m1 51 rfl) rfl
theorem q78 : (Jvm.Cond.lays "FuelGate" "FuelGate" "fuel" "I") ∈ lw_all := lw_g (lw_at lw_m1 52 rfl) rfl
theorem q79 : (Jvm.Cond.soleField "FuelGate" "fuel") ∈ lw_all := lw_g (lw_at lw_m1 53 rfl) rfl
theorem q80 : (Jvm.Cond.lays "FuelGate" "FuelGate" "at" "I") ∈ lw_all := lw_g (lw_at lw_m1 54 rfl) rfl
theorem q81 : (Jvm.Cond.soleField "FuelGate" "at") ∈ lw_all := lw_g (lw_at lw_m1 55 rfl) rfl
theorem q82 : (Jvm.Cond.lays "FuelGate" "FuelGate" "depth" "I") ∈ lw_all := lw_g (lw_at lw_m1 56 rfl) rfl
theorem q83 : (Jvm.Cond.soleField "FuelGate" "depth") ∈ lw_all := lw_g (lw_at lw_m1 57 rfl) rfl
theorem q84 : (Jvm.Cond.laysFinal "FuelGate" "FuelGate" "stack" "[I") ∈ lw_all := lw_g (lw_at lw_m1 58 rfl) rfl
theorem q85 : (Jvm.Cond.soleField "FuelGate" "stack") ∈ lw_all := lw_g (lw_at lw_m1 59 rfl) rfl
theorem q86 : (Jvm.Cond.laysFinal "FuelGate" "FuelGate" "cells" "[I") ∈ lw_all := lw_g (lw_at lw_m1 60 rfl) rfl
theorem q87 : (Jvm.Cond.soleField "FuelGate" "cells") ∈ lw_all := lw_g (lw_at lw_m1 61 rfl) rfl
theorem q88 : (Jvm.Cond.superclass "FuelGate" "java/lang/Object") ∈ lw_all := lw_g (lw_at lw_m1 62 rfl) rfl
theorem q92 : (Jvm.Cond.instanceMethod ({ cls := "FuelGate", name := "emit", desc := "(II)I" } : Jvm.MethodName)) ∈ lw_all := lw_g (lw_at lw_m1 66 rfl) rfl
theorem q93 : (Jvm.Cond.selects "FuelGate" ({ cls := "FuelGate", name := "emit", desc := "(II)I" } : Jvm.MethodName) ({ cls := "FuelGate", name := "emit", desc := "(II)I" } : Jvm.MethodName)) ∈ lw_all := lw_g (lw_at lw_m1 67 rfl) rfl
theorem q94 : (Jvm.Cond.code ({ cls := "FuelGate", name := "emit", desc := "(II)I" } : Jvm.MethodName) prog_1_method_3_code (3 : Nat) (Option.some Jvm.ClassFile.FieldType.int)) ∈ lw_all := lw_g (lw_at lw_m1 68 rfl) rfl
theorem q95 : (Jvm.Cond.methodLink "FuelGate" (52 : Nat) ({ cls := "FuelGate", name := "endRun", desc := "()V" } : Jvm.MethodName)) ∈ lw_all := lw_g (lw_at lw_m1 69 rfl) rfl
theorem q96 : (Jvm.Cond.privateMethod ({ cls := "FuelGate", name := "endRun", desc := "()V" } : Jvm.MethodName)) ∈ lw_tbl := lw_at lw_m1 70 rfl
theorem q97 : (Jvm.Cond.instanceMethod ({ cls := "FuelGate", name := "endRun", desc := "()V" } : Jvm.MethodName)) ∈ lw_all := lw_g (lw_at lw_m1 71 rfl) rfl
theorem q98 : (Jvm.Cond.code ({ cls := "FuelGate", name := "endRun", desc := "()V" } : Jvm.MethodName) prog_1_method_2_code (1 : Nat) (Option.none : Option Jvm.ClassFile.FieldType)) ∈ lw_all := lw_g (lw_at lw_m1 72 rfl) rfl
theorem q100 : (Jvm.Cond.instanceMethod ({ cls := "FuelGate", name := "clear", desc := "()V" } : Jvm.MethodName)) ∈ lw_all := lw_g (lw_at lw_m1 74 rfl) rfl
theorem q101 : (Jvm.Cond.selects "FuelGate" ({ cls := "FuelGate", name := "clear", desc := "()V" } : Jvm.MethodName) ({ cls := "FuelGate", name := "clear", desc := "()V" } : Jvm.MethodName)) ∈ lw_all := lw_g (lw_at lw_m1 75 rfl) rfl
theorem q102 : (Jvm.Cond.code ({ cls := "FuelGate", name := "clear", desc := "()V" } : Jvm.MethodName) prog_1_method_4_code (1 : Nat) (Option.none : Option Jvm.ClassFile.FieldType)) ∈ lw_all := lw_g (lw_at lw_m1 76 rfl) rfl
theorem q104 : (Jvm.Cond.instanceMethod ({ cls := "FuelGate", name := "cell", desc := "(II)I" } : Jvm.MethodName)) ∈ lw_all := lw_g (lw_at lw_m1 78 rfl) rfl
theorem q105 : (Jvm.Cond.selects "FuelGate" ({ cls := "FuelGate", name := "cell", desc := "(II)I" } : Jvm.MethodName) ({ cls := "FuelGate", name := "cell", desc := "(II)I" } : Jvm.MethodName)) ∈ lw_all := lw_g (lw_at lw_m1 79 rfl) rfl
theorem q106 : (Jvm.Cond.code ({ cls := "FuelGate", name := "cell", desc := "(II)I" } : Jvm.MethodName) prog_1_method_5_code (4 : Nat) (Option.some Jvm.ClassFile.FieldType.int)) ∈ lw_all := lw_g (lw_at lw_m1 80 rfl) rfl
theorem q108 : (Jvm.Cond.instanceMethod ({ cls := "FuelGate", name := "run", desc := "(I)I" } : Jvm.MethodName)) ∈ lw_all := lw_g (lw_at lw_m1 82 rfl) rfl
theorem q109 : (Jvm.Cond.selects "FuelGate" ({ cls := "FuelGate", name := "run", desc := "(I)I" } : Jvm.MethodName) ({ cls := "FuelGate", name := "run", desc := "(I)I" } : Jvm.MethodName)) ∈ lw_all := lw_g (lw_at lw_m1 83 rfl) rfl
theorem q110 : (Jvm.Cond.code ({ cls := "FuelGate", name := "run", desc := "(I)I" } : Jvm.MethodName) prog_1_method_22_code (2 : Nat) (Option.some Jvm.ClassFile.FieldType.int)) ∈ lw_all := lw_g (lw_at lw_m1 84 rfl) rfl
theorem q111 : (Jvm.Cond.methodLink "FuelGate" (110 : Nat) ({ cls := "FuelGate", name := "check", desc := "()V" } : Jvm.MethodName)) ∈ lw_all := lw_g (lw_at lw_m1 85 rfl) rfl
theorem q112 : (Jvm.Cond.privateMethod ({ cls := "FuelGate", name := "check", desc := "()V" } : Jvm.MethodName)) ∈ lw_tbl := lw_at lw_m1 86 rfl
theorem q113 : (Jvm.Cond.instanceMethod ({ cls := "FuelGate", name := "check", desc := "()V" } : Jvm.MethodName)) ∈ lw_all := lw_g (lw_at lw_m1 87 rfl) rfl
theorem q114 : (Jvm.Cond.code ({ cls := "FuelGate", name := "check", desc := "()V" } : Jvm.MethodName) prog_1_method_12_code (2 : Nat) (Option.none : Option Jvm.ClassFile.FieldType)) ∈ lw_all := lw_g (lw_at lw_m1 88 rfl) rfl
theorem q115 : (Jvm.Cond.methodLink "FuelGate" (72 : Nat) ({ cls := "FuelGate", name := "comeTo", desc := "(II)V" } : Jvm.MethodName)) ∈ lw_all := lw_g (lw_at lw_m1 89 rfl) rfl
theorem q116 : (Jvm.Cond.privateMethod ({ cls := "FuelGate", name := "comeTo", desc := "(II)V" } : Jvm.MethodName)) ∈ lw_tbl := lw_at lw_m1 90 rfl
theorem q117 : (Jvm.Cond.instanceMethod ({ cls := "FuelGate", name := "comeTo", desc := "(II)V" } : Jvm.MethodName)) ∈ lw_all := lw_g (lw_at lw_m1 91 rfl) rfl
theorem q118 : (Jvm.Cond.code ({ cls := "FuelGate", name := "comeTo", desc := "(II)V" } : Jvm.MethodName) prog_1_method_10_code (3 : Nat) (Option.none : Option Jvm.ClassFile.FieldType)) ∈ lw_all := lw_g (lw_at lw_m1 92 rfl) rfl
theorem q119 : (Jvm.Cond.methodLink "FuelGate" (76 : Nat) ({ cls := "FuelGate", name := "follow", desc := "(I)V" } : Jvm.MethodName)) ∈ lw_all := lw_g (lw_at lw_m1 93 rfl) rfl
theorem q120 : (Jvm.Cond.privateMethod ({ cls := "FuelGate", name := "follow", desc := "(I)V" } : Jvm.MethodName)) ∈ lw_tbl := lw_at lw_m1 94 rfl
theorem q121 : (Jvm.Cond.instanceMethod ({ cls := "FuelGate", name := "follow", desc := "(I)V" } : Jvm.MethodName)) ∈ lw_all := lw_g (lw_at lw_m1 95 rfl) rfl
theorem q122 : (Jvm.Cond.code ({ cls := "FuelGate", name := "follow", desc := "(I)V" } : Jvm.MethodName) prog_1_method_11_code (5 : Nat) (Option.none : Option Jvm.ClassFile.FieldType)) ∈ lw_all := lw_g (lw_at lw_m1 96 rfl) rfl
theorem q123 : (Jvm.Cond.methodLink "FuelGate" (61 : Nat) ({ cls := "FuelGate", name := "growth", desc := "(I)I" } : Jvm.MethodName)) ∈ lw_all := lw_g (lw_at lw_m1 97 rfl) rfl
theorem q124 : (Jvm.Cond.static ({ cls := "FuelGate", name := "growth", desc := "(I)I" } : Jvm.MethodName)) ∈ lw_all := lw_g (lw_at lw_m1 98 rfl) rfl
theorem q125 : (Jvm.Cond.code ({ cls := "FuelGate", name := "growth", desc := "(I)I" } : Jvm.MethodName) prog_1_method_7_code (1 : Nat) (Option.some Jvm.ClassFile.FieldType.int)) ∈ lw_all := lw_g (lw_at lw_m1 99 rfl) rfl
theorem q126 : (Jvm.Cond.methodLink "FuelGate" (65 : Nat) ({ cls := "FuelGate", name := "uses", desc := "(I)I" } : Jvm.MethodName)) ∈ lw_all := lw_g (lw_at lw_m1 100 rfl) rfl
theorem q127 : (Jvm.Cond.static ({ cls := "FuelGate", name := "uses", desc := "(I)I" } : Jvm.MethodName)) ∈ lw_all := lw_g (lw_at lw_m1 101 rfl) rfl
theorem q128 : (Jvm.Cond.code ({ cls := "FuelGate", name := "uses", desc := "(I)I" } : Jvm.MethodName) prog_1_method_6_code (1 : Nat) (Option.some Jvm.ClassFile.FieldType.int)) ∈ lw_all := lw_g (lw_at lw_m1 102 rfl) rfl
theorem q129 : (Jvm.Cond.methodLink "FuelGate" (68 : Nat) ({ cls := "FuelGate", name := "jumps", desc := "(I)Z" } : Jvm.MethodName)) ∈ lw_all := lw_g (lw_at lw_m1 103 rfl) rfl
theorem q130 : (Jvm.Cond.static ({ cls := "FuelGate", name := "jumps", desc := "(I)Z" } : Jvm.MethodName)) ∈ lw_all := lw_g (lw_at lw_m1 104 rfl) rfl
theorem q131 : (Jvm.Cond.code ({ cls := "FuelGate", name := "jumps", desc := "(I)Z" } : Jvm.MethodName) prog_1_method_8_code (1 : Nat) (Option.some Jvm.ClassFile.FieldType.boolean)) ∈ lw_all := lw_g (lw_at lw_m1 105 rfl) rfl
theorem q132 : (Jvm.Cond.methodLink "FuelGate" (80 : Nat) ({ cls := "FuelGate", name := "makeBlocks", desc := "()V" } : Jvm.MethodName)) ∈ lw_all := lw_g (lw_at lw_m1 106 rfl) rfl
theorem q133 : (Jvm.Cond.privateMethod ({ cls := "FuelGate", name := "makeBlocks", desc := "()V" } : Jvm.MethodName)) ∈ lw_tbl := lw_at lw_m1 107 rfl
theorem q134 : (Jvm.Cond.instanceMethod ({ cls := "FuelGate", name := "makeBlocks", desc := "()V" } : Jvm.MethodName)) ∈ lw_all := lw_g (lw_at lw_m1 108 rfl) rfl
theorem q135 : (Jvm.Cond.code ({ cls := "FuelGate", name := "makeBlocks", desc := "()V" } : Jvm.MethodName) prog_1_method_13_code (4 : Nat) (Option.none : Option Jvm.ClassFile.FieldType)) ∈ lw_all := lw_g (lw_at lw_m1 109 rfl) rfl
theorem q136 : (Jvm.Cond.methodLink "FuelGate" (83 : Nat) ({ cls := "FuelGate", name := "costOf", desc := "(I)I" } : Jvm.MethodName)) ∈ lw_all := lw_g (lw_at lw_m1 110 rfl) rfl
theorem q137 : (Jvm.Cond.privateMethod ({ cls := "FuelGate", name := "costOf", desc := "(I)I" } : Jvm.MethodName)) ∈ lw_tbl := lw_at lw_m1 111 rfl
theorem q138 : (Jvm.Cond.instanceMethod ({ cls := "FuelGate", name := "costOf", desc := "(I)I" } : Jvm.MethodName)) ∈ lw_all := lw_g (lw_at lw_m1 112 rfl) rfl
theorem q139 : (Jvm.Cond.code ({ cls := "FuelGate", name := "costOf", desc := "(I)I" } : Jvm.MethodName) prog_1_method_9_code (2 : Nat) (Option.some Jvm.ClassFile.FieldType.int)) ∈ lw_all := lw_g (lw_at lw_m1 113 rfl) rfl
theorem q140 : (Jvm.Cond.methodLink "FuelGate" (113 : Nat) ({ cls := "FuelGate", name := "clampFuel", desc := "(I)I" } : Jvm.MethodName)) ∈ lw_all := lw_g (lw_at lw_m1 114 rfl) rfl
theorem q141 : (Jvm.Cond.static ({ cls := "FuelGate", name := "clampFuel", desc := "(I)I" } : Jvm.MethodName)) ∈ lw_all := lw_g (lw_at lw_m1 115 rfl) rfl
theorem q142 : (Jvm.Cond.code ({ cls := "FuelGate", name := "clampFuel", desc := "(I)I" } : Jvm.MethodName) prog_1_method_21_code (1 : Nat) (Option.some Jvm.ClassFile.FieldType.int)) ∈ lw_all := lw_g (lw_at lw_m1 116 rfl) rfl
theorem q143 : (Jvm.Cond.methodLink "FuelGate" (116 : Nat) ({ cls := "FuelGate", name := "carryOn", desc := "()V" } : Jvm.MethodName)) ∈ lw_all := lw_g (lw_at lw_m1 117 rfl) rfl
theorem q144 : (Jvm.Cond.privateMethod ({ cls := "FuelGate", name := "carryOn", desc := "()V" } : Jvm.MethodName)) ∈ lw_tbl := lw_at lw_m1 118 rfl
theorem q145 : (Jvm.Cond.instanceMethod ({ cls := "FuelGate", name := "carryOn", desc := "()V" } : Jvm.MethodName)) ∈ lw_all := lw_g (lw_at lw_m1 119 rfl) rfl
theorem q146 : (Jvm.Cond.code ({ cls := "FuelGate", name := "carryOn", desc := "()V" } : Jvm.MethodName) prog_1_method_20_code (2 : Nat) (Option.none : Option Jvm.ClassFile.FieldType)) ∈ lw_all := lw_g (lw_at lw_m1 120 rfl) rfl
theorem q147 : (Jvm.Cond.methodLink "FuelGate" (104 : Nat) ({ cls := "FuelGate", name := "runBlock", desc := "()V" } : Jvm.MethodName)) ∈ lw_all := lw_g (lw_at lw_m1 121 rfl) rfl
theorem q148 : (Jvm.Cond.privateMethod ({ cls := "FuelGate", name := "runBlock", desc := "()V" } : Jvm.MethodName)) ∈ lw_tbl := lw_at lw_m1 122 rfl
theorem q149 : (Jvm.Cond.instanceMethod ({ cls := "FuelGate", name := "runBlock", desc := "()V" } : Jvm.MethodName)) ∈ lw_all := lw_g (lw_at lw_m1 123 rfl) rfl
theorem q150 : (Jvm.Cond.code ({ cls := "FuelGate", name := "runBlock", desc := "()V" } : Jvm.MethodName) prog_1_method_18_code (4 : Nat) (Option.none : Option Jvm.ClassFile.FieldType)) ∈ lw_all := lw_g (lw_at lw_m1 124 rfl) rfl
theorem q151 : (Jvm.Cond.methodLink "FuelGate" (101 : Nat) ({ cls := "FuelGate", name := "perform", desc := "()V" } : Jvm.MethodName)) ∈ lw_all := lw_g (lw_at lw_m1 125 rfl) rfl
theorem q152 : (Jvm.Cond.privateMethod ({ cls := "FuelGate", name := "perform", desc := "()V" } : Jvm.MethodName)) ∈ lw_tbl := lw_at lw_m1 126 rfl
theorem q153 : (Jvm.Cond.instanceMethod ({ cls := "FuelGate", name := "perform", desc := "()V" } : Jvm.MethodName)) ∈ lw_all := lw_g (lw_at lw_m1 127 rfl) rfl
theorem q154 : (Jvm.Cond.code ({ cls := "FuelGate", name := "perform", desc := "()V" } : Jvm.MethodName) prog_1_method_16_code (3 : Nat) (Option.none : Option Jvm.ClassFile.FieldType)) ∈ lw_all := lw_g (lw_at lw_m1 128 rfl) rfl
theorem q155 : (Jvm.Cond.methodLink "FuelGate" (92 : Nat) ({ cls := "FuelGate", name := "push", desc := "(I)V" } : Jvm.MethodName)) ∈ lw_all := lw_g (lw_at lw_m1 129 rfl) rfl
theorem q156 : (Jvm.Cond.privateMethod ({ cls := "FuelGate", name := "push", desc := "(I)V" } : Jvm.MethodName)) ∈ lw_tbl := lw_at lw_m1 130 rfl
theorem q157 : (Jvm.Cond.instanceMethod ({ cls := "FuelGate", name := "push", desc := "(I)V" } : Jvm.MethodName)) ∈ lw_all := lw_g (lw_at lw_m1 131 rfl) rfl
theorem q158 : (Jvm.Cond.code ({ cls := "FuelGate", name := "push", desc := "(I)V" } : Jvm.MethodName) prog_1_method_15_code (2 : Nat) (Option.none : Option Jvm.ClassFile.FieldType)) ∈ lw_all := lw_g (lw_at lw_m1 132 rfl) rfl
theorem q159 : (Jvm.Cond.methodLink "FuelGate" (95 : Nat) ({ cls := "FuelGate", name := "arithmetic", desc := "(I)V" } : Jvm.MethodName)) ∈ lw_all := lw_g (lw_at lw_m1 133 rfl) rfl
theorem q160 : (Jvm.Cond.privateMethod ({ cls := "FuelGate", name := "arithmetic", desc := "(I)V" } : Jvm.MethodName)) ∈ lw_tbl := lw_at lw_m1 134 rfl
theorem q161 : (Jvm.Cond.instanceMethod ({ cls := "FuelGate", name := "arithmetic", desc := "(I)V" } : Jvm.MethodName)) ∈ lw_all := lw_g (lw_at lw_m1 135 rfl) rfl
theorem q162 : (Jvm.Cond.code ({ cls := "FuelGate", name := "arithmetic", desc := "(I)V" } : Jvm.MethodName) prog_1_method_14_code (4 : Nat) (Option.none : Option Jvm.ClassFile.FieldType)) ∈ lw_all := lw_g (lw_at lw_m1 136 rfl) rfl
theorem q163 : (Jvm.Cond.methodLink "FuelGate" (98 : Nat) ({ cls := "FuelGate", name := "exchange", desc := "()V" } : Jvm.MethodName)) ∈ lw_all := lw_g (lw_at lw_m1 137 rfl) rfl
theorem q164 : (Jvm.Cond.privateMethod ({ cls := "FuelGate", name := "exchange", desc := "()V" } : Jvm.MethodName)) ∈ lw_tbl := lw_at lw_m1 138 rfl
theorem q165 : (Jvm.Cond.instanceMethod ({ cls := "FuelGate", name := "exchange", desc := "()V" } : Jvm.MethodName)) ∈ lw_all := lw_g (lw_at lw_m1 139 rfl) rfl
theorem q166 : (Jvm.Cond.code ({ cls := "FuelGate", name := "exchange", desc := "()V" } : Jvm.MethodName) prog_1_method_17_code (2 : Nat) (Option.none : Option Jvm.ClassFile.FieldType)) ∈ lw_all := lw_g (lw_at lw_m1 140 rfl) rfl
theorem q167 : (Jvm.Cond.methodLink "FuelGate" (107 : Nat) ({ cls := "FuelGate", name := "crawl", desc := "()V" } : Jvm.MethodName)) ∈ lw_all := lw_g (lw_at lw_m1 141 rfl) rfl
theorem q168 : (Jvm.Cond.privateMethod ({ cls := "FuelGate", name := "crawl", desc := "()V" } : Jvm.MethodName)) ∈ lw_tbl := lw_at lw_m1 142 rfl
theorem q169 : (Jvm.Cond.instanceMethod ({ cls := "FuelGate", name := "crawl", desc := "()V" } : Jvm.MethodName)) ∈ lw_all := lw_g (lw_at lw_m1 143 rfl) rfl
theorem q170 : (Jvm.Cond.code ({ cls := "FuelGate", name := "crawl", desc := "()V" } : Jvm.MethodName) prog_1_method_19_code (2 : Nat) (Option.none : Option Jvm.ClassFile.FieldType)) ∈ lw_all := lw_g (lw_at lw_m1 144 rfl) rfl
theorem q172 : (Jvm.Cond.instanceMethod ({ cls := "FuelGate", name := "refuel", desc := "(I)I" } : Jvm.MethodName)) ∈ lw_all := lw_g (lw_at lw_m1 146 rfl) rfl
theorem q173 : (Jvm.Cond.selects "FuelGate" ({ cls := "FuelGate", name := "refuel", desc := "(I)I" } : Jvm.MethodName) ({ cls := "FuelGate", name := "refuel", desc := "(I)I" } : Jvm.MethodName)) ∈ lw_all := lw_g (lw_at lw_m1 147 rfl) rfl
theorem q174 : (Jvm.Cond.code ({ cls := "FuelGate", name := "refuel", desc := "(I)I" } : Jvm.MethodName) prog_1_method_23_code (3 : Nat) (Option.some Jvm.ClassFile.FieldType.int)) ∈ lw_all := lw_g (lw_at lw_m1 148 rfl) rfl
theorem q176 : (Jvm.Cond.instanceMethod ({ cls := "FuelGate", name := "sound", desc := "()Z" } : Jvm.MethodName)) ∈ lw_all := lw_g (lw_at lw_m1 150 rfl) rfl
theorem q177 : (Jvm.Cond.selects "FuelGate" ({ cls := "FuelGate", name := "sound", desc := "()Z" } : Jvm.MethodName) ({ cls := "FuelGate", name := "sound", desc := "()Z" } : Jvm.MethodName)) ∈ lw_all := lw_g (lw_at lw_m1 151 rfl) rfl
theorem q178 : (Jvm.Cond.code ({ cls := "FuelGate", name := "sound", desc := "()Z" } : Jvm.MethodName) prog_1_method_24_code (1 : Nat) (Option.some Jvm.ClassFile.FieldType.boolean)) ∈ lw_all := lw_g (lw_at lw_m1 152 rfl) rfl
theorem q180 : (Jvm.Cond.instanceMethod ({ cls := "FuelGate", name := "height", desc := "(I)I" } : Jvm.MethodName)) ∈ lw_all := lw_g (lw_at lw_m1 154 rfl) rfl
theorem q181 : (Jvm.Cond.selects "FuelGate" ({ cls := "FuelGate", name := "height", desc := "(I)I" } : Jvm.MethodName) ({ cls := "FuelGate", name := "height", desc := "(I)I" } : Jvm.MethodName)) ∈ lw_all := lw_g (lw_at lw_m1 155 rfl) rfl
theorem q182 : (Jvm.Cond.code ({ cls := "FuelGate", name := "height", desc := "(I)I" } : Jvm.MethodName) prog_1_method_25_code (2 : Nat) (Option.some Jvm.ClassFile.FieldType.int)) ∈ lw_all := lw_g (lw_at lw_m1 156 rfl) rfl
theorem q184 : (Jvm.Cond.instanceMethod ({ cls := "FuelGate", name := "state", desc := "()I" } : Jvm.MethodName)) ∈ lw_all := lw_g (lw_at lw_m1 158 rfl) rfl
theorem q185 : (Jvm.Cond.selects "FuelGate" ({ cls := "FuelGate", name := "state", desc := "()I" } : Jvm.MethodName) ({ cls := "FuelGate", name := "state", desc := "()I" } : Jvm.MethodName)) ∈ lw_all := lw_g (lw_at lw_m1 159 rfl) rfl
theorem q186 : (Jvm.Cond.code ({ cls := "FuelGate", name := "state", desc := "()I" } : Jvm.MethodName) prog_1_method_26_code (1 : Nat) (Option.some Jvm.ClassFile.FieldType.int)) ∈ lw_all := lw_g (lw_at lw_m1 160 rfl) rfl
theorem q188 : (Jvm.Cond.instanceMethod ({ cls := "FuelGate", name := "fuel", desc := "()I" } : Jvm.MethodName)) ∈ lw_all := lw_g (lw_at lw_m1 162 rfl) rfl
theorem q189 : (Jvm.Cond.selects "FuelGate" ({ cls := "FuelGate", name := "fuel", desc := "()I" } : Jvm.MethodName) ({ cls := "FuelGate", name := "fuel", desc := "()I" } : Jvm.MethodName)) ∈ lw_all := lw_g (lw_at lw_m1 163 rfl) rfl
theorem q190 : (Jvm.Cond.code ({ cls := "FuelGate", name := "fuel", desc := "()I" } : Jvm.MethodName) prog_1_method_27_code (1 : Nat) (Option.some Jvm.ClassFile.FieldType.int)) ∈ lw_all := lw_g (lw_at lw_m1 164 rfl) rfl
theorem q192 : (Jvm.Cond.instanceMethod ({ cls := "FuelGate", name := "place", desc := "()I" } : Jvm.MethodName)) ∈ lw_all := lw_g (lw_at lw_m1 166 rfl) rfl
theorem q193 : (Jvm.Cond.selects "FuelGate" ({ cls := "FuelGate", name := "place", desc := "()I" } : Jvm.MethodName) ({ cls := "FuelGate", name := "place", desc := "()I" } : Jvm.MethodName)) ∈ lw_all := lw_g (lw_at lw_m1 167 rfl) rfl
theorem q194 : (Jvm.Cond.code ({ cls := "FuelGate", name := "place", desc := "()I" } : Jvm.MethodName) prog_1_method_28_code (1 : Nat) (Option.some Jvm.ClassFile.FieldType.int)) ∈ lw_all := lw_g (lw_at lw_m1 168 rfl) rfl
theorem q196 : (Jvm.Cond.instanceMethod ({ cls := "FuelGate", name := "depth", desc := "()I" } : Jvm.MethodName)) ∈ lw_all := lw_g (lw_at lw_m1 170 rfl) rfl
theorem q197 : (Jvm.Cond.selects "FuelGate" ({ cls := "FuelGate", name := "depth", desc := "()I" } : Jvm.MethodName) ({ cls := "FuelGate", name := "depth", desc := "()I" } : Jvm.MethodName)) ∈ lw_all := lw_g (lw_at lw_m1 171 rfl) rfl
theorem q198 : (Jvm.Cond.code ({ cls := "FuelGate", name := "depth", desc := "()I" } : Jvm.MethodName) prog_1_method_29_code (1 : Nat) (Option.some Jvm.ClassFile.FieldType.int)) ∈ lw_all := lw_g (lw_at lw_m1 172 rfl) rfl
theorem q200 : (Jvm.Cond.instanceMethod ({ cls := "FuelGate", name := "top", desc := "(I)I" } : Jvm.MethodName)) ∈ lw_all := lw_g (lw_at lw_m1 174 rfl) rfl
theorem q201 : (Jvm.Cond.selects "FuelGate" ({ cls := "FuelGate", name := "top", desc := "(I)I" } : Jvm.MethodName) ({ cls := "FuelGate", name := "top", desc := "(I)I" } : Jvm.MethodName)) ∈ lw_all := lw_g (lw_at lw_m1 175 rfl) rfl
theorem q202 : (Jvm.Cond.code ({ cls := "FuelGate", name := "top", desc := "(I)I" } : Jvm.MethodName) prog_1_method_30_code (2 : Nat) (Option.some Jvm.ClassFile.FieldType.int)) ∈ lw_all := lw_g (lw_at lw_m1 176 rfl) rfl
theorem q204 : (Jvm.Cond.instanceMethod ({ cls := "FuelGate", name := "get", desc := "(I)I" } : Jvm.MethodName)) ∈ lw_all := lw_g (lw_at lw_m1 178 rfl) rfl
theorem q205 : (Jvm.Cond.selects "FuelGate" ({ cls := "FuelGate", name := "get", desc := "(I)I" } : Jvm.MethodName) ({ cls := "FuelGate", name := "get", desc := "(I)I" } : Jvm.MethodName)) ∈ lw_all := lw_g (lw_at lw_m1 179 rfl) rfl
theorem q206 : (Jvm.Cond.code ({ cls := "FuelGate", name := "get", desc := "(I)I" } : Jvm.MethodName) prog_1_method_31_code (2 : Nat) (Option.some Jvm.ClassFile.FieldType.int)) ∈ lw_all := lw_g (lw_at lw_m1 180 rfl) rfl
theorem in_X0 : ∀ w ∈ wsX00, w ∈ lw_all := lw_in wsX00 [54, 56, 58, 60, 62, 64, 66, 68, 70, 72, 74, 76, 78, 80, 82, 84, 86] (by decide +kernel) (by decide +kernel)
end
section
/-! FuelGateModel -/
set_option maxRecDepth 100000
def RX1 : String := "FuelGateModel"
def TX1 : u_T := fun k => match k with
  | 0 => ("FuelGateModel", "size", "I", false)
  | 1 => ("FuelGateModel", "ops", "[I", true)
  | 2 => ("FuelGateModel", "cs", "[I", true)
  | 3 => ("FuelGateModel", "cells", "[I", true)
  | 4 => ("FuelGateModel", "heights", "[I", true)
  | 5 => ("FuelGateModel", "state", "I", false)
  | 6 => ("FuelGateModel", "fuel", "I", false)
  | 7 => ("FuelGateModel", "at", "I", false)
  | 8 => ("FuelGateModel", "high", "I", false)
  | _ => ("FuelGateModel", "stack", "[I", true)
def tyX1 : Nat → FieldType := fun k => match k with
  | 0 => .int
  | 1 => .array .int
  | 2 => .array .int
  | 3 => .array .int
  | 4 => .array .int
  | 5 => .int
  | 6 => .int
  | 7 => .int
  | 8 => .int
  | _ => .array .int
abbrev wsX10 : List Cond := u_ws RX1 TX1 10
theorem nmX1 : ∀ a, a < 10 → ∀ b, b < 10 → a ≠ b → (TX1 a).2.1 ≠ (TX1 b).2.1 := by decide +kernel
theorem tyX1_ok : ∀ k, k < 10 → parseFieldDescriptor (TX1 k).2.2.1 = some (tyX1 k) := by decide +kernel
abbrev cX1_init : ByteArray := prog_3_method_1_code
def yX1_init : MethodName := ⟨RX1, "<init>", "()V"⟩
theorem dX1_init_0 : decode cX1_init 0 = .ok (.aload_n 0, 1) := by decide +kernel
theorem dX1_init_1 : decode cX1_init 1 = .ok (.invokespecial 1, 3) := by decide +kernel
theorem dX1_init_4 : decode cX1_init 4 = .ok (.aload_n 0, 1) := by decide +kernel
theorem dX1_init_5 : decode cX1_init 5 = .ok (.bipush 24, 2) := by decide +kernel
theorem dX1_init_7 : decode cX1_init 7 = .ok (.newarray .int, 2) := by decide +kernel
theorem dX1_init_9 : decode cX1_init 9 = .ok (.putfield 7, 3) := by decide +kernel
theorem dX1_init_12 : decode cX1_init 12 = .ok (.aload_n 0, 1) := by decide +kernel
theorem dX1_init_13 : decode cX1_init 13 = .ok (.bipush 24, 2) := by decide +kernel
theorem dX1_init_15 : decode cX1_init 15 = .ok (.newarray .int, 2) := by decide +kernel
theorem dX1_init_17 : decode cX1_init 17 = .ok (.putfield 13, 3) := by decide +kernel
theorem dX1_init_20 : decode cX1_init 20 = .ok (.aload_n 0, 1) := by decide +kernel
theorem dX1_init_21 : decode cX1_init 21 = .ok (.iconst 4, 1) := by decide +kernel
theorem dX1_init_22 : decode cX1_init 22 = .ok (.newarray .int, 2) := by decide +kernel
theorem dX1_init_24 : decode cX1_init 24 = .ok (.putfield 16, 3) := by decide +kernel
theorem dX1_init_27 : decode cX1_init 27 = .ok (.aload_n 0, 1) := by decide +kernel
theorem dX1_init_28 : decode cX1_init 28 = .ok (.bipush 24, 2) := by decide +kernel
theorem dX1_init_30 : decode cX1_init 30 = .ok (.newarray .int, 2) := by decide +kernel
theorem dX1_init_32 : decode cX1_init 32 = .ok (.putfield 19, 3) := by decide +kernel
theorem dX1_init_35 : decode cX1_init 35 = .ok (.aload_n 0, 1) := by decide +kernel
theorem dX1_init_36 : decode cX1_init 36 = .ok (.bipush 16, 2) := by decide +kernel
theorem dX1_init_38 : decode cX1_init 38 = .ok (.newarray .int, 2) := by decide +kernel
theorem dX1_init_40 : decode cX1_init 40 = .ok (.putfield 22, 3) := by decide +kernel
theorem dX1_init_43 : decode cX1_init 43 = .ok (.return_, 1) := by decide +kernel
abbrev cX1_emit : ByteArray := prog_3_method_3_code
def yX1_emit : MethodName := ⟨RX1, "emit", "(II)I"⟩
theorem dX1_emit_0 : decode cX1_emit 0 = .ok (.iload_n 1, 1) := by decide +kernel
theorem dX1_emit_1 : decode cX1_emit 1 = .ok (.ifCond .lt 9, 3) := by decide +kernel
theorem dX1_emit_4 : decode cX1_emit 4 = .ok (.iload_n 1, 1) := by decide +kernel
theorem dX1_emit_5 : decode cX1_emit 5 = .ok (.bipush 14, 2) := by decide +kernel
theorem dX1_emit_7 : decode cX1_emit 7 = .ok (.if_icmp .le 5, 3) := by decide +kernel
theorem dX1_emit_10 : decode cX1_emit 10 = .ok (.iconst (-1), 1) := by decide +kernel
theorem dX1_emit_11 : decode cX1_emit 11 = .ok (.ireturn, 1) := by decide +kernel
theorem dX1_emit_12 : decode cX1_emit 12 = .ok (.aload_n 0, 1) := by decide +kernel
theorem dX1_emit_13 : decode cX1_emit 13 = .ok (.getfield 35, 3) := by decide +kernel
theorem dX1_emit_16 : decode cX1_emit 16 = .ok (.bipush 24, 2) := by decide +kernel
theorem dX1_emit_18 : decode cX1_emit 18 = .ok (.if_icmp .ne 6, 3) := by decide +kernel
theorem dX1_emit_21 : decode cX1_emit 21 = .ok (.bipush (-2), 2) := by decide +kernel
theorem dX1_emit_23 : decode cX1_emit 23 = .ok (.ireturn, 1) := by decide +kernel
theorem dX1_emit_24 : decode cX1_emit 24 = .ok (.aload_n 0, 1) := by decide +kernel
theorem dX1_emit_25 : decode cX1_emit 25 = .ok (.getfield 7, 3) := by decide +kernel
theorem dX1_emit_28 : decode cX1_emit 28 = .ok (.aload_n 0, 1) := by decide +kernel
theorem dX1_emit_29 : decode cX1_emit 29 = .ok (.getfield 35, 3) := by decide +kernel
theorem dX1_emit_32 : decode cX1_emit 32 = .ok (.iload_n 1, 1) := by decide +kernel
theorem dX1_emit_33 : decode cX1_emit 33 = .ok (.iastore, 1) := by decide +kernel
theorem dX1_emit_34 : decode cX1_emit 34 = .ok (.aload_n 0, 1) := by decide +kernel
theorem dX1_emit_35 : decode cX1_emit 35 = .ok (.getfield 13, 3) := by decide +kernel
theorem dX1_emit_38 : decode cX1_emit 38 = .ok (.aload_n 0, 1) := by decide +kernel
theorem dX1_emit_39 : decode cX1_emit 39 = .ok (.getfield 35, 3) := by decide +kernel
theorem dX1_emit_42 : decode cX1_emit 42 = .ok (.iload_n 2, 1) := by decide +kernel
theorem dX1_emit_43 : decode cX1_emit 43 = .ok (.iastore, 1) := by decide +kernel
theorem dX1_emit_44 : decode cX1_emit 44 = .ok (.aload_n 0, 1) := by decide +kernel
theorem dX1_emit_45 : decode cX1_emit 45 = .ok (.aload_n 0, 1) := by decide +kernel
theorem dX1_emit_46 : decode cX1_emit 46 = .ok (.getfield 35, 3) := by decide +kernel
theorem dX1_emit_49 : decode cX1_emit 49 = .ok (.iconst 1, 1) := by decide +kernel
theorem dX1_emit_50 : decode cX1_emit 50 = .ok (.iadd, 1) := by decide +kernel
theorem dX1_emit_51 : decode cX1_emit 51 = .ok (.putfield 35, 3) := by decide +kernel
theorem dX1_emit_54 : decode cX1_emit 54 = .ok (.aload_n 0, 1) := by decide +kernel
theorem dX1_emit_55 : decode cX1_emit 55 = .ok (.invokevirtual 38, 3) := by decide +kernel
theorem dX1_emit_58 : decode cX1_emit 58 = .ok (.aload_n 0, 1) := by decide +kernel
theorem dX1_emit_59 : decode cX1_emit 59 = .ok (.getfield 35, 3) := by decide +kernel
theorem dX1_emit_62 : decode cX1_emit 62 = .ok (.iconst 1, 1) := by decide +kernel
theorem dX1_emit_63 : decode cX1_emit 63 = .ok (.isub, 1) := by decide +kernel
theorem dX1_emit_64 : decode cX1_emit 64 = .ok (.ireturn, 1) := by decide +kernel
abbrev cX1_over : ByteArray := prog_3_method_2_code
def yX1_over : MethodName := ⟨RX1, "over", "()V"⟩
theorem dX1_over_0 : decode cX1_over 0 = .ok (.aload_n 0, 1) := by decide +kernel
theorem dX1_over_1 : decode cX1_over 1 = .ok (.iconst 0, 1) := by decide +kernel
theorem dX1_over_2 : decode cX1_over 2 = .ok (.putfield 25, 3) := by decide +kernel
theorem dX1_over_5 : decode cX1_over 5 = .ok (.aload_n 0, 1) := by decide +kernel
theorem dX1_over_6 : decode cX1_over 6 = .ok (.iconst 0, 1) := by decide +kernel
theorem dX1_over_7 : decode cX1_over 7 = .ok (.putfield 29, 3) := by decide +kernel
theorem dX1_over_10 : decode cX1_over 10 = .ok (.aload_n 0, 1) := by decide +kernel
theorem dX1_over_11 : decode cX1_over 11 = .ok (.iconst 0, 1) := by decide +kernel
theorem dX1_over_12 : decode cX1_over 12 = .ok (.putfield 32, 3) := by decide +kernel
theorem dX1_over_15 : decode cX1_over 15 = .ok (.return_, 1) := by decide +kernel
abbrev cX1_clear : ByteArray := prog_3_method_4_code
def yX1_clear : MethodName := ⟨RX1, "clear", "()V"⟩
theorem dX1_clear_0 : decode cX1_clear 0 = .ok (.aload_n 0, 1) := by decide +kernel
theorem dX1_clear_1 : decode cX1_clear 1 = .ok (.iconst 0, 1) := by decide +kernel
theorem dX1_clear_2 : decode cX1_clear 2 = .ok (.putfield 35, 3) := by decide +kernel
theorem dX1_clear_5 : decode cX1_clear 5 = .ok (.aload_n 0, 1) := by decide +kernel
theorem dX1_clear_6 : decode cX1_clear 6 = .ok (.invokevirtual 38, 3) := by decide +kernel
theorem dX1_clear_9 : decode cX1_clear 9 = .ok (.return_, 1) := by decide +kernel
abbrev cX1_cell : ByteArray := prog_3_method_5_code
def yX1_cell : MethodName := ⟨RX1, "cell", "(II)I"⟩
theorem dX1_cell_0 : decode cX1_cell 0 = .ok (.aload_n 0, 1) := by decide +kernel
theorem dX1_cell_1 : decode cX1_cell 1 = .ok (.getfield 16, 3) := by decide +kernel
theorem dX1_cell_4 : decode cX1_cell 4 = .ok (.iload_n 1, 1) := by decide +kernel
theorem dX1_cell_5 : decode cX1_cell 5 = .ok (.iconst 3, 1) := by decide +kernel
theorem dX1_cell_6 : decode cX1_cell 6 = .ok (.iand, 1) := by decide +kernel
theorem dX1_cell_7 : decode cX1_cell 7 = .ok (.iaload, 1) := by decide +kernel
theorem dX1_cell_8 : decode cX1_cell 8 = .ok (.istore_n 3, 1) := by decide +kernel
theorem dX1_cell_9 : decode cX1_cell 9 = .ok (.aload_n 0, 1) := by decide +kernel
theorem dX1_cell_10 : decode cX1_cell 10 = .ok (.getfield 16, 3) := by decide +kernel
theorem dX1_cell_13 : decode cX1_cell 13 = .ok (.iload_n 1, 1) := by decide +kernel
theorem dX1_cell_14 : decode cX1_cell 14 = .ok (.iconst 3, 1) := by decide +kernel
theorem dX1_cell_15 : decode cX1_cell 15 = .ok (.iand, 1) := by decide +kernel
theorem dX1_cell_16 : decode cX1_cell 16 = .ok (.iload_n 2, 1) := by decide +kernel
theorem dX1_cell_17 : decode cX1_cell 17 = .ok (.iastore, 1) := by decide +kernel
theorem dX1_cell_18 : decode cX1_cell 18 = .ok (.iload_n 3, 1) := by decide +kernel
theorem dX1_cell_19 : decode cX1_cell 19 = .ok (.ireturn, 1) := by decide +kernel
abbrev cX1_run : ByteArray := prog_3_method_12_code
def yX1_run : MethodName := ⟨RX1, "run", "(I)I"⟩
theorem dX1_run_0 : decode cX1_run 0 = .ok (.aload_n 0, 1) := by decide +kernel
theorem dX1_run_1 : decode cX1_run 1 = .ok (.invokevirtual 56, 3) := by decide +kernel
theorem dX1_run_4 : decode cX1_run 4 = .ok (.ifCond .ne 6, 3) := by decide +kernel
theorem dX1_run_7 : decode cX1_run 7 = .ok (.bipush (-3), 2) := by decide +kernel
theorem dX1_run_9 : decode cX1_run 9 = .ok (.ireturn, 1) := by decide +kernel
theorem dX1_run_10 : decode cX1_run 10 = .ok (.aload_n 0, 1) := by decide +kernel
theorem dX1_run_11 : decode cX1_run 11 = .ok (.aload_n 0, 1) := by decide +kernel
theorem dX1_run_12 : decode cX1_run 12 = .ok (.iload_n 1, 1) := by decide +kernel
theorem dX1_run_13 : decode cX1_run 13 = .ok (.invokevirtual 60, 3) := by decide +kernel
theorem dX1_run_16 : decode cX1_run 16 = .ok (.putfield 29, 3) := by decide +kernel
theorem dX1_run_19 : decode cX1_run 19 = .ok (.aload_n 0, 1) := by decide +kernel
theorem dX1_run_20 : decode cX1_run 20 = .ok (.iconst 0, 1) := by decide +kernel
theorem dX1_run_21 : decode cX1_run 21 = .ok (.putfield 63, 3) := by decide +kernel
theorem dX1_run_24 : decode cX1_run 24 = .ok (.aload_n 0, 1) := by decide +kernel
theorem dX1_run_25 : decode cX1_run 25 = .ok (.iconst 0, 1) := by decide +kernel
theorem dX1_run_26 : decode cX1_run 26 = .ok (.putfield 32, 3) := by decide +kernel
theorem dX1_run_29 : decode cX1_run 29 = .ok (.aload_n 0, 1) := by decide +kernel
theorem dX1_run_30 : decode cX1_run 30 = .ok (.invokevirtual 66, 3) := by decide +kernel
theorem dX1_run_33 : decode cX1_run 33 = .ok (.ireturn, 1) := by decide +kernel
abbrev cX1_sound : ByteArray := prog_3_method_20_code
def yX1_sound : MethodName := ⟨RX1, "sound", "()Z"⟩
theorem dX1_sound_0 : decode cX1_sound 0 = .ok (.iconst 0, 1) := by decide +kernel
theorem dX1_sound_1 : decode cX1_sound 1 = .ok (.istore_n 1, 1) := by decide +kernel
theorem dX1_sound_2 : decode cX1_sound 2 = .ok (.iload_n 1, 1) := by decide +kernel
theorem dX1_sound_3 : decode cX1_sound 3 = .ok (.bipush 24, 2) := by decide +kernel
theorem dX1_sound_5 : decode cX1_sound 5 = .ok (.if_icmp .ge 16, 3) := by decide +kernel
theorem dX1_sound_8 : decode cX1_sound 8 = .ok (.aload_n 0, 1) := by decide +kernel
theorem dX1_sound_9 : decode cX1_sound 9 = .ok (.getfield 19, 3) := by decide +kernel
theorem dX1_sound_12 : decode cX1_sound 12 = .ok (.iload_n 1, 1) := by decide +kernel
theorem dX1_sound_13 : decode cX1_sound 13 = .ok (.iconst (-1), 1) := by decide +kernel
theorem dX1_sound_14 : decode cX1_sound 14 = .ok (.iastore, 1) := by decide +kernel
theorem dX1_sound_15 : decode cX1_sound 15 = .ok (.iinc 1 1, 3) := by decide +kernel
theorem dX1_sound_18 : decode cX1_sound 18 = .ok (.goto (-16), 3) := by decide +kernel
theorem dX1_sound_21 : decode cX1_sound 21 = .ok (.aload_n 0, 1) := by decide +kernel
theorem dX1_sound_22 : decode cX1_sound 22 = .ok (.iconst 0, 1) := by decide +kernel
theorem dX1_sound_23 : decode cX1_sound 23 = .ok (.iconst 0, 1) := by decide +kernel
theorem dX1_sound_24 : decode cX1_sound 24 = .ok (.invokevirtual 48, 3) := by decide +kernel
theorem dX1_sound_27 : decode cX1_sound 27 = .ok (.ifCond .ne 5, 3) := by decide +kernel
theorem dX1_sound_30 : decode cX1_sound 30 = .ok (.iconst 0, 1) := by decide +kernel
theorem dX1_sound_31 : decode cX1_sound 31 = .ok (.ireturn, 1) := by decide +kernel
theorem dX1_sound_32 : decode cX1_sound 32 = .ok (.iconst 0, 1) := by decide +kernel
theorem dX1_sound_33 : decode cX1_sound 33 = .ok (.istore_n 1, 1) := by decide +kernel
theorem dX1_sound_34 : decode cX1_sound 34 = .ok (.iload_n 1, 1) := by decide +kernel
theorem dX1_sound_35 : decode cX1_sound 35 = .ok (.bipush 25, 2) := by decide +kernel
theorem dX1_sound_37 : decode cX1_sound 37 = .ok (.if_icmp .ge 44, 3) := by decide +kernel
theorem dX1_sound_40 : decode cX1_sound 40 = .ok (.iconst 0, 1) := by decide +kernel
theorem dX1_sound_41 : decode cX1_sound 41 = .ok (.istore_n 2, 1) := by decide +kernel
theorem dX1_sound_42 : decode cX1_sound 42 = .ok (.iload_n 2, 1) := by decide +kernel
theorem dX1_sound_43 : decode cX1_sound 43 = .ok (.aload_n 0, 1) := by decide +kernel
theorem dX1_sound_44 : decode cX1_sound 44 = .ok (.getfield 35, 3) := by decide +kernel
theorem dX1_sound_47 : decode cX1_sound 47 = .ok (.if_icmp .ge 28, 3) := by decide +kernel
theorem dX1_sound_50 : decode cX1_sound 50 = .ok (.aload_n 0, 1) := by decide +kernel
theorem dX1_sound_51 : decode cX1_sound 51 = .ok (.getfield 19, 3) := by decide +kernel
theorem dX1_sound_54 : decode cX1_sound 54 = .ok (.iload_n 2, 1) := by decide +kernel
theorem dX1_sound_55 : decode cX1_sound 55 = .ok (.iaload, 1) := by decide +kernel
theorem dX1_sound_56 : decode cX1_sound 56 = .ok (.ifCond .lt 13, 3) := by decide +kernel
theorem dX1_sound_59 : decode cX1_sound 59 = .ok (.aload_n 0, 1) := by decide +kernel
theorem dX1_sound_60 : decode cX1_sound 60 = .ok (.iload_n 2, 1) := by decide +kernel
theorem dX1_sound_61 : decode cX1_sound 61 = .ok (.invokevirtual 89, 3) := by decide +kernel
theorem dX1_sound_64 : decode cX1_sound 64 = .ok (.ifCond .ne 5, 3) := by decide +kernel
theorem dX1_sound_67 : decode cX1_sound 67 = .ok (.iconst 0, 1) := by decide +kernel
theorem dX1_sound_68 : decode cX1_sound 68 = .ok (.ireturn, 1) := by decide +kernel
theorem dX1_sound_69 : decode cX1_sound 69 = .ok (.iinc 2 1, 3) := by decide +kernel
theorem dX1_sound_72 : decode cX1_sound 72 = .ok (.goto (-30), 3) := by decide +kernel
theorem dX1_sound_75 : decode cX1_sound 75 = .ok (.iinc 1 1, 3) := by decide +kernel
theorem dX1_sound_78 : decode cX1_sound 78 = .ok (.goto (-44), 3) := by decide +kernel
theorem dX1_sound_81 : decode cX1_sound 81 = .ok (.iconst 1, 1) := by decide +kernel
theorem dX1_sound_82 : decode cX1_sound 82 = .ok (.ireturn, 1) := by decide +kernel
abbrev cX1_come : ByteArray := prog_3_method_8_code
def yX1_come : MethodName := ⟨RX1, "come", "(II)Z"⟩
theorem dX1_come_0 : decode cX1_come 0 = .ok (.iload_n 1, 1) := by decide +kernel
theorem dX1_come_1 : decode cX1_come 1 = .ok (.ifCond .lt 11, 3) := by decide +kernel
theorem dX1_come_4 : decode cX1_come 4 = .ok (.iload_n 1, 1) := by decide +kernel
theorem dX1_come_5 : decode cX1_come 5 = .ok (.aload_n 0, 1) := by decide +kernel
theorem dX1_come_6 : decode cX1_come 6 = .ok (.getfield 35, 3) := by decide +kernel
theorem dX1_come_9 : decode cX1_come 9 = .ok (.if_icmp .lt 5, 3) := by decide +kernel
theorem dX1_come_12 : decode cX1_come 12 = .ok (.iconst 0, 1) := by decide +kernel
theorem dX1_come_13 : decode cX1_come 13 = .ok (.ireturn, 1) := by decide +kernel
theorem dX1_come_14 : decode cX1_come 14 = .ok (.aload_n 0, 1) := by decide +kernel
theorem dX1_come_15 : decode cX1_come 15 = .ok (.getfield 19, 3) := by decide +kernel
theorem dX1_come_18 : decode cX1_come 18 = .ok (.iload_n 1, 1) := by decide +kernel
theorem dX1_come_19 : decode cX1_come 19 = .ok (.iaload, 1) := by decide +kernel
theorem dX1_come_20 : decode cX1_come 20 = .ok (.ifCond .lt 15, 3) := by decide +kernel
theorem dX1_come_23 : decode cX1_come 23 = .ok (.aload_n 0, 1) := by decide +kernel
theorem dX1_come_24 : decode cX1_come 24 = .ok (.getfield 19, 3) := by decide +kernel
theorem dX1_come_27 : decode cX1_come 27 = .ok (.iload_n 1, 1) := by decide +kernel
theorem dX1_come_28 : decode cX1_come 28 = .ok (.iaload, 1) := by decide +kernel
theorem dX1_come_29 : decode cX1_come 29 = .ok (.iload_n 2, 1) := by decide +kernel
theorem dX1_come_30 : decode cX1_come 30 = .ok (.if_icmp .eq 5, 3) := by decide +kernel
theorem dX1_come_33 : decode cX1_come 33 = .ok (.iconst 0, 1) := by decide +kernel
theorem dX1_come_34 : decode cX1_come 34 = .ok (.ireturn, 1) := by decide +kernel
theorem dX1_come_35 : decode cX1_come 35 = .ok (.aload_n 0, 1) := by decide +kernel
theorem dX1_come_36 : decode cX1_come 36 = .ok (.getfield 19, 3) := by decide +kernel
theorem dX1_come_39 : decode cX1_come 39 = .ok (.iload_n 1, 1) := by decide +kernel
theorem dX1_come_40 : decode cX1_come 40 = .ok (.iload_n 2, 1) := by decide +kernel
theorem dX1_come_41 : decode cX1_come 41 = .ok (.iastore, 1) := by decide +kernel
theorem dX1_come_42 : decode cX1_come 42 = .ok (.iconst 1, 1) := by decide +kernel
theorem dX1_come_43 : decode cX1_come 43 = .ok (.ireturn, 1) := by decide +kernel
abbrev cX1_check : ByteArray := prog_3_method_9_code
def yX1_check : MethodName := ⟨RX1, "check", "(I)Z"⟩
theorem dX1_check_0 : decode cX1_check 0 = .ok (.aload_n 0, 1) := by decide +kernel
theorem dX1_check_1 : decode cX1_check 1 = .ok (.getfield 7, 3) := by decide +kernel
theorem dX1_check_4 : decode cX1_check 4 = .ok (.iload_n 1, 1) := by decide +kernel
theorem dX1_check_5 : decode cX1_check 5 = .ok (.iaload, 1) := by decide +kernel
theorem dX1_check_6 : decode cX1_check 6 = .ok (.istore_n 2, 1) := by decide +kernel
theorem dX1_check_7 : decode cX1_check 7 = .ok (.aload_n 0, 1) := by decide +kernel
theorem dX1_check_8 : decode cX1_check 8 = .ok (.getfield 19, 3) := by decide +kernel
theorem dX1_check_11 : decode cX1_check 11 = .ok (.iload_n 1, 1) := by decide +kernel
theorem dX1_check_12 : decode cX1_check 12 = .ok (.iaload, 1) := by decide +kernel
theorem dX1_check_13 : decode cX1_check 13 = .ok (.aload_n 0, 1) := by decide +kernel
theorem dX1_check_14 : decode cX1_check 14 = .ok (.iload_n 2, 1) := by decide +kernel
theorem dX1_check_15 : decode cX1_check 15 = .ok (.invokevirtual 41, 3) := by decide +kernel
theorem dX1_check_18 : decode cX1_check 18 = .ok (.iadd, 1) := by decide +kernel
theorem dX1_check_19 : decode cX1_check 19 = .ok (.istore_n 3, 1) := by decide +kernel
theorem dX1_check_20 : decode cX1_check 20 = .ok (.aload_n 0, 1) := by decide +kernel
theorem dX1_check_21 : decode cX1_check 21 = .ok (.getfield 19, 3) := by decide +kernel
theorem dX1_check_24 : decode cX1_check 24 = .ok (.iload_n 1, 1) := by decide +kernel
theorem dX1_check_25 : decode cX1_check 25 = .ok (.iaload, 1) := by decide +kernel
theorem dX1_check_26 : decode cX1_check 26 = .ok (.aload_n 0, 1) := by decide +kernel
theorem dX1_check_27 : decode cX1_check 27 = .ok (.iload_n 2, 1) := by decide +kernel
theorem dX1_check_28 : decode cX1_check 28 = .ok (.invokevirtual 45, 3) := by decide +kernel
theorem dX1_check_31 : decode cX1_check 31 = .ok (.if_icmp .lt 9, 3) := by decide +kernel
theorem dX1_check_34 : decode cX1_check 34 = .ok (.iload_n 3, 1) := by decide +kernel
theorem dX1_check_35 : decode cX1_check 35 = .ok (.bipush 8, 2) := by decide +kernel
theorem dX1_check_37 : decode cX1_check 37 = .ok (.if_icmp .le 5, 3) := by decide +kernel
theorem dX1_check_40 : decode cX1_check 40 = .ok (.iconst 0, 1) := by decide +kernel
theorem dX1_check_41 : decode cX1_check 41 = .ok (.ireturn, 1) := by decide +kernel
theorem dX1_check_42 : decode cX1_check 42 = .ok (.iload_n 2, 1) := by decide +kernel
theorem dX1_check_43 : decode cX1_check 43 = .ok (.bipush 8, 2) := by decide +kernel
theorem dX1_check_45 : decode cX1_check 45 = .ok (.if_icmp .lt 25, 3) := by decide +kernel
theorem dX1_check_48 : decode cX1_check 48 = .ok (.iload_n 2, 1) := by decide +kernel
theorem dX1_check_49 : decode cX1_check 49 = .ok (.bipush 10, 2) := by decide +kernel
theorem dX1_check_51 : decode cX1_check 51 = .ok (.if_icmp .gt 19, 3) := by decide +kernel
theorem dX1_check_54 : decode cX1_check 54 = .ok (.aload_n 0, 1) := by decide +kernel
theorem dX1_check_55 : decode cX1_check 55 = .ok (.aload_n 0, 1) := by decide +kernel
theorem dX1_check_56 : decode cX1_check 56 = .ok (.getfield 13, 3) := by decide +kernel
theorem dX1_check_59 : decode cX1_check 59 = .ok (.iload_n 1, 1) := by decide +kernel
theorem dX1_check_60 : decode cX1_check 60 = .ok (.iaload, 1) := by decide +kernel
theorem dX1_check_61 : decode cX1_check 61 = .ok (.iload_n 3, 1) := by decide +kernel
theorem dX1_check_62 : decode cX1_check 62 = .ok (.invokevirtual 48, 3) := by decide +kernel
theorem dX1_check_65 : decode cX1_check 65 = .ok (.ifCond .ne 5, 3) := by decide +kernel
theorem dX1_check_68 : decode cX1_check 68 = .ok (.iconst 0, 1) := by decide +kernel
theorem dX1_check_69 : decode cX1_check 69 = .ok (.ireturn, 1) := by decide +kernel
theorem dX1_check_70 : decode cX1_check 70 = .ok (.iload_n 2, 1) := by decide +kernel
theorem dX1_check_71 : decode cX1_check 71 = .ok (.bipush 8, 2) := by decide +kernel
theorem dX1_check_73 : decode cX1_check 73 = .ok (.if_icmp .eq 20, 3) := by decide +kernel
theorem dX1_check_76 : decode cX1_check 76 = .ok (.iload_n 2, 1) := by decide +kernel
theorem dX1_check_77 : decode cX1_check 77 = .ok (.bipush 13, 2) := by decide +kernel
theorem dX1_check_79 : decode cX1_check 79 = .ok (.if_icmp .eq 14, 3) := by decide +kernel
theorem dX1_check_82 : decode cX1_check 82 = .ok (.aload_n 0, 1) := by decide +kernel
theorem dX1_check_83 : decode cX1_check 83 = .ok (.iload_n 1, 1) := by decide +kernel
theorem dX1_check_84 : decode cX1_check 84 = .ok (.iconst 1, 1) := by decide +kernel
theorem dX1_check_85 : decode cX1_check 85 = .ok (.iadd, 1) := by decide +kernel
theorem dX1_check_86 : decode cX1_check 86 = .ok (.iload_n 3, 1) := by decide +kernel
theorem dX1_check_87 : decode cX1_check 87 = .ok (.invokevirtual 48, 3) := by decide +kernel
theorem dX1_check_90 : decode cX1_check 90 = .ok (.ifCond .eq 7, 3) := by decide +kernel
theorem dX1_check_93 : decode cX1_check 93 = .ok (.iconst 1, 1) := by decide +kernel
theorem dX1_check_94 : decode cX1_check 94 = .ok (.goto 4, 3) := by decide +kernel
theorem dX1_check_97 : decode cX1_check 97 = .ok (.iconst 0, 1) := by decide +kernel
theorem dX1_check_98 : decode cX1_check 98 = .ok (.ireturn, 1) := by decide +kernel
abbrev cX1_change : ByteArray := prog_3_method_7_code
def yX1_change : MethodName := ⟨RX1, "change", "(I)I"⟩
theorem dX1_change_0 : decode cX1_change 0 = .ok (.iload_n 1, 1) := by decide +kernel
theorem dX1_change_1 : decode cX1_change 1 = .ok (.ifCond .eq 20, 3) := by decide +kernel
theorem dX1_change_4 : decode cX1_change 4 = .ok (.iload_n 1, 1) := by decide +kernel
theorem dX1_change_5 : decode cX1_change 5 = .ok (.iconst 2, 1) := by decide +kernel
theorem dX1_change_6 : decode cX1_change 6 = .ok (.if_icmp .eq 15, 3) := by decide +kernel
theorem dX1_change_9 : decode cX1_change 9 = .ok (.iload_n 1, 1) := by decide +kernel
theorem dX1_change_10 : decode cX1_change 10 = .ok (.bipush 7, 2) := by decide +kernel
theorem dX1_change_12 : decode cX1_change 12 = .ok (.if_icmp .eq 9, 3) := by decide +kernel
theorem dX1_change_15 : decode cX1_change 15 = .ok (.iload_n 1, 1) := by decide +kernel
theorem dX1_change_16 : decode cX1_change 16 = .ok (.bipush 11, 2) := by decide +kernel
theorem dX1_change_18 : decode cX1_change 18 = .ok (.if_icmp .ne 5, 3) := by decide +kernel
theorem dX1_change_21 : decode cX1_change 21 = .ok (.iconst 1, 1) := by decide +kernel
theorem dX1_change_22 : decode cX1_change 22 = .ok (.ireturn, 1) := by decide +kernel
theorem dX1_change_23 : decode cX1_change 23 = .ok (.iload_n 1, 1) := by decide +kernel
theorem dX1_change_24 : decode cX1_change 24 = .ok (.iconst 1, 1) := by decide +kernel
theorem dX1_change_25 : decode cX1_change 25 = .ok (.if_icmp .eq 31, 3) := by decide +kernel
theorem dX1_change_28 : decode cX1_change 28 = .ok (.iload_n 1, 1) := by decide +kernel
theorem dX1_change_29 : decode cX1_change 29 = .ok (.iconst 3, 1) := by decide +kernel
theorem dX1_change_30 : decode cX1_change 30 = .ok (.if_icmp .lt 8, 3) := by decide +kernel
theorem dX1_change_33 : decode cX1_change 33 = .ok (.iload_n 1, 1) := by decide +kernel
theorem dX1_change_34 : decode cX1_change 34 = .ok (.iconst 5, 1) := by decide +kernel
theorem dX1_change_35 : decode cX1_change 35 = .ok (.if_icmp .le 21, 3) := by decide +kernel
theorem dX1_change_38 : decode cX1_change 38 = .ok (.iload_n 1, 1) := by decide +kernel
theorem dX1_change_39 : decode cX1_change 39 = .ok (.bipush 9, 2) := by decide +kernel
theorem dX1_change_41 : decode cX1_change 41 = .ok (.if_icmp .eq 15, 3) := by decide +kernel
theorem dX1_change_44 : decode cX1_change 44 = .ok (.iload_n 1, 1) := by decide +kernel
theorem dX1_change_45 : decode cX1_change 45 = .ok (.bipush 10, 2) := by decide +kernel
theorem dX1_change_47 : decode cX1_change 47 = .ok (.if_icmp .eq 9, 3) := by decide +kernel
theorem dX1_change_50 : decode cX1_change 50 = .ok (.iload_n 1, 1) := by decide +kernel
theorem dX1_change_51 : decode cX1_change 51 = .ok (.bipush 12, 2) := by decide +kernel
theorem dX1_change_53 : decode cX1_change 53 = .ok (.if_icmp .ne 7, 3) := by decide +kernel
theorem dX1_change_56 : decode cX1_change 56 = .ok (.iconst (-1), 1) := by decide +kernel
theorem dX1_change_57 : decode cX1_change 57 = .ok (.goto 4, 3) := by decide +kernel
theorem dX1_change_60 : decode cX1_change 60 = .ok (.iconst 0, 1) := by decide +kernel
theorem dX1_change_61 : decode cX1_change 61 = .ok (.ireturn, 1) := by decide +kernel
abbrev cX1_needs : ByteArray := prog_3_method_6_code
def yX1_needs : MethodName := ⟨RX1, "needs", "(I)I"⟩
theorem dX1_needs_0 : decode cX1_needs 0 = .ok (.iload_n 1, 1) := by decide +kernel
theorem dX1_needs_1 : decode cX1_needs 1 = .ok (.iconst 1, 1) := by decide +kernel
theorem dX1_needs_2 : decode cX1_needs 2 = .ok (.if_icmp .eq 26, 3) := by decide +kernel
theorem dX1_needs_5 : decode cX1_needs 5 = .ok (.iload_n 1, 1) := by decide +kernel
theorem dX1_needs_6 : decode cX1_needs 6 = .ok (.iconst 2, 1) := by decide +kernel
theorem dX1_needs_7 : decode cX1_needs 7 = .ok (.if_icmp .eq 21, 3) := by decide +kernel
theorem dX1_needs_10 : decode cX1_needs 10 = .ok (.iload_n 1, 1) := by decide +kernel
theorem dX1_needs_11 : decode cX1_needs 11 = .ok (.bipush 9, 2) := by decide +kernel
theorem dX1_needs_13 : decode cX1_needs 13 = .ok (.if_icmp .eq 15, 3) := by decide +kernel
theorem dX1_needs_16 : decode cX1_needs 16 = .ok (.iload_n 1, 1) := by decide +kernel
theorem dX1_needs_17 : decode cX1_needs 17 = .ok (.bipush 10, 2) := by decide +kernel
theorem dX1_needs_19 : decode cX1_needs 19 = .ok (.if_icmp .eq 9, 3) := by decide +kernel
theorem dX1_needs_22 : decode cX1_needs 22 = .ok (.iload_n 1, 1) := by decide +kernel
theorem dX1_needs_23 : decode cX1_needs 23 = .ok (.bipush 12, 2) := by decide +kernel
theorem dX1_needs_25 : decode cX1_needs 25 = .ok (.if_icmp .ne 5, 3) := by decide +kernel
theorem dX1_needs_28 : decode cX1_needs 28 = .ok (.iconst 1, 1) := by decide +kernel
theorem dX1_needs_29 : decode cX1_needs 29 = .ok (.ireturn, 1) := by decide +kernel
theorem dX1_needs_30 : decode cX1_needs 30 = .ok (.iload_n 1, 1) := by decide +kernel
theorem dX1_needs_31 : decode cX1_needs 31 = .ok (.iconst 3, 1) := by decide +kernel
theorem dX1_needs_32 : decode cX1_needs 32 = .ok (.if_icmp .lt 13, 3) := by decide +kernel
theorem dX1_needs_35 : decode cX1_needs 35 = .ok (.iload_n 1, 1) := by decide +kernel
theorem dX1_needs_36 : decode cX1_needs 36 = .ok (.bipush 7, 2) := by decide +kernel
theorem dX1_needs_38 : decode cX1_needs 38 = .ok (.if_icmp .gt 7, 3) := by decide +kernel
theorem dX1_needs_41 : decode cX1_needs 41 = .ok (.iconst 2, 1) := by decide +kernel
theorem dX1_needs_42 : decode cX1_needs 42 = .ok (.goto 4, 3) := by decide +kernel
theorem dX1_needs_45 : decode cX1_needs 45 = .ok (.iconst 0, 1) := by decide +kernel
theorem dX1_needs_46 : decode cX1_needs 46 = .ok (.ireturn, 1) := by decide +kernel
abbrev cX1_held : ByteArray := prog_3_method_11_code
def yX1_held : MethodName := ⟨RX1, "held", "(I)I"⟩
theorem dX1_held_0 : decode cX1_held 0 = .ok (.iload_n 1, 1) := by decide +kernel
theorem dX1_held_1 : decode cX1_held 1 = .ok (.ifCond .ge 7, 3) := by decide +kernel
theorem dX1_held_4 : decode cX1_held 4 = .ok (.iconst 0, 1) := by decide +kernel
theorem dX1_held_5 : decode cX1_held 5 = .ok (.goto 11, 3) := by decide +kernel
theorem dX1_held_8 : decode cX1_held 8 = .ok (.aload_n 0, 1) := by decide +kernel
theorem dX1_held_9 : decode cX1_held 9 = .ok (.iload_n 1, 1) := by decide +kernel
theorem dX1_held_10 : decode cX1_held 10 = .ok (.sipush 2000, 3) := by decide +kernel
theorem dX1_held_13 : decode cX1_held 13 = .ok (.invokevirtual 52, 3) := by decide +kernel
theorem dX1_held_16 : decode cX1_held 16 = .ok (.ireturn, 1) := by decide +kernel
abbrev cX1_least : ByteArray := prog_3_method_10_code
def yX1_least : MethodName := ⟨RX1, "least", "(II)I"⟩
theorem dX1_least_0 : decode cX1_least 0 = .ok (.iload_n 1, 1) := by decide +kernel
theorem dX1_least_1 : decode cX1_least 1 = .ok (.iload_n 2, 1) := by decide +kernel
theorem dX1_least_2 : decode cX1_least 2 = .ok (.if_icmp .ge 7, 3) := by decide +kernel
theorem dX1_least_5 : decode cX1_least 5 = .ok (.iload_n 1, 1) := by decide +kernel
theorem dX1_least_6 : decode cX1_least 6 = .ok (.goto 4, 3) := by decide +kernel
theorem dX1_least_9 : decode cX1_least 9 = .ok (.iload_n 2, 1) := by decide +kernel
theorem dX1_least_10 : decode cX1_least 10 = .ok (.ireturn, 1) := by decide +kernel
abbrev cX1_goOn : ByteArray := prog_3_method_15_code
def yX1_goOn : MethodName := ⟨RX1, "goOn", "()I"⟩
theorem dX1_goOn_0 : decode cX1_goOn 0 = .ok (.aload_n 0, 1) := by decide +kernel
theorem dX1_goOn_1 : decode cX1_goOn 1 = .ok (.iconst 2, 1) := by decide +kernel
theorem dX1_goOn_2 : decode cX1_goOn 2 = .ok (.putfield 25, 3) := by decide +kernel
theorem dX1_goOn_5 : decode cX1_goOn 5 = .ok (.iconst 0, 1) := by decide +kernel
theorem dX1_goOn_6 : decode cX1_goOn 6 = .ok (.istore_n 1, 1) := by decide +kernel
theorem dX1_goOn_7 : decode cX1_goOn 7 = .ok (.iload_n 1, 1) := by decide +kernel
theorem dX1_goOn_8 : decode cX1_goOn 8 = .ok (.sipush 2000, 3) := by decide +kernel
theorem dX1_goOn_11 : decode cX1_goOn 11 = .ok (.if_icmp .gt 93, 3) := by decide +kernel
theorem dX1_goOn_14 : decode cX1_goOn 14 = .ok (.aload_n 0, 1) := by decide +kernel
theorem dX1_goOn_15 : decode cX1_goOn 15 = .ok (.getfield 25, 3) := by decide +kernel
theorem dX1_goOn_18 : decode cX1_goOn 18 = .ok (.iconst 2, 1) := by decide +kernel
theorem dX1_goOn_19 : decode cX1_goOn 19 = .ok (.if_icmp .ne 79, 3) := by decide +kernel
theorem dX1_goOn_22 : decode cX1_goOn 22 = .ok (.aload_n 0, 1) := by decide +kernel
theorem dX1_goOn_23 : decode cX1_goOn 23 = .ok (.getfield 63, 3) := by decide +kernel
theorem dX1_goOn_26 : decode cX1_goOn 26 = .ok (.ifCond .lt 72, 3) := by decide +kernel
theorem dX1_goOn_29 : decode cX1_goOn 29 = .ok (.aload_n 0, 1) := by decide +kernel
theorem dX1_goOn_30 : decode cX1_goOn 30 = .ok (.getfield 63, 3) := by decide +kernel
theorem dX1_goOn_33 : decode cX1_goOn 33 = .ok (.aload_n 0, 1) := by decide +kernel
theorem dX1_goOn_34 : decode cX1_goOn 34 = .ok (.getfield 35, 3) := by decide +kernel
theorem dX1_goOn_37 : decode cX1_goOn 37 = .ok (.if_icmp .ge 61, 3) := by decide +kernel
theorem dX1_goOn_40 : decode cX1_goOn 40 = .ok (.aload_n 0, 1) := by decide +kernel
theorem dX1_goOn_41 : decode cX1_goOn 41 = .ok (.getfield 29, 3) := by decide +kernel
theorem dX1_goOn_44 : decode cX1_goOn 44 = .ok (.aload_n 0, 1) := by decide +kernel
theorem dX1_goOn_45 : decode cX1_goOn 45 = .ok (.aload_n 0, 1) := by decide +kernel
theorem dX1_goOn_46 : decode cX1_goOn 46 = .ok (.getfield 63, 3) := by decide +kernel
theorem dX1_goOn_49 : decode cX1_goOn 49 = .ok (.invokevirtual 70, 3) := by decide +kernel
theorem dX1_goOn_52 : decode cX1_goOn 52 = .ok (.if_icmp .lt 46, 3) := by decide +kernel
theorem dX1_goOn_55 : decode cX1_goOn 55 = .ok (.aload_n 0, 1) := by decide +kernel
theorem dX1_goOn_56 : decode cX1_goOn 56 = .ok (.aload_n 0, 1) := by decide +kernel
theorem dX1_goOn_57 : decode cX1_goOn 57 = .ok (.getfield 29, 3) := by decide +kernel
theorem dX1_goOn_60 : decode cX1_goOn 60 = .ok (.aload_n 0, 1) := by decide +kernel
theorem dX1_goOn_61 : decode cX1_goOn 61 = .ok (.aload_n 0, 1) := by decide +kernel
theorem dX1_goOn_62 : decode cX1_goOn 62 = .ok (.getfield 63, 3) := by decide +kernel
theorem dX1_goOn_65 : decode cX1_goOn 65 = .ok (.invokevirtual 70, 3) := by decide +kernel
theorem dX1_goOn_68 : decode cX1_goOn 68 = .ok (.isub, 1) := by decide +kernel
theorem dX1_goOn_69 : decode cX1_goOn 69 = .ok (.putfield 29, 3) := by decide +kernel
theorem dX1_goOn_72 : decode cX1_goOn 72 = .ok (.aload_n 0, 1) := by decide +kernel
theorem dX1_goOn_73 : decode cX1_goOn 73 = .ok (.getfield 7, 3) := by decide +kernel
theorem dX1_goOn_76 : decode cX1_goOn 76 = .ok (.aload_n 0, 1) := by decide +kernel
theorem dX1_goOn_77 : decode cX1_goOn 77 = .ok (.getfield 63, 3) := by decide +kernel
theorem dX1_goOn_80 : decode cX1_goOn 80 = .ok (.iaload, 1) := by decide +kernel
theorem dX1_goOn_81 : decode cX1_goOn 81 = .ok (.bipush 13, 2) := by decide +kernel
theorem dX1_goOn_83 : decode cX1_goOn 83 = .ok (.if_icmp .ne 11, 3) := by decide +kernel
theorem dX1_goOn_86 : decode cX1_goOn 86 = .ok (.aload_n 0, 1) := by decide +kernel
theorem dX1_goOn_87 : decode cX1_goOn 87 = .ok (.iconst 1, 1) := by decide +kernel
theorem dX1_goOn_88 : decode cX1_goOn 88 = .ok (.putfield 25, 3) := by decide +kernel
theorem dX1_goOn_91 : decode cX1_goOn 91 = .ok (.goto 7, 3) := by decide +kernel
theorem dX1_goOn_94 : decode cX1_goOn 94 = .ok (.aload_n 0, 1) := by decide +kernel
theorem dX1_goOn_95 : decode cX1_goOn 95 = .ok (.invokevirtual 73, 3) := by decide +kernel
theorem dX1_goOn_98 : decode cX1_goOn 98 = .ok (.iinc 1 1, 3) := by decide +kernel
theorem dX1_goOn_101 : decode cX1_goOn 101 = .ok (.goto (-94), 3) := by decide +kernel
theorem dX1_goOn_104 : decode cX1_goOn 104 = .ok (.aload_n 0, 1) := by decide +kernel
theorem dX1_goOn_105 : decode cX1_goOn 105 = .ok (.getfield 25, 3) := by decide +kernel
theorem dX1_goOn_108 : decode cX1_goOn 108 = .ok (.ireturn, 1) := by decide +kernel
abbrev cX1_cost : ByteArray := prog_3_method_14_code
def yX1_cost : MethodName := ⟨RX1, "cost", "(I)I"⟩
theorem dX1_cost_0 : decode cX1_cost 0 = .ok (.aload_n 0, 1) := by decide +kernel
theorem dX1_cost_1 : decode cX1_cost 1 = .ok (.getfield 7, 3) := by decide +kernel
theorem dX1_cost_4 : decode cX1_cost 4 = .ok (.iload_n 1, 1) := by decide +kernel
theorem dX1_cost_5 : decode cX1_cost 5 = .ok (.iaload, 1) := by decide +kernel
theorem dX1_cost_6 : decode cX1_cost 6 = .ok (.bipush 14, 2) := by decide +kernel
theorem dX1_cost_8 : decode cX1_cost 8 = .ok (.if_icmp .ne 15, 3) := by decide +kernel
theorem dX1_cost_11 : decode cX1_cost 11 = .ok (.aload_n 0, 1) := by decide +kernel
theorem dX1_cost_12 : decode cX1_cost 12 = .ok (.getfield 13, 3) := by decide +kernel
theorem dX1_cost_15 : decode cX1_cost 15 = .ok (.iload_n 1, 1) := by decide +kernel
theorem dX1_cost_16 : decode cX1_cost 16 = .ok (.iaload, 1) := by decide +kernel
theorem dX1_cost_17 : decode cX1_cost 17 = .ok (.bipush 15, 2) := by decide +kernel
theorem dX1_cost_19 : decode cX1_cost 19 = .ok (.iand, 1) := by decide +kernel
theorem dX1_cost_20 : decode cX1_cost 20 = .ok (.iconst 1, 1) := by decide +kernel
theorem dX1_cost_21 : decode cX1_cost 21 = .ok (.iadd, 1) := by decide +kernel
theorem dX1_cost_22 : decode cX1_cost 22 = .ok (.ireturn, 1) := by decide +kernel
theorem dX1_cost_23 : decode cX1_cost 23 = .ok (.aload_n 0, 1) := by decide +kernel
theorem dX1_cost_24 : decode cX1_cost 24 = .ok (.getfield 7, 3) := by decide +kernel
theorem dX1_cost_27 : decode cX1_cost 27 = .ok (.iload_n 1, 1) := by decide +kernel
theorem dX1_cost_28 : decode cX1_cost 28 = .ok (.iaload, 1) := by decide +kernel
theorem dX1_cost_29 : decode cX1_cost 29 = .ok (.iconst 5, 1) := by decide +kernel
theorem dX1_cost_30 : decode cX1_cost 30 = .ok (.if_icmp .ne 7, 3) := by decide +kernel
theorem dX1_cost_33 : decode cX1_cost 33 = .ok (.iconst 3, 1) := by decide +kernel
theorem dX1_cost_34 : decode cX1_cost 34 = .ok (.goto 4, 3) := by decide +kernel
theorem dX1_cost_37 : decode cX1_cost 37 = .ok (.iconst 1, 1) := by decide +kernel
theorem dX1_cost_38 : decode cX1_cost 38 = .ok (.ireturn, 1) := by decide +kernel
abbrev cX1_carryOut : ByteArray := prog_3_method_18_code
def yX1_carryOut : MethodName := ⟨RX1, "carryOut", "()V"⟩
theorem dX1_carryOut_0 : decode cX1_carryOut 0 = .ok (.aload_n 0, 1) := by decide +kernel
theorem dX1_carryOut_1 : decode cX1_carryOut 1 = .ok (.getfield 7, 3) := by decide +kernel
theorem dX1_carryOut_4 : decode cX1_carryOut 4 = .ok (.aload_n 0, 1) := by decide +kernel
theorem dX1_carryOut_5 : decode cX1_carryOut 5 = .ok (.getfield 63, 3) := by decide +kernel
theorem dX1_carryOut_8 : decode cX1_carryOut 8 = .ok (.iaload, 1) := by decide +kernel
theorem dX1_carryOut_9 : decode cX1_carryOut 9 = .ok (.istore_n 1, 1) := by decide +kernel
theorem dX1_carryOut_10 : decode cX1_carryOut 10 = .ok (.aload_n 0, 1) := by decide +kernel
theorem dX1_carryOut_11 : decode cX1_carryOut 11 = .ok (.getfield 13, 3) := by decide +kernel
theorem dX1_carryOut_14 : decode cX1_carryOut 14 = .ok (.aload_n 0, 1) := by decide +kernel
theorem dX1_carryOut_15 : decode cX1_carryOut 15 = .ok (.getfield 63, 3) := by decide +kernel
theorem dX1_carryOut_18 : decode cX1_carryOut 18 = .ok (.iaload, 1) := by decide +kernel
theorem dX1_carryOut_19 : decode cX1_carryOut 19 = .ok (.istore_n 2, 1) := by decide +kernel
theorem dX1_carryOut_20 : decode cX1_carryOut 20 = .ok (.aload_n 0, 1) := by decide +kernel
theorem dX1_carryOut_21 : decode cX1_carryOut 21 = .ok (.getfield 63, 3) := by decide +kernel
theorem dX1_carryOut_24 : decode cX1_carryOut 24 = .ok (.iconst 1, 1) := by decide +kernel
theorem dX1_carryOut_25 : decode cX1_carryOut 25 = .ok (.iadd, 1) := by decide +kernel
theorem dX1_carryOut_26 : decode cX1_carryOut 26 = .ok (.istore_n 3, 1) := by decide +kernel
theorem dX1_carryOut_27 : decode cX1_carryOut 27 = .ok (.iload_n 1, 1) := by decide +kernel
theorem dX1_carryOut_28 : decode cX1_carryOut 28 = .ok (.ifCond .ne 11, 3) := by decide +kernel
theorem dX1_carryOut_31 : decode cX1_carryOut 31 = .ok (.aload_n 0, 1) := by decide +kernel
theorem dX1_carryOut_32 : decode cX1_carryOut 32 = .ok (.iload_n 2, 1) := by decide +kernel
theorem dX1_carryOut_33 : decode cX1_carryOut 33 = .ok (.invokevirtual 76, 3) := by decide +kernel
theorem dX1_carryOut_36 : decode cX1_carryOut 36 = .ok (.goto 161, 3) := by decide +kernel
theorem dX1_carryOut_39 : decode cX1_carryOut 39 = .ok (.iload_n 1, 1) := by decide +kernel
theorem dX1_carryOut_40 : decode cX1_carryOut 40 = .ok (.iconst 1, 1) := by decide +kernel
theorem dX1_carryOut_41 : decode cX1_carryOut 41 = .ok (.if_icmp .ne 27, 3) := by decide +kernel
theorem dX1_carryOut_44 : decode cX1_carryOut 44 = .ok (.aload_n 0, 1) := by decide +kernel
theorem dX1_carryOut_45 : decode cX1_carryOut 45 = .ok (.aload_n 0, 1) := by decide +kernel
theorem dX1_carryOut_46 : decode cX1_carryOut 46 = .ok (.getfield 32, 3) := by decide +kernel
theorem dX1_carryOut_49 : decode cX1_carryOut 49 = .ok (.ifCond .le 12, 3) := by decide +kernel
theorem dX1_carryOut_52 : decode cX1_carryOut 52 = .ok (.aload_n 0, 1) := by decide +kernel
theorem dX1_carryOut_53 : decode cX1_carryOut 53 = .ok (.getfield 32, 3) := by decide +kernel
theorem dX1_carryOut_56 : decode cX1_carryOut 56 = .ok (.iconst 1, 1) := by decide +kernel
theorem dX1_carryOut_57 : decode cX1_carryOut 57 = .ok (.isub, 1) := by decide +kernel
theorem dX1_carryOut_58 : decode cX1_carryOut 58 = .ok (.goto 4, 3) := by decide +kernel
theorem dX1_carryOut_61 : decode cX1_carryOut 61 = .ok (.iconst 0, 1) := by decide +kernel
theorem dX1_carryOut_62 : decode cX1_carryOut 62 = .ok (.putfield 32, 3) := by decide +kernel
theorem dX1_carryOut_65 : decode cX1_carryOut 65 = .ok (.goto 132, 3) := by decide +kernel
theorem dX1_carryOut_68 : decode cX1_carryOut 68 = .ok (.iload_n 1, 1) := by decide +kernel
theorem dX1_carryOut_69 : decode cX1_carryOut 69 = .ok (.iconst 2, 1) := by decide +kernel
theorem dX1_carryOut_70 : decode cX1_carryOut 70 = .ok (.if_icmp .ne 19, 3) := by decide +kernel
theorem dX1_carryOut_73 : decode cX1_carryOut 73 = .ok (.aload_n 0, 1) := by decide +kernel
theorem dX1_carryOut_74 : decode cX1_carryOut 74 = .ok (.iconst 0, 1) := by decide +kernel
theorem dX1_carryOut_75 : decode cX1_carryOut 75 = .ok (.invokevirtual 80, 3) := by decide +kernel
theorem dX1_carryOut_78 : decode cX1_carryOut 78 = .ok (.istore 4, 2) := by decide +kernel
theorem dX1_carryOut_80 : decode cX1_carryOut 80 = .ok (.aload_n 0, 1) := by decide +kernel
theorem dX1_carryOut_81 : decode cX1_carryOut 81 = .ok (.iload 4, 2) := by decide +kernel
theorem dX1_carryOut_83 : decode cX1_carryOut 83 = .ok (.invokevirtual 76, 3) := by decide +kernel
theorem dX1_carryOut_86 : decode cX1_carryOut 86 = .ok (.goto 111, 3) := by decide +kernel
theorem dX1_carryOut_89 : decode cX1_carryOut 89 = .ok (.iload_n 1, 1) := by decide +kernel
theorem dX1_carryOut_90 : decode cX1_carryOut 90 = .ok (.bipush 7, 2) := by decide +kernel
theorem dX1_carryOut_92 : decode cX1_carryOut 92 = .ok (.if_icmp .gt 11, 3) := by decide +kernel
theorem dX1_carryOut_95 : decode cX1_carryOut 95 = .ok (.aload_n 0, 1) := by decide +kernel
theorem dX1_carryOut_96 : decode cX1_carryOut 96 = .ok (.iload_n 1, 1) := by decide +kernel
theorem dX1_carryOut_97 : decode cX1_carryOut 97 = .ok (.invokevirtual 83, 3) := by decide +kernel
theorem dX1_carryOut_100 : decode cX1_carryOut 100 = .ok (.goto 97, 3) := by decide +kernel
theorem dX1_carryOut_103 : decode cX1_carryOut 103 = .ok (.iload_n 1, 1) := by decide +kernel
theorem dX1_carryOut_104 : decode cX1_carryOut 104 = .ok (.bipush 8, 2) := by decide +kernel
theorem dX1_carryOut_106 : decode cX1_carryOut 106 = .ok (.if_icmp .ne 8, 3) := by decide +kernel
theorem dX1_carryOut_109 : decode cX1_carryOut 109 = .ok (.iload_n 2, 1) := by decide +kernel
theorem dX1_carryOut_110 : decode cX1_carryOut 110 = .ok (.istore_n 3, 1) := by decide +kernel
theorem dX1_carryOut_111 : decode cX1_carryOut 111 = .ok (.goto 86, 3) := by decide +kernel
theorem dX1_carryOut_114 : decode cX1_carryOut 114 = .ok (.iload_n 1, 1) := by decide +kernel
theorem dX1_carryOut_115 : decode cX1_carryOut 115 = .ok (.bipush 9, 2) := by decide +kernel
theorem dX1_carryOut_117 : decode cX1_carryOut 117 = .ok (.if_icmp .ne 19, 3) := by decide +kernel
theorem dX1_carryOut_120 : decode cX1_carryOut 120 = .ok (.aload_n 0, 1) := by decide +kernel
theorem dX1_carryOut_121 : decode cX1_carryOut 121 = .ok (.invokevirtual 86, 3) := by decide +kernel
theorem dX1_carryOut_124 : decode cX1_carryOut 124 = .ok (.ifCond .ne 7, 3) := by decide +kernel
theorem dX1_carryOut_127 : decode cX1_carryOut 127 = .ok (.iload_n 2, 1) := by decide +kernel
theorem dX1_carryOut_128 : decode cX1_carryOut 128 = .ok (.goto 4, 3) := by decide +kernel
theorem dX1_carryOut_131 : decode cX1_carryOut 131 = .ok (.iload_n 3, 1) := by decide +kernel
theorem dX1_carryOut_132 : decode cX1_carryOut 132 = .ok (.istore_n 3, 1) := by decide +kernel
theorem dX1_carryOut_133 : decode cX1_carryOut 133 = .ok (.goto 64, 3) := by decide +kernel
theorem dX1_carryOut_136 : decode cX1_carryOut 136 = .ok (.iload_n 1, 1) := by decide +kernel
theorem dX1_carryOut_137 : decode cX1_carryOut 137 = .ok (.bipush 10, 2) := by decide +kernel
theorem dX1_carryOut_139 : decode cX1_carryOut 139 = .ok (.if_icmp .ne 19, 3) := by decide +kernel
theorem dX1_carryOut_142 : decode cX1_carryOut 142 = .ok (.aload_n 0, 1) := by decide +kernel
theorem dX1_carryOut_143 : decode cX1_carryOut 143 = .ok (.invokevirtual 86, 3) := by decide +kernel
theorem dX1_carryOut_146 : decode cX1_carryOut 146 = .ok (.ifCond .le 7, 3) := by decide +kernel
theorem dX1_carryOut_149 : decode cX1_carryOut 149 = .ok (.iload_n 2, 1) := by decide +kernel
theorem dX1_carryOut_150 : decode cX1_carryOut 150 = .ok (.goto 4, 3) := by decide +kernel
theorem dX1_carryOut_153 : decode cX1_carryOut 153 = .ok (.iload_n 3, 1) := by decide +kernel
theorem dX1_carryOut_154 : decode cX1_carryOut 154 = .ok (.istore_n 3, 1) := by decide +kernel
theorem dX1_carryOut_155 : decode cX1_carryOut 155 = .ok (.goto 42, 3) := by decide +kernel
theorem dX1_carryOut_158 : decode cX1_carryOut 158 = .ok (.iload_n 1, 1) := by decide +kernel
theorem dX1_carryOut_159 : decode cX1_carryOut 159 = .ok (.bipush 11, 2) := by decide +kernel
theorem dX1_carryOut_161 : decode cX1_carryOut 161 = .ok (.if_icmp .ne 18, 3) := by decide +kernel
theorem dX1_carryOut_164 : decode cX1_carryOut 164 = .ok (.aload_n 0, 1) := by decide +kernel
theorem dX1_carryOut_165 : decode cX1_carryOut 165 = .ok (.aload_n 0, 1) := by decide +kernel
theorem dX1_carryOut_166 : decode cX1_carryOut 166 = .ok (.getfield 16, 3) := by decide +kernel
theorem dX1_carryOut_169 : decode cX1_carryOut 169 = .ok (.iload_n 2, 1) := by decide +kernel
theorem dX1_carryOut_170 : decode cX1_carryOut 170 = .ok (.iconst 3, 1) := by decide +kernel
theorem dX1_carryOut_171 : decode cX1_carryOut 171 = .ok (.iand, 1) := by decide +kernel
theorem dX1_carryOut_172 : decode cX1_carryOut 172 = .ok (.iaload, 1) := by decide +kernel
theorem dX1_carryOut_173 : decode cX1_carryOut 173 = .ok (.invokevirtual 76, 3) := by decide +kernel
theorem dX1_carryOut_176 : decode cX1_carryOut 176 = .ok (.goto 21, 3) := by decide +kernel
theorem dX1_carryOut_179 : decode cX1_carryOut 179 = .ok (.iload_n 1, 1) := by decide +kernel
theorem dX1_carryOut_180 : decode cX1_carryOut 180 = .ok (.bipush 12, 2) := by decide +kernel
theorem dX1_carryOut_182 : decode cX1_carryOut 182 = .ok (.if_icmp .ne 15, 3) := by decide +kernel
theorem dX1_carryOut_185 : decode cX1_carryOut 185 = .ok (.aload_n 0, 1) := by decide +kernel
theorem dX1_carryOut_186 : decode cX1_carryOut 186 = .ok (.getfield 16, 3) := by decide +kernel
theorem dX1_carryOut_189 : decode cX1_carryOut 189 = .ok (.iload_n 2, 1) := by decide +kernel
theorem dX1_carryOut_190 : decode cX1_carryOut 190 = .ok (.iconst 3, 1) := by decide +kernel
theorem dX1_carryOut_191 : decode cX1_carryOut 191 = .ok (.iand, 1) := by decide +kernel
theorem dX1_carryOut_192 : decode cX1_carryOut 192 = .ok (.aload_n 0, 1) := by decide +kernel
theorem dX1_carryOut_193 : decode cX1_carryOut 193 = .ok (.invokevirtual 86, 3) := by decide +kernel
theorem dX1_carryOut_196 : decode cX1_carryOut 196 = .ok (.iastore, 1) := by decide +kernel
theorem dX1_carryOut_197 : decode cX1_carryOut 197 = .ok (.aload_n 0, 1) := by decide +kernel
theorem dX1_carryOut_198 : decode cX1_carryOut 198 = .ok (.iload_n 3, 1) := by decide +kernel
theorem dX1_carryOut_199 : decode cX1_carryOut 199 = .ok (.putfield 63, 3) := by decide +kernel
theorem dX1_carryOut_202 : decode cX1_carryOut 202 = .ok (.return_, 1) := by decide +kernel
abbrev cX1_put : ByteArray := prog_3_method_16_code
def yX1_put : MethodName := ⟨RX1, "put", "(I)V"⟩
theorem dX1_put_0 : decode cX1_put 0 = .ok (.aload_n 0, 1) := by decide +kernel
theorem dX1_put_1 : decode cX1_put 1 = .ok (.getfield 32, 3) := by decide +kernel
theorem dX1_put_4 : decode cX1_put 4 = .ok (.bipush 16, 2) := by decide +kernel
theorem dX1_put_6 : decode cX1_put 6 = .ok (.if_icmp .ge 23, 3) := by decide +kernel
theorem dX1_put_9 : decode cX1_put 9 = .ok (.aload_n 0, 1) := by decide +kernel
theorem dX1_put_10 : decode cX1_put 10 = .ok (.getfield 22, 3) := by decide +kernel
theorem dX1_put_13 : decode cX1_put 13 = .ok (.aload_n 0, 1) := by decide +kernel
theorem dX1_put_14 : decode cX1_put 14 = .ok (.getfield 32, 3) := by decide +kernel
theorem dX1_put_17 : decode cX1_put 17 = .ok (.iload_n 1, 1) := by decide +kernel
theorem dX1_put_18 : decode cX1_put 18 = .ok (.iastore, 1) := by decide +kernel
theorem dX1_put_19 : decode cX1_put 19 = .ok (.aload_n 0, 1) := by decide +kernel
theorem dX1_put_20 : decode cX1_put 20 = .ok (.aload_n 0, 1) := by decide +kernel
theorem dX1_put_21 : decode cX1_put 21 = .ok (.getfield 32, 3) := by decide +kernel
theorem dX1_put_24 : decode cX1_put 24 = .ok (.iconst 1, 1) := by decide +kernel
theorem dX1_put_25 : decode cX1_put 25 = .ok (.iadd, 1) := by decide +kernel
theorem dX1_put_26 : decode cX1_put 26 = .ok (.putfield 32, 3) := by decide +kernel
theorem dX1_put_29 : decode cX1_put 29 = .ok (.return_, 1) := by decide +kernel
abbrev cX1_top : ByteArray := prog_3_method_26_code
def yX1_top : MethodName := ⟨RX1, "top", "(I)I"⟩
theorem dX1_top_0 : decode cX1_top 0 = .ok (.iload_n 1, 1) := by decide +kernel
theorem dX1_top_1 : decode cX1_top 1 = .ok (.ifCond .lt 11, 3) := by decide +kernel
theorem dX1_top_4 : decode cX1_top 4 = .ok (.iload_n 1, 1) := by decide +kernel
theorem dX1_top_5 : decode cX1_top 5 = .ok (.aload_n 0, 1) := by decide +kernel
theorem dX1_top_6 : decode cX1_top 6 = .ok (.getfield 32, 3) := by decide +kernel
theorem dX1_top_9 : decode cX1_top 9 = .ok (.if_icmp .lt 7, 3) := by decide +kernel
theorem dX1_top_12 : decode cX1_top 12 = .ok (.iconst 0, 1) := by decide +kernel
theorem dX1_top_13 : decode cX1_top 13 = .ok (.goto 16, 3) := by decide +kernel
theorem dX1_top_16 : decode cX1_top 16 = .ok (.aload_n 0, 1) := by decide +kernel
theorem dX1_top_17 : decode cX1_top 17 = .ok (.getfield 22, 3) := by decide +kernel
theorem dX1_top_20 : decode cX1_top 20 = .ok (.aload_n 0, 1) := by decide +kernel
theorem dX1_top_21 : decode cX1_top 21 = .ok (.getfield 32, 3) := by decide +kernel
theorem dX1_top_24 : decode cX1_top 24 = .ok (.iconst 1, 1) := by decide +kernel
theorem dX1_top_25 : decode cX1_top 25 = .ok (.isub, 1) := by decide +kernel
theorem dX1_top_26 : decode cX1_top 26 = .ok (.iload_n 1, 1) := by decide +kernel
theorem dX1_top_27 : decode cX1_top 27 = .ok (.isub, 1) := by decide +kernel
theorem dX1_top_28 : decode cX1_top 28 = .ok (.iaload, 1) := by decide +kernel
theorem dX1_top_29 : decode cX1_top 29 = .ok (.ireturn, 1) := by decide +kernel
abbrev cX1_two : ByteArray := prog_3_method_19_code
def yX1_two : MethodName := ⟨RX1, "two", "(I)V"⟩
theorem dX1_two_0 : decode cX1_two 0 = .ok (.aload_n 0, 1) := by decide +kernel
theorem dX1_two_1 : decode cX1_two 1 = .ok (.invokevirtual 86, 3) := by decide +kernel
theorem dX1_two_4 : decode cX1_two 4 = .ok (.istore_n 2, 1) := by decide +kernel
theorem dX1_two_5 : decode cX1_two 5 = .ok (.aload_n 0, 1) := by decide +kernel
theorem dX1_two_6 : decode cX1_two 6 = .ok (.invokevirtual 86, 3) := by decide +kernel
theorem dX1_two_9 : decode cX1_two 9 = .ok (.istore_n 3, 1) := by decide +kernel
theorem dX1_two_10 : decode cX1_two 10 = .ok (.iload_n 1, 1) := by decide +kernel
theorem dX1_two_11 : decode cX1_two 11 = .ok (.iconst 3, 1) := by decide +kernel
theorem dX1_two_12 : decode cX1_two 12 = .ok (.if_icmp .ne 13, 3) := by decide +kernel
theorem dX1_two_15 : decode cX1_two 15 = .ok (.aload_n 0, 1) := by decide +kernel
theorem dX1_two_16 : decode cX1_two 16 = .ok (.iload_n 3, 1) := by decide +kernel
theorem dX1_two_17 : decode cX1_two 17 = .ok (.iload_n 2, 1) := by decide +kernel
theorem dX1_two_18 : decode cX1_two 18 = .ok (.iadd, 1) := by decide +kernel
theorem dX1_two_19 : decode cX1_two 19 = .ok (.invokevirtual 76, 3) := by decide +kernel
theorem dX1_two_22 : decode cX1_two 22 = .ok (.goto 67, 3) := by decide +kernel
theorem dX1_two_25 : decode cX1_two 25 = .ok (.iload_n 1, 1) := by decide +kernel
theorem dX1_two_26 : decode cX1_two 26 = .ok (.iconst 4, 1) := by decide +kernel
theorem dX1_two_27 : decode cX1_two 27 = .ok (.if_icmp .ne 13, 3) := by decide +kernel
theorem dX1_two_30 : decode cX1_two 30 = .ok (.aload_n 0, 1) := by decide +kernel
theorem dX1_two_31 : decode cX1_two 31 = .ok (.iload_n 3, 1) := by decide +kernel
theorem dX1_two_32 : decode cX1_two 32 = .ok (.iload_n 2, 1) := by decide +kernel
theorem dX1_two_33 : decode cX1_two 33 = .ok (.isub, 1) := by decide +kernel
theorem dX1_two_34 : decode cX1_two 34 = .ok (.invokevirtual 76, 3) := by decide +kernel
theorem dX1_two_37 : decode cX1_two 37 = .ok (.goto 52, 3) := by decide +kernel
theorem dX1_two_40 : decode cX1_two 40 = .ok (.iload_n 1, 1) := by decide +kernel
theorem dX1_two_41 : decode cX1_two 41 = .ok (.iconst 5, 1) := by decide +kernel
theorem dX1_two_42 : decode cX1_two 42 = .ok (.if_icmp .ne 13, 3) := by decide +kernel
theorem dX1_two_45 : decode cX1_two 45 = .ok (.aload_n 0, 1) := by decide +kernel
theorem dX1_two_46 : decode cX1_two 46 = .ok (.iload_n 3, 1) := by decide +kernel
theorem dX1_two_47 : decode cX1_two 47 = .ok (.iload_n 2, 1) := by decide +kernel
theorem dX1_two_48 : decode cX1_two 48 = .ok (.imul, 1) := by decide +kernel
theorem dX1_two_49 : decode cX1_two 49 = .ok (.invokevirtual 76, 3) := by decide +kernel
theorem dX1_two_52 : decode cX1_two 52 = .ok (.goto 37, 3) := by decide +kernel
theorem dX1_two_55 : decode cX1_two 55 = .ok (.iload_n 1, 1) := by decide +kernel
theorem dX1_two_56 : decode cX1_two 56 = .ok (.bipush 6, 2) := by decide +kernel
theorem dX1_two_58 : decode cX1_two 58 = .ok (.if_icmp .ne 16, 3) := by decide +kernel
theorem dX1_two_61 : decode cX1_two 61 = .ok (.aload_n 0, 1) := by decide +kernel
theorem dX1_two_62 : decode cX1_two 62 = .ok (.iload_n 2, 1) := by decide +kernel
theorem dX1_two_63 : decode cX1_two 63 = .ok (.invokevirtual 76, 3) := by decide +kernel
theorem dX1_two_66 : decode cX1_two 66 = .ok (.aload_n 0, 1) := by decide +kernel
theorem dX1_two_67 : decode cX1_two 67 = .ok (.iload_n 3, 1) := by decide +kernel
theorem dX1_two_68 : decode cX1_two 68 = .ok (.invokevirtual 76, 3) := by decide +kernel
theorem dX1_two_71 : decode cX1_two 71 = .ok (.goto 18, 3) := by decide +kernel
theorem dX1_two_74 : decode cX1_two 74 = .ok (.aload_n 0, 1) := by decide +kernel
theorem dX1_two_75 : decode cX1_two 75 = .ok (.iload_n 3, 1) := by decide +kernel
theorem dX1_two_76 : decode cX1_two 76 = .ok (.invokevirtual 76, 3) := by decide +kernel
theorem dX1_two_79 : decode cX1_two 79 = .ok (.aload_n 0, 1) := by decide +kernel
theorem dX1_two_80 : decode cX1_two 80 = .ok (.iload_n 2, 1) := by decide +kernel
theorem dX1_two_81 : decode cX1_two 81 = .ok (.invokevirtual 76, 3) := by decide +kernel
theorem dX1_two_84 : decode cX1_two 84 = .ok (.aload_n 0, 1) := by decide +kernel
theorem dX1_two_85 : decode cX1_two 85 = .ok (.iload_n 3, 1) := by decide +kernel
theorem dX1_two_86 : decode cX1_two 86 = .ok (.invokevirtual 76, 3) := by decide +kernel
theorem dX1_two_89 : decode cX1_two 89 = .ok (.return_, 1) := by decide +kernel
abbrev cX1_take : ByteArray := prog_3_method_17_code
def yX1_take : MethodName := ⟨RX1, "take", "()I"⟩
theorem dX1_take_0 : decode cX1_take 0 = .ok (.aload_n 0, 1) := by decide +kernel
theorem dX1_take_1 : decode cX1_take 1 = .ok (.getfield 32, 3) := by decide +kernel
theorem dX1_take_4 : decode cX1_take 4 = .ok (.ifCond .ne 5, 3) := by decide +kernel
theorem dX1_take_7 : decode cX1_take 7 = .ok (.iconst 0, 1) := by decide +kernel
theorem dX1_take_8 : decode cX1_take 8 = .ok (.ireturn, 1) := by decide +kernel
theorem dX1_take_9 : decode cX1_take 9 = .ok (.aload_n 0, 1) := by decide +kernel
theorem dX1_take_10 : decode cX1_take 10 = .ok (.aload_n 0, 1) := by decide +kernel
theorem dX1_take_11 : decode cX1_take 11 = .ok (.getfield 32, 3) := by decide +kernel
theorem dX1_take_14 : decode cX1_take 14 = .ok (.iconst 1, 1) := by decide +kernel
theorem dX1_take_15 : decode cX1_take 15 = .ok (.isub, 1) := by decide +kernel
theorem dX1_take_16 : decode cX1_take 16 = .ok (.putfield 32, 3) := by decide +kernel
theorem dX1_take_19 : decode cX1_take 19 = .ok (.aload_n 0, 1) := by decide +kernel
theorem dX1_take_20 : decode cX1_take 20 = .ok (.getfield 22, 3) := by decide +kernel
theorem dX1_take_23 : decode cX1_take 23 = .ok (.aload_n 0, 1) := by decide +kernel
theorem dX1_take_24 : decode cX1_take 24 = .ok (.getfield 32, 3) := by decide +kernel
theorem dX1_take_27 : decode cX1_take 27 = .ok (.iaload, 1) := by decide +kernel
theorem dX1_take_28 : decode cX1_take 28 = .ok (.ireturn, 1) := by decide +kernel
abbrev cX1_refuel : ByteArray := prog_3_method_13_code
def yX1_refuel : MethodName := ⟨RX1, "refuel", "(I)I"⟩
theorem dX1_refuel_0 : decode cX1_refuel 0 = .ok (.aload_n 0, 1) := by decide +kernel
theorem dX1_refuel_1 : decode cX1_refuel 1 = .ok (.getfield 25, 3) := by decide +kernel
theorem dX1_refuel_4 : decode cX1_refuel 4 = .ok (.iconst 2, 1) := by decide +kernel
theorem dX1_refuel_5 : decode cX1_refuel 5 = .ok (.if_icmp .ne 31, 3) := by decide +kernel
theorem dX1_refuel_8 : decode cX1_refuel 8 = .ok (.aload_n 0, 1) := by decide +kernel
theorem dX1_refuel_9 : decode cX1_refuel 9 = .ok (.iload_n 1, 1) := by decide +kernel
theorem dX1_refuel_10 : decode cX1_refuel 10 = .ok (.invokevirtual 60, 3) := by decide +kernel
theorem dX1_refuel_13 : decode cX1_refuel 13 = .ok (.istore_n 2, 1) := by decide +kernel
theorem dX1_refuel_14 : decode cX1_refuel 14 = .ok (.aload_n 0, 1) := by decide +kernel
theorem dX1_refuel_15 : decode cX1_refuel 15 = .ok (.aload_n 0, 1) := by decide +kernel
theorem dX1_refuel_16 : decode cX1_refuel 16 = .ok (.aload_n 0, 1) := by decide +kernel
theorem dX1_refuel_17 : decode cX1_refuel 17 = .ok (.getfield 29, 3) := by decide +kernel
theorem dX1_refuel_20 : decode cX1_refuel 20 = .ok (.iload_n 2, 1) := by decide +kernel
theorem dX1_refuel_21 : decode cX1_refuel 21 = .ok (.iadd, 1) := by decide +kernel
theorem dX1_refuel_22 : decode cX1_refuel 22 = .ok (.sipush 2000, 3) := by decide +kernel
theorem dX1_refuel_25 : decode cX1_refuel 25 = .ok (.invokevirtual 52, 3) := by decide +kernel
theorem dX1_refuel_28 : decode cX1_refuel 28 = .ok (.putfield 29, 3) := by decide +kernel
theorem dX1_refuel_31 : decode cX1_refuel 31 = .ok (.aload_n 0, 1) := by decide +kernel
theorem dX1_refuel_32 : decode cX1_refuel 32 = .ok (.invokevirtual 66, 3) := by decide +kernel
theorem dX1_refuel_35 : decode cX1_refuel 35 = .ok (.ireturn, 1) := by decide +kernel
theorem dX1_refuel_36 : decode cX1_refuel 36 = .ok (.aload_n 0, 1) := by decide +kernel
theorem dX1_refuel_37 : decode cX1_refuel 37 = .ok (.getfield 25, 3) := by decide +kernel
theorem dX1_refuel_40 : decode cX1_refuel 40 = .ok (.ireturn, 1) := by decide +kernel
abbrev cX1_height : ByteArray := prog_3_method_21_code
def yX1_height : MethodName := ⟨RX1, "height", "(I)I"⟩
theorem dX1_height_0 : decode cX1_height 0 = .ok (.aload_n 0, 1) := by decide +kernel
theorem dX1_height_1 : decode cX1_height 1 = .ok (.invokevirtual 56, 3) := by decide +kernel
theorem dX1_height_4 : decode cX1_height 4 = .ok (.ifCond .eq 24, 3) := by decide +kernel
theorem dX1_height_7 : decode cX1_height 7 = .ok (.iload_n 1, 1) := by decide +kernel
theorem dX1_height_8 : decode cX1_height 8 = .ok (.ifCond .lt 20, 3) := by decide +kernel
theorem dX1_height_11 : decode cX1_height 11 = .ok (.iload_n 1, 1) := by decide +kernel
theorem dX1_height_12 : decode cX1_height 12 = .ok (.aload_n 0, 1) := by decide +kernel
theorem dX1_height_13 : decode cX1_height 13 = .ok (.getfield 35, 3) := by decide +kernel
theorem dX1_height_16 : decode cX1_height 16 = .ok (.if_icmp .ge 12, 3) := by decide +kernel
theorem dX1_height_19 : decode cX1_height 19 = .ok (.aload_n 0, 1) := by decide +kernel
theorem dX1_height_20 : decode cX1_height 20 = .ok (.getfield 19, 3) := by decide +kernel
theorem dX1_height_23 : decode cX1_height 23 = .ok (.iload_n 1, 1) := by decide +kernel
theorem dX1_height_24 : decode cX1_height 24 = .ok (.iaload, 1) := by decide +kernel
theorem dX1_height_25 : decode cX1_height 25 = .ok (.ifCond .ge 6, 3) := by decide +kernel
theorem dX1_height_28 : decode cX1_height 28 = .ok (.bipush (-4), 2) := by decide +kernel
theorem dX1_height_30 : decode cX1_height 30 = .ok (.ireturn, 1) := by decide +kernel
theorem dX1_height_31 : decode cX1_height 31 = .ok (.aload_n 0, 1) := by decide +kernel
theorem dX1_height_32 : decode cX1_height 32 = .ok (.getfield 19, 3) := by decide +kernel
theorem dX1_height_35 : decode cX1_height 35 = .ok (.iload_n 1, 1) := by decide +kernel
theorem dX1_height_36 : decode cX1_height 36 = .ok (.iaload, 1) := by decide +kernel
theorem dX1_height_37 : decode cX1_height 37 = .ok (.ireturn, 1) := by decide +kernel
abbrev cX1_state : ByteArray := prog_3_method_22_code
def yX1_state : MethodName := ⟨RX1, "state", "()I"⟩
theorem dX1_state_0 : decode cX1_state 0 = .ok (.aload_n 0, 1) := by decide +kernel
theorem dX1_state_1 : decode cX1_state 1 = .ok (.getfield 25, 3) := by decide +kernel
theorem dX1_state_4 : decode cX1_state 4 = .ok (.ireturn, 1) := by decide +kernel
abbrev cX1_fuel : ByteArray := prog_3_method_23_code
def yX1_fuel : MethodName := ⟨RX1, "fuel", "()I"⟩
theorem dX1_fuel_0 : decode cX1_fuel 0 = .ok (.aload_n 0, 1) := by decide +kernel
theorem dX1_fuel_1 : decode cX1_fuel 1 = .ok (.getfield 29, 3) := by decide +kernel
theorem dX1_fuel_4 : decode cX1_fuel 4 = .ok (.ireturn, 1) := by decide +kernel
abbrev cX1_place : ByteArray := prog_3_method_24_code
def yX1_place : MethodName := ⟨RX1, "place", "()I"⟩
theorem dX1_place_0 : decode cX1_place 0 = .ok (.aload_n 0, 1) := by decide +kernel
theorem dX1_place_1 : decode cX1_place 1 = .ok (.getfield 25, 3) := by decide +kernel
theorem dX1_place_4 : decode cX1_place 4 = .ok (.ifCond .ne 8, 3) := by decide +kernel
theorem dX1_place_7 : decode cX1_place 7 = .ok (.bipush (-4), 2) := by decide +kernel
theorem dX1_place_9 : decode cX1_place 9 = .ok (.goto 7, 3) := by decide +kernel
theorem dX1_place_12 : decode cX1_place 12 = .ok (.aload_n 0, 1) := by decide +kernel
theorem dX1_place_13 : decode cX1_place 13 = .ok (.getfield 63, 3) := by decide +kernel
theorem dX1_place_16 : decode cX1_place 16 = .ok (.ireturn, 1) := by decide +kernel
abbrev cX1_depth : ByteArray := prog_3_method_25_code
def yX1_depth : MethodName := ⟨RX1, "depth", "()I"⟩
theorem dX1_depth_0 : decode cX1_depth 0 = .ok (.aload_n 0, 1) := by decide +kernel
theorem dX1_depth_1 : decode cX1_depth 1 = .ok (.getfield 32, 3) := by decide +kernel
theorem dX1_depth_4 : decode cX1_depth 4 = .ok (.ireturn, 1) := by decide +kernel
abbrev cX1_get : ByteArray := prog_3_method_27_code
def yX1_get : MethodName := ⟨RX1, "get", "(I)I"⟩
theorem dX1_get_0 : decode cX1_get 0 = .ok (.aload_n 0, 1) := by decide +kernel
theorem dX1_get_1 : decode cX1_get 1 = .ok (.getfield 16, 3) := by decide +kernel
theorem dX1_get_4 : decode cX1_get 4 = .ok (.iload_n 1, 1) := by decide +kernel
theorem dX1_get_5 : decode cX1_get 5 = .ok (.iconst 3, 1) := by decide +kernel
theorem dX1_get_6 : decode cX1_get 6 = .ok (.iand, 1) := by decide +kernel
theorem dX1_get_7 : decode cX1_get 7 = .ok (.iaload, 1) := by decide +kernel
theorem dX1_get_8 : decode cX1_get 8 = .ok (.ireturn, 1) := by decide +kernel
theorem q28 : (Jvm.Cond.initialized "FuelGateModel") ∈ lw_all := lw_g (lw_at lw_m1 2 rfl) rfl
theorem q208 : (Jvm.Cond.instantiable "FuelGateModel" (10 : Nat)) ∈ lw_all := lw_g (lw_at lw_m1 182 rfl) rfl
theorem q210 : (Jvm.Cond.instanceMethod ({ cls := "FuelGateModel", name := "<init>", desc := "()V" } : Jvm.MethodName)) ∈ lw_all := lw_g (lw_at lw_m1 184 rfl) rfl
theorem q211 : (Jvm.Cond.code ({ cls := "FuelGateModel", name := "<init>", desc := "()V" } : Jvm.MethodName) prog_3_method_1_code (1 : Nat) (Option.none : Option Jvm.ClassFile.FieldType)) ∈ lw_all := lw_g (lw_at lw_m1 185 rfl) rfl
theorem q212 : (Jvm.Cond.methodLink "FuelGateModel" (1 : Nat) ({ cls := "java/lang/Object", name := "<init>", desc := "()V" } : Jvm.MethodName)) ∈ lw_all := lw_g (lw_at lw_m1 186 rfl) rfl
theorem q213 : (Jvm.Cond.fieldLink "FuelGateModel" (35 : Nat) "FuelGateModel" "size" "I") ∈ lw_all := lw_g (lw_at lw_m1 187 rfl) rfl
theorem q214 : (Jvm.Cond.fieldLink "FuelGateModel" (7 : Nat) "FuelGateModel" "ops" "[I") ∈ lw_all := lw_g (lw_at lw_m1 188 rfl) rfl
theorem q215 : (Jvm.Cond.fieldLink "FuelGateModel" (13 : Nat) "FuelGateModel" "cs" "[I") ∈ lw_all := lw_g (lw_at lw_m1 189 rfl) rfl
theorem q216 : (Jvm.Cond.fieldLink "FuelGateModel" (16 : Nat) "FuelGateModel" "cells" "[I") ∈ lw_all := lw_g (lw_at lw_m1 190 rfl) rfl
theorem q217 : (Jvm.Cond.fieldLink "FuelGateModel" (19 : Nat) "FuelGateModel" "heights" "[I") ∈ lw_all := lw_g (lw_at lw_m1 191 rfl) rfl
theorem q218 : (Jvm.Cond.fieldLink "FuelGateModel" (25 : Nat) "FuelGateModel" "state" "I") ∈ lw_all := lw_g (lw_at lw_m1 192 rfl) rfl
theorem q219 : (Jvm.Cond.fieldLink "FuelGateModel" (29 : Nat) "FuelGateModel" "fuel" "I") ∈ lw_all := lw_g (lw_at lw_m1 193 rfl) rfl
theorem q220 : (Jvm.Cond.fieldLink "FuelGateModel" (63 : Nat) "FuelGateModel" "at" "I") ∈ lw_all := lw_g (lw_at lw_m1 194 rfl) rfl
theorem q221 : (Jvm.Cond.fieldLink "FuelGateModel" (32 : Nat) "FuelGateModel" "high" "I") ∈ lw_all := lw_g (lw_at lw_m1 195 rfl) rfl
theorem q222 : (Jvm.Cond.fieldLink "FuelGateModel" (22 : Nat) "FuelGateModel" "stack" "[I") ∈ lw_all := lw_g (lw_at lw_m1 196 rfl) rfl
theorem q223 : (Jvm.Cond.lays "FuelGateModel" "FuelGateModel" "size" "I") ∈ lw_all := lw_g (lw_at lw_m1 197 rfl) rfl
theorem q224 : (Jvm.Cond.soleField "FuelGateModel" "size") ∈ lw_all := lw_g (lw_at lw_m1 198 rfl) rfl
theorem q225 : (Jvm.Cond.laysFinal "FuelGateModel" "FuelGateModel" "ops" "[I") ∈ lw_all := lw_g (lw_at lw_m1 199 rfl) rfl
theorem q226 : (Jvm.Cond.soleField "FuelGateModel" "ops") ∈ lw_all := lw_g (lw_at lw_m1 200 rfl) rfl
theorem q227 : (Jvm.Cond.laysFinal "FuelGateModel" "FuelGateModel" "cs" "[I") ∈ lw_all := lw_g (lw_at lw_m1 201 rfl) rfl
theorem q228 : (Jvm.Cond.soleField "FuelGateModel" "cs") ∈ lw_all := lw_g (lw_at lw_m1 202 rfl) rfl
theorem q229 : (Jvm.Cond.laysFinal "FuelGateModel" "FuelGateModel" "cells" "[I") ∈ lw_all := lw_g (lw_at lw_m1 203 rfl) rfl
theorem q230 : (Jvm.Cond.soleField "FuelGateModel" "cells") ∈ lw_all := lw_g (lw_at lw_m1 204 rfl) rfl
theorem q231 : (Jvm.Cond.laysFinal "FuelGateModel" "FuelGateModel" "heights" "[I") ∈ lw_all := lw_g (lw_at lw_m1 205 rfl) rfl
theorem q232 : (Jvm.Cond.soleField "FuelGateModel" "heights") ∈ lw_all := lw_g (lw_at lw_m1 206 rfl) rfl
theorem q233 : (Jvm.Cond.lays "FuelGateModel" "FuelGateModel" "state" "I") ∈ lw_all := lw_g (lw_at lw_m1 207 rfl) rfl
theorem q234 : (Jvm.Cond.soleField "FuelGateModel" "state") ∈ lw_all := lw_g (lw_at lw_m1 208 rfl) rfl
theorem q235 : (Jvm.Cond.lays "FuelGateModel" "FuelGateModel" "fuel" "I") ∈ lw_all := lw_g (lw_at lw_m1 209 rfl) rfl
theorem q236 : (Jvm.Cond.soleField "FuelGateModel" "fuel") ∈ lw_all := lw_g (lw_at lw_m1 210 rfl) rfl
theorem q237 : (Jvm.Cond.lays "FuelGateModel" "FuelGateModel" "at" "I") ∈ lw_all := lw_g (lw_at lw_m1 211 rfl) rfl
theorem q238 : (Jvm.Cond.soleField "FuelGateModel" "at") ∈ lw_all := lw_g (lw_at lw_m1 212 rfl) rfl
theorem q239 : (Jvm.Cond.lays "FuelGateModel" "FuelGateModel" "high" "I") ∈ lw_all := lw_g (lw_at lw_m1 213 rfl) rfl
theorem q240 : (Jvm.Cond.soleField "FuelGateModel" "high") ∈ lw_all := lw_g (lw_at lw_m1 214 rfl) rfl
theorem q241 : (Jvm.Cond.laysFinal "FuelGateModel" "FuelGateModel" "stack" "[I") ∈ lw_all := lw_g (lw_at lw_m1 215 rfl) rfl
theorem q242 : (Jvm.Cond.soleField "FuelGateModel" "stack") ∈ lw_all := lw_g (lw_at lw_m1 216 rfl) rfl
theorem q243 : (Jvm.Cond.superclass "FuelGateModel" "java/lang/Object") ∈ lw_all := lw_g (lw_at lw_m1 217 rfl) rfl
theorem q245 : (Jvm.Cond.instanceMethod ({ cls := "FuelGateModel", name := "emit", desc := "(II)I" } : Jvm.MethodName)) ∈ lw_all := lw_g (lw_at lw_m1 219 rfl) rfl
theorem q246 : (Jvm.Cond.selects "FuelGateModel" ({ cls := "FuelGateModel", name := "emit", desc := "(II)I" } : Jvm.MethodName) ({ cls := "FuelGateModel", name := "emit", desc := "(II)I" } : Jvm.MethodName)) ∈ lw_all := lw_g (lw_at lw_m1 220 rfl) rfl
theorem q247 : (Jvm.Cond.code ({ cls := "FuelGateModel", name := "emit", desc := "(II)I" } : Jvm.MethodName) prog_3_method_3_code (3 : Nat) (Option.some Jvm.ClassFile.FieldType.int)) ∈ lw_all := lw_g (lw_at lw_m1 221 rfl) rfl
theorem q248 : (Jvm.Cond.methodLink "FuelGateModel" (38 : Nat) ({ cls := "FuelGateModel", name := "over", desc := "()V" } : Jvm.MethodName)) ∈ lw_all := lw_g (lw_at lw_m1 222 rfl) rfl
theorem q249 : (Jvm.Cond.privateMethod ({ cls := "FuelGateModel", name := "over", desc := "()V" } : Jvm.MethodName)) ∈ lw_tbl := lw_at lw_m1 223 rfl
theorem q250 : (Jvm.Cond.instanceMethod ({ cls := "FuelGateModel", name := "over", desc := "()V" } : Jvm.MethodName)) ∈ lw_all := lw_g (lw_at lw_m1 224 rfl) rfl
theorem q251 : (Jvm.Cond.code ({ cls := "FuelGateModel", name := "over", desc := "()V" } : Jvm.MethodName) prog_3_method_2_code (1 : Nat) (Option.none : Option Jvm.ClassFile.FieldType)) ∈ lw_all := lw_g (lw_at lw_m1 225 rfl) rfl
theorem q253 : (Jvm.Cond.instanceMethod ({ cls := "FuelGateModel", name := "clear", desc := "()V" } : Jvm.MethodName)) ∈ lw_all := lw_g (lw_at lw_m1 227 rfl) rfl
theorem q254 : (Jvm.Cond.selects "FuelGateModel" ({ cls := "FuelGateModel", name := "clear", desc := "()V" } : Jvm.MethodName) ({ cls := "FuelGateModel", name := "clear", desc := "()V" } : Jvm.MethodName)) ∈ lw_all := lw_g (lw_at lw_m1 228 rfl) rfl
theorem q255 : (Jvm.Cond.code ({ cls := "FuelGateModel", name := "clear", desc := "()V" } : Jvm.MethodName) prog_3_method_4_code (1 : Nat) (Option.none : Option Jvm.ClassFile.FieldType)) ∈ lw_all := lw_g (lw_at lw_m1 229 rfl) rfl
theorem q257 : (Jvm.Cond.instanceMethod ({ cls := "FuelGateModel", name := "cell", desc := "(II)I" } : Jvm.MethodName)) ∈ lw_all := lw_g (lw_at lw_m1 231 rfl) rfl
theorem q258 : (Jvm.Cond.selects "FuelGateModel" ({ cls := "FuelGateModel", name := "cell", desc := "(II)I" } : Jvm.MethodName) ({ cls := "FuelGateModel", name := "cell", desc := "(II)I" } : Jvm.MethodName)) ∈ lw_all := lw_g (lw_at lw_m1 232 rfl) rfl
theorem q259 : (Jvm.Cond.code ({ cls := "FuelGateModel", name := "cell", desc := "(II)I" } : Jvm.MethodName) prog_3_method_5_code (4 : Nat) (Option.some Jvm.ClassFile.FieldType.int)) ∈ lw_all := lw_g (lw_at lw_m1 233 rfl) rfl
theorem q261 : (Jvm.Cond.instanceMethod ({ cls := "FuelGateModel", name := "run", desc := "(I)I" } : Jvm.MethodName)) ∈ lw_all := lw_g (lw_at lw_m1 235 rfl) rfl
theorem q262 : (Jvm.Cond.selects "FuelGateModel" ({ cls := "FuelGateModel", name := "run", desc := "(I)I" } : Jvm.MethodName) ({ cls := "FuelGateModel", name := "run", desc := "(I)I" } : Jvm.MethodName)) ∈ lw_all := lw_g (lw_at lw_m1 236 rfl) rfl
theorem q263 : (Jvm.Cond.code ({ cls := "FuelGateModel", name := "run", desc := "(I)I" } : Jvm.MethodName) prog_3_method_12_code (2 : Nat) (Option.some Jvm.ClassFile.FieldType.int)) ∈ lw_all := lw_g (lw_at lw_m1 237 rfl) rfl
theorem q264 : (Jvm.Cond.methodLink "FuelGateModel" (56 : Nat) ({ cls := "FuelGateModel", name := "sound", desc := "()Z" } : Jvm.MethodName)) ∈ lw_all := lw_g (lw_at lw_m1 238 rfl) rfl
theorem q265 : (Jvm.Cond.instanceMethod ({ cls := "FuelGateModel", name := "sound", desc := "()Z" } : Jvm.MethodName)) ∈ lw_all := lw_g (lw_at lw_m1 239 rfl) rfl
theorem q266 : (Jvm.Cond.selects "FuelGateModel" ({ cls := "FuelGateModel", name := "sound", desc := "()Z" } : Jvm.MethodName) ({ cls := "FuelGateModel", name := "sound", desc := "()Z" } : Jvm.MethodName)) ∈ lw_all := lw_g (lw_at lw_m2 0 rfl) rfl
theorem q267 : (Jvm.Cond.code ({ cls := "FuelGateModel", name := "sound", desc := "()Z" } : Jvm.MethodName) prog_3_method_20_code (3 : Nat) (Option.some Jvm.ClassFile.FieldType.boolean)) ∈ lw_all := lw_g (lw_at lw_m2 1 rfl) rfl
theorem q268 : (Jvm.Cond.methodLink "FuelGateModel" (48 : Nat) ({ cls := "FuelGateModel", name := "come", desc := "(II)Z" } : Jvm.MethodName)) ∈ lw_all := lw_g (lw_at lw_m2 2 rfl) rfl
theorem q269 : (Jvm.Cond.privateMethod ({ cls := "FuelGateModel", name := "come", desc := "(II)Z" } : Jvm.MethodName)) ∈ lw_tbl := lw_at lw_m2 3 rfl
theorem q270 : (Jvm.Cond.instanceMethod ({ cls := "FuelGateModel", name := "come", desc := "(II)Z" } : Jvm.MethodName)) ∈ lw_all := lw_g (lw_at lw_m2 4 rfl) rfl
theorem q271 : (Jvm.Cond.code ({ cls := "FuelGateModel", name := "come", desc := "(II)Z" } : Jvm.MethodName) prog_3_method_8_code (3 : Nat) (Option.some Jvm.ClassFile.FieldType.boolean)) ∈ lw_all := lw_g (lw_at lw_m2 5 rfl) rfl
theorem q272 : (Jvm.Cond.methodLink "FuelGateModel" (89 : Nat) ({ cls := "FuelGateModel", name := "check", desc := "(I)Z" } : Jvm.MethodName)) ∈ lw_all := lw_g (lw_at lw_m2 6 rfl) rfl
theorem q273 : (Jvm.Cond.privateMethod ({ cls := "FuelGateModel", name := "check", desc := "(I)Z" } : Jvm.MethodName)) ∈ lw_tbl := lw_at lw_m2 7 rfl
theorem q274 : (Jvm.Cond.instanceMethod ({ cls := "FuelGateModel", name := "check", desc := "(I)Z" } : Jvm.MethodName)) ∈ lw_all := lw_g (lw_at lw_m2 8 rfl) rfl
theorem q275 : (Jvm.Cond.code ({ cls := "FuelGateModel", name := "check", desc := "(I)Z" } : Jvm.MethodName) prog_3_method_9_code (4 : Nat) (Option.some Jvm.ClassFile.FieldType.boolean)) ∈ lw_all := lw_g (lw_at lw_m2 9 rfl) rfl
theorem q276 : (Jvm.Cond.methodLink "FuelGateModel" (41 : Nat) ({ cls := "FuelGateModel", name := "change", desc := "(I)I" } : Jvm.MethodName)) ∈ lw_all := lw_g (lw_at lw_m2 10 rfl) rfl
theorem q277 : (Jvm.Cond.privateMethod ({ cls := "FuelGateModel", name := "change", desc := "(I)I" } : Jvm.MethodName)) ∈ lw_tbl := lw_at lw_m2 11 rfl
theorem q278 : (Jvm.Cond.instanceMethod ({ cls := "FuelGateModel", name := "change", desc := "(I)I" } : Jvm.MethodName)) ∈ lw_all := lw_g (lw_at lw_m2 12 rfl) rfl
theorem q279 : (Jvm.Cond.code ({ cls := "FuelGateModel", name := "change", desc := "(I)I" } : Jvm.MethodName) prog_3_method_7_code (2 : Nat) (Option.some Jvm.ClassFile.FieldType.int)) ∈ lw_all := lw_g (lw_at lw_m2 13 rfl) rfl
theorem q280 : (Jvm.Cond.methodLink "FuelGateModel" (45 : Nat) ({ cls := "FuelGateModel", name := "needs", desc := "(I)I" } : Jvm.MethodName)) ∈ lw_all := lw_g (lw_at lw_m2 14 rfl) rfl
theorem q281 : (Jvm.Cond.privateMethod ({ cls := "FuelGateModel", name := "needs", desc := "(I)I" } : Jvm.MethodName)) ∈ lw_tbl := lw_at lw_m2 15 rfl
theorem q282 : (Jvm.Cond.instanceMethod ({ cls := "FuelGateModel", name := "needs", desc := "(I)I" } : Jvm.MethodName)) ∈ lw_all := lw_g (lw_at lw_m2 16 rfl) rfl
theorem q283 : (Jvm.Cond.code ({ cls := "FuelGateModel", name := "needs", desc := "(I)I" } : Jvm.MethodName) prog_3_method_6_code (2 : Nat) (Option.some Jvm.ClassFile.FieldType.int)) ∈ lw_all := lw_g (lw_at lw_m2 17 rfl) rfl
theorem q284 : (Jvm.Cond.methodLink "FuelGateModel" (60 : Nat) ({ cls := "FuelGateModel", name := "held", desc := "(I)I" } : Jvm.MethodName)) ∈ lw_all := lw_g (lw_at lw_m2 18 rfl) rfl
theorem q285 : (Jvm.Cond.privateMethod ({ cls := "FuelGateModel", name := "held", desc := "(I)I" } : Jvm.MethodName)) ∈ lw_tbl := lw_at lw_m2 19 rfl
theorem q286 : (Jvm.Cond.instanceMethod ({ cls := "FuelGateModel", name := "held", desc := "(I)I" } : Jvm.MethodName)) ∈ lw_all := lw_g (lw_at lw_m2 20 rfl) rfl
theorem q287 : (Jvm.Cond.code ({ cls := "FuelGateModel", name := "held", desc := "(I)I" } : Jvm.MethodName) prog_3_method_11_code (2 : Nat) (Option.some Jvm.ClassFile.FieldType.int)) ∈ lw_all := lw_g (lw_at lw_m2 21 rfl) rfl
theorem q288 : (Jvm.Cond.methodLink "FuelGateModel" (52 : Nat) ({ cls := "FuelGateModel", name := "least", desc := "(II)I" } : Jvm.MethodName)) ∈ lw_all := lw_g (lw_at lw_m2 22 rfl) rfl
theorem q289 : (Jvm.Cond.privateMethod ({ cls := "FuelGateModel", name := "least", desc := "(II)I" } : Jvm.MethodName)) ∈ lw_tbl := lw_at lw_m2 23 rfl
theorem q290 : (Jvm.Cond.instanceMethod ({ cls := "FuelGateModel", name := "least", desc := "(II)I" } : Jvm.MethodName)) ∈ lw_all := lw_g (lw_at lw_m2 24 rfl) rfl
theorem q291 : (Jvm.Cond.code ({ cls := "FuelGateModel", name := "least", desc := "(II)I" } : Jvm.MethodName) prog_3_method_10_code (3 : Nat) (Option.some Jvm.ClassFile.FieldType.int)) ∈ lw_all := lw_g (lw_at lw_m2 25 rfl) rfl
theorem q292 : (Jvm.Cond.methodLink "FuelGateModel" (66 : Nat) ({ cls := "FuelGateModel", name := "goOn", desc := "()I" } : Jvm.MethodName)) ∈ lw_all := lw_g (lw_at lw_m2 26 rfl) rfl
theorem q293 : (Jvm.Cond.privateMethod ({ cls := "FuelGateModel", name := "goOn", desc := "()I" } : Jvm.MethodName)) ∈ lw_tbl := lw_at lw_m2 27 rfl
theorem q294 : (Jvm.Cond.instanceMethod ({ cls := "FuelGateModel", name := "goOn", desc := "()I" } : Jvm.MethodName)) ∈ lw_all := lw_g (lw_at lw_m2 28 rfl) rfl
theorem q295 : (Jvm.Cond.code ({ cls := "FuelGateModel", name := "goOn", desc := "()I" } : Jvm.MethodName) prog_3_method_15_code (2 : Nat) (Option.some Jvm.ClassFile.FieldType.int)) ∈ lw_all := lw_g (lw_at lw_m2 29 rfl) rfl
theorem q296 : (Jvm.Cond.methodLink "FuelGateModel" (70 : Nat) ({ cls := "FuelGateModel", name := "cost", desc := "(I)I" } : Jvm.MethodName)) ∈ lw_all := lw_g (lw_at lw_m2 30 rfl) rfl
theorem q297 : (Jvm.Cond.privateMethod ({ cls := "FuelGateModel", name := "cost", desc := "(I)I" } : Jvm.MethodName)) ∈ lw_tbl := lw_at lw_m2 31 rfl
theorem q298 : (Jvm.Cond.instanceMethod ({ cls := "FuelGateModel", name := "cost", desc := "(I)I" } : Jvm.MethodName)) ∈ lw_all := lw_g (lw_at lw_m2 32 rfl) rfl
theorem q299 : (Jvm.Cond.code ({ cls := "FuelGateModel", name := "cost", desc := "(I)I" } : Jvm.MethodName) prog_3_method_14_code (2 : Nat) (Option.some Jvm.ClassFile.FieldType.int)) ∈ lw_all := lw_g (lw_at lw_m2 33 rfl) rfl
theorem q300 : (Jvm.Cond.methodLink "FuelGateModel" (73 : Nat) ({ cls := "FuelGateModel", name := "carryOut", desc := "()V" } : Jvm.MethodName)) ∈ lw_all := lw_g (lw_at lw_m2 34 rfl) rfl
theorem q301 : (Jvm.Cond.privateMethod ({ cls := "FuelGateModel", name := "carryOut", desc := "()V" } : Jvm.MethodName)) ∈ lw_tbl := lw_at lw_m2 35 rfl
theorem q302 : (Jvm.Cond.instanceMethod ({ cls := "FuelGateModel", name := "carryOut", desc := "()V" } : Jvm.MethodName)) ∈ lw_all := lw_g (lw_at lw_m2 36 rfl) rfl
theorem q303 : (Jvm.Cond.code ({ cls := "FuelGateModel", name := "carryOut", desc := "()V" } : Jvm.MethodName) prog_3_method_18_code (5 : Nat) (Option.none : Option Jvm.ClassFile.FieldType)) ∈ lw_all := lw_g (lw_at lw_m2 37 rfl) rfl
theorem q304 : (Jvm.Cond.methodLink "FuelGateModel" (76 : Nat) ({ cls := "FuelGateModel", name := "put", desc := "(I)V" } : Jvm.MethodName)) ∈ lw_all := lw_g (lw_at lw_m2 38 rfl) rfl
theorem q305 : (Jvm.Cond.privateMethod ({ cls := "FuelGateModel", name := "put", desc := "(I)V" } : Jvm.MethodName)) ∈ lw_tbl := lw_at lw_m2 39 rfl
theorem q306 : (Jvm.Cond.instanceMethod ({ cls := "FuelGateModel", name := "put", desc := "(I)V" } : Jvm.MethodName)) ∈ lw_all := lw_g (lw_at lw_m2 40 rfl) rfl
theorem q307 : (Jvm.Cond.code ({ cls := "FuelGateModel", name := "put", desc := "(I)V" } : Jvm.MethodName) prog_3_method_16_code (2 : Nat) (Option.none : Option Jvm.ClassFile.FieldType)) ∈ lw_all := lw_g (lw_at lw_m2 41 rfl) rfl
theorem q308 : (Jvm.Cond.methodLink "FuelGateModel" (80 : Nat) ({ cls := "FuelGateModel", name := "top", desc := "(I)I" } : Jvm.MethodName)) ∈ lw_all := lw_g (lw_at lw_m2 42 rfl) rfl
theorem q309 : (Jvm.Cond.instanceMethod ({ cls := "FuelGateModel", name := "top", desc := "(I)I" } : Jvm.MethodName)) ∈ lw_all := lw_g (lw_at lw_m2 43 rfl) rfl
theorem q310 : (Jvm.Cond.selects "FuelGateModel" ({ cls := "FuelGateModel", name := "top", desc := "(I)I" } : Jvm.MethodName) ({ cls := "FuelGateModel", name := "top", desc := "(I)I" } : Jvm.MethodName)) ∈ lw_all := lw_g (lw_at lw_m2 44 rfl) rfl
theorem q311 : (Jvm.Cond.code ({ cls := "FuelGateModel", name := "top", desc := "(I)I" } : Jvm.MethodName) prog_3_method_26_code (2 : Nat) (Option.some Jvm.ClassFile.FieldType.int)) ∈ lw_all := lw_g (lw_at lw_m2 45 rfl) rfl
theorem q312 : (Jvm.Cond.methodLink "FuelGateModel" (83 : Nat) ({ cls := "FuelGateModel", name := "two", desc := "(I)V" } : Jvm.MethodName)) ∈ lw_all := lw_g (lw_at lw_m2 46 rfl) rfl
theorem q313 : (Jvm.Cond.privateMethod ({ cls := "FuelGateModel", name := "two", desc := "(I)V" } : Jvm.MethodName)) ∈ lw_tbl := lw_at lw_m2 47 rfl
theorem q314 : (Jvm.Cond.instanceMethod ({ cls := "FuelGateModel", name := "two", desc := "(I)V" } : Jvm.MethodName)) ∈ lw_all := lw_g (lw_at lw_m2 48 rfl) rfl
theorem q315 : (Jvm.Cond.code ({ cls := "FuelGateModel", name := "two", desc := "(I)V" } : Jvm.MethodName) prog_3_method_19_code (4 : Nat) (Option.none : Option Jvm.ClassFile.FieldType)) ∈ lw_all := lw_g (lw_at lw_m2 49 rfl) rfl
theorem q316 : (Jvm.Cond.methodLink "FuelGateModel" (86 : Nat) ({ cls := "FuelGateModel", name := "take", desc := "()I" } : Jvm.MethodName)) ∈ lw_all := lw_g (lw_at lw_m2 50 rfl) rfl
theorem q317 : (Jvm.Cond.privateMethod ({ cls := "FuelGateModel", name := "take", desc := "()I" } : Jvm.MethodName)) ∈ lw_tbl := lw_at lw_m2 51 rfl
theorem q318 : (Jvm.Cond.instanceMethod ({ cls := "FuelGateModel", name := "take", desc := "()I" } : Jvm.MethodName)) ∈ lw_all := lw_g (lw_at lw_m2 52 rfl) rfl
theorem q319 : (Jvm.Cond.code ({ cls := "FuelGateModel", name := "take", desc := "()I" } : Jvm.MethodName) prog_3_method_17_code (1 : Nat) (Option.some Jvm.ClassFile.FieldType.int)) ∈ lw_all := lw_g (lw_at lw_m2 53 rfl) rfl
theorem q321 : (Jvm.Cond.instanceMethod ({ cls := "FuelGateModel", name := "refuel", desc := "(I)I" } : Jvm.MethodName)) ∈ lw_all := lw_g (lw_at lw_m2 55 rfl) rfl
theorem q322 : (Jvm.Cond.selects "FuelGateModel" ({ cls := "FuelGateModel", name := "refuel", desc := "(I)I" } : Jvm.MethodName) ({ cls := "FuelGateModel", name := "refuel", desc := "(I)I" } : Jvm.MethodName)) ∈ lw_all := lw_g (lw_at lw_m2 56 rfl) rfl
theorem q323 : (Jvm.Cond.code ({ cls := "FuelGateModel", name := "refuel", desc := "(I)I" } : Jvm.MethodName) prog_3_method_13_code (3 : Nat) (Option.some Jvm.ClassFile.FieldType.int)) ∈ lw_all := lw_g (lw_at lw_m2 57 rfl) rfl
theorem q326 : (Jvm.Cond.instanceMethod ({ cls := "FuelGateModel", name := "height", desc := "(I)I" } : Jvm.MethodName)) ∈ lw_all := lw_g (lw_at lw_m2 60 rfl) rfl
theorem q327 : (Jvm.Cond.selects "FuelGateModel" ({ cls := "FuelGateModel", name := "height", desc := "(I)I" } : Jvm.MethodName) ({ cls := "FuelGateModel", name := "height", desc := "(I)I" } : Jvm.MethodName)) ∈ lw_all := lw_g (lw_at lw_m2 61 rfl) rfl
theorem q328 : (Jvm.Cond.code ({ cls := "FuelGateModel", name := "height", desc := "(I)I" } : Jvm.MethodName) prog_3_method_21_code (2 : Nat) (Option.some Jvm.ClassFile.FieldType.int)) ∈ lw_all := lw_g (lw_at lw_m2 62 rfl) rfl
theorem q330 : (Jvm.Cond.instanceMethod ({ cls := "FuelGateModel", name := "state", desc := "()I" } : Jvm.MethodName)) ∈ lw_all := lw_g (lw_at lw_m2 64 rfl) rfl
theorem q331 : (Jvm.Cond.selects "FuelGateModel" ({ cls := "FuelGateModel", name := "state", desc := "()I" } : Jvm.MethodName) ({ cls := "FuelGateModel", name := "state", desc := "()I" } : Jvm.MethodName)) ∈ lw_all := lw_g (lw_at lw_m2 65 rfl) rfl
theorem q332 : (Jvm.Cond.code ({ cls := "FuelGateModel", name := "state", desc := "()I" } : Jvm.MethodName) prog_3_method_22_code (1 : Nat) (Option.some Jvm.ClassFile.FieldType.int)) ∈ lw_all := lw_g (lw_at lw_m2 66 rfl) rfl
theorem q334 : (Jvm.Cond.instanceMethod ({ cls := "FuelGateModel", name := "fuel", desc := "()I" } : Jvm.MethodName)) ∈ lw_all := lw_g (lw_at lw_m2 68 rfl) rfl
theorem q335 : (Jvm.Cond.selects "FuelGateModel" ({ cls := "FuelGateModel", name := "fuel", desc := "()I" } : Jvm.MethodName) ({ cls := "FuelGateModel", name := "fuel", desc := "()I" } : Jvm.MethodName)) ∈ lw_all := lw_g (lw_at lw_m2 69 rfl) rfl
theorem q336 : (Jvm.Cond.code ({ cls := "FuelGateModel", name := "fuel", desc := "()I" } : Jvm.MethodName) prog_3_method_23_code (1 : Nat) (Option.some Jvm.ClassFile.FieldType.int)) ∈ lw_all := lw_g (lw_at lw_m2 70 rfl) rfl
theorem q338 : (Jvm.Cond.instanceMethod ({ cls := "FuelGateModel", name := "place", desc := "()I" } : Jvm.MethodName)) ∈ lw_all := lw_g (lw_at lw_m2 72 rfl) rfl
theorem q339 : (Jvm.Cond.selects "FuelGateModel" ({ cls := "FuelGateModel", name := "place", desc := "()I" } : Jvm.MethodName) ({ cls := "FuelGateModel", name := "place", desc := "()I" } : Jvm.MethodName)) ∈ lw_all := lw_g (lw_at lw_m2 73 rfl) rfl
theorem q340 : (Jvm.Cond.code ({ cls := "FuelGateModel", name := "place", desc := "()I" } : Jvm.MethodName) prog_3_method_24_code (1 : Nat) (Option.some Jvm.ClassFile.FieldType.int)) ∈ lw_all := lw_g (lw_at lw_m2 74 rfl) rfl
theorem q342 : (Jvm.Cond.instanceMethod ({ cls := "FuelGateModel", name := "depth", desc := "()I" } : Jvm.MethodName)) ∈ lw_all := lw_g (lw_at lw_m2 76 rfl) rfl
theorem q343 : (Jvm.Cond.selects "FuelGateModel" ({ cls := "FuelGateModel", name := "depth", desc := "()I" } : Jvm.MethodName) ({ cls := "FuelGateModel", name := "depth", desc := "()I" } : Jvm.MethodName)) ∈ lw_all := lw_g (lw_at lw_m2 77 rfl) rfl
theorem q344 : (Jvm.Cond.code ({ cls := "FuelGateModel", name := "depth", desc := "()I" } : Jvm.MethodName) prog_3_method_25_code (1 : Nat) (Option.some Jvm.ClassFile.FieldType.int)) ∈ lw_all := lw_g (lw_at lw_m2 78 rfl) rfl
theorem q347 : (Jvm.Cond.instanceMethod ({ cls := "FuelGateModel", name := "get", desc := "(I)I" } : Jvm.MethodName)) ∈ lw_all := lw_g (lw_at lw_m2 81 rfl) rfl
theorem q348 : (Jvm.Cond.selects "FuelGateModel" ({ cls := "FuelGateModel", name := "get", desc := "(I)I" } : Jvm.MethodName) ({ cls := "FuelGateModel", name := "get", desc := "(I)I" } : Jvm.MethodName)) ∈ lw_all := lw_g (lw_at lw_m2 82 rfl) rfl
theorem q349 : (Jvm.Cond.code ({ cls := "FuelGateModel", name := "get", desc := "(I)I" } : Jvm.MethodName) prog_3_method_27_code (2 : Nat) (Option.some Jvm.ClassFile.FieldType.int)) ∈ lw_all := lw_g (lw_at lw_m2 83 rfl) rfl
theorem in_X1 : ∀ w ∈ wsX10, w ∈ lw_all := lw_in wsX10 [223, 225, 227, 229, 231, 233, 235, 237, 239, 241] (by decide +kernel) (by decide +kernel)
end
section
set_option maxRecDepth 100000
/-! java/lang/Object -/
set_option maxRecDepth 100000
def RJ0 : String := "java/lang/Object"
abbrev cJ0_init : ByteArray := object_method_1_code
def yJ0_init : MethodName := ⟨RJ0, "<init>", "()V"⟩
theorem dJ0_init_0 : decode cJ0_init 0 = .ok (.return_, 1) := by decide +kernel
theorem q35 : (Jvm.Cond.instanceMethod ({ cls := "java/lang/Object", name := "<init>", desc := "()V" } : Jvm.MethodName)) ∈ lw_all := lw_g (lw_at lw_m1 9 rfl) rfl
theorem q36 : (Jvm.Cond.code ({ cls := "java/lang/Object", name := "<init>", desc := "()V" } : Jvm.MethodName) object_method_1_code (1 : Nat) (Option.none : Option Jvm.ClassFile.FieldType)) ∈ lw_all := lw_g (lw_at lw_m1 10 rfl) rfl

/-! the law's own entry -/
set_option maxRecDepth 100000
abbrev cL_law : ByteArray := code
theorem dL_law_0 : decode cL_law 0 = .ok (.new 7, 3) := by decide +kernel
theorem dL_law_3 : decode cL_law 3 = .ok (.dup, 1) := by decide +kernel
theorem dL_law_4 : decode cL_law 4 = .ok (.invokespecial 9, 3) := by decide +kernel
theorem dL_law_7 : decode cL_law 7 = .ok (.astore_n 1, 1) := by decide +kernel
theorem dL_law_8 : decode cL_law 8 = .ok (.new 10, 3) := by decide +kernel
theorem dL_law_11 : decode cL_law 11 = .ok (.dup, 1) := by decide +kernel
theorem dL_law_12 : decode cL_law 12 = .ok (.invokespecial 12, 3) := by decide +kernel
theorem dL_law_15 : decode cL_law 15 = .ok (.astore_n 2, 1) := by decide +kernel
theorem dL_law_16 : decode cL_law 16 = .ok (.iconst 0, 1) := by decide +kernel
theorem dL_law_17 : decode cL_law 17 = .ok (.istore_n 3, 1) := by decide +kernel
theorem dL_law_18 : decode cL_law 18 = .ok (.iload_n 3, 1) := by decide +kernel
theorem dL_law_19 : decode cL_law 19 = .ok (.aload_n 0, 1) := by decide +kernel
theorem dL_law_20 : decode cL_law 20 = .ok (.arraylength, 1) := by decide +kernel
theorem dL_law_21 : decode cL_law 21 = .ok (.iconst 3, 1) := by decide +kernel
theorem dL_law_22 : decode cL_law 22 = .ok (.isub, 1) := by decide +kernel
theorem dL_law_23 : decode cL_law 23 = .ok (.if_icmp .gt 340, 3) := by decide +kernel
theorem dL_law_26 : decode cL_law 26 = .ok (.aload_n 0, 1) := by decide +kernel
theorem dL_law_27 : decode cL_law 27 = .ok (.iload_n 3, 1) := by decide +kernel
theorem dL_law_28 : decode cL_law 28 = .ok (.iaload, 1) := by decide +kernel
theorem dL_law_29 : decode cL_law 29 = .ok (.bipush 15, 2) := by decide +kernel
theorem dL_law_31 : decode cL_law 31 = .ok (.iand, 1) := by decide +kernel
theorem dL_law_32 : decode cL_law 32 = .ok (.tableswitch 325 0 12 #[68, 101, 112, 145, 168, 191, 204, 227, 240, 253, 266, 279, 302], 68) := by decide +kernel
theorem dL_law_100 : decode cL_law 100 = .ok (.aload_n 1, 1) := by decide +kernel
theorem dL_law_101 : decode cL_law 101 = .ok (.aload_n 0, 1) := by decide +kernel
theorem dL_law_102 : decode cL_law 102 = .ok (.iload_n 3, 1) := by decide +kernel
theorem dL_law_103 : decode cL_law 103 = .ok (.iconst 1, 1) := by decide +kernel
theorem dL_law_104 : decode cL_law 104 = .ok (.iadd, 1) := by decide +kernel
theorem dL_law_105 : decode cL_law 105 = .ok (.iaload, 1) := by decide +kernel
theorem dL_law_106 : decode cL_law 106 = .ok (.aload_n 0, 1) := by decide +kernel
theorem dL_law_107 : decode cL_law 107 = .ok (.iload_n 3, 1) := by decide +kernel
theorem dL_law_108 : decode cL_law 108 = .ok (.iconst 2, 1) := by decide +kernel
theorem dL_law_109 : decode cL_law 109 = .ok (.iadd, 1) := by decide +kernel
theorem dL_law_110 : decode cL_law 110 = .ok (.iaload, 1) := by decide +kernel
theorem dL_law_111 : decode cL_law 111 = .ok (.invokevirtual 13, 3) := by decide +kernel
theorem dL_law_114 : decode cL_law 114 = .ok (.aload_n 2, 1) := by decide +kernel
theorem dL_law_115 : decode cL_law 115 = .ok (.aload_n 0, 1) := by decide +kernel
theorem dL_law_116 : decode cL_law 116 = .ok (.iload_n 3, 1) := by decide +kernel
theorem dL_law_117 : decode cL_law 117 = .ok (.iconst 1, 1) := by decide +kernel
theorem dL_law_118 : decode cL_law 118 = .ok (.iadd, 1) := by decide +kernel
theorem dL_law_119 : decode cL_law 119 = .ok (.iaload, 1) := by decide +kernel
theorem dL_law_120 : decode cL_law 120 = .ok (.aload_n 0, 1) := by decide +kernel
theorem dL_law_121 : decode cL_law 121 = .ok (.iload_n 3, 1) := by decide +kernel
theorem dL_law_122 : decode cL_law 122 = .ok (.iconst 2, 1) := by decide +kernel
theorem dL_law_123 : decode cL_law 123 = .ok (.iadd, 1) := by decide +kernel
theorem dL_law_124 : decode cL_law 124 = .ok (.iaload, 1) := by decide +kernel
theorem dL_law_125 : decode cL_law 125 = .ok (.invokevirtual 17, 3) := by decide +kernel
theorem dL_law_128 : decode cL_law 128 = .ok (.if_icmp .eq 229, 3) := by decide +kernel
theorem dL_law_131 : decode cL_law 131 = .ok (.iconst 0, 1) := by decide +kernel
theorem dL_law_132 : decode cL_law 132 = .ok (.ireturn, 1) := by decide +kernel
theorem dL_law_133 : decode cL_law 133 = .ok (.aload_n 1, 1) := by decide +kernel
theorem dL_law_134 : decode cL_law 134 = .ok (.invokevirtual 18, 3) := by decide +kernel
theorem dL_law_137 : decode cL_law 137 = .ok (.aload_n 2, 1) := by decide +kernel
theorem dL_law_138 : decode cL_law 138 = .ok (.invokevirtual 21, 3) := by decide +kernel
theorem dL_law_141 : decode cL_law 141 = .ok (.goto 216, 3) := by decide +kernel
theorem dL_law_144 : decode cL_law 144 = .ok (.aload_n 1, 1) := by decide +kernel
theorem dL_law_145 : decode cL_law 145 = .ok (.aload_n 0, 1) := by decide +kernel
theorem dL_law_146 : decode cL_law 146 = .ok (.iload_n 3, 1) := by decide +kernel
theorem dL_law_147 : decode cL_law 147 = .ok (.iconst 1, 1) := by decide +kernel
theorem dL_law_148 : decode cL_law 148 = .ok (.iadd, 1) := by decide +kernel
theorem dL_law_149 : decode cL_law 149 = .ok (.iaload, 1) := by decide +kernel
theorem dL_law_150 : decode cL_law 150 = .ok (.aload_n 0, 1) := by decide +kernel
theorem dL_law_151 : decode cL_law 151 = .ok (.iload_n 3, 1) := by decide +kernel
theorem dL_law_152 : decode cL_law 152 = .ok (.iconst 2, 1) := by decide +kernel
theorem dL_law_153 : decode cL_law 153 = .ok (.iadd, 1) := by decide +kernel
theorem dL_law_154 : decode cL_law 154 = .ok (.iaload, 1) := by decide +kernel
theorem dL_law_155 : decode cL_law 155 = .ok (.invokevirtual 22, 3) := by decide +kernel
theorem dL_law_158 : decode cL_law 158 = .ok (.aload_n 2, 1) := by decide +kernel
theorem dL_law_159 : decode cL_law 159 = .ok (.aload_n 0, 1) := by decide +kernel
theorem dL_law_160 : decode cL_law 160 = .ok (.iload_n 3, 1) := by decide +kernel
theorem dL_law_161 : decode cL_law 161 = .ok (.iconst 1, 1) := by decide +kernel
theorem dL_law_162 : decode cL_law 162 = .ok (.iadd, 1) := by decide +kernel
theorem dL_law_163 : decode cL_law 163 = .ok (.iaload, 1) := by decide +kernel
theorem dL_law_164 : decode cL_law 164 = .ok (.aload_n 0, 1) := by decide +kernel
theorem dL_law_165 : decode cL_law 165 = .ok (.iload_n 3, 1) := by decide +kernel
theorem dL_law_166 : decode cL_law 166 = .ok (.iconst 2, 1) := by decide +kernel
theorem dL_law_167 : decode cL_law 167 = .ok (.iadd, 1) := by decide +kernel
theorem dL_law_168 : decode cL_law 168 = .ok (.iaload, 1) := by decide +kernel
theorem dL_law_169 : decode cL_law 169 = .ok (.invokevirtual 25, 3) := by decide +kernel
theorem dL_law_172 : decode cL_law 172 = .ok (.if_icmp .eq 185, 3) := by decide +kernel
theorem dL_law_175 : decode cL_law 175 = .ok (.iconst 0, 1) := by decide +kernel
theorem dL_law_176 : decode cL_law 176 = .ok (.ireturn, 1) := by decide +kernel
theorem dL_law_177 : decode cL_law 177 = .ok (.aload_n 1, 1) := by decide +kernel
theorem dL_law_178 : decode cL_law 178 = .ok (.aload_n 0, 1) := by decide +kernel
theorem dL_law_179 : decode cL_law 179 = .ok (.iload_n 3, 1) := by decide +kernel
theorem dL_law_180 : decode cL_law 180 = .ok (.iconst 1, 1) := by decide +kernel
theorem dL_law_181 : decode cL_law 181 = .ok (.iadd, 1) := by decide +kernel
theorem dL_law_182 : decode cL_law 182 = .ok (.iaload, 1) := by decide +kernel
theorem dL_law_183 : decode cL_law 183 = .ok (.invokevirtual 26, 3) := by decide +kernel
theorem dL_law_186 : decode cL_law 186 = .ok (.aload_n 2, 1) := by decide +kernel
theorem dL_law_187 : decode cL_law 187 = .ok (.aload_n 0, 1) := by decide +kernel
theorem dL_law_188 : decode cL_law 188 = .ok (.iload_n 3, 1) := by decide +kernel
theorem dL_law_189 : decode cL_law 189 = .ok (.iconst 1, 1) := by decide +kernel
theorem dL_law_190 : decode cL_law 190 = .ok (.iadd, 1) := by decide +kernel
theorem dL_law_191 : decode cL_law 191 = .ok (.iaload, 1) := by decide +kernel
theorem dL_law_192 : decode cL_law 192 = .ok (.invokevirtual 30, 3) := by decide +kernel
theorem dL_law_195 : decode cL_law 195 = .ok (.if_icmp .eq 162, 3) := by decide +kernel
theorem dL_law_198 : decode cL_law 198 = .ok (.iconst 0, 1) := by decide +kernel
theorem dL_law_199 : decode cL_law 199 = .ok (.ireturn, 1) := by decide +kernel
theorem dL_law_200 : decode cL_law 200 = .ok (.aload_n 1, 1) := by decide +kernel
theorem dL_law_201 : decode cL_law 201 = .ok (.aload_n 0, 1) := by decide +kernel
theorem dL_law_202 : decode cL_law 202 = .ok (.iload_n 3, 1) := by decide +kernel
theorem dL_law_203 : decode cL_law 203 = .ok (.iconst 1, 1) := by decide +kernel
theorem dL_law_204 : decode cL_law 204 = .ok (.iadd, 1) := by decide +kernel
theorem dL_law_205 : decode cL_law 205 = .ok (.iaload, 1) := by decide +kernel
theorem dL_law_206 : decode cL_law 206 = .ok (.invokevirtual 31, 3) := by decide +kernel
theorem dL_law_209 : decode cL_law 209 = .ok (.aload_n 2, 1) := by decide +kernel
theorem dL_law_210 : decode cL_law 210 = .ok (.aload_n 0, 1) := by decide +kernel
theorem dL_law_211 : decode cL_law 211 = .ok (.iload_n 3, 1) := by decide +kernel
theorem dL_law_212 : decode cL_law 212 = .ok (.iconst 1, 1) := by decide +kernel
theorem dL_law_213 : decode cL_law 213 = .ok (.iadd, 1) := by decide +kernel
theorem dL_law_214 : decode cL_law 214 = .ok (.iaload, 1) := by decide +kernel
theorem dL_law_215 : decode cL_law 215 = .ok (.invokevirtual 34, 3) := by decide +kernel
theorem dL_law_218 : decode cL_law 218 = .ok (.if_icmp .eq 139, 3) := by decide +kernel
theorem dL_law_221 : decode cL_law 221 = .ok (.iconst 0, 1) := by decide +kernel
theorem dL_law_222 : decode cL_law 222 = .ok (.ireturn, 1) := by decide +kernel
theorem dL_law_223 : decode cL_law 223 = .ok (.aload_n 1, 1) := by decide +kernel
theorem dL_law_224 : decode cL_law 224 = .ok (.invokevirtual 35, 3) := by decide +kernel
theorem dL_law_227 : decode cL_law 227 = .ok (.aload_n 2, 1) := by decide +kernel
theorem dL_law_228 : decode cL_law 228 = .ok (.invokevirtual 39, 3) := by decide +kernel
theorem dL_law_231 : decode cL_law 231 = .ok (.if_icmp .eq 126, 3) := by decide +kernel
theorem dL_law_234 : decode cL_law 234 = .ok (.iconst 0, 1) := by decide +kernel
theorem dL_law_235 : decode cL_law 235 = .ok (.ireturn, 1) := by decide +kernel
theorem dL_law_236 : decode cL_law 236 = .ok (.aload_n 1, 1) := by decide +kernel
theorem dL_law_237 : decode cL_law 237 = .ok (.aload_n 0, 1) := by decide +kernel
theorem dL_law_238 : decode cL_law 238 = .ok (.iload_n 3, 1) := by decide +kernel
theorem dL_law_239 : decode cL_law 239 = .ok (.iconst 1, 1) := by decide +kernel
theorem dL_law_240 : decode cL_law 240 = .ok (.iadd, 1) := by decide +kernel
theorem dL_law_241 : decode cL_law 241 = .ok (.iaload, 1) := by decide +kernel
theorem dL_law_242 : decode cL_law 242 = .ok (.invokevirtual 40, 3) := by decide +kernel
theorem dL_law_245 : decode cL_law 245 = .ok (.aload_n 2, 1) := by decide +kernel
theorem dL_law_246 : decode cL_law 246 = .ok (.aload_n 0, 1) := by decide +kernel
theorem dL_law_247 : decode cL_law 247 = .ok (.iload_n 3, 1) := by decide +kernel
theorem dL_law_248 : decode cL_law 248 = .ok (.iconst 1, 1) := by decide +kernel
theorem dL_law_249 : decode cL_law 249 = .ok (.iadd, 1) := by decide +kernel
theorem dL_law_250 : decode cL_law 250 = .ok (.iaload, 1) := by decide +kernel
theorem dL_law_251 : decode cL_law 251 = .ok (.invokevirtual 43, 3) := by decide +kernel
theorem dL_law_254 : decode cL_law 254 = .ok (.if_icmp .eq 103, 3) := by decide +kernel
theorem dL_law_257 : decode cL_law 257 = .ok (.iconst 0, 1) := by decide +kernel
theorem dL_law_258 : decode cL_law 258 = .ok (.ireturn, 1) := by decide +kernel
theorem dL_law_259 : decode cL_law 259 = .ok (.aload_n 1, 1) := by decide +kernel
theorem dL_law_260 : decode cL_law 260 = .ok (.invokevirtual 44, 3) := by decide +kernel
theorem dL_law_263 : decode cL_law 263 = .ok (.aload_n 2, 1) := by decide +kernel
theorem dL_law_264 : decode cL_law 264 = .ok (.invokevirtual 48, 3) := by decide +kernel
theorem dL_law_267 : decode cL_law 267 = .ok (.if_icmp .eq 90, 3) := by decide +kernel
theorem dL_law_270 : decode cL_law 270 = .ok (.iconst 0, 1) := by decide +kernel
theorem dL_law_271 : decode cL_law 271 = .ok (.ireturn, 1) := by decide +kernel
theorem dL_law_272 : decode cL_law 272 = .ok (.aload_n 1, 1) := by decide +kernel
theorem dL_law_273 : decode cL_law 273 = .ok (.invokevirtual 49, 3) := by decide +kernel
theorem dL_law_276 : decode cL_law 276 = .ok (.aload_n 2, 1) := by decide +kernel
theorem dL_law_277 : decode cL_law 277 = .ok (.invokevirtual 52, 3) := by decide +kernel
theorem dL_law_280 : decode cL_law 280 = .ok (.if_icmp .eq 77, 3) := by decide +kernel
theorem dL_law_283 : decode cL_law 283 = .ok (.iconst 0, 1) := by decide +kernel
theorem dL_law_284 : decode cL_law 284 = .ok (.ireturn, 1) := by decide +kernel
theorem dL_law_285 : decode cL_law 285 = .ok (.aload_n 1, 1) := by decide +kernel
theorem dL_law_286 : decode cL_law 286 = .ok (.invokevirtual 53, 3) := by decide +kernel
theorem dL_law_289 : decode cL_law 289 = .ok (.aload_n 2, 1) := by decide +kernel
theorem dL_law_290 : decode cL_law 290 = .ok (.invokevirtual 56, 3) := by decide +kernel
theorem dL_law_293 : decode cL_law 293 = .ok (.if_icmp .eq 64, 3) := by decide +kernel
theorem dL_law_296 : decode cL_law 296 = .ok (.iconst 0, 1) := by decide +kernel
theorem dL_law_297 : decode cL_law 297 = .ok (.ireturn, 1) := by decide +kernel
theorem dL_law_298 : decode cL_law 298 = .ok (.aload_n 1, 1) := by decide +kernel
theorem dL_law_299 : decode cL_law 299 = .ok (.invokevirtual 57, 3) := by decide +kernel
theorem dL_law_302 : decode cL_law 302 = .ok (.aload_n 2, 1) := by decide +kernel
theorem dL_law_303 : decode cL_law 303 = .ok (.invokevirtual 60, 3) := by decide +kernel
theorem dL_law_306 : decode cL_law 306 = .ok (.if_icmp .eq 51, 3) := by decide +kernel
theorem dL_law_309 : decode cL_law 309 = .ok (.iconst 0, 1) := by decide +kernel
theorem dL_law_310 : decode cL_law 310 = .ok (.ireturn, 1) := by decide +kernel
theorem dL_law_311 : decode cL_law 311 = .ok (.aload_n 1, 1) := by decide +kernel
theorem dL_law_312 : decode cL_law 312 = .ok (.aload_n 0, 1) := by decide +kernel
theorem dL_law_313 : decode cL_law 313 = .ok (.iload_n 3, 1) := by decide +kernel
theorem dL_law_314 : decode cL_law 314 = .ok (.iconst 1, 1) := by decide +kernel
theorem dL_law_315 : decode cL_law 315 = .ok (.iadd, 1) := by decide +kernel
theorem dL_law_316 : decode cL_law 316 = .ok (.iaload, 1) := by decide +kernel
theorem dL_law_317 : decode cL_law 317 = .ok (.invokevirtual 61, 3) := by decide +kernel
theorem dL_law_320 : decode cL_law 320 = .ok (.aload_n 2, 1) := by decide +kernel
theorem dL_law_321 : decode cL_law 321 = .ok (.aload_n 0, 1) := by decide +kernel
theorem dL_law_322 : decode cL_law 322 = .ok (.iload_n 3, 1) := by decide +kernel
theorem dL_law_323 : decode cL_law 323 = .ok (.iconst 1, 1) := by decide +kernel
theorem dL_law_324 : decode cL_law 324 = .ok (.iadd, 1) := by decide +kernel
theorem dL_law_325 : decode cL_law 325 = .ok (.iaload, 1) := by decide +kernel
theorem dL_law_326 : decode cL_law 326 = .ok (.invokevirtual 64, 3) := by decide +kernel
theorem dL_law_329 : decode cL_law 329 = .ok (.if_icmp .eq 28, 3) := by decide +kernel
theorem dL_law_332 : decode cL_law 332 = .ok (.iconst 0, 1) := by decide +kernel
theorem dL_law_333 : decode cL_law 333 = .ok (.ireturn, 1) := by decide +kernel
theorem dL_law_334 : decode cL_law 334 = .ok (.aload_n 1, 1) := by decide +kernel
theorem dL_law_335 : decode cL_law 335 = .ok (.aload_n 0, 1) := by decide +kernel
theorem dL_law_336 : decode cL_law 336 = .ok (.iload_n 3, 1) := by decide +kernel
theorem dL_law_337 : decode cL_law 337 = .ok (.iconst 1, 1) := by decide +kernel
theorem dL_law_338 : decode cL_law 338 = .ok (.iadd, 1) := by decide +kernel
theorem dL_law_339 : decode cL_law 339 = .ok (.iaload, 1) := by decide +kernel
theorem dL_law_340 : decode cL_law 340 = .ok (.invokevirtual 65, 3) := by decide +kernel
theorem dL_law_343 : decode cL_law 343 = .ok (.aload_n 2, 1) := by decide +kernel
theorem dL_law_344 : decode cL_law 344 = .ok (.aload_n 0, 1) := by decide +kernel
theorem dL_law_345 : decode cL_law 345 = .ok (.iload_n 3, 1) := by decide +kernel
theorem dL_law_346 : decode cL_law 346 = .ok (.iconst 1, 1) := by decide +kernel
theorem dL_law_347 : decode cL_law 347 = .ok (.iadd, 1) := by decide +kernel
theorem dL_law_348 : decode cL_law 348 = .ok (.iaload, 1) := by decide +kernel
theorem dL_law_349 : decode cL_law 349 = .ok (.invokevirtual 68, 3) := by decide +kernel
theorem dL_law_352 : decode cL_law 352 = .ok (.if_icmp .eq 5, 3) := by decide +kernel
theorem dL_law_355 : decode cL_law 355 = .ok (.iconst 0, 1) := by decide +kernel
theorem dL_law_356 : decode cL_law 356 = .ok (.ireturn, 1) := by decide +kernel
theorem dL_law_357 : decode cL_law 357 = .ok (.iinc 3 3, 3) := by decide +kernel
theorem dL_law_360 : decode cL_law 360 = .ok (.goto (-342), 3) := by decide +kernel
theorem dL_law_363 : decode cL_law 363 = .ok (.iconst 1, 1) := by decide +kernel
theorem dL_law_364 : decode cL_law 364 = .ok (.ireturn, 1) := by decide +kernel

theorem q26 : (Jvm.Cond.initialized "FuelGateLaw") ∈ lw_all := lw_g (lw_at lw_m1 0 rfl) rfl
set_option maxRecDepth 100000
theorem q29 : (Jvm.Cond.classLink "FuelGateLaw" (7 : Nat) "FuelGate") ∈ lw_all := lw_g (lw_at lw_m1 3 rfl) rfl
theorem q31 : (Jvm.Cond.methodLink "FuelGateLaw" (9 : Nat) ({ cls := "FuelGate", name := "<init>", desc := "()V" } : Jvm.MethodName)) ∈ lw_all := lw_g (lw_at lw_m1 5 rfl) rfl
theorem q91 : (Jvm.Cond.methodLink "FuelGateLaw" (13 : Nat) ({ cls := "FuelGate", name := "emit", desc := "(II)I" } : Jvm.MethodName)) ∈ lw_all := lw_g (lw_at lw_m1 65 rfl) rfl
theorem q99 : (Jvm.Cond.methodLink "FuelGateLaw" (18 : Nat) ({ cls := "FuelGate", name := "clear", desc := "()V" } : Jvm.MethodName)) ∈ lw_all := lw_g (lw_at lw_m1 73 rfl) rfl
theorem q103 : (Jvm.Cond.methodLink "FuelGateLaw" (22 : Nat) ({ cls := "FuelGate", name := "cell", desc := "(II)I" } : Jvm.MethodName)) ∈ lw_all := lw_g (lw_at lw_m1 77 rfl) rfl
theorem q107 : (Jvm.Cond.methodLink "FuelGateLaw" (26 : Nat) ({ cls := "FuelGate", name := "run", desc := "(I)I" } : Jvm.MethodName)) ∈ lw_all := lw_g (lw_at lw_m1 81 rfl) rfl
theorem q171 : (Jvm.Cond.methodLink "FuelGateLaw" (31 : Nat) ({ cls := "FuelGate", name := "refuel", desc := "(I)I" } : Jvm.MethodName)) ∈ lw_all := lw_g (lw_at lw_m1 145 rfl) rfl
theorem q175 : (Jvm.Cond.methodLink "FuelGateLaw" (35 : Nat) ({ cls := "FuelGate", name := "sound", desc := "()Z" } : Jvm.MethodName)) ∈ lw_all := lw_g (lw_at lw_m1 149 rfl) rfl
theorem q179 : (Jvm.Cond.methodLink "FuelGateLaw" (40 : Nat) ({ cls := "FuelGate", name := "height", desc := "(I)I" } : Jvm.MethodName)) ∈ lw_all := lw_g (lw_at lw_m1 153 rfl) rfl
theorem q183 : (Jvm.Cond.methodLink "FuelGateLaw" (44 : Nat) ({ cls := "FuelGate", name := "state", desc := "()I" } : Jvm.MethodName)) ∈ lw_all := lw_g (lw_at lw_m1 157 rfl) rfl
theorem q187 : (Jvm.Cond.methodLink "FuelGateLaw" (49 : Nat) ({ cls := "FuelGate", name := "fuel", desc := "()I" } : Jvm.MethodName)) ∈ lw_all := lw_g (lw_at lw_m1 161 rfl) rfl
theorem q191 : (Jvm.Cond.methodLink "FuelGateLaw" (53 : Nat) ({ cls := "FuelGate", name := "place", desc := "()I" } : Jvm.MethodName)) ∈ lw_all := lw_g (lw_at lw_m1 165 rfl) rfl
theorem q195 : (Jvm.Cond.methodLink "FuelGateLaw" (57 : Nat) ({ cls := "FuelGate", name := "depth", desc := "()I" } : Jvm.MethodName)) ∈ lw_all := lw_g (lw_at lw_m1 169 rfl) rfl
theorem q199 : (Jvm.Cond.methodLink "FuelGateLaw" (61 : Nat) ({ cls := "FuelGate", name := "top", desc := "(I)I" } : Jvm.MethodName)) ∈ lw_all := lw_g (lw_at lw_m1 173 rfl) rfl
theorem q203 : (Jvm.Cond.methodLink "FuelGateLaw" (65 : Nat) ({ cls := "FuelGate", name := "get", desc := "(I)I" } : Jvm.MethodName)) ∈ lw_all := lw_g (lw_at lw_m1 177 rfl) rfl
theorem q207 : (Jvm.Cond.classLink "FuelGateLaw" (10 : Nat) "FuelGateModel") ∈ lw_all := lw_g (lw_at lw_m1 181 rfl) rfl
theorem q209 : (Jvm.Cond.methodLink "FuelGateLaw" (12 : Nat) ({ cls := "FuelGateModel", name := "<init>", desc := "()V" } : Jvm.MethodName)) ∈ lw_all := lw_g (lw_at lw_m1 183 rfl) rfl
theorem q244 : (Jvm.Cond.methodLink "FuelGateLaw" (17 : Nat) ({ cls := "FuelGateModel", name := "emit", desc := "(II)I" } : Jvm.MethodName)) ∈ lw_all := lw_g (lw_at lw_m1 218 rfl) rfl
theorem q252 : (Jvm.Cond.methodLink "FuelGateLaw" (21 : Nat) ({ cls := "FuelGateModel", name := "clear", desc := "()V" } : Jvm.MethodName)) ∈ lw_all := lw_g (lw_at lw_m1 226 rfl) rfl
theorem q256 : (Jvm.Cond.methodLink "FuelGateLaw" (25 : Nat) ({ cls := "FuelGateModel", name := "cell", desc := "(II)I" } : Jvm.MethodName)) ∈ lw_all := lw_g (lw_at lw_m1 230 rfl) rfl
theorem q260 : (Jvm.Cond.methodLink "FuelGateLaw" (30 : Nat) ({ cls := "FuelGateModel", name := "run", desc := "(I)I" } : Jvm.MethodName)) ∈ lw_all := lw_g (lw_at lw_m1 234 rfl) rfl
theorem q320 : (Jvm.Cond.methodLink "FuelGateLaw" (34 : Nat) ({ cls := "FuelGateModel", name := "refuel", desc := "(I)I" } : Jvm.MethodName)) ∈ lw_all := lw_g (lw_at lw_m2 54 rfl) rfl
theorem q324 : (Jvm.Cond.methodLink "FuelGateLaw" (39 : Nat) ({ cls := "FuelGateModel", name := "sound", desc := "()Z" } : Jvm.MethodName)) ∈ lw_all := lw_g (lw_at lw_m2 58 rfl) rfl
theorem q325 : (Jvm.Cond.methodLink "FuelGateLaw" (43 : Nat) ({ cls := "FuelGateModel", name := "height", desc := "(I)I" } : Jvm.MethodName)) ∈ lw_all := lw_g (lw_at lw_m2 59 rfl) rfl
theorem q329 : (Jvm.Cond.methodLink "FuelGateLaw" (48 : Nat) ({ cls := "FuelGateModel", name := "state", desc := "()I" } : Jvm.MethodName)) ∈ lw_all := lw_g (lw_at lw_m2 63 rfl) rfl
theorem q333 : (Jvm.Cond.methodLink "FuelGateLaw" (52 : Nat) ({ cls := "FuelGateModel", name := "fuel", desc := "()I" } : Jvm.MethodName)) ∈ lw_all := lw_g (lw_at lw_m2 67 rfl) rfl
theorem q337 : (Jvm.Cond.methodLink "FuelGateLaw" (56 : Nat) ({ cls := "FuelGateModel", name := "place", desc := "()I" } : Jvm.MethodName)) ∈ lw_all := lw_g (lw_at lw_m2 71 rfl) rfl
theorem q341 : (Jvm.Cond.methodLink "FuelGateLaw" (60 : Nat) ({ cls := "FuelGateModel", name := "depth", desc := "()I" } : Jvm.MethodName)) ∈ lw_all := lw_g (lw_at lw_m2 75 rfl) rfl
theorem q345 : (Jvm.Cond.methodLink "FuelGateLaw" (64 : Nat) ({ cls := "FuelGateModel", name := "top", desc := "(I)I" } : Jvm.MethodName)) ∈ lw_all := lw_g (lw_at lw_m2 79 rfl) rfl
theorem q346 : (Jvm.Cond.methodLink "FuelGateLaw" (68 : Nat) ({ cls := "FuelGateModel", name := "get", desc := "(I)I" } : Jvm.MethodName)) ∈ lw_all := lw_g (lw_at lw_m2 80 rfl) rfl

theorem q89 : (Jvm.Cond.arrayClass Jvm.ClassFile.FieldType.int) ∈ lw_all := lw_g (lw_at lw_m1 63 rfl) rfl
set_option maxRecDepth 100000
theorem q90 : (Jvm.Cond.arrayClass Jvm.ClassFile.FieldType.boolean) ∈ lw_all := lw_g (lw_at lw_m1 64 rfl) rfl
end
section
set_option maxRecDepth 100000
/-! my walk kit: fz_A, a judgement over W with a world, locals as a list; one rule an instruction -/
abbrev vwCl : List vw_C := [(RX0, TX0, 17), (RX1, TX1, 10)]
/-- what contracts share: the launch, the classes' numbers, the class of int[], the class of boolean[] -/
abbrev fz_Q : Type := Launch × va_G × ClassId × ClassId
/-- what is fixed in one walk -/
abbrev fz_X : Type := Program × Env × Room × State × MethodId × Array Value × List Frame × Method × Code × (Nat → Prop) × (State → Prop) × Nat × Nat
/-- an object: its address, and those of its arrays by the field's number -/
abbrev fz_O : Type := Nat × (Nat → Nat)
abbrev fz_ty (q : fz_Q) : List (ClassId × FieldType) := [(q.2.2.1, .int), (q.2.2.2, .boolean)]
def fz_lc (ls : Array Slot) (n : Nat) (lc : List Value) : Prop := ls.size = n ∧ lv_wf ls ∧ (∀ v ∈ lc, v.category = 1) ∧ ∀ (i : Nat) (v : Value), lc[i]? = some v → ls[i]? = some (.val v)
def fz_A (q : fz_Q) (x : fz_X) (ws : va_W) (pc : Nat) (lc st : List Value) : Prop := match x with
  | (p, e, R, s, m, args, below, meth, c, A, Qf, nc, ns) => ∀ (H : Heap) (locs : List Loc) (ls : Array Slot), va_P q.2.1 vwCl ws H → va_D A ws → va_S A s.heap H locs → fz_lc ls c.maxLocals lc → W p q.1 e R s m args below meth c H locs nc ns Qf (F0 m pc ls st)
def fz_ok (q : fz_Q) (x : fz_X) (cc : ByteArray) (n : Nat) (own : String) (k : Nat) : Prop := match x with
  | (p, _, R, s, m, args, _, _, c, A, _, nc, ns) => p.tables.exec = Jvm.exec ∧ c.code = cc ∧ c.maxLocals = n ∧ s.vm.findClass own = some m.cls ∧ (∀ w ∈ lw_all, w.before args s = true) ∧ va_K q.2.1 vwCl (fz_ty q) s ∧ (∀ a, s.heap.size ≤ a → A a) ∧ k ≤ R.frames ∧ 30 * k ≤ R.locals ∧ nc ≤ R.cells ∧ ns ≤ R.slots
/-! the locals as a list -/
def fz_lv (lc : List Value) : List (Nat × Value) := lc.mapIdx (fun i v => (i, v))
def fz_st : List Value → Nat → Value → List Value
  | [], _, v => [v]
  | _ :: t, 0, v => v :: t
  | a :: t, i + 1, v => a :: fz_st t i v
theorem fz_st_get : ∀ {lc : List Value} {i j : Nat} {v w : Value}, i ≤ lc.length → (fz_st lc i v)[j]? = some w → (j = i ∧ w = v) ∨ (j ≠ i ∧ lc[j]? = some w)
  | [], i, j, v, w, hi, h => by
    have h0 : i = 0 := by simpa using hi
    subst h0
    cases j with
    | zero => exact Or.inl ⟨rfl, by simpa [fz_st] using h.symm⟩
    | succ j => simp [fz_st] at h
  | a :: t, 0, j, v, w, hi, h => by
    cases j with
    | zero => exact Or.inl ⟨rfl, by simpa [fz_st] using h.symm⟩
    | succ j => exact Or.inr ⟨by omega, by simpa [fz_st] using h⟩
  | a :: t, i + 1, j, v, w, hi, h => by
    cases j with
    | zero => exact Or.inr ⟨by omega, by simpa [fz_st] using h⟩
    | succ j =>
      have h1 : (fz_st t i v)[j]? = some w := by simpa [fz_st] using h
      rcases fz_st_get (by simpa using hi) h1 with ⟨h2, h3⟩ | ⟨h2, h3⟩
      · exact Or.inl ⟨by omega, h3⟩
      · exact Or.inr ⟨by omega, by simpa using h3⟩
theorem fz_has {ls : Array Slot} {n : Nat} {lc : List Value} (h : fz_lc ls n lc) : lv_has ls n (fz_lv lc) := by
  refine ⟨h.1, h.2.1, fun q hq => ?_⟩
  obtain ⟨i, hi, rfl⟩ := List.mem_mapIdx.mp hq
  exact h.2.2.2 i _ (List.getElem?_eq_getElem hi)
theorem fz_lv_at {lc : List Value} {i : Nat} {v : Value} (h : lc[i]? = some v) : (fz_lv lc)[i]? = some (i, v) := by
  unfold fz_lv
  rw [List.getElem?_mapIdx, h]
  rfl
theorem fz_lc_of {ls : Array Slot} {n : Nat} {lc : List Value} {i : Nat} {v : Value} (h0 : ∀ w ∈ lc, w.category = 1) (hv : v.category = 1) (hi : i ≤ lc.length) (h : lv_has ls n ((i, v) :: (fz_lv lc).filter (fun q => !(q.1 == i) && !(q.1 + 1 == i && q.2.category == 2)))) : fz_lc ls n (fz_st lc i v) := by
  refine ⟨h.1, h.2.1, ?_, ?_⟩
  · intro w hw
    obtain ⟨j, hj⟩ := List.getElem?_of_mem hw
    rcases fz_st_get hi hj with ⟨-, rfl⟩ | ⟨-, h2⟩
    · exact hv
    · exact h0 w (List.mem_of_getElem? h2)
  · intro j w hj
    rcases fz_st_get hi hj with ⟨rfl, rfl⟩ | ⟨h1, h2⟩
    · exact h.2.2 _ List.mem_cons_self
    · refine h.2.2 (j, w) (List.mem_cons_of_mem _ (List.mem_filter.mpr ⟨?_, ?_⟩))
      · exact List.mem_of_getElem? (fz_lv_at h2)
      · have hc := h0 w (List.mem_of_getElem? h2)
        simp [h1, hc]
theorem fz_args : ∀ (av : List Value) (k i : Nat) (v : Value), (∀ w ∈ av, w.category = 1) → av[i]? = some v → (k + i, v) ∈ lv_args k av
  | [], k, i, v, _, h => by simp at h
  | a :: t, k, i, v, hc, h => by
    have ha : a.category = 1 := hc a List.mem_cons_self
    have hne : ¬ a.category = 2 := by omega
    unfold lv_args
    rw [if_neg hne]
    cases i with
    | zero =>
      have e : a = v := by simpa using h
      subst e
      exact List.mem_cons_self
    | succ i =>
      have h1 := fz_args t (k + 1) i v (fun w hw => hc w (List.mem_cons_of_mem _ hw)) (by simpa using h)
      rw [show k + (i + 1) = k + 1 + i by omega]
      exact List.mem_cons_of_mem _ h1
theorem fz_sl : ∀ (av : List Value), (∀ w ∈ av, w.category = 1) → (lg_sl av).length = av.length
  | [], _ => rfl
  | a :: t, hc => by
    have ha : a.category = 1 := hc a List.mem_cons_self
    have hne : ¬ a.category = 2 := by omega
    have ih := fz_sl t (fun w hw => hc w (List.mem_cons_of_mem _ hw))
    unfold lg_sl at ih ⊢
    rw [List.flatMap_cons, if_neg hne]
    simp [ih]
theorem fz_entry {av : List Value} {n : Nat} (hc : ∀ w ∈ av, w.category = 1) (hn : av.length ≤ n) : fz_lc ((lg_sl av ++ List.replicate (n - (lg_sl av).length) Slot.unset).toArray) n av := by
  have h := lv_entry av (n := n) (by rw [fz_sl av hc]; exact hn)
  refine ⟨h.1, h.2.1, hc, fun i v hv => ?_⟩
  have h1 := fz_args av 0 i v hc hv
  rw [Nat.zero_add] at h1
  exact h.2.2 _ h1
theorem fz_cats {av : List Value} (h : av.all (fun v => v.category == 1) = true) : ∀ w ∈ av, w.category = 1 := fun w hw => by simpa using List.all_eq_true.mp h w hw
section FZ
variable {q : fz_Q} {x : fz_X} {cc : ByteArray} {n : Nat} {own : String} {k : Nat} {ws : va_W} {pc : Nat} {lc lc' st : List Value}
theorem fz_iconst (ok : fz_ok q x cc n own k) {c0 : Int} {v : Int32} (d : decode cc pc = .ok (.iconst c0, 1)) (hv : Int32.ofInt c0 = v) (kk : fz_A q x ws (pc + 1) lc (.int v :: st)) : fz_A q x ws pc lc st := by
  obtain ⟨p, e, R, s, m, args, below, meth, c, A, Qf, nc, ns⟩ := x
  obtain ⟨hx, hb, hml, hown, hts, hK, hA, hfr, hlo, hce, hsl⟩ := ok
  intro H locs ls hP hD hS hl
  exact lv_iconst hx hb d hv (kk H locs ls hP hD hS hl)
theorem fz_bipush (ok : fz_ok q x cc n own k) {c0 : Int} {v : Int32} (d : decode cc pc = .ok (.bipush c0, 2)) (hv : (Int8.ofInt c0).toInt32 = v) (kk : fz_A q x ws (pc + 2) lc (.int v :: st)) : fz_A q x ws pc lc st := by
  obtain ⟨p, e, R, s, m, args, below, meth, c, A, Qf, nc, ns⟩ := x
  obtain ⟨hx, hb, hml, hown, hts, hK, hA, hfr, hlo, hce, hsl⟩ := ok
  intro H locs ls hP hD hS hl
  exact lv_bipush hx hb d hv (kk H locs ls hP hD hS hl)
theorem fz_sipush (ok : fz_ok q x cc n own k) {c0 : Int} {v : Int32} (d : decode cc pc = .ok (.sipush c0, 3)) (hv : (Int16.ofInt c0).toInt32 = v) (kk : fz_A q x ws (pc + 3) lc (.int v :: st)) : fz_A q x ws pc lc st := by
  obtain ⟨p, e, R, s, m, args, below, meth, c, A, Qf, nc, ns⟩ := x
  obtain ⟨hx, hb, hml, hown, hts, hK, hA, hfr, hlo, hce, hsl⟩ := ok
  intro H locs ls hP hD hS hl
  exact lv_sipush hx hb d hv (kk H locs ls hP hD hS hl)
theorem fz_iload (ok : fz_ok q x cc n own k) {j : Fin 4} {v : Int32} (d : decode cc pc = .ok (.iload_n j, 1)) (hv : lc[(j : Nat)]? = some (.int v)) (kk : fz_A q x ws (pc + 1) lc (.int v :: st)) : fz_A q x ws pc lc st := by
  obtain ⟨p, e, R, s, m, args, below, meth, c, A, Qf, nc, ns⟩ := x
  obtain ⟨hx, hb, hml, hown, hts, hK, hA, hfr, hlo, hce, hsl⟩ := ok
  intro H locs ls hP hD hS hl
  exact lv_iload_n hx hb d rfl (hl.2.2.2 _ _ hv) (kk H locs ls hP hD hS hl)
theorem fz_iloadL (ok : fz_ok q x cc n own k) {j : Nat} {v : Int32} (d : decode cc pc = .ok (.iload j, 2)) (hv : lc[j]? = some (.int v)) (kk : fz_A q x ws (pc + 2) lc (.int v :: st)) : fz_A q x ws pc lc st := by
  obtain ⟨p, e, R, s, m, args, below, meth, c, A, Qf, nc, ns⟩ := x
  obtain ⟨hx, hb, hml, hown, hts, hK, hA, hfr, hlo, hce, hsl⟩ := ok
  intro H locs ls hP hD hS hl
  exact lv_iload hx hb d (hl.2.2.2 _ _ hv) (kk H locs ls hP hD hS hl)
theorem fz_aload (ok : fz_ok q x cc n own k) {j : Fin 4} {v : Nat} (d : decode cc pc = .ok (.aload_n j, 1)) (hv : lc[(j : Nat)]? = some (.ref v)) (kk : fz_A q x ws (pc + 1) lc (.ref v :: st)) : fz_A q x ws pc lc st := by
  obtain ⟨p, e, R, s, m, args, below, meth, c, A, Qf, nc, ns⟩ := x
  obtain ⟨hx, hb, hml, hown, hts, hK, hA, hfr, hlo, hce, hsl⟩ := ok
  intro H locs ls hP hD hS hl
  exact lv_aload_n hx hb d rfl (hl.2.2.2 _ _ hv) (kk H locs ls hP hD hS hl)
theorem fz_istore (ok : fz_ok q x cc n own k) {j : Fin 4} {v : Int32} (d : decode cc pc = .ok (.istore_n j, 1)) (hn : (j : Nat) < n) (hi : (j : Nat) ≤ lc.length) (hs : fz_st lc j (.int v) = lc') (kk : fz_A q x ws (pc + 1) lc' st) : fz_A q x ws pc lc (.int v :: st) := by
  obtain ⟨p, e, R, s, m, args, below, meth, c, A, Qf, nc, ns⟩ := x
  obtain ⟨hx, hb, hml, hown, hts, hK, hA, hfr, hlo, hce, hsl⟩ := ok
  intro H locs ls hP hD hS hl
  exact lv_istore_n hx hb d rfl (fz_has hl) (by rw [hml]; exact hn) rfl (fun ls1 hl1 => kk H locs ls1 hP hD hS (hs ▸ fz_lc_of hl.2.2.1 rfl hi hl1))
theorem fz_istoreL (ok : fz_ok q x cc n own k) {j : Nat} {v : Int32} (d : decode cc pc = .ok (.istore j, 2)) (hn : j < n) (hi : j ≤ lc.length) (hs : fz_st lc j (.int v) = lc') (kk : fz_A q x ws (pc + 2) lc' st) : fz_A q x ws pc lc (.int v :: st) := by
  obtain ⟨p, e, R, s, m, args, below, meth, c, A, Qf, nc, ns⟩ := x
  obtain ⟨hx, hb, hml, hown, hts, hK, hA, hfr, hlo, hce, hsl⟩ := ok
  intro H locs ls hP hD hS hl
  exact lv_istore hx hb d (fz_has hl) (by rw [hml]; exact hn) rfl (fun ls1 hl1 => kk H locs ls1 hP hD hS (hs ▸ fz_lc_of hl.2.2.1 rfl hi hl1))
theorem fz_astore (ok : fz_ok q x cc n own k) {j : Fin 4} {v : Nat} (d : decode cc pc = .ok (.astore_n j, 1)) (hn : (j : Nat) < n) (hi : (j : Nat) ≤ lc.length) (hs : fz_st lc j (.ref v) = lc') (kk : fz_A q x ws (pc + 1) lc' st) : fz_A q x ws pc lc (.ref v :: st) := by
  obtain ⟨p, e, R, s, m, args, below, meth, c, A, Qf, nc, ns⟩ := x
  obtain ⟨hx, hb, hml, hown, hts, hK, hA, hfr, hlo, hce, hsl⟩ := ok
  intro H locs ls hP hD hS hl
  exact lv_astore_n hx hb d rfl (fz_has hl) (by rw [hml]; exact hn) rfl (fun ls1 hl1 => kk H locs ls1 hP hD hS (hs ▸ fz_lc_of hl.2.2.1 rfl hi hl1))
theorem fz_iinc (ok : fz_ok q x cc n own k) {j : Nat} {c0 : Int} {u v : Int32} (d : decode cc pc = .ok (.iinc j c0, 3)) (hn : j < n) (hv : lc[j]? = some (.int u)) (he : u + Int32.ofInt c0 = v) (hs : fz_st lc j (.int v) = lc') (kk : fz_A q x ws (pc + 3) lc' st) : fz_A q x ws pc lc st := by
  obtain ⟨p, e, R, s, m, args, below, meth, c, A, Qf, nc, ns⟩ := x
  obtain ⟨hx, hb, hml, hown, hts, hK, hA, hfr, hlo, hce, hsl⟩ := ok
  intro H locs ls hP hD hS hl
  have hi : j ≤ lc.length := Nat.le_of_lt (List.getElem?_eq_some_iff.mp hv).1
  exact lv_iinc hx hb d (fz_has hl) (fz_lv_at hv) he (by rw [hml]; exact hn) rfl (fun ls1 hl1 => kk H locs ls1 hP hD hS (hs ▸ fz_lc_of hl.2.2.1 rfl hi hl1))
theorem fz_iadd (ok : fz_ok q x cc n own k) {u v : Int32} (d : decode cc pc = .ok (.iadd, 1)) (kk : fz_A q x ws (pc + 1) lc (.int (u + v) :: st)) : fz_A q x ws pc lc (.int v :: .int u :: st) := by
  obtain ⟨p, e, R, s, m, args, below, meth, c, A, Qf, nc, ns⟩ := x
  obtain ⟨hx, hb, hml, hown, hts, hK, hA, hfr, hlo, hce, hsl⟩ := ok
  intro H locs ls hP hD hS hl
  exact lv_iadd hx hb d (kk H locs ls hP hD hS hl)
theorem fz_isub (ok : fz_ok q x cc n own k) {u v : Int32} (d : decode cc pc = .ok (.isub, 1)) (kk : fz_A q x ws (pc + 1) lc (.int (u - v) :: st)) : fz_A q x ws pc lc (.int v :: .int u :: st) := by
  obtain ⟨p, e, R, s, m, args, below, meth, c, A, Qf, nc, ns⟩ := x
  obtain ⟨hx, hb, hml, hown, hts, hK, hA, hfr, hlo, hce, hsl⟩ := ok
  intro H locs ls hP hD hS hl
  exact lv_isub hx hb d (kk H locs ls hP hD hS hl)
theorem fz_imul (ok : fz_ok q x cc n own k) {u v : Int32} (d : decode cc pc = .ok (.imul, 1)) (kk : fz_A q x ws (pc + 1) lc (.int (u * v) :: st)) : fz_A q x ws pc lc (.int v :: .int u :: st) := by
  obtain ⟨p, e, R, s, m, args, below, meth, c, A, Qf, nc, ns⟩ := x
  obtain ⟨hx, hb, hml, hown, hts, hK, hA, hfr, hlo, hce, hsl⟩ := ok
  intro H locs ls hP hD hS hl
  exact lv_imul hx hb d (kk H locs ls hP hD hS hl)
theorem fz_iand (ok : fz_ok q x cc n own k) {u v : Int32} (d : decode cc pc = .ok (.iand, 1)) (kk : fz_A q x ws (pc + 1) lc (.int (u &&& v) :: st)) : fz_A q x ws pc lc (.int v :: .int u :: st) := by
  obtain ⟨p, e, R, s, m, args, below, meth, c, A, Qf, nc, ns⟩ := x
  obtain ⟨hx, hb, hml, hown, hts, hK, hA, hfr, hlo, hce, hsl⟩ := ok
  intro H locs ls hP hD hS hl
  exact lv_iand hx hb d (kk H locs ls hP hD hS hl)
theorem fz_dup (ok : fz_ok q x cc n own k) {v : Value} (d : decode cc pc = .ok (.dup, 1)) (hv : v.category = 1) (kk : fz_A q x ws (pc + 1) lc (v :: v :: st)) : fz_A q x ws pc lc (v :: st) := by
  obtain ⟨p, e, R, s, m, args, below, meth, c, A, Qf, nc, ns⟩ := x
  obtain ⟨hx, hb, hml, hown, hts, hK, hA, hfr, hlo, hce, hsl⟩ := ok
  intro H locs ls hP hD hS hl
  exact lv_dup hx hb d hv (kk H locs ls hP hD hS hl)
theorem fz_goto (ok : fz_ok q x cc n own k) {off : Int} {tgt : Nat} (d : decode cc pc = .ok (.goto off, 3)) (ht : (pc : Int) + off = (tgt : Int)) (kk : fz_A q x ws tgt lc st) : fz_A q x ws pc lc st := by
  obtain ⟨p, e, R, s, m, args, below, meth, c, A, Qf, nc, ns⟩ := x
  obtain ⟨hx, hb, hml, hown, hts, hK, hA, hfr, hlo, hce, hsl⟩ := ok
  intro H locs ls hP hD hS hl
  exact lv_goto hx hb d ht (kk H locs ls hP hD hS hl)
theorem fz_top {u v : Int32} (h : u = v) (kk : fz_A q x ws pc lc (.int v :: st)) : fz_A q x ws pc lc (.int u :: st) := by
  subst h
  exact kk
theorem fz_if_eq (ok : fz_ok q x cc n own k) {u : Int32} {off : Int} {tgt : Nat} (d : decode cc pc = .ok (.ifCond .eq off, 3)) (ht : (pc : Int) + off = (tgt : Int)) (kt : u = 0 → fz_A q x ws tgt lc st) (kf : ¬ u = 0 → fz_A q x ws (pc + 3) lc st) : fz_A q x ws pc lc (.int u :: st) := by
  obtain ⟨p, e, R, s, m, args, below, meth, c, A, Qf, nc, ns⟩ := x
  obtain ⟨hx, hb, hml, hown, hts, hK, hA, hfr, hlo, hce, hsl⟩ := ok
  intro H locs ls hP hD hS hl
  exact lv_if_eq hx hb d ht (fun h => kt h H locs ls hP hD hS hl) (fun h => kf h H locs ls hP hD hS hl)
theorem fz_if_ne (ok : fz_ok q x cc n own k) {u : Int32} {off : Int} {tgt : Nat} (d : decode cc pc = .ok (.ifCond .ne off, 3)) (ht : (pc : Int) + off = (tgt : Int)) (kt : ¬ u = 0 → fz_A q x ws tgt lc st) (kf : u = 0 → fz_A q x ws (pc + 3) lc st) : fz_A q x ws pc lc (.int u :: st) := by
  obtain ⟨p, e, R, s, m, args, below, meth, c, A, Qf, nc, ns⟩ := x
  obtain ⟨hx, hb, hml, hown, hts, hK, hA, hfr, hlo, hce, hsl⟩ := ok
  intro H locs ls hP hD hS hl
  exact lv_if_ne hx hb d ht (fun h => kt h H locs ls hP hD hS hl) (fun h => kf h H locs ls hP hD hS hl)
theorem fz_if_lt (ok : fz_ok q x cc n own k) {u : Int32} {off : Int} {tgt : Nat} (d : decode cc pc = .ok (.ifCond .lt off, 3)) (ht : (pc : Int) + off = (tgt : Int)) (kt : u < 0 → fz_A q x ws tgt lc st) (kf : ¬ u < 0 → fz_A q x ws (pc + 3) lc st) : fz_A q x ws pc lc (.int u :: st) := by
  obtain ⟨p, e, R, s, m, args, below, meth, c, A, Qf, nc, ns⟩ := x
  obtain ⟨hx, hb, hml, hown, hts, hK, hA, hfr, hlo, hce, hsl⟩ := ok
  intro H locs ls hP hD hS hl
  exact lv_if_lt hx hb d ht (fun h => kt h H locs ls hP hD hS hl) (fun h => kf h H locs ls hP hD hS hl)
theorem fz_if_ge (ok : fz_ok q x cc n own k) {u : Int32} {off : Int} {tgt : Nat} (d : decode cc pc = .ok (.ifCond .ge off, 3)) (ht : (pc : Int) + off = (tgt : Int)) (kt : 0 ≤ u → fz_A q x ws tgt lc st) (kf : ¬ 0 ≤ u → fz_A q x ws (pc + 3) lc st) : fz_A q x ws pc lc (.int u :: st) := by
  obtain ⟨p, e, R, s, m, args, below, meth, c, A, Qf, nc, ns⟩ := x
  obtain ⟨hx, hb, hml, hown, hts, hK, hA, hfr, hlo, hce, hsl⟩ := ok
  intro H locs ls hP hD hS hl
  exact lv_if_ge hx hb d ht (fun h => kt h H locs ls hP hD hS hl) (fun h => kf h H locs ls hP hD hS hl)
theorem fz_if_gt (ok : fz_ok q x cc n own k) {u : Int32} {off : Int} {tgt : Nat} (d : decode cc pc = .ok (.ifCond .gt off, 3)) (ht : (pc : Int) + off = (tgt : Int)) (kt : 0 < u → fz_A q x ws tgt lc st) (kf : ¬ 0 < u → fz_A q x ws (pc + 3) lc st) : fz_A q x ws pc lc (.int u :: st) := by
  obtain ⟨p, e, R, s, m, args, below, meth, c, A, Qf, nc, ns⟩ := x
  obtain ⟨hx, hb, hml, hown, hts, hK, hA, hfr, hlo, hce, hsl⟩ := ok
  intro H locs ls hP hD hS hl
  exact lv_if_gt hx hb d ht (fun h => kt h H locs ls hP hD hS hl) (fun h => kf h H locs ls hP hD hS hl)
theorem fz_if_le (ok : fz_ok q x cc n own k) {u : Int32} {off : Int} {tgt : Nat} (d : decode cc pc = .ok (.ifCond .le off, 3)) (ht : (pc : Int) + off = (tgt : Int)) (kt : u ≤ 0 → fz_A q x ws tgt lc st) (kf : ¬ u ≤ 0 → fz_A q x ws (pc + 3) lc st) : fz_A q x ws pc lc (.int u :: st) := by
  obtain ⟨p, e, R, s, m, args, below, meth, c, A, Qf, nc, ns⟩ := x
  obtain ⟨hx, hb, hml, hown, hts, hK, hA, hfr, hlo, hce, hsl⟩ := ok
  intro H locs ls hP hD hS hl
  exact lv_if_le hx hb d ht (fun h => kt h H locs ls hP hD hS hl) (fun h => kf h H locs ls hP hD hS hl)
theorem fz_icmp_eq (ok : fz_ok q x cc n own k) {u v : Int32} {off : Int} {tgt : Nat} (d : decode cc pc = .ok (.if_icmp .eq off, 3)) (ht : (pc : Int) + off = (tgt : Int)) (kt : u = v → fz_A q x ws tgt lc st) (kf : ¬ u = v → fz_A q x ws (pc + 3) lc st) : fz_A q x ws pc lc (.int v :: .int u :: st) := by
  obtain ⟨p, e, R, s, m, args, below, meth, c, A, Qf, nc, ns⟩ := x
  obtain ⟨hx, hb, hml, hown, hts, hK, hA, hfr, hlo, hce, hsl⟩ := ok
  intro H locs ls hP hD hS hl
  exact lv_icmp_eq hx hb d ht (fun h => kt h H locs ls hP hD hS hl) (fun h => kf h H locs ls hP hD hS hl)
theorem fz_icmp_ne (ok : fz_ok q x cc n own k) {u v : Int32} {off : Int} {tgt : Nat} (d : decode cc pc = .ok (.if_icmp .ne off, 3)) (ht : (pc : Int) + off = (tgt : Int)) (kt : ¬ u = v → fz_A q x ws tgt lc st) (kf : u = v → fz_A q x ws (pc + 3) lc st) : fz_A q x ws pc lc (.int v :: .int u :: st) := by
  obtain ⟨p, e, R, s, m, args, below, meth, c, A, Qf, nc, ns⟩ := x
  obtain ⟨hx, hb, hml, hown, hts, hK, hA, hfr, hlo, hce, hsl⟩ := ok
  intro H locs ls hP hD hS hl
  exact lv_icmp_ne hx hb d ht (fun h => kt h H locs ls hP hD hS hl) (fun h => kf h H locs ls hP hD hS hl)
theorem fz_icmp_lt (ok : fz_ok q x cc n own k) {u v : Int32} {off : Int} {tgt : Nat} (d : decode cc pc = .ok (.if_icmp .lt off, 3)) (ht : (pc : Int) + off = (tgt : Int)) (kt : u < v → fz_A q x ws tgt lc st) (kf : ¬ u < v → fz_A q x ws (pc + 3) lc st) : fz_A q x ws pc lc (.int v :: .int u :: st) := by
  obtain ⟨p, e, R, s, m, args, below, meth, c, A, Qf, nc, ns⟩ := x
  obtain ⟨hx, hb, hml, hown, hts, hK, hA, hfr, hlo, hce, hsl⟩ := ok
  intro H locs ls hP hD hS hl
  exact lv_icmp_lt hx hb d ht (fun h => kt h H locs ls hP hD hS hl) (fun h => kf h H locs ls hP hD hS hl)
theorem fz_icmp_ge (ok : fz_ok q x cc n own k) {u v : Int32} {off : Int} {tgt : Nat} (d : decode cc pc = .ok (.if_icmp .ge off, 3)) (ht : (pc : Int) + off = (tgt : Int)) (kt : v ≤ u → fz_A q x ws tgt lc st) (kf : ¬ v ≤ u → fz_A q x ws (pc + 3) lc st) : fz_A q x ws pc lc (.int v :: .int u :: st) := by
  obtain ⟨p, e, R, s, m, args, below, meth, c, A, Qf, nc, ns⟩ := x
  obtain ⟨hx, hb, hml, hown, hts, hK, hA, hfr, hlo, hce, hsl⟩ := ok
  intro H locs ls hP hD hS hl
  exact lv_icmp_ge hx hb d ht (fun h => kt h H locs ls hP hD hS hl) (fun h => kf h H locs ls hP hD hS hl)
theorem fz_icmp_gt (ok : fz_ok q x cc n own k) {u v : Int32} {off : Int} {tgt : Nat} (d : decode cc pc = .ok (.if_icmp .gt off, 3)) (ht : (pc : Int) + off = (tgt : Int)) (kt : v < u → fz_A q x ws tgt lc st) (kf : ¬ v < u → fz_A q x ws (pc + 3) lc st) : fz_A q x ws pc lc (.int v :: .int u :: st) := by
  obtain ⟨p, e, R, s, m, args, below, meth, c, A, Qf, nc, ns⟩ := x
  obtain ⟨hx, hb, hml, hown, hts, hK, hA, hfr, hlo, hce, hsl⟩ := ok
  intro H locs ls hP hD hS hl
  exact lv_icmp_gt hx hb d ht (fun h => kt h H locs ls hP hD hS hl) (fun h => kf h H locs ls hP hD hS hl)
theorem fz_icmp_le (ok : fz_ok q x cc n own k) {u v : Int32} {off : Int} {tgt : Nat} (d : decode cc pc = .ok (.if_icmp .le off, 3)) (ht : (pc : Int) + off = (tgt : Int)) (kt : u ≤ v → fz_A q x ws tgt lc st) (kf : ¬ u ≤ v → fz_A q x ws (pc + 3) lc st) : fz_A q x ws pc lc (.int v :: .int u :: st) := by
  obtain ⟨p, e, R, s, m, args, below, meth, c, A, Qf, nc, ns⟩ := x
  obtain ⟨hx, hb, hml, hown, hts, hK, hA, hfr, hlo, hce, hsl⟩ := ok
  intro H locs ls hP hD hS hl
  exact lv_icmp_le hx hb d ht (fun h => kt h H locs ls hP hD hS hl) (fun h => kf h H locs ls hP hD hS hl)
theorem fz_tabIn (ok : fz_ok q x cc n own k) {dflt lo hi : Int} {offs : Array Int} {len : Nat} {u : Int32} {off : Int} {tgt : Nat} (d : decode cc pc = .ok (.tableswitch dflt lo hi offs, len)) (h1 : ¬ u.toInt < lo) (h2 : ¬ hi < u.toInt) (ho : offs[(u.toInt - lo).toNat]? = some off) (ht : (pc : Int) + off = (tgt : Int)) (kk : fz_A q x ws tgt lc st) : fz_A q x ws pc lc (.int u :: st) := by
  obtain ⟨p, e, R, s, m, args, below, meth, c, A, Qf, nc, ns⟩ := x
  obtain ⟨hx, hb, hml, hown, hts, hK, hA, hfr, hlo, hce, hsl⟩ := ok
  intro H locs ls hP hD hS hl
  exact lv_tableIn hx hb d h1 h2 ho ht (kk H locs ls hP hD hS hl)
theorem fz_tabOut (ok : fz_ok q x cc n own k) {dflt lo hi : Int} {offs : Array Int} {len : Nat} {u : Int32} {tgt : Nat} (d : decode cc pc = .ok (.tableswitch dflt lo hi offs, len)) (h1 : u.toInt < lo ∨ hi < u.toInt) (ht : (pc : Int) + dflt = (tgt : Int)) (kk : fz_A q x ws tgt lc st) : fz_A q x ws pc lc (.int u :: st) := by
  obtain ⟨p, e, R, s, m, args, below, meth, c, A, Qf, nc, ns⟩ := x
  obtain ⟨hx, hb, hml, hown, hts, hK, hA, hfr, hlo, hce, hsl⟩ := ok
  intro H locs ls hP hD hS hl
  exact lv_tableOut hx hb d h1 ht (kk H locs ls hP hD hS hl)
theorem fz_ld (ok : fz_ok q x cc n own k) (q0 : Nat) {a N : Nat} {f : Nat → Int32} (he : ws[q0]? = some (a, .inl (q.2.2.1, N, .inl f))) (hN : N < 2 ^ 31) {i : Int32} (d : decode cc pc = .ok (.iaload, 1)) (j : Nat) (hi : i = nI j) (hj : j < N) (kk : fz_A q x ws (pc + 1) lc (.int (f j) :: st)) : fz_A q x ws pc lc (.int i :: .ref a :: st) := by
  subst hi
  obtain ⟨p, e, R, s, m, args, below, meth, c, A, Qf, nc, ns⟩ := x
  obtain ⟨hx, hb, hml, hown, hts, hK, hA, hfr, hlo, hce, hsl⟩ := ok
  intro H locs ls hP hD hS hl
  have hin : vp_in (nI j) N := vp_in_nI hj hN
  refine va_iald hx hb hK hP q0 0 he rfl hin d ?_
  rw [nI_clamp (Nat.lt_trans hj hN)]
  exact kk H locs ls hP hD hS hl
theorem fz_ldz (ok : fz_ok q x cc n own k) (q0 : Nat) {a N : Nat} {f : Nat → Int32} (he : ws[q0]? = some (a, .inl (q.2.2.2, N, .inl f))) (hN : N < 2 ^ 31) {i : Int32} (d : decode cc pc = .ok (.baload, 1)) (j : Nat) (hi : i = nI j) (hj : j < N) (kk : fz_A q x ws (pc + 1) lc (.int (f j) :: st)) : fz_A q x ws pc lc (.int i :: .ref a :: st) := by
  subst hi
  obtain ⟨p, e, R, s, m, args, below, meth, c, A, Qf, nc, ns⟩ := x
  obtain ⟨hx, hb, hml, hown, hts, hK, hA, hfr, hlo, hce, hsl⟩ := ok
  intro H locs ls hP hD hS hl
  have hin : vp_in (nI j) N := vp_in_nI hj hN
  refine va_zald hx hb hK hP q0 1 he rfl hin d ?_
  rw [nI_clamp (Nat.lt_trans hj hN)]
  exact kk H locs ls hP hD hS hl
theorem fz_sto (ok : fz_ok q x cc n own k) (q0 : Nat) {a N : Nat} {f : Nat → Int32} (he : ws[q0]? = some (a, .inl (q.2.2.1, N, .inl f))) (hN : N < 2 ^ 31) {i v : Int32} (d : decode cc pc = .ok (.iastore, 1)) (j : Nat) (hi : i = nI j) (hj : j < N) {ws' : va_W} (hw : ws.set q0 (a, .inl (q.2.2.1, N, .inl (upd f j v))) = ws') (kk : fz_A q x ws' (pc + 1) lc st) : fz_A q x ws pc lc (.int v :: .int i :: .ref a :: st) := by
  subst hi
  subst hw
  obtain ⟨p, e, R, s, m, args, below, meth, c, A, Qf, nc, ns⟩ := x
  obtain ⟨hx, hb, hml, hown, hts, hK, hA, hfr, hlo, hce, hsl⟩ := ok
  intro H locs ls hP hD hS hl
  have hin : vp_in (nI j) N := vp_in_nI hj hN
  refine va_iast hx hb hK hP hD hS q0 0 he rfl hin d (fun H1 locs1 hP1 hD1 hS1 => ?_)
  rw [nI_clamp (Nat.lt_trans hj hN)] at hP1 hD1
  exact kk H1 locs1 ls hP1 hD1 hS1 hl
theorem fz_stoz (ok : fz_ok q x cc n own k) (q0 : Nat) {a N : Nat} {f : Nat → Int32} (he : ws[q0]? = some (a, .inl (q.2.2.2, N, .inl f))) (hN : N < 2 ^ 31) {i v : Int32} (d : decode cc pc = .ok (.bastore, 1)) (j : Nat) (hi : i = nI j) (hj : j < N) {ws' : va_W} (hw : ws.set q0 (a, .inl (q.2.2.2, N, .inl (upd f j (vp_nar .boolean v)))) = ws') (kk : fz_A q x ws' (pc + 1) lc st) : fz_A q x ws pc lc (.int v :: .int i :: .ref a :: st) := by
  subst hi
  subst hw
  obtain ⟨p, e, R, s, m, args, below, meth, c, A, Qf, nc, ns⟩ := x
  obtain ⟨hx, hb, hml, hown, hts, hK, hA, hfr, hlo, hce, hsl⟩ := ok
  intro H locs ls hP hD hS hl
  have hin : vp_in (nI j) N := vp_in_nI hj hN
  refine va_zast hx hb hK hP hD hS q0 1 he rfl hin d (fun H1 locs1 hP1 hD1 hS1 => ?_)
  rw [nI_clamp (Nat.lt_trans hj hN)] at hP1 hD1
  exact kk H1 locs1 ls hP1 hD1 hS1 hl
end FZ
section FZ0
variable {q : fz_Q} {x : fz_X} {cc : ByteArray} {n : Nat} {k : Nat} {ws ws' : va_W} {pc : Nat} {lc st : List Value}
theorem fz_get0 (ok : fz_ok q x cc n RX0 k) {a : Nat} {fs : List Value} (q0 : Nat) (he : ws[q0]? = some (a, .inr (0, fs))) (j : Nat) (hj : j < 17) {idx : Nat} (hq : Cond.fieldLink RX0 idx (TX0 j).1 (TX0 j).2.1 (TX0 j).2.2.1 ∈ lw_all) {v : Value} (hv : fs[j]? = some v) (d : decode cc pc = .ok (.getfield idx, 3)) (kk : fz_A q x ws (pc + 3) lc (v :: st)) : fz_A q x ws pc lc (.ref a :: st) := by
  obtain ⟨p, e, R, s, m, args, below, meth, c, A, Qf, nc, ns⟩ := x
  obtain ⟨hx, hb, hml, hown, hts, hK, hA, hfr, hlo, hce, hsl⟩ := ok
  intro H locs ls hP hD hS hl
  exact va_get (D := q.2.1) (ci := 0) (C := RX0) (T := TX0) (N := 17) hx hb hts in_X0 hown hK hP q0 he rfl j hj (hts _ hq) (fun _ h => h) hv d (kk H locs ls hP hD hS hl)
theorem fz_put0 (ok : fz_ok q x cc n RX0 k) {a : Nat} {fs : List Value} (q0 : Nat) (he : ws[q0]? = some (a, .inr (0, fs))) (j : Nat) (hj : j < 17) {idx : Nat} (hq : Cond.fieldLink RX0 idx (TX0 j).1 (TX0 j).2.1 (TX0 j).2.2.1 ∈ lw_all) (hfin : (TX0 j).2.2.2 = false) {ty : FieldType} {v : Value} (hd : parseFieldDescriptor (TX0 j).2.2.1 = some ty) (hn : narrow ty v = v) (hfit : fits ty v = true) (hlen : j < fs.length) (d : decode cc pc = .ok (.putfield idx, 3)) (hw : ws.set q0 (a, .inr (0, fs.set j v)) = ws') (kk : fz_A q x ws' (pc + 3) lc st) : fz_A q x ws pc lc (v :: .ref a :: st) := by
  subst hw
  obtain ⟨p, e, R, s, m, args, below, meth, c, A, Qf, nc, ns⟩ := x
  obtain ⟨hx, hb, hml, hown, hts, hK, hA, hfr, hlo, hce, hsl⟩ := ok
  intro H locs ls hP hD hS hl
  exact va_put (D := q.2.1) (ci := 0) (C := RX0) (T := TX0) (N := 17) hx hb hts in_X0 tyX0 tyX0_ok nmX0 hown hK hP hD hS q0 he rfl j hj (hts _ hq) (fun _ h => h) hfin hd hn hfit hlen d (fun H1 locs1 hP1 hD1 hS1 => kk H1 locs1 ls hP1 hD1 hS1 hl)
end FZ0
section FZ1
variable {q : fz_Q} {x : fz_X} {cc : ByteArray} {n : Nat} {k : Nat} {ws ws' : va_W} {pc : Nat} {lc st : List Value}
theorem fz_get1 (ok : fz_ok q x cc n RX1 k) {a : Nat} {fs : List Value} (q0 : Nat) (he : ws[q0]? = some (a, .inr (1, fs))) (j : Nat) (hj : j < 10) {idx : Nat} (hq : Cond.fieldLink RX1 idx (TX1 j).1 (TX1 j).2.1 (TX1 j).2.2.1 ∈ lw_all) {v : Value} (hv : fs[j]? = some v) (d : decode cc pc = .ok (.getfield idx, 3)) (kk : fz_A q x ws (pc + 3) lc (v :: st)) : fz_A q x ws pc lc (.ref a :: st) := by
  obtain ⟨p, e, R, s, m, args, below, meth, c, A, Qf, nc, ns⟩ := x
  obtain ⟨hx, hb, hml, hown, hts, hK, hA, hfr, hlo, hce, hsl⟩ := ok
  intro H locs ls hP hD hS hl
  exact va_get (D := q.2.1) (ci := 1) (C := RX1) (T := TX1) (N := 10) hx hb hts in_X1 hown hK hP q0 he rfl j hj (hts _ hq) (fun _ h => h) hv d (kk H locs ls hP hD hS hl)
theorem fz_put1 (ok : fz_ok q x cc n RX1 k) {a : Nat} {fs : List Value} (q0 : Nat) (he : ws[q0]? = some (a, .inr (1, fs))) (j : Nat) (hj : j < 10) {idx : Nat} (hq : Cond.fieldLink RX1 idx (TX1 j).1 (TX1 j).2.1 (TX1 j).2.2.1 ∈ lw_all) (hfin : (TX1 j).2.2.2 = false) {ty : FieldType} {v : Value} (hd : parseFieldDescriptor (TX1 j).2.2.1 = some ty) (hn : narrow ty v = v) (hfit : fits ty v = true) (hlen : j < fs.length) (d : decode cc pc = .ok (.putfield idx, 3)) (hw : ws.set q0 (a, .inr (1, fs.set j v)) = ws') (kk : fz_A q x ws' (pc + 3) lc st) : fz_A q x ws pc lc (v :: .ref a :: st) := by
  subst hw
  obtain ⟨p, e, R, s, m, args, below, meth, c, A, Qf, nc, ns⟩ := x
  obtain ⟨hx, hb, hml, hown, hts, hK, hA, hfr, hlo, hce, hsl⟩ := ok
  intro H locs ls hP hD hS hl
  exact va_put (D := q.2.1) (ci := 1) (C := RX1) (T := TX1) (N := 10) hx hb hts in_X1 tyX1 tyX1_ok nmX1 hown hK hP hD hS q0 he rfl j hj (hts _ hq) (fun _ h => h) hfin hd hn hfit hlen d (fun H1 locs1 hP1 hD1 hS1 => kk H1 locs1 ls hP1 hD1 hS1 hl)
end FZ1
/-! contracts -/
abbrev fz_rm (k : Nat) : Room := { frames := k, cells := 0, slots := 0, locals := 30 * k }
def fz_Mv (q : fz_Q) (y : MethodName) (b : ByteArray) (n k : Nat) (av : List Value) (w : va_W) {S : Type} (post : S → Prop) (w' : S → va_W) : Prop :=
  ∀ sz : Nat, Met q.1 y (ws_ y b n none) (fz_rm k) (va_Pc av (fun U => U.heap.size = sz ∧ va_P q.2.1 vwCl w U.heap ∧ va_K q.2.1 vwCl (fz_ty q) U ∧ va_D (fun _ => True) w)) (va_Qv post (fun u t => va_P q.2.1 vwCl (w' u) t.heap ∧ va_K q.2.1 vwCl (fz_ty q) t ∧ va_D (va_A w sz) (w' u)) (va_A w sz)) 0 0 (va_A w sz)
def fz_Mi (q : fz_Q) (y : MethodName) (b : ByteArray) (n k : Nat) (ty : FieldType) (av : List Value) (w : va_W) {S : Type} (post : Int32 → S → Prop) (w' : S → va_W) : Prop :=
  ∀ sz : Nat, Met q.1 y (ws_ y b n (some ty)) (fz_rm k) (va_Pc av (fun U => U.heap.size = sz ∧ va_P q.2.1 vwCl w U.heap ∧ va_K q.2.1 vwCl (fz_ty q) U ∧ va_D (fun _ => True) w)) (va_Qi post (fun u t => va_P q.2.1 vwCl (w' u) t.heap ∧ va_K q.2.1 vwCl (fz_ty q) t ∧ va_D (va_A w sz) (w' u)) (va_A w sz)) 0 0 (va_A w sz)
theorem fz_ofv {q : fz_Q} {y : MethodName} {b : ByteArray} {n k : Nat} {own : String} {av : List Value} {w : va_W} {S : Type} {post : S → Prop} {w' : S → va_W} (hy : plainName y.cls = true) (ho : y.cls = own) (hc : av.all (fun v => v.category == 1) = true) (hn : av.length ≤ n)
    (h : ∀ x : fz_X, fz_ok q x b n own k → (∀ (u : S) (pc : Nat) (lc : List Value), decode b pc = .ok (.return_, 1) → post u → fz_A q x (w' u) pc lc []) → fz_A q x w 0 av []) : fz_Mv q y b n k av w post w' := by
  intro sz
  refine Met.ofW (cc := b) (maxL := n) (ret := none) hy rfl ?_
  intro p e s m args below meth c s₁ B hml hv
  obtain ⟨rfl, hsz, hP, hK, hD0⟩ := hv
  have hx := B.exec
  have hb := B.bytes
  have hr := B.returns
  have hts0 := atoms_spec (ws := ws_ y b n none) B.pre
  have hts : ∀ w ∈ lw_all, w.before av.toArray s = true := fun w h => hts0 w (List.mem_cons_of_mem _ h)
  have hown : s.vm.findClass y.cls = some m.cls := findClass_of_methodNamed B.named
  rw [ho] at hown
  have hlocks := B.notSynchronized
  subst hsz
  have hD : va_D (va_A w s.heap.size) w := hD0.self (sz := s.heap.size)
  have hA : ∀ a : Nat, s.heap.size ≤ a → va_A w s.heap.size a := fun a h => Or.inr h
  have hS : va_S (va_A w s.heap.size) s.heap s.heap [] := va_S.rf
  have hl := fz_entry (n := n) (fz_cats hc) hn
  rw [lg_entry_eq]
  refine h (p, e, (headSpec (ws_ y b n none) (fz_rm k)).room, s, m, av.toArray, below, meth, c, va_A w s.heap.size, MQ below (va_Qv post (fun u t => va_P q.2.1 vwCl (w' u) t.heap ∧ va_K q.2.1 vwCl (fz_ty q) t ∧ va_D (va_A w s.heap.size) (w' u)) (va_A w s.heap.size)) av.toArray s 0 0 (va_A w s.heap.size), 0, 0) ⟨hx, hb, hml, hown, hts, hK, hA, Nat.le_refl _, Nat.le_refl _, Nat.zero_le _, Nat.zero_le _⟩ ?_ s.heap [] _ hP hD hS (by rw [hml]; exact hl)
  intro u pc lc hd hu H locs ls hP hD hS hl
  exact W.vret hx hb hr (fun t ht hW => ⟨⟨u, rfl, hu, by rw [ht]; exact hP, va_K.moved hW.alike hK, hD⟩, hS.F ht⟩) hS.2.2 hd
theorem fz_ofi {q : fz_Q} {y : MethodName} {b : ByteArray} {n k : Nat} {own : String} {av : List Value} {w : va_W} {S : Type} {ty : FieldType} {post : Int32 → S → Prop} {w' : S → va_W} (hy : plainName y.cls = true) (ho : y.cls = own) (hc : av.all (fun v => v.category == 1) = true) (hn : av.length ≤ n)
    (h : ∀ x : fz_X, fz_ok q x b n own k → (∀ (u : S) (v : Int32) (pc : Nat) (lc : List Value), decode b pc = .ok (.ireturn, 1) → narrow ty (.int v) = .int v → post v u → fz_A q x (w' u) pc lc [.int v]) → fz_A q x w 0 av []) : fz_Mi q y b n k ty av w post w' := by
  intro sz
  refine Met.ofW (cc := b) (maxL := n) (ret := (some ty)) hy rfl ?_
  intro p e s m args below meth c s₁ B hml hv
  obtain ⟨rfl, hsz, hP, hK, hD0⟩ := hv
  have hx := B.exec
  have hb := B.bytes
  have hr := B.returns
  have hts0 := atoms_spec (ws := ws_ y b n (some ty)) B.pre
  have hts : ∀ w ∈ lw_all, w.before av.toArray s = true := fun w h => hts0 w (List.mem_cons_of_mem _ h)
  have hown : s.vm.findClass y.cls = some m.cls := findClass_of_methodNamed B.named
  rw [ho] at hown
  have hlocks := B.notSynchronized
  subst hsz
  have hD : va_D (va_A w s.heap.size) w := hD0.self (sz := s.heap.size)
  have hA : ∀ a : Nat, s.heap.size ≤ a → va_A w s.heap.size a := fun a h => Or.inr h
  have hS : va_S (va_A w s.heap.size) s.heap s.heap [] := va_S.rf
  have hl := fz_entry (n := n) (fz_cats hc) hn
  rw [lg_entry_eq]
  refine h (p, e, (headSpec (ws_ y b n (some ty)) (fz_rm k)).room, s, m, av.toArray, below, meth, c, va_A w s.heap.size, MQ below (va_Qi post (fun u t => va_P q.2.1 vwCl (w' u) t.heap ∧ va_K q.2.1 vwCl (fz_ty q) t ∧ va_D (va_A w s.heap.size) (w' u)) (va_A w s.heap.size)) av.toArray s 0 0 (va_A w s.heap.size), 0, 0) ⟨hx, hb, hml, hown, hts, hK, hA, Nat.le_refl _, Nat.le_refl _, Nat.zero_le _, Nat.zero_le _⟩ ?_ s.heap [] _ hP hD hS (by rw [hml]; exact hl)
  intro u v pc lc hd hv hu H locs ls hP hD hS hl
  exact W.zret hx hb hr hv (fun t ht hW => ⟨⟨v, u, rfl, hu, by rw [ht]; exact hP, va_K.moved hW.alike hK, hD⟩, hS.F ht⟩) hS.2.2 hd
/-! worlds side by side -/
theorem fz_Pl {D : va_G} {w1 w2 : va_W} {H : Heap} (h : va_P D vwCl (w1 ++ w2) H) : va_P D vwCl w1 H := fun k c hk => h k c (by rw [List.getElem?_append_left (List.getElem?_eq_some_iff.mp hk).1]; exact hk)
theorem fz_Pr {D : va_G} {w1 w2 : va_W} {H : Heap} (h : va_P D vwCl (w1 ++ w2) H) : va_P D vwCl w2 H := fun k c hk => h (w1.length + k) c (by rw [List.getElem?_append_right (Nat.le_add_right _ _), Nat.add_sub_cancel_left]; exact hk)
theorem fz_Dl {A : Nat → Prop} {w1 w2 : va_W} (h : va_D A (w1 ++ w2)) : va_D A w1 := by
  refine ⟨fun i j a c hi hj e => h.1 i j a c ?_ ?_ e, fun k c hk => h.2 k c ?_⟩
  · rw [List.getElem?_append_left (List.getElem?_eq_some_iff.mp hi).1]; exact hi
  · rw [List.getElem?_append_left (List.getElem?_eq_some_iff.mp hj).1]; exact hj
  · rw [List.getElem?_append_left (List.getElem?_eq_some_iff.mp hk).1]; exact hk
theorem fz_Dr {A : Nat → Prop} {w1 w2 : va_W} (h : va_D A (w1 ++ w2)) : va_D A w2 := by
  have g : ∀ (i : Nat) (c : Nat × va_E), w2[i]? = some c → (w1 ++ w2)[w1.length + i]? = some c := fun i c hi => by
    rw [List.getElem?_append_right (Nat.le_add_right _ _), Nat.add_sub_cancel_left]; exact hi
  refine ⟨fun i j a c hi hj e => ?_, fun k c hk => h.2 _ c (g k c hk)⟩
  have := h.1 _ _ a c (g i a hi) (g j c hj) e
  omega
theorem fz_Dx {A : Nat → Prop} {w1 w2 : va_W} (h : va_D A (w1 ++ w2)) {i j : Nat} {a c : Nat × va_E} (hi : w1[i]? = some a) (hj : w2[j]? = some c) : a.1 ≠ c.1 := fun e => by
  have hi2 := (List.getElem?_eq_some_iff.mp hi).1
  have := h.1 i (w1.length + j) a c (by rw [List.getElem?_append_left hi2]; exact hi) (by rw [List.getElem?_append_right (Nat.le_add_right _ _), Nat.add_sub_cancel_left]; exact hj) e
  omega
/-- behind a call: the callee's world anew, the rest as it was -/
theorem fz_join {A : Nat → Prop} {D : va_G} {w1 w2 w1' : va_W} {H H1 : Heap} (hP : va_P D vwCl (w1 ++ w2) H) (hD : va_D A (w1 ++ w2)) (hk : ∀ a : Nat, a < H.size → ¬ va_A w1 H.size a → H1[a]? = H[a]?) (hF : ∀ a, va_A w1 H.size a → A a) (hP1 : va_P D vwCl w1' H1) (hD1 : va_D (va_A w1 H.size) w1') : va_P D vwCl (w1' ++ w2) H1 ∧ va_D A (w1' ++ w2) := by
  have apart : ∀ (k : Nat) (c : Nat × va_E), w2[k]? = some c → c.1 < H.size ∧ ¬ va_A w1 H.size c.1 := by
    intro k c hc
    have hlt := (fz_Pr hP k c hc).lt
    refine ⟨hlt, fun h => ?_⟩
    rcases h with ⟨i, e, h⟩ | h
    · exact fz_Dx hD h hc rfl
    · omega
  refine ⟨va_P.app hP1 (fun k c hc => ?_), va_D.app (hD1.weaken (fun k c _ h => hF c.1 h)) (fz_Dr hD) (fun i j a c ha hc e => ?_)⟩
  · exact (fz_Pr hP k c hc).kept (hk c.1 (apart k c hc).1 (apart k c hc).2)
  · exact (apart j c hc).2 (by rw [← e]; exact hD1.2 i a ha)
theorem fz_freeL {A : Nat → Prop} {w1 w2 : va_W} {H0 H : Heap} {locs : List Loc} (hD : va_D A (w1 ++ w2)) (hS : va_S A H0 H locs) (hA : ∀ a, H0.size ≤ a → A a) : ∀ a, va_A w1 H.size a → A a := by
  intro a h
  rcases h with ⟨k, e, h⟩ | h
  · exact (fz_Dl hD).2 k (a, e) h
  · exact hA a (Nat.le_trans hS.1 h)
theorem fz_swapP {D : va_G} {w1 w2 : va_W} {H : Heap} (h : va_P D vwCl (w1 ++ w2) H) : va_P D vwCl (w2 ++ w1) H := va_P.app (fz_Pr h) (fz_Pl h)
theorem fz_swapD {A : Nat → Prop} {w1 w2 : va_W} (h : va_D A (w1 ++ w2)) : va_D A (w2 ++ w1) := va_D.app (fz_Dr h) (fz_Dl h) (fun i j a c ha hc e => fz_Dx h hc ha e.symm)
theorem fz_swap {q : fz_Q} {x : fz_X} {w1 w2 : va_W} {pc : Nat} {lc st : List Value} (kk : fz_A q x (w2 ++ w1) pc lc st) : fz_A q x (w1 ++ w2) pc lc st := by
  obtain ⟨p, e, R, s, m, args, below, meth, c, A, Qf, nc, ns⟩ := x
  intro H locs ls hP hD hS hl
  exact kk H locs ls (fz_swapP hP) (fz_swapD hD) hS hl
theorem fz_nil {q : fz_Q} {x : fz_X} {w1 : va_W} {pc : Nat} {lc st : List Value} (kk : fz_A q x w1 pc lc st) : fz_A q x (w1 ++ []) pc lc st := by
  rw [List.append_nil]; exact kk
/-! calls: the callee's world w1 beside the rest w2 -/
section FZC
variable {q : fz_Q} {x : fz_X} {cc b : ByteArray} {n L idx : Nat} {own C : String} {k kc : Nat} {w1 w2 : va_W} {pc : Nat} {lc st : List Value} {y : MethodName} {S : Type} {w' : S → va_W} {a ci N : Nat} {T : u_T} {fs As : List Value}
theorem fz_cVv (ok : fz_ok q x cc n own k) {post : S → Prop} (hM : fz_Mv q y b L kc (.ref a :: As) w1 post w') (hw0 : GoodIn lw_all (wsV own idx C y (ws_ y b L none))) (hd : y.cls = C ∧ y.cls ≠ "java/lang/invoke/MethodHandle" ∧ y.cls ≠ "java/lang/invoke/VarHandle" ∧ (parseMethodDescriptor y.desc).map (fun d => d.parameters.length) = some As.length) (he : w1[0]? = some (a, .inr (ci, fs))) (hci : vwCl[ci]? = some (C, T, N)) (hk : kc + 1 ≤ k) (hL : L ≤ 11) (hst : (st.map fun v => v.category).sum ≤ 8) (d : decode cc pc = .ok (.invokevirtual idx, 3)) (kk : ∀ u : S, post u → fz_A q x (w' u ++ w2) (pc + 3) lc st) : fz_A q x (w1 ++ w2) pc lc (As.reverse ++ .ref a :: st) := by
  obtain ⟨p, e, R, s, m, args, below, meth, c, A, Qf, nc, ns⟩ := x
  obtain ⟨hx, hb, hml, hown, hts, hK, hA, hfr, hlo, hce, hsl⟩ := ok
  intro H locs ls hP hD hS hl
  have hPc := fz_Pl hP
  have hDc := fz_Dl hD
  have hFc := fz_freeL hD hS hA
  refine va_callv (va_runV (As := As) (rest := st) ⟨hx, hb, hml, hown, hts⟩ (hM H.size) (cwV As.length hts hw0 rfl rfl rfl hd ⟨Nat.le_trans hk hfr, Nat.le_trans (show 8 + (L + 11) + 30 * kc ≤ 30 * k by omega) hlo⟩) ⟨fun a9 U g mk z => by obtain ⟨z0, z1, zP, zK, zD⟩ := z; exact ⟨z0, z1, zP, va_K.moved (u := U) (U := U.calling g mk a9) (Vm.Alike.refl U.vm) zK, zD⟩, va_recv hK hPc (ci := ci) (q0 := 0) hci he, fun U hU hW => ⟨rfl, by rw [hU], by rw [hU]; exact hPc, va_K.moved hW.alike hK, hDc.weaken (fun _ _ _ _ => trivial)⟩⟩ rfl rfl (hl.1.trans hml) rfl (lv_room hst) d ⟨hce, hsl⟩) hS (fun a9 _ h => hFc a9 h) hFc (fun u t H1 locs1 ht hvm hw hB hz1 hk1 hS1 => ?_)
  obtain ⟨hP1, hK1, hD1⟩ := hB
  rw [ht] at hP1
  obtain ⟨hP2, hD2⟩ := fz_join hP hD hk1 hFc hP1 hD1
  exact kk u hw H1 locs1 ls hP2 hD2 hS1 hl
theorem fz_cVi (ok : fz_ok q x cc n own k) {ty : FieldType} {post : Int32 → S → Prop} (hM : fz_Mi q y b L kc ty (.ref a :: As) w1 post w') (hw0 : GoodIn lw_all (wsV own idx C y (ws_ y b L (some ty)))) (hd : y.cls = C ∧ y.cls ≠ "java/lang/invoke/MethodHandle" ∧ y.cls ≠ "java/lang/invoke/VarHandle" ∧ (parseMethodDescriptor y.desc).map (fun d => d.parameters.length) = some As.length) (he : w1[0]? = some (a, .inr (ci, fs))) (hci : vwCl[ci]? = some (C, T, N)) (hk : kc + 1 ≤ k) (hL : L ≤ 11) (hst : (st.map fun v => v.category).sum ≤ 8) (d : decode cc pc = .ok (.invokevirtual idx, 3)) (kk : ∀ (r : Int32) (u : S), post r u → fz_A q x (w' u ++ w2) (pc + 3) lc (.int r :: st)) : fz_A q x (w1 ++ w2) pc lc (As.reverse ++ .ref a :: st) := by
  obtain ⟨p, e, R, s, m, args, below, meth, c, A, Qf, nc, ns⟩ := x
  obtain ⟨hx, hb, hml, hown, hts, hK, hA, hfr, hlo, hce, hsl⟩ := ok
  intro H locs ls hP hD hS hl
  have hPc := fz_Pl hP
  have hDc := fz_Dl hD
  have hFc := fz_freeL hD hS hA
  refine va_calli (va_runV (As := As) (rest := st) ⟨hx, hb, hml, hown, hts⟩ (hM H.size) (cwV As.length hts hw0 rfl rfl rfl hd ⟨Nat.le_trans hk hfr, Nat.le_trans (show 8 + (L + 11) + 30 * kc ≤ 30 * k by omega) hlo⟩) ⟨fun a9 U g mk z => by obtain ⟨z0, z1, zP, zK, zD⟩ := z; exact ⟨z0, z1, zP, va_K.moved (u := U) (U := U.calling g mk a9) (Vm.Alike.refl U.vm) zK, zD⟩, va_recv hK hPc (ci := ci) (q0 := 0) hci he, fun U hU hW => ⟨rfl, by rw [hU], by rw [hU]; exact hPc, va_K.moved hW.alike hK, hDc.weaken (fun _ _ _ _ => trivial)⟩⟩ rfl rfl (hl.1.trans hml) rfl (lv_room hst) d ⟨hce, hsl⟩) hS (fun a9 _ h => hFc a9 h) hFc (fun r u t H1 locs1 ht hvm hw hB hz1 hk1 hS1 => ?_)
  obtain ⟨hP1, hK1, hD1⟩ := hB
  rw [ht] at hP1
  obtain ⟨hP2, hD2⟩ := fz_join hP hD hk1 hFc hP1 hD1
  exact kk r u hw H1 locs1 ls hP2 hD2 hS1 hl
theorem fz_cSi (ok : fz_ok q x cc n own k) {ty : FieldType} {post : Int32 → S → Prop} (hM : fz_Mi q y b L kc ty As w1 post w') (hw0 : GoodIn lw_all (va_wsS own idx y (ws_ y b L (some ty)))) (hd : y.cls ≠ "java/lang/invoke/MethodHandle" ∧ y.cls ≠ "java/lang/invoke/VarHandle" ∧ (parseMethodDescriptor y.desc).map (fun d => d.parameters.length) = some As.length) (hk : kc + 1 ≤ k) (hL : L ≤ 11) (hst : (st.map fun v => v.category).sum ≤ 8) (d : decode cc pc = .ok (.invokestatic idx, 3)) (kk : ∀ (r : Int32) (u : S), post r u → fz_A q x (w' u ++ w2) (pc + 3) lc (.int r :: st)) : fz_A q x (w1 ++ w2) pc lc (As.reverse ++ st) := by
  obtain ⟨p, e, R, s, m, args, below, meth, c, A, Qf, nc, ns⟩ := x
  obtain ⟨hx, hb, hml, hown, hts, hK, hA, hfr, hlo, hce, hsl⟩ := ok
  intro H locs ls hP hD hS hl
  have hPc := fz_Pl hP
  have hDc := fz_Dl hD
  have hFc := fz_freeL hD hS hA
  refine va_calli (va_runS (As := As) (rest := st) ⟨hx, hb, hml, hown, hts⟩ (hM H.size) (va_cwS As.length hts hw0 rfl rfl rfl hd ⟨Nat.le_trans hk hfr, Nat.le_trans (show 8 + (L + 11) + 30 * kc ≤ 30 * k by omega) hlo⟩) ⟨fun a9 U g mk z => by obtain ⟨z0, z1, zP, zK, zD⟩ := z; exact ⟨z0, z1, zP, va_K.moved (u := U) (U := U.calling g mk a9) (Vm.Alike.refl U.vm) zK, zD⟩, fun U hU hW => ⟨rfl, by rw [hU], by rw [hU]; exact hPc, va_K.moved hW.alike hK, hDc.weaken (fun _ _ _ _ => trivial)⟩⟩ rfl rfl (hl.1.trans hml) rfl (lv_room hst) d ⟨hce, hsl⟩) hS (fun a9 _ h => hFc a9 h) hFc (fun r u t H1 locs1 ht hvm hw hB hz1 hk1 hS1 => ?_)
  obtain ⟨hP1, hK1, hD1⟩ := hB
  rw [ht] at hP1
  obtain ⟨hP2, hD2⟩ := fz_join hP hD hk1 hFc hP1 hD1
  exact kk r u hw H1 locs1 ls hP2 hD2 hS1 hl
end FZC
end
section
set_option maxRecDepth 100000
/-! FuelGate: its world, a rule a field, a rule a callee -/
def wg (q : fz_Q) (o : fz_O) (sz ck gd ls st fu pt dp : Int32) (op cn ht ld bc be li sk ce : Nat → Int32) : va_W := [(o.1, .inr (0, [.int sz, .ref (o.2 1), .ref (o.2 2), .int ck, .int gd, .ref (o.2 5), .ref (o.2 6), .ref (o.2 7), .ref (o.2 8), .ref (o.2 9), .int ls, .int st, .int fu, .int pt, .int dp, .ref (o.2 15), .ref (o.2 16)])), (o.2 1, .inl (q.2.2.1, 24, .inl op)), (o.2 2, .inl (q.2.2.1, 24, .inl cn)), (o.2 5, .inl (q.2.2.1, 24, .inl ht)), (o.2 6, .inl (q.2.2.2, 24, .inl ld)), (o.2 7, .inl (q.2.2.1, 24, .inl bc)), (o.2 8, .inl (q.2.2.1, 24, .inl be)), (o.2 9, .inl (q.2.2.1, 24, .inl li)), (o.2 15, .inl (q.2.2.1, 9, .inl sk)), (o.2 16, .inl (q.2.2.1, 4, .inl ce))]
section FLD0
variable {q : fz_Q} {x : fz_X} {cc : ByteArray} {n : Nat} {k : Nat} {pc : Nat} {lc stk : List Value} {o : fz_O} {sz ck gd ls st fu pt dp : Int32} {op cn ht ld bc be li sk ce : Nat → Int32}
theorem g0_size (ok : fz_ok q x cc n RX0 k) (d : decode cc pc = .ok (.getfield 49, 3)) (kk : fz_A q x (wg q o sz ck gd ls st fu pt dp op cn ht ld bc be li sk ce) (pc + 3) lc (.int sz :: stk)) : fz_A q x (wg q o sz ck gd ls st fu pt dp op cn ht ld bc be li sk ce) pc lc (.ref o.1 :: stk) := fz_get0 ok 0 rfl 0 (by decide) q37 rfl d kk
theorem p0_size (ok : fz_ok q x cc n RX0 k) {uu : Int32} (d : decode cc pc = .ok (.putfield 49, 3)) (vv : Int32) (hv : uu = vv) (kk : fz_A q x (wg q o vv ck gd ls st fu pt dp op cn ht ld bc be li sk ce) (pc + 3) lc stk) : fz_A q x (wg q o sz ck gd ls st fu pt dp op cn ht ld bc be li sk ce) pc lc (.int uu :: .ref o.1 :: stk) := by
  subst hv
  exact fz_put0 (fs := [.int sz, .ref (o.2 1), .ref (o.2 2), .int ck, .int gd, .ref (o.2 5), .ref (o.2 6), .ref (o.2 7), .ref (o.2 8), .ref (o.2 9), .int ls, .int st, .int fu, .int pt, .int dp, .ref (o.2 15), .ref (o.2 16)]) (ws' := (wg q o uu ck gd ls st fu pt dp op cn ht ld bc be li sk ce)) (ty := .int) ok 0 rfl 0 (by decide) q37 rfl (by decide +kernel) rfl rfl (Nat.le_of_ble_eq_true rfl) d rfl kk
theorem g0_op (ok : fz_ok q x cc n RX0 k) (d : decode cc pc = .ok (.getfield 7, 3)) (kk : fz_A q x (wg q o sz ck gd ls st fu pt dp op cn ht ld bc be li sk ce) (pc + 3) lc (.ref (o.2 1) :: stk)) : fz_A q x (wg q o sz ck gd ls st fu pt dp op cn ht ld bc be li sk ce) pc lc (.ref o.1 :: stk) := fz_get0 ok 0 rfl 1 (by decide) q38 rfl d kk
theorem l0_op (ok : fz_ok q x cc n RX0 k) {i : Int32} (d : decode cc pc = .ok (.iaload, 1)) (j : Nat) (hi : i = nI j) (hj : j < 24) (kk : fz_A q x (wg q o sz ck gd ls st fu pt dp op cn ht ld bc be li sk ce) (pc + 1) lc (.int (op j) :: stk)) : fz_A q x (wg q o sz ck gd ls st fu pt dp op cn ht ld bc be li sk ce) pc lc (.int i :: .ref (o.2 1) :: stk) := fz_ld ok 1 rfl (by decide) d j hi hj kk
theorem s0_op (ok : fz_ok q x cc n RX0 k) {i uu : Int32} (d : decode cc pc = .ok (.iastore, 1)) (j : Nat) (hi : i = nI j) (hj : j < 24) (kk : fz_A q x (wg q o sz ck gd ls st fu pt dp (upd op j uu) cn ht ld bc be li sk ce) (pc + 1) lc stk) : fz_A q x (wg q o sz ck gd ls st fu pt dp op cn ht ld bc be li sk ce) pc lc (.int uu :: .int i :: .ref (o.2 1) :: stk) := fz_sto ok 1 rfl (by decide) d j hi hj rfl kk
theorem g0_con (ok : fz_ok q x cc n RX0 k) (d : decode cc pc = .ok (.getfield 13, 3)) (kk : fz_A q x (wg q o sz ck gd ls st fu pt dp op cn ht ld bc be li sk ce) (pc + 3) lc (.ref (o.2 2) :: stk)) : fz_A q x (wg q o sz ck gd ls st fu pt dp op cn ht ld bc be li sk ce) pc lc (.ref o.1 :: stk) := fz_get0 ok 0 rfl 2 (by decide) q39 rfl d kk
theorem l0_con (ok : fz_ok q x cc n RX0 k) {i : Int32} (d : decode cc pc = .ok (.iaload, 1)) (j : Nat) (hi : i = nI j) (hj : j < 24) (kk : fz_A q x (wg q o sz ck gd ls st fu pt dp op cn ht ld bc be li sk ce) (pc + 1) lc (.int (cn j) :: stk)) : fz_A q x (wg q o sz ck gd ls st fu pt dp op cn ht ld bc be li sk ce) pc lc (.int i :: .ref (o.2 2) :: stk) := fz_ld ok 2 rfl (by decide) d j hi hj kk
theorem s0_con (ok : fz_ok q x cc n RX0 k) {i uu : Int32} (d : decode cc pc = .ok (.iastore, 1)) (j : Nat) (hi : i = nI j) (hj : j < 24) (kk : fz_A q x (wg q o sz ck gd ls st fu pt dp op (upd cn j uu) ht ld bc be li sk ce) (pc + 1) lc stk) : fz_A q x (wg q o sz ck gd ls st fu pt dp op cn ht ld bc be li sk ce) pc lc (.int uu :: .int i :: .ref (o.2 2) :: stk) := fz_sto ok 2 rfl (by decide) d j hi hj rfl kk
theorem g0_checked (ok : fz_ok q x cc n RX0 k) (d : decode cc pc = .ok (.getfield 45, 3)) (kk : fz_A q x (wg q o sz ck gd ls st fu pt dp op cn ht ld bc be li sk ce) (pc + 3) lc (.int ck :: stk)) : fz_A q x (wg q o sz ck gd ls st fu pt dp op cn ht ld bc be li sk ce) pc lc (.ref o.1 :: stk) := fz_get0 ok 0 rfl 3 (by decide) q40 rfl d kk
theorem p0_checked (ok : fz_ok q x cc n RX0 k) {uu : Int32} (d : decode cc pc = .ok (.putfield 45, 3)) (vv : Int32) (hv : uu = vv) (hz : vv = 0 ∨ vv = 1) (kk : fz_A q x (wg q o sz vv gd ls st fu pt dp op cn ht ld bc be li sk ce) (pc + 3) lc stk) : fz_A q x (wg q o sz ck gd ls st fu pt dp op cn ht ld bc be li sk ce) pc lc (.int uu :: .ref o.1 :: stk) := by
  subst hv
  rcases hz with rfl | rfl
  · exact fz_put0 (fs := [.int sz, .ref (o.2 1), .ref (o.2 2), .int ck, .int gd, .ref (o.2 5), .ref (o.2 6), .ref (o.2 7), .ref (o.2 8), .ref (o.2 9), .int ls, .int st, .int fu, .int pt, .int dp, .ref (o.2 15), .ref (o.2 16)]) (ws' := (wg q o sz 0 gd ls st fu pt dp op cn ht ld bc be li sk ce)) (ty := .boolean) ok 0 rfl 3 (by decide) q40 rfl (by decide +kernel) rfl rfl (Nat.le_of_ble_eq_true rfl) d rfl kk
  · exact fz_put0 (fs := [.int sz, .ref (o.2 1), .ref (o.2 2), .int ck, .int gd, .ref (o.2 5), .ref (o.2 6), .ref (o.2 7), .ref (o.2 8), .ref (o.2 9), .int ls, .int st, .int fu, .int pt, .int dp, .ref (o.2 15), .ref (o.2 16)]) (ws' := (wg q o sz 1 gd ls st fu pt dp op cn ht ld bc be li sk ce)) (ty := .boolean) ok 0 rfl 3 (by decide) q40 rfl (by decide +kernel) rfl rfl (Nat.le_of_ble_eq_true rfl) d rfl kk
theorem g0_good (ok : fz_ok q x cc n RX0 k) (d : decode cc pc = .ok (.getfield 55, 3)) (kk : fz_A q x (wg q o sz ck gd ls st fu pt dp op cn ht ld bc be li sk ce) (pc + 3) lc (.int gd :: stk)) : fz_A q x (wg q o sz ck gd ls st fu pt dp op cn ht ld bc be li sk ce) pc lc (.ref o.1 :: stk) := fz_get0 ok 0 rfl 4 (by decide) q41 rfl d kk
theorem p0_good (ok : fz_ok q x cc n RX0 k) {uu : Int32} (d : decode cc pc = .ok (.putfield 55, 3)) (vv : Int32) (hv : uu = vv) (hz : vv = 0 ∨ vv = 1) (kk : fz_A q x (wg q o sz ck vv ls st fu pt dp op cn ht ld bc be li sk ce) (pc + 3) lc stk) : fz_A q x (wg q o sz ck gd ls st fu pt dp op cn ht ld bc be li sk ce) pc lc (.int uu :: .ref o.1 :: stk) := by
  subst hv
  rcases hz with rfl | rfl
  · exact fz_put0 (fs := [.int sz, .ref (o.2 1), .ref (o.2 2), .int ck, .int gd, .ref (o.2 5), .ref (o.2 6), .ref (o.2 7), .ref (o.2 8), .ref (o.2 9), .int ls, .int st, .int fu, .int pt, .int dp, .ref (o.2 15), .ref (o.2 16)]) (ws' := (wg q o sz ck 0 ls st fu pt dp op cn ht ld bc be li sk ce)) (ty := .boolean) ok 0 rfl 4 (by decide) q41 rfl (by decide +kernel) rfl rfl (Nat.le_of_ble_eq_true rfl) d rfl kk
  · exact fz_put0 (fs := [.int sz, .ref (o.2 1), .ref (o.2 2), .int ck, .int gd, .ref (o.2 5), .ref (o.2 6), .ref (o.2 7), .ref (o.2 8), .ref (o.2 9), .int ls, .int st, .int fu, .int pt, .int dp, .ref (o.2 15), .ref (o.2 16)]) (ws' := (wg q o sz ck 1 ls st fu pt dp op cn ht ld bc be li sk ce)) (ty := .boolean) ok 0 rfl 4 (by decide) q41 rfl (by decide +kernel) rfl rfl (Nat.le_of_ble_eq_true rfl) d rfl kk
theorem g0_heights (ok : fz_ok q x cc n RX0 k) (d : decode cc pc = .ok (.getfield 16, 3)) (kk : fz_A q x (wg q o sz ck gd ls st fu pt dp op cn ht ld bc be li sk ce) (pc + 3) lc (.ref (o.2 5) :: stk)) : fz_A q x (wg q o sz ck gd ls st fu pt dp op cn ht ld bc be li sk ce) pc lc (.ref o.1 :: stk) := fz_get0 ok 0 rfl 5 (by decide) q42 rfl d kk
theorem l0_heights (ok : fz_ok q x cc n RX0 k) {i : Int32} (d : decode cc pc = .ok (.iaload, 1)) (j : Nat) (hi : i = nI j) (hj : j < 24) (kk : fz_A q x (wg q o sz ck gd ls st fu pt dp op cn ht ld bc be li sk ce) (pc + 1) lc (.int (ht j) :: stk)) : fz_A q x (wg q o sz ck gd ls st fu pt dp op cn ht ld bc be li sk ce) pc lc (.int i :: .ref (o.2 5) :: stk) := fz_ld ok 3 rfl (by decide) d j hi hj kk
theorem s0_heights (ok : fz_ok q x cc n RX0 k) {i uu : Int32} (d : decode cc pc = .ok (.iastore, 1)) (j : Nat) (hi : i = nI j) (hj : j < 24) (kk : fz_A q x (wg q o sz ck gd ls st fu pt dp op cn (upd ht j uu) ld bc be li sk ce) (pc + 1) lc stk) : fz_A q x (wg q o sz ck gd ls st fu pt dp op cn ht ld bc be li sk ce) pc lc (.int uu :: .int i :: .ref (o.2 5) :: stk) := fz_sto ok 3 rfl (by decide) d j hi hj rfl kk
theorem g0_leader (ok : fz_ok q x cc n RX0 k) (d : decode cc pc = .ok (.getfield 19, 3)) (kk : fz_A q x (wg q o sz ck gd ls st fu pt dp op cn ht ld bc be li sk ce) (pc + 3) lc (.ref (o.2 6) :: stk)) : fz_A q x (wg q o sz ck gd ls st fu pt dp op cn ht ld bc be li sk ce) pc lc (.ref o.1 :: stk) := fz_get0 ok 0 rfl 6 (by decide) q43 rfl d kk
theorem l0_leader (ok : fz_ok q x cc n RX0 k) {i : Int32} (d : decode cc pc = .ok (.baload, 1)) (j : Nat) (hi : i = nI j) (hj : j < 24) (kk : fz_A q x (wg q o sz ck gd ls st fu pt dp op cn ht ld bc be li sk ce) (pc + 1) lc (.int (ld j) :: stk)) : fz_A q x (wg q o sz ck gd ls st fu pt dp op cn ht ld bc be li sk ce) pc lc (.int i :: .ref (o.2 6) :: stk) := fz_ldz ok 4 rfl (by decide) d j hi hj kk
theorem s0_leader (ok : fz_ok q x cc n RX0 k) {i uu : Int32} (d : decode cc pc = .ok (.bastore, 1)) (j : Nat) (hi : i = nI j) (hj : j < 24) (kk : fz_A q x (wg q o sz ck gd ls st fu pt dp op cn ht (upd ld j (vp_nar .boolean uu)) bc be li sk ce) (pc + 1) lc stk) : fz_A q x (wg q o sz ck gd ls st fu pt dp op cn ht ld bc be li sk ce) pc lc (.int uu :: .int i :: .ref (o.2 6) :: stk) := fz_stoz ok 4 rfl (by decide) d j hi hj rfl kk
theorem g0_blockCost (ok : fz_ok q x cc n RX0 k) (d : decode cc pc = .ok (.getfield 23, 3)) (kk : fz_A q x (wg q o sz ck gd ls st fu pt dp op cn ht ld bc be li sk ce) (pc + 3) lc (.ref (o.2 7) :: stk)) : fz_A q x (wg q o sz ck gd ls st fu pt dp op cn ht ld bc be li sk ce) pc lc (.ref o.1 :: stk) := fz_get0 ok 0 rfl 7 (by decide) q44 rfl d kk
theorem l0_blockCost (ok : fz_ok q x cc n RX0 k) {i : Int32} (d : decode cc pc = .ok (.iaload, 1)) (j : Nat) (hi : i = nI j) (hj : j < 24) (kk : fz_A q x (wg q o sz ck gd ls st fu pt dp op cn ht ld bc be li sk ce) (pc + 1) lc (.int (bc j) :: stk)) : fz_A q x (wg q o sz ck gd ls st fu pt dp op cn ht ld bc be li sk ce) pc lc (.int i :: .ref (o.2 7) :: stk) := fz_ld ok 5 rfl (by decide) d j hi hj kk
theorem s0_blockCost (ok : fz_ok q x cc n RX0 k) {i uu : Int32} (d : decode cc pc = .ok (.iastore, 1)) (j : Nat) (hi : i = nI j) (hj : j < 24) (kk : fz_A q x (wg q o sz ck gd ls st fu pt dp op cn ht ld (upd bc j uu) be li sk ce) (pc + 1) lc stk) : fz_A q x (wg q o sz ck gd ls st fu pt dp op cn ht ld bc be li sk ce) pc lc (.int uu :: .int i :: .ref (o.2 7) :: stk) := fz_sto ok 5 rfl (by decide) d j hi hj rfl kk
theorem g0_blockEnd (ok : fz_ok q x cc n RX0 k) (d : decode cc pc = .ok (.getfield 26, 3)) (kk : fz_A q x (wg q o sz ck gd ls st fu pt dp op cn ht ld bc be li sk ce) (pc + 3) lc (.ref (o.2 8) :: stk)) : fz_A q x (wg q o sz ck gd ls st fu pt dp op cn ht ld bc be li sk ce) pc lc (.ref o.1 :: stk) := fz_get0 ok 0 rfl 8 (by decide) q45 rfl d kk
theorem l0_blockEnd (ok : fz_ok q x cc n RX0 k) {i : Int32} (d : decode cc pc = .ok (.iaload, 1)) (j : Nat) (hi : i = nI j) (hj : j < 24) (kk : fz_A q x (wg q o sz ck gd ls st fu pt dp op cn ht ld bc be li sk ce) (pc + 1) lc (.int (be j) :: stk)) : fz_A q x (wg q o sz ck gd ls st fu pt dp op cn ht ld bc be li sk ce) pc lc (.int i :: .ref (o.2 8) :: stk) := fz_ld ok 6 rfl (by decide) d j hi hj kk
theorem s0_blockEnd (ok : fz_ok q x cc n RX0 k) {i uu : Int32} (d : decode cc pc = .ok (.iastore, 1)) (j : Nat) (hi : i = nI j) (hj : j < 24) (kk : fz_A q x (wg q o sz ck gd ls st fu pt dp op cn ht ld bc (upd be j uu) li sk ce) (pc + 1) lc stk) : fz_A q x (wg q o sz ck gd ls st fu pt dp op cn ht ld bc be li sk ce) pc lc (.int uu :: .int i :: .ref (o.2 8) :: stk) := fz_sto ok 6 rfl (by decide) d j hi hj rfl kk
theorem g0_list (ok : fz_ok q x cc n RX0 k) (d : decode cc pc = .ok (.getfield 29, 3)) (kk : fz_A q x (wg q o sz ck gd ls st fu pt dp op cn ht ld bc be li sk ce) (pc + 3) lc (.ref (o.2 9) :: stk)) : fz_A q x (wg q o sz ck gd ls st fu pt dp op cn ht ld bc be li sk ce) pc lc (.ref o.1 :: stk) := fz_get0 ok 0 rfl 9 (by decide) q46 rfl d kk
theorem l0_list (ok : fz_ok q x cc n RX0 k) {i : Int32} (d : decode cc pc = .ok (.iaload, 1)) (j : Nat) (hi : i = nI j) (hj : j < 24) (kk : fz_A q x (wg q o sz ck gd ls st fu pt dp op cn ht ld bc be li sk ce) (pc + 1) lc (.int (li j) :: stk)) : fz_A q x (wg q o sz ck gd ls st fu pt dp op cn ht ld bc be li sk ce) pc lc (.int i :: .ref (o.2 9) :: stk) := fz_ld ok 7 rfl (by decide) d j hi hj kk
theorem s0_list (ok : fz_ok q x cc n RX0 k) {i uu : Int32} (d : decode cc pc = .ok (.iastore, 1)) (j : Nat) (hi : i = nI j) (hj : j < 24) (kk : fz_A q x (wg q o sz ck gd ls st fu pt dp op cn ht ld bc be (upd li j uu) sk ce) (pc + 1) lc stk) : fz_A q x (wg q o sz ck gd ls st fu pt dp op cn ht ld bc be li sk ce) pc lc (.int uu :: .int i :: .ref (o.2 9) :: stk) := fz_sto ok 7 rfl (by decide) d j hi hj rfl kk
theorem g0_listed (ok : fz_ok q x cc n RX0 k) (d : decode cc pc = .ok (.getfield 58, 3)) (kk : fz_A q x (wg q o sz ck gd ls st fu pt dp op cn ht ld bc be li sk ce) (pc + 3) lc (.int ls :: stk)) : fz_A q x (wg q o sz ck gd ls st fu pt dp op cn ht ld bc be li sk ce) pc lc (.ref o.1 :: stk) := fz_get0 ok 0 rfl 10 (by decide) q47 rfl d kk
theorem p0_listed (ok : fz_ok q x cc n RX0 k) {uu : Int32} (d : decode cc pc = .ok (.putfield 58, 3)) (vv : Int32) (hv : uu = vv) (kk : fz_A q x (wg q o sz ck gd vv st fu pt dp op cn ht ld bc be li sk ce) (pc + 3) lc stk) : fz_A q x (wg q o sz ck gd ls st fu pt dp op cn ht ld bc be li sk ce) pc lc (.int uu :: .ref o.1 :: stk) := by
  subst hv
  exact fz_put0 (fs := [.int sz, .ref (o.2 1), .ref (o.2 2), .int ck, .int gd, .ref (o.2 5), .ref (o.2 6), .ref (o.2 7), .ref (o.2 8), .ref (o.2 9), .int ls, .int st, .int fu, .int pt, .int dp, .ref (o.2 15), .ref (o.2 16)]) (ws' := (wg q o sz ck gd uu st fu pt dp op cn ht ld bc be li sk ce)) (ty := .int) ok 0 rfl 10 (by decide) q47 rfl (by decide +kernel) rfl rfl (Nat.le_of_ble_eq_true rfl) d rfl kk
theorem g0_state (ok : fz_ok q x cc n RX0 k) (d : decode cc pc = .ok (.getfield 38, 3)) (kk : fz_A q x (wg q o sz ck gd ls st fu pt dp op cn ht ld bc be li sk ce) (pc + 3) lc (.int st :: stk)) : fz_A q x (wg q o sz ck gd ls st fu pt dp op cn ht ld bc be li sk ce) pc lc (.ref o.1 :: stk) := fz_get0 ok 0 rfl 11 (by decide) q48 rfl d kk
theorem p0_state (ok : fz_ok q x cc n RX0 k) {uu : Int32} (d : decode cc pc = .ok (.putfield 38, 3)) (vv : Int32) (hv : uu = vv) (kk : fz_A q x (wg q o sz ck gd ls vv fu pt dp op cn ht ld bc be li sk ce) (pc + 3) lc stk) : fz_A q x (wg q o sz ck gd ls st fu pt dp op cn ht ld bc be li sk ce) pc lc (.int uu :: .ref o.1 :: stk) := by
  subst hv
  exact fz_put0 (fs := [.int sz, .ref (o.2 1), .ref (o.2 2), .int ck, .int gd, .ref (o.2 5), .ref (o.2 6), .ref (o.2 7), .ref (o.2 8), .ref (o.2 9), .int ls, .int st, .int fu, .int pt, .int dp, .ref (o.2 15), .ref (o.2 16)]) (ws' := (wg q o sz ck gd ls uu fu pt dp op cn ht ld bc be li sk ce)) (ty := .int) ok 0 rfl 11 (by decide) q48 rfl (by decide +kernel) rfl rfl (Nat.le_of_ble_eq_true rfl) d rfl kk
theorem g0_fuel (ok : fz_ok q x cc n RX0 k) (d : decode cc pc = .ok (.getfield 42, 3)) (kk : fz_A q x (wg q o sz ck gd ls st fu pt dp op cn ht ld bc be li sk ce) (pc + 3) lc (.int fu :: stk)) : fz_A q x (wg q o sz ck gd ls st fu pt dp op cn ht ld bc be li sk ce) pc lc (.ref o.1 :: stk) := fz_get0 ok 0 rfl 12 (by decide) q49 rfl d kk
theorem p0_fuel (ok : fz_ok q x cc n RX0 k) {uu : Int32} (d : decode cc pc = .ok (.putfield 42, 3)) (vv : Int32) (hv : uu = vv) (kk : fz_A q x (wg q o sz ck gd ls st vv pt dp op cn ht ld bc be li sk ce) (pc + 3) lc stk) : fz_A q x (wg q o sz ck gd ls st fu pt dp op cn ht ld bc be li sk ce) pc lc (.int uu :: .ref o.1 :: stk) := by
  subst hv
  exact fz_put0 (fs := [.int sz, .ref (o.2 1), .ref (o.2 2), .int ck, .int gd, .ref (o.2 5), .ref (o.2 6), .ref (o.2 7), .ref (o.2 8), .ref (o.2 9), .int ls, .int st, .int fu, .int pt, .int dp, .ref (o.2 15), .ref (o.2 16)]) (ws' := (wg q o sz ck gd ls st uu pt dp op cn ht ld bc be li sk ce)) (ty := .int) ok 0 rfl 12 (by decide) q49 rfl (by decide +kernel) rfl rfl (Nat.le_of_ble_eq_true rfl) d rfl kk
theorem g0_at (ok : fz_ok q x cc n RX0 k) (d : decode cc pc = .ok (.getfield 89, 3)) (kk : fz_A q x (wg q o sz ck gd ls st fu pt dp op cn ht ld bc be li sk ce) (pc + 3) lc (.int pt :: stk)) : fz_A q x (wg q o sz ck gd ls st fu pt dp op cn ht ld bc be li sk ce) pc lc (.ref o.1 :: stk) := fz_get0 ok 0 rfl 13 (by decide) q50 rfl d kk
theorem p0_at (ok : fz_ok q x cc n RX0 k) {uu : Int32} (d : decode cc pc = .ok (.putfield 89, 3)) (vv : Int32) (hv : uu = vv) (kk : fz_A q x (wg q o sz ck gd ls st fu vv dp op cn ht ld bc be li sk ce) (pc + 3) lc stk) : fz_A q x (wg q o sz ck gd ls st fu pt dp op cn ht ld bc be li sk ce) pc lc (.int uu :: .ref o.1 :: stk) := by
  subst hv
  exact fz_put0 (fs := [.int sz, .ref (o.2 1), .ref (o.2 2), .int ck, .int gd, .ref (o.2 5), .ref (o.2 6), .ref (o.2 7), .ref (o.2 8), .ref (o.2 9), .int ls, .int st, .int fu, .int pt, .int dp, .ref (o.2 15), .ref (o.2 16)]) (ws' := (wg q o sz ck gd ls st fu uu dp op cn ht ld bc be li sk ce)) (ty := .int) ok 0 rfl 13 (by decide) q50 rfl (by decide +kernel) rfl rfl (Nat.le_of_ble_eq_true rfl) d rfl kk
theorem g0_depth (ok : fz_ok q x cc n RX0 k) (d : decode cc pc = .ok (.getfield 86, 3)) (kk : fz_A q x (wg q o sz ck gd ls st fu pt dp op cn ht ld bc be li sk ce) (pc + 3) lc (.int dp :: stk)) : fz_A q x (wg q o sz ck gd ls st fu pt dp op cn ht ld bc be li sk ce) pc lc (.ref o.1 :: stk) := fz_get0 ok 0 rfl 14 (by decide) q51 rfl d kk
theorem p0_depth (ok : fz_ok q x cc n RX0 k) {uu : Int32} (d : decode cc pc = .ok (.putfield 86, 3)) (vv : Int32) (hv : uu = vv) (kk : fz_A q x (wg q o sz ck gd ls st fu pt vv op cn ht ld bc be li sk ce) (pc + 3) lc stk) : fz_A q x (wg q o sz ck gd ls st fu pt dp op cn ht ld bc be li sk ce) pc lc (.int uu :: .ref o.1 :: stk) := by
  subst hv
  exact fz_put0 (fs := [.int sz, .ref (o.2 1), .ref (o.2 2), .int ck, .int gd, .ref (o.2 5), .ref (o.2 6), .ref (o.2 7), .ref (o.2 8), .ref (o.2 9), .int ls, .int st, .int fu, .int pt, .int dp, .ref (o.2 15), .ref (o.2 16)]) (ws' := (wg q o sz ck gd ls st fu pt uu op cn ht ld bc be li sk ce)) (ty := .int) ok 0 rfl 14 (by decide) q51 rfl (by decide +kernel) rfl rfl (Nat.le_of_ble_eq_true rfl) d rfl kk
theorem g0_stack (ok : fz_ok q x cc n RX0 k) (d : decode cc pc = .ok (.getfield 32, 3)) (kk : fz_A q x (wg q o sz ck gd ls st fu pt dp op cn ht ld bc be li sk ce) (pc + 3) lc (.ref (o.2 15) :: stk)) : fz_A q x (wg q o sz ck gd ls st fu pt dp op cn ht ld bc be li sk ce) pc lc (.ref o.1 :: stk) := fz_get0 ok 0 rfl 15 (by decide) q52 rfl d kk
theorem l0_stack (ok : fz_ok q x cc n RX0 k) {i : Int32} (d : decode cc pc = .ok (.iaload, 1)) (j : Nat) (hi : i = nI j) (hj : j < 9) (kk : fz_A q x (wg q o sz ck gd ls st fu pt dp op cn ht ld bc be li sk ce) (pc + 1) lc (.int (sk j) :: stk)) : fz_A q x (wg q o sz ck gd ls st fu pt dp op cn ht ld bc be li sk ce) pc lc (.int i :: .ref (o.2 15) :: stk) := fz_ld ok 8 rfl (by decide) d j hi hj kk
theorem s0_stack (ok : fz_ok q x cc n RX0 k) {i uu : Int32} (d : decode cc pc = .ok (.iastore, 1)) (j : Nat) (hi : i = nI j) (hj : j < 9) (kk : fz_A q x (wg q o sz ck gd ls st fu pt dp op cn ht ld bc be li (upd sk j uu) ce) (pc + 1) lc stk) : fz_A q x (wg q o sz ck gd ls st fu pt dp op cn ht ld bc be li sk ce) pc lc (.int uu :: .int i :: .ref (o.2 15) :: stk) := fz_sto ok 8 rfl (by decide) d j hi hj rfl kk
theorem g0_cells (ok : fz_ok q x cc n RX0 k) (d : decode cc pc = .ok (.getfield 35, 3)) (kk : fz_A q x (wg q o sz ck gd ls st fu pt dp op cn ht ld bc be li sk ce) (pc + 3) lc (.ref (o.2 16) :: stk)) : fz_A q x (wg q o sz ck gd ls st fu pt dp op cn ht ld bc be li sk ce) pc lc (.ref o.1 :: stk) := fz_get0 ok 0 rfl 16 (by decide) q53 rfl d kk
theorem l0_cells (ok : fz_ok q x cc n RX0 k) {i : Int32} (d : decode cc pc = .ok (.iaload, 1)) (j : Nat) (hi : i = nI j) (hj : j < 4) (kk : fz_A q x (wg q o sz ck gd ls st fu pt dp op cn ht ld bc be li sk ce) (pc + 1) lc (.int (ce j) :: stk)) : fz_A q x (wg q o sz ck gd ls st fu pt dp op cn ht ld bc be li sk ce) pc lc (.int i :: .ref (o.2 16) :: stk) := fz_ld ok 9 rfl (by decide) d j hi hj kk
theorem s0_cells (ok : fz_ok q x cc n RX0 k) {i uu : Int32} (d : decode cc pc = .ok (.iastore, 1)) (j : Nat) (hi : i = nI j) (hj : j < 4) (kk : fz_A q x (wg q o sz ck gd ls st fu pt dp op cn ht ld bc be li sk (upd ce j uu)) (pc + 1) lc stk) : fz_A q x (wg q o sz ck gd ls st fu pt dp op cn ht ld bc be li sk ce) pc lc (.int uu :: .int i :: .ref (o.2 16) :: stk) := fz_sto ok 9 rfl (by decide) d j hi hj rfl kk
theorem cd0_endRun : yX0_endRun.cls = RX0 ∧ yX0_endRun.cls ≠ "java/lang/invoke/MethodHandle" ∧ yX0_endRun.cls ≠ "java/lang/invoke/VarHandle" ∧ (parseMethodDescriptor yX0_endRun.desc).map (fun d => d.parameters.length) = some 0 := by decide +kernel
theorem k0_endRun (ok : fz_ok q x cc n RX0 k) {kc a : Nat} {fs : List Value} {w : va_W}  {S : Type} {post : S → Prop} {w' : S → va_W} (hM : fz_Mv q yX0_endRun cX0_endRun 1 kc (.ref a :: []) w post w') (he : w[0]? = some (a, .inr (0, fs))) (hk : kc + 1 ≤ k) (hst : (stk.map fun v => v.category).sum ≤ 8) (d : decode cc pc = .ok (.invokevirtual 52, 3)) (kk : ∀ u : S, post u → fz_A q x (w' u) (pc + 3) lc stk) : fz_A q x w pc lc (.ref a :: stk) := by
  have h := fz_cVv (w2 := []) (As := []) (C := RX0) (ci := 0) ok hM (lw_V q95 q97 qs0 q27 q98) cd0_endRun he rfl hk (by decide) hst d (fun u hu => fz_nil (kk u hu))
  rw [List.append_nil] at h
  exact h
theorem cd0_check : yX0_check.cls = RX0 ∧ yX0_check.cls ≠ "java/lang/invoke/MethodHandle" ∧ yX0_check.cls ≠ "java/lang/invoke/VarHandle" ∧ (parseMethodDescriptor yX0_check.desc).map (fun d => d.parameters.length) = some 0 := by decide +kernel
theorem k0_check (ok : fz_ok q x cc n RX0 k) {kc a : Nat} {fs : List Value} {w : va_W}  {S : Type} {post : S → Prop} {w' : S → va_W} (hM : fz_Mv q yX0_check cX0_check 2 kc (.ref a :: []) w post w') (he : w[0]? = some (a, .inr (0, fs))) (hk : kc + 1 ≤ k) (hst : (stk.map fun v => v.category).sum ≤ 8) (d : decode cc pc = .ok (.invokevirtual 110, 3)) (kk : ∀ u : S, post u → fz_A q x (w' u) (pc + 3) lc stk) : fz_A q x w pc lc (.ref a :: stk) := by
  have h := fz_cVv (w2 := []) (As := []) (C := RX0) (ci := 0) ok hM (lw_V q111 q113 qs1 q27 q114) cd0_check he rfl hk (by decide) hst d (fun u hu => fz_nil (kk u hu))
  rw [List.append_nil] at h
  exact h
theorem cd0_comeTo : yX0_comeTo.cls = RX0 ∧ yX0_comeTo.cls ≠ "java/lang/invoke/MethodHandle" ∧ yX0_comeTo.cls ≠ "java/lang/invoke/VarHandle" ∧ (parseMethodDescriptor yX0_comeTo.desc).map (fun d => d.parameters.length) = some 2 := by decide +kernel
theorem k0_comeTo (ok : fz_ok q x cc n RX0 k) {kc a : Nat} {fs : List Value} {w : va_W} {v1 v2 : Int32} {S : Type} {post : S → Prop} {w' : S → va_W} (hM : fz_Mv q yX0_comeTo cX0_comeTo 3 kc (.ref a :: [.int v1, .int v2]) w post w') (he : w[0]? = some (a, .inr (0, fs))) (hk : kc + 1 ≤ k) (hst : (stk.map fun v => v.category).sum ≤ 8) (d : decode cc pc = .ok (.invokevirtual 72, 3)) (kk : ∀ u : S, post u → fz_A q x (w' u) (pc + 3) lc stk) : fz_A q x w pc lc (.int v2 :: .int v1 :: .ref a :: stk) := by
  have h := fz_cVv (w2 := []) (As := [.int v1, .int v2]) (C := RX0) (ci := 0) ok hM (lw_V q115 q117 qs2 q27 q118) cd0_comeTo he rfl hk (by decide) hst d (fun u hu => fz_nil (kk u hu))
  rw [List.append_nil] at h
  exact h
theorem cd0_follow : yX0_follow.cls = RX0 ∧ yX0_follow.cls ≠ "java/lang/invoke/MethodHandle" ∧ yX0_follow.cls ≠ "java/lang/invoke/VarHandle" ∧ (parseMethodDescriptor yX0_follow.desc).map (fun d => d.parameters.length) = some 1 := by decide +kernel
theorem k0_follow (ok : fz_ok q x cc n RX0 k) {kc a : Nat} {fs : List Value} {w : va_W} {v1 : Int32} {S : Type} {post : S → Prop} {w' : S → va_W} (hM : fz_Mv q yX0_follow cX0_follow 5 kc (.ref a :: [.int v1]) w post w') (he : w[0]? = some (a, .inr (0, fs))) (hk : kc + 1 ≤ k) (hst : (stk.map fun v => v.category).sum ≤ 8) (d : decode cc pc = .ok (.invokevirtual 76, 3)) (kk : ∀ u : S, post u → fz_A q x (w' u) (pc + 3) lc stk) : fz_A q x w pc lc (.int v1 :: .ref a :: stk) := by
  have h := fz_cVv (w2 := []) (As := [.int v1]) (C := RX0) (ci := 0) ok hM (lw_V q119 q121 qs3 q27 q122) cd0_follow he rfl hk (by decide) hst d (fun u hu => fz_nil (kk u hu))
  rw [List.append_nil] at h
  exact h
theorem cd0_growth : yX0_growth.cls ≠ "java/lang/invoke/MethodHandle" ∧ yX0_growth.cls ≠ "java/lang/invoke/VarHandle" ∧ (parseMethodDescriptor yX0_growth.desc).map (fun d => d.parameters.length) = some 1 := by decide +kernel
theorem k0_growth (ok : fz_ok q x cc n RX0 k) {kc : Nat} {w : va_W} {v1 : Int32} {S : Type} {post : Int32 → S → Prop} (hM : fz_Mi q yX0_growth cX0_growth 1 kc .int [.int v1] [] post (fun _ => [])) (hk : kc + 1 ≤ k) (hst : (stk.map fun v => v.category).sum ≤ 8) (d : decode cc pc = .ok (.invokestatic 61, 3)) (kk : ∀ (r : Int32) (u : S), post r u → fz_A q x w (pc + 3) lc (.int r :: stk)) : fz_A q x w pc lc (.int v1 :: stk) := fz_cSi (w1 := []) (w2 := w) (As := [.int v1]) ok hM (lw_S q123 q124 q27 q125) cd0_growth hk (by decide) hst d kk
theorem cd0_uses : yX0_uses.cls ≠ "java/lang/invoke/MethodHandle" ∧ yX0_uses.cls ≠ "java/lang/invoke/VarHandle" ∧ (parseMethodDescriptor yX0_uses.desc).map (fun d => d.parameters.length) = some 1 := by decide +kernel
theorem k0_uses (ok : fz_ok q x cc n RX0 k) {kc : Nat} {w : va_W} {v1 : Int32} {S : Type} {post : Int32 → S → Prop} (hM : fz_Mi q yX0_uses cX0_uses 1 kc .int [.int v1] [] post (fun _ => [])) (hk : kc + 1 ≤ k) (hst : (stk.map fun v => v.category).sum ≤ 8) (d : decode cc pc = .ok (.invokestatic 65, 3)) (kk : ∀ (r : Int32) (u : S), post r u → fz_A q x w (pc + 3) lc (.int r :: stk)) : fz_A q x w pc lc (.int v1 :: stk) := fz_cSi (w1 := []) (w2 := w) (As := [.int v1]) ok hM (lw_S q126 q127 q27 q128) cd0_uses hk (by decide) hst d kk
theorem cd0_jumps : yX0_jumps.cls ≠ "java/lang/invoke/MethodHandle" ∧ yX0_jumps.cls ≠ "java/lang/invoke/VarHandle" ∧ (parseMethodDescriptor yX0_jumps.desc).map (fun d => d.parameters.length) = some 1 := by decide +kernel
theorem k0_jumps (ok : fz_ok q x cc n RX0 k) {kc : Nat} {w : va_W} {v1 : Int32} {S : Type} {post : Int32 → S → Prop} (hM : fz_Mi q yX0_jumps cX0_jumps 1 kc .boolean [.int v1] [] post (fun _ => [])) (hk : kc + 1 ≤ k) (hst : (stk.map fun v => v.category).sum ≤ 8) (d : decode cc pc = .ok (.invokestatic 68, 3)) (kk : ∀ (r : Int32) (u : S), post r u → fz_A q x w (pc + 3) lc (.int r :: stk)) : fz_A q x w pc lc (.int v1 :: stk) := fz_cSi (w1 := []) (w2 := w) (As := [.int v1]) ok hM (lw_S q129 q130 q27 q131) cd0_jumps hk (by decide) hst d kk
theorem cd0_makeBlocks : yX0_makeBlocks.cls = RX0 ∧ yX0_makeBlocks.cls ≠ "java/lang/invoke/MethodHandle" ∧ yX0_makeBlocks.cls ≠ "java/lang/invoke/VarHandle" ∧ (parseMethodDescriptor yX0_makeBlocks.desc).map (fun d => d.parameters.length) = some 0 := by decide +kernel
theorem k0_makeBlocks (ok : fz_ok q x cc n RX0 k) {kc a : Nat} {fs : List Value} {w : va_W}  {S : Type} {post : S → Prop} {w' : S → va_W} (hM : fz_Mv q yX0_makeBlocks cX0_makeBlocks 4 kc (.ref a :: []) w post w') (he : w[0]? = some (a, .inr (0, fs))) (hk : kc + 1 ≤ k) (hst : (stk.map fun v => v.category).sum ≤ 8) (d : decode cc pc = .ok (.invokevirtual 80, 3)) (kk : ∀ u : S, post u → fz_A q x (w' u) (pc + 3) lc stk) : fz_A q x w pc lc (.ref a :: stk) := by
  have h := fz_cVv (w2 := []) (As := []) (C := RX0) (ci := 0) ok hM (lw_V q132 q134 qs4 q27 q135) cd0_makeBlocks he rfl hk (by decide) hst d (fun u hu => fz_nil (kk u hu))
  rw [List.append_nil] at h
  exact h
theorem cd0_costOf : yX0_costOf.cls = RX0 ∧ yX0_costOf.cls ≠ "java/lang/invoke/MethodHandle" ∧ yX0_costOf.cls ≠ "java/lang/invoke/VarHandle" ∧ (parseMethodDescriptor yX0_costOf.desc).map (fun d => d.parameters.length) = some 1 := by decide +kernel
theorem k0_costOf (ok : fz_ok q x cc n RX0 k) {kc a : Nat} {fs : List Value} {w : va_W} {v1 : Int32} {S : Type} {post : Int32 → S → Prop} {w' : S → va_W} (hM : fz_Mi q yX0_costOf cX0_costOf 2 kc .int (.ref a :: [.int v1]) w post w') (he : w[0]? = some (a, .inr (0, fs))) (hk : kc + 1 ≤ k) (hst : (stk.map fun v => v.category).sum ≤ 8) (d : decode cc pc = .ok (.invokevirtual 83, 3)) (kk : ∀ (r : Int32) (u : S), post r u → fz_A q x (w' u) (pc + 3) lc (.int r :: stk)) : fz_A q x w pc lc (.int v1 :: .ref a :: stk) := by
  have h := fz_cVi (w2 := []) (As := [.int v1]) (C := RX0) (ci := 0) ok hM (lw_V q136 q138 qs5 q27 q139) cd0_costOf he rfl hk (by decide) hst d (fun r u hu => fz_nil (kk r u hu))
  rw [List.append_nil] at h
  exact h
theorem cd0_clampFuel : yX0_clampFuel.cls ≠ "java/lang/invoke/MethodHandle" ∧ yX0_clampFuel.cls ≠ "java/lang/invoke/VarHandle" ∧ (parseMethodDescriptor yX0_clampFuel.desc).map (fun d => d.parameters.length) = some 1 := by decide +kernel
theorem k0_clampFuel (ok : fz_ok q x cc n RX0 k) {kc : Nat} {w : va_W} {v1 : Int32} {S : Type} {post : Int32 → S → Prop} (hM : fz_Mi q yX0_clampFuel cX0_clampFuel 1 kc .int [.int v1] [] post (fun _ => [])) (hk : kc + 1 ≤ k) (hst : (stk.map fun v => v.category).sum ≤ 8) (d : decode cc pc = .ok (.invokestatic 113, 3)) (kk : ∀ (r : Int32) (u : S), post r u → fz_A q x w (pc + 3) lc (.int r :: stk)) : fz_A q x w pc lc (.int v1 :: stk) := fz_cSi (w1 := []) (w2 := w) (As := [.int v1]) ok hM (lw_S q140 q141 q27 q142) cd0_clampFuel hk (by decide) hst d kk
theorem cd0_carryOn : yX0_carryOn.cls = RX0 ∧ yX0_carryOn.cls ≠ "java/lang/invoke/MethodHandle" ∧ yX0_carryOn.cls ≠ "java/lang/invoke/VarHandle" ∧ (parseMethodDescriptor yX0_carryOn.desc).map (fun d => d.parameters.length) = some 0 := by decide +kernel
theorem k0_carryOn (ok : fz_ok q x cc n RX0 k) {kc a : Nat} {fs : List Value} {w : va_W}  {S : Type} {post : S → Prop} {w' : S → va_W} (hM : fz_Mv q yX0_carryOn cX0_carryOn 2 kc (.ref a :: []) w post w') (he : w[0]? = some (a, .inr (0, fs))) (hk : kc + 1 ≤ k) (hst : (stk.map fun v => v.category).sum ≤ 8) (d : decode cc pc = .ok (.invokevirtual 116, 3)) (kk : ∀ u : S, post u → fz_A q x (w' u) (pc + 3) lc stk) : fz_A q x w pc lc (.ref a :: stk) := by
  have h := fz_cVv (w2 := []) (As := []) (C := RX0) (ci := 0) ok hM (lw_V q143 q145 qs6 q27 q146) cd0_carryOn he rfl hk (by decide) hst d (fun u hu => fz_nil (kk u hu))
  rw [List.append_nil] at h
  exact h
theorem cd0_runBlock : yX0_runBlock.cls = RX0 ∧ yX0_runBlock.cls ≠ "java/lang/invoke/MethodHandle" ∧ yX0_runBlock.cls ≠ "java/lang/invoke/VarHandle" ∧ (parseMethodDescriptor yX0_runBlock.desc).map (fun d => d.parameters.length) = some 0 := by decide +kernel
theorem k0_runBlock (ok : fz_ok q x cc n RX0 k) {kc a : Nat} {fs : List Value} {w : va_W}  {S : Type} {post : S → Prop} {w' : S → va_W} (hM : fz_Mv q yX0_runBlock cX0_runBlock 4 kc (.ref a :: []) w post w') (he : w[0]? = some (a, .inr (0, fs))) (hk : kc + 1 ≤ k) (hst : (stk.map fun v => v.category).sum ≤ 8) (d : decode cc pc = .ok (.invokevirtual 104, 3)) (kk : ∀ u : S, post u → fz_A q x (w' u) (pc + 3) lc stk) : fz_A q x w pc lc (.ref a :: stk) := by
  have h := fz_cVv (w2 := []) (As := []) (C := RX0) (ci := 0) ok hM (lw_V q147 q149 qs7 q27 q150) cd0_runBlock he rfl hk (by decide) hst d (fun u hu => fz_nil (kk u hu))
  rw [List.append_nil] at h
  exact h
theorem cd0_perform : yX0_perform.cls = RX0 ∧ yX0_perform.cls ≠ "java/lang/invoke/MethodHandle" ∧ yX0_perform.cls ≠ "java/lang/invoke/VarHandle" ∧ (parseMethodDescriptor yX0_perform.desc).map (fun d => d.parameters.length) = some 0 := by decide +kernel
theorem k0_perform (ok : fz_ok q x cc n RX0 k) {kc a : Nat} {fs : List Value} {w : va_W}  {S : Type} {post : S → Prop} {w' : S → va_W} (hM : fz_Mv q yX0_perform cX0_perform 3 kc (.ref a :: []) w post w') (he : w[0]? = some (a, .inr (0, fs))) (hk : kc + 1 ≤ k) (hst : (stk.map fun v => v.category).sum ≤ 8) (d : decode cc pc = .ok (.invokevirtual 101, 3)) (kk : ∀ u : S, post u → fz_A q x (w' u) (pc + 3) lc stk) : fz_A q x w pc lc (.ref a :: stk) := by
  have h := fz_cVv (w2 := []) (As := []) (C := RX0) (ci := 0) ok hM (lw_V q151 q153 qs8 q27 q154) cd0_perform he rfl hk (by decide) hst d (fun u hu => fz_nil (kk u hu))
  rw [List.append_nil] at h
  exact h
theorem cd0_push : yX0_push.cls = RX0 ∧ yX0_push.cls ≠ "java/lang/invoke/MethodHandle" ∧ yX0_push.cls ≠ "java/lang/invoke/VarHandle" ∧ (parseMethodDescriptor yX0_push.desc).map (fun d => d.parameters.length) = some 1 := by decide +kernel
theorem k0_push (ok : fz_ok q x cc n RX0 k) {kc a : Nat} {fs : List Value} {w : va_W} {v1 : Int32} {S : Type} {post : S → Prop} {w' : S → va_W} (hM : fz_Mv q yX0_push cX0_push 2 kc (.ref a :: [.int v1]) w post w') (he : w[0]? = some (a, .inr (0, fs))) (hk : kc + 1 ≤ k) (hst : (stk.map fun v => v.category).sum ≤ 8) (d : decode cc pc = .ok (.invokevirtual 92, 3)) (kk : ∀ u : S, post u → fz_A q x (w' u) (pc + 3) lc stk) : fz_A q x w pc lc (.int v1 :: .ref a :: stk) := by
  have h := fz_cVv (w2 := []) (As := [.int v1]) (C := RX0) (ci := 0) ok hM (lw_V q155 q157 qs9 q27 q158) cd0_push he rfl hk (by decide) hst d (fun u hu => fz_nil (kk u hu))
  rw [List.append_nil] at h
  exact h
theorem cd0_arithmetic : yX0_arithmetic.cls = RX0 ∧ yX0_arithmetic.cls ≠ "java/lang/invoke/MethodHandle" ∧ yX0_arithmetic.cls ≠ "java/lang/invoke/VarHandle" ∧ (parseMethodDescriptor yX0_arithmetic.desc).map (fun d => d.parameters.length) = some 1 := by decide +kernel
theorem k0_arithmetic (ok : fz_ok q x cc n RX0 k) {kc a : Nat} {fs : List Value} {w : va_W} {v1 : Int32} {S : Type} {post : S → Prop} {w' : S → va_W} (hM : fz_Mv q yX0_arithmetic cX0_arithmetic 4 kc (.ref a :: [.int v1]) w post w') (he : w[0]? = some (a, .inr (0, fs))) (hk : kc + 1 ≤ k) (hst : (stk.map fun v => v.category).sum ≤ 8) (d : decode cc pc = .ok (.invokevirtual 95, 3)) (kk : ∀ u : S, post u → fz_A q x (w' u) (pc + 3) lc stk) : fz_A q x w pc lc (.int v1 :: .ref a :: stk) := by
  have h := fz_cVv (w2 := []) (As := [.int v1]) (C := RX0) (ci := 0) ok hM (lw_V q159 q161 qs10 q27 q162) cd0_arithmetic he rfl hk (by decide) hst d (fun u hu => fz_nil (kk u hu))
  rw [List.append_nil] at h
  exact h
theorem cd0_exchange : yX0_exchange.cls = RX0 ∧ yX0_exchange.cls ≠ "java/lang/invoke/MethodHandle" ∧ yX0_exchange.cls ≠ "java/lang/invoke/VarHandle" ∧ (parseMethodDescriptor yX0_exchange.desc).map (fun d => d.parameters.length) = some 0 := by decide +kernel
theorem k0_exchange (ok : fz_ok q x cc n RX0 k) {kc a : Nat} {fs : List Value} {w : va_W}  {S : Type} {post : S → Prop} {w' : S → va_W} (hM : fz_Mv q yX0_exchange cX0_exchange 2 kc (.ref a :: []) w post w') (he : w[0]? = some (a, .inr (0, fs))) (hk : kc + 1 ≤ k) (hst : (stk.map fun v => v.category).sum ≤ 8) (d : decode cc pc = .ok (.invokevirtual 98, 3)) (kk : ∀ u : S, post u → fz_A q x (w' u) (pc + 3) lc stk) : fz_A q x w pc lc (.ref a :: stk) := by
  have h := fz_cVv (w2 := []) (As := []) (C := RX0) (ci := 0) ok hM (lw_V q163 q165 qs11 q27 q166) cd0_exchange he rfl hk (by decide) hst d (fun u hu => fz_nil (kk u hu))
  rw [List.append_nil] at h
  exact h
theorem cd0_crawl : yX0_crawl.cls = RX0 ∧ yX0_crawl.cls ≠ "java/lang/invoke/MethodHandle" ∧ yX0_crawl.cls ≠ "java/lang/invoke/VarHandle" ∧ (parseMethodDescriptor yX0_crawl.desc).map (fun d => d.parameters.length) = some 0 := by decide +kernel
theorem k0_crawl (ok : fz_ok q x cc n RX0 k) {kc a : Nat} {fs : List Value} {w : va_W}  {S : Type} {post : S → Prop} {w' : S → va_W} (hM : fz_Mv q yX0_crawl cX0_crawl 2 kc (.ref a :: []) w post w') (he : w[0]? = some (a, .inr (0, fs))) (hk : kc + 1 ≤ k) (hst : (stk.map fun v => v.category).sum ≤ 8) (d : decode cc pc = .ok (.invokevirtual 107, 3)) (kk : ∀ u : S, post u → fz_A q x (w' u) (pc + 3) lc stk) : fz_A q x w pc lc (.ref a :: stk) := by
  have h := fz_cVv (w2 := []) (As := []) (C := RX0) (ci := 0) ok hM (lw_V q167 q169 qs12 q27 q170) cd0_crawl he rfl hk (by decide) hst d (fun u hu => fz_nil (kk u hu))
  rw [List.append_nil] at h
  exact h
end FLD0
end
section
set_option maxRecDepth 100000
/-! FuelGateModel: its world, a rule a field, a rule a callee -/
def wm (q : fz_Q) (o : fz_O) (sz st fu pt hg : Int32) (op cn ce ht sk : Nat → Int32) : va_W := [(o.1, .inr (1, [.int sz, .ref (o.2 1), .ref (o.2 2), .ref (o.2 3), .ref (o.2 4), .int st, .int fu, .int pt, .int hg, .ref (o.2 9)])), (o.2 1, .inl (q.2.2.1, 24, .inl op)), (o.2 2, .inl (q.2.2.1, 24, .inl cn)), (o.2 3, .inl (q.2.2.1, 4, .inl ce)), (o.2 4, .inl (q.2.2.1, 24, .inl ht)), (o.2 9, .inl (q.2.2.1, 16, .inl sk))]
section FLD1
variable {q : fz_Q} {x : fz_X} {cc : ByteArray} {n : Nat} {k : Nat} {pc : Nat} {lc stk : List Value} {o : fz_O} {sz st fu pt hg : Int32} {op cn ce ht sk : Nat → Int32}
theorem g1_size (ok : fz_ok q x cc n RX1 k) (d : decode cc pc = .ok (.getfield 35, 3)) (kk : fz_A q x (wm q o sz st fu pt hg op cn ce ht sk) (pc + 3) lc (.int sz :: stk)) : fz_A q x (wm q o sz st fu pt hg op cn ce ht sk) pc lc (.ref o.1 :: stk) := fz_get1 ok 0 rfl 0 (by decide) q213 rfl d kk
theorem p1_size (ok : fz_ok q x cc n RX1 k) {uu : Int32} (d : decode cc pc = .ok (.putfield 35, 3)) (vv : Int32) (hv : uu = vv) (kk : fz_A q x (wm q o vv st fu pt hg op cn ce ht sk) (pc + 3) lc stk) : fz_A q x (wm q o sz st fu pt hg op cn ce ht sk) pc lc (.int uu :: .ref o.1 :: stk) := by
  subst hv
  exact fz_put1 (fs := [.int sz, .ref (o.2 1), .ref (o.2 2), .ref (o.2 3), .ref (o.2 4), .int st, .int fu, .int pt, .int hg, .ref (o.2 9)]) (ws' := (wm q o uu st fu pt hg op cn ce ht sk)) (ty := .int) ok 0 rfl 0 (by decide) q213 rfl (by decide +kernel) rfl rfl (Nat.le_of_ble_eq_true rfl) d rfl kk
theorem g1_ops (ok : fz_ok q x cc n RX1 k) (d : decode cc pc = .ok (.getfield 7, 3)) (kk : fz_A q x (wm q o sz st fu pt hg op cn ce ht sk) (pc + 3) lc (.ref (o.2 1) :: stk)) : fz_A q x (wm q o sz st fu pt hg op cn ce ht sk) pc lc (.ref o.1 :: stk) := fz_get1 ok 0 rfl 1 (by decide) q214 rfl d kk
theorem l1_ops (ok : fz_ok q x cc n RX1 k) {i : Int32} (d : decode cc pc = .ok (.iaload, 1)) (j : Nat) (hi : i = nI j) (hj : j < 24) (kk : fz_A q x (wm q o sz st fu pt hg op cn ce ht sk) (pc + 1) lc (.int (op j) :: stk)) : fz_A q x (wm q o sz st fu pt hg op cn ce ht sk) pc lc (.int i :: .ref (o.2 1) :: stk) := fz_ld ok 1 rfl (by decide) d j hi hj kk
theorem s1_ops (ok : fz_ok q x cc n RX1 k) {i uu : Int32} (d : decode cc pc = .ok (.iastore, 1)) (j : Nat) (hi : i = nI j) (hj : j < 24) (kk : fz_A q x (wm q o sz st fu pt hg (upd op j uu) cn ce ht sk) (pc + 1) lc stk) : fz_A q x (wm q o sz st fu pt hg op cn ce ht sk) pc lc (.int uu :: .int i :: .ref (o.2 1) :: stk) := fz_sto ok 1 rfl (by decide) d j hi hj rfl kk
theorem g1_cs (ok : fz_ok q x cc n RX1 k) (d : decode cc pc = .ok (.getfield 13, 3)) (kk : fz_A q x (wm q o sz st fu pt hg op cn ce ht sk) (pc + 3) lc (.ref (o.2 2) :: stk)) : fz_A q x (wm q o sz st fu pt hg op cn ce ht sk) pc lc (.ref o.1 :: stk) := fz_get1 ok 0 rfl 2 (by decide) q215 rfl d kk
theorem l1_cs (ok : fz_ok q x cc n RX1 k) {i : Int32} (d : decode cc pc = .ok (.iaload, 1)) (j : Nat) (hi : i = nI j) (hj : j < 24) (kk : fz_A q x (wm q o sz st fu pt hg op cn ce ht sk) (pc + 1) lc (.int (cn j) :: stk)) : fz_A q x (wm q o sz st fu pt hg op cn ce ht sk) pc lc (.int i :: .ref (o.2 2) :: stk) := fz_ld ok 2 rfl (by decide) d j hi hj kk
theorem s1_cs (ok : fz_ok q x cc n RX1 k) {i uu : Int32} (d : decode cc pc = .ok (.iastore, 1)) (j : Nat) (hi : i = nI j) (hj : j < 24) (kk : fz_A q x (wm q o sz st fu pt hg op (upd cn j uu) ce ht sk) (pc + 1) lc stk) : fz_A q x (wm q o sz st fu pt hg op cn ce ht sk) pc lc (.int uu :: .int i :: .ref (o.2 2) :: stk) := fz_sto ok 2 rfl (by decide) d j hi hj rfl kk
theorem g1_cells (ok : fz_ok q x cc n RX1 k) (d : decode cc pc = .ok (.getfield 16, 3)) (kk : fz_A q x (wm q o sz st fu pt hg op cn ce ht sk) (pc + 3) lc (.ref (o.2 3) :: stk)) : fz_A q x (wm q o sz st fu pt hg op cn ce ht sk) pc lc (.ref o.1 :: stk) := fz_get1 ok 0 rfl 3 (by decide) q216 rfl d kk
theorem l1_cells (ok : fz_ok q x cc n RX1 k) {i : Int32} (d : decode cc pc = .ok (.iaload, 1)) (j : Nat) (hi : i = nI j) (hj : j < 4) (kk : fz_A q x (wm q o sz st fu pt hg op cn ce ht sk) (pc + 1) lc (.int (ce j) :: stk)) : fz_A q x (wm q o sz st fu pt hg op cn ce ht sk) pc lc (.int i :: .ref (o.2 3) :: stk) := fz_ld ok 3 rfl (by decide) d j hi hj kk
theorem s1_cells (ok : fz_ok q x cc n RX1 k) {i uu : Int32} (d : decode cc pc = .ok (.iastore, 1)) (j : Nat) (hi : i = nI j) (hj : j < 4) (kk : fz_A q x (wm q o sz st fu pt hg op cn (upd ce j uu) ht sk) (pc + 1) lc stk) : fz_A q x (wm q o sz st fu pt hg op cn ce ht sk) pc lc (.int uu :: .int i :: .ref (o.2 3) :: stk) := fz_sto ok 3 rfl (by decide) d j hi hj rfl kk
theorem g1_heights (ok : fz_ok q x cc n RX1 k) (d : decode cc pc = .ok (.getfield 19, 3)) (kk : fz_A q x (wm q o sz st fu pt hg op cn ce ht sk) (pc + 3) lc (.ref (o.2 4) :: stk)) : fz_A q x (wm q o sz st fu pt hg op cn ce ht sk) pc lc (.ref o.1 :: stk) := fz_get1 ok 0 rfl 4 (by decide) q217 rfl d kk
theorem l1_heights (ok : fz_ok q x cc n RX1 k) {i : Int32} (d : decode cc pc = .ok (.iaload, 1)) (j : Nat) (hi : i = nI j) (hj : j < 24) (kk : fz_A q x (wm q o sz st fu pt hg op cn ce ht sk) (pc + 1) lc (.int (ht j) :: stk)) : fz_A q x (wm q o sz st fu pt hg op cn ce ht sk) pc lc (.int i :: .ref (o.2 4) :: stk) := fz_ld ok 4 rfl (by decide) d j hi hj kk
theorem s1_heights (ok : fz_ok q x cc n RX1 k) {i uu : Int32} (d : decode cc pc = .ok (.iastore, 1)) (j : Nat) (hi : i = nI j) (hj : j < 24) (kk : fz_A q x (wm q o sz st fu pt hg op cn ce (upd ht j uu) sk) (pc + 1) lc stk) : fz_A q x (wm q o sz st fu pt hg op cn ce ht sk) pc lc (.int uu :: .int i :: .ref (o.2 4) :: stk) := fz_sto ok 4 rfl (by decide) d j hi hj rfl kk
theorem g1_state (ok : fz_ok q x cc n RX1 k) (d : decode cc pc = .ok (.getfield 25, 3)) (kk : fz_A q x (wm q o sz st fu pt hg op cn ce ht sk) (pc + 3) lc (.int st :: stk)) : fz_A q x (wm q o sz st fu pt hg op cn ce ht sk) pc lc (.ref o.1 :: stk) := fz_get1 ok 0 rfl 5 (by decide) q218 rfl d kk
theorem p1_state (ok : fz_ok q x cc n RX1 k) {uu : Int32} (d : decode cc pc = .ok (.putfield 25, 3)) (vv : Int32) (hv : uu = vv) (kk : fz_A q x (wm q o sz vv fu pt hg op cn ce ht sk) (pc + 3) lc stk) : fz_A q x (wm q o sz st fu pt hg op cn ce ht sk) pc lc (.int uu :: .ref o.1 :: stk) := by
  subst hv
  exact fz_put1 (fs := [.int sz, .ref (o.2 1), .ref (o.2 2), .ref (o.2 3), .ref (o.2 4), .int st, .int fu, .int pt, .int hg, .ref (o.2 9)]) (ws' := (wm q o sz uu fu pt hg op cn ce ht sk)) (ty := .int) ok 0 rfl 5 (by decide) q218 rfl (by decide +kernel) rfl rfl (Nat.le_of_ble_eq_true rfl) d rfl kk
theorem g1_fuel (ok : fz_ok q x cc n RX1 k) (d : decode cc pc = .ok (.getfield 29, 3)) (kk : fz_A q x (wm q o sz st fu pt hg op cn ce ht sk) (pc + 3) lc (.int fu :: stk)) : fz_A q x (wm q o sz st fu pt hg op cn ce ht sk) pc lc (.ref o.1 :: stk) := fz_get1 ok 0 rfl 6 (by decide) q219 rfl d kk
theorem p1_fuel (ok : fz_ok q x cc n RX1 k) {uu : Int32} (d : decode cc pc = .ok (.putfield 29, 3)) (vv : Int32) (hv : uu = vv) (kk : fz_A q x (wm q o sz st vv pt hg op cn ce ht sk) (pc + 3) lc stk) : fz_A q x (wm q o sz st fu pt hg op cn ce ht sk) pc lc (.int uu :: .ref o.1 :: stk) := by
  subst hv
  exact fz_put1 (fs := [.int sz, .ref (o.2 1), .ref (o.2 2), .ref (o.2 3), .ref (o.2 4), .int st, .int fu, .int pt, .int hg, .ref (o.2 9)]) (ws' := (wm q o sz st uu pt hg op cn ce ht sk)) (ty := .int) ok 0 rfl 6 (by decide) q219 rfl (by decide +kernel) rfl rfl (Nat.le_of_ble_eq_true rfl) d rfl kk
theorem g1_at (ok : fz_ok q x cc n RX1 k) (d : decode cc pc = .ok (.getfield 63, 3)) (kk : fz_A q x (wm q o sz st fu pt hg op cn ce ht sk) (pc + 3) lc (.int pt :: stk)) : fz_A q x (wm q o sz st fu pt hg op cn ce ht sk) pc lc (.ref o.1 :: stk) := fz_get1 ok 0 rfl 7 (by decide) q220 rfl d kk
theorem p1_at (ok : fz_ok q x cc n RX1 k) {uu : Int32} (d : decode cc pc = .ok (.putfield 63, 3)) (vv : Int32) (hv : uu = vv) (kk : fz_A q x (wm q o sz st fu vv hg op cn ce ht sk) (pc + 3) lc stk) : fz_A q x (wm q o sz st fu pt hg op cn ce ht sk) pc lc (.int uu :: .ref o.1 :: stk) := by
  subst hv
  exact fz_put1 (fs := [.int sz, .ref (o.2 1), .ref (o.2 2), .ref (o.2 3), .ref (o.2 4), .int st, .int fu, .int pt, .int hg, .ref (o.2 9)]) (ws' := (wm q o sz st fu uu hg op cn ce ht sk)) (ty := .int) ok 0 rfl 7 (by decide) q220 rfl (by decide +kernel) rfl rfl (Nat.le_of_ble_eq_true rfl) d rfl kk
theorem g1_high (ok : fz_ok q x cc n RX1 k) (d : decode cc pc = .ok (.getfield 32, 3)) (kk : fz_A q x (wm q o sz st fu pt hg op cn ce ht sk) (pc + 3) lc (.int hg :: stk)) : fz_A q x (wm q o sz st fu pt hg op cn ce ht sk) pc lc (.ref o.1 :: stk) := fz_get1 ok 0 rfl 8 (by decide) q221 rfl d kk
theorem p1_high (ok : fz_ok q x cc n RX1 k) {uu : Int32} (d : decode cc pc = .ok (.putfield 32, 3)) (vv : Int32) (hv : uu = vv) (kk : fz_A q x (wm q o sz st fu pt vv op cn ce ht sk) (pc + 3) lc stk) : fz_A q x (wm q o sz st fu pt hg op cn ce ht sk) pc lc (.int uu :: .ref o.1 :: stk) := by
  subst hv
  exact fz_put1 (fs := [.int sz, .ref (o.2 1), .ref (o.2 2), .ref (o.2 3), .ref (o.2 4), .int st, .int fu, .int pt, .int hg, .ref (o.2 9)]) (ws' := (wm q o sz st fu pt uu op cn ce ht sk)) (ty := .int) ok 0 rfl 8 (by decide) q221 rfl (by decide +kernel) rfl rfl (Nat.le_of_ble_eq_true rfl) d rfl kk
theorem g1_stack (ok : fz_ok q x cc n RX1 k) (d : decode cc pc = .ok (.getfield 22, 3)) (kk : fz_A q x (wm q o sz st fu pt hg op cn ce ht sk) (pc + 3) lc (.ref (o.2 9) :: stk)) : fz_A q x (wm q o sz st fu pt hg op cn ce ht sk) pc lc (.ref o.1 :: stk) := fz_get1 ok 0 rfl 9 (by decide) q222 rfl d kk
theorem l1_stack (ok : fz_ok q x cc n RX1 k) {i : Int32} (d : decode cc pc = .ok (.iaload, 1)) (j : Nat) (hi : i = nI j) (hj : j < 16) (kk : fz_A q x (wm q o sz st fu pt hg op cn ce ht sk) (pc + 1) lc (.int (sk j) :: stk)) : fz_A q x (wm q o sz st fu pt hg op cn ce ht sk) pc lc (.int i :: .ref (o.2 9) :: stk) := fz_ld ok 5 rfl (by decide) d j hi hj kk
theorem s1_stack (ok : fz_ok q x cc n RX1 k) {i uu : Int32} (d : decode cc pc = .ok (.iastore, 1)) (j : Nat) (hi : i = nI j) (hj : j < 16) (kk : fz_A q x (wm q o sz st fu pt hg op cn ce ht (upd sk j uu)) (pc + 1) lc stk) : fz_A q x (wm q o sz st fu pt hg op cn ce ht sk) pc lc (.int uu :: .int i :: .ref (o.2 9) :: stk) := fz_sto ok 5 rfl (by decide) d j hi hj rfl kk
theorem cd1_over : yX1_over.cls = RX1 ∧ yX1_over.cls ≠ "java/lang/invoke/MethodHandle" ∧ yX1_over.cls ≠ "java/lang/invoke/VarHandle" ∧ (parseMethodDescriptor yX1_over.desc).map (fun d => d.parameters.length) = some 0 := by decide +kernel
theorem k1_over (ok : fz_ok q x cc n RX1 k) {kc a : Nat} {fs : List Value} {w : va_W}  {S : Type} {post : S → Prop} {w' : S → va_W} (hM : fz_Mv q yX1_over cX1_over 1 kc (.ref a :: []) w post w') (he : w[0]? = some (a, .inr (1, fs))) (hk : kc + 1 ≤ k) (hst : (stk.map fun v => v.category).sum ≤ 8) (d : decode cc pc = .ok (.invokevirtual 38, 3)) (kk : ∀ u : S, post u → fz_A q x (w' u) (pc + 3) lc stk) : fz_A q x w pc lc (.ref a :: stk) := by
  have h := fz_cVv (w2 := []) (As := []) (C := RX1) (ci := 1) ok hM (lw_V q248 q250 qs13 q28 q251) cd1_over he rfl hk (by decide) hst d (fun u hu => fz_nil (kk u hu))
  rw [List.append_nil] at h
  exact h
theorem cd1_sound : yX1_sound.cls = RX1 ∧ yX1_sound.cls ≠ "java/lang/invoke/MethodHandle" ∧ yX1_sound.cls ≠ "java/lang/invoke/VarHandle" ∧ (parseMethodDescriptor yX1_sound.desc).map (fun d => d.parameters.length) = some 0 := by decide +kernel
theorem k1_sound (ok : fz_ok q x cc n RX1 k) {kc a : Nat} {fs : List Value} {w : va_W}  {S : Type} {post : Int32 → S → Prop} {w' : S → va_W} (hM : fz_Mi q yX1_sound cX1_sound 3 kc .boolean (.ref a :: []) w post w') (he : w[0]? = some (a, .inr (1, fs))) (hk : kc + 1 ≤ k) (hst : (stk.map fun v => v.category).sum ≤ 8) (d : decode cc pc = .ok (.invokevirtual 56, 3)) (kk : ∀ (r : Int32) (u : S), post r u → fz_A q x (w' u) (pc + 3) lc (.int r :: stk)) : fz_A q x w pc lc (.ref a :: stk) := by
  have h := fz_cVi (w2 := []) (As := []) (C := RX1) (ci := 1) ok hM (lw_V q264 q265 q266 q28 q267) cd1_sound he rfl hk (by decide) hst d (fun r u hu => fz_nil (kk r u hu))
  rw [List.append_nil] at h
  exact h
theorem cd1_come : yX1_come.cls = RX1 ∧ yX1_come.cls ≠ "java/lang/invoke/MethodHandle" ∧ yX1_come.cls ≠ "java/lang/invoke/VarHandle" ∧ (parseMethodDescriptor yX1_come.desc).map (fun d => d.parameters.length) = some 2 := by decide +kernel
theorem k1_come (ok : fz_ok q x cc n RX1 k) {kc a : Nat} {fs : List Value} {w : va_W} {v1 v2 : Int32} {S : Type} {post : Int32 → S → Prop} {w' : S → va_W} (hM : fz_Mi q yX1_come cX1_come 3 kc .boolean (.ref a :: [.int v1, .int v2]) w post w') (he : w[0]? = some (a, .inr (1, fs))) (hk : kc + 1 ≤ k) (hst : (stk.map fun v => v.category).sum ≤ 8) (d : decode cc pc = .ok (.invokevirtual 48, 3)) (kk : ∀ (r : Int32) (u : S), post r u → fz_A q x (w' u) (pc + 3) lc (.int r :: stk)) : fz_A q x w pc lc (.int v2 :: .int v1 :: .ref a :: stk) := by
  have h := fz_cVi (w2 := []) (As := [.int v1, .int v2]) (C := RX1) (ci := 1) ok hM (lw_V q268 q270 qs14 q28 q271) cd1_come he rfl hk (by decide) hst d (fun r u hu => fz_nil (kk r u hu))
  rw [List.append_nil] at h
  exact h
theorem cd1_check : yX1_check.cls = RX1 ∧ yX1_check.cls ≠ "java/lang/invoke/MethodHandle" ∧ yX1_check.cls ≠ "java/lang/invoke/VarHandle" ∧ (parseMethodDescriptor yX1_check.desc).map (fun d => d.parameters.length) = some 1 := by decide +kernel
theorem k1_check (ok : fz_ok q x cc n RX1 k) {kc a : Nat} {fs : List Value} {w : va_W} {v1 : Int32} {S : Type} {post : Int32 → S → Prop} {w' : S → va_W} (hM : fz_Mi q yX1_check cX1_check 4 kc .boolean (.ref a :: [.int v1]) w post w') (he : w[0]? = some (a, .inr (1, fs))) (hk : kc + 1 ≤ k) (hst : (stk.map fun v => v.category).sum ≤ 8) (d : decode cc pc = .ok (.invokevirtual 89, 3)) (kk : ∀ (r : Int32) (u : S), post r u → fz_A q x (w' u) (pc + 3) lc (.int r :: stk)) : fz_A q x w pc lc (.int v1 :: .ref a :: stk) := by
  have h := fz_cVi (w2 := []) (As := [.int v1]) (C := RX1) (ci := 1) ok hM (lw_V q272 q274 qs15 q28 q275) cd1_check he rfl hk (by decide) hst d (fun r u hu => fz_nil (kk r u hu))
  rw [List.append_nil] at h
  exact h
theorem cd1_change : yX1_change.cls = RX1 ∧ yX1_change.cls ≠ "java/lang/invoke/MethodHandle" ∧ yX1_change.cls ≠ "java/lang/invoke/VarHandle" ∧ (parseMethodDescriptor yX1_change.desc).map (fun d => d.parameters.length) = some 1 := by decide +kernel
theorem k1_change (ok : fz_ok q x cc n RX1 k) {kc a : Nat} {fs : List Value} {w : va_W} {v1 : Int32} {S : Type} {post : Int32 → S → Prop} {w' : S → va_W} (hM : fz_Mi q yX1_change cX1_change 2 kc .int (.ref a :: [.int v1]) w post w') (he : w[0]? = some (a, .inr (1, fs))) (hk : kc + 1 ≤ k) (hst : (stk.map fun v => v.category).sum ≤ 8) (d : decode cc pc = .ok (.invokevirtual 41, 3)) (kk : ∀ (r : Int32) (u : S), post r u → fz_A q x (w' u) (pc + 3) lc (.int r :: stk)) : fz_A q x w pc lc (.int v1 :: .ref a :: stk) := by
  have h := fz_cVi (w2 := []) (As := [.int v1]) (C := RX1) (ci := 1) ok hM (lw_V q276 q278 qs16 q28 q279) cd1_change he rfl hk (by decide) hst d (fun r u hu => fz_nil (kk r u hu))
  rw [List.append_nil] at h
  exact h
theorem cd1_needs : yX1_needs.cls = RX1 ∧ yX1_needs.cls ≠ "java/lang/invoke/MethodHandle" ∧ yX1_needs.cls ≠ "java/lang/invoke/VarHandle" ∧ (parseMethodDescriptor yX1_needs.desc).map (fun d => d.parameters.length) = some 1 := by decide +kernel
theorem k1_needs (ok : fz_ok q x cc n RX1 k) {kc a : Nat} {fs : List Value} {w : va_W} {v1 : Int32} {S : Type} {post : Int32 → S → Prop} {w' : S → va_W} (hM : fz_Mi q yX1_needs cX1_needs 2 kc .int (.ref a :: [.int v1]) w post w') (he : w[0]? = some (a, .inr (1, fs))) (hk : kc + 1 ≤ k) (hst : (stk.map fun v => v.category).sum ≤ 8) (d : decode cc pc = .ok (.invokevirtual 45, 3)) (kk : ∀ (r : Int32) (u : S), post r u → fz_A q x (w' u) (pc + 3) lc (.int r :: stk)) : fz_A q x w pc lc (.int v1 :: .ref a :: stk) := by
  have h := fz_cVi (w2 := []) (As := [.int v1]) (C := RX1) (ci := 1) ok hM (lw_V q280 q282 qs17 q28 q283) cd1_needs he rfl hk (by decide) hst d (fun r u hu => fz_nil (kk r u hu))
  rw [List.append_nil] at h
  exact h
theorem cd1_held : yX1_held.cls = RX1 ∧ yX1_held.cls ≠ "java/lang/invoke/MethodHandle" ∧ yX1_held.cls ≠ "java/lang/invoke/VarHandle" ∧ (parseMethodDescriptor yX1_held.desc).map (fun d => d.parameters.length) = some 1 := by decide +kernel
theorem k1_held (ok : fz_ok q x cc n RX1 k) {kc a : Nat} {fs : List Value} {w : va_W} {v1 : Int32} {S : Type} {post : Int32 → S → Prop} {w' : S → va_W} (hM : fz_Mi q yX1_held cX1_held 2 kc .int (.ref a :: [.int v1]) w post w') (he : w[0]? = some (a, .inr (1, fs))) (hk : kc + 1 ≤ k) (hst : (stk.map fun v => v.category).sum ≤ 8) (d : decode cc pc = .ok (.invokevirtual 60, 3)) (kk : ∀ (r : Int32) (u : S), post r u → fz_A q x (w' u) (pc + 3) lc (.int r :: stk)) : fz_A q x w pc lc (.int v1 :: .ref a :: stk) := by
  have h := fz_cVi (w2 := []) (As := [.int v1]) (C := RX1) (ci := 1) ok hM (lw_V q284 q286 qs18 q28 q287) cd1_held he rfl hk (by decide) hst d (fun r u hu => fz_nil (kk r u hu))
  rw [List.append_nil] at h
  exact h
theorem cd1_least : yX1_least.cls = RX1 ∧ yX1_least.cls ≠ "java/lang/invoke/MethodHandle" ∧ yX1_least.cls ≠ "java/lang/invoke/VarHandle" ∧ (parseMethodDescriptor yX1_least.desc).map (fun d => d.parameters.length) = some 2 := by decide +kernel
theorem k1_least (ok : fz_ok q x cc n RX1 k) {kc a : Nat} {fs : List Value} {w : va_W} {v1 v2 : Int32} {S : Type} {post : Int32 → S → Prop} {w' : S → va_W} (hM : fz_Mi q yX1_least cX1_least 3 kc .int (.ref a :: [.int v1, .int v2]) w post w') (he : w[0]? = some (a, .inr (1, fs))) (hk : kc + 1 ≤ k) (hst : (stk.map fun v => v.category).sum ≤ 8) (d : decode cc pc = .ok (.invokevirtual 52, 3)) (kk : ∀ (r : Int32) (u : S), post r u → fz_A q x (w' u) (pc + 3) lc (.int r :: stk)) : fz_A q x w pc lc (.int v2 :: .int v1 :: .ref a :: stk) := by
  have h := fz_cVi (w2 := []) (As := [.int v1, .int v2]) (C := RX1) (ci := 1) ok hM (lw_V q288 q290 qs19 q28 q291) cd1_least he rfl hk (by decide) hst d (fun r u hu => fz_nil (kk r u hu))
  rw [List.append_nil] at h
  exact h
theorem cd1_goOn : yX1_goOn.cls = RX1 ∧ yX1_goOn.cls ≠ "java/lang/invoke/MethodHandle" ∧ yX1_goOn.cls ≠ "java/lang/invoke/VarHandle" ∧ (parseMethodDescriptor yX1_goOn.desc).map (fun d => d.parameters.length) = some 0 := by decide +kernel
theorem k1_goOn (ok : fz_ok q x cc n RX1 k) {kc a : Nat} {fs : List Value} {w : va_W}  {S : Type} {post : Int32 → S → Prop} {w' : S → va_W} (hM : fz_Mi q yX1_goOn cX1_goOn 2 kc .int (.ref a :: []) w post w') (he : w[0]? = some (a, .inr (1, fs))) (hk : kc + 1 ≤ k) (hst : (stk.map fun v => v.category).sum ≤ 8) (d : decode cc pc = .ok (.invokevirtual 66, 3)) (kk : ∀ (r : Int32) (u : S), post r u → fz_A q x (w' u) (pc + 3) lc (.int r :: stk)) : fz_A q x w pc lc (.ref a :: stk) := by
  have h := fz_cVi (w2 := []) (As := []) (C := RX1) (ci := 1) ok hM (lw_V q292 q294 qs20 q28 q295) cd1_goOn he rfl hk (by decide) hst d (fun r u hu => fz_nil (kk r u hu))
  rw [List.append_nil] at h
  exact h
theorem cd1_cost : yX1_cost.cls = RX1 ∧ yX1_cost.cls ≠ "java/lang/invoke/MethodHandle" ∧ yX1_cost.cls ≠ "java/lang/invoke/VarHandle" ∧ (parseMethodDescriptor yX1_cost.desc).map (fun d => d.parameters.length) = some 1 := by decide +kernel
theorem k1_cost (ok : fz_ok q x cc n RX1 k) {kc a : Nat} {fs : List Value} {w : va_W} {v1 : Int32} {S : Type} {post : Int32 → S → Prop} {w' : S → va_W} (hM : fz_Mi q yX1_cost cX1_cost 2 kc .int (.ref a :: [.int v1]) w post w') (he : w[0]? = some (a, .inr (1, fs))) (hk : kc + 1 ≤ k) (hst : (stk.map fun v => v.category).sum ≤ 8) (d : decode cc pc = .ok (.invokevirtual 70, 3)) (kk : ∀ (r : Int32) (u : S), post r u → fz_A q x (w' u) (pc + 3) lc (.int r :: stk)) : fz_A q x w pc lc (.int v1 :: .ref a :: stk) := by
  have h := fz_cVi (w2 := []) (As := [.int v1]) (C := RX1) (ci := 1) ok hM (lw_V q296 q298 qs21 q28 q299) cd1_cost he rfl hk (by decide) hst d (fun r u hu => fz_nil (kk r u hu))
  rw [List.append_nil] at h
  exact h
theorem cd1_carryOut : yX1_carryOut.cls = RX1 ∧ yX1_carryOut.cls ≠ "java/lang/invoke/MethodHandle" ∧ yX1_carryOut.cls ≠ "java/lang/invoke/VarHandle" ∧ (parseMethodDescriptor yX1_carryOut.desc).map (fun d => d.parameters.length) = some 0 := by decide +kernel
theorem k1_carryOut (ok : fz_ok q x cc n RX1 k) {kc a : Nat} {fs : List Value} {w : va_W}  {S : Type} {post : S → Prop} {w' : S → va_W} (hM : fz_Mv q yX1_carryOut cX1_carryOut 5 kc (.ref a :: []) w post w') (he : w[0]? = some (a, .inr (1, fs))) (hk : kc + 1 ≤ k) (hst : (stk.map fun v => v.category).sum ≤ 8) (d : decode cc pc = .ok (.invokevirtual 73, 3)) (kk : ∀ u : S, post u → fz_A q x (w' u) (pc + 3) lc stk) : fz_A q x w pc lc (.ref a :: stk) := by
  have h := fz_cVv (w2 := []) (As := []) (C := RX1) (ci := 1) ok hM (lw_V q300 q302 qs22 q28 q303) cd1_carryOut he rfl hk (by decide) hst d (fun u hu => fz_nil (kk u hu))
  rw [List.append_nil] at h
  exact h
theorem cd1_put : yX1_put.cls = RX1 ∧ yX1_put.cls ≠ "java/lang/invoke/MethodHandle" ∧ yX1_put.cls ≠ "java/lang/invoke/VarHandle" ∧ (parseMethodDescriptor yX1_put.desc).map (fun d => d.parameters.length) = some 1 := by decide +kernel
theorem k1_put (ok : fz_ok q x cc n RX1 k) {kc a : Nat} {fs : List Value} {w : va_W} {v1 : Int32} {S : Type} {post : S → Prop} {w' : S → va_W} (hM : fz_Mv q yX1_put cX1_put 2 kc (.ref a :: [.int v1]) w post w') (he : w[0]? = some (a, .inr (1, fs))) (hk : kc + 1 ≤ k) (hst : (stk.map fun v => v.category).sum ≤ 8) (d : decode cc pc = .ok (.invokevirtual 76, 3)) (kk : ∀ u : S, post u → fz_A q x (w' u) (pc + 3) lc stk) : fz_A q x w pc lc (.int v1 :: .ref a :: stk) := by
  have h := fz_cVv (w2 := []) (As := [.int v1]) (C := RX1) (ci := 1) ok hM (lw_V q304 q306 qs23 q28 q307) cd1_put he rfl hk (by decide) hst d (fun u hu => fz_nil (kk u hu))
  rw [List.append_nil] at h
  exact h
theorem cd1_top : yX1_top.cls = RX1 ∧ yX1_top.cls ≠ "java/lang/invoke/MethodHandle" ∧ yX1_top.cls ≠ "java/lang/invoke/VarHandle" ∧ (parseMethodDescriptor yX1_top.desc).map (fun d => d.parameters.length) = some 1 := by decide +kernel
theorem k1_top (ok : fz_ok q x cc n RX1 k) {kc a : Nat} {fs : List Value} {w : va_W} {v1 : Int32} {S : Type} {post : Int32 → S → Prop} {w' : S → va_W} (hM : fz_Mi q yX1_top cX1_top 2 kc .int (.ref a :: [.int v1]) w post w') (he : w[0]? = some (a, .inr (1, fs))) (hk : kc + 1 ≤ k) (hst : (stk.map fun v => v.category).sum ≤ 8) (d : decode cc pc = .ok (.invokevirtual 80, 3)) (kk : ∀ (r : Int32) (u : S), post r u → fz_A q x (w' u) (pc + 3) lc (.int r :: stk)) : fz_A q x w pc lc (.int v1 :: .ref a :: stk) := by
  have h := fz_cVi (w2 := []) (As := [.int v1]) (C := RX1) (ci := 1) ok hM (lw_V q308 q309 q310 q28 q311) cd1_top he rfl hk (by decide) hst d (fun r u hu => fz_nil (kk r u hu))
  rw [List.append_nil] at h
  exact h
theorem cd1_two : yX1_two.cls = RX1 ∧ yX1_two.cls ≠ "java/lang/invoke/MethodHandle" ∧ yX1_two.cls ≠ "java/lang/invoke/VarHandle" ∧ (parseMethodDescriptor yX1_two.desc).map (fun d => d.parameters.length) = some 1 := by decide +kernel
theorem k1_two (ok : fz_ok q x cc n RX1 k) {kc a : Nat} {fs : List Value} {w : va_W} {v1 : Int32} {S : Type} {post : S → Prop} {w' : S → va_W} (hM : fz_Mv q yX1_two cX1_two 4 kc (.ref a :: [.int v1]) w post w') (he : w[0]? = some (a, .inr (1, fs))) (hk : kc + 1 ≤ k) (hst : (stk.map fun v => v.category).sum ≤ 8) (d : decode cc pc = .ok (.invokevirtual 83, 3)) (kk : ∀ u : S, post u → fz_A q x (w' u) (pc + 3) lc stk) : fz_A q x w pc lc (.int v1 :: .ref a :: stk) := by
  have h := fz_cVv (w2 := []) (As := [.int v1]) (C := RX1) (ci := 1) ok hM (lw_V q312 q314 qs24 q28 q315) cd1_two he rfl hk (by decide) hst d (fun u hu => fz_nil (kk u hu))
  rw [List.append_nil] at h
  exact h
theorem cd1_take : yX1_take.cls = RX1 ∧ yX1_take.cls ≠ "java/lang/invoke/MethodHandle" ∧ yX1_take.cls ≠ "java/lang/invoke/VarHandle" ∧ (parseMethodDescriptor yX1_take.desc).map (fun d => d.parameters.length) = some 0 := by decide +kernel
theorem k1_take (ok : fz_ok q x cc n RX1 k) {kc a : Nat} {fs : List Value} {w : va_W}  {S : Type} {post : Int32 → S → Prop} {w' : S → va_W} (hM : fz_Mi q yX1_take cX1_take 1 kc .int (.ref a :: []) w post w') (he : w[0]? = some (a, .inr (1, fs))) (hk : kc + 1 ≤ k) (hst : (stk.map fun v => v.category).sum ≤ 8) (d : decode cc pc = .ok (.invokevirtual 86, 3)) (kk : ∀ (r : Int32) (u : S), post r u → fz_A q x (w' u) (pc + 3) lc (.int r :: stk)) : fz_A q x w pc lc (.ref a :: stk) := by
  have h := fz_cVi (w2 := []) (As := []) (C := RX1) (ci := 1) ok hM (lw_V q316 q318 qs25 q28 q319) cd1_take he rfl hk (by decide) hst d (fun r u hu => fz_nil (kk r u hu))
  rw [List.append_nil] at h
  exact h
end FLD1
end
section
set_option maxRecDepth 100000
/-! the plain words: numbers, what an instruction does, heights, blocks, charged steps -/
theorem fz_s1 {d : Nat} (h : 1 ≤ d) : nI d - 1 = nI (d - 1) := pk_sub (b := 1) h
theorem fz_s2 {d : Nat} (h : 2 ≤ d) : nI d - 2 = nI (d - 2) := pk_sub (b := 2) h
theorem fz_a1 (d : Nat) : nI d + 1 = nI (d + 1) := nI_1 d
theorem fz_inj {a b : Nat} (ha : a < 2 ^ 31) (hb : b < 2 ^ 31) (h : nI a = nI b) : a = b := (nI_eq ha hb).mp h
theorem fz_neg1 : (-1 : Int32) < 0 := by decide +kernel
theorem fz_nneg {a : Nat} (h : a < 2 ^ 31) : ¬ nI a < 0 := nI_pos h
theorem fz_nI_ne_neg1 {a : Nat} (h : a < 2 ^ 31) : nI a ≠ -1 := fun e => fz_nneg h (by rw [e]; exact fz_neg1)
theorem fz_15 {o : Nat} (h : o < 15) : o = 0 ∨ o = 1 ∨ o = 2 ∨ o = 3 ∨ o = 4 ∨ o = 5 ∨ o = 6 ∨ o = 7 ∨ o = 8 ∨ o = 9 ∨ o = 10 ∨ o = 11 ∨ o = 12 ∨ o = 13 ∨ o = 14 := by omega
/-- a number's place: below 0, in, or from n on -/
theorem fz_ix (v : Int32) {n : Nat} (hn : n < 2 ^ 31) : v < 0 ∨ nI n ≤ v ∨ ∃ j : Nat, j < n ∧ v = nI j := pk_ix v hn
theorem fz_out {v : Int32} {n : Nat} (hn : n < 2 ^ 31) (h : v < 0 ∨ nI n ≤ v) : ¬ ∃ j : Nat, j < n ∧ v = nI j := by
  rintro ⟨j, hj, rfl⟩
  rcases h with h | h
  · exact fz_nneg (by omega) h
  · have := (nI_leI (by omega) (by omega)).mp h
    omega
theorem fz_le_nlt {a b : Int32} (h : a ≤ b) : ¬ b < a := by
  rw [Int32.le_iff_toInt_le] at h
  rw [Int32.lt_iff_toInt_lt]
  omega
theorem fz_nlt_le {a b : Int32} (h : ¬ b < a) : a ≤ b := by
  rw [Int32.lt_iff_toInt_lt] at h
  rw [Int32.le_iff_toInt_le]
  omega
theorem fz_nle_lt {a b : Int32} (h : ¬ a ≤ b) : b < a := by
  rw [Int32.le_iff_toInt_le] at h
  rw [Int32.lt_iff_toInt_lt]
  omega
theorem fz_lt_nle {a b : Int32} (h : b < a) : ¬ a ≤ b := by
  rw [Int32.lt_iff_toInt_lt] at h
  rw [Int32.le_iff_toInt_le]
  omega
/-! what an instruction does -/
def usN (o : Nat) : Nat := match o with
  | 1 => 1 | 2 => 1 | 9 => 1 | 10 => 1 | 12 => 1
  | 3 => 2 | 4 => 2 | 5 => 2 | 6 => 2 | 7 => 2
  | _ => 0
def grI (o : Nat) : Int32 := match o with
  | 0 => 1 | 2 => 1 | 7 => 1 | 11 => 1
  | 1 => -1 | 3 => -1 | 4 => -1 | 5 => -1 | 9 => -1 | 10 => -1 | 12 => -1
  | _ => 0
def stD (o d : Nat) : Nat := match o with
  | 0 => d + 1 | 2 => d + 1 | 7 => d + 1 | 11 => d + 1
  | 1 => d - 1 | 3 => d - 1 | 4 => d - 1 | 5 => d - 1 | 9 => d - 1 | 10 => d - 1 | 12 => d - 1
  | _ => d
def stP (o a : Nat) (c : Int32) (d : Nat) (sk : Nat → Int32) : Int32 := match o with
  | 8 => c
  | 9 => if sk (d - 1) = 0 then c else nI (a + 1)
  | 10 => if 0 < sk (d - 1) then c else nI (a + 1)
  | 13 => nI a
  | _ => nI (a + 1)
def stS (o : Nat) (c : Int32) (d : Nat) (sk ce : Nat → Int32) : Nat → Int32 := match o with
  | 0 => upd sk d c
  | 2 => upd sk d (sk (d - 1))
  | 3 => upd sk (d - 2) (sk (d - 2) + sk (d - 1))
  | 4 => upd sk (d - 2) (sk (d - 2) - sk (d - 1))
  | 5 => upd sk (d - 2) (sk (d - 2) * sk (d - 1))
  | 6 => upd (upd sk (d - 1) (sk (d - 2))) (d - 2) (sk (d - 1))
  | 7 => upd sk d (sk (d - 2))
  | 11 => upd sk d (ce (c &&& 3).toNatClampNeg)
  | _ => sk
def stC (o : Nat) (c : Int32) (d : Nat) (sk ce : Nat → Int32) : Nat → Int32 := match o with
  | 12 => upd ce (c &&& 3).toNatClampNeg (sk (d - 1))
  | _ => ce
def stT (o : Nat) (st : Int32) : Int32 := match o with
  | 13 => 1
  | _ => st
def csN (o : Nat) (c : Int32) : Nat := match o with
  | 5 => 3
  | 14 => (c &&& 15).toNatClampNeg + 1
  | _ => 1
def cst (op cn : Nat → Int32) (p : Nat) : Nat := csN (op p).toNatClampNeg (cn p)
theorem fz_and15 (c : Int32) : ∃ j : Nat, j < 16 ∧ c &&& 15 = nI j := pk_andE c 4 (by decide +kernel)
theorem fz_and3 (c : Int32) : ∃ j : Nat, j < 4 ∧ c &&& 3 = nI j := pk_andE c 2 (by decide +kernel)
theorem fz_and3' (c : Int32) : c &&& 3 = nI (c &&& 3).toNatClampNeg ∧ (c &&& 3).toNatClampNeg < 4 := by
  obtain ⟨j, hj, e⟩ := fz_and3 c
  rw [e, nI_clamp (by omega)]
  exact ⟨rfl, hj⟩
theorem fz_and15' (c : Int32) : c &&& 15 = nI (c &&& 15).toNatClampNeg ∧ (c &&& 15).toNatClampNeg < 16 := by
  obtain ⟨j, hj, e⟩ := fz_and15 c
  rw [e, nI_clamp (by omega)]
  exact ⟨rfl, hj⟩
theorem csN_pos (o : Nat) (c : Int32) : 1 ≤ csN o c := by
  unfold csN
  split <;> omega
theorem csN_le (o : Nat) (c : Int32) : csN o c ≤ 16 := by
  have := (fz_and15' c).2
  unfold csN
  split <;> omega
theorem cst_pos (op cn : Nat → Int32) (p : Nat) : 1 ≤ cst op cn p := csN_pos _ _
theorem cst_le (op cn : Nat → Int32) (p : Nat) : cst op cn p ≤ 16 := csN_le _ _
theorem cst_eq {op cn : Nat → Int32} {p o : Nat} (h : op p = nI o) (ho : o < 15) : cst op cn p = csN o (cn p) := by
  unfold cst
  rw [h, nI_clamp (by omega)]
theorem fz_m1 {h : Nat} (hu : 1 ≤ h) : nI h + (-1) = nI (h - 1) := by
  obtain ⟨k, rfl⟩ := Nat.exists_eq_add_of_le hu
  rw [Nat.add_comm 1 k]
  exact pk_m1 k
theorem fz_z {h : Nat} : nI h + 0 = nI h := Int32.add_zero _
/-- the height behind -/
theorem fz_behind {o h : Nat} (ho : o < 15) (hu : usN o ≤ h) : nI h + grI o = nI (stD o h) := by
  rcases fz_15 ho with rfl | rfl | rfl | rfl | rfl | rfl | rfl | rfl | rfl | rfl | rfl | rfl | rfl | rfl | rfl
  · exact fz_a1 h
  · exact fz_m1 (Nat.le_trans (by decide) hu)
  · exact fz_a1 h
  · exact fz_m1 (Nat.le_trans (by decide) hu)
  · exact fz_m1 (Nat.le_trans (by decide) hu)
  · exact fz_m1 (Nat.le_trans (by decide) hu)
  · exact fz_z
  · exact fz_a1 h
  · exact fz_z
  · exact fz_m1 (Nat.le_trans (by decide) hu)
  · exact fz_m1 (Nat.le_trans (by decide) hu)
  · exact fz_a1 h
  · exact fz_m1 (Nat.le_trans (by decide) hu)
  · exact fz_z
  · exact fz_z
theorem stD_le {o d : Nat} (h : d ≤ 8) : stD o d ≤ 9 := by
  unfold stD
  split <;> omega
/-! the machine's state: place, height, stack, cells -/
abbrev Ms : Type := Int32 × Nat × (Nat → Int32) × (Nat → Int32)
def aOf (m : Ms) : Nat := m.1.toNatClampNeg
def oOf (op : Nat → Int32) (m : Ms) : Nat := (op (aOf m)).toNatClampNeg
def sp (op cn : Nat → Int32) (m : Ms) : Ms := (stP (oOf op m) (aOf m) (cn (aOf m)) m.2.1 m.2.2.1, stD (oOf op m) m.2.1, stS (oOf op m) (cn (aOf m)) m.2.1 m.2.2.1 m.2.2.2, stC (oOf op m) (cn (aOf m)) m.2.1 m.2.2.1 m.2.2.2)
def PreM (op : Nat → Int32) (m : Ms) : Prop := ∃ a o : Nat, m.1 = nI a ∧ a < 24 ∧ op a = nI o ∧ o < 15 ∧ usN o ≤ m.2.1 ∧ m.2.1 ≤ 8 ∧ stD o m.2.1 ≤ 8
theorem aOf_nI {m : Ms} {a : Nat} (h : m.1 = nI a) (ha : a < 2 ^ 31) : aOf m = a := by
  unfold aOf
  rw [h, nI_clamp ha]
theorem oOf_nI {op : Nat → Int32} {m : Ms} {a o : Nat} (h : m.1 = nI a) (ha : a < 2 ^ 31) (h2 : op a = nI o) (ho : o < 2 ^ 31) : oOf op m = o := by
  unfold oOf
  rw [aOf_nI h ha, h2, nI_clamp ho]
/-! a charged step: stopped, fuel, machine -/
abbrev Cf : Type := Bool × Nat × Ms
def mu (op cn : Nat → Int32) (c : Cf) : Cf := if c.1 = true then c else if cst op cn (aOf c.2.2) ≤ c.2.1 then (decide (oOf op c.2.2 = 13), c.2.1 - cst op cn (aOf c.2.2), sp op cn c.2.2) else c
def itN {α : Type} (f : α → α) : Nat → α → α
  | 0, a => a
  | n + 1, a => itN f n (f a)
theorem itN_add {α : Type} (f : α → α) : ∀ (a b : Nat) (x : α), itN f (a + b) x = itN f b (itN f a x)
  | 0, b, x => by rw [Nat.zero_add]; rfl
  | a + 1, b, x => by
    rw [show a + 1 + b = (a + b) + 1 by omega]
    show itN f (a + b) (f x) = itN f b (itN f a (f x))
    exact itN_add f a b (f x)
theorem itN_succ {α : Type} (f : α → α) (n : Nat) (x : α) : itN f (n + 1) x = f (itN f n x) := itN_add f n 1 x
theorem itN_fix {α : Type} {f : α → α} {x : α} (h : f x = x) : ∀ n : Nat, itN f n x = x
  | 0 => rfl
  | n + 1 => by
    show itN f n (f x) = x
    rw [h]
    exact itN_fix h n
theorem itN_uniq {α : Type} {f : α → α} {x : α} {a b : Nat} (ha : f (itN f a x) = itN f a x) (hb : f (itN f b x) = itN f b x) : itN f a x = itN f b x := by
  rcases Nat.le_total a b with h | h
  · obtain ⟨d, rfl⟩ := Nat.exists_eq_add_of_le h
    rw [itN_add, itN_fix ha]
  · obtain ⟨d, rfl⟩ := Nat.exists_eq_add_of_le h
    rw [itN_add, itN_fix hb]
theorem mu_stop {op cn : Nat → Int32} {c : Cf} (h : c.1 = true) : mu op cn c = c := by
  unfold mu
  rw [if_pos h]
theorem mu_no {op cn : Nat → Int32} {c : Cf} (h : ¬ cst op cn (aOf c.2.2) ≤ c.2.1) : mu op cn c = c := by
  unfold mu
  by_cases h1 : c.1 = true
  · rw [if_pos h1]
  · rw [if_neg h1, if_neg h]
theorem mu_yes {op cn : Nat → Int32} {f : Nat} {m : Ms} (h : cst op cn (aOf m) ≤ f) : mu op cn (false, f, m) = (decide (oOf op m = 13), f - cst op cn (aOf m), sp op cn m) := by
  unfold mu
  rw [if_neg (by simp)]
  exact if_pos h
theorem mu_falls (op cn : Nat → Int32) (c : Cf) : mu op cn c = c ∨ (mu op cn c).2.1 < c.2.1 := by
  by_cases h1 : c.1 = true
  · exact Or.inl (mu_stop h1)
  · by_cases h2 : cst op cn (aOf c.2.2) ≤ c.2.1
    · right
      have hp := cst_pos op cn (aOf c.2.2)
      unfold mu
      rw [if_neg h1, if_pos h2]
      show c.2.1 - _ < c.2.1
      omega
    · exact Or.inl (mu_no h2)
theorem mu_fixed {op cn : Nat → Int32} : ∀ (k : Nat) (c : Cf), c.2.1 < k → mu op cn (itN (mu op cn) k c) = itN (mu op cn) k c
  | 0, c, h => absurd h (Nat.not_lt_zero _)
  | k + 1, c, h => by
    rcases mu_falls op cn c with e | e
    · rw [itN_fix e]
      exact e
    · show mu op cn (itN (mu op cn) k (mu op cn c)) = itN (mu op cn) k (mu op cn c)
      exact mu_fixed k _ (by omega)
/-! heights -/
def OpOK (n : Nat) (op : Nat → Int32) : Prop := ∀ p, p < n → ∃ o : Nat, o < 15 ∧ op p = nI o
def CO (n : Nat) (op cn hh : Nat → Int32) (p h : Nat) : Prop := ∀ o : Nat, o < 15 → op p = nI o → usN o ≤ h ∧ stD o h ≤ 8 ∧ (8 ≤ o → o ≤ 10 → ∃ t : Nat, t < n ∧ cn p = nI t ∧ hh t = nI (stD o h)) ∧ (o ≠ 8 → o ≠ 13 → p + 1 < n ∧ hh (p + 1) = nI (stD o h))
def Cl (n : Nat) (op cn hh : Nat → Int32) : Prop := 0 < n ∧ hh 0 = 0 ∧ ∀ p, p < n → ∀ h : Nat, h ≤ 8 → hh p = nI h → CO n op cn hh p h
def Ok1 (n : Nat) (hh : Nat → Int32) (m : Ms) : Prop := ∃ a : Nat, m.1 = nI a ∧ a < n ∧ hh a = nI m.2.1 ∧ m.2.1 ≤ 8
theorem ok1_pre {n : Nat} {op cn hh : Nat → Int32} {m : Ms} (hn : n ≤ 24) (hop : OpOK n op) (hc : Cl n op cn hh) (h : Ok1 n hh m) : PreM op m := by
  obtain ⟨a, e, ha, he, hd⟩ := h
  obtain ⟨o, ho, eo⟩ := hop a ha
  obtain ⟨h1, h2, -⟩ := hc.2.2 a ha m.2.1 hd he o ho eo
  exact ⟨a, o, e, by omega, eo, ho, h1, hd, h2⟩
theorem ok1_step {n : Nat} {op cn hh : Nat → Int32} {m : Ms} (hn : n ≤ 24) (hop : OpOK n op) (hc : Cl n op cn hh) (h : Ok1 n hh m) : Ok1 n hh (sp op cn m) := by
  obtain ⟨a, e, ha, he, hd⟩ := h
  obtain ⟨o, ho, eo⟩ := hop a ha
  obtain ⟨h1, h2, h3, h4⟩ := hc.2.2 a ha m.2.1 hd he o ho eo
  have ea : aOf m = a := aOf_nI e (by omega)
  have eoo : oOf op m = o := oOf_nI e (by omega) eo (by omega)
  unfold sp
  rw [eoo, ea]
  by_cases hj : 8 ≤ o ∧ o ≤ 10
  · obtain ⟨t, ht, et, eh⟩ := h3 hj.1 hj.2
    by_cases h8 : o = 8
    · subst h8
      exact ⟨t, et, ht, eh, h2⟩
    · obtain ⟨g1, g2⟩ := h4 h8 (by omega)
      have h910 : o = 9 ∨ o = 10 := by omega
      rcases h910 with rfl | rfl
      · by_cases z : m.2.2.1 (m.2.1 - 1) = 0
        · exact ⟨t, by show (if _ then _ else _) = _; rw [if_pos z]; exact et, ht, eh, h2⟩
        · exact ⟨a + 1, by show (if _ then _ else _) = _; rw [if_neg z], g1, g2, h2⟩
      · by_cases z : 0 < m.2.2.1 (m.2.1 - 1)
        · exact ⟨t, by show (if _ then _ else _) = _; rw [if_pos z]; exact et, ht, eh, h2⟩
        · exact ⟨a + 1, by show (if _ then _ else _) = _; rw [if_neg z], g1, g2, h2⟩
  · by_cases h13 : o = 13
    · subst h13
      exact ⟨a, rfl, ha, he, hd⟩
    · obtain ⟨g1, g2⟩ := h4 (by omega) h13
      refine ⟨a + 1, ?_, g1, g2, h2⟩
      rcases fz_15 ho with rfl | rfl | rfl | rfl | rfl | rfl | rfl | rfl | rfl | rfl | rfl | rfl | rfl | rfl | rfl <;> first | rfl | (exfalso; omega)
theorem ok1_steps {n : Nat} {op cn hh : Nat → Int32} (hn : n ≤ 24) (hop : OpOK n op) (hc : Cl n op cn hh) : ∀ (k : Nat) (m : Ms), Ok1 n hh m → Ok1 n hh (itN (sp op cn) k m)
  | 0, _, h => h
  | k + 1, m, h => ok1_steps hn hop hc k _ (ok1_step hn hop hc h)
theorem ok1_mu {n : Nat} {op cn hh : Nat → Int32} {c : Cf} (hn : n ≤ 24) (hop : OpOK n op) (hc : Cl n op cn hh) (h : Ok1 n hh c.2.2) : Ok1 n hh (mu op cn c).2.2 := by
  unfold mu
  by_cases h1 : c.1 = true
  · rw [if_pos h1]; exact h
  · rw [if_neg h1]
    by_cases h2 : cst op cn (aOf c.2.2) ≤ c.2.1
    · rw [if_pos h2]; exact ok1_step hn hop hc h
    · rw [if_neg h2]; exact h
theorem ok1_mus {n : Nat} {op cn hh : Nat → Int32} (hn : n ≤ 24) (hop : OpOK n op) (hc : Cl n op cn hh) : ∀ (k : Nat) (c : Cf), Ok1 n hh c.2.2 → Ok1 n hh (itN (mu op cn) k c).2.2
  | 0, _, h => h
  | k + 1, c, h => ok1_mus hn hop hc k _ (ok1_mu hn hop hc h)
theorem mu_le (op cn : Nat → Int32) (c : Cf) : (mu op cn c).2.1 ≤ c.2.1 := by
  rcases mu_falls op cn c with e | e
  · rw [e]; exact Nat.le_refl _
  · omega
theorem mus_le (op cn : Nat → Int32) : ∀ (k : Nat) (c : Cf), (itN (mu op cn) k c).2.1 ≤ c.2.1
  | 0, _ => Nat.le_refl _
  | k + 1, c => Nat.le_trans (mus_le op cn k _) (mu_le op cn c)
/-! blocks -/
def Bl (op cn : Nat → Int32) : Nat → Nat → Nat → Prop
  | p, 0, s => s = cst op cn p
  | p, j + 1, s => (op p).toNatClampNeg ≠ 13 ∧ ¬ (8 ≤ (op p).toNatClampNeg ∧ (op p).toNatClampNeg ≤ 10) ∧ ∃ s' : Nat, s = cst op cn p + s' ∧ Bl op cn (p + 1) j s'
def BK (n : Nat) (op cn bc be : Nat → Int32) (p : Nat) : Prop := ∃ j s : Nat, be p = nI (p + j) ∧ bc p = nI s ∧ p + j < n ∧ s ≤ 16 * (j + 1) ∧ 1 ≤ s ∧ Bl op cn p j s
/-- an instruction that neither jumps nor stops goes to the next one -/
theorem sp_next {op cn : Nat → Int32} {m : Ms} {p : Nat} (e : m.1 = nI p) (hp : p < 2 ^ 31) (h13 : (op p).toNatClampNeg ≠ 13) (hj : ¬ (8 ≤ (op p).toNatClampNeg ∧ (op p).toNatClampNeg ≤ 10)) : (sp op cn m).1 = nI (p + 1) := by
  have ea : aOf m = p := aOf_nI e hp
  show stP (oOf op m) (aOf m) (cn (aOf m)) m.2.1 m.2.2.1 = nI (p + 1)
  unfold oOf
  rw [ea]
  generalize (op p).toNatClampNeg = o at h13 hj
  unfold stP
  split
  · omega
  · omega
  · omega
  · omega
  · rfl
/-- a block that the fuel covers, charged step by step -/
theorem bl_run {op cn : Nat → Int32} : ∀ (j p s f : Nat) (m : Ms), Bl op cn p j s → s ≤ f → m.1 = nI p → p + j < 2 ^ 31 → itN (mu op cn) (j + 1) (false, f, m) = (decide (oOf op (itN (sp op cn) j m) = 13), f - s, itN (sp op cn) (j + 1) m)
  | 0, p, s, f, m, hb, hs, e, hp => by
    have ea : aOf m = p := aOf_nI e (by omega)
    have hb : s = cst op cn p := hb
    subst hb
    show mu op cn (false, f, m) = (decide (oOf op m = 13), f - cst op cn p, sp op cn m)
    rw [mu_yes (by rw [ea]; exact hs), ea]
  | j + 1, p, s, f, m, hb, hs, e, hp => by
    have ea : aOf m = p := aOf_nI e (by omega)
    obtain ⟨h13, hj, s', es, hb'⟩ := hb
    have h1 : mu op cn (false, f, m) = (false, f - cst op cn p, sp op cn m) := by
      rw [mu_yes (by rw [ea]; omega), ea]
      have : oOf op m ≠ 13 := by unfold oOf; rw [ea]; exact h13
      simp [this]
    show itN (mu op cn) (j + 1) (mu op cn (false, f, m)) = (decide (oOf op (itN (sp op cn) j (sp op cn m)) = 13), f - s, itN (sp op cn) (j + 1) (sp op cn m))
    rw [h1, bl_run j (p + 1) s' (f - cst op cn p) (sp op cn m) hb' (by omega) (sp_next e (by omega) h13 hj) (by omega)]
    rw [show f - cst op cn p - s' = f - s by omega]
theorem bl_pos {op cn : Nat → Int32} : ∀ {j p s : Nat}, Bl op cn p j s → 1 ≤ s
  | 0, p, s, h => by
    have h : s = cst op cn p := h
    rw [h]; exact cst_pos op cn p
  | j + 1, p, s, h => by
    obtain ⟨-, -, s', e, -⟩ := h
    have := cst_pos op cn p
    omega
/-! counting the reached ones -/
def cnN (ht : Nat → Int32) : Nat → Nat
  | 0 => 0
  | m + 1 => if ht m < 0 then cnN ht m else cnN ht m + 1
theorem cnN_le (ht : Nat → Int32) : ∀ m : Nat, cnN ht m ≤ m
  | 0 => Nat.le_refl _
  | m + 1 => by
    have := cnN_le ht m
    unfold cnN
    split <;> omega
theorem cnN_mono {h1 h2 : Nat → Int32} : ∀ {m : Nat}, (∀ p, p < m → ¬ h1 p < 0 → ¬ h2 p < 0) → cnN h1 m ≤ cnN h2 m
  | 0, _ => Nat.le_refl _
  | m + 1, h => by
    have ih := cnN_mono (m := m) (fun p hp => h p (by omega))
    unfold cnN
    by_cases a : h1 m < 0
    · rw [if_pos a]
      split <;> omega
    · rw [if_neg a, if_neg (h m (by omega) a)]
      omega
theorem cnN_eq {h1 h2 : Nat → Int32} : ∀ {m : Nat}, (∀ p, p < m → ¬ h1 p < 0 → ¬ h2 p < 0) → cnN h1 m = cnN h2 m → ∀ p, p < m → ¬ h2 p < 0 → ¬ h1 p < 0
  | 0, _, _ => fun p hp => absurd hp (Nat.not_lt_zero _)
  | m + 1, h, e => by
    have hm := cnN_mono (m := m) (fun p hp => h p (Nat.lt_succ_of_lt hp))
    have ih := cnN_eq (m := m) (fun p hp => h p (Nat.lt_succ_of_lt hp))
    unfold cnN at e
    intro p hp h2p
    by_cases a : h1 m < 0
    · rw [if_pos a] at e
      by_cases b : h2 m < 0
      · rw [if_pos b] at e
        rcases Nat.lt_succ_iff_lt_or_eq.mp hp with q | q
        · exact ih e p q h2p
        · subst q; exact absurd b h2p
      · rw [if_neg b] at e
        omega
    · rw [if_neg a, if_neg (h m (Nat.lt_succ_self m) a)] at e
      rcases Nat.lt_succ_iff_lt_or_eq.mp hp with q | q
      · exact ih (by omega) p q h2p
      · subst q; exact a
theorem cnN_lt {ht : Nat → Int32} : ∀ {m p : Nat}, p < m → ht p < 0 → cnN ht m < m
  | 0, p, hp, _ => absurd hp (Nat.not_lt_zero _)
  | m + 1, p, hp, h => by
    unfold cnN
    have := cnN_le ht m
    rcases Nat.lt_succ_iff_lt_or_eq.mp hp with q | q
    · have := cnN_lt q h
      split <;> omega
    · subst q
      rw [if_pos h]
      omega
theorem cnN_same {h1 h2 : Nat → Int32} : ∀ {m : Nat}, (∀ p, p < m → h1 p = h2 p) → cnN h1 m = cnN h2 m
  | 0, _ => rfl
  | m + 1, h => by
    unfold cnN
    rw [h m (Nat.lt_succ_self m), cnN_same (m := m) (fun p hp => h p (Nat.lt_succ_of_lt hp))]
theorem cnN_upd {ht : Nat → Int32} {v : Int32} (hv : ¬ v < 0) : ∀ {m p : Nat}, p < m → ht p < 0 → cnN (upd ht p v) m = cnN ht m + 1
  | 0, p, hp, _ => absurd hp (Nat.not_lt_zero _)
  | m + 1, p, hp, h => by
    unfold cnN
    rcases Nat.lt_succ_iff_lt_or_eq.mp hp with q | q
    · rw [pk_un (Nat.ne_of_gt q), cnN_upd hv q h]
      split <;> omega
    · subst q
      rw [pk_us, if_neg hv, if_pos h, cnN_same (h1 := upd ht p v) (h2 := ht) (fun r hr => pk_un (Nat.ne_of_lt hr))]
/-! the two checks -/
def Rg (n : Nat) (ht : Nat → Int32) : Prop := ∀ p, p < 24 → ht p = -1 ∨ ∃ h : Nat, h ≤ 8 ∧ ht p = nI h ∧ p < n
def Mn (n : Nat) (op cn ht : Nat → Int32) : Prop := ∀ h' : Nat → Int32, Cl n op cn h' → ∀ p, p < n → ¬ ht p < 0 → h' p = ht p
def Ex (ht ht' : Nat → Int32) : Prop := ∀ p, p < 24 → ¬ ht p < 0 → ht' p = ht p
def Li (n k : Nat) (ht li : Nat → Int32) : Prop := k = cnN ht 24 ∧ (∀ j, j < k → ∃ p : Nat, p < n ∧ li j = nI p ∧ ¬ ht p < 0) ∧ ∀ p, p < n → ¬ ht p < 0 → ∃ j : Nat, j < k ∧ li j = nI p
theorem Ex_refl (ht : Nat → Int32) : Ex ht ht := fun _ _ _ => rfl
theorem Ex_trans {a b c : Nat → Int32} (h1 : Ex a b) (h2 : Ex b c) : Ex a c := fun p hp h => by
  have e := h1 p hp h
  rw [h2 p hp (by rw [e]; exact h), e]
theorem CO_ex {n : Nat} {op cn a b : Nat → Int32} {p h : Nat} (hn : n ≤ 24) (hh : h ≤ 8) (h1 : CO n op cn a p h) (he : Ex a b) : CO n op cn b p h := by
  intro o ho eo
  obtain ⟨g1, g2, g3, g4⟩ := h1 o ho eo
  refine ⟨g1, g2, fun x y => ?_, fun x y => ?_⟩
  · obtain ⟨t, ht, et, eh⟩ := g3 x y
    exact ⟨t, ht, et, by rw [he t (by omega) (by rw [eh]; exact fz_nneg (by omega))]; exact eh⟩
  · obtain ⟨g5, g6⟩ := g4 x y
    exact ⟨g5, by rw [he (p + 1) (by omega) (by rw [g6]; exact fz_nneg (by omega))]; exact g6⟩
/-- a new height -/
theorem Rg_upd {n : Nat} {ht : Nat → Int32} {t h : Nat} (hr : Rg n ht) (ht' : t < n) (hh : h ≤ 8) : Rg n (upd ht t (nI h)) := by
  intro p hp
  by_cases e : p = t
  · subst e
    exact Or.inr ⟨h, hh, pk_us, ht'⟩
  · rw [pk_un e]
    exact hr p hp
theorem Mn_upd {n : Nat} {op cn ht : Nat → Int32} {t h : Nat} (hm : Mn n op cn ht) (hf : ∀ h' : Nat → Int32, Cl n op cn h' → h' t = nI h) : Mn n op cn (upd ht t (nI h)) := by
  intro h' hc p hp hr
  by_cases e : p = t
  · subst e
    rw [pk_us]
    exact hf h' hc
  · rw [pk_un e] at hr ⊢
    exact hm h' hc p hp hr
theorem Ex_upd {ht : Nat → Int32} {t : Nat} {v : Int32} (h : ht t < 0 ∨ ht t = v) : Ex ht (upd ht t v) := by
  intro p hp hr
  by_cases e : p = t
  · subst e
    rw [pk_us]
    rcases h with h | h
    · exact absurd h hr
    · exact h.symm
  · exact pk_un e
theorem Li_upd {n k : Nat} {ht li : Nat → Int32} {t h : Nat} (hn : n ≤ 24) (hl : Li n k ht li) (ht' : t < n) (hneg : ht t < 0) (hh : h ≤ 8) : Li n (k + 1) (upd ht t (nI h)) (upd li k (nI t)) := by
  obtain ⟨h1, h2, h3⟩ := hl
  have hv : ¬ nI h < 0 := fz_nneg (by omega)
  refine ⟨by rw [cnN_upd hv (by omega) hneg, h1], fun j hj => ?_, fun p hp hr => ?_⟩
  · by_cases e : j = k
    · subst e
      exact ⟨t, ht', pk_us, by rw [pk_us]; exact hv⟩
    · obtain ⟨p, hp, e1, e2⟩ := h2 j (by omega)
      refine ⟨p, hp, by rw [pk_un e]; exact e1, ?_⟩
      by_cases e3 : p = t
      · subst e3; rw [pk_us]; exact hv
      · rw [pk_un e3]; exact e2
  · by_cases e : p = t
    · subst e
      exact ⟨k, Nat.lt_succ_self k, pk_us⟩
    · rw [pk_un e] at hr
      obtain ⟨j, hj, ej⟩ := h3 p hp hr
      exact ⟨j, by omega, by rw [pk_un (Nat.ne_of_lt hj)]; exact ej⟩
theorem Li_room {n k : Nat} {ht li : Nat → Int32} {t : Nat} (hn : n ≤ 24) (hl : Li n k ht li) (ht' : t < n) (hneg : ht t < 0) : k < 24 := by
  rw [hl.1]
  exact cnN_lt (by omega) hneg
/-- all that is reached is closed -/
theorem Cl_of {n : Nat} {op cn ht : Nat → Int32} (hn : n ≤ 24) (h0 : 0 < n) (e0 : ht 0 = 0) (h : ∀ p, p < n → ∀ h : Nat, h ≤ 8 → ht p = nI h → CO n op cn ht p h) : Cl n op cn ht := ⟨h0, e0, h⟩
/-- two least closed ones are the same -/
theorem Cl_uniq {n : Nat} {op cn a b : Nat → Int32} (hn : n ≤ 24) (ra : Rg n a) (rb : Rg n b) (ca : Cl n op cn a) (cb : Cl n op cn b) (ma : Mn n op cn a) (mb : Mn n op cn b) : ∀ p, p < n → a p = b p := by
  intro p hp
  by_cases x : a p < 0
  · by_cases y : b p < 0
    · have e1 : a p = -1 := by
        rcases ra p (by omega) with e | ⟨h, hh, e, -⟩
        · exact e
        · rw [e] at x; exact absurd x (fz_nneg (by omega))
      have e2 : b p = -1 := by
        rcases rb p (by omega) with e | ⟨h, hh, e, -⟩
        · exact e
        · rw [e] at y; exact absurd y (fz_nneg (by omega))
      rw [e1, e2]
    · exact mb a ca p hp y
  · exact (ma b cb p hp x).symm
/-- what a closed map forces at the next places -/
theorem Cl_jump {n : Nat} {op cn ht h' : Nat → Int32} {p h o : Nat} (hm : Mn n op cn ht) (hc : Cl n op cn h') (hp : p < n) (hh : h ≤ 8) (e : ht p = nI h) (ho : o < 15) (eo : op p = nI o) : usN o ≤ h ∧ stD o h ≤ 8 ∧ (8 ≤ o → o ≤ 10 → ∃ t : Nat, t < n ∧ cn p = nI t ∧ h' t = nI (stD o h)) ∧ (o ≠ 8 → o ≠ 13 → p + 1 < n ∧ h' (p + 1) = nI (stD o h)) := by
  have e1 : h' p = nI h := by rw [hm h' hc p hp (by rw [e]; exact fz_nneg (by omega)), e]
  exact hc.2.2 p hp h hh e1 o ho eo
end
section
set_option maxRecDepth 100000
/-! FuelGate: small methods -/
/-- endRun() -/
theorem m0_endRun (q : fz_Q) (o : fz_O) {sz ck gd ls st fu pt dp : Int32} {op cn ht ld bc be li sk ce : Nat → Int32}  : fz_Mv q yX0_endRun cX0_endRun 1 0 [.ref o.1] (wg q o sz ck gd ls st fu pt dp op cn ht ld bc be li sk ce) (fun _ : Unit => True) (fun _ => (wg q o sz 0 gd ls 0 0 pt dp op cn ht ld bc be li sk ce)) := by
  refine fz_ofv (own := RX0) (by decide) rfl rfl (Nat.le_of_ble_eq_true rfl) ?_
  intro x ok hret
  refine fz_aload (pc := 0) ok dX0_endRun_0 rfl ?_
  refine fz_iconst (pc := 1) (v := 0) ok dX0_endRun_1 (by decide) ?_
  refine p0_state (pc := 2) ok dX0_endRun_2 (_) (rfl) ?_
  refine fz_aload (pc := 5) ok dX0_endRun_5 rfl ?_
  refine fz_iconst (pc := 6) (v := 0) ok dX0_endRun_6 (by decide) ?_
  refine p0_fuel (pc := 7) ok dX0_endRun_7 (_) (rfl) ?_
  refine fz_aload (pc := 10) ok dX0_endRun_10 rfl ?_
  refine fz_iconst (pc := 11) (v := 0) ok dX0_endRun_11 (by decide) ?_
  refine p0_checked (pc := 12) ok dX0_endRun_12 (_) (rfl) (Or.inl rfl) ?_
  exact hret () _ _ dX0_endRun_15 trivial
/-- clear() -/
theorem m0_clear (q : fz_Q) (o : fz_O) {sz ck gd ls st fu pt dp : Int32} {op cn ht ld bc be li sk ce : Nat → Int32}  : fz_Mv q yX0_clear cX0_clear 1 1 [.ref o.1] (wg q o sz ck gd ls st fu pt dp op cn ht ld bc be li sk ce) (fun _ : Unit => True) (fun _ => (wg q o 0 0 gd ls 0 0 pt dp op cn ht ld bc be li sk ce)) := by
  refine fz_ofv (own := RX0) (by decide) rfl rfl (Nat.le_of_ble_eq_true rfl) ?_
  intro x ok hret
  refine fz_aload (pc := 0) ok dX0_clear_0 rfl ?_
  refine fz_iconst (pc := 1) (v := 0) ok dX0_clear_1 (by decide) ?_
  refine p0_size (pc := 2) ok dX0_clear_2 (_) (rfl) ?_
  refine fz_aload (pc := 5) ok dX0_clear_5 rfl ?_
  refine k0_endRun (pc := 6) ok (m0_endRun q o) rfl (by decide) (Nat.le_of_ble_eq_true rfl) dX0_clear_6 (fun u hu => ?_)
  exact hret () _ _ dX0_clear_9 trivial
/-- emit(op, c) -/
theorem m0_emit (q : fz_Q) (o : fz_O) {sz ck gd ls st fu pt dp : Int32} {op cn ht ld bc be li sk ce : Nat → Int32} {n : Nat} (hsz : sz = nI n) (hn : n ≤ 24) (v1 v2 : Int32) : fz_Mi q yX0_emit cX0_emit 3 1 .int [.ref o.1, .int v1, .int v2] (wg q o sz ck gd ls st fu pt dp op cn ht ld bc be li sk ce) (fun (r : Int32) (u : Int32 × Int32 × Int32 × Int32 × (Nat → Int32) × (Nat → Int32)) => ((v1 < 0 ∨ 14 < v1) ∧ r = -1 ∧ u = (sz, ck, st, fu, op, cn)) ∨ (∃ c : Nat, c < 15 ∧ v1 = nI c ∧ ((n = 24 ∧ r = -2 ∧ u = (sz, ck, st, fu, op, cn)) ∨ (n < 24 ∧ r = nI n ∧ u = (nI (n + 1), 0, 0, 0, upd op n v1, upd cn n v2))))) (fun u => (wg q o u.1 u.2.1 gd ls u.2.2.1 u.2.2.2.1 pt dp u.2.2.2.2.1 u.2.2.2.2.2 ht ld bc be li sk ce)) := by
  refine fz_ofi (own := RX0) (by decide) rfl rfl (Nat.le_of_ble_eq_true rfl) ?_
  intro x ok hret
  refine fz_iload (pc := 0) ok dX0_emit_0 rfl ?_
  refine fz_if_lt (pc := 1) (tgt := 10) ok dX0_emit_1 (by decide) (fun c1 => ?_) (fun c1 => ?_)
  · refine fz_iconst (pc := 10) (v := (-1)) ok dX0_emit_10 (by decide) ?_
    exact hret (sz, ck, st, fu, op, cn) _ _ _ dX0_emit_11 rfl (Or.inl ⟨Or.inl c1, rfl, rfl⟩)
  · refine fz_iload (pc := 4) ok dX0_emit_4 rfl ?_
    refine fz_bipush (pc := 5) (v := 14) ok dX0_emit_5 (by decide) ?_
    refine fz_icmp_le (pc := 7) (tgt := 12) ok dX0_emit_7 (by decide) (fun c7 => ?_) (fun c7 => ?_)
    · obtain ⟨c, hc, rfl⟩ : ∃ c : Nat, c < 15 ∧ v1 = nI c := by
        rcases fz_ix v1 (n := 15) (by decide) with g | g | g
        · exact absurd g c1
        · exact absurd c7 (fz_lt_nle (Int32.lt_of_lt_of_le (by decide +kernel : (14 : Int32) < nI 15) g))
        · exact g
      refine fz_aload (pc := 12) ok dX0_emit_12 rfl ?_
      refine g0_size (pc := 13) ok dX0_emit_13 ?_
      refine fz_bipush (pc := 16) (v := 24) ok dX0_emit_16 (by decide) ?_
      refine fz_icmp_lt (pc := 18) (tgt := 24) ok dX0_emit_18 (by decide) (fun c18 => ?_) (fun c18 => ?_)
      · have hlt : n < 24 := (nI_ltI (b := 24) (by omega) (by decide)).mp (by rw [hsz] at c18; exact c18)
        refine fz_aload (pc := 24) ok dX0_emit_24 rfl ?_
        refine g0_op (pc := 25) ok dX0_emit_25 ?_
        refine fz_aload (pc := 28) ok dX0_emit_28 rfl ?_
        refine g0_size (pc := 29) ok dX0_emit_29 ?_
        refine fz_iload (pc := 32) ok dX0_emit_32 rfl ?_
        refine s0_op (pc := 33) ok dX0_emit_33 (n) (hsz) (hlt) ?_
        refine fz_aload (pc := 34) ok dX0_emit_34 rfl ?_
        refine g0_con (pc := 35) ok dX0_emit_35 ?_
        refine fz_aload (pc := 38) ok dX0_emit_38 rfl ?_
        refine g0_size (pc := 39) ok dX0_emit_39 ?_
        refine fz_iload (pc := 42) ok dX0_emit_42 rfl ?_
        refine s0_con (pc := 43) ok dX0_emit_43 (n) (hsz) (hlt) ?_
        refine fz_aload (pc := 44) ok dX0_emit_44 rfl ?_
        refine fz_dup (pc := 45) ok dX0_emit_45 rfl ?_
        refine g0_size (pc := 46) ok dX0_emit_46 ?_
        refine fz_iconst (pc := 49) (v := 1) ok dX0_emit_49 (by decide) ?_
        refine fz_iadd (pc := 50) ok dX0_emit_50 ?_
        refine p0_size (pc := 51) ok dX0_emit_51 (nI (n + 1)) (by rw [hsz]; exact fz_a1 n) ?_
        refine fz_aload (pc := 54) ok dX0_emit_54 rfl ?_
        refine k0_endRun (pc := 55) ok (m0_endRun q o) rfl (by decide) (Nat.le_of_ble_eq_true rfl) dX0_emit_55 (fun u hu => ?_)
        refine fz_aload (pc := 58) ok dX0_emit_58 rfl ?_
        refine g0_size (pc := 59) ok dX0_emit_59 ?_
        refine fz_iconst (pc := 62) (v := 1) ok dX0_emit_62 (by decide) ?_
        refine fz_isub (pc := 63) ok dX0_emit_63 ?_
        refine fz_top (show _ = nI n from fz_s1 (Nat.le_add_left 1 n)) ?_
        exact hret (nI (n + 1), 0, 0, 0, upd op n (nI c), upd cn n v2) _ _ _ dX0_emit_64 rfl (Or.inr ⟨c, hc, rfl, Or.inr ⟨hlt, rfl, rfl⟩⟩)
      · have he : n = 24 := by
          have := mt (fun h : n < 24 => (nI_ltI (b := 24) (by omega) (by decide)).mpr h) (by rw [hsz] at c18; exact c18)
          omega
        refine fz_bipush (pc := 21) (v := (-2)) ok dX0_emit_21 (by decide) ?_
        exact hret (sz, ck, st, fu, op, cn) _ _ _ dX0_emit_23 rfl (Or.inr ⟨c, hc, rfl, Or.inl ⟨he, rfl, rfl⟩⟩)
    · refine fz_iconst (pc := 10) (v := (-1)) ok dX0_emit_10 (by decide) ?_
      exact hret (sz, ck, st, fu, op, cn) _ _ _ dX0_emit_11 rfl (Or.inl ⟨Or.inr (fz_nle_lt c7), rfl, rfl⟩)
/-- cell(i, v) -/
theorem m0_cell (q : fz_Q) (o : fz_O) {sz ck gd ls st fu pt dp : Int32} {op cn ht ld bc be li sk ce : Nat → Int32} (v1 v2 : Int32) : fz_Mi q yX0_cell cX0_cell 4 0 .int [.ref o.1, .int v1, .int v2] (wg q o sz ck gd ls st fu pt dp op cn ht ld bc be li sk ce) (fun (r : Int32) (_ : Unit) => r = ce (v1 &&& 3).toNatClampNeg) (fun _ => (wg q o sz ck gd ls st fu pt dp op cn ht ld bc be li sk (upd ce (v1 &&& 3).toNatClampNeg v2))) := by
  refine fz_ofi (own := RX0) (by decide) rfl rfl (Nat.le_of_ble_eq_true rfl) ?_
  intro x ok hret
  refine fz_aload (pc := 0) ok dX0_cell_0 rfl ?_
  refine g0_cells (pc := 1) ok dX0_cell_1 ?_
  refine fz_iload (pc := 4) ok dX0_cell_4 rfl ?_
  refine fz_iconst (pc := 5) (v := 3) ok dX0_cell_5 (by decide) ?_
  refine fz_iand (pc := 6) ok dX0_cell_6 ?_
  refine l0_cells (pc := 7) ok dX0_cell_7 ((v1 &&& 3).toNatClampNeg) ((fz_and3' v1).1) ((fz_and3' v1).2) ?_
  refine fz_istore (pc := 8) (lc' := [_, _, _, _]) ok dX0_cell_8 (by decide) (Nat.le_of_ble_eq_true rfl) rfl ?_
  refine fz_aload (pc := 9) ok dX0_cell_9 rfl ?_
  refine g0_cells (pc := 10) ok dX0_cell_10 ?_
  refine fz_iload (pc := 13) ok dX0_cell_13 rfl ?_
  refine fz_iconst (pc := 14) (v := 3) ok dX0_cell_14 (by decide) ?_
  refine fz_iand (pc := 15) ok dX0_cell_15 ?_
  refine fz_iload (pc := 16) ok dX0_cell_16 rfl ?_
  refine s0_cells (pc := 17) ok dX0_cell_17 ((v1 &&& 3).toNatClampNeg) ((fz_and3' v1).1) ((fz_and3' v1).2) ?_
  refine fz_iload (pc := 18) ok dX0_cell_18 rfl ?_
  exact hret () _ _ _ dX0_cell_19 rfl rfl
/-- get(i) -/
theorem m0_get (q : fz_Q) (o : fz_O) {sz ck gd ls st fu pt dp : Int32} {op cn ht ld bc be li sk ce : Nat → Int32} (v1 : Int32) : fz_Mi q yX0_get cX0_get 2 0 .int [.ref o.1, .int v1] (wg q o sz ck gd ls st fu pt dp op cn ht ld bc be li sk ce) (fun (r : Int32) (_ : Unit) => r = ce (v1 &&& 3).toNatClampNeg) (fun _ => (wg q o sz ck gd ls st fu pt dp op cn ht ld bc be li sk ce)) := by
  refine fz_ofi (own := RX0) (by decide) rfl rfl (Nat.le_of_ble_eq_true rfl) ?_
  intro x ok hret
  refine fz_aload (pc := 0) ok dX0_get_0 rfl ?_
  refine g0_cells (pc := 1) ok dX0_get_1 ?_
  refine fz_iload (pc := 4) ok dX0_get_4 rfl ?_
  refine fz_iconst (pc := 5) (v := 3) ok dX0_get_5 (by decide) ?_
  refine fz_iand (pc := 6) ok dX0_get_6 ?_
  refine l0_cells (pc := 7) ok dX0_get_7 ((v1 &&& 3).toNatClampNeg) ((fz_and3' v1).1) ((fz_and3' v1).2) ?_
  exact hret () _ _ _ dX0_get_8 rfl rfl
theorem m0_state (q : fz_Q) (o : fz_O) {sz ck gd ls st fu pt dp : Int32} {op cn ht ld bc be li sk ce : Nat → Int32}  : fz_Mi q yX0_state cX0_state 1 0 .int [.ref o.1] (wg q o sz ck gd ls st fu pt dp op cn ht ld bc be li sk ce) (fun (r : Int32) (_ : Unit) => r = st) (fun _ => (wg q o sz ck gd ls st fu pt dp op cn ht ld bc be li sk ce)) := by
  refine fz_ofi (own := RX0) (by decide) rfl rfl (Nat.le_of_ble_eq_true rfl) ?_
  intro x ok hret
  refine fz_aload (pc := 0) ok dX0_state_0 rfl ?_
  refine g0_state (pc := 1) ok dX0_state_1 ?_
  exact hret () _ _ _ dX0_state_4 rfl rfl
theorem m0_fuel (q : fz_Q) (o : fz_O) {sz ck gd ls st fu pt dp : Int32} {op cn ht ld bc be li sk ce : Nat → Int32}  : fz_Mi q yX0_fuel cX0_fuel 1 0 .int [.ref o.1] (wg q o sz ck gd ls st fu pt dp op cn ht ld bc be li sk ce) (fun (r : Int32) (_ : Unit) => r = fu) (fun _ => (wg q o sz ck gd ls st fu pt dp op cn ht ld bc be li sk ce)) := by
  refine fz_ofi (own := RX0) (by decide) rfl rfl (Nat.le_of_ble_eq_true rfl) ?_
  intro x ok hret
  refine fz_aload (pc := 0) ok dX0_fuel_0 rfl ?_
  refine g0_fuel (pc := 1) ok dX0_fuel_1 ?_
  exact hret () _ _ _ dX0_fuel_4 rfl rfl
theorem m0_place (q : fz_Q) (o : fz_O) {sz ck gd ls st fu pt dp : Int32} {op cn ht ld bc be li sk ce : Nat → Int32}  : fz_Mi q yX0_place cX0_place 1 0 .int [.ref o.1] (wg q o sz ck gd ls st fu pt dp op cn ht ld bc be li sk ce) (fun (r : Int32) (_ : Unit) => r = if st = 0 then -4 else pt) (fun _ => (wg q o sz ck gd ls st fu pt dp op cn ht ld bc be li sk ce)) := by
  refine fz_ofi (own := RX0) (by decide) rfl rfl (Nat.le_of_ble_eq_true rfl) ?_
  intro x ok hret
  refine fz_aload (pc := 0) ok dX0_place_0 rfl ?_
  refine g0_state (pc := 1) ok dX0_place_1 ?_
  refine fz_if_ne (pc := 4) (tgt := 12) ok dX0_place_4 (by decide) (fun c4 => ?_) (fun c4 => ?_)
  · refine fz_aload (pc := 12) ok dX0_place_12 rfl ?_
    refine g0_at (pc := 13) ok dX0_place_13 ?_
    exact hret () _ _ _ dX0_place_16 rfl (if_neg c4).symm
  · refine fz_bipush (pc := 7) (v := (-4)) ok dX0_place_7 (by decide) ?_
    refine fz_goto (pc := 9) (tgt := 16) ok dX0_place_9 (by decide) ?_
    exact hret () _ _ _ dX0_place_16 rfl (if_pos c4).symm
theorem m0_depth (q : fz_Q) (o : fz_O) {sz ck gd ls st fu pt dp : Int32} {op cn ht ld bc be li sk ce : Nat → Int32}  : fz_Mi q yX0_depth cX0_depth 1 0 .int [.ref o.1] (wg q o sz ck gd ls st fu pt dp op cn ht ld bc be li sk ce) (fun (r : Int32) (_ : Unit) => r = if st = 0 then 0 else dp) (fun _ => (wg q o sz ck gd ls st fu pt dp op cn ht ld bc be li sk ce)) := by
  refine fz_ofi (own := RX0) (by decide) rfl rfl (Nat.le_of_ble_eq_true rfl) ?_
  intro x ok hret
  refine fz_aload (pc := 0) ok dX0_depth_0 rfl ?_
  refine g0_state (pc := 1) ok dX0_depth_1 ?_
  refine fz_if_ne (pc := 4) (tgt := 11) ok dX0_depth_4 (by decide) (fun c4 => ?_) (fun c4 => ?_)
  · refine fz_aload (pc := 11) ok dX0_depth_11 rfl ?_
    refine g0_depth (pc := 12) ok dX0_depth_12 ?_
    exact hret () _ _ _ dX0_depth_15 rfl (if_neg c4).symm
  · refine fz_iconst (pc := 7) (v := 0) ok dX0_depth_7 (by decide) ?_
    refine fz_goto (pc := 8) (tgt := 15) ok dX0_depth_8 (by decide) ?_
    exact hret () _ _ _ dX0_depth_15 rfl (if_pos c4).symm
def topF (d : Nat) (sk : Nat → Int32) (i : Int32) : Int32 := if i < 0 ∨ nI d ≤ i then 0 else sk (d - 1 - i.toNatClampNeg)
theorem topF_out {d : Nat} {sk : Nat → Int32} {i : Int32} (h : i < 0 ∨ nI d ≤ i) : topF d sk i = 0 := if_pos h
theorem topF_in {d : Nat} {sk : Nat → Int32} {i : Int32} (h1 : ¬ i < 0) (h2 : i < nI d) (hd : d < 2 ^ 31) : ∃ j : Nat, j < d ∧ i = nI j ∧ topF d sk i = sk (d - 1 - j) := by
  rcases fz_ix i hd with g | g | ⟨j, hj, e⟩
  · exact absurd g h1
  · exact absurd h2 (fz_le_nlt g)
  · refine ⟨j, hj, e, ?_⟩
    unfold topF
    rw [if_neg (fun h => h.elim h1 (fz_lt_nle h2)), e, nI_clamp (by omega)]
/-- top(i) -/
theorem m0_top (q : fz_Q) (o : fz_O) {sz ck gd ls st fu pt dp : Int32} {op cn ht ld bc be li sk ce : Nat → Int32} {d : Nat} (hd : ¬ st = 0 → dp = nI d) (h8 : ¬ st = 0 → d ≤ 8) (v1 : Int32) : fz_Mi q yX0_top cX0_top 2 0 .int [.ref o.1, .int v1] (wg q o sz ck gd ls st fu pt dp op cn ht ld bc be li sk ce) (fun (r : Int32) (_ : Unit) => r = (if st = 0 then 0 else topF d sk v1)) (fun _ => (wg q o sz ck gd ls st fu pt dp op cn ht ld bc be li sk ce)) := by
  refine fz_ofi (own := RX0) (by decide) rfl rfl (Nat.le_of_ble_eq_true rfl) ?_
  intro x ok hret
  refine fz_aload (pc := 0) ok dX0_top_0 rfl ?_
  refine g0_state (pc := 1) ok dX0_top_1 ?_
  refine fz_if_eq (pc := 4) (tgt := 19) ok dX0_top_4 (by decide) (fun c4 => ?_) (fun c4 => ?_)
  · refine fz_iconst (pc := 19) (v := 0) ok dX0_top_19 (by decide) ?_
    exact hret () _ _ _ dX0_top_20 rfl (if_pos c4).symm
  · refine fz_iload (pc := 7) ok dX0_top_7 rfl ?_
    refine fz_if_lt (pc := 8) (tgt := 19) ok dX0_top_8 (by decide) (fun c8 => ?_) (fun c8 => ?_)
    · refine fz_iconst (pc := 19) (v := 0) ok dX0_top_19 (by decide) ?_
      exact hret () _ _ _ dX0_top_20 rfl (by rw [if_neg c4]; exact (topF_out (Or.inl c8)).symm)
    · refine fz_iload (pc := 11) ok dX0_top_11 rfl ?_
      refine fz_aload (pc := 12) ok dX0_top_12 rfl ?_
      refine g0_depth (pc := 13) ok dX0_top_13 ?_
      refine fz_icmp_lt (pc := 16) (tgt := 21) ok dX0_top_16 (by decide) (fun c16 => ?_) (fun c16 => ?_)
      · have hx := topF_in (sk := sk) c8 (by rw [hd c4] at c16; exact c16) (by have := h8 c4; omega)
        obtain ⟨j, hj, ej, et⟩ := hx
        refine fz_aload (pc := 21) ok dX0_top_21 rfl ?_
        refine g0_stack (pc := 22) ok dX0_top_22 ?_
        refine fz_aload (pc := 25) ok dX0_top_25 rfl ?_
        refine g0_depth (pc := 26) ok dX0_top_26 ?_
        refine fz_iconst (pc := 29) (v := 1) ok dX0_top_29 (by decide) ?_
        refine fz_isub (pc := 30) ok dX0_top_30 ?_
        refine fz_iload (pc := 31) ok dX0_top_31 rfl ?_
        refine fz_isub (pc := 32) ok dX0_top_32 ?_
        refine l0_stack (pc := 33) ok dX0_top_33 (d - 1 - j) (by rw [hd c4, ej, fz_s1 (by omega)]; exact pk_sub (by omega)) (by have := h8 c4; omega) ?_
        exact hret () _ _ _ dX0_top_34 rfl (by rw [if_neg c4]; exact et.symm)
      · refine fz_iconst (pc := 19) (v := 0) ok dX0_top_19 (by decide) ?_
        exact hret () _ _ _ dX0_top_20 rfl (by rw [if_neg c4]; exact (topF_out (Or.inr (fz_nlt_le (by rw [hd c4] at c16; exact c16)))).symm)
end
section
set_option maxRecDepth 100000
/-! FuelGate: what instructions do -/
/-- uses(o) -/
theorem m0_uses (q : fz_Q) {c : Nat} (hc : c < 15) : fz_Mi q yX0_uses cX0_uses 1 0 .int [.int (nI c)] [] (fun (r : Int32) (_ : Unit) => r = nI (usN c)) (fun _ => []) := by
  refine fz_ofi (own := RX0) (by decide) rfl rfl (Nat.le_of_ble_eq_true rfl) ?_
  intro x ok hret
  refine fz_iload (pc := 0) ok dX0_uses_0 rfl ?_
  rcases fz_15 hc with rfl | rfl | rfl | rfl | rfl | rfl | rfl | rfl | rfl | rfl | rfl | rfl | rfl | rfl | rfl
  · refine fz_tabOut (pc := 1) (tgt := 68) ok dX0_uses_1 (by decide +kernel) (by decide) ?_
    refine fz_iconst (pc := 68) (v := 0) ok dX0_uses_68 (by decide) ?_
    exact hret () _ _ _ dX0_uses_69 rfl rfl
  · refine fz_tabIn (pc := 1) (off := 63) (tgt := 64) ok dX0_uses_1 (by decide +kernel) (by decide +kernel) (by decide +kernel) (by decide) ?_
    refine fz_iconst (pc := 64) (v := 1) ok dX0_uses_64 (by decide) ?_
    exact hret () _ _ _ dX0_uses_65 rfl rfl
  · refine fz_tabIn (pc := 1) (off := 63) (tgt := 64) ok dX0_uses_1 (by decide +kernel) (by decide +kernel) (by decide +kernel) (by decide) ?_
    refine fz_iconst (pc := 64) (v := 1) ok dX0_uses_64 (by decide) ?_
    exact hret () _ _ _ dX0_uses_65 rfl rfl
  · refine fz_tabIn (pc := 1) (off := 65) (tgt := 66) ok dX0_uses_1 (by decide +kernel) (by decide +kernel) (by decide +kernel) (by decide) ?_
    refine fz_iconst (pc := 66) (v := 2) ok dX0_uses_66 (by decide) ?_
    exact hret () _ _ _ dX0_uses_67 rfl rfl
  · refine fz_tabIn (pc := 1) (off := 65) (tgt := 66) ok dX0_uses_1 (by decide +kernel) (by decide +kernel) (by decide +kernel) (by decide) ?_
    refine fz_iconst (pc := 66) (v := 2) ok dX0_uses_66 (by decide) ?_
    exact hret () _ _ _ dX0_uses_67 rfl rfl
  · refine fz_tabIn (pc := 1) (off := 65) (tgt := 66) ok dX0_uses_1 (by decide +kernel) (by decide +kernel) (by decide +kernel) (by decide) ?_
    refine fz_iconst (pc := 66) (v := 2) ok dX0_uses_66 (by decide) ?_
    exact hret () _ _ _ dX0_uses_67 rfl rfl
  · refine fz_tabIn (pc := 1) (off := 65) (tgt := 66) ok dX0_uses_1 (by decide +kernel) (by decide +kernel) (by decide +kernel) (by decide) ?_
    refine fz_iconst (pc := 66) (v := 2) ok dX0_uses_66 (by decide) ?_
    exact hret () _ _ _ dX0_uses_67 rfl rfl
  · refine fz_tabIn (pc := 1) (off := 65) (tgt := 66) ok dX0_uses_1 (by decide +kernel) (by decide +kernel) (by decide +kernel) (by decide) ?_
    refine fz_iconst (pc := 66) (v := 2) ok dX0_uses_66 (by decide) ?_
    exact hret () _ _ _ dX0_uses_67 rfl rfl
  · refine fz_tabIn (pc := 1) (off := 67) (tgt := 68) ok dX0_uses_1 (by decide +kernel) (by decide +kernel) (by decide +kernel) (by decide) ?_
    refine fz_iconst (pc := 68) (v := 0) ok dX0_uses_68 (by decide) ?_
    exact hret () _ _ _ dX0_uses_69 rfl rfl
  · refine fz_tabIn (pc := 1) (off := 63) (tgt := 64) ok dX0_uses_1 (by decide +kernel) (by decide +kernel) (by decide +kernel) (by decide) ?_
    refine fz_iconst (pc := 64) (v := 1) ok dX0_uses_64 (by decide) ?_
    exact hret () _ _ _ dX0_uses_65 rfl rfl
  · refine fz_tabIn (pc := 1) (off := 63) (tgt := 64) ok dX0_uses_1 (by decide +kernel) (by decide +kernel) (by decide +kernel) (by decide) ?_
    refine fz_iconst (pc := 64) (v := 1) ok dX0_uses_64 (by decide) ?_
    exact hret () _ _ _ dX0_uses_65 rfl rfl
  · refine fz_tabIn (pc := 1) (off := 67) (tgt := 68) ok dX0_uses_1 (by decide +kernel) (by decide +kernel) (by decide +kernel) (by decide) ?_
    refine fz_iconst (pc := 68) (v := 0) ok dX0_uses_68 (by decide) ?_
    exact hret () _ _ _ dX0_uses_69 rfl rfl
  · refine fz_tabIn (pc := 1) (off := 63) (tgt := 64) ok dX0_uses_1 (by decide +kernel) (by decide +kernel) (by decide +kernel) (by decide) ?_
    refine fz_iconst (pc := 64) (v := 1) ok dX0_uses_64 (by decide) ?_
    exact hret () _ _ _ dX0_uses_65 rfl rfl
  · refine fz_tabOut (pc := 1) (tgt := 68) ok dX0_uses_1 (by decide +kernel) (by decide) ?_
    refine fz_iconst (pc := 68) (v := 0) ok dX0_uses_68 (by decide) ?_
    exact hret () _ _ _ dX0_uses_69 rfl rfl
  · refine fz_tabOut (pc := 1) (tgt := 68) ok dX0_uses_1 (by decide +kernel) (by decide) ?_
    refine fz_iconst (pc := 68) (v := 0) ok dX0_uses_68 (by decide) ?_
    exact hret () _ _ _ dX0_uses_69 rfl rfl
/-- growth(o) -/
theorem m0_growth (q : fz_Q) {c : Nat} (hc : c < 15) : fz_Mi q yX0_growth cX0_growth 1 0 .int [.int (nI c)] [] (fun (r : Int32) (_ : Unit) => r = grI c) (fun _ => []) := by
  refine fz_ofi (own := RX0) (by decide) rfl rfl (Nat.le_of_ble_eq_true rfl) ?_
  intro x ok hret
  refine fz_iload (pc := 0) ok dX0_growth_0 rfl ?_
  rcases fz_15 hc with rfl | rfl | rfl | rfl | rfl | rfl | rfl | rfl | rfl | rfl | rfl | rfl | rfl | rfl | rfl
  · refine fz_tabIn (pc := 1) (off := 67) (tgt := 68) ok dX0_growth_1 (by decide +kernel) (by decide +kernel) (by decide +kernel) (by decide) ?_
    refine fz_iconst (pc := 68) (v := 1) ok dX0_growth_68 (by decide) ?_
    exact hret () _ _ _ dX0_growth_69 rfl rfl
  · refine fz_tabIn (pc := 1) (off := 69) (tgt := 70) ok dX0_growth_1 (by decide +kernel) (by decide +kernel) (by decide +kernel) (by decide) ?_
    refine fz_iconst (pc := 70) (v := (-1)) ok dX0_growth_70 (by decide) ?_
    exact hret () _ _ _ dX0_growth_71 rfl rfl
  · refine fz_tabIn (pc := 1) (off := 67) (tgt := 68) ok dX0_growth_1 (by decide +kernel) (by decide +kernel) (by decide +kernel) (by decide) ?_
    refine fz_iconst (pc := 68) (v := 1) ok dX0_growth_68 (by decide) ?_
    exact hret () _ _ _ dX0_growth_69 rfl rfl
  · refine fz_tabIn (pc := 1) (off := 69) (tgt := 70) ok dX0_growth_1 (by decide +kernel) (by decide +kernel) (by decide +kernel) (by decide) ?_
    refine fz_iconst (pc := 70) (v := (-1)) ok dX0_growth_70 (by decide) ?_
    exact hret () _ _ _ dX0_growth_71 rfl rfl
  · refine fz_tabIn (pc := 1) (off := 69) (tgt := 70) ok dX0_growth_1 (by decide +kernel) (by decide +kernel) (by decide +kernel) (by decide) ?_
    refine fz_iconst (pc := 70) (v := (-1)) ok dX0_growth_70 (by decide) ?_
    exact hret () _ _ _ dX0_growth_71 rfl rfl
  · refine fz_tabIn (pc := 1) (off := 69) (tgt := 70) ok dX0_growth_1 (by decide +kernel) (by decide +kernel) (by decide +kernel) (by decide) ?_
    refine fz_iconst (pc := 70) (v := (-1)) ok dX0_growth_70 (by decide) ?_
    exact hret () _ _ _ dX0_growth_71 rfl rfl
  · refine fz_tabIn (pc := 1) (off := 71) (tgt := 72) ok dX0_growth_1 (by decide +kernel) (by decide +kernel) (by decide +kernel) (by decide) ?_
    refine fz_iconst (pc := 72) (v := 0) ok dX0_growth_72 (by decide) ?_
    exact hret () _ _ _ dX0_growth_73 rfl rfl
  · refine fz_tabIn (pc := 1) (off := 67) (tgt := 68) ok dX0_growth_1 (by decide +kernel) (by decide +kernel) (by decide +kernel) (by decide) ?_
    refine fz_iconst (pc := 68) (v := 1) ok dX0_growth_68 (by decide) ?_
    exact hret () _ _ _ dX0_growth_69 rfl rfl
  · refine fz_tabIn (pc := 1) (off := 71) (tgt := 72) ok dX0_growth_1 (by decide +kernel) (by decide +kernel) (by decide +kernel) (by decide) ?_
    refine fz_iconst (pc := 72) (v := 0) ok dX0_growth_72 (by decide) ?_
    exact hret () _ _ _ dX0_growth_73 rfl rfl
  · refine fz_tabIn (pc := 1) (off := 69) (tgt := 70) ok dX0_growth_1 (by decide +kernel) (by decide +kernel) (by decide +kernel) (by decide) ?_
    refine fz_iconst (pc := 70) (v := (-1)) ok dX0_growth_70 (by decide) ?_
    exact hret () _ _ _ dX0_growth_71 rfl rfl
  · refine fz_tabIn (pc := 1) (off := 69) (tgt := 70) ok dX0_growth_1 (by decide +kernel) (by decide +kernel) (by decide +kernel) (by decide) ?_
    refine fz_iconst (pc := 70) (v := (-1)) ok dX0_growth_70 (by decide) ?_
    exact hret () _ _ _ dX0_growth_71 rfl rfl
  · refine fz_tabIn (pc := 1) (off := 67) (tgt := 68) ok dX0_growth_1 (by decide +kernel) (by decide +kernel) (by decide +kernel) (by decide) ?_
    refine fz_iconst (pc := 68) (v := 1) ok dX0_growth_68 (by decide) ?_
    exact hret () _ _ _ dX0_growth_69 rfl rfl
  · refine fz_tabIn (pc := 1) (off := 69) (tgt := 70) ok dX0_growth_1 (by decide +kernel) (by decide +kernel) (by decide +kernel) (by decide) ?_
    refine fz_iconst (pc := 70) (v := (-1)) ok dX0_growth_70 (by decide) ?_
    exact hret () _ _ _ dX0_growth_71 rfl rfl
  · refine fz_tabOut (pc := 1) (tgt := 72) ok dX0_growth_1 (by decide +kernel) (by decide) ?_
    refine fz_iconst (pc := 72) (v := 0) ok dX0_growth_72 (by decide) ?_
    exact hret () _ _ _ dX0_growth_73 rfl rfl
  · refine fz_tabOut (pc := 1) (tgt := 72) ok dX0_growth_1 (by decide +kernel) (by decide) ?_
    refine fz_iconst (pc := 72) (v := 0) ok dX0_growth_72 (by decide) ?_
    exact hret () _ _ _ dX0_growth_73 rfl rfl
def jmI (c : Nat) : Int32 := if 8 ≤ c ∧ c ≤ 10 then 1 else 0
theorem jmI_pos {c : Nat} (h1 : 8 ≤ c) (h2 : c ≤ 10) : jmI c = 1 := if_pos ⟨h1, h2⟩
theorem jmI_neg {c : Nat} (h : c < 8 ∨ 10 < c) : jmI c = 0 := if_neg (fun ⟨a, b⟩ => by omega)
/-- jumps(o) -/
theorem m0_jumps (q : fz_Q) {c : Nat} (hc : c < 15) : fz_Mi q yX0_jumps cX0_jumps 1 0 .boolean [.int (nI c)] [] (fun (r : Int32) (_ : Unit) => r = jmI c) (fun _ => []) := by
  refine fz_ofi (own := RX0) (by decide) rfl rfl (Nat.le_of_ble_eq_true rfl) ?_
  intro x ok hret
  refine fz_iload (pc := 0) ok dX0_jumps_0 rfl ?_
  refine fz_bipush (pc := 1) (v := 8) ok dX0_jumps_1 (by decide) ?_
  refine fz_icmp_lt (pc := 3) (tgt := 16) ok dX0_jumps_3 (by decide) (fun c3 => ?_) (fun c3 => ?_)
  · refine fz_iconst (pc := 16) (v := 0) ok dX0_jumps_16 (by decide) ?_
    exact hret () _ _ _ dX0_jumps_17 rfl (jmI_neg (Or.inl ((nI_ltI (b := 8) (by omega) (by decide)).mp c3))).symm
  · have h8 : 8 ≤ c := Nat.not_lt.mp (fun h => c3 ((nI_ltI (b := 8) (by omega) (by decide)).mpr h))
    refine fz_iload (pc := 6) ok dX0_jumps_6 rfl ?_
    refine fz_bipush (pc := 7) (v := 10) ok dX0_jumps_7 (by decide) ?_
    refine fz_icmp_gt (pc := 9) (tgt := 16) ok dX0_jumps_9 (by decide) (fun c9 => ?_) (fun c9 => ?_)
    · refine fz_iconst (pc := 16) (v := 0) ok dX0_jumps_16 (by decide) ?_
      exact hret () _ _ _ dX0_jumps_17 rfl (jmI_neg (Or.inr ((nI_ltI (a := 10) (by decide) (by omega)).mp c9))).symm
    · have h10 : c ≤ 10 := Nat.not_lt.mp (fun h => c9 ((nI_ltI (a := 10) (by decide) (by omega)).mpr h))
      refine fz_iconst (pc := 12) (v := 1) ok dX0_jumps_12 (by decide) ?_
      refine fz_goto (pc := 13) (tgt := 17) ok dX0_jumps_13 (by decide) ?_
      exact hret () _ _ _ dX0_jumps_17 rfl (jmI_pos h8 h10).symm
def clF (v : Int32) : Nat := if v < 0 then 0 else if v ≤ 2000 then v.toNatClampNeg else 2000
theorem clF_le (v : Int32) : clF v ≤ 2000 := by
  unfold clF
  split
  · omega
  · split
    · next h1 h2 =>
      obtain ⟨j, hj, e⟩ := nI_of2 (M := 2000) (n := 2000) (by decide +kernel) h1 h2
      rw [e, nI_clamp (by omega)]
      exact hj
    · omega
theorem clF_neg {v : Int32} (h : v < 0) : nI (clF v) = 0 := by
  unfold clF
  rw [if_pos h]
  exact nI_0
theorem clF_big {v : Int32} (h : ¬ v < 0) (h2 : ¬ v ≤ 2000) : nI (clF v) = 2000 := by
  unfold clF
  rw [if_neg h, if_neg h2]
  rfl
theorem clF_mid {v : Int32} (h : ¬ v < 0) (h2 : v ≤ 2000) : nI (clF v) = v := by
  obtain ⟨j, hj, e⟩ := nI_of2 (M := 2000) (n := 2000) (by decide +kernel) h h2
  unfold clF
  rw [if_neg h, if_pos h2, e, nI_clamp (by omega)]
/-- clampFuel(f) -/
theorem m0_clampFuel (q : fz_Q) (v1 : Int32) : fz_Mi q yX0_clampFuel cX0_clampFuel 1 0 .int [.int v1] [] (fun (r : Int32) (_ : Unit) => r = nI (clF v1)) (fun _ => []) := by
  refine fz_ofi (own := RX0) (by decide) rfl rfl (Nat.le_of_ble_eq_true rfl) ?_
  intro x ok hret
  refine fz_iload (pc := 0) ok dX0_clampFuel_0 rfl ?_
  refine fz_if_ge (pc := 1) (tgt := 6) ok dX0_clampFuel_1 (by decide) (fun c1 => ?_) (fun c1 => ?_)
  · have h0 : ¬ v1 < 0 := fz_le_nlt c1
    refine fz_iload (pc := 6) ok dX0_clampFuel_6 rfl ?_
    refine fz_sipush (pc := 7) (v := 2000) ok dX0_clampFuel_7 (by decide) ?_
    refine fz_icmp_le (pc := 10) (tgt := 19) ok dX0_clampFuel_10 (by decide) (fun c10 => ?_) (fun c10 => ?_)
    · refine fz_iload (pc := 19) ok dX0_clampFuel_19 rfl ?_
      exact hret () _ _ _ dX0_clampFuel_20 rfl (clF_mid h0 c10).symm
    · refine fz_sipush (pc := 13) (v := 2000) ok dX0_clampFuel_13 (by decide) ?_
      refine fz_goto (pc := 16) (tgt := 20) ok dX0_clampFuel_16 (by decide) ?_
      exact hret () _ _ _ dX0_clampFuel_20 rfl (clF_big h0 c10).symm
  · refine fz_iconst (pc := 4) (v := 0) ok dX0_clampFuel_4 (by decide) ?_
    exact hret () _ _ _ dX0_clampFuel_5 rfl (clF_neg (fz_nle_lt c1)).symm
theorem csN_14 {op cn : Nat → Int32} {p : Nat} (h : op p = 14) : nI (cst op cn p) = (cn p &&& 15) + 1 := by
  have h : op p = nI 14 := h
  rw [cst_eq h (by decide)]
  show nI ((cn p &&& 15).toNatClampNeg + 1) = _
  rw [← fz_a1, ← (fz_and15' (cn p)).1]
theorem csN_5 {op cn : Nat → Int32} {p : Nat} (h : op p = 5) : nI (cst op cn p) = 3 := by
  have h : op p = nI 5 := h
  rw [cst_eq h (by decide)]
  rfl
theorem csN_1 {op cn : Nat → Int32} {p o : Nat} (h : op p = nI o) (ho : o < 15) (h5 : ¬ op p = 5) (h14 : ¬ op p = 14) : nI (cst op cn p) = 1 := by
  rw [cst_eq h ho]
  have a : o ≠ 5 := fun e => h5 (by rw [h, e]; rfl)
  have b : o ≠ 14 := fun e => h14 (by rw [h, e]; rfl)
  unfold csN
  split
  · omega
  · omega
  · rfl
/-- costOf(p) -/
theorem m0_costOf (q : fz_Q) (o : fz_O) {sz ck gd ls st fu pt dp : Int32} {op cn ht ld bc be li sk ce : Nat → Int32} {p c : Nat} (hp : p < 24) (eo : op p = nI c) (ho : c < 15) : fz_Mi q yX0_costOf cX0_costOf 2 0 .int [.ref o.1, .int (nI p)] (wg q o sz ck gd ls st fu pt dp op cn ht ld bc be li sk ce) (fun (r : Int32) (_ : Unit) => r = nI (cst op cn p)) (fun _ => (wg q o sz ck gd ls st fu pt dp op cn ht ld bc be li sk ce)) := by
  refine fz_ofi (own := RX0) (by decide) rfl rfl (Nat.le_of_ble_eq_true rfl) ?_
  intro x ok hret
  refine fz_aload (pc := 0) ok dX0_costOf_0 rfl ?_
  refine g0_op (pc := 1) ok dX0_costOf_1 ?_
  refine fz_iload (pc := 4) ok dX0_costOf_4 rfl ?_
  refine l0_op (pc := 5) ok dX0_costOf_5 (p) (rfl) (hp) ?_
  refine fz_iconst (pc := 6) (v := 5) ok dX0_costOf_6 (by decide) ?_
  refine fz_icmp_ne (pc := 7) (tgt := 12) ok dX0_costOf_7 (by decide) (fun c7 => ?_) (fun c7 => ?_)
  · refine fz_aload (pc := 12) ok dX0_costOf_12 rfl ?_
    refine g0_op (pc := 13) ok dX0_costOf_13 ?_
    refine fz_iload (pc := 16) ok dX0_costOf_16 rfl ?_
    refine l0_op (pc := 17) ok dX0_costOf_17 (p) (rfl) (hp) ?_
    refine fz_bipush (pc := 18) (v := 14) ok dX0_costOf_18 (by decide) ?_
    refine fz_icmp_ne (pc := 20) (tgt := 37) ok dX0_costOf_20 (by decide) (fun c20 => ?_) (fun c20 => ?_)
    · refine fz_iconst (pc := 37) (v := 1) ok dX0_costOf_37 (by decide) ?_
      exact hret () _ _ _ dX0_costOf_38 rfl (csN_1 eo ho c7 c20).symm
    · refine fz_aload (pc := 23) ok dX0_costOf_23 rfl ?_
      refine g0_con (pc := 24) ok dX0_costOf_24 ?_
      refine fz_iload (pc := 27) ok dX0_costOf_27 rfl ?_
      refine l0_con (pc := 28) ok dX0_costOf_28 (p) (rfl) (hp) ?_
      refine fz_bipush (pc := 29) (v := 15) ok dX0_costOf_29 (by decide) ?_
      refine fz_iand (pc := 31) ok dX0_costOf_31 ?_
      refine fz_iconst (pc := 32) (v := 1) ok dX0_costOf_32 (by decide) ?_
      refine fz_iadd (pc := 33) ok dX0_costOf_33 ?_
      refine fz_goto (pc := 34) (tgt := 38) ok dX0_costOf_34 (by decide) ?_
      exact hret () _ _ _ dX0_costOf_38 rfl (csN_14 c20).symm
  · refine fz_iconst (pc := 10) (v := 3) ok dX0_costOf_10 (by decide) ?_
    exact hret () _ _ _ dX0_costOf_11 rfl (csN_5 c7).symm
/-- comeTo(p, h) -/
theorem m0_comeTo (q : fz_Q) (o : fz_O) {sz ck gd ls st fu pt dp : Int32} {op cn ht ld bc be li sk ce : Nat → Int32} {n k : Nat} (hsz : sz = nI n) (hn : n ≤ 24) (hls : ls = nI k) (v1 v2 : Int32) (hk : ∀ j, j < n → v1 = nI j → ht j < 0 → k < 24) : fz_Mv q yX0_comeTo cX0_comeTo 3 0 [.ref o.1, .int v1, .int v2] (wg q o sz ck gd ls st fu pt dp op cn ht ld bc be li sk ce) (fun (u : Int32 × Int32 × (Nat → Int32) × (Nat → Int32)) => ((¬ ∃ j : Nat, j < n ∧ v1 = nI j) ∧ u = (0, ls, ht, li)) ∨ ∃ j : Nat, j < n ∧ v1 = nI j ∧ ((ht j < 0 ∧ u = (gd, nI (k + 1), upd ht j v2, upd li k v1)) ∨ (¬ ht j < 0 ∧ ht j ≠ v2 ∧ u = (0, ls, ht, li)) ∨ (¬ ht j < 0 ∧ ht j = v2 ∧ u = (gd, ls, ht, li)))) (fun u => (wg q o sz ck u.1 u.2.1 st fu pt dp op cn u.2.2.1 ld bc be u.2.2.2 sk ce)) := by
  refine fz_ofv (own := RX0) (by decide) rfl rfl (Nat.le_of_ble_eq_true rfl) ?_
  intro x ok hret
  refine fz_iload (pc := 0) ok dX0_comeTo_0 rfl ?_
  refine fz_if_lt (pc := 1) (tgt := 12) ok dX0_comeTo_1 (by decide) (fun c1 => ?_) (fun c1 => ?_)
  · refine fz_aload (pc := 12) ok dX0_comeTo_12 rfl ?_
    refine fz_iconst (pc := 13) (v := 0) ok dX0_comeTo_13 (by decide) ?_
    refine p0_good (pc := 14) ok dX0_comeTo_14 (_) (rfl) (Or.inl rfl) ?_
    exact hret (0, ls, ht, li) _ _ dX0_comeTo_17 (Or.inl ⟨fz_out (by omega) (Or.inl c1), rfl⟩)
  · refine fz_iload (pc := 4) ok dX0_comeTo_4 rfl ?_
    refine fz_aload (pc := 5) ok dX0_comeTo_5 rfl ?_
    refine g0_size (pc := 6) ok dX0_comeTo_6 ?_
    refine fz_icmp_lt (pc := 9) (tgt := 18) ok dX0_comeTo_9 (by decide) (fun c9 => ?_) (fun c9 => ?_)
    · obtain ⟨j, hj, rfl⟩ : ∃ j : Nat, j < n ∧ v1 = nI j := by
        rcases fz_ix v1 (n := n) (by omega) with g | g | g
        · exact absurd g c1
        · exact absurd (by rw [hsz] at c9; exact c9) (fz_le_nlt g)
        · exact g
      refine fz_aload (pc := 18) ok dX0_comeTo_18 rfl ?_
      refine g0_heights (pc := 19) ok dX0_comeTo_19 ?_
      refine fz_iload (pc := 22) ok dX0_comeTo_22 rfl ?_
      refine l0_heights (pc := 23) ok dX0_comeTo_23 (j) (rfl) (by omega) ?_
      refine fz_if_ge (pc := 24) (tgt := 57) ok dX0_comeTo_24 (by decide) (fun c24 => ?_) (fun c24 => ?_)
      · have hnn : ¬ ht j < 0 := fz_le_nlt c24
        refine fz_aload (pc := 57) ok dX0_comeTo_57 rfl ?_
        refine g0_heights (pc := 58) ok dX0_comeTo_58 ?_
        refine fz_iload (pc := 61) ok dX0_comeTo_61 rfl ?_
        refine l0_heights (pc := 62) ok dX0_comeTo_62 (j) (rfl) (by omega) ?_
        refine fz_iload (pc := 63) ok dX0_comeTo_63 rfl ?_
        refine fz_icmp_eq (pc := 64) (tgt := 72) ok dX0_comeTo_64 (by decide) (fun c64 => ?_) (fun c64 => ?_)
        · exact hret (gd, ls, ht, li) _ _ dX0_comeTo_72 (Or.inr ⟨j, hj, rfl, Or.inr (Or.inr ⟨hnn, c64, rfl⟩)⟩)
        · refine fz_aload (pc := 67) ok dX0_comeTo_67 rfl ?_
          refine fz_iconst (pc := 68) (v := 0) ok dX0_comeTo_68 (by decide) ?_
          refine p0_good (pc := 69) ok dX0_comeTo_69 (_) (rfl) (Or.inl rfl) ?_
          exact hret (0, ls, ht, li) _ _ dX0_comeTo_72 (Or.inr ⟨j, hj, rfl, Or.inr (Or.inl ⟨hnn, c64, rfl⟩)⟩)
      · have hneg : ht j < 0 := fz_nle_lt c24
        have hk24 : k < 24 := hk j hj rfl hneg
        refine fz_aload (pc := 27) ok dX0_comeTo_27 rfl ?_
        refine g0_heights (pc := 28) ok dX0_comeTo_28 ?_
        refine fz_iload (pc := 31) ok dX0_comeTo_31 rfl ?_
        refine fz_iload (pc := 32) ok dX0_comeTo_32 rfl ?_
        refine s0_heights (pc := 33) ok dX0_comeTo_33 (j) (rfl) (by omega) ?_
        refine fz_aload (pc := 34) ok dX0_comeTo_34 rfl ?_
        refine g0_list (pc := 35) ok dX0_comeTo_35 ?_
        refine fz_aload (pc := 38) ok dX0_comeTo_38 rfl ?_
        refine g0_listed (pc := 39) ok dX0_comeTo_39 ?_
        refine fz_iload (pc := 42) ok dX0_comeTo_42 rfl ?_
        refine s0_list (pc := 43) ok dX0_comeTo_43 (k) (hls) (hk24) ?_
        refine fz_aload (pc := 44) ok dX0_comeTo_44 rfl ?_
        refine fz_dup (pc := 45) ok dX0_comeTo_45 rfl ?_
        refine g0_listed (pc := 46) ok dX0_comeTo_46 ?_
        refine fz_iconst (pc := 49) (v := 1) ok dX0_comeTo_49 (by decide) ?_
        refine fz_iadd (pc := 50) ok dX0_comeTo_50 ?_
        refine p0_listed (pc := 51) ok dX0_comeTo_51 (nI (k + 1)) (by rw [hls]; exact fz_a1 k) ?_
        refine fz_goto (pc := 54) (tgt := 72) ok dX0_comeTo_54 (by decide) ?_
        exact hret (gd, nI (k + 1), upd ht j v2, upd li k (nI j)) _ _ dX0_comeTo_72 (Or.inr ⟨j, hj, rfl, Or.inl ⟨hneg, rfl⟩⟩)
    · refine fz_aload (pc := 12) ok dX0_comeTo_12 rfl ?_
      refine fz_iconst (pc := 13) (v := 0) ok dX0_comeTo_13 (by decide) ?_
      refine p0_good (pc := 14) ok dX0_comeTo_14 (_) (rfl) (Or.inl rfl) ?_
      exact hret (0, ls, ht, li) _ _ dX0_comeTo_17 (Or.inl ⟨fz_out (by omega) (Or.inr (fz_nlt_le (by rw [hsz] at c9; exact c9))), rfl⟩)
/-- push(v) -/
theorem m0_push (q : fz_Q) (o : fz_O) {sz ck gd ls st fu pt dp : Int32} {op cn ht ld bc be li sk ce : Nat → Int32} {d : Nat} (hdp : dp = nI d) (hd : d < 9) (v1 : Int32) : fz_Mv q yX0_push cX0_push 2 0 [.ref o.1, .int v1] (wg q o sz ck gd ls st fu pt dp op cn ht ld bc be li sk ce) (fun _ : Unit => True) (fun _ => (wg q o sz ck gd ls st fu pt (nI (d + 1)) op cn ht ld bc be li (upd sk d v1) ce)) := by
  refine fz_ofv (own := RX0) (by decide) rfl rfl (Nat.le_of_ble_eq_true rfl) ?_
  intro x ok hret
  refine fz_aload (pc := 0) ok dX0_push_0 rfl ?_
  refine g0_stack (pc := 1) ok dX0_push_1 ?_
  refine fz_aload (pc := 4) ok dX0_push_4 rfl ?_
  refine g0_depth (pc := 5) ok dX0_push_5 ?_
  refine fz_iload (pc := 8) ok dX0_push_8 rfl ?_
  refine s0_stack (pc := 9) ok dX0_push_9 (d) (hdp) (hd) ?_
  refine fz_aload (pc := 10) ok dX0_push_10 rfl ?_
  refine fz_dup (pc := 11) ok dX0_push_11 rfl ?_
  refine g0_depth (pc := 12) ok dX0_push_12 ?_
  refine fz_iconst (pc := 15) (v := 1) ok dX0_push_15 (by decide) ?_
  refine fz_iadd (pc := 16) ok dX0_push_16 ?_
  refine p0_depth (pc := 17) ok dX0_push_17 (nI (d + 1)) (by rw [hdp]; exact fz_a1 d) ?_
  exact hret () _ _ dX0_push_20 trivial
/-- arithmetic(o) -/
theorem m0_arithmetic (q : fz_Q) (o : fz_O) {sz ck gd ls st fu pt dp : Int32} {op cn ht ld bc be li sk ce : Nat → Int32} {d c : Nat} (hdp : dp = nI d) (h2 : 2 ≤ d) (hd : d ≤ 8) (hc : c = 3 ∨ c = 4 ∨ c = 5) (v : Int32) : fz_Mv q yX0_arithmetic cX0_arithmetic 4 0 [.ref o.1, .int (nI c)] (wg q o sz ck gd ls st fu pt dp op cn ht ld bc be li sk ce) (fun _ : Unit => True) (fun _ => (wg q o sz ck gd ls st fu pt (nI (d - 1)) op cn ht ld bc be li (stS c v d sk ce) ce)) := by
  refine fz_ofv (own := RX0) (by decide) rfl rfl (Nat.le_of_ble_eq_true rfl) ?_
  intro x ok hret
  rcases hc with rfl | rfl | rfl
  · refine fz_aload (pc := 0) ok dX0_arithmetic_0 rfl ?_
    refine g0_stack (pc := 1) ok dX0_arithmetic_1 ?_
    refine fz_aload (pc := 4) ok dX0_arithmetic_4 rfl ?_
    refine g0_depth (pc := 5) ok dX0_arithmetic_5 ?_
    refine fz_iconst (pc := 8) (v := 2) ok dX0_arithmetic_8 (by decide) ?_
    refine fz_isub (pc := 9) ok dX0_arithmetic_9 ?_
    refine l0_stack (pc := 10) ok dX0_arithmetic_10 (d - 2) (by rw [hdp]; exact fz_s2 (by omega)) (by omega) ?_
    refine fz_istore (pc := 11) (lc' := [_, _, _]) ok dX0_arithmetic_11 (by decide) (Nat.le_of_ble_eq_true rfl) rfl ?_
    refine fz_aload (pc := 12) ok dX0_arithmetic_12 rfl ?_
    refine g0_stack (pc := 13) ok dX0_arithmetic_13 ?_
    refine fz_aload (pc := 16) ok dX0_arithmetic_16 rfl ?_
    refine g0_depth (pc := 17) ok dX0_arithmetic_17 ?_
    refine fz_iconst (pc := 20) (v := 1) ok dX0_arithmetic_20 (by decide) ?_
    refine fz_isub (pc := 21) ok dX0_arithmetic_21 ?_
    refine l0_stack (pc := 22) ok dX0_arithmetic_22 (d - 1) (by rw [hdp]; exact fz_s1 (by omega)) (by omega) ?_
    refine fz_istore (pc := 23) (lc' := [_, _, _, _]) ok dX0_arithmetic_23 (by decide) (Nat.le_of_ble_eq_true rfl) rfl ?_
    refine fz_aload (pc := 24) ok dX0_arithmetic_24 rfl ?_
    refine fz_dup (pc := 25) ok dX0_arithmetic_25 rfl ?_
    refine g0_depth (pc := 26) ok dX0_arithmetic_26 ?_
    refine fz_iconst (pc := 29) (v := 1) ok dX0_arithmetic_29 (by decide) ?_
    refine fz_isub (pc := 30) ok dX0_arithmetic_30 ?_
    refine p0_depth (pc := 31) ok dX0_arithmetic_31 (nI (d - 1)) (by rw [hdp]; exact fz_s1 (by omega)) ?_
    refine fz_iload (pc := 34) ok dX0_arithmetic_34 rfl ?_
    refine fz_iconst (pc := 35) (v := 3) ok dX0_arithmetic_35 (by decide) ?_
    refine fz_icmp_ne (pc := 36) (tgt := 56) ok dX0_arithmetic_36 (by decide) (fun c36 => ?_) (fun c36 => ?_)
    · exact absurd rfl c36
    · refine fz_aload (pc := 39) ok dX0_arithmetic_39 rfl ?_
      refine g0_stack (pc := 40) ok dX0_arithmetic_40 ?_
      refine fz_aload (pc := 43) ok dX0_arithmetic_43 rfl ?_
      refine g0_depth (pc := 44) ok dX0_arithmetic_44 ?_
      refine fz_iconst (pc := 47) (v := 1) ok dX0_arithmetic_47 (by decide) ?_
      refine fz_isub (pc := 48) ok dX0_arithmetic_48 ?_
      refine fz_iload (pc := 49) ok dX0_arithmetic_49 rfl ?_
      refine fz_iload (pc := 50) ok dX0_arithmetic_50 rfl ?_
      refine fz_iadd (pc := 51) ok dX0_arithmetic_51 ?_
      refine s0_stack (pc := 52) ok dX0_arithmetic_52 (d - 2) (by rw [fz_s1 (by omega), Nat.sub_sub]) (by omega) ?_
      refine fz_goto (pc := 53) (tgt := 92) ok dX0_arithmetic_53 (by decide) ?_
      exact hret () _ _ dX0_arithmetic_92 trivial
  · refine fz_aload (pc := 0) ok dX0_arithmetic_0 rfl ?_
    refine g0_stack (pc := 1) ok dX0_arithmetic_1 ?_
    refine fz_aload (pc := 4) ok dX0_arithmetic_4 rfl ?_
    refine g0_depth (pc := 5) ok dX0_arithmetic_5 ?_
    refine fz_iconst (pc := 8) (v := 2) ok dX0_arithmetic_8 (by decide) ?_
    refine fz_isub (pc := 9) ok dX0_arithmetic_9 ?_
    refine l0_stack (pc := 10) ok dX0_arithmetic_10 (d - 2) (by rw [hdp]; exact fz_s2 (by omega)) (by omega) ?_
    refine fz_istore (pc := 11) (lc' := [_, _, _]) ok dX0_arithmetic_11 (by decide) (Nat.le_of_ble_eq_true rfl) rfl ?_
    refine fz_aload (pc := 12) ok dX0_arithmetic_12 rfl ?_
    refine g0_stack (pc := 13) ok dX0_arithmetic_13 ?_
    refine fz_aload (pc := 16) ok dX0_arithmetic_16 rfl ?_
    refine g0_depth (pc := 17) ok dX0_arithmetic_17 ?_
    refine fz_iconst (pc := 20) (v := 1) ok dX0_arithmetic_20 (by decide) ?_
    refine fz_isub (pc := 21) ok dX0_arithmetic_21 ?_
    refine l0_stack (pc := 22) ok dX0_arithmetic_22 (d - 1) (by rw [hdp]; exact fz_s1 (by omega)) (by omega) ?_
    refine fz_istore (pc := 23) (lc' := [_, _, _, _]) ok dX0_arithmetic_23 (by decide) (Nat.le_of_ble_eq_true rfl) rfl ?_
    refine fz_aload (pc := 24) ok dX0_arithmetic_24 rfl ?_
    refine fz_dup (pc := 25) ok dX0_arithmetic_25 rfl ?_
    refine g0_depth (pc := 26) ok dX0_arithmetic_26 ?_
    refine fz_iconst (pc := 29) (v := 1) ok dX0_arithmetic_29 (by decide) ?_
    refine fz_isub (pc := 30) ok dX0_arithmetic_30 ?_
    refine p0_depth (pc := 31) ok dX0_arithmetic_31 (nI (d - 1)) (by rw [hdp]; exact fz_s1 (by omega)) ?_
    refine fz_iload (pc := 34) ok dX0_arithmetic_34 rfl ?_
    refine fz_iconst (pc := 35) (v := 3) ok dX0_arithmetic_35 (by decide) ?_
    refine fz_icmp_ne (pc := 36) (tgt := 56) ok dX0_arithmetic_36 (by decide) (fun c36 => ?_) (fun c36 => ?_)
    · refine fz_iload (pc := 56) ok dX0_arithmetic_56 rfl ?_
      refine fz_iconst (pc := 57) (v := 4) ok dX0_arithmetic_57 (by decide) ?_
      refine fz_icmp_ne (pc := 58) (tgt := 78) ok dX0_arithmetic_58 (by decide) (fun c58 => ?_) (fun c58 => ?_)
      · exact absurd rfl c58
      · refine fz_aload (pc := 61) ok dX0_arithmetic_61 rfl ?_
        refine g0_stack (pc := 62) ok dX0_arithmetic_62 ?_
        refine fz_aload (pc := 65) ok dX0_arithmetic_65 rfl ?_
        refine g0_depth (pc := 66) ok dX0_arithmetic_66 ?_
        refine fz_iconst (pc := 69) (v := 1) ok dX0_arithmetic_69 (by decide) ?_
        refine fz_isub (pc := 70) ok dX0_arithmetic_70 ?_
        refine fz_iload (pc := 71) ok dX0_arithmetic_71 rfl ?_
        refine fz_iload (pc := 72) ok dX0_arithmetic_72 rfl ?_
        refine fz_isub (pc := 73) ok dX0_arithmetic_73 ?_
        refine s0_stack (pc := 74) ok dX0_arithmetic_74 (d - 2) (by rw [fz_s1 (by omega), Nat.sub_sub]) (by omega) ?_
        refine fz_goto (pc := 75) (tgt := 92) ok dX0_arithmetic_75 (by decide) ?_
        exact hret () _ _ dX0_arithmetic_92 trivial
    · exact absurd c36 (by decide +kernel)
  · refine fz_aload (pc := 0) ok dX0_arithmetic_0 rfl ?_
    refine g0_stack (pc := 1) ok dX0_arithmetic_1 ?_
    refine fz_aload (pc := 4) ok dX0_arithmetic_4 rfl ?_
    refine g0_depth (pc := 5) ok dX0_arithmetic_5 ?_
    refine fz_iconst (pc := 8) (v := 2) ok dX0_arithmetic_8 (by decide) ?_
    refine fz_isub (pc := 9) ok dX0_arithmetic_9 ?_
    refine l0_stack (pc := 10) ok dX0_arithmetic_10 (d - 2) (by rw [hdp]; exact fz_s2 (by omega)) (by omega) ?_
    refine fz_istore (pc := 11) (lc' := [_, _, _]) ok dX0_arithmetic_11 (by decide) (Nat.le_of_ble_eq_true rfl) rfl ?_
    refine fz_aload (pc := 12) ok dX0_arithmetic_12 rfl ?_
    refine g0_stack (pc := 13) ok dX0_arithmetic_13 ?_
    refine fz_aload (pc := 16) ok dX0_arithmetic_16 rfl ?_
    refine g0_depth (pc := 17) ok dX0_arithmetic_17 ?_
    refine fz_iconst (pc := 20) (v := 1) ok dX0_arithmetic_20 (by decide) ?_
    refine fz_isub (pc := 21) ok dX0_arithmetic_21 ?_
    refine l0_stack (pc := 22) ok dX0_arithmetic_22 (d - 1) (by rw [hdp]; exact fz_s1 (by omega)) (by omega) ?_
    refine fz_istore (pc := 23) (lc' := [_, _, _, _]) ok dX0_arithmetic_23 (by decide) (Nat.le_of_ble_eq_true rfl) rfl ?_
    refine fz_aload (pc := 24) ok dX0_arithmetic_24 rfl ?_
    refine fz_dup (pc := 25) ok dX0_arithmetic_25 rfl ?_
    refine g0_depth (pc := 26) ok dX0_arithmetic_26 ?_
    refine fz_iconst (pc := 29) (v := 1) ok dX0_arithmetic_29 (by decide) ?_
    refine fz_isub (pc := 30) ok dX0_arithmetic_30 ?_
    refine p0_depth (pc := 31) ok dX0_arithmetic_31 (nI (d - 1)) (by rw [hdp]; exact fz_s1 (by omega)) ?_
    refine fz_iload (pc := 34) ok dX0_arithmetic_34 rfl ?_
    refine fz_iconst (pc := 35) (v := 3) ok dX0_arithmetic_35 (by decide) ?_
    refine fz_icmp_ne (pc := 36) (tgt := 56) ok dX0_arithmetic_36 (by decide) (fun c36 => ?_) (fun c36 => ?_)
    · refine fz_iload (pc := 56) ok dX0_arithmetic_56 rfl ?_
      refine fz_iconst (pc := 57) (v := 4) ok dX0_arithmetic_57 (by decide) ?_
      refine fz_icmp_ne (pc := 58) (tgt := 78) ok dX0_arithmetic_58 (by decide) (fun c58 => ?_) (fun c58 => ?_)
      · refine fz_aload (pc := 78) ok dX0_arithmetic_78 rfl ?_
        refine g0_stack (pc := 79) ok dX0_arithmetic_79 ?_
        refine fz_aload (pc := 82) ok dX0_arithmetic_82 rfl ?_
        refine g0_depth (pc := 83) ok dX0_arithmetic_83 ?_
        refine fz_iconst (pc := 86) (v := 1) ok dX0_arithmetic_86 (by decide) ?_
        refine fz_isub (pc := 87) ok dX0_arithmetic_87 ?_
        refine fz_iload (pc := 88) ok dX0_arithmetic_88 rfl ?_
        refine fz_iload (pc := 89) ok dX0_arithmetic_89 rfl ?_
        refine fz_imul (pc := 90) ok dX0_arithmetic_90 ?_
        refine s0_stack (pc := 91) ok dX0_arithmetic_91 (d - 2) (by rw [fz_s1 (by omega), Nat.sub_sub]) (by omega) ?_
        exact hret () _ _ dX0_arithmetic_92 trivial
      · exact absurd c58 (by decide +kernel)
    · exact absurd c36 (by decide +kernel)
/-- exchange() -/
theorem m0_exchange (q : fz_Q) (o : fz_O) {sz ck gd ls st fu pt dp : Int32} {op cn ht ld bc be li sk ce : Nat → Int32} {d : Nat} (hdp : dp = nI d) (h2 : 2 ≤ d) (hd : d ≤ 8) (v : Int32) : fz_Mv q yX0_exchange cX0_exchange 2 0 [.ref o.1] (wg q o sz ck gd ls st fu pt dp op cn ht ld bc be li sk ce) (fun _ : Unit => True) (fun _ => (wg q o sz ck gd ls st fu pt dp op cn ht ld bc be li (stS 6 v d sk ce) ce)) := by
  refine fz_ofv (own := RX0) (by decide) rfl rfl (Nat.le_of_ble_eq_true rfl) ?_
  intro x ok hret
  refine fz_aload (pc := 0) ok dX0_exchange_0 rfl ?_
  refine g0_stack (pc := 1) ok dX0_exchange_1 ?_
  refine fz_aload (pc := 4) ok dX0_exchange_4 rfl ?_
  refine g0_depth (pc := 5) ok dX0_exchange_5 ?_
  refine fz_iconst (pc := 8) (v := 1) ok dX0_exchange_8 (by decide) ?_
  refine fz_isub (pc := 9) ok dX0_exchange_9 ?_
  refine l0_stack (pc := 10) ok dX0_exchange_10 (d - 1) (by rw [hdp]; exact fz_s1 (by omega)) (by omega) ?_
  refine fz_istore (pc := 11) (lc' := [_, _]) ok dX0_exchange_11 (by decide) (Nat.le_of_ble_eq_true rfl) rfl ?_
  refine fz_aload (pc := 12) ok dX0_exchange_12 rfl ?_
  refine g0_stack (pc := 13) ok dX0_exchange_13 ?_
  refine fz_aload (pc := 16) ok dX0_exchange_16 rfl ?_
  refine g0_depth (pc := 17) ok dX0_exchange_17 ?_
  refine fz_iconst (pc := 20) (v := 1) ok dX0_exchange_20 (by decide) ?_
  refine fz_isub (pc := 21) ok dX0_exchange_21 ?_
  refine fz_aload (pc := 22) ok dX0_exchange_22 rfl ?_
  refine g0_stack (pc := 23) ok dX0_exchange_23 ?_
  refine fz_aload (pc := 26) ok dX0_exchange_26 rfl ?_
  refine g0_depth (pc := 27) ok dX0_exchange_27 ?_
  refine fz_iconst (pc := 30) (v := 2) ok dX0_exchange_30 (by decide) ?_
  refine fz_isub (pc := 31) ok dX0_exchange_31 ?_
  refine l0_stack (pc := 32) ok dX0_exchange_32 (d - 2) (by rw [hdp]; exact fz_s2 (by omega)) (by omega) ?_
  refine s0_stack (pc := 33) ok dX0_exchange_33 (d - 1) (by rw [hdp]; exact fz_s1 (by omega)) (by omega) ?_
  refine fz_aload (pc := 34) ok dX0_exchange_34 rfl ?_
  refine g0_stack (pc := 35) ok dX0_exchange_35 ?_
  refine fz_aload (pc := 38) ok dX0_exchange_38 rfl ?_
  refine g0_depth (pc := 39) ok dX0_exchange_39 ?_
  refine fz_iconst (pc := 42) (v := 2) ok dX0_exchange_42 (by decide) ?_
  refine fz_isub (pc := 43) ok dX0_exchange_43 ?_
  refine fz_iload (pc := 44) ok dX0_exchange_44 rfl ?_
  refine s0_stack (pc := 45) ok dX0_exchange_45 (d - 2) (by rw [hdp]; exact fz_s2 (by omega)) (by omega) ?_
  exact hret () _ _ dX0_exchange_46 trivial
end
section
set_option maxRecDepth 100000
/-! FuelGate: perform -/
/-- perform(), by the number of its instruction -/
theorem m0_perform0 (q : fz_Q) (o : fz_O) {sz ck gd ls st fu pt dp : Int32} {op cn ht ld bc be li sk ce : Nat → Int32} {a c d : Nat} (ha : a < 24) (eo : op a = nI c) (hc : c < 15) (hu : usN c ≤ d) (h8 : d ≤ 8) (hb : stD c d ≤ 8) : fz_Mv q yX0_perform cX0_perform 3 1 [.ref o.1] (wg q o sz ck gd ls st fu (nI a) (nI d) op cn ht ld bc be li sk ce) (fun _ : Unit => True) (fun _ => (wg q o sz ck gd ls (stT c st) fu (stP c a (cn a) d sk) (nI (stD c d)) op cn ht ld bc be li (stS c (cn a) d sk ce) (stC c (cn a) d sk ce))) := by
  refine fz_ofv (own := RX0) (by decide) rfl rfl (Nat.le_of_ble_eq_true rfl) ?_
  intro x ok hret
  refine fz_aload (pc := 0) ok dX0_perform_0 rfl ?_
  refine g0_op (pc := 1) ok dX0_perform_1 ?_
  refine fz_aload (pc := 4) ok dX0_perform_4 rfl ?_
  refine g0_at (pc := 5) ok dX0_perform_5 ?_
  refine l0_op (pc := 8) ok dX0_perform_8 (a) (rfl) (ha) ?_
  refine fz_top (eo) ?_
  refine fz_istore (pc := 9) (lc' := [_, _]) ok dX0_perform_9 (by decide) (Nat.le_of_ble_eq_true rfl) rfl ?_
  refine fz_aload (pc := 10) ok dX0_perform_10 rfl ?_
  refine g0_at (pc := 11) ok dX0_perform_11 ?_
  refine fz_iconst (pc := 14) (v := 1) ok dX0_perform_14 (by decide) ?_
  refine fz_iadd (pc := 15) ok dX0_perform_15 ?_
  refine fz_top (show _ = nI (a + 1) from fz_a1 a) ?_
  refine fz_istore (pc := 16) (lc' := [_, _, _]) ok dX0_perform_16 (by decide) (Nat.le_of_ble_eq_true rfl) rfl ?_
  refine fz_iload (pc := 17) ok dX0_perform_17 rfl ?_
  rcases fz_15 hc with rfl | rfl | rfl | rfl | rfl | rfl | rfl | rfl | rfl | rfl | rfl | rfl | rfl | rfl | rfl
  · have hb : d + 1 ≤ 8 := hb
    refine fz_tabIn (pc := 18) (off := 66) (tgt := 84) ok dX0_perform_18 (by decide +kernel) (by decide +kernel) (by decide +kernel) (by decide) ?_
    refine fz_aload (pc := 84) ok dX0_perform_84 rfl ?_
    refine fz_aload (pc := 85) ok dX0_perform_85 rfl ?_
    refine g0_con (pc := 86) ok dX0_perform_86 ?_
    refine fz_aload (pc := 89) ok dX0_perform_89 rfl ?_
    refine g0_at (pc := 90) ok dX0_perform_90 ?_
    refine l0_con (pc := 93) ok dX0_perform_93 (a) (rfl) (ha) ?_
    refine k0_push (pc := 94) ok (m0_push q o (d := d) rfl (by omega) _) rfl (by decide) (Nat.le_of_ble_eq_true rfl) dX0_perform_94 (fun u hu => ?_)
    refine fz_goto (pc := 97) (tgt := 308) ok dX0_perform_97 (by decide) ?_
    refine fz_iload (pc := 308) ok dX0_perform_308 rfl ?_
    refine fz_bipush (pc := 309) (v := 13) ok dX0_perform_309 (by decide) ?_
    refine fz_icmp_ne (pc := 311) (tgt := 322) ok dX0_perform_311 (by decide) (fun c311 => ?_) (fun c311 => ?_)
    · refine fz_aload (pc := 322) ok dX0_perform_322 rfl ?_
      refine fz_iload (pc := 323) ok dX0_perform_323 rfl ?_
      refine p0_at (pc := 324) ok dX0_perform_324 (_) (rfl) ?_
      exact hret () _ _ dX0_perform_327 trivial
    · exact absurd c311 (by decide +kernel)
  · have hu : 1 ≤ d := hu
    refine fz_tabIn (pc := 18) (off := 82) (tgt := 100) ok dX0_perform_18 (by decide +kernel) (by decide +kernel) (by decide +kernel) (by decide) ?_
    refine fz_aload (pc := 100) ok dX0_perform_100 rfl ?_
    refine fz_dup (pc := 101) ok dX0_perform_101 rfl ?_
    refine g0_depth (pc := 102) ok dX0_perform_102 ?_
    refine fz_iconst (pc := 105) (v := 1) ok dX0_perform_105 (by decide) ?_
    refine fz_isub (pc := 106) ok dX0_perform_106 ?_
    refine p0_depth (pc := 107) ok dX0_perform_107 (nI (d - 1)) (fz_s1 hu) ?_
    refine fz_goto (pc := 110) (tgt := 308) ok dX0_perform_110 (by decide) ?_
    refine fz_iload (pc := 308) ok dX0_perform_308 rfl ?_
    refine fz_bipush (pc := 309) (v := 13) ok dX0_perform_309 (by decide) ?_
    refine fz_icmp_ne (pc := 311) (tgt := 322) ok dX0_perform_311 (by decide) (fun c311 => ?_) (fun c311 => ?_)
    · refine fz_aload (pc := 322) ok dX0_perform_322 rfl ?_
      refine fz_iload (pc := 323) ok dX0_perform_323 rfl ?_
      refine p0_at (pc := 324) ok dX0_perform_324 (_) (rfl) ?_
      exact hret () _ _ dX0_perform_327 trivial
    · exact absurd c311 (by decide +kernel)
  · have hu : 1 ≤ d := hu
    have hb : d + 1 ≤ 8 := hb
    refine fz_tabIn (pc := 18) (off := 95) (tgt := 113) ok dX0_perform_18 (by decide +kernel) (by decide +kernel) (by decide +kernel) (by decide) ?_
    refine fz_aload (pc := 113) ok dX0_perform_113 rfl ?_
    refine fz_aload (pc := 114) ok dX0_perform_114 rfl ?_
    refine g0_stack (pc := 115) ok dX0_perform_115 ?_
    refine fz_aload (pc := 118) ok dX0_perform_118 rfl ?_
    refine g0_depth (pc := 119) ok dX0_perform_119 ?_
    refine fz_iconst (pc := 122) (v := 1) ok dX0_perform_122 (by decide) ?_
    refine fz_isub (pc := 123) ok dX0_perform_123 ?_
    refine l0_stack (pc := 124) ok dX0_perform_124 (d - 1) (fz_s1 hu) (by omega) ?_
    refine k0_push (pc := 125) ok (m0_push q o (d := d) rfl (by omega) _) rfl (by decide) (Nat.le_of_ble_eq_true rfl) dX0_perform_125 (fun u hu => ?_)
    refine fz_goto (pc := 128) (tgt := 308) ok dX0_perform_128 (by decide) ?_
    refine fz_iload (pc := 308) ok dX0_perform_308 rfl ?_
    refine fz_bipush (pc := 309) (v := 13) ok dX0_perform_309 (by decide) ?_
    refine fz_icmp_ne (pc := 311) (tgt := 322) ok dX0_perform_311 (by decide) (fun c311 => ?_) (fun c311 => ?_)
    · refine fz_aload (pc := 322) ok dX0_perform_322 rfl ?_
      refine fz_iload (pc := 323) ok dX0_perform_323 rfl ?_
      refine p0_at (pc := 324) ok dX0_perform_324 (_) (rfl) ?_
      exact hret () _ _ dX0_perform_327 trivial
    · exact absurd c311 (by decide +kernel)
  · have hu : 2 ≤ d := hu
    refine fz_tabIn (pc := 18) (off := 113) (tgt := 131) ok dX0_perform_18 (by decide +kernel) (by decide +kernel) (by decide +kernel) (by decide) ?_
    refine fz_aload (pc := 131) ok dX0_perform_131 rfl ?_
    refine fz_iload (pc := 132) ok dX0_perform_132 rfl ?_
    refine k0_arithmetic (pc := 133) ok (m0_arithmetic q o (d := d) (c := 3) rfl hu h8 (by decide) (cn a)) rfl (by decide) (Nat.le_of_ble_eq_true rfl) dX0_perform_133 (fun u hu => ?_)
    refine fz_goto (pc := 136) (tgt := 308) ok dX0_perform_136 (by decide) ?_
    refine fz_iload (pc := 308) ok dX0_perform_308 rfl ?_
    refine fz_bipush (pc := 309) (v := 13) ok dX0_perform_309 (by decide) ?_
    refine fz_icmp_ne (pc := 311) (tgt := 322) ok dX0_perform_311 (by decide) (fun c311 => ?_) (fun c311 => ?_)
    · refine fz_aload (pc := 322) ok dX0_perform_322 rfl ?_
      refine fz_iload (pc := 323) ok dX0_perform_323 rfl ?_
      refine p0_at (pc := 324) ok dX0_perform_324 (_) (rfl) ?_
      exact hret () _ _ dX0_perform_327 trivial
    · exact absurd c311 (by decide +kernel)
  · have hu : 2 ≤ d := hu
    refine fz_tabIn (pc := 18) (off := 113) (tgt := 131) ok dX0_perform_18 (by decide +kernel) (by decide +kernel) (by decide +kernel) (by decide) ?_
    refine fz_aload (pc := 131) ok dX0_perform_131 rfl ?_
    refine fz_iload (pc := 132) ok dX0_perform_132 rfl ?_
    refine k0_arithmetic (pc := 133) ok (m0_arithmetic q o (d := d) (c := 4) rfl hu h8 (by decide) (cn a)) rfl (by decide) (Nat.le_of_ble_eq_true rfl) dX0_perform_133 (fun u hu => ?_)
    refine fz_goto (pc := 136) (tgt := 308) ok dX0_perform_136 (by decide) ?_
    refine fz_iload (pc := 308) ok dX0_perform_308 rfl ?_
    refine fz_bipush (pc := 309) (v := 13) ok dX0_perform_309 (by decide) ?_
    refine fz_icmp_ne (pc := 311) (tgt := 322) ok dX0_perform_311 (by decide) (fun c311 => ?_) (fun c311 => ?_)
    · refine fz_aload (pc := 322) ok dX0_perform_322 rfl ?_
      refine fz_iload (pc := 323) ok dX0_perform_323 rfl ?_
      refine p0_at (pc := 324) ok dX0_perform_324 (_) (rfl) ?_
      exact hret () _ _ dX0_perform_327 trivial
    · exact absurd c311 (by decide +kernel)
  · have hu : 2 ≤ d := hu
    refine fz_tabIn (pc := 18) (off := 113) (tgt := 131) ok dX0_perform_18 (by decide +kernel) (by decide +kernel) (by decide +kernel) (by decide) ?_
    refine fz_aload (pc := 131) ok dX0_perform_131 rfl ?_
    refine fz_iload (pc := 132) ok dX0_perform_132 rfl ?_
    refine k0_arithmetic (pc := 133) ok (m0_arithmetic q o (d := d) (c := 5) rfl hu h8 (by decide) (cn a)) rfl (by decide) (Nat.le_of_ble_eq_true rfl) dX0_perform_133 (fun u hu => ?_)
    refine fz_goto (pc := 136) (tgt := 308) ok dX0_perform_136 (by decide) ?_
    refine fz_iload (pc := 308) ok dX0_perform_308 rfl ?_
    refine fz_bipush (pc := 309) (v := 13) ok dX0_perform_309 (by decide) ?_
    refine fz_icmp_ne (pc := 311) (tgt := 322) ok dX0_perform_311 (by decide) (fun c311 => ?_) (fun c311 => ?_)
    · refine fz_aload (pc := 322) ok dX0_perform_322 rfl ?_
      refine fz_iload (pc := 323) ok dX0_perform_323 rfl ?_
      refine p0_at (pc := 324) ok dX0_perform_324 (_) (rfl) ?_
      exact hret () _ _ dX0_perform_327 trivial
    · exact absurd c311 (by decide +kernel)
  · have hu : 2 ≤ d := hu
    refine fz_tabIn (pc := 18) (off := 121) (tgt := 139) ok dX0_perform_18 (by decide +kernel) (by decide +kernel) (by decide +kernel) (by decide) ?_
    refine fz_aload (pc := 139) ok dX0_perform_139 rfl ?_
    refine k0_exchange (pc := 140) ok (m0_exchange q o (d := d) rfl hu h8 (cn a)) rfl (by decide) (Nat.le_of_ble_eq_true rfl) dX0_perform_140 (fun u hu => ?_)
    refine fz_goto (pc := 143) (tgt := 308) ok dX0_perform_143 (by decide) ?_
    refine fz_iload (pc := 308) ok dX0_perform_308 rfl ?_
    refine fz_bipush (pc := 309) (v := 13) ok dX0_perform_309 (by decide) ?_
    refine fz_icmp_ne (pc := 311) (tgt := 322) ok dX0_perform_311 (by decide) (fun c311 => ?_) (fun c311 => ?_)
    · refine fz_aload (pc := 322) ok dX0_perform_322 rfl ?_
      refine fz_iload (pc := 323) ok dX0_perform_323 rfl ?_
      refine p0_at (pc := 324) ok dX0_perform_324 (_) (rfl) ?_
      exact hret () _ _ dX0_perform_327 trivial
    · exact absurd c311 (by decide +kernel)
  · have hu : 2 ≤ d := hu
    have hb : d + 1 ≤ 8 := hb
    refine fz_tabIn (pc := 18) (off := 128) (tgt := 146) ok dX0_perform_18 (by decide +kernel) (by decide +kernel) (by decide +kernel) (by decide) ?_
    refine fz_aload (pc := 146) ok dX0_perform_146 rfl ?_
    refine fz_aload (pc := 147) ok dX0_perform_147 rfl ?_
    refine g0_stack (pc := 148) ok dX0_perform_148 ?_
    refine fz_aload (pc := 151) ok dX0_perform_151 rfl ?_
    refine g0_depth (pc := 152) ok dX0_perform_152 ?_
    refine fz_iconst (pc := 155) (v := 2) ok dX0_perform_155 (by decide) ?_
    refine fz_isub (pc := 156) ok dX0_perform_156 ?_
    refine l0_stack (pc := 157) ok dX0_perform_157 (d - 2) (fz_s2 hu) (by omega) ?_
    refine k0_push (pc := 158) ok (m0_push q o (d := d) rfl (by omega) _) rfl (by decide) (Nat.le_of_ble_eq_true rfl) dX0_perform_158 (fun u hu => ?_)
    refine fz_goto (pc := 161) (tgt := 308) ok dX0_perform_161 (by decide) ?_
    refine fz_iload (pc := 308) ok dX0_perform_308 rfl ?_
    refine fz_bipush (pc := 309) (v := 13) ok dX0_perform_309 (by decide) ?_
    refine fz_icmp_ne (pc := 311) (tgt := 322) ok dX0_perform_311 (by decide) (fun c311 => ?_) (fun c311 => ?_)
    · refine fz_aload (pc := 322) ok dX0_perform_322 rfl ?_
      refine fz_iload (pc := 323) ok dX0_perform_323 rfl ?_
      refine p0_at (pc := 324) ok dX0_perform_324 (_) (rfl) ?_
      exact hret () _ _ dX0_perform_327 trivial
    · exact absurd c311 (by decide +kernel)
  · refine fz_tabIn (pc := 18) (off := 146) (tgt := 164) ok dX0_perform_18 (by decide +kernel) (by decide +kernel) (by decide +kernel) (by decide) ?_
    refine fz_aload (pc := 164) ok dX0_perform_164 rfl ?_
    refine g0_con (pc := 165) ok dX0_perform_165 ?_
    refine fz_aload (pc := 168) ok dX0_perform_168 rfl ?_
    refine g0_at (pc := 169) ok dX0_perform_169 ?_
    refine l0_con (pc := 172) ok dX0_perform_172 (a) (rfl) (ha) ?_
    refine fz_istore (pc := 173) (lc' := [_, _, _]) ok dX0_perform_173 (by decide) (Nat.le_of_ble_eq_true rfl) rfl ?_
    refine fz_goto (pc := 174) (tgt := 308) ok dX0_perform_174 (by decide) ?_
    refine fz_iload (pc := 308) ok dX0_perform_308 rfl ?_
    refine fz_bipush (pc := 309) (v := 13) ok dX0_perform_309 (by decide) ?_
    refine fz_icmp_ne (pc := 311) (tgt := 322) ok dX0_perform_311 (by decide) (fun c311 => ?_) (fun c311 => ?_)
    · refine fz_aload (pc := 322) ok dX0_perform_322 rfl ?_
      refine fz_iload (pc := 323) ok dX0_perform_323 rfl ?_
      refine p0_at (pc := 324) ok dX0_perform_324 (_) (rfl) ?_
      exact hret () _ _ dX0_perform_327 trivial
    · exact absurd c311 (by decide +kernel)
  · have hu : 1 ≤ d := hu
    refine fz_tabIn (pc := 18) (off := 159) (tgt := 177) ok dX0_perform_18 (by decide +kernel) (by decide +kernel) (by decide +kernel) (by decide) ?_
    refine fz_aload (pc := 177) ok dX0_perform_177 rfl ?_
    refine fz_dup (pc := 178) ok dX0_perform_178 rfl ?_
    refine g0_depth (pc := 179) ok dX0_perform_179 ?_
    refine fz_iconst (pc := 182) (v := 1) ok dX0_perform_182 (by decide) ?_
    refine fz_isub (pc := 183) ok dX0_perform_183 ?_
    refine p0_depth (pc := 184) ok dX0_perform_184 (nI (d - 1)) (fz_s1 hu) ?_
    refine fz_aload (pc := 187) ok dX0_perform_187 rfl ?_
    refine g0_stack (pc := 188) ok dX0_perform_188 ?_
    refine fz_aload (pc := 191) ok dX0_perform_191 rfl ?_
    refine g0_depth (pc := 192) ok dX0_perform_192 ?_
    refine l0_stack (pc := 195) ok dX0_perform_195 (d - 1) (rfl) (by omega) ?_
    refine fz_if_ne (pc := 196) (tgt := 308) ok dX0_perform_196 (by decide) (fun c196 => ?_) (fun c196 => ?_)
    · refine fz_iload (pc := 308) ok dX0_perform_308 rfl ?_
      refine fz_bipush (pc := 309) (v := 13) ok dX0_perform_309 (by decide) ?_
      refine fz_icmp_ne (pc := 311) (tgt := 322) ok dX0_perform_311 (by decide) (fun c311 => ?_) (fun c311 => ?_)
      · refine fz_aload (pc := 322) ok dX0_perform_322 rfl ?_
        refine fz_iload (pc := 323) ok dX0_perform_323 rfl ?_
        refine p0_at (pc := 324) ok dX0_perform_324 (stP 9 a (cn a) d sk) ((if_neg c196).symm) ?_
        exact hret () _ _ dX0_perform_327 trivial
      · exact absurd c311 (by decide +kernel)
    · refine fz_aload (pc := 199) ok dX0_perform_199 rfl ?_
      refine g0_con (pc := 200) ok dX0_perform_200 ?_
      refine fz_aload (pc := 203) ok dX0_perform_203 rfl ?_
      refine g0_at (pc := 204) ok dX0_perform_204 ?_
      refine l0_con (pc := 207) ok dX0_perform_207 (a) (rfl) (ha) ?_
      refine fz_istore (pc := 208) (lc' := [_, _, _]) ok dX0_perform_208 (by decide) (Nat.le_of_ble_eq_true rfl) rfl ?_
      refine fz_goto (pc := 209) (tgt := 308) ok dX0_perform_209 (by decide) ?_
      refine fz_iload (pc := 308) ok dX0_perform_308 rfl ?_
      refine fz_bipush (pc := 309) (v := 13) ok dX0_perform_309 (by decide) ?_
      refine fz_icmp_ne (pc := 311) (tgt := 322) ok dX0_perform_311 (by decide) (fun c311 => ?_) (fun c311 => ?_)
      · refine fz_aload (pc := 322) ok dX0_perform_322 rfl ?_
        refine fz_iload (pc := 323) ok dX0_perform_323 rfl ?_
        refine p0_at (pc := 324) ok dX0_perform_324 (stP 9 a (cn a) d sk) ((if_pos c196).symm) ?_
        exact hret () _ _ dX0_perform_327 trivial
      · exact absurd c311 (by decide +kernel)
  · have hu : 1 ≤ d := hu
    refine fz_tabIn (pc := 18) (off := 194) (tgt := 212) ok dX0_perform_18 (by decide +kernel) (by decide +kernel) (by decide +kernel) (by decide) ?_
    refine fz_aload (pc := 212) ok dX0_perform_212 rfl ?_
    refine fz_dup (pc := 213) ok dX0_perform_213 rfl ?_
    refine g0_depth (pc := 214) ok dX0_perform_214 ?_
    refine fz_iconst (pc := 217) (v := 1) ok dX0_perform_217 (by decide) ?_
    refine fz_isub (pc := 218) ok dX0_perform_218 ?_
    refine p0_depth (pc := 219) ok dX0_perform_219 (nI (d - 1)) (fz_s1 hu) ?_
    refine fz_aload (pc := 222) ok dX0_perform_222 rfl ?_
    refine g0_stack (pc := 223) ok dX0_perform_223 ?_
    refine fz_aload (pc := 226) ok dX0_perform_226 rfl ?_
    refine g0_depth (pc := 227) ok dX0_perform_227 ?_
    refine l0_stack (pc := 230) ok dX0_perform_230 (d - 1) (rfl) (by omega) ?_
    refine fz_if_le (pc := 231) (tgt := 308) ok dX0_perform_231 (by decide) (fun c231 => ?_) (fun c231 => ?_)
    · refine fz_iload (pc := 308) ok dX0_perform_308 rfl ?_
      refine fz_bipush (pc := 309) (v := 13) ok dX0_perform_309 (by decide) ?_
      refine fz_icmp_ne (pc := 311) (tgt := 322) ok dX0_perform_311 (by decide) (fun c311 => ?_) (fun c311 => ?_)
      · refine fz_aload (pc := 322) ok dX0_perform_322 rfl ?_
        refine fz_iload (pc := 323) ok dX0_perform_323 rfl ?_
        refine p0_at (pc := 324) ok dX0_perform_324 (stP 10 a (cn a) d sk) ((if_neg (fz_le_nlt c231)).symm) ?_
        exact hret () _ _ dX0_perform_327 trivial
      · exact absurd c311 (by decide +kernel)
    · refine fz_aload (pc := 234) ok dX0_perform_234 rfl ?_
      refine g0_con (pc := 235) ok dX0_perform_235 ?_
      refine fz_aload (pc := 238) ok dX0_perform_238 rfl ?_
      refine g0_at (pc := 239) ok dX0_perform_239 ?_
      refine l0_con (pc := 242) ok dX0_perform_242 (a) (rfl) (ha) ?_
      refine fz_istore (pc := 243) (lc' := [_, _, _]) ok dX0_perform_243 (by decide) (Nat.le_of_ble_eq_true rfl) rfl ?_
      refine fz_goto (pc := 244) (tgt := 308) ok dX0_perform_244 (by decide) ?_
      refine fz_iload (pc := 308) ok dX0_perform_308 rfl ?_
      refine fz_bipush (pc := 309) (v := 13) ok dX0_perform_309 (by decide) ?_
      refine fz_icmp_ne (pc := 311) (tgt := 322) ok dX0_perform_311 (by decide) (fun c311 => ?_) (fun c311 => ?_)
      · refine fz_aload (pc := 322) ok dX0_perform_322 rfl ?_
        refine fz_iload (pc := 323) ok dX0_perform_323 rfl ?_
        refine p0_at (pc := 324) ok dX0_perform_324 (stP 10 a (cn a) d sk) ((if_pos (fz_nle_lt c231)).symm) ?_
        exact hret () _ _ dX0_perform_327 trivial
      · exact absurd c311 (by decide +kernel)
  · have hb : d + 1 ≤ 8 := hb
    refine fz_tabIn (pc := 18) (off := 229) (tgt := 247) ok dX0_perform_18 (by decide +kernel) (by decide +kernel) (by decide +kernel) (by decide) ?_
    refine fz_aload (pc := 247) ok dX0_perform_247 rfl ?_
    refine fz_aload (pc := 248) ok dX0_perform_248 rfl ?_
    refine g0_cells (pc := 249) ok dX0_perform_249 ?_
    refine fz_aload (pc := 252) ok dX0_perform_252 rfl ?_
    refine g0_con (pc := 253) ok dX0_perform_253 ?_
    refine fz_aload (pc := 256) ok dX0_perform_256 rfl ?_
    refine g0_at (pc := 257) ok dX0_perform_257 ?_
    refine l0_con (pc := 260) ok dX0_perform_260 (a) (rfl) (ha) ?_
    refine fz_iconst (pc := 261) (v := 3) ok dX0_perform_261 (by decide) ?_
    refine fz_iand (pc := 262) ok dX0_perform_262 ?_
    refine l0_cells (pc := 263) ok dX0_perform_263 ((cn a &&& 3).toNatClampNeg) ((fz_and3' (cn a)).1) ((fz_and3' (cn a)).2) ?_
    refine k0_push (pc := 264) ok (m0_push q o (d := d) rfl (by omega) _) rfl (by decide) (Nat.le_of_ble_eq_true rfl) dX0_perform_264 (fun u hu => ?_)
    refine fz_goto (pc := 267) (tgt := 308) ok dX0_perform_267 (by decide) ?_
    refine fz_iload (pc := 308) ok dX0_perform_308 rfl ?_
    refine fz_bipush (pc := 309) (v := 13) ok dX0_perform_309 (by decide) ?_
    refine fz_icmp_ne (pc := 311) (tgt := 322) ok dX0_perform_311 (by decide) (fun c311 => ?_) (fun c311 => ?_)
    · refine fz_aload (pc := 322) ok dX0_perform_322 rfl ?_
      refine fz_iload (pc := 323) ok dX0_perform_323 rfl ?_
      refine p0_at (pc := 324) ok dX0_perform_324 (_) (rfl) ?_
      exact hret () _ _ dX0_perform_327 trivial
    · exact absurd c311 (by decide +kernel)
  · have hu : 1 ≤ d := hu
    refine fz_tabIn (pc := 18) (off := 252) (tgt := 270) ok dX0_perform_18 (by decide +kernel) (by decide +kernel) (by decide +kernel) (by decide) ?_
    refine fz_aload (pc := 270) ok dX0_perform_270 rfl ?_
    refine fz_dup (pc := 271) ok dX0_perform_271 rfl ?_
    refine g0_depth (pc := 272) ok dX0_perform_272 ?_
    refine fz_iconst (pc := 275) (v := 1) ok dX0_perform_275 (by decide) ?_
    refine fz_isub (pc := 276) ok dX0_perform_276 ?_
    refine p0_depth (pc := 277) ok dX0_perform_277 (nI (d - 1)) (fz_s1 hu) ?_
    refine fz_aload (pc := 280) ok dX0_perform_280 rfl ?_
    refine g0_cells (pc := 281) ok dX0_perform_281 ?_
    refine fz_aload (pc := 284) ok dX0_perform_284 rfl ?_
    refine g0_con (pc := 285) ok dX0_perform_285 ?_
    refine fz_aload (pc := 288) ok dX0_perform_288 rfl ?_
    refine g0_at (pc := 289) ok dX0_perform_289 ?_
    refine l0_con (pc := 292) ok dX0_perform_292 (a) (rfl) (ha) ?_
    refine fz_iconst (pc := 293) (v := 3) ok dX0_perform_293 (by decide) ?_
    refine fz_iand (pc := 294) ok dX0_perform_294 ?_
    refine fz_aload (pc := 295) ok dX0_perform_295 rfl ?_
    refine g0_stack (pc := 296) ok dX0_perform_296 ?_
    refine fz_aload (pc := 299) ok dX0_perform_299 rfl ?_
    refine g0_depth (pc := 300) ok dX0_perform_300 ?_
    refine l0_stack (pc := 303) ok dX0_perform_303 (d - 1) (rfl) (by omega) ?_
    refine s0_cells (pc := 304) ok dX0_perform_304 ((cn a &&& 3).toNatClampNeg) ((fz_and3' (cn a)).1) ((fz_and3' (cn a)).2) ?_
    refine fz_goto (pc := 305) (tgt := 308) ok dX0_perform_305 (by decide) ?_
    refine fz_iload (pc := 308) ok dX0_perform_308 rfl ?_
    refine fz_bipush (pc := 309) (v := 13) ok dX0_perform_309 (by decide) ?_
    refine fz_icmp_ne (pc := 311) (tgt := 322) ok dX0_perform_311 (by decide) (fun c311 => ?_) (fun c311 => ?_)
    · refine fz_aload (pc := 322) ok dX0_perform_322 rfl ?_
      refine fz_iload (pc := 323) ok dX0_perform_323 rfl ?_
      refine p0_at (pc := 324) ok dX0_perform_324 (_) (rfl) ?_
      exact hret () _ _ dX0_perform_327 trivial
    · exact absurd c311 (by decide +kernel)
  · refine fz_tabOut (pc := 18) (tgt := 308) ok dX0_perform_18 (by decide +kernel) (by decide) ?_
    refine fz_iload (pc := 308) ok dX0_perform_308 rfl ?_
    refine fz_bipush (pc := 309) (v := 13) ok dX0_perform_309 (by decide) ?_
    refine fz_icmp_ne (pc := 311) (tgt := 322) ok dX0_perform_311 (by decide) (fun c311 => ?_) (fun c311 => ?_)
    · exact absurd rfl c311
    · refine fz_aload (pc := 314) ok dX0_perform_314 rfl ?_
      refine fz_iconst (pc := 315) (v := 1) ok dX0_perform_315 (by decide) ?_
      refine p0_state (pc := 316) ok dX0_perform_316 (_) (rfl) ?_
      refine fz_goto (pc := 319) (tgt := 327) ok dX0_perform_319 (by decide) ?_
      exact hret () _ _ dX0_perform_327 trivial
  · refine fz_tabOut (pc := 18) (tgt := 308) ok dX0_perform_18 (by decide +kernel) (by decide) ?_
    refine fz_iload (pc := 308) ok dX0_perform_308 rfl ?_
    refine fz_bipush (pc := 309) (v := 13) ok dX0_perform_309 (by decide) ?_
    refine fz_icmp_ne (pc := 311) (tgt := 322) ok dX0_perform_311 (by decide) (fun c311 => ?_) (fun c311 => ?_)
    · refine fz_aload (pc := 322) ok dX0_perform_322 rfl ?_
      refine fz_iload (pc := 323) ok dX0_perform_323 rfl ?_
      refine p0_at (pc := 324) ok dX0_perform_324 (_) (rfl) ?_
      exact hret () _ _ dX0_perform_327 trivial
    · exact absurd c311 (by decide +kernel)
/-- perform(): one step -/
theorem m0_perform (q : fz_Q) (o : fz_O) {sz ck gd ls st fu : Int32} {op cn ht ld bc be li : Nat → Int32} {mm : Ms} (hp : PreM op mm) : fz_Mv q yX0_perform cX0_perform 3 1 [.ref o.1] (wg q o sz ck gd ls st fu mm.1 (nI mm.2.1) op cn ht ld bc be li mm.2.2.1 mm.2.2.2) (fun _ : Unit => True) (fun _ => (wg q o sz ck gd ls (stT (oOf op mm) st) fu ((sp op cn mm).1) (nI (sp op cn mm).2.1) op cn ht ld bc be li ((sp op cn mm).2.2.1) ((sp op cn mm).2.2.2))) := by
  obtain ⟨a, c, ea, ha, eo, hc, hu, h8, hb⟩ := hp
  have e1 : aOf mm = a := aOf_nI ea (by omega)
  have e2 : oOf op mm = c := oOf_nI ea (by omega) eo (by omega)
  unfold sp
  rw [e2, e1, ea]
  exact m0_perform0 q o (pt := 0) (dp := 0) ha eo hc hu h8 hb
end
section
set_option maxRecDepth 100000
/-! FuelGate: runBlock, crawl, carryOn -/
def bst (b : Bool) : Int32 := match b with
  | true => 1
  | false => 0
def fst2 (b : Bool) : Int32 := match b with
  | true => 1
  | false => 2
theorem stT_bst (o : Nat) : stT o 0 = bst (decide (o = 13)) := by
  by_cases h : o = 13
  · subst h; rfl
  · rw [show decide (o = 13) = false by simp [h]]
    unfold stT
    split
    · exact absurd rfl h
    · rfl
theorem stT_no {o : Nat} {st : Int32} (h : o ≠ 13) : stT o st = st := by
  unfold stT
  split
  · exact absurd rfl h
  · rfl
theorem m0_runBlock (q : fz_Q) (o : fz_O) {sz ck gd ls st : Int32} {op cn ht ld bc be li : Nat → Int32} {n : Nat} {hh : Nat → Int32} {mm : Ms} (hn : n ≤ 24) (hop : OpOK n op) (hc : Cl n op cn hh) (h1 : Ok1 n hh mm) {f j s : Nat} (ebe : be (aOf mm) = nI (aOf mm + j)) (ebc : bc (aOf mm) = nI s) (hlt : aOf mm + j < n) (hbl : Bl op cn (aOf mm) j s) (hf : s ≤ f) : fz_Mv q yX0_runBlock cX0_runBlock 4 2 [.ref o.1] (wg q o sz ck gd ls 0 (nI f) mm.1 (nI mm.2.1) op cn ht ld bc be li mm.2.2.1 mm.2.2.2) (fun _ : Unit => True) (fun _ => (wg q o sz ck gd ls (bst (decide (oOf op (itN (sp op cn) j mm) = 13))) (nI (f - s)) ((itN (sp op cn) (j + 1) mm).1) (nI (itN (sp op cn) (j + 1) mm).2.1) op cn ht ld bc be li ((itN (sp op cn) (j + 1) mm).2.2.1) ((itN (sp op cn) (j + 1) mm).2.2.2))) := by
  refine fz_ofv (own := RX0) (by decide) rfl rfl (Nat.le_of_ble_eq_true rfl) ?_
  intro x ok hret
  obtain ⟨a0, em0, ha0, -, -⟩ := id h1
  have ea0 : aOf mm = a0 := aOf_nI em0 (by omega)
  have em : mm.1 = nI (aOf mm) := by rw [ea0]; exact em0
  have loop : ∀ (r i p s9 : Nat) (m : Ms), i + (r + 1) = j + 1 → m.1 = nI p → p + r < n → Ok1 n hh m → Bl op cn p r s9 → itN (sp op cn) (r + 1) m = itN (sp op cn) (j + 1) mm → oOf op (itN (sp op cn) r m) = oOf op (itN (sp op cn) j mm) → fz_A q x (wg q o sz ck gd ls 0 (nI (f - s)) m.1 (nI m.2.1) op cn ht ld bc be li m.2.2.1 m.2.2.2) 39 [.ref o.1, .int (nI (aOf mm + j)), .int (nI (j + 1)), .int (nI i)] [] := by
    intro r
    induction r with
    | zero =>
      intro i p s9 m hi em hp g1 hb ef eo
      refine fz_iload (pc := 39) ok dX0_runBlock_39 rfl ?_
      refine fz_iload (pc := 40) ok dX0_runBlock_40 rfl ?_
      refine fz_icmp_ge (pc := 41) (tgt := 54) ok dX0_runBlock_41 (by decide) (fun c41 => ?_) (fun c41 => ?_)
      · exact absurd ((nI_leI (by omega) (by omega)).mp c41) (by omega)
      · refine fz_aload (pc := 44) ok dX0_runBlock_44 rfl ?_
        refine k0_perform (pc := 45) ok (m0_perform q o (ok1_pre hn hop hc g1)) rfl (by decide) (Nat.le_of_ble_eq_true rfl) dX0_runBlock_45 (fun u hu => ?_)
        have est : stT (oOf op m) 0 = bst (decide (oOf op (itN (sp op cn) j mm) = 13)) := by rw [stT_bst, ← eo]; rfl
        rw [est]
        have ef : sp op cn m = itN (sp op cn) (j + 1) mm := ef
        rw [ef]
        refine fz_iinc (pc := 48) (v := nI (i + 1)) (lc' := [_, _, _, _]) ok dX0_runBlock_48 (by decide) rfl (fz_a1 i) rfl ?_
        refine fz_goto (pc := 51) (tgt := 39) ok dX0_runBlock_51 (by decide) ?_
        have he : i + 1 = j + 1 := by omega
        rw [he]
        refine fz_iload (pc := 39) ok dX0_runBlock_39 rfl ?_
        refine fz_iload (pc := 40) ok dX0_runBlock_40 rfl ?_
        refine fz_icmp_ge (pc := 41) (tgt := 54) ok dX0_runBlock_41 (by decide) (fun c41 => ?_) (fun c41 => ?_)
        · exact hret () _ _ dX0_runBlock_54 trivial
        · exact absurd (Int32.le_refl _) c41
    | succ r ih =>
      intro i p s9 m hi em hp g1 hb ef eo
      obtain ⟨h13, hj, s2, es, hb2⟩ := hb
      refine fz_iload (pc := 39) ok dX0_runBlock_39 rfl ?_
      refine fz_iload (pc := 40) ok dX0_runBlock_40 rfl ?_
      refine fz_icmp_ge (pc := 41) (tgt := 54) ok dX0_runBlock_41 (by decide) (fun c41 => ?_) (fun c41 => ?_)
      · exact absurd ((nI_leI (by omega) (by omega)).mp c41) (by omega)
      · refine fz_aload (pc := 44) ok dX0_runBlock_44 rfl ?_
        refine k0_perform (pc := 45) ok (m0_perform q o (ok1_pre hn hop hc g1)) rfl (by decide) (Nat.le_of_ble_eq_true rfl) dX0_runBlock_45 (fun u hu => ?_)
        have eoo : oOf op m ≠ 13 := by unfold oOf; rw [aOf_nI em (by omega)]; exact h13
        rw [stT_no eoo]
        refine fz_iinc (pc := 48) (v := nI (i + 1)) (lc' := [_, _, _, _]) ok dX0_runBlock_48 (by decide) rfl (fz_a1 i) rfl ?_
        refine fz_goto (pc := 51) (tgt := 39) ok dX0_runBlock_51 (by decide) ?_
        exact ih (i + 1) (p + 1) s2 (sp op cn m) (by omega) (sp_next em (by omega) h13 hj) (by omega) (ok1_step hn hop hc g1) hb2 ef eo
  refine fz_aload (pc := 0) ok dX0_runBlock_0 rfl ?_
  refine g0_blockEnd (pc := 1) ok dX0_runBlock_1 ?_
  refine fz_aload (pc := 4) ok dX0_runBlock_4 rfl ?_
  refine g0_at (pc := 5) ok dX0_runBlock_5 ?_
  refine l0_blockEnd (pc := 8) ok dX0_runBlock_8 (aOf mm) (em) (by omega) ?_
  refine fz_top (ebe) ?_
  refine fz_istore (pc := 9) (lc' := [_, _]) ok dX0_runBlock_9 (by decide) (Nat.le_of_ble_eq_true rfl) rfl ?_
  refine fz_iload (pc := 10) ok dX0_runBlock_10 rfl ?_
  refine fz_aload (pc := 11) ok dX0_runBlock_11 rfl ?_
  refine g0_at (pc := 12) ok dX0_runBlock_12 ?_
  refine fz_isub (pc := 15) ok dX0_runBlock_15 ?_
  refine fz_iconst (pc := 16) (v := 1) ok dX0_runBlock_16 (by decide) ?_
  refine fz_iadd (pc := 17) ok dX0_runBlock_17 ?_
  refine fz_top (show _ = nI (j + 1) from by rw [em, aOf_nI em0 (by omega), pk_sub (Nat.le_add_right _ _), Nat.add_sub_cancel_left]; exact fz_a1 j) ?_
  refine fz_istore (pc := 18) (lc' := [_, _, _]) ok dX0_runBlock_18 (by decide) (Nat.le_of_ble_eq_true rfl) rfl ?_
  refine fz_aload (pc := 19) ok dX0_runBlock_19 rfl ?_
  refine fz_dup (pc := 20) ok dX0_runBlock_20 rfl ?_
  refine g0_fuel (pc := 21) ok dX0_runBlock_21 ?_
  refine fz_aload (pc := 24) ok dX0_runBlock_24 rfl ?_
  refine g0_blockCost (pc := 25) ok dX0_runBlock_25 ?_
  refine fz_aload (pc := 28) ok dX0_runBlock_28 rfl ?_
  refine g0_at (pc := 29) ok dX0_runBlock_29 ?_
  refine l0_blockCost (pc := 32) ok dX0_runBlock_32 (aOf mm) (em) (by omega) ?_
  refine fz_isub (pc := 33) ok dX0_runBlock_33 ?_
  refine p0_fuel (pc := 34) ok dX0_runBlock_34 (nI (f - s)) (by rw [ebc]; exact pk_sub hf) ?_
  refine fz_iconst (pc := 37) (v := 0) ok dX0_runBlock_37 (by decide) ?_
  refine fz_top (nI_0.symm) ?_
  refine fz_istore (pc := 38) (lc' := [_, _, _, _]) ok dX0_runBlock_38 (by decide) (Nat.le_of_ble_eq_true rfl) rfl ?_
  exact loop j 0 (aOf mm) s mm (by omega) em hlt h1 hbl rfl rfl
theorem m0_crawl (q : fz_Q) (o : fz_O) {sz ck gd ls st : Int32} {op cn ht ld bc be li : Nat → Int32} {n : Nat} {hh : Nat → Int32} {mm : Ms} (hn : n ≤ 24) (hop : OpOK n op) (hc : Cl n op cn hh) (h1 : Ok1 n hh mm) {f0 j s : Nat} (hlt : aOf mm + j < n) (hbl : Bl op cn (aOf mm) j s) (hf : f0 < s) (hf2 : f0 ≤ 2000) : fz_Mv q yX0_crawl cX0_crawl 2 2 [.ref o.1] (wg q o sz ck gd ls st (nI f0) mm.1 (nI mm.2.1) op cn ht ld bc be li mm.2.2.1 mm.2.2.2) (fun u : Nat => (itN (mu op cn) u (false, f0, mm)).1 = false ∧ mu op cn (itN (mu op cn) u (false, f0, mm)) = itN (mu op cn) u (false, f0, mm)) (fun u => (wg q o sz ck gd ls 2 (nI (itN (mu op cn) u (false, f0, mm)).2.1) ((itN (mu op cn) u (false, f0, mm)).2.2.1) (nI (itN (mu op cn) u (false, f0, mm)).2.2.2.1) op cn ht ld bc be li ((itN (mu op cn) u (false, f0, mm)).2.2.2.2.1) ((itN (mu op cn) u (false, f0, mm)).2.2.2.2.2))) := by
  refine fz_ofv (own := RX0) (by decide) rfl rfl (Nat.le_of_ble_eq_true rfl) ?_
  intro x ok hret
  obtain ⟨a0, em0, ha0, -, -⟩ := id h1
  have ea0 : aOf mm = a0 := aOf_nI em0 (by omega)
  have em : mm.1 = nI (aOf mm) := by rw [ea0]; exact em0
  have loop : ∀ (j i k f s p : Nat) (m : Ms), itN (mu op cn) k (false, f0, mm) = (false, f, m) → i + j < 24 → m.1 = nI p → p + j < n → Ok1 n hh m → Bl op cn p j s → f < s → f ≤ 2000 → fz_A q x (wg q o sz ck gd ls st (nI f) m.1 (nI m.2.1) op cn ht ld bc be li m.2.2.1 m.2.2.2) 2 [.ref o.1, .int (nI i)] [] := by
    intro j
    induction j with
    | zero =>
      intro i k f s p m hk hi em hp g1 hb hfs hf2
      obtain ⟨c, ho, eo⟩ := hop p (by omega)
      have ea : aOf m = p := aOf_nI em (by omega)
      have hb : s = cst op cn p := hb
      refine fz_iload (pc := 2) ok dX0_crawl_2 rfl ?_
      refine fz_bipush (pc := 3) (v := 24) ok dX0_crawl_3 (by decide) ?_
      refine fz_icmp_ge (pc := 5) (tgt := 50) ok dX0_crawl_5 (by decide) (fun c5 => ?_) (fun c5 => ?_)
      · exact absurd ((nI_leI (a := 24) (by decide) (by omega)).mp c5) (by omega)
      · refine fz_aload (pc := 8) ok dX0_crawl_8 rfl ?_
        refine g0_fuel (pc := 9) ok dX0_crawl_9 ?_
        refine fz_aload (pc := 12) ok dX0_crawl_12 rfl ?_
        refine fz_aload (pc := 13) ok dX0_crawl_13 rfl ?_
        refine g0_at (pc := 14) ok dX0_crawl_14 ?_
        refine fz_top (em) ?_
        refine k0_costOf (pc := 17) ok (m0_costOf q o (p := p) (c := c) (by omega) eo ho) rfl (by decide) (Nat.le_of_ble_eq_true rfl) dX0_crawl_17 (fun r u hu => ?_)
        subst hu
        refine fz_icmp_lt (pc := 20) (tgt := 50) ok dX0_crawl_20 (by decide) (fun c20 => ?_) (fun c20 => ?_)
        · have hr := hret k
          rw [hk] at hr
          have hlt : f < cst op cn p := (nI_ltI (by omega) (by have := cst_le op cn p; omega)).mp c20
          refine fz_aload (pc := 50) ok dX0_crawl_50 rfl ?_
          refine fz_iconst (pc := 51) (v := 2) ok dX0_crawl_51 (by decide) ?_
          refine p0_state (pc := 52) ok dX0_crawl_52 (_) (rfl) ?_
          exact hr _ _ dX0_crawl_55 ⟨rfl, mu_no (by show ¬ cst op cn (aOf m) ≤ f; rw [ea]; omega)⟩
        · have hge : cst op cn p ≤ f := Nat.not_lt.mp (fun h => c20 ((nI_ltI (by omega) (by have := cst_le op cn p; omega)).mpr h))
          exact absurd hge (by omega)
    | succ j ih =>
      intro i k f s p m hk hi em hp g1 hb hfs hf2
      obtain ⟨c, ho, eo⟩ := hop p (by omega)
      have ea : aOf m = p := aOf_nI em (by omega)
      obtain ⟨h13, hj, s2, es, hb2⟩ := hb
      refine fz_iload (pc := 2) ok dX0_crawl_2 rfl ?_
      refine fz_bipush (pc := 3) (v := 24) ok dX0_crawl_3 (by decide) ?_
      refine fz_icmp_ge (pc := 5) (tgt := 50) ok dX0_crawl_5 (by decide) (fun c5 => ?_) (fun c5 => ?_)
      · exact absurd ((nI_leI (a := 24) (by decide) (by omega)).mp c5) (by omega)
      · refine fz_aload (pc := 8) ok dX0_crawl_8 rfl ?_
        refine g0_fuel (pc := 9) ok dX0_crawl_9 ?_
        refine fz_aload (pc := 12) ok dX0_crawl_12 rfl ?_
        refine fz_aload (pc := 13) ok dX0_crawl_13 rfl ?_
        refine g0_at (pc := 14) ok dX0_crawl_14 ?_
        refine fz_top (em) ?_
        refine k0_costOf (pc := 17) ok (m0_costOf q o (p := p) (c := c) (by omega) eo ho) rfl (by decide) (Nat.le_of_ble_eq_true rfl) dX0_crawl_17 (fun r u hu => ?_)
        subst hu
        refine fz_icmp_lt (pc := 20) (tgt := 50) ok dX0_crawl_20 (by decide) (fun c20 => ?_) (fun c20 => ?_)
        · have hr := hret k
          rw [hk] at hr
          have hlt : f < cst op cn p := (nI_ltI (by omega) (by have := cst_le op cn p; omega)).mp c20
          refine fz_aload (pc := 50) ok dX0_crawl_50 rfl ?_
          refine fz_iconst (pc := 51) (v := 2) ok dX0_crawl_51 (by decide) ?_
          refine p0_state (pc := 52) ok dX0_crawl_52 (_) (rfl) ?_
          exact hr _ _ dX0_crawl_55 ⟨rfl, mu_no (by show ¬ cst op cn (aOf m) ≤ f; rw [ea]; omega)⟩
        · have hge : cst op cn p ≤ f := Nat.not_lt.mp (fun h => c20 ((nI_ltI (by omega) (by have := cst_le op cn p; omega)).mpr h))
          refine fz_aload (pc := 23) ok dX0_crawl_23 rfl ?_
          refine fz_dup (pc := 24) ok dX0_crawl_24 rfl ?_
          refine g0_fuel (pc := 25) ok dX0_crawl_25 ?_
          refine fz_aload (pc := 28) ok dX0_crawl_28 rfl ?_
          refine fz_aload (pc := 29) ok dX0_crawl_29 rfl ?_
          refine g0_at (pc := 30) ok dX0_crawl_30 ?_
          refine fz_top (em) ?_
          refine k0_costOf (pc := 33) ok (m0_costOf q o (p := p) (c := c) (by omega) eo ho) rfl (by decide) (Nat.le_of_ble_eq_true rfl) dX0_crawl_33 (fun r u hu => ?_)
          subst hu
          refine fz_isub (pc := 36) ok dX0_crawl_36 ?_
          refine p0_fuel (pc := 37) ok dX0_crawl_37 (nI (f - cst op cn p)) (pk_sub hge) ?_
          refine fz_aload (pc := 40) ok dX0_crawl_40 rfl ?_
          refine k0_perform (pc := 41) ok (m0_perform q o (ok1_pre hn hop hc g1)) rfl (by decide) (Nat.le_of_ble_eq_true rfl) dX0_crawl_41 (fun u hu => ?_)
          have eoo : oOf op m ≠ 13 := by unfold oOf; rw [ea]; exact h13
          rw [stT_no eoo]
          refine fz_iinc (pc := 44) (v := nI (i + 1)) (lc' := [_, _]) ok dX0_crawl_44 (by decide) rfl (fz_a1 i) rfl ?_
          refine fz_goto (pc := 47) (tgt := 2) ok dX0_crawl_47 (by decide) ?_
          exact ih (i + 1) (k + 1) (f - cst op cn p) s2 (p + 1) (sp op cn m) (by rw [itN_succ, hk, mu_yes (by rw [ea]; exact hge), ea]; simp [eoo]) (by omega) (sp_next em (by omega) h13 hj) (by omega) (ok1_step hn hop hc g1) hb2 (by omega) (by omega)
  refine fz_iconst (pc := 0) (v := 0) ok dX0_crawl_0 (by decide) ?_
  refine fz_top (nI_0.symm) ?_
  refine fz_istore (pc := 1) (lc' := [_, _]) ok dX0_crawl_1 (by decide) (Nat.le_of_ble_eq_true rfl) rfl ?_
  exact loop j 0 0 f0 s (aOf mm) mm rfl (by omega) em hlt h1 hbl hf hf2
theorem m0_carryOn (q : fz_Q) (o : fz_O) {sz ck gd ls st : Int32} {op cn ht ld bc be li : Nat → Int32} {n : Nat} {hh : Nat → Int32} {mm : Ms} (hn : n ≤ 24) (hop : OpOK n op) (hc : Cl n op cn hh) (h1 : Ok1 n hh mm) {f0 : Nat} (hbk : ∀ p, p < n → BK n op cn bc be p) (hf : f0 ≤ 2000) : fz_Mv q yX0_carryOn cX0_carryOn 2 3 [.ref o.1] (wg q o sz ck gd ls st (nI f0) mm.1 (nI mm.2.1) op cn ht ld bc be li mm.2.2.1 mm.2.2.2) (fun u : Nat => mu op cn (itN (mu op cn) u (false, f0, mm)) = itN (mu op cn) u (false, f0, mm)) (fun u => (wg q o sz ck gd ls (fst2 (itN (mu op cn) u (false, f0, mm)).1) (nI (itN (mu op cn) u (false, f0, mm)).2.1) ((itN (mu op cn) u (false, f0, mm)).2.2.1) (nI (itN (mu op cn) u (false, f0, mm)).2.2.2.1) op cn ht ld bc be li ((itN (mu op cn) u (false, f0, mm)).2.2.2.2.1) ((itN (mu op cn) u (false, f0, mm)).2.2.2.2.2))) := by
  refine fz_ofv (own := RX0) (by decide) rfl rfl (Nat.le_of_ble_eq_true rfl) ?_
  intro x ok hret
  have done : ∀ (k i : Nat) (cf : Cf) (sv : Int32), itN (mu op cn) k (false, f0, mm) = cf → mu op cn cf = cf → sv = fst2 cf.1 → fz_A q x (wg q o sz ck gd ls sv (nI cf.2.1) cf.2.2.1 (nI cf.2.2.2.1) op cn ht ld bc be li cf.2.2.2.2.1 cf.2.2.2.2.2) 7 [.ref o.1, .int (nI i)] [] := by
    intro k i cf sv hk hmu hsv
    have hr := hret k
    rw [hk, ← hsv] at hr
    have hne : ¬ sv = 0 := by rw [hsv]; cases cf.1 <;> decide +kernel
    refine fz_iload (pc := 7) ok dX0_carryOn_7 rfl ?_
    refine fz_sipush (pc := 8) (v := 2000) ok dX0_carryOn_8 (by decide) ?_
    refine fz_icmp_gt (pc := 11) (tgt := 54) ok dX0_carryOn_11 (by decide) (fun c11 => ?_) (fun c11 => ?_)
    · exact hr _ _ dX0_carryOn_54 hmu
    · refine fz_aload (pc := 14) ok dX0_carryOn_14 rfl ?_
      refine g0_state (pc := 15) ok dX0_carryOn_15 ?_
      refine fz_if_ne (pc := 18) (tgt := 54) ok dX0_carryOn_18 (by decide) (fun c18 => ?_) (fun c18 => ?_)
      · exact hr _ _ dX0_carryOn_54 hmu
      · exact absurd c18 hne
  have loop : ∀ (g i k f : Nat) (m : Ms), f < g → itN (mu op cn) k (false, f0, mm) = (false, f, m) → i + f ≤ 2000 → Ok1 n hh m → fz_A q x (wg q o sz ck gd ls 0 (nI f) m.1 (nI m.2.1) op cn ht ld bc be li m.2.2.1 m.2.2.2) 7 [.ref o.1, .int (nI i)] [] := by
    intro g
    induction g with
    | zero => intro i k f m hg; exact absurd hg (Nat.not_lt_zero _)
    | succ g ih =>
      intro i k f m hg hk hif g1
      obtain ⟨p, em, hp, -, -⟩ := id g1
      have ea : aOf m = p := aOf_nI em (by omega)
      obtain ⟨j, s, ebe, ebc, hlt, hs16, hs1, hbl⟩ := hbk p hp
      subst ea
      refine fz_iload (pc := 7) ok dX0_carryOn_7 rfl ?_
      refine fz_sipush (pc := 8) (v := 2000) ok dX0_carryOn_8 (by decide) ?_
      refine fz_icmp_gt (pc := 11) (tgt := 54) ok dX0_carryOn_11 (by decide) (fun c11 => ?_) (fun c11 => ?_)
      · exact absurd ((nI_ltI (a := 2000) (by decide) (by omega)).mp c11) (by omega)
      · refine fz_aload (pc := 14) ok dX0_carryOn_14 rfl ?_
        refine g0_state (pc := 15) ok dX0_carryOn_15 ?_
        refine fz_if_ne (pc := 18) (tgt := 54) ok dX0_carryOn_18 (by decide) (fun c18 => ?_) (fun c18 => ?_)
        · exact absurd rfl c18
        · refine fz_aload (pc := 21) ok dX0_carryOn_21 rfl ?_
          refine g0_fuel (pc := 22) ok dX0_carryOn_22 ?_
          refine fz_aload (pc := 25) ok dX0_carryOn_25 rfl ?_
          refine g0_blockCost (pc := 26) ok dX0_carryOn_26 ?_
          refine fz_aload (pc := 29) ok dX0_carryOn_29 rfl ?_
          refine g0_at (pc := 30) ok dX0_carryOn_30 ?_
          refine l0_blockCost (pc := 33) ok dX0_carryOn_33 (aOf m) (em) (by omega) ?_
          refine fz_top (ebc) ?_
          refine fz_icmp_lt (pc := 34) (tgt := 44) ok dX0_carryOn_34 (by decide) (fun c34 => ?_) (fun c34 => ?_)
          · have hfs : f < s := (nI_ltI (by omega) (by omega)).mp c34
            refine fz_aload (pc := 44) ok dX0_carryOn_44 rfl ?_
            refine k0_crawl (pc := 45) ok (m0_crawl q o hn hop hc g1 (j := j) (s := s) hlt hbl hfs (by omega)) rfl (by decide) (Nat.le_of_ble_eq_true rfl) dX0_carryOn_45 (fun u hu => ?_)
            refine fz_iinc (pc := 48) (v := nI (i + 1)) (lc' := [_, _]) ok dX0_carryOn_48 (by decide) rfl (fz_a1 i) rfl ?_
            refine fz_goto (pc := 51) (tgt := 7) ok dX0_carryOn_51 (by decide) ?_
            exact done (k + u) (i + 1) (itN (mu op cn) u (false, f, m)) 2 (by rw [itN_add, hk]) hu.2 (by rw [hu.1]; rfl)
          · have hfs : s ≤ f := Nat.not_lt.mp (fun h => c34 ((nI_ltI (by omega) (by omega)).mpr h))
            have hrun := bl_run j (aOf m) s f m hbl hfs em (by omega)
            refine fz_aload (pc := 37) ok dX0_carryOn_37 rfl ?_
            refine k0_runBlock (pc := 38) ok (m0_runBlock q o (st := 0) hn hop hc g1 (j := j) (s := s) ebe ebc hlt hbl hfs) rfl (by decide) (Nat.le_of_ble_eq_true rfl) dX0_carryOn_38 (fun u hu => ?_)
            refine fz_goto (pc := 41) (tgt := 48) ok dX0_carryOn_41 (by decide) ?_
            refine fz_iinc (pc := 48) (v := nI (i + 1)) (lc' := [_, _]) ok dX0_carryOn_48 (by decide) rfl (fz_a1 i) rfl ?_
            refine fz_goto (pc := 51) (tgt := 7) ok dX0_carryOn_51 (by decide) ?_
            cases hdec : decide (oOf op (itN (sp op cn) j m) = 13) with
            | true =>
              rw [hdec] at hrun
              exact done (k + (j + 1)) (i + 1) (true, f - s, itN (sp op cn) (j + 1) m) 1 (by rw [itN_add, hk, hrun]) (mu_stop rfl) rfl
            | false =>
              rw [hdec] at hrun
              exact ih (i + 1) (k + (j + 1)) (f - s) (itN (sp op cn) (j + 1) m) (by omega) (by rw [itN_add, hk, hrun]) (by omega) (ok1_steps hn hop hc (j + 1) m g1)
  refine fz_aload (pc := 0) ok dX0_carryOn_0 rfl ?_
  refine fz_iconst (pc := 1) (v := 0) ok dX0_carryOn_1 (by decide) ?_
  refine p0_state (pc := 2) ok dX0_carryOn_2 (_) (rfl) ?_
  refine fz_iconst (pc := 5) (v := 0) ok dX0_carryOn_5 (by decide) ?_
  refine fz_top (nI_0.symm) ?_
  refine fz_istore (pc := 6) (lc' := [_, _]) ok dX0_carryOn_6 (by decide) (Nat.le_of_ble_eq_true rfl) rfl ?_
  exact loop (f0 + 1) 0 0 f0 mm (Nat.lt_succ_self _) rfl (by omega) h1
end
section
set_option maxRecDepth 100000
/-! FuelGate: makeBlocks, follow, check -/
theorem fz_take {q : fz_Q} {x : fz_X} {ws : va_W} {pc : Nat} {lc lc' st : List Value} (k : Nat) (hl : lc.take k = lc') (kk : fz_A q x ws pc lc' st) : fz_A q x ws pc lc st := by
  subst hl
  obtain ⟨p, e, R, s, m, args, below, meth, c, A, Qf, nc, ns⟩ := x
  intro H locs ls hP hD hS hl
  refine kk H locs ls hP hD hS ⟨hl.1, hl.2.1, fun v hv => hl.2.2.1 v (List.mem_of_mem_take hv), fun i v hv => hl.2.2.2 i v ?_⟩
  rw [List.getElem?_take] at hv
  split at hv
  · exact hv
  · cases hv
theorem usN_le (c : Nat) : usN c ≤ 2 := by
  unfold usN
  split <;> omega
theorem jmI_zero {c : Nat} (h : jmI c = 0) : ¬ (8 ≤ c ∧ c ≤ 10) := fun g => by
  rw [jmI_pos g.1 g.2] at h
  exact absurd h (by decide +kernel)
theorem jmI_one {c : Nat} (h : ¬ jmI c = 0) : 8 ≤ c ∧ c ≤ 10 := by
  rcases Nat.lt_or_ge c 8 with a | a
  · exact absurd (jmI_neg (Or.inl a)) h
  · rcases Nat.lt_or_ge 10 c with b | b
    · exact absurd (jmI_neg (Or.inr b)) h
    · exact ⟨a, b⟩
def CK (n : Nat) (op cn : Nat → Int32) (ck gd : Int32) (ht bc be : Nat → Int32) : Prop := ck = 0 ∨ (ck = 1 ∧ ((gd = 1 ∧ Cl n op cn ht ∧ Mn n op cn ht ∧ Rg n ht ∧ ∀ p, p < n → BK n op cn bc be p) ∨ (gd = 0 ∧ ∀ h' : Nat → Int32, ¬ Cl n op cn h')))
theorem BK_upd {n : Nat} {op cn bc be : Nat → Int32} {p i : Nat} {v w : Int32} (h : BK n op cn bc be p) (hne : p ≠ i) : BK n op cn (upd bc i v) (upd be i w) p := by
  obtain ⟨j, s, h1, h2, h3⟩ := h
  exact ⟨j, s, by rw [pk_un hne]; exact h1, by rw [pk_un hne]; exact h2, h3⟩
theorem BK_one {n : Nat} {op cn bc be : Nat → Int32} {i : Nat} (hi : i < n) : BK n op cn (upd bc i (nI (cst op cn i))) (upd be i (nI i)) i := ⟨0, cst op cn i, pk_us, pk_us, hi, cst_le op cn i, cst_pos op cn i, rfl⟩
theorem BK_more {n : Nat} {op cn bc be : Nat → Int32} {i c : Nat} (eo : op i = nI c) (ho : c < 15) (h13 : c ≠ 13) (hj : ¬ (8 ≤ c ∧ c ≤ 10)) (h : BK n op cn bc be (i + 1)) : BK n op cn (upd bc i (nI (cst op cn i) + bc (i + 1))) (upd be i (be (i + 1))) i := by
  obtain ⟨j, s, h1, h2, h3, h4, h5, h6⟩ := h
  have ec : (op i).toNatClampNeg = c := by rw [eo, nI_clamp (by omega)]
  have := cst_le op cn i
  refine ⟨j + 1, cst op cn i + s, ?_, ?_, by omega, by omega, by omega, ?_⟩
  · rw [pk_us, h1]; congr 1; omega
  · rw [pk_us, h2]; exact nI_add _ _
  · exact ⟨by rw [ec]; exact h13, by rw [ec]; exact hj, s, rfl, h6⟩
def Lx (k k' : Nat) (li li' : Nat → Int32) : Prop := k ≤ k' ∧ ∀ j, j < k → li' j = li j
theorem Lx_refl (k : Nat) (li : Nat → Int32) : Lx k k li li := ⟨Nat.le_refl _, fun _ _ => rfl⟩
theorem Lx_trans {k1 k2 k3 : Nat} {a b c : Nat → Int32} (h1 : Lx k1 k2 a b) (h2 : Lx k2 k3 b c) : Lx k1 k3 a c := ⟨Nat.le_trans h1.1 h2.1, fun j hj => by rw [h2.2 j (Nat.lt_of_lt_of_le hj h1.1), h1.2 j hj]⟩
/-- what comeTo makes of the heights, where every closed map has the height that comes -/
theorem come_ok {n k : Nat} {op cn ht li : Nat → Int32} {gd ls v1 v2 : Int32} {h : Nat} {u : Int32 × Int32 × (Nat → Int32) × (Nat → Int32)} (hn : n ≤ 24) (hls : ls = nI k) (hh : h ≤ 8) (hv2 : v2 = nI h) (hr : Rg n ht) (hm : Mn n op cn ht) (hl : Li n k ht li) (hF : ∀ h' : Nat → Int32, Cl n op cn h' → ∃ t : Nat, t < n ∧ v1 = nI t ∧ h' t = nI h) (hu : ((¬ ∃ j : Nat, j < n ∧ v1 = nI j) ∧ u = (0, ls, ht, li)) ∨ ∃ j : Nat, j < n ∧ v1 = nI j ∧ ((ht j < 0 ∧ u = (gd, nI (k + 1), upd ht j v2, upd li k v1)) ∨ (¬ ht j < 0 ∧ ht j ≠ v2 ∧ u = (0, ls, ht, li)) ∨ (¬ ht j < 0 ∧ ht j = v2 ∧ u = (gd, ls, ht, li)))) :
    ∃ k' : Nat, u.2.1 = nI k' ∧ Rg n u.2.2.1 ∧ Mn n op cn u.2.2.1 ∧ Li n k' u.2.2.1 u.2.2.2 ∧ Ex ht u.2.2.1 ∧ Lx k k' li u.2.2.2 ∧ ((u.1 = gd ∧ ∃ t : Nat, t < n ∧ v1 = nI t ∧ u.2.2.1 t = nI h) ∨ (u.1 = 0 ∧ ∀ h' : Nat → Int32, ¬ Cl n op cn h')) := by
  subst hv2
  rcases hu with ⟨hno, rfl⟩ | ⟨j, hj, ej, hu⟩
  · exact ⟨k, hls, hr, hm, hl, Ex_refl ht, Lx_refl k li, Or.inr ⟨rfl, fun h' hc => by
      obtain ⟨t, ht', et, -⟩ := hF h' hc
      exact hno ⟨t, ht', et⟩⟩⟩
  · have hF' : ∀ h' : Nat → Int32, Cl n op cn h' → h' j = nI h := fun h' hc => by
      obtain ⟨t, ht', et, e2⟩ := hF h' hc
      have : t = j := fz_inj (by omega) (by omega) (et.symm.trans ej)
      rw [← this]; exact e2
    rcases hu with ⟨hneg, rfl⟩ | ⟨hnn, hne, rfl⟩ | ⟨hnn, he, rfl⟩
    · refine ⟨k + 1, rfl, Rg_upd hr hj hh, Mn_upd hm hF', ?_, Ex_upd (Or.inl hneg), ⟨Nat.le_succ k, fun i hi => pk_un (Nat.ne_of_lt hi)⟩, Or.inl ⟨rfl, j, hj, ej, pk_us⟩⟩
      show Li n (k + 1) (upd ht j (nI h)) (upd li k v1)
      rw [ej]
      exact Li_upd hn hl hj hneg hh
    · exact ⟨k, hls, hr, hm, hl, Ex_refl ht, Lx_refl k li, Or.inr ⟨rfl, fun h' hc => hne (by rw [← hm h' hc j hj hnn]; exact hF' h' hc)⟩⟩
    · exact ⟨k, hls, hr, hm, hl, Ex_refl ht, Lx_refl k li, Or.inl ⟨rfl, j, hj, ej, he⟩⟩
theorem CO_of {n : Nat} {op cn hh : Nat → Int32} {p h c : Nat} (ho : c < 15) (eo : op p = nI c) (h1 : usN c ≤ h) (h2 : stD c h ≤ 8) (h3 : 8 ≤ c → c ≤ 10 → ∃ t : Nat, t < n ∧ cn p = nI t ∧ hh t = nI (stD c h)) (h4 : c ≠ 8 → c ≠ 13 → p + 1 < n ∧ hh (p + 1) = nI (stD c h)) : CO n op cn hh p h := by
  intro o ho' eo'
  have : o = c := fz_inj (by omega) (by omega) (eo'.symm.trans eo)
  subst this
  exact ⟨h1, h2, h3, h4⟩
/-- makeBlocks() -/
theorem m0_makeBlocks (q : fz_Q) (o : fz_O) {sz ck gd ls st fu pt dp : Int32} {op cn ht ld bc be li sk ce : Nat → Int32} {n : Nat} (hsz : sz = nI n) (hn : n ≤ 24) (hop : OpOK n op) : fz_Mv q yX0_makeBlocks cX0_makeBlocks 4 1 [.ref o.1] (wg q o sz ck gd ls st fu pt dp op cn ht ld bc be li sk ce) (fun u : (Nat → Int32) × (Nat → Int32) => ∀ p, p < n → BK n op cn u.1 u.2 p) (fun u => (wg q o sz ck gd ls st fu pt dp op cn ht ld u.1 u.2 li sk ce)) := by
  refine fz_ofv (own := RX0) (by decide) rfl rfl (Nat.le_of_ble_eq_true rfl) ?_
  intro x ok hret
  have loop : ∀ (i : Nat) (bc be : Nat → Int32), i ≤ n → (∀ p, i ≤ p → p < n → BK n op cn bc be p) → fz_A q x (wg q o sz ck gd ls st fu pt dp op cn ht ld bc be li sk ce) 7 [.ref o.1, .int (nI i - 1)] [] := by
    intro i
    induction i with
    | zero =>
      intro bc be hi hbk
      refine fz_iload (pc := 7) ok dX0_makeBlocks_7 rfl ?_
      refine fz_if_lt (pc := 8) (tgt := 119) ok dX0_makeBlocks_8 (by decide) (fun c8 => ?_) (fun c8 => ?_)
      · exact hret (bc, be) _ _ dX0_makeBlocks_119 (fun p hp => hbk p (Nat.zero_le p) hp)
      · exact absurd (by decide +kernel) c8
    | succ i ih =>
      intro bc be hi hbk
      rw [nI_pred]
      obtain ⟨c, ho, eo⟩ := hop i (by omega)
      have last1 : fz_A q x (wg q o sz ck gd ls st fu pt dp op cn ht ld bc be li sk ce) 61 [.ref o.1, .int (nI i), .int (nI (cst op cn i))] [] := by
        refine fz_iconst (pc := 61) (v := 1) ok dX0_makeBlocks_61 (by decide) ?_
        refine fz_goto (pc := 62) (tgt := 66) ok dX0_makeBlocks_62 (by decide) ?_
        refine fz_istore (pc := 66) (lc' := [_, _, _, _]) ok dX0_makeBlocks_66 (by decide) (Nat.le_of_ble_eq_true rfl) rfl ?_
        refine fz_aload (pc := 67) ok dX0_makeBlocks_67 rfl ?_
        refine g0_blockEnd (pc := 68) ok dX0_makeBlocks_68 ?_
        refine fz_iload (pc := 71) ok dX0_makeBlocks_71 rfl ?_
        refine fz_iload (pc := 72) ok dX0_makeBlocks_72 rfl ?_
        refine fz_if_eq (pc := 73) (tgt := 80) ok dX0_makeBlocks_73 (by decide) (fun c73 => ?_) (fun c73 => ?_)
        · exact absurd c73 (by decide +kernel)
        · refine fz_iload (pc := 76) ok dX0_makeBlocks_76 rfl ?_
          refine fz_goto (pc := 77) (tgt := 88) ok dX0_makeBlocks_77 (by decide) ?_
          refine s0_blockEnd (pc := 88) ok dX0_makeBlocks_88 (i) (rfl) (by omega) ?_
          refine fz_aload (pc := 89) ok dX0_makeBlocks_89 rfl ?_
          refine g0_blockCost (pc := 90) ok dX0_makeBlocks_90 ?_
          refine fz_iload (pc := 93) ok dX0_makeBlocks_93 rfl ?_
          refine fz_iload (pc := 94) ok dX0_makeBlocks_94 rfl ?_
          refine fz_if_eq (pc := 95) (tgt := 102) ok dX0_makeBlocks_95 (by decide) (fun c95 => ?_) (fun c95 => ?_)
          · exact absurd c95 (by decide +kernel)
          · refine fz_iload (pc := 98) ok dX0_makeBlocks_98 rfl ?_
            refine fz_goto (pc := 99) (tgt := 112) ok dX0_makeBlocks_99 (by decide) ?_
            refine s0_blockCost (pc := 112) ok dX0_makeBlocks_112 (i) (rfl) (by omega) ?_
            refine fz_iinc (pc := 113) (v := nI i - 1) (lc' := [_, _, _, _]) ok dX0_makeBlocks_113 (by decide) rfl (by rw [Int32.sub_eq_add_neg]; rfl) rfl ?_
            refine fz_goto (pc := 116) (tgt := 7) ok dX0_makeBlocks_116 (by decide) ?_
            refine fz_take 2 rfl ?_
            exact ih _ _ (by omega) (fun p h1 h2 => by rcases Nat.lt_or_eq_of_le h1 with g | g; exact BK_upd (hbk p g h2) (by omega); rw [← g]; exact BK_one (by omega))
      have last0 : c ≠ 13 → ¬ (8 ≤ c ∧ c ≤ 10) → i + 1 < n → fz_A q x (wg q o sz ck gd ls st fu pt dp op cn ht ld bc be li sk ce) 65 [.ref o.1, .int (nI i), .int (nI (cst op cn i))] [] := by
        intro h13 hj hlt
        refine fz_iconst (pc := 65) (v := 0) ok dX0_makeBlocks_65 (by decide) ?_
        refine fz_istore (pc := 66) (lc' := [_, _, _, _]) ok dX0_makeBlocks_66 (by decide) (Nat.le_of_ble_eq_true rfl) rfl ?_
        refine fz_aload (pc := 67) ok dX0_makeBlocks_67 rfl ?_
        refine g0_blockEnd (pc := 68) ok dX0_makeBlocks_68 ?_
        refine fz_iload (pc := 71) ok dX0_makeBlocks_71 rfl ?_
        refine fz_iload (pc := 72) ok dX0_makeBlocks_72 rfl ?_
        refine fz_if_eq (pc := 73) (tgt := 80) ok dX0_makeBlocks_73 (by decide) (fun c73 => ?_) (fun c73 => ?_)
        · refine fz_aload (pc := 80) ok dX0_makeBlocks_80 rfl ?_
          refine g0_blockEnd (pc := 81) ok dX0_makeBlocks_81 ?_
          refine fz_iload (pc := 84) ok dX0_makeBlocks_84 rfl ?_
          refine fz_iconst (pc := 85) (v := 1) ok dX0_makeBlocks_85 (by decide) ?_
          refine fz_iadd (pc := 86) ok dX0_makeBlocks_86 ?_
          refine l0_blockEnd (pc := 87) ok dX0_makeBlocks_87 (i + 1) (fz_a1 i) (by omega) ?_
          refine s0_blockEnd (pc := 88) ok dX0_makeBlocks_88 (i) (rfl) (by omega) ?_
          refine fz_aload (pc := 89) ok dX0_makeBlocks_89 rfl ?_
          refine g0_blockCost (pc := 90) ok dX0_makeBlocks_90 ?_
          refine fz_iload (pc := 93) ok dX0_makeBlocks_93 rfl ?_
          refine fz_iload (pc := 94) ok dX0_makeBlocks_94 rfl ?_
          refine fz_if_eq (pc := 95) (tgt := 102) ok dX0_makeBlocks_95 (by decide) (fun c95 => ?_) (fun c95 => ?_)
          · refine fz_iload (pc := 102) ok dX0_makeBlocks_102 rfl ?_
            refine fz_aload (pc := 103) ok dX0_makeBlocks_103 rfl ?_
            refine g0_blockCost (pc := 104) ok dX0_makeBlocks_104 ?_
            refine fz_iload (pc := 107) ok dX0_makeBlocks_107 rfl ?_
            refine fz_iconst (pc := 108) (v := 1) ok dX0_makeBlocks_108 (by decide) ?_
            refine fz_iadd (pc := 109) ok dX0_makeBlocks_109 ?_
            refine l0_blockCost (pc := 110) ok dX0_makeBlocks_110 (i + 1) (fz_a1 i) (by omega) ?_
            refine fz_iadd (pc := 111) ok dX0_makeBlocks_111 ?_
            refine s0_blockCost (pc := 112) ok dX0_makeBlocks_112 (i) (rfl) (by omega) ?_
            refine fz_iinc (pc := 113) (v := nI i - 1) (lc' := [_, _, _, _]) ok dX0_makeBlocks_113 (by decide) rfl (by rw [Int32.sub_eq_add_neg]; rfl) rfl ?_
            refine fz_goto (pc := 116) (tgt := 7) ok dX0_makeBlocks_116 (by decide) ?_
            refine fz_take 2 rfl ?_
            exact ih _ _ (by omega) (fun p h1 h2 => by rcases Nat.lt_or_eq_of_le h1 with g | g; exact BK_upd (hbk p g h2) (by omega); rw [← g]; exact BK_more eo ho h13 hj (hbk (i + 1) (Nat.le_refl _) hlt))
          · exact absurd rfl c95
        · exact absurd rfl c73
      refine fz_iload (pc := 7) ok dX0_makeBlocks_7 rfl ?_
      refine fz_if_lt (pc := 8) (tgt := 119) ok dX0_makeBlocks_8 (by decide) (fun c8 => ?_) (fun c8 => ?_)
      · exact absurd c8 (fz_nneg (by omega))
      · refine fz_aload (pc := 11) ok dX0_makeBlocks_11 rfl ?_
        refine fz_iload (pc := 12) ok dX0_makeBlocks_12 rfl ?_
        refine k0_costOf (pc := 13) ok (m0_costOf q o (p := i) (c := c) (by omega) eo ho) rfl (by decide) (Nat.le_of_ble_eq_true rfl) dX0_makeBlocks_13 (fun r u hu => ?_)
        subst hu
        refine fz_istore (pc := 16) (lc' := [_, _, _]) ok dX0_makeBlocks_16 (by decide) (Nat.le_of_ble_eq_true rfl) rfl ?_
        refine fz_aload (pc := 17) ok dX0_makeBlocks_17 rfl ?_
        refine g0_op (pc := 18) ok dX0_makeBlocks_18 ?_
        refine fz_iload (pc := 21) ok dX0_makeBlocks_21 rfl ?_
        refine l0_op (pc := 22) ok dX0_makeBlocks_22 (i) (rfl) (by omega) ?_
        refine fz_top (eo) ?_
        refine k0_jumps (pc := 23) ok (m0_jumps q ho) (by decide) (Nat.le_of_ble_eq_true rfl) dX0_makeBlocks_23 (fun r u hu => ?_)
        subst hu
        refine fz_if_ne (pc := 26) (tgt := 61) ok dX0_makeBlocks_26 (by decide) (fun c26 => ?_) (fun c26 => ?_)
        · exact last1
        · refine fz_aload (pc := 29) ok dX0_makeBlocks_29 rfl ?_
          refine g0_op (pc := 30) ok dX0_makeBlocks_30 ?_
          refine fz_iload (pc := 33) ok dX0_makeBlocks_33 rfl ?_
          refine l0_op (pc := 34) ok dX0_makeBlocks_34 (i) (rfl) (by omega) ?_
          refine fz_bipush (pc := 35) (v := 13) ok dX0_makeBlocks_35 (by decide) ?_
          refine fz_icmp_eq (pc := 37) (tgt := 61) ok dX0_makeBlocks_37 (by decide) (fun c37 => ?_) (fun c37 => ?_)
          · exact last1
          · refine fz_iload (pc := 40) ok dX0_makeBlocks_40 rfl ?_
            refine fz_aload (pc := 41) ok dX0_makeBlocks_41 rfl ?_
            refine g0_size (pc := 42) ok dX0_makeBlocks_42 ?_
            refine fz_iconst (pc := 45) (v := 1) ok dX0_makeBlocks_45 (by decide) ?_
            refine fz_isub (pc := 46) ok dX0_makeBlocks_46 ?_
            refine fz_icmp_eq (pc := 47) (tgt := 61) ok dX0_makeBlocks_47 (by decide) (fun c47 => ?_) (fun c47 => ?_)
            · exact last1
            · have hlt : i + 1 < n := by
                rcases Nat.lt_or_ge (i + 1) n with g | g
                · exact g
                · exact absurd (by rw [hsz, fz_s1 (by omega)]; congr 1; omega) c47
              refine fz_aload (pc := 50) ok dX0_makeBlocks_50 rfl ?_
              refine g0_leader (pc := 51) ok dX0_makeBlocks_51 ?_
              refine fz_iload (pc := 54) ok dX0_makeBlocks_54 rfl ?_
              refine fz_iconst (pc := 55) (v := 1) ok dX0_makeBlocks_55 (by decide) ?_
              refine fz_iadd (pc := 56) ok dX0_makeBlocks_56 ?_
              refine l0_leader (pc := 57) ok dX0_makeBlocks_57 (i + 1) (fz_a1 i) (by omega) ?_
              refine fz_if_eq (pc := 58) (tgt := 65) ok dX0_makeBlocks_58 (by decide) (fun c58 => ?_) (fun c58 => ?_)
              · exact last0 (fun e => c37 (by rw [eo, e]; rfl)) (jmI_zero c26) hlt
              · exact last1
  refine fz_aload (pc := 0) ok dX0_makeBlocks_0 rfl ?_
  refine g0_size (pc := 1) ok dX0_makeBlocks_1 ?_
  refine fz_iconst (pc := 4) (v := 1) ok dX0_makeBlocks_4 (by decide) ?_
  refine fz_isub (pc := 5) ok dX0_makeBlocks_5 ?_
  refine fz_top (show _ = nI n - 1 from by rw [hsz]) ?_
  refine fz_istore (pc := 6) (lc' := [_, _]) ok dX0_makeBlocks_6 (by decide) (Nat.le_of_ble_eq_true rfl) rfl ?_
  exact loop n bc be (Nat.le_refl _) (fun p h1 h2 => absurd h1 (by omega))
/-- follow(p) -/
theorem m0_follow (q : fz_Q) (o : fz_O) {sz ck gd ls st fu pt dp : Int32} {op cn ht ld bc be li sk ce : Nat → Int32} {n k p h c : Nat} (hsz : sz = nI n) (hn : n ≤ 24) (hls : ls = nI k) (hgd : gd = 1) (hp : p < n) (eo : op p = nI c) (ho : c < 15) (eh : ht p = nI h) (hh : h ≤ 8) (hr : Rg n ht) (hm : Mn n op cn ht) (hl : Li n k ht li) : fz_Mv q yX0_follow cX0_follow 5 1 [.ref o.1, .int (nI p)] (wg q o sz ck gd ls st fu pt dp op cn ht ld bc be li sk ce) (fun u : Int32 × Int32 × (Nat → Int32) × (Nat → Int32) × (Nat → Int32) => ∃ k2 : Nat, u.2.1 = nI k2 ∧ Rg n u.2.2.1 ∧ Mn n op cn u.2.2.1 ∧ Li n k2 u.2.2.1 u.2.2.2.2 ∧ Ex ht u.2.2.1 ∧ Lx k k2 li u.2.2.2.2 ∧ ((u.1 = 1 ∧ CO n op cn u.2.2.1 p h) ∨ (u.1 = 0 ∧ ∀ h' : Nat → Int32, ¬ Cl n op cn h'))) (fun u => (wg q o sz ck u.1 u.2.1 st fu pt dp op cn u.2.2.1 u.2.2.2.1 bc be u.2.2.2.2 sk ce)) := by
  refine fz_ofv (own := RX0) (by decide) rfl rfl (Nat.le_of_ble_eq_true rfl) ?_
  intro x ok hret
  have f103 : usN c ≤ h → stD c h ≤ 8 → ∀ (k2 : Nat) (gd2 : Int32) (ht2 ld2 li2 : Nat → Int32), Rg n ht2 → Mn n op cn ht2 → Li n k2 ht2 li2 → Ex ht ht2 → Lx k k2 li li2 → ((gd2 = 1 ∧ CO n op cn ht2 p h ∧ (c ≠ 8 → p + 1 < n)) ∨ (gd2 = 0 ∧ ∀ h' : Nat → Int32, ¬ Cl n op cn h')) → fz_A q x (wg q o sz ck gd2 (nI k2) st fu pt dp op cn ht2 ld2 bc be li2 sk ce) 103 [.ref o.1, .int (nI p), .int (nI c), .int (nI h), .int (nI (stD c h))] [] := by
    intro hus hst k2 gd2 ht2 ld2 li2 f1 f2 f3 f4 f6 f5
    refine fz_iload (pc := 103) ok dX0_follow_103 rfl ?_
    refine fz_bipush (pc := 104) (v := 8) ok dX0_follow_104 (by decide) ?_
    refine fz_icmp_eq (pc := 106) (tgt := 132) ok dX0_follow_106 (by decide) (fun c106 => ?_) (fun c106 => ?_)
    · exact hret (gd2, nI k2, ht2, ld2, li2) _ _ dX0_follow_132 ⟨k2, rfl, f1, f2, f3, f4, f6, (by rcases f5 with ⟨a1, a2, a3⟩ | a; exact Or.inl ⟨a1, a2⟩; exact Or.inr a)⟩
    · refine fz_iload (pc := 109) ok dX0_follow_109 rfl ?_
      refine k0_jumps (pc := 110) ok (m0_jumps q ho) (by decide) (Nat.le_of_ble_eq_true rfl) dX0_follow_110 (fun r u hu => ?_)
      subst hu
      refine fz_if_eq (pc := 113) (tgt := 132) ok dX0_follow_113 (by decide) (fun c113 => ?_) (fun c113 => ?_)
      · exact hret (gd2, nI k2, ht2, ld2, li2) _ _ dX0_follow_132 ⟨k2, rfl, f1, f2, f3, f4, f6, (by rcases f5 with ⟨a1, a2, a3⟩ | a; exact Or.inl ⟨a1, a2⟩; exact Or.inr a)⟩
      · refine fz_aload (pc := 116) ok dX0_follow_116 rfl ?_
        refine g0_good (pc := 117) ok dX0_follow_117 ?_
        refine fz_if_eq (pc := 120) (tgt := 132) ok dX0_follow_120 (by decide) (fun c120 => ?_) (fun c120 => ?_)
        · exact hret (gd2, nI k2, ht2, ld2, li2) _ _ dX0_follow_132 ⟨k2, rfl, f1, f2, f3, f4, f6, (by rcases f5 with ⟨a1, a2, a3⟩ | a; exact Or.inl ⟨a1, a2⟩; exact Or.inr a)⟩
        · have hp1 : p + 1 < n := by
            rcases f5 with ⟨a1, a2, a3⟩ | a
            · exact a3 (fun e => c106 (by rw [e]; rfl))
            · exact absurd a.1 c120
          refine fz_aload (pc := 123) ok dX0_follow_123 rfl ?_
          refine g0_leader (pc := 124) ok dX0_follow_124 ?_
          refine fz_iload (pc := 127) ok dX0_follow_127 rfl ?_
          refine fz_iconst (pc := 128) (v := 1) ok dX0_follow_128 (by decide) ?_
          refine fz_iadd (pc := 129) ok dX0_follow_129 ?_
          refine fz_iconst (pc := 130) (v := 1) ok dX0_follow_130 (by decide) ?_
          refine s0_leader (pc := 131) ok dX0_follow_131 (p + 1) (fz_a1 p) (by omega) ?_
          exact hret (gd2, nI k2, ht2, upd ld2 (p + 1) (vp_nar .boolean 1), li2) _ _ dX0_follow_132 ⟨k2, rfl, f1, f2, f3, f4, f6, (by rcases f5 with ⟨a1, a2, a3⟩ | a; exact Or.inl ⟨a1, a2⟩; exact Or.inr a)⟩
  have f88 : usN c ≤ h → stD c h ≤ 8 → c ≠ 13 → ∀ (k2 : Nat) (gd2 : Int32) (ht2 ld2 li2 : Nat → Int32), Rg n ht2 → Mn n op cn ht2 → Li n k2 ht2 li2 → Ex ht ht2 → Lx k k2 li li2 → ((gd2 = 1 ∧ (8 ≤ c → c ≤ 10 → ∃ t : Nat, t < n ∧ cn p = nI t ∧ ht2 t = nI (stD c h))) ∨ (gd2 = 0 ∧ ∀ h' : Nat → Int32, ¬ Cl n op cn h')) → fz_A q x (wg q o sz ck gd2 (nI k2) st fu pt dp op cn ht2 ld2 bc be li2 sk ce) 88 [.ref o.1, .int (nI p), .int (nI c), .int (nI h), .int (nI (stD c h))] [] := by
    intro hus hst h13 k2 gd2 ht2 ld2 li2 f1 f2 f3 f4 f6 f5
    refine fz_iload (pc := 88) ok dX0_follow_88 rfl ?_
    refine fz_bipush (pc := 89) (v := 8) ok dX0_follow_89 (by decide) ?_
    refine fz_icmp_eq (pc := 91) (tgt := 103) ok dX0_follow_91 (by decide) (fun c91 => ?_) (fun c91 => ?_)
    · have ec : c = 8 := fz_inj (by omega) (by decide) c91
      exact f103 hus hst k2 gd2 ht2 ld2 li2 f1 f2 f3 f4 f6 (by rcases f5 with ⟨a1, a2⟩ | a; exact Or.inl ⟨a1, CO_of ho eo hus hst a2 (fun z => absurd ec z), fun z => absurd ec z⟩; exact Or.inr a)
    · have ec : c ≠ 8 := fun z => c91 (by rw [z]; rfl)
      have hF : ∀ h' : Nat → Int32, Cl n op cn h' → ∃ t : Nat, t < n ∧ nI (p + 1) = nI t ∧ h' t = nI (stD c h) := fun h' hc => by
        obtain ⟨z1, z2⟩ := (Cl_jump hm hc hp hh eh ho eo).2.2.2 ec h13
        exact ⟨p + 1, z1, rfl, z2⟩
      refine fz_aload (pc := 94) ok dX0_follow_94 rfl ?_
      refine fz_iload (pc := 95) ok dX0_follow_95 rfl ?_
      refine fz_iconst (pc := 96) (v := 1) ok dX0_follow_96 (by decide) ?_
      refine fz_iadd (pc := 97) ok dX0_follow_97 ?_
      refine fz_top (fz_a1 p) ?_
      refine fz_iloadL (pc := 98) ok dX0_follow_98 rfl ?_
      refine k0_comeTo (pc := 100) ok (m0_comeTo q o hsz hn (k := k2) rfl (nI (p + 1)) (nI (stD c h)) (fun j hj _ hneg => Li_room hn f3 hj hneg)) rfl (by decide) (Nat.le_of_ble_eq_true rfl) dX0_follow_100 (fun u hu => ?_)
      obtain ⟨k3, e3, g1, g2, g3, g4, g6, g5⟩ := come_ok hn rfl hst rfl f1 f2 f3 hF hu
      obtain ⟨gd3, ls3, ht3, li3⟩ := u
      dsimp only at e3 g1 g2 g3 g4 g6 g5 ⊢
      subst e3
      refine f103 hus hst k3 gd3 ht3 ld2 li3 g1 g2 g3 (Ex_trans f4 g4) (Lx_trans f6 g6) ?_
      rcases g5 with ⟨b1, t, b2, b3, b4⟩ | b
      · rcases f5 with ⟨a1, a2⟩ | a
        · have et : t = p + 1 := fz_inj (by omega) (by omega) b3.symm
          subst et
          refine Or.inl ⟨b1.trans a1, CO_of ho eo hus hst (fun y z => ?_) (fun _ _ => ⟨b2, b4⟩), fun _ => b2⟩
          obtain ⟨t2, d1, d2, d3⟩ := a2 y z
          exact ⟨t2, d1, d2, by rw [g4 t2 (by omega) (by rw [d3]; exact fz_nneg (by omega))]; exact d3⟩
        · exact Or.inr ⟨b1.trans a.1, a.2⟩
      · exact Or.inr b
  refine fz_aload (pc := 0) ok dX0_follow_0 rfl ?_
  refine g0_op (pc := 1) ok dX0_follow_1 ?_
  refine fz_iload (pc := 4) ok dX0_follow_4 rfl ?_
  refine l0_op (pc := 5) ok dX0_follow_5 (p) (rfl) (by omega) ?_
  refine fz_top (eo) ?_
  refine fz_istore (pc := 6) (lc' := [_, _, _]) ok dX0_follow_6 (by decide) (Nat.le_of_ble_eq_true rfl) rfl ?_
  refine fz_aload (pc := 7) ok dX0_follow_7 rfl ?_
  refine g0_heights (pc := 8) ok dX0_follow_8 ?_
  refine fz_iload (pc := 11) ok dX0_follow_11 rfl ?_
  refine l0_heights (pc := 12) ok dX0_follow_12 (p) (rfl) (by omega) ?_
  refine fz_top (eh) ?_
  refine fz_istore (pc := 13) (lc' := [_, _, _, _]) ok dX0_follow_13 (by decide) (Nat.le_of_ble_eq_true rfl) rfl ?_
  refine fz_iload (pc := 14) ok dX0_follow_14 rfl ?_
  refine fz_iload (pc := 15) ok dX0_follow_15 rfl ?_
  refine k0_growth (pc := 16) ok (m0_growth q ho) (by decide) (Nat.le_of_ble_eq_true rfl) dX0_follow_16 (fun r u hu => ?_)
  subst hu
  refine fz_iadd (pc := 19) ok dX0_follow_19 ?_
  refine fz_istoreL (pc := 20) (lc' := [_, _, _, _, _]) ok dX0_follow_20 (by decide) (Nat.le_of_ble_eq_true rfl) rfl ?_
  refine fz_iload (pc := 22) ok dX0_follow_22 rfl ?_
  refine fz_iload (pc := 23) ok dX0_follow_23 rfl ?_
  refine k0_uses (pc := 24) ok (m0_uses q ho) (by decide) (Nat.le_of_ble_eq_true rfl) dX0_follow_24 (fun r u hu => ?_)
  subst hu
  refine fz_icmp_lt (pc := 27) (tgt := 37) ok dX0_follow_27 (by decide) (fun c27 => ?_) (fun c27 => ?_)
  · have hlt : h < usN c := (nI_ltI (by omega) (by have := usN_le c; omega)).mp c27
    refine fz_aload (pc := 37) ok dX0_follow_37 rfl ?_
    refine fz_iconst (pc := 38) (v := 0) ok dX0_follow_38 (by decide) ?_
    refine p0_good (pc := 39) ok dX0_follow_39 (_) (rfl) (Or.inl rfl) ?_
    exact hret (0, ls, ht, ld, li) _ _ dX0_follow_42 ⟨k, hls, hr, hm, hl, Ex_refl ht, Lx_refl k li, Or.inr ⟨rfl, fun h' hc => absurd (Cl_jump hm hc hp hh eh ho eo).1 (by omega)⟩⟩
  · have hus : usN c ≤ h := Nat.not_lt.mp (fun z => c27 ((nI_ltI (by omega) (by have := usN_le c; omega)).mpr z))
    rw [fz_behind ho hus]
    have h9 : stD c h ≤ 9 := stD_le hh
    refine fz_iloadL (pc := 30) ok dX0_follow_30 rfl ?_
    refine fz_bipush (pc := 32) (v := 8) ok dX0_follow_32 (by decide) ?_
    refine fz_icmp_le (pc := 34) (tgt := 43) ok dX0_follow_34 (by decide) (fun c34 => ?_) (fun c34 => ?_)
    · have hst : stD c h ≤ 8 := (nI_leI (b := 8) (by omega) (by decide)).mp c34
      refine fz_iload (pc := 43) ok dX0_follow_43 rfl ?_
      refine fz_bipush (pc := 44) (v := 13) ok dX0_follow_44 (by decide) ?_
      refine fz_icmp_ne (pc := 46) (tgt := 50) ok dX0_follow_46 (by decide) (fun c46 => ?_) (fun c46 => ?_)
      · have h13 : c ≠ 13 := fun z => c46 (by rw [z]; rfl)
        refine fz_iload (pc := 50) ok dX0_follow_50 rfl ?_
        refine k0_jumps (pc := 51) ok (m0_jumps q ho) (by decide) (Nat.le_of_ble_eq_true rfl) dX0_follow_51 (fun r u hu => ?_)
        subst hu
        refine fz_if_eq (pc := 54) (tgt := 88) ok dX0_follow_54 (by decide) (fun c54 => ?_) (fun c54 => ?_)
        · subst hls
          exact f88 hus hst h13 k gd ht ld li hr hm hl (Ex_refl ht) (Lx_refl k li) (Or.inl ⟨hgd, fun y z => absurd ⟨y, z⟩ (jmI_zero c54)⟩)
        · have hj := jmI_one c54
          have hF : ∀ h' : Nat → Int32, Cl n op cn h' → ∃ t : Nat, t < n ∧ cn p = nI t ∧ h' t = nI (stD c h) := fun h' hc => (Cl_jump hm hc hp hh eh ho eo).2.2.1 hj.1 hj.2
          refine fz_aload (pc := 57) ok dX0_follow_57 rfl ?_
          refine fz_aload (pc := 58) ok dX0_follow_58 rfl ?_
          refine g0_con (pc := 59) ok dX0_follow_59 ?_
          refine fz_iload (pc := 62) ok dX0_follow_62 rfl ?_
          refine l0_con (pc := 63) ok dX0_follow_63 (p) (rfl) (by omega) ?_
          refine fz_iloadL (pc := 64) ok dX0_follow_64 rfl ?_
          refine k0_comeTo (pc := 66) ok (m0_comeTo q o hsz hn hls (cn p) (nI (stD c h)) (fun j hj _ hneg => Li_room hn hl hj hneg)) rfl (by decide) (Nat.le_of_ble_eq_true rfl) dX0_follow_66 (fun u hu => ?_)
          obtain ⟨k3, e3, g1, g2, g3, g4, g6, g5⟩ := come_ok hn hls hst rfl hr hm hl hF hu
          obtain ⟨gd3, ls3, ht3, li3⟩ := u
          dsimp only at e3 g1 g2 g3 g4 g6 g5 ⊢
          subst e3
          refine fz_aload (pc := 69) ok dX0_follow_69 rfl ?_
          refine g0_good (pc := 70) ok dX0_follow_70 ?_
          refine fz_if_eq (pc := 73) (tgt := 88) ok dX0_follow_73 (by decide) (fun c73 => ?_) (fun c73 => ?_)
          · refine f88 hus hst h13 k3 gd3 ht3 ld li3 g1 g2 g3 g4 g6 ?_
            rcases g5 with ⟨b1, b⟩ | b
            · exact Or.inl ⟨b1.trans hgd, fun _ _ => b⟩
            · exact Or.inr b
          · obtain ⟨t, b2, b3, b4⟩ : ∃ t : Nat, t < n ∧ cn p = nI t ∧ ht3 t = nI (stD c h) := by
              rcases g5 with ⟨b1, b⟩ | b
              · exact b
              · exact absurd b.1 c73
            refine fz_aload (pc := 76) ok dX0_follow_76 rfl ?_
            refine g0_leader (pc := 77) ok dX0_follow_77 ?_
            refine fz_aload (pc := 80) ok dX0_follow_80 rfl ?_
            refine g0_con (pc := 81) ok dX0_follow_81 ?_
            refine fz_iload (pc := 84) ok dX0_follow_84 rfl ?_
            refine l0_con (pc := 85) ok dX0_follow_85 (p) (rfl) (by omega) ?_
            refine fz_iconst (pc := 86) (v := 1) ok dX0_follow_86 (by decide) ?_
            refine s0_leader (pc := 87) ok dX0_follow_87 (t) (b3) (by omega) ?_
            refine f88 hus hst h13 k3 gd3 ht3 _ li3 g1 g2 g3 g4 g6 ?_
            rcases g5 with ⟨b1, b⟩ | b
            · exact Or.inl ⟨b1.trans hgd, fun _ _ => b⟩
            · exact Or.inr b
      · have h13 : c = 13 := fz_inj (by omega) (by decide) c46
        exact hret (gd, ls, ht, ld, li) _ _ dX0_follow_49 ⟨k, hls, hr, hm, hl, Ex_refl ht, Lx_refl k li, Or.inl ⟨hgd, CO_of ho eo hus hst (fun _ z => absurd z (by omega)) (fun _ z => absurd h13 z)⟩⟩
    · refine fz_aload (pc := 37) ok dX0_follow_37 rfl ?_
      refine fz_iconst (pc := 38) (v := 0) ok dX0_follow_38 (by decide) ?_
      refine p0_good (pc := 39) ok dX0_follow_39 (_) (rfl) (Or.inl rfl) ?_
      exact hret (0, ls, ht, ld, li) _ _ dX0_follow_42 ⟨k, hls, hr, hm, hl, Ex_refl ht, Lx_refl k li, Or.inr ⟨rfl, fun h' hc => c34 ((nI_leI (b := 8) (by omega) (by decide)).mpr (Cl_jump hm hc hp hh eh ho eo).2.1)⟩⟩
end
section
set_option maxRecDepth 100000
/-! FuelGate: check and what asks it -/
theorem cnN_none {ht : Nat → Int32} : ∀ {m : Nat}, (∀ p, p < m → ht p = -1) → cnN ht m = 0
  | 0, _ => rfl
  | m + 1, h => by
    unfold cnN
    rw [if_pos (by rw [h m (Nat.lt_succ_self m)]; exact fz_neg1), cnN_none (m := m) (fun p hp => h p (Nat.lt_succ_of_lt hp))]
theorem Rg_none {n : Nat} {ht : Nat → Int32} (h : ∀ p, p < 24 → ht p = -1) : Rg n ht := fun p hp => Or.inl (h p hp)
theorem Mn_none {n : Nat} {op cn ht : Nat → Int32} (hn : n ≤ 24) (h : ∀ p, p < 24 → ht p = -1) : Mn n op cn ht := fun h' hc p hp hr => absurd (by rw [h p (by omega)]; exact fz_neg1) hr
theorem Li_none {n : Nat} {ht li : Nat → Int32} (hn : n ≤ 24) (h : ∀ p, p < 24 → ht p = -1) : Li n 0 ht li := ⟨(cnN_none h).symm, fun j hj => absurd hj (Nat.not_lt_zero _), fun p hp hr => absurd (by rw [h p (by omega)]; exact fz_neg1) hr⟩
/-- check() -/
theorem m0_check (q : fz_Q) (o : fz_O) {sz ck gd ls st fu pt dp : Int32} {op cn ht ld bc be li sk ce : Nat → Int32} {n : Nat} (hsz : sz = nI n) (hn : n ≤ 24) (hop : OpOK n op) (hck : CK n op cn ck gd ht bc be) : fz_Mv q yX0_check cX0_check 2 2 [.ref o.1] (wg q o sz ck gd ls st fu pt dp op cn ht ld bc be li sk ce) (fun u : Int32 × Int32 × (Nat → Int32) × (Nat → Int32) × (Nat → Int32) × (Nat → Int32) × (Nat → Int32) => CK n op cn 1 u.1 u.2.2.1 u.2.2.2.2.1 u.2.2.2.2.2.1) (fun u => (wg q o sz 1 u.1 u.2.1 st fu pt dp op cn u.2.2.1 u.2.2.2.1 u.2.2.2.2.1 u.2.2.2.2.2.1 u.2.2.2.2.2.2 sk ce)) := by
  refine fz_ofv (own := RX0) (by decide) rfl rfl (Nat.le_of_ble_eq_true rfl) ?_
  intro x ok hret
  have f116 : ∀ (gd2 ls2 : Int32) (ht2 ld2 li2 : Nat → Int32) (lc : List Value), ((gd2 = 1 ∧ Cl n op cn ht2 ∧ Mn n op cn ht2 ∧ Rg n ht2) ∨ (gd2 = 0 ∧ ∀ h' : Nat → Int32, ¬ Cl n op cn h')) → fz_A q x (wg q o sz 1 gd2 ls2 st fu pt dp op cn ht2 ld2 bc be li2 sk ce) 116 (.ref o.1 :: lc) [] := by
    intro gd2 ls2 ht2 ld2 li2 lc hf
    refine fz_aload (pc := 116) ok dX0_check_116 rfl ?_
    refine g0_good (pc := 117) ok dX0_check_117 ?_
    refine fz_if_eq (pc := 120) (tgt := 127) ok dX0_check_120 (by decide) (fun c120 => ?_) (fun c120 => ?_)
    · exact hret (gd2, ls2, ht2, ld2, bc, be, li2) _ _ dX0_check_127 (Or.inr ⟨rfl, by rcases hf with a | a; exact absurd (a.1.symm.trans c120) (by decide +kernel); exact Or.inr a⟩)
    · refine fz_aload (pc := 123) ok dX0_check_123 rfl ?_
      refine k0_makeBlocks (pc := 124) ok (m0_makeBlocks q o hsz hn hop) rfl (by decide) (Nat.le_of_ble_eq_true rfl) dX0_check_124 (fun u hu => ?_)
      exact hret (gd2, ls2, ht2, ld2, u.1, u.2, li2) _ _ dX0_check_127 (Or.inr ⟨rfl, by rcases hf with a | a; exact Or.inl ⟨a.1, a.2.1, a.2.2.1, a.2.2.2, hu⟩; exact absurd a.1 c120⟩)
  have loop2 : ∀ (r i k2 : Nat) (gd2 : Int32) (ht2 ld2 li2 : Nat → Int32), i + r = 24 → i ≤ k2 → Rg n ht2 → Mn n op cn ht2 → Li n k2 ht2 li2 → ((gd2 = 1 ∧ 0 < n ∧ ht2 0 = 0 ∧ ∀ j, j < i → ∀ p, p < n → li2 j = nI p → ∀ h : Nat, h ≤ 8 → ht2 p = nI h → CO n op cn ht2 p h) ∨ (gd2 = 0 ∧ ∀ h' : Nat → Int32, ¬ Cl n op cn h')) → fz_A q x (wg q o sz 1 gd2 (nI k2) st fu pt dp op cn ht2 ld2 bc be li2 sk ce) 85 [.ref o.1, .int (nI i)] [] := by
    intro r
    induction r with
    | zero =>
      intro i k2 gd2 ht2 ld2 li2 hir hik f1 f2 f3 f4
      have hk24 : k2 ≤ 24 := by rw [f3.1]; exact cnN_le ht2 24
      refine fz_iload (pc := 85) ok dX0_check_85 rfl ?_
      refine fz_aload (pc := 86) ok dX0_check_86 rfl ?_
      refine g0_listed (pc := 87) ok dX0_check_87 ?_
      refine fz_icmp_ge (pc := 90) (tgt := 116) ok dX0_check_90 (by decide) (fun c90 => ?_) (fun c90 => ?_)
      · have hki : k2 ≤ i := (nI_leI (by omega) (by omega)).mp c90
        refine f116 gd2 (nI k2) ht2 ld2 li2 _ ?_
        rcases f4 with ⟨a1, a2, a3, a4⟩ | a
        · refine Or.inl ⟨a1, Cl_of hn a2 a3 (fun p hp h hh e => ?_), f2, f1⟩
          obtain ⟨j, hj, ej⟩ := f3.2.2 p hp (by rw [e]; exact fz_nneg (by omega))
          exact a4 j (by omega) p hp ej h hh e
        · exact Or.inr a
      · have hki : i < k2 := Nat.not_le.mp (fun z => c90 ((nI_leI (by omega) (by omega)).mpr z))
        exact absurd hki (by omega)
    | succ r ih =>
      intro i k2 gd2 ht2 ld2 li2 hir hik f1 f2 f3 f4
      have hk24 : k2 ≤ 24 := by rw [f3.1]; exact cnN_le ht2 24
      refine fz_iload (pc := 85) ok dX0_check_85 rfl ?_
      refine fz_aload (pc := 86) ok dX0_check_86 rfl ?_
      refine g0_listed (pc := 87) ok dX0_check_87 ?_
      refine fz_icmp_ge (pc := 90) (tgt := 116) ok dX0_check_90 (by decide) (fun c90 => ?_) (fun c90 => ?_)
      · have hki : k2 ≤ i := (nI_leI (by omega) (by omega)).mp c90
        refine f116 gd2 (nI k2) ht2 ld2 li2 _ ?_
        rcases f4 with ⟨a1, a2, a3, a4⟩ | a
        · refine Or.inl ⟨a1, Cl_of hn a2 a3 (fun p hp h hh e => ?_), f2, f1⟩
          obtain ⟨j, hj, ej⟩ := f3.2.2 p hp (by rw [e]; exact fz_nneg (by omega))
          exact a4 j (by omega) p hp ej h hh e
        · exact Or.inr a
      · have hki : i < k2 := Nat.not_le.mp (fun z => c90 ((nI_leI (by omega) (by omega)).mpr z))
        refine fz_aload (pc := 93) ok dX0_check_93 rfl ?_
        refine g0_good (pc := 94) ok dX0_check_94 ?_
        refine fz_if_eq (pc := 97) (tgt := 116) ok dX0_check_97 (by decide) (fun c97 => ?_) (fun c97 => ?_)
        · refine f116 gd2 (nI k2) ht2 ld2 li2 _ ?_
          rcases f4 with ⟨a1, a⟩ | a
          · exact absurd (a1.symm.trans c97) (by decide +kernel)
          · exact Or.inr a
        · obtain ⟨a1, a2, a3, a4⟩ : gd2 = 1 ∧ 0 < n ∧ ht2 0 = 0 ∧ ∀ j, j < i → ∀ p, p < n → li2 j = nI p → ∀ h : Nat, h ≤ 8 → ht2 p = nI h → CO n op cn ht2 p h := by
            rcases f4 with a | a
            · exact a
            · exact absurd a.1 c97
          obtain ⟨p, hp, ep, hnn⟩ := f3.2.1 i hki
          obtain ⟨h, hh, eh⟩ : ∃ h : Nat, h ≤ 8 ∧ ht2 p = nI h := by
            rcases f1 p (by omega) with e | ⟨h, hh, e, -⟩
            · rw [e] at hnn; exact absurd fz_neg1 hnn
            · exact ⟨h, hh, e⟩
          obtain ⟨c, ho, eo⟩ := hop p hp
          refine fz_aload (pc := 100) ok dX0_check_100 rfl ?_
          refine fz_aload (pc := 101) ok dX0_check_101 rfl ?_
          refine g0_list (pc := 102) ok dX0_check_102 ?_
          refine fz_iload (pc := 105) ok dX0_check_105 rfl ?_
          refine l0_list (pc := 106) ok dX0_check_106 (i) (rfl) (by omega) ?_
          refine fz_top (ep) ?_
          refine k0_follow (pc := 107) ok (m0_follow q o hsz hn (k := k2) (p := p) (h := h) (c := c) rfl a1 hp eo ho eh hh f1 f2 f3) rfl (by decide) (Nat.le_of_ble_eq_true rfl) dX0_check_107 (fun u hu => ?_)
          obtain ⟨k3, e3, g1, g2, g3, g4, g6, g5⟩ := hu
          obtain ⟨gd3, ls3, ht3, ld3, li3⟩ := u
          dsimp only at e3 g1 g2 g3 g4 g6 g5 ⊢
          subst e3
          refine fz_iinc (pc := 110) (v := nI (i + 1)) (lc' := [_, _]) ok dX0_check_110 (by decide) rfl (fz_a1 i) rfl ?_
          refine fz_goto (pc := 113) (tgt := 85) ok dX0_check_113 (by decide) ?_
          have hmono : k2 ≤ k3 := by
            rw [f3.1, g3.1]
            exact cnN_mono (fun p9 hp9 h9 => by rw [g4 p9 hp9 h9]; exact h9)
          refine ih (i + 1) k3 gd3 ht3 ld3 li3 (by omega) (by omega) g1 g2 g3 ?_
          rcases g5 with ⟨b1, b2⟩ | b
          · refine Or.inl ⟨b1, a2, by rw [g4 0 (by omega) (by rw [a3]; decide +kernel)]; exact a3, fun j hj p9 hp9 ej h9 hh9 e9 => ?_⟩
            rcases Nat.lt_succ_iff_lt_or_eq.mp hj with q9 | q9
            · rw [g6.2 j (by omega)] at ej
              obtain ⟨p8, hp8, ep8, hnn8⟩ := f3.2.1 j (by omega)
              have e98 : p9 = p8 := fz_inj (by omega) (by omega) (ej.symm.trans ep8)
              subst e98
              rw [g4 p9 (by omega) hnn8] at e9
              exact CO_ex hn hh9 (a4 j q9 p9 hp9 ej h9 hh9 e9) g4
            · subst q9
              rw [g6.2 j hki] at ej
              have e98 : p9 = p := fz_inj (by omega) (by omega) (ej.symm.trans ep)
              subst e98
              rw [g4 p9 (by omega) hnn, eh] at e9
              have e97 : h = h9 := fz_inj (by omega) (by omega) e9
              rw [← e97]; exact b2
          · exact Or.inr b
  have f70 : ∀ (gd2 : Int32) (ht2 ld2 : Nat → Int32), (∀ p, p < 24 → ht2 p = -1) → ((gd2 = 1 ∧ 0 < n) ∨ (gd2 = 0 ∧ n = 0)) → fz_A q x (wg q o sz 1 gd2 (nI 0) st fu pt dp op cn ht2 ld2 bc be li sk ce) 70 [.ref o.1, .int (nI 24)] [] := by
    intro gd2 ht2 ld2 hno hgd
    refine fz_aload (pc := 70) ok dX0_check_70 rfl ?_
    refine g0_good (pc := 71) ok dX0_check_71 ?_
    refine fz_if_eq (pc := 74) (tgt := 83) ok dX0_check_74 (by decide) (fun c74 => ?_) (fun c74 => ?_)
    · refine fz_iconst (pc := 83) (v := 0) ok dX0_check_83 (by decide) ?_
      refine fz_top (nI_0.symm) ?_
      refine fz_istore (pc := 84) (lc' := [_, _]) ok dX0_check_84 (by decide) (Nat.le_of_ble_eq_true rfl) rfl ?_
      refine loop2 24 0 0 gd2 ht2 ld2 li rfl (Nat.le_refl _) (Rg_none hno) (Mn_none hn hno) (Li_none hn hno) (Or.inr ⟨c74, fun h9 hc => ?_⟩)
      rcases hgd with a | a
      · exact absurd (a.1.symm.trans c74) (by decide +kernel)
      · exact absurd hc.1 (by omega)
    · have h0 : gd2 = 1 ∧ 0 < n := by
        rcases hgd with a | a
        · exact a
        · exact absurd a.1 c74
      refine fz_aload (pc := 77) ok dX0_check_77 rfl ?_
      refine fz_iconst (pc := 78) (v := 0) ok dX0_check_78 (by decide) ?_
      refine fz_top (nI_0.symm) ?_
      refine fz_iconst (pc := 79) (v := 0) ok dX0_check_79 (by decide) ?_
      refine fz_top (nI_0.symm) ?_
      refine k0_comeTo (pc := 80) ok (m0_comeTo q o hsz hn (k := 0) rfl (nI 0) (nI 0) (fun _ _ _ _ => by decide)) rfl (by decide) (Nat.le_of_ble_eq_true rfl) dX0_check_80 (fun u hu => ?_)
      obtain ⟨k3, e3, g1, g2, g3, g4, g6, g5⟩ := come_ok (h := 0) hn rfl (by decide) rfl (Rg_none hno) (Mn_none hn hno) (Li_none hn hno) (fun h9 hc => ⟨0, h0.2, rfl, by rw [hc.2.1]; exact nI_0.symm⟩) hu
      obtain ⟨gd3, ls3, ht3, li3⟩ := u
      dsimp only at e3 g1 g2 g3 g4 g6 g5 ⊢
      subst e3
      refine fz_iconst (pc := 83) (v := 0) ok dX0_check_83 (by decide) ?_
      refine fz_top (nI_0.symm) ?_
      refine fz_istore (pc := 84) (lc' := [_, _]) ok dX0_check_84 (by decide) (Nat.le_of_ble_eq_true rfl) rfl ?_
      refine loop2 24 0 k3 gd3 ht3 ld2 li3 rfl (Nat.zero_le _) g1 g2 g3 ?_
      rcases g5 with ⟨b1, t, b2, b3, b4⟩ | b
      · have et : t = 0 := fz_inj (by omega) (by decide) b3.symm
        subst et
        exact Or.inl ⟨b1.trans h0.1, h0.2, b4, fun j hj => absurd hj (Nat.not_lt_zero _)⟩
      · exact Or.inr b
  have loop1 : ∀ (r i : Nat) (gd2 : Int32) (ht2 ld2 : Nat → Int32), i + r = 24 → (∀ p, p < i → ht2 p = -1) → ((gd2 = 1 ∧ 0 < n) ∨ (gd2 = 0 ∧ n = 0)) → fz_A q x (wg q o sz 1 gd2 (nI 0) st fu pt dp op cn ht2 ld2 bc be li sk ce) 36 [.ref o.1, .int (nI i)] [] := by
    intro r
    induction r with
    | zero =>
      intro i gd2 ht2 ld2 hir hno hgd
      have ei : i = 24 := by omega
      subst ei
      refine fz_iload (pc := 36) ok dX0_check_36 rfl ?_
      refine fz_bipush (pc := 37) (v := 24) ok dX0_check_37 (by decide) ?_
      refine fz_icmp_ge (pc := 39) (tgt := 70) ok dX0_check_39 (by decide) (fun c39 => ?_) (fun c39 => ?_)
      · exact f70 gd2 ht2 ld2 hno hgd
      · exact absurd (Int32.le_refl _) c39
    | succ r ih =>
      intro i gd2 ht2 ld2 hir hno hgd
      refine fz_iload (pc := 36) ok dX0_check_36 rfl ?_
      refine fz_bipush (pc := 37) (v := 24) ok dX0_check_37 (by decide) ?_
      refine fz_icmp_ge (pc := 39) (tgt := 70) ok dX0_check_39 (by decide) (fun c39 => ?_) (fun c39 => ?_)
      · exact absurd ((nI_leI (a := 24) (by decide) (by omega)).mp c39) (by omega)
      · refine fz_aload (pc := 42) ok dX0_check_42 rfl ?_
        refine g0_heights (pc := 43) ok dX0_check_43 ?_
        refine fz_iload (pc := 46) ok dX0_check_46 rfl ?_
        refine fz_iconst (pc := 47) (v := (-1)) ok dX0_check_47 (by decide) ?_
        refine s0_heights (pc := 48) ok dX0_check_48 (i) (rfl) (by omega) ?_
        refine fz_aload (pc := 49) ok dX0_check_49 rfl ?_
        refine g0_leader (pc := 50) ok dX0_check_50 ?_
        refine fz_iload (pc := 53) ok dX0_check_53 rfl ?_
        refine fz_iload (pc := 54) ok dX0_check_54 rfl ?_
        refine fz_if_ne (pc := 55) (tgt := 62) ok dX0_check_55 (by decide) (fun c55 => ?_) (fun c55 => ?_)
        · refine fz_iconst (pc := 62) (v := 0) ok dX0_check_62 (by decide) ?_
          refine s0_leader (pc := 63) ok dX0_check_63 (i) (rfl) (by omega) ?_
          refine fz_iinc (pc := 64) (v := nI (i + 1)) (lc' := [_, _]) ok dX0_check_64 (by decide) rfl (fz_a1 i) rfl ?_
          refine fz_goto (pc := 67) (tgt := 36) ok dX0_check_67 (by decide) ?_
          refine ih (i + 1) gd2 _ _ (by omega) (fun p hp => ?_) hgd
          by_cases e : p = i
          · rw [e]; exact pk_us
          · rw [pk_un e]; exact hno p (by omega)
        · refine fz_iconst (pc := 58) (v := 1) ok dX0_check_58 (by decide) ?_
          refine fz_goto (pc := 59) (tgt := 63) ok dX0_check_59 (by decide) ?_
          refine s0_leader (pc := 63) ok dX0_check_63 (i) (rfl) (by omega) ?_
          refine fz_iinc (pc := 64) (v := nI (i + 1)) (lc' := [_, _]) ok dX0_check_64 (by decide) rfl (fz_a1 i) rfl ?_
          refine fz_goto (pc := 67) (tgt := 36) ok dX0_check_67 (by decide) ?_
          refine ih (i + 1) gd2 _ _ (by omega) (fun p hp => ?_) hgd
          by_cases e : p = i
          · rw [e]; exact pk_us
          · rw [pk_un e]; exact hno p (by omega)
  refine fz_aload (pc := 0) ok dX0_check_0 rfl ?_
  refine g0_checked (pc := 1) ok dX0_check_1 ?_
  refine fz_if_eq (pc := 4) (tgt := 8) ok dX0_check_4 (by decide) (fun c4 => ?_) (fun c4 => ?_)
  · refine fz_aload (pc := 8) ok dX0_check_8 rfl ?_
    refine fz_iconst (pc := 9) (v := 1) ok dX0_check_9 (by decide) ?_
    refine p0_checked (pc := 10) ok dX0_check_10 (_) (rfl) (Or.inr rfl) ?_
    refine fz_aload (pc := 13) ok dX0_check_13 rfl ?_
    refine fz_aload (pc := 14) ok dX0_check_14 rfl ?_
    refine g0_size (pc := 15) ok dX0_check_15 ?_
    refine fz_if_le (pc := 18) (tgt := 25) ok dX0_check_18 (by decide) (fun c18 => ?_) (fun c18 => ?_)
    · have h0 : n = 0 := by
        have := (nI_leI (a := n) (b := 0) (by omega) (by decide)).mp (by rw [hsz] at c18; exact c18)
        omega
      refine fz_iconst (pc := 25) (v := 0) ok dX0_check_25 (by decide) ?_
      refine p0_good (pc := 26) ok dX0_check_26 (_) (rfl) (Or.inl rfl) ?_
      refine fz_aload (pc := 29) ok dX0_check_29 rfl ?_
      refine fz_iconst (pc := 30) (v := 0) ok dX0_check_30 (by decide) ?_
      refine p0_listed (pc := 31) ok dX0_check_31 (nI 0) (nI_0.symm) ?_
      refine fz_iconst (pc := 34) (v := 0) ok dX0_check_34 (by decide) ?_
      refine fz_top (nI_0.symm) ?_
      refine fz_istore (pc := 35) (lc' := [_, _]) ok dX0_check_35 (by decide) (Nat.le_of_ble_eq_true rfl) rfl ?_
      exact loop1 24 0 0 ht ld rfl (fun p hp => absurd hp (Nat.not_lt_zero _)) (Or.inr ⟨rfl, h0⟩)
    · have h0 : 0 < n := by
        rcases Nat.eq_zero_or_pos n with g | g
        · exact absurd (by rw [hsz, g]; decide +kernel) c18
        · exact g
      refine fz_iconst (pc := 21) (v := 1) ok dX0_check_21 (by decide) ?_
      refine fz_goto (pc := 22) (tgt := 26) ok dX0_check_22 (by decide) ?_
      refine p0_good (pc := 26) ok dX0_check_26 (_) (rfl) (Or.inr rfl) ?_
      refine fz_aload (pc := 29) ok dX0_check_29 rfl ?_
      refine fz_iconst (pc := 30) (v := 0) ok dX0_check_30 (by decide) ?_
      refine p0_listed (pc := 31) ok dX0_check_31 (nI 0) (nI_0.symm) ?_
      refine fz_iconst (pc := 34) (v := 0) ok dX0_check_34 (by decide) ?_
      refine fz_top (nI_0.symm) ?_
      refine fz_istore (pc := 35) (lc' := [_, _]) ok dX0_check_35 (by decide) (Nat.le_of_ble_eq_true rfl) rfl ?_
      exact loop1 24 0 1 ht ld rfl (fun p hp => absurd hp (Nat.not_lt_zero _)) (Or.inl ⟨rfl, h0⟩)
  · rcases hck with a | ⟨a, b⟩
    · exact absurd a c4
    subst a
    exact hret (gd, ls, ht, ld, bc, be, li) _ _ dX0_check_7 (Or.inr ⟨rfl, b⟩)
end
section
set_option maxRecDepth 100000
/-! FuelGate: sound, height, run, refuel -/
theorem nar_z {v : Int32} (h : v = 0 ∨ v = 1) : narrow .boolean (.int v) = .int v := by
  rcases h with rfl | rfl <;> rfl
theorem CK_z {n : Nat} {op cn ht bc be : Nat → Int32} {gd : Int32} (h : CK n op cn 1 gd ht bc be) : gd = 0 ∨ gd = 1 := by
  rcases h with a | ⟨-, a | a⟩
  · exact absurd a (by decide +kernel)
  · exact Or.inr a.1
  · exact Or.inl a.1
theorem CK_good {n : Nat} {op cn ht bc be : Nat → Int32} {gd : Int32} (h : CK n op cn 1 gd ht bc be) (hg : ¬ gd = 0) : gd = 1 ∧ Cl n op cn ht ∧ Mn n op cn ht ∧ Rg n ht ∧ ∀ p, p < n → BK n op cn bc be p := by
  rcases h with a | ⟨-, a | a⟩
  · exact absurd a (by decide +kernel)
  · exact a
  · exact absurd a.1 hg
def hgF (n : Nat) (gd : Int32) (ht : Nat → Int32) (v : Int32) : Int32 := if gd = 0 ∨ v < 0 ∨ nI n ≤ v ∨ ht v.toNatClampNeg < 0 then -4 else ht v.toNatClampNeg
theorem hgF_no {n : Nat} {gd : Int32} {ht : Nat → Int32} {v : Int32} (h : gd = 0 ∨ v < 0 ∨ nI n ≤ v ∨ ht v.toNatClampNeg < 0) : hgF n gd ht v = -4 := if_pos h
theorem hgF_yes {n : Nat} {gd : Int32} {ht : Nat → Int32} {j : Nat} (h0 : ¬ gd = 0) (hj : j < n) (hn : n ≤ 24) (h : ¬ ht j < 0) : hgF n gd ht (nI j) = ht j := by
  unfold hgF
  rw [nI_clamp (by omega), if_neg]
  rintro (a | a | a | a)
  · exact h0 a
  · exact fz_nneg (by omega) a
  · have := (nI_leI (by omega) (by omega)).mp a
    omega
  · exact h a
theorem clF_add {f g : Nat} (h : f + g ≤ 4000) : clF (nI (f + g)) = min (f + g) 2000 := by
  unfold clF
  rw [if_neg (fz_nneg (by omega))]
  by_cases h2 : f + g ≤ 2000
  · have z : nI (f + g) ≤ 2000 := (nI_leI (b := 2000) (by omega) (by decide)).mpr h2
    rw [if_pos z, nI_clamp (by omega), Nat.min_eq_left h2]
  · have z : ¬ nI (f + g) ≤ 2000 := fun z => h2 ((nI_leI (b := 2000) (by omega) (by decide)).mp z)
    rw [if_neg z, Nat.min_eq_right (by omega)]
/-- sound() -/
theorem m0_sound (q : fz_Q) (o : fz_O) {sz ck gd ls st fu pt dp : Int32} {op cn ht ld bc be li sk ce : Nat → Int32} {n : Nat} (hsz : sz = nI n) (hn : n ≤ 24) (hop : OpOK n op) (hck : CK n op cn ck gd ht bc be) : fz_Mi q yX0_sound cX0_sound 1 3 .boolean [.ref o.1] (wg q o sz ck gd ls st fu pt dp op cn ht ld bc be li sk ce) (fun (r : Int32) (u : Int32 × Int32 × (Nat → Int32) × (Nat → Int32) × (Nat → Int32) × (Nat → Int32) × (Nat → Int32)) => CK n op cn 1 u.1 u.2.2.1 u.2.2.2.2.1 u.2.2.2.2.2.1 ∧ r = u.1) (fun u => (wg q o sz 1 u.1 u.2.1 st fu pt dp op cn u.2.2.1 u.2.2.2.1 u.2.2.2.2.1 u.2.2.2.2.2.1 u.2.2.2.2.2.2 sk ce)) := by
  refine fz_ofi (own := RX0) (by decide) rfl rfl (Nat.le_of_ble_eq_true rfl) ?_
  intro x ok hret
  refine fz_aload (pc := 0) ok dX0_sound_0 rfl ?_
  refine k0_check (pc := 1) ok (m0_check q o hsz hn hop hck) rfl (by decide) (Nat.le_of_ble_eq_true rfl) dX0_sound_1 (fun u hu => ?_)
  refine fz_aload (pc := 4) ok dX0_sound_4 rfl ?_
  refine g0_good (pc := 5) ok dX0_sound_5 ?_
  exact hret u _ _ _ dX0_sound_8 (nar_z (CK_z hu)) ⟨hu, rfl⟩
/-- height(p) -/
theorem m0_height (q : fz_Q) (o : fz_O) {sz ck gd ls st fu pt dp : Int32} {op cn ht ld bc be li sk ce : Nat → Int32} {n : Nat} (hsz : sz = nI n) (hn : n ≤ 24) (hop : OpOK n op) (hck : CK n op cn ck gd ht bc be) (v1 : Int32) : fz_Mi q yX0_height cX0_height 2 3 .int [.ref o.1, .int v1] (wg q o sz ck gd ls st fu pt dp op cn ht ld bc be li sk ce) (fun (r : Int32) (u : Int32 × Int32 × (Nat → Int32) × (Nat → Int32) × (Nat → Int32) × (Nat → Int32) × (Nat → Int32)) => CK n op cn 1 u.1 u.2.2.1 u.2.2.2.2.1 u.2.2.2.2.2.1 ∧ r = hgF n u.1 u.2.2.1 v1) (fun u => (wg q o sz 1 u.1 u.2.1 st fu pt dp op cn u.2.2.1 u.2.2.2.1 u.2.2.2.2.1 u.2.2.2.2.2.1 u.2.2.2.2.2.2 sk ce)) := by
  refine fz_ofi (own := RX0) (by decide) rfl rfl (Nat.le_of_ble_eq_true rfl) ?_
  intro x ok hret
  refine fz_aload (pc := 0) ok dX0_height_0 rfl ?_
  refine k0_check (pc := 1) ok (m0_check q o hsz hn hop hck) rfl (by decide) (Nat.le_of_ble_eq_true rfl) dX0_height_1 (fun u hu => ?_)
  refine fz_aload (pc := 4) ok dX0_height_4 rfl ?_
  refine g0_good (pc := 5) ok dX0_height_5 ?_
  refine fz_if_eq (pc := 8) (tgt := 32) ok dX0_height_8 (by decide) (fun c8 => ?_) (fun c8 => ?_)
  · refine fz_bipush (pc := 32) (v := (-4)) ok dX0_height_32 (by decide) ?_
    exact hret u _ _ _ dX0_height_34 rfl ⟨hu, (hgF_no (Or.inl c8)).symm⟩
  · refine fz_iload (pc := 11) ok dX0_height_11 rfl ?_
    refine fz_if_lt (pc := 12) (tgt := 32) ok dX0_height_12 (by decide) (fun c12 => ?_) (fun c12 => ?_)
    · refine fz_bipush (pc := 32) (v := (-4)) ok dX0_height_32 (by decide) ?_
      exact hret u _ _ _ dX0_height_34 rfl ⟨hu, (hgF_no (Or.inr (Or.inl c12))).symm⟩
    · refine fz_iload (pc := 15) ok dX0_height_15 rfl ?_
      refine fz_aload (pc := 16) ok dX0_height_16 rfl ?_
      refine g0_size (pc := 17) ok dX0_height_17 ?_
      refine fz_icmp_ge (pc := 20) (tgt := 32) ok dX0_height_20 (by decide) (fun c20 => ?_) (fun c20 => ?_)
      · refine fz_bipush (pc := 32) (v := (-4)) ok dX0_height_32 (by decide) ?_
        exact hret u _ _ _ dX0_height_34 rfl ⟨hu, (hgF_no (Or.inr (Or.inr (Or.inl (by rw [hsz] at c20; exact c20))))).symm⟩
      · obtain ⟨j, hj, rfl⟩ : ∃ j : Nat, j < n ∧ v1 = nI j := by
          rcases fz_ix v1 (n := n) (by omega) with g | g | g
          · exact absurd g c12
          · exact absurd (by rw [hsz]; exact g) c20
          · exact g
        refine fz_aload (pc := 23) ok dX0_height_23 rfl ?_
        refine g0_heights (pc := 24) ok dX0_height_24 ?_
        refine fz_iload (pc := 27) ok dX0_height_27 rfl ?_
        refine l0_heights (pc := 28) ok dX0_height_28 (j) (rfl) (by omega) ?_
        refine fz_if_ge (pc := 29) (tgt := 35) ok dX0_height_29 (by decide) (fun c29 => ?_) (fun c29 => ?_)
        · refine fz_aload (pc := 35) ok dX0_height_35 rfl ?_
          refine g0_heights (pc := 36) ok dX0_height_36 ?_
          refine fz_iload (pc := 39) ok dX0_height_39 rfl ?_
          refine l0_heights (pc := 40) ok dX0_height_40 (j) (rfl) (by omega) ?_
          exact hret u _ _ _ dX0_height_41 rfl ⟨hu, (hgF_yes c8 hj hn (fz_le_nlt c29)).symm⟩
        · refine fz_bipush (pc := 32) (v := (-4)) ok dX0_height_32 (by decide) ?_
          exact hret u _ _ _ dX0_height_34 rfl ⟨hu, (hgF_no (Or.inr (Or.inr (Or.inr (by rw [nI_clamp (by omega)]; exact fz_nle_lt c29))))).symm⟩
/-- run(fuel) -/
theorem m0_run (q : fz_Q) (o : fz_O) {sz ck gd ls st fu pt dp : Int32} {op cn ht ld bc be li sk ce : Nat → Int32} {n : Nat} (hsz : sz = nI n) (hn : n ≤ 24) (hop : OpOK n op) (hck : CK n op cn ck gd ht bc be) (v1 : Int32) : fz_Mi q yX0_run cX0_run 2 4 .int [.ref o.1, .int v1] (wg q o sz ck gd ls st fu pt dp op cn ht ld bc be li sk ce) (fun (r : Int32) (u : (Int32 × Int32 × (Nat → Int32) × (Nat → Int32) × (Nat → Int32) × (Nat → Int32) × (Nat → Int32)) × Int32 × Int32 × Int32 × Int32 × (Nat → Int32) × (Nat → Int32)) => CK n op cn 1 u.1.1 u.1.2.2.1 u.1.2.2.2.2.1 u.1.2.2.2.2.2.1 ∧ ((u.1.1 = 0 ∧ r = -3 ∧ u.2 = (st, fu, pt, dp, sk, ce)) ∨ (u.1.1 = 1 ∧ ∃ k : Nat, mu op cn (itN (mu op cn) k (false, clF v1, nI 0, 0, sk, ce)) = itN (mu op cn) k (false, clF v1, nI 0, 0, sk, ce) ∧ r = fst2 (itN (mu op cn) k (false, clF v1, nI 0, 0, sk, ce)).1 ∧ u.2 = (fst2 (itN (mu op cn) k (false, clF v1, nI 0, 0, sk, ce)).1, nI (itN (mu op cn) k (false, clF v1, nI 0, 0, sk, ce)).2.1, (itN (mu op cn) k (false, clF v1, nI 0, 0, sk, ce)).2.2.1, nI (itN (mu op cn) k (false, clF v1, nI 0, 0, sk, ce)).2.2.2.1, (itN (mu op cn) k (false, clF v1, nI 0, 0, sk, ce)).2.2.2.2.1, (itN (mu op cn) k (false, clF v1, nI 0, 0, sk, ce)).2.2.2.2.2)))) (fun u => (wg q o sz 1 u.1.1 u.1.2.1 u.2.1 u.2.2.1 u.2.2.2.1 u.2.2.2.2.1 op cn u.1.2.2.1 u.1.2.2.2.1 u.1.2.2.2.2.1 u.1.2.2.2.2.2.1 u.1.2.2.2.2.2.2 u.2.2.2.2.2.1 u.2.2.2.2.2.2)) := by
  refine fz_ofi (own := RX0) (by decide) rfl rfl (Nat.le_of_ble_eq_true rfl) ?_
  intro x ok hret
  refine fz_aload (pc := 0) ok dX0_run_0 rfl ?_
  refine k0_check (pc := 1) ok (m0_check q o hsz hn hop hck) rfl (by decide) (Nat.le_of_ble_eq_true rfl) dX0_run_1 (fun u hu => ?_)
  refine fz_aload (pc := 4) ok dX0_run_4 rfl ?_
  refine g0_good (pc := 5) ok dX0_run_5 ?_
  refine fz_if_ne (pc := 8) (tgt := 14) ok dX0_run_8 (by decide) (fun c8 => ?_) (fun c8 => ?_)
  · obtain ⟨z1, z2, z3, z4, z5⟩ := CK_good hu c8
    have hok : Ok1 n u.2.2.1 (nI 0, 0, sk, ce) := ⟨0, rfl, z2.1, by rw [z2.2.1]; exact nI_0.symm, Nat.zero_le _⟩
    refine fz_aload (pc := 14) ok dX0_run_14 rfl ?_
    refine fz_iload (pc := 15) ok dX0_run_15 rfl ?_
    refine k0_clampFuel (pc := 16) ok (m0_clampFuel q v1) (by decide) (Nat.le_of_ble_eq_true rfl) dX0_run_16 (fun r9 u9 hu9 => ?_)
    subst hu9
    refine p0_fuel (pc := 19) ok dX0_run_19 (_) (rfl) ?_
    refine fz_aload (pc := 22) ok dX0_run_22 rfl ?_
    refine fz_iconst (pc := 23) (v := 0) ok dX0_run_23 (by decide) ?_
    refine p0_at (pc := 24) ok dX0_run_24 (nI 0) (nI_0.symm) ?_
    refine fz_aload (pc := 27) ok dX0_run_27 rfl ?_
    refine fz_iconst (pc := 28) (v := 0) ok dX0_run_28 (by decide) ?_
    refine p0_depth (pc := 29) ok dX0_run_29 (nI 0) (nI_0.symm) ?_
    refine fz_aload (pc := 32) ok dX0_run_32 rfl ?_
    refine k0_carryOn (pc := 33) ok (m0_carryOn q o (mm := (nI 0, 0, sk, ce)) hn hop z2 hok z5 (clF_le v1)) rfl (by decide) (Nat.le_of_ble_eq_true rfl) dX0_run_33 (fun k hk => ?_)
    refine fz_aload (pc := 36) ok dX0_run_36 rfl ?_
    refine g0_state (pc := 37) ok dX0_run_37 ?_
    exact hret (u, (fst2 (itN (mu op cn) k (false, clF v1, nI 0, 0, sk, ce)).1, nI (itN (mu op cn) k (false, clF v1, nI 0, 0, sk, ce)).2.1, (itN (mu op cn) k (false, clF v1, nI 0, 0, sk, ce)).2.2.1, nI (itN (mu op cn) k (false, clF v1, nI 0, 0, sk, ce)).2.2.2.1, (itN (mu op cn) k (false, clF v1, nI 0, 0, sk, ce)).2.2.2.2.1, (itN (mu op cn) k (false, clF v1, nI 0, 0, sk, ce)).2.2.2.2.2)) _ _ _ dX0_run_40 rfl ⟨hu, Or.inr ⟨z1, k, hk, rfl, rfl⟩⟩
  · refine fz_bipush (pc := 11) (v := (-3)) ok dX0_run_11 (by decide) ?_
    exact hret (u, st, fu, pt, dp, sk, ce) _ _ _ dX0_run_13 rfl ⟨hu, Or.inl ⟨c8, rfl, rfl⟩⟩
/-- refuel(more) -/
theorem m0_refuel (q : fz_Q) (o : fz_O) {sz ck gd ls st : Int32} {op cn ht ld bc be li : Nat → Int32} {n f : Nat} {hh : Nat → Int32} {mm : Ms} (hn : n ≤ 24) (hop : OpOK n op) (hf : f ≤ 2000) (h2 : st = 2 → Cl n op cn hh ∧ Ok1 n hh mm ∧ ∀ p, p < n → BK n op cn bc be p) (v1 : Int32) : fz_Mi q yX0_refuel cX0_refuel 3 4 .int [.ref o.1, .int v1] (wg q o sz ck gd ls st (nI f) mm.1 (nI mm.2.1) op cn ht ld bc be li mm.2.2.1 mm.2.2.2) (fun (r : Int32) (u : Int32 × Int32 × Int32 × Int32 × (Nat → Int32) × (Nat → Int32)) => (¬ st = 2 ∧ r = st ∧ u = (st, nI f, mm.1, nI mm.2.1, mm.2.2.1, mm.2.2.2)) ∨ (st = 2 ∧ ∃ k : Nat, mu op cn (itN (mu op cn) k (false, min (f + clF v1) 2000, mm)) = itN (mu op cn) k (false, min (f + clF v1) 2000, mm) ∧ r = fst2 (itN (mu op cn) k (false, min (f + clF v1) 2000, mm)).1 ∧ u = (fst2 (itN (mu op cn) k (false, min (f + clF v1) 2000, mm)).1, nI (itN (mu op cn) k (false, min (f + clF v1) 2000, mm)).2.1, (itN (mu op cn) k (false, min (f + clF v1) 2000, mm)).2.2.1, nI (itN (mu op cn) k (false, min (f + clF v1) 2000, mm)).2.2.2.1, (itN (mu op cn) k (false, min (f + clF v1) 2000, mm)).2.2.2.2.1, (itN (mu op cn) k (false, min (f + clF v1) 2000, mm)).2.2.2.2.2))) (fun u => (wg q o sz ck gd ls u.1 u.2.1 u.2.2.1 u.2.2.2.1 op cn ht ld bc be li u.2.2.2.2.1 u.2.2.2.2.2)) := by
  refine fz_ofi (own := RX0) (by decide) rfl rfl (Nat.le_of_ble_eq_true rfl) ?_
  intro x ok hret
  refine fz_aload (pc := 0) ok dX0_refuel_0 rfl ?_
  refine g0_state (pc := 1) ok dX0_refuel_1 ?_
  refine fz_iconst (pc := 4) (v := 2) ok dX0_refuel_4 (by decide) ?_
  refine fz_icmp_eq (pc := 5) (tgt := 13) ok dX0_refuel_5 (by decide) (fun c5 => ?_) (fun c5 => ?_)
  · obtain ⟨z2, z1, z5⟩ := h2 c5
    refine fz_iload (pc := 13) ok dX0_refuel_13 rfl ?_
    refine k0_clampFuel (pc := 14) ok (m0_clampFuel q v1) (by decide) (Nat.le_of_ble_eq_true rfl) dX0_refuel_14 (fun r9 u9 hu9 => ?_)
    subst hu9
    refine fz_istore (pc := 17) (lc' := [_, _, _]) ok dX0_refuel_17 (by decide) (Nat.le_of_ble_eq_true rfl) rfl ?_
    refine fz_aload (pc := 18) ok dX0_refuel_18 rfl ?_
    refine fz_aload (pc := 19) ok dX0_refuel_19 rfl ?_
    refine g0_fuel (pc := 20) ok dX0_refuel_20 ?_
    refine fz_iload (pc := 23) ok dX0_refuel_23 rfl ?_
    refine fz_iadd (pc := 24) ok dX0_refuel_24 ?_
    refine fz_top (nI_add f (clF v1)) ?_
    refine k0_clampFuel (pc := 25) ok (m0_clampFuel q (nI (f + clF v1))) (by decide) (Nat.le_of_ble_eq_true rfl) dX0_refuel_25 (fun r9 u9 hu9 => ?_)
    subst hu9
    rw [clF_add (by have := clF_le v1; omega)]
    refine p0_fuel (pc := 28) ok dX0_refuel_28 (_) (rfl) ?_
    refine fz_aload (pc := 31) ok dX0_refuel_31 rfl ?_
    refine k0_carryOn (pc := 32) ok (m0_carryOn q o (mm := mm) hn hop z2 z1 z5 (Nat.min_le_right _ _)) rfl (by decide) (Nat.le_of_ble_eq_true rfl) dX0_refuel_32 (fun k hk => ?_)
    refine fz_aload (pc := 35) ok dX0_refuel_35 rfl ?_
    refine g0_state (pc := 36) ok dX0_refuel_36 ?_
    exact hret (fst2 (itN (mu op cn) k (false, min (f + clF v1) 2000, mm)).1, nI (itN (mu op cn) k (false, min (f + clF v1) 2000, mm)).2.1, (itN (mu op cn) k (false, min (f + clF v1) 2000, mm)).2.2.1, nI (itN (mu op cn) k (false, min (f + clF v1) 2000, mm)).2.2.2.1, (itN (mu op cn) k (false, min (f + clF v1) 2000, mm)).2.2.2.2.1, (itN (mu op cn) k (false, min (f + clF v1) 2000, mm)).2.2.2.2.2) _ _ _ dX0_refuel_39 rfl (Or.inr ⟨c5, k, hk, rfl, rfl⟩)
  · refine fz_aload (pc := 8) ok dX0_refuel_8 rfl ?_
    refine g0_state (pc := 9) ok dX0_refuel_9 ?_
    exact hret (st, nI f, mm.1, nI mm.2.1, mm.2.2.1, mm.2.2.2) _ _ _ dX0_refuel_12 rfl (Or.inl ⟨c5, rfl, rfl⟩)
end
section
set_option maxRecDepth 100000
/-! FuelGateModel: small methods -/
theorem m1_over (q : fz_Q) (o : fz_O) {sz st fu pt hg : Int32} {op cn ce ht sk : Nat → Int32}  : fz_Mv q yX1_over cX1_over 1 0 [.ref o.1] (wm q o sz st fu pt hg op cn ce ht sk) (fun _ : Unit => True) (fun _ => (wm q o sz 0 0 pt 0 op cn ce ht sk)) := by
  refine fz_ofv (own := RX1) (by decide) rfl rfl (Nat.le_of_ble_eq_true rfl) ?_
  intro x ok hret
  refine fz_aload (pc := 0) ok dX1_over_0 rfl ?_
  refine fz_iconst (pc := 1) (v := 0) ok dX1_over_1 (by decide) ?_
  refine p1_state (pc := 2) ok dX1_over_2 (_) (rfl) ?_
  refine fz_aload (pc := 5) ok dX1_over_5 rfl ?_
  refine fz_iconst (pc := 6) (v := 0) ok dX1_over_6 (by decide) ?_
  refine p1_fuel (pc := 7) ok dX1_over_7 (_) (rfl) ?_
  refine fz_aload (pc := 10) ok dX1_over_10 rfl ?_
  refine fz_iconst (pc := 11) (v := 0) ok dX1_over_11 (by decide) ?_
  refine p1_high (pc := 12) ok dX1_over_12 (_) (rfl) ?_
  exact hret () _ _ dX1_over_15 trivial
theorem m1_clear (q : fz_Q) (o : fz_O) {sz st fu pt hg : Int32} {op cn ce ht sk : Nat → Int32}  : fz_Mv q yX1_clear cX1_clear 1 1 [.ref o.1] (wm q o sz st fu pt hg op cn ce ht sk) (fun _ : Unit => True) (fun _ => (wm q o 0 0 0 pt 0 op cn ce ht sk)) := by
  refine fz_ofv (own := RX1) (by decide) rfl rfl (Nat.le_of_ble_eq_true rfl) ?_
  intro x ok hret
  refine fz_aload (pc := 0) ok dX1_clear_0 rfl ?_
  refine fz_iconst (pc := 1) (v := 0) ok dX1_clear_1 (by decide) ?_
  refine p1_size (pc := 2) ok dX1_clear_2 (_) (rfl) ?_
  refine fz_aload (pc := 5) ok dX1_clear_5 rfl ?_
  refine k1_over (pc := 6) ok (m1_over q o) rfl (by decide) (Nat.le_of_ble_eq_true rfl) dX1_clear_6 (fun u hu => ?_)
  exact hret () _ _ dX1_clear_9 trivial
theorem m1_emit (q : fz_Q) (o : fz_O) {sz st fu pt hg : Int32} {op cn ce ht sk : Nat → Int32} {n : Nat} (hsz : sz = nI n) (hn : n ≤ 24) (v1 v2 : Int32) : fz_Mi q yX1_emit cX1_emit 3 1 .int [.ref o.1, .int v1, .int v2] (wm q o sz st fu pt hg op cn ce ht sk) (fun (r : Int32) (u : Int32 × Int32 × Int32 × Int32 × (Nat → Int32) × (Nat → Int32)) => ((v1 < 0 ∨ 14 < v1) ∧ r = -1 ∧ u = (sz, st, fu, hg, op, cn)) ∨ (∃ c : Nat, c < 15 ∧ v1 = nI c ∧ ((n = 24 ∧ r = -2 ∧ u = (sz, st, fu, hg, op, cn)) ∨ (n < 24 ∧ r = nI n ∧ u = (nI (n + 1), 0, 0, 0, upd op n v1, upd cn n v2))))) (fun u => (wm q o u.1 u.2.1 u.2.2.1 pt u.2.2.2.1 u.2.2.2.2.1 u.2.2.2.2.2 ce ht sk)) := by
  refine fz_ofi (own := RX1) (by decide) rfl rfl (Nat.le_of_ble_eq_true rfl) ?_
  intro x ok hret
  refine fz_iload (pc := 0) ok dX1_emit_0 rfl ?_
  refine fz_if_lt (pc := 1) (tgt := 10) ok dX1_emit_1 (by decide) (fun c1 => ?_) (fun c1 => ?_)
  · refine fz_iconst (pc := 10) (v := (-1)) ok dX1_emit_10 (by decide) ?_
    exact hret (sz, st, fu, hg, op, cn) _ _ _ dX1_emit_11 rfl (Or.inl ⟨Or.inl c1, rfl, rfl⟩)
  · refine fz_iload (pc := 4) ok dX1_emit_4 rfl ?_
    refine fz_bipush (pc := 5) (v := 14) ok dX1_emit_5 (by decide) ?_
    refine fz_icmp_le (pc := 7) (tgt := 12) ok dX1_emit_7 (by decide) (fun c7 => ?_) (fun c7 => ?_)
    · obtain ⟨c, hc, rfl⟩ : ∃ c : Nat, c < 15 ∧ v1 = nI c := by
        rcases fz_ix v1 (n := 15) (by decide) with g | g | g
        · exact absurd g c1
        · exact absurd c7 (fz_lt_nle (Int32.lt_of_lt_of_le (by decide +kernel : (14 : Int32) < nI 15) g))
        · exact g
      refine fz_aload (pc := 12) ok dX1_emit_12 rfl ?_
      refine g1_size (pc := 13) ok dX1_emit_13 ?_
      refine fz_bipush (pc := 16) (v := 24) ok dX1_emit_16 (by decide) ?_
      refine fz_icmp_ne (pc := 18) (tgt := 24) ok dX1_emit_18 (by decide) (fun c18 => ?_) (fun c18 => ?_)
      · have hlt : n < 24 := by
          rcases Nat.lt_or_ge n 24 with g | g
          · exact g
          · exact absurd (by rw [hsz, show n = 24 by omega]; rfl) c18
        refine fz_aload (pc := 24) ok dX1_emit_24 rfl ?_
        refine g1_ops (pc := 25) ok dX1_emit_25 ?_
        refine fz_aload (pc := 28) ok dX1_emit_28 rfl ?_
        refine g1_size (pc := 29) ok dX1_emit_29 ?_
        refine fz_iload (pc := 32) ok dX1_emit_32 rfl ?_
        refine s1_ops (pc := 33) ok dX1_emit_33 (n) (hsz) (hlt) ?_
        refine fz_aload (pc := 34) ok dX1_emit_34 rfl ?_
        refine g1_cs (pc := 35) ok dX1_emit_35 ?_
        refine fz_aload (pc := 38) ok dX1_emit_38 rfl ?_
        refine g1_size (pc := 39) ok dX1_emit_39 ?_
        refine fz_iload (pc := 42) ok dX1_emit_42 rfl ?_
        refine s1_cs (pc := 43) ok dX1_emit_43 (n) (hsz) (hlt) ?_
        refine fz_aload (pc := 44) ok dX1_emit_44 rfl ?_
        refine fz_aload (pc := 45) ok dX1_emit_45 rfl ?_
        refine g1_size (pc := 46) ok dX1_emit_46 ?_
        refine fz_iconst (pc := 49) (v := 1) ok dX1_emit_49 (by decide) ?_
        refine fz_iadd (pc := 50) ok dX1_emit_50 ?_
        refine p1_size (pc := 51) ok dX1_emit_51 (nI (n + 1)) (by rw [hsz]; exact fz_a1 n) ?_
        refine fz_aload (pc := 54) ok dX1_emit_54 rfl ?_
        refine k1_over (pc := 55) ok (m1_over q o) rfl (by decide) (Nat.le_of_ble_eq_true rfl) dX1_emit_55 (fun u hu => ?_)
        refine fz_aload (pc := 58) ok dX1_emit_58 rfl ?_
        refine g1_size (pc := 59) ok dX1_emit_59 ?_
        refine fz_iconst (pc := 62) (v := 1) ok dX1_emit_62 (by decide) ?_
        refine fz_isub (pc := 63) ok dX1_emit_63 ?_
        refine fz_top (show _ = nI n from fz_s1 (Nat.le_add_left 1 n)) ?_
        exact hret (nI (n + 1), 0, 0, 0, upd op n (nI c), upd cn n v2) _ _ _ dX1_emit_64 rfl (Or.inr ⟨c, hc, rfl, Or.inr ⟨hlt, rfl, rfl⟩⟩)
      · have he : n = 24 := fz_inj (by omega) (by decide) (hsz.symm.trans c18)
        refine fz_bipush (pc := 21) (v := (-2)) ok dX1_emit_21 (by decide) ?_
        exact hret (sz, st, fu, hg, op, cn) _ _ _ dX1_emit_23 rfl (Or.inr ⟨c, hc, rfl, Or.inl ⟨he, rfl, rfl⟩⟩)
    · refine fz_iconst (pc := 10) (v := (-1)) ok dX1_emit_10 (by decide) ?_
      exact hret (sz, st, fu, hg, op, cn) _ _ _ dX1_emit_11 rfl (Or.inl ⟨Or.inr (fz_nle_lt c7), rfl, rfl⟩)
theorem m1_cell (q : fz_Q) (o : fz_O) {sz st fu pt hg : Int32} {op cn ce ht sk : Nat → Int32} (v1 v2 : Int32) : fz_Mi q yX1_cell cX1_cell 4 0 .int [.ref o.1, .int v1, .int v2] (wm q o sz st fu pt hg op cn ce ht sk) (fun (r : Int32) (_ : Unit) => r = ce (v1 &&& 3).toNatClampNeg) (fun _ => (wm q o sz st fu pt hg op cn (upd ce (v1 &&& 3).toNatClampNeg v2) ht sk)) := by
  refine fz_ofi (own := RX1) (by decide) rfl rfl (Nat.le_of_ble_eq_true rfl) ?_
  intro x ok hret
  refine fz_aload (pc := 0) ok dX1_cell_0 rfl ?_
  refine g1_cells (pc := 1) ok dX1_cell_1 ?_
  refine fz_iload (pc := 4) ok dX1_cell_4 rfl ?_
  refine fz_iconst (pc := 5) (v := 3) ok dX1_cell_5 (by decide) ?_
  refine fz_iand (pc := 6) ok dX1_cell_6 ?_
  refine l1_cells (pc := 7) ok dX1_cell_7 ((v1 &&& 3).toNatClampNeg) ((fz_and3' v1).1) ((fz_and3' v1).2) ?_
  refine fz_istore (pc := 8) (lc' := [_, _, _, _]) ok dX1_cell_8 (by decide) (Nat.le_of_ble_eq_true rfl) rfl ?_
  refine fz_aload (pc := 9) ok dX1_cell_9 rfl ?_
  refine g1_cells (pc := 10) ok dX1_cell_10 ?_
  refine fz_iload (pc := 13) ok dX1_cell_13 rfl ?_
  refine fz_iconst (pc := 14) (v := 3) ok dX1_cell_14 (by decide) ?_
  refine fz_iand (pc := 15) ok dX1_cell_15 ?_
  refine fz_iload (pc := 16) ok dX1_cell_16 rfl ?_
  refine s1_cells (pc := 17) ok dX1_cell_17 ((v1 &&& 3).toNatClampNeg) ((fz_and3' v1).1) ((fz_and3' v1).2) ?_
  refine fz_iload (pc := 18) ok dX1_cell_18 rfl ?_
  exact hret () _ _ _ dX1_cell_19 rfl rfl
theorem m1_get (q : fz_Q) (o : fz_O) {sz st fu pt hg : Int32} {op cn ce ht sk : Nat → Int32} (v1 : Int32) : fz_Mi q yX1_get cX1_get 2 0 .int [.ref o.1, .int v1] (wm q o sz st fu pt hg op cn ce ht sk) (fun (r : Int32) (_ : Unit) => r = ce (v1 &&& 3).toNatClampNeg) (fun _ => (wm q o sz st fu pt hg op cn ce ht sk)) := by
  refine fz_ofi (own := RX1) (by decide) rfl rfl (Nat.le_of_ble_eq_true rfl) ?_
  intro x ok hret
  refine fz_aload (pc := 0) ok dX1_get_0 rfl ?_
  refine g1_cells (pc := 1) ok dX1_get_1 ?_
  refine fz_iload (pc := 4) ok dX1_get_4 rfl ?_
  refine fz_iconst (pc := 5) (v := 3) ok dX1_get_5 (by decide) ?_
  refine fz_iand (pc := 6) ok dX1_get_6 ?_
  refine l1_cells (pc := 7) ok dX1_get_7 ((v1 &&& 3).toNatClampNeg) ((fz_and3' v1).1) ((fz_and3' v1).2) ?_
  exact hret () _ _ _ dX1_get_8 rfl rfl
theorem m1_state (q : fz_Q) (o : fz_O) {sz st fu pt hg : Int32} {op cn ce ht sk : Nat → Int32}  : fz_Mi q yX1_state cX1_state 1 0 .int [.ref o.1] (wm q o sz st fu pt hg op cn ce ht sk) (fun (r : Int32) (_ : Unit) => r = st) (fun _ => (wm q o sz st fu pt hg op cn ce ht sk)) := by
  refine fz_ofi (own := RX1) (by decide) rfl rfl (Nat.le_of_ble_eq_true rfl) ?_
  intro x ok hret
  refine fz_aload (pc := 0) ok dX1_state_0 rfl ?_
  refine g1_state (pc := 1) ok dX1_state_1 ?_
  exact hret () _ _ _ dX1_state_4 rfl rfl
theorem m1_fuel (q : fz_Q) (o : fz_O) {sz st fu pt hg : Int32} {op cn ce ht sk : Nat → Int32}  : fz_Mi q yX1_fuel cX1_fuel 1 0 .int [.ref o.1] (wm q o sz st fu pt hg op cn ce ht sk) (fun (r : Int32) (_ : Unit) => r = fu) (fun _ => (wm q o sz st fu pt hg op cn ce ht sk)) := by
  refine fz_ofi (own := RX1) (by decide) rfl rfl (Nat.le_of_ble_eq_true rfl) ?_
  intro x ok hret
  refine fz_aload (pc := 0) ok dX1_fuel_0 rfl ?_
  refine g1_fuel (pc := 1) ok dX1_fuel_1 ?_
  exact hret () _ _ _ dX1_fuel_4 rfl rfl
theorem m1_depth (q : fz_Q) (o : fz_O) {sz st fu pt hg : Int32} {op cn ce ht sk : Nat → Int32}  : fz_Mi q yX1_depth cX1_depth 1 0 .int [.ref o.1] (wm q o sz st fu pt hg op cn ce ht sk) (fun (r : Int32) (_ : Unit) => r = hg) (fun _ => (wm q o sz st fu pt hg op cn ce ht sk)) := by
  refine fz_ofi (own := RX1) (by decide) rfl rfl (Nat.le_of_ble_eq_true rfl) ?_
  intro x ok hret
  refine fz_aload (pc := 0) ok dX1_depth_0 rfl ?_
  refine g1_high (pc := 1) ok dX1_depth_1 ?_
  exact hret () _ _ _ dX1_depth_4 rfl rfl
theorem m1_place (q : fz_Q) (o : fz_O) {sz st fu pt hg : Int32} {op cn ce ht sk : Nat → Int32}  : fz_Mi q yX1_place cX1_place 1 0 .int [.ref o.1] (wm q o sz st fu pt hg op cn ce ht sk) (fun (r : Int32) (_ : Unit) => r = if st = 0 then -4 else pt) (fun _ => (wm q o sz st fu pt hg op cn ce ht sk)) := by
  refine fz_ofi (own := RX1) (by decide) rfl rfl (Nat.le_of_ble_eq_true rfl) ?_
  intro x ok hret
  refine fz_aload (pc := 0) ok dX1_place_0 rfl ?_
  refine g1_state (pc := 1) ok dX1_place_1 ?_
  refine fz_if_ne (pc := 4) (tgt := 12) ok dX1_place_4 (by decide) (fun c4 => ?_) (fun c4 => ?_)
  · refine fz_aload (pc := 12) ok dX1_place_12 rfl ?_
    refine g1_at (pc := 13) ok dX1_place_13 ?_
    exact hret () _ _ _ dX1_place_16 rfl (if_neg c4).symm
  · refine fz_bipush (pc := 7) (v := (-4)) ok dX1_place_7 (by decide) ?_
    refine fz_goto (pc := 9) (tgt := 16) ok dX1_place_9 (by decide) ?_
    exact hret () _ _ _ dX1_place_16 rfl (if_pos c4).symm
theorem m1_top (q : fz_Q) (o : fz_O) {sz st fu pt hg : Int32} {op cn ce ht sk : Nat → Int32} {d : Nat} (hd : hg = nI d) (h8 : d ≤ 16) (v1 : Int32) : fz_Mi q yX1_top cX1_top 2 0 .int [.ref o.1, .int v1] (wm q o sz st fu pt hg op cn ce ht sk) (fun (r : Int32) (_ : Unit) => r = topF d sk v1) (fun _ => (wm q o sz st fu pt hg op cn ce ht sk)) := by
  refine fz_ofi (own := RX1) (by decide) rfl rfl (Nat.le_of_ble_eq_true rfl) ?_
  intro x ok hret
  refine fz_iload (pc := 0) ok dX1_top_0 rfl ?_
  refine fz_if_lt (pc := 1) (tgt := 12) ok dX1_top_1 (by decide) (fun c1 => ?_) (fun c1 => ?_)
  · refine fz_iconst (pc := 12) (v := 0) ok dX1_top_12 (by decide) ?_
    refine fz_goto (pc := 13) (tgt := 29) ok dX1_top_13 (by decide) ?_
    exact hret () _ _ _ dX1_top_29 rfl (topF_out (Or.inl c1)).symm
  · refine fz_iload (pc := 4) ok dX1_top_4 rfl ?_
    refine fz_aload (pc := 5) ok dX1_top_5 rfl ?_
    refine g1_high (pc := 6) ok dX1_top_6 ?_
    refine fz_icmp_lt (pc := 9) (tgt := 16) ok dX1_top_9 (by decide) (fun c9 => ?_) (fun c9 => ?_)
    · obtain ⟨j, hj, ej, et⟩ := topF_in (sk := sk) c1 (by rw [hd] at c9; exact c9) (by omega)
      refine fz_aload (pc := 16) ok dX1_top_16 rfl ?_
      refine g1_stack (pc := 17) ok dX1_top_17 ?_
      refine fz_aload (pc := 20) ok dX1_top_20 rfl ?_
      refine g1_high (pc := 21) ok dX1_top_21 ?_
      refine fz_iconst (pc := 24) (v := 1) ok dX1_top_24 (by decide) ?_
      refine fz_isub (pc := 25) ok dX1_top_25 ?_
      refine fz_iload (pc := 26) ok dX1_top_26 rfl ?_
      refine fz_isub (pc := 27) ok dX1_top_27 ?_
      refine l1_stack (pc := 28) ok dX1_top_28 (d - 1 - j) (by rw [hd, ej, fz_s1 (by omega)]; exact pk_sub (by omega)) (by omega) ?_
      exact hret () _ _ _ dX1_top_29 rfl et.symm
    · refine fz_iconst (pc := 12) (v := 0) ok dX1_top_12 (by decide) ?_
      refine fz_goto (pc := 13) (tgt := 29) ok dX1_top_13 (by decide) ?_
      exact hret () _ _ _ dX1_top_29 rfl (topF_out (Or.inr (fz_nlt_le (by rw [hd] at c9; exact c9)))).symm
theorem m1_needs (q : fz_Q) (o : fz_O) {sz st fu pt hg : Int32} {op cn ce ht sk : Nat → Int32} {c : Nat} (hc : c < 15) : fz_Mi q yX1_needs cX1_needs 2 0 .int [.ref o.1, .int (nI c)] (wm q o sz st fu pt hg op cn ce ht sk) (fun (r : Int32) (_ : Unit) => r = nI (usN c)) (fun _ => (wm q o sz st fu pt hg op cn ce ht sk)) := by
  refine fz_ofi (own := RX1) (by decide) rfl rfl (Nat.le_of_ble_eq_true rfl) ?_
  intro x ok hret
  rcases fz_15 hc with rfl | rfl | rfl | rfl | rfl | rfl | rfl | rfl | rfl | rfl | rfl | rfl | rfl | rfl | rfl
  · refine fz_iload (pc := 0) ok dX1_needs_0 rfl ?_
    refine fz_iconst (pc := 1) (v := 1) ok dX1_needs_1 (by decide) ?_
    refine fz_icmp_eq (pc := 2) (tgt := 28) ok dX1_needs_2 (by decide) (fun c2 => ?_) (fun c2 => ?_)
    · exact absurd c2 (by decide +kernel)
    · refine fz_iload (pc := 5) ok dX1_needs_5 rfl ?_
      refine fz_iconst (pc := 6) (v := 2) ok dX1_needs_6 (by decide) ?_
      refine fz_icmp_eq (pc := 7) (tgt := 28) ok dX1_needs_7 (by decide) (fun c7 => ?_) (fun c7 => ?_)
      · exact absurd c7 (by decide +kernel)
      · refine fz_iload (pc := 10) ok dX1_needs_10 rfl ?_
        refine fz_bipush (pc := 11) (v := 9) ok dX1_needs_11 (by decide) ?_
        refine fz_icmp_eq (pc := 13) (tgt := 28) ok dX1_needs_13 (by decide) (fun c13 => ?_) (fun c13 => ?_)
        · exact absurd c13 (by decide +kernel)
        · refine fz_iload (pc := 16) ok dX1_needs_16 rfl ?_
          refine fz_bipush (pc := 17) (v := 10) ok dX1_needs_17 (by decide) ?_
          refine fz_icmp_eq (pc := 19) (tgt := 28) ok dX1_needs_19 (by decide) (fun c19 => ?_) (fun c19 => ?_)
          · exact absurd c19 (by decide +kernel)
          · refine fz_iload (pc := 22) ok dX1_needs_22 rfl ?_
            refine fz_bipush (pc := 23) (v := 12) ok dX1_needs_23 (by decide) ?_
            refine fz_icmp_ne (pc := 25) (tgt := 30) ok dX1_needs_25 (by decide) (fun c25 => ?_) (fun c25 => ?_)
            · refine fz_iload (pc := 30) ok dX1_needs_30 rfl ?_
              refine fz_iconst (pc := 31) (v := 3) ok dX1_needs_31 (by decide) ?_
              refine fz_icmp_lt (pc := 32) (tgt := 45) ok dX1_needs_32 (by decide) (fun c32 => ?_) (fun c32 => ?_)
              · refine fz_iconst (pc := 45) (v := 0) ok dX1_needs_45 (by decide) ?_
                exact hret () _ _ _ dX1_needs_46 rfl rfl
              · exact absurd (by decide +kernel) c32
            · exact absurd c25 (by decide +kernel)
  · refine fz_iload (pc := 0) ok dX1_needs_0 rfl ?_
    refine fz_iconst (pc := 1) (v := 1) ok dX1_needs_1 (by decide) ?_
    refine fz_icmp_eq (pc := 2) (tgt := 28) ok dX1_needs_2 (by decide) (fun c2 => ?_) (fun c2 => ?_)
    · refine fz_iconst (pc := 28) (v := 1) ok dX1_needs_28 (by decide) ?_
      exact hret () _ _ _ dX1_needs_29 rfl rfl
    · exact absurd (by decide +kernel) c2
  · refine fz_iload (pc := 0) ok dX1_needs_0 rfl ?_
    refine fz_iconst (pc := 1) (v := 1) ok dX1_needs_1 (by decide) ?_
    refine fz_icmp_eq (pc := 2) (tgt := 28) ok dX1_needs_2 (by decide) (fun c2 => ?_) (fun c2 => ?_)
    · exact absurd c2 (by decide +kernel)
    · refine fz_iload (pc := 5) ok dX1_needs_5 rfl ?_
      refine fz_iconst (pc := 6) (v := 2) ok dX1_needs_6 (by decide) ?_
      refine fz_icmp_eq (pc := 7) (tgt := 28) ok dX1_needs_7 (by decide) (fun c7 => ?_) (fun c7 => ?_)
      · refine fz_iconst (pc := 28) (v := 1) ok dX1_needs_28 (by decide) ?_
        exact hret () _ _ _ dX1_needs_29 rfl rfl
      · exact absurd (by decide +kernel) c7
  · refine fz_iload (pc := 0) ok dX1_needs_0 rfl ?_
    refine fz_iconst (pc := 1) (v := 1) ok dX1_needs_1 (by decide) ?_
    refine fz_icmp_eq (pc := 2) (tgt := 28) ok dX1_needs_2 (by decide) (fun c2 => ?_) (fun c2 => ?_)
    · exact absurd c2 (by decide +kernel)
    · refine fz_iload (pc := 5) ok dX1_needs_5 rfl ?_
      refine fz_iconst (pc := 6) (v := 2) ok dX1_needs_6 (by decide) ?_
      refine fz_icmp_eq (pc := 7) (tgt := 28) ok dX1_needs_7 (by decide) (fun c7 => ?_) (fun c7 => ?_)
      · exact absurd c7 (by decide +kernel)
      · refine fz_iload (pc := 10) ok dX1_needs_10 rfl ?_
        refine fz_bipush (pc := 11) (v := 9) ok dX1_needs_11 (by decide) ?_
        refine fz_icmp_eq (pc := 13) (tgt := 28) ok dX1_needs_13 (by decide) (fun c13 => ?_) (fun c13 => ?_)
        · exact absurd c13 (by decide +kernel)
        · refine fz_iload (pc := 16) ok dX1_needs_16 rfl ?_
          refine fz_bipush (pc := 17) (v := 10) ok dX1_needs_17 (by decide) ?_
          refine fz_icmp_eq (pc := 19) (tgt := 28) ok dX1_needs_19 (by decide) (fun c19 => ?_) (fun c19 => ?_)
          · exact absurd c19 (by decide +kernel)
          · refine fz_iload (pc := 22) ok dX1_needs_22 rfl ?_
            refine fz_bipush (pc := 23) (v := 12) ok dX1_needs_23 (by decide) ?_
            refine fz_icmp_ne (pc := 25) (tgt := 30) ok dX1_needs_25 (by decide) (fun c25 => ?_) (fun c25 => ?_)
            · refine fz_iload (pc := 30) ok dX1_needs_30 rfl ?_
              refine fz_iconst (pc := 31) (v := 3) ok dX1_needs_31 (by decide) ?_
              refine fz_icmp_lt (pc := 32) (tgt := 45) ok dX1_needs_32 (by decide) (fun c32 => ?_) (fun c32 => ?_)
              · exact absurd c32 (by decide +kernel)
              · refine fz_iload (pc := 35) ok dX1_needs_35 rfl ?_
                refine fz_bipush (pc := 36) (v := 7) ok dX1_needs_36 (by decide) ?_
                refine fz_icmp_gt (pc := 38) (tgt := 45) ok dX1_needs_38 (by decide) (fun c38 => ?_) (fun c38 => ?_)
                · exact absurd c38 (by decide +kernel)
                · refine fz_iconst (pc := 41) (v := 2) ok dX1_needs_41 (by decide) ?_
                  refine fz_goto (pc := 42) (tgt := 46) ok dX1_needs_42 (by decide) ?_
                  exact hret () _ _ _ dX1_needs_46 rfl rfl
            · exact absurd c25 (by decide +kernel)
  · refine fz_iload (pc := 0) ok dX1_needs_0 rfl ?_
    refine fz_iconst (pc := 1) (v := 1) ok dX1_needs_1 (by decide) ?_
    refine fz_icmp_eq (pc := 2) (tgt := 28) ok dX1_needs_2 (by decide) (fun c2 => ?_) (fun c2 => ?_)
    · exact absurd c2 (by decide +kernel)
    · refine fz_iload (pc := 5) ok dX1_needs_5 rfl ?_
      refine fz_iconst (pc := 6) (v := 2) ok dX1_needs_6 (by decide) ?_
      refine fz_icmp_eq (pc := 7) (tgt := 28) ok dX1_needs_7 (by decide) (fun c7 => ?_) (fun c7 => ?_)
      · exact absurd c7 (by decide +kernel)
      · refine fz_iload (pc := 10) ok dX1_needs_10 rfl ?_
        refine fz_bipush (pc := 11) (v := 9) ok dX1_needs_11 (by decide) ?_
        refine fz_icmp_eq (pc := 13) (tgt := 28) ok dX1_needs_13 (by decide) (fun c13 => ?_) (fun c13 => ?_)
        · exact absurd c13 (by decide +kernel)
        · refine fz_iload (pc := 16) ok dX1_needs_16 rfl ?_
          refine fz_bipush (pc := 17) (v := 10) ok dX1_needs_17 (by decide) ?_
          refine fz_icmp_eq (pc := 19) (tgt := 28) ok dX1_needs_19 (by decide) (fun c19 => ?_) (fun c19 => ?_)
          · exact absurd c19 (by decide +kernel)
          · refine fz_iload (pc := 22) ok dX1_needs_22 rfl ?_
            refine fz_bipush (pc := 23) (v := 12) ok dX1_needs_23 (by decide) ?_
            refine fz_icmp_ne (pc := 25) (tgt := 30) ok dX1_needs_25 (by decide) (fun c25 => ?_) (fun c25 => ?_)
            · refine fz_iload (pc := 30) ok dX1_needs_30 rfl ?_
              refine fz_iconst (pc := 31) (v := 3) ok dX1_needs_31 (by decide) ?_
              refine fz_icmp_lt (pc := 32) (tgt := 45) ok dX1_needs_32 (by decide) (fun c32 => ?_) (fun c32 => ?_)
              · exact absurd c32 (by decide +kernel)
              · refine fz_iload (pc := 35) ok dX1_needs_35 rfl ?_
                refine fz_bipush (pc := 36) (v := 7) ok dX1_needs_36 (by decide) ?_
                refine fz_icmp_gt (pc := 38) (tgt := 45) ok dX1_needs_38 (by decide) (fun c38 => ?_) (fun c38 => ?_)
                · exact absurd c38 (by decide +kernel)
                · refine fz_iconst (pc := 41) (v := 2) ok dX1_needs_41 (by decide) ?_
                  refine fz_goto (pc := 42) (tgt := 46) ok dX1_needs_42 (by decide) ?_
                  exact hret () _ _ _ dX1_needs_46 rfl rfl
            · exact absurd c25 (by decide +kernel)
  · refine fz_iload (pc := 0) ok dX1_needs_0 rfl ?_
    refine fz_iconst (pc := 1) (v := 1) ok dX1_needs_1 (by decide) ?_
    refine fz_icmp_eq (pc := 2) (tgt := 28) ok dX1_needs_2 (by decide) (fun c2 => ?_) (fun c2 => ?_)
    · exact absurd c2 (by decide +kernel)
    · refine fz_iload (pc := 5) ok dX1_needs_5 rfl ?_
      refine fz_iconst (pc := 6) (v := 2) ok dX1_needs_6 (by decide) ?_
      refine fz_icmp_eq (pc := 7) (tgt := 28) ok dX1_needs_7 (by decide) (fun c7 => ?_) (fun c7 => ?_)
      · exact absurd c7 (by decide +kernel)
      · refine fz_iload (pc := 10) ok dX1_needs_10 rfl ?_
        refine fz_bipush (pc := 11) (v := 9) ok dX1_needs_11 (by decide) ?_
        refine fz_icmp_eq (pc := 13) (tgt := 28) ok dX1_needs_13 (by decide) (fun c13 => ?_) (fun c13 => ?_)
        · exact absurd c13 (by decide +kernel)
        · refine fz_iload (pc := 16) ok dX1_needs_16 rfl ?_
          refine fz_bipush (pc := 17) (v := 10) ok dX1_needs_17 (by decide) ?_
          refine fz_icmp_eq (pc := 19) (tgt := 28) ok dX1_needs_19 (by decide) (fun c19 => ?_) (fun c19 => ?_)
          · exact absurd c19 (by decide +kernel)
          · refine fz_iload (pc := 22) ok dX1_needs_22 rfl ?_
            refine fz_bipush (pc := 23) (v := 12) ok dX1_needs_23 (by decide) ?_
            refine fz_icmp_ne (pc := 25) (tgt := 30) ok dX1_needs_25 (by decide) (fun c25 => ?_) (fun c25 => ?_)
            · refine fz_iload (pc := 30) ok dX1_needs_30 rfl ?_
              refine fz_iconst (pc := 31) (v := 3) ok dX1_needs_31 (by decide) ?_
              refine fz_icmp_lt (pc := 32) (tgt := 45) ok dX1_needs_32 (by decide) (fun c32 => ?_) (fun c32 => ?_)
              · exact absurd c32 (by decide +kernel)
              · refine fz_iload (pc := 35) ok dX1_needs_35 rfl ?_
                refine fz_bipush (pc := 36) (v := 7) ok dX1_needs_36 (by decide) ?_
                refine fz_icmp_gt (pc := 38) (tgt := 45) ok dX1_needs_38 (by decide) (fun c38 => ?_) (fun c38 => ?_)
                · exact absurd c38 (by decide +kernel)
                · refine fz_iconst (pc := 41) (v := 2) ok dX1_needs_41 (by decide) ?_
                  refine fz_goto (pc := 42) (tgt := 46) ok dX1_needs_42 (by decide) ?_
                  exact hret () _ _ _ dX1_needs_46 rfl rfl
            · exact absurd c25 (by decide +kernel)
  · refine fz_iload (pc := 0) ok dX1_needs_0 rfl ?_
    refine fz_iconst (pc := 1) (v := 1) ok dX1_needs_1 (by decide) ?_
    refine fz_icmp_eq (pc := 2) (tgt := 28) ok dX1_needs_2 (by decide) (fun c2 => ?_) (fun c2 => ?_)
    · exact absurd c2 (by decide +kernel)
    · refine fz_iload (pc := 5) ok dX1_needs_5 rfl ?_
      refine fz_iconst (pc := 6) (v := 2) ok dX1_needs_6 (by decide) ?_
      refine fz_icmp_eq (pc := 7) (tgt := 28) ok dX1_needs_7 (by decide) (fun c7 => ?_) (fun c7 => ?_)
      · exact absurd c7 (by decide +kernel)
      · refine fz_iload (pc := 10) ok dX1_needs_10 rfl ?_
        refine fz_bipush (pc := 11) (v := 9) ok dX1_needs_11 (by decide) ?_
        refine fz_icmp_eq (pc := 13) (tgt := 28) ok dX1_needs_13 (by decide) (fun c13 => ?_) (fun c13 => ?_)
        · exact absurd c13 (by decide +kernel)
        · refine fz_iload (pc := 16) ok dX1_needs_16 rfl ?_
          refine fz_bipush (pc := 17) (v := 10) ok dX1_needs_17 (by decide) ?_
          refine fz_icmp_eq (pc := 19) (tgt := 28) ok dX1_needs_19 (by decide) (fun c19 => ?_) (fun c19 => ?_)
          · exact absurd c19 (by decide +kernel)
          · refine fz_iload (pc := 22) ok dX1_needs_22 rfl ?_
            refine fz_bipush (pc := 23) (v := 12) ok dX1_needs_23 (by decide) ?_
            refine fz_icmp_ne (pc := 25) (tgt := 30) ok dX1_needs_25 (by decide) (fun c25 => ?_) (fun c25 => ?_)
            · refine fz_iload (pc := 30) ok dX1_needs_30 rfl ?_
              refine fz_iconst (pc := 31) (v := 3) ok dX1_needs_31 (by decide) ?_
              refine fz_icmp_lt (pc := 32) (tgt := 45) ok dX1_needs_32 (by decide) (fun c32 => ?_) (fun c32 => ?_)
              · exact absurd c32 (by decide +kernel)
              · refine fz_iload (pc := 35) ok dX1_needs_35 rfl ?_
                refine fz_bipush (pc := 36) (v := 7) ok dX1_needs_36 (by decide) ?_
                refine fz_icmp_gt (pc := 38) (tgt := 45) ok dX1_needs_38 (by decide) (fun c38 => ?_) (fun c38 => ?_)
                · exact absurd c38 (by decide +kernel)
                · refine fz_iconst (pc := 41) (v := 2) ok dX1_needs_41 (by decide) ?_
                  refine fz_goto (pc := 42) (tgt := 46) ok dX1_needs_42 (by decide) ?_
                  exact hret () _ _ _ dX1_needs_46 rfl rfl
            · exact absurd c25 (by decide +kernel)
  · refine fz_iload (pc := 0) ok dX1_needs_0 rfl ?_
    refine fz_iconst (pc := 1) (v := 1) ok dX1_needs_1 (by decide) ?_
    refine fz_icmp_eq (pc := 2) (tgt := 28) ok dX1_needs_2 (by decide) (fun c2 => ?_) (fun c2 => ?_)
    · exact absurd c2 (by decide +kernel)
    · refine fz_iload (pc := 5) ok dX1_needs_5 rfl ?_
      refine fz_iconst (pc := 6) (v := 2) ok dX1_needs_6 (by decide) ?_
      refine fz_icmp_eq (pc := 7) (tgt := 28) ok dX1_needs_7 (by decide) (fun c7 => ?_) (fun c7 => ?_)
      · exact absurd c7 (by decide +kernel)
      · refine fz_iload (pc := 10) ok dX1_needs_10 rfl ?_
        refine fz_bipush (pc := 11) (v := 9) ok dX1_needs_11 (by decide) ?_
        refine fz_icmp_eq (pc := 13) (tgt := 28) ok dX1_needs_13 (by decide) (fun c13 => ?_) (fun c13 => ?_)
        · exact absurd c13 (by decide +kernel)
        · refine fz_iload (pc := 16) ok dX1_needs_16 rfl ?_
          refine fz_bipush (pc := 17) (v := 10) ok dX1_needs_17 (by decide) ?_
          refine fz_icmp_eq (pc := 19) (tgt := 28) ok dX1_needs_19 (by decide) (fun c19 => ?_) (fun c19 => ?_)
          · exact absurd c19 (by decide +kernel)
          · refine fz_iload (pc := 22) ok dX1_needs_22 rfl ?_
            refine fz_bipush (pc := 23) (v := 12) ok dX1_needs_23 (by decide) ?_
            refine fz_icmp_ne (pc := 25) (tgt := 30) ok dX1_needs_25 (by decide) (fun c25 => ?_) (fun c25 => ?_)
            · refine fz_iload (pc := 30) ok dX1_needs_30 rfl ?_
              refine fz_iconst (pc := 31) (v := 3) ok dX1_needs_31 (by decide) ?_
              refine fz_icmp_lt (pc := 32) (tgt := 45) ok dX1_needs_32 (by decide) (fun c32 => ?_) (fun c32 => ?_)
              · exact absurd c32 (by decide +kernel)
              · refine fz_iload (pc := 35) ok dX1_needs_35 rfl ?_
                refine fz_bipush (pc := 36) (v := 7) ok dX1_needs_36 (by decide) ?_
                refine fz_icmp_gt (pc := 38) (tgt := 45) ok dX1_needs_38 (by decide) (fun c38 => ?_) (fun c38 => ?_)
                · exact absurd c38 (by decide +kernel)
                · refine fz_iconst (pc := 41) (v := 2) ok dX1_needs_41 (by decide) ?_
                  refine fz_goto (pc := 42) (tgt := 46) ok dX1_needs_42 (by decide) ?_
                  exact hret () _ _ _ dX1_needs_46 rfl rfl
            · exact absurd c25 (by decide +kernel)
  · refine fz_iload (pc := 0) ok dX1_needs_0 rfl ?_
    refine fz_iconst (pc := 1) (v := 1) ok dX1_needs_1 (by decide) ?_
    refine fz_icmp_eq (pc := 2) (tgt := 28) ok dX1_needs_2 (by decide) (fun c2 => ?_) (fun c2 => ?_)
    · exact absurd c2 (by decide +kernel)
    · refine fz_iload (pc := 5) ok dX1_needs_5 rfl ?_
      refine fz_iconst (pc := 6) (v := 2) ok dX1_needs_6 (by decide) ?_
      refine fz_icmp_eq (pc := 7) (tgt := 28) ok dX1_needs_7 (by decide) (fun c7 => ?_) (fun c7 => ?_)
      · exact absurd c7 (by decide +kernel)
      · refine fz_iload (pc := 10) ok dX1_needs_10 rfl ?_
        refine fz_bipush (pc := 11) (v := 9) ok dX1_needs_11 (by decide) ?_
        refine fz_icmp_eq (pc := 13) (tgt := 28) ok dX1_needs_13 (by decide) (fun c13 => ?_) (fun c13 => ?_)
        · exact absurd c13 (by decide +kernel)
        · refine fz_iload (pc := 16) ok dX1_needs_16 rfl ?_
          refine fz_bipush (pc := 17) (v := 10) ok dX1_needs_17 (by decide) ?_
          refine fz_icmp_eq (pc := 19) (tgt := 28) ok dX1_needs_19 (by decide) (fun c19 => ?_) (fun c19 => ?_)
          · exact absurd c19 (by decide +kernel)
          · refine fz_iload (pc := 22) ok dX1_needs_22 rfl ?_
            refine fz_bipush (pc := 23) (v := 12) ok dX1_needs_23 (by decide) ?_
            refine fz_icmp_ne (pc := 25) (tgt := 30) ok dX1_needs_25 (by decide) (fun c25 => ?_) (fun c25 => ?_)
            · refine fz_iload (pc := 30) ok dX1_needs_30 rfl ?_
              refine fz_iconst (pc := 31) (v := 3) ok dX1_needs_31 (by decide) ?_
              refine fz_icmp_lt (pc := 32) (tgt := 45) ok dX1_needs_32 (by decide) (fun c32 => ?_) (fun c32 => ?_)
              · exact absurd c32 (by decide +kernel)
              · refine fz_iload (pc := 35) ok dX1_needs_35 rfl ?_
                refine fz_bipush (pc := 36) (v := 7) ok dX1_needs_36 (by decide) ?_
                refine fz_icmp_gt (pc := 38) (tgt := 45) ok dX1_needs_38 (by decide) (fun c38 => ?_) (fun c38 => ?_)
                · refine fz_iconst (pc := 45) (v := 0) ok dX1_needs_45 (by decide) ?_
                  exact hret () _ _ _ dX1_needs_46 rfl rfl
                · exact absurd (by decide +kernel) c38
            · exact absurd c25 (by decide +kernel)
  · refine fz_iload (pc := 0) ok dX1_needs_0 rfl ?_
    refine fz_iconst (pc := 1) (v := 1) ok dX1_needs_1 (by decide) ?_
    refine fz_icmp_eq (pc := 2) (tgt := 28) ok dX1_needs_2 (by decide) (fun c2 => ?_) (fun c2 => ?_)
    · exact absurd c2 (by decide +kernel)
    · refine fz_iload (pc := 5) ok dX1_needs_5 rfl ?_
      refine fz_iconst (pc := 6) (v := 2) ok dX1_needs_6 (by decide) ?_
      refine fz_icmp_eq (pc := 7) (tgt := 28) ok dX1_needs_7 (by decide) (fun c7 => ?_) (fun c7 => ?_)
      · exact absurd c7 (by decide +kernel)
      · refine fz_iload (pc := 10) ok dX1_needs_10 rfl ?_
        refine fz_bipush (pc := 11) (v := 9) ok dX1_needs_11 (by decide) ?_
        refine fz_icmp_eq (pc := 13) (tgt := 28) ok dX1_needs_13 (by decide) (fun c13 => ?_) (fun c13 => ?_)
        · refine fz_iconst (pc := 28) (v := 1) ok dX1_needs_28 (by decide) ?_
          exact hret () _ _ _ dX1_needs_29 rfl rfl
        · exact absurd (by decide +kernel) c13
  · refine fz_iload (pc := 0) ok dX1_needs_0 rfl ?_
    refine fz_iconst (pc := 1) (v := 1) ok dX1_needs_1 (by decide) ?_
    refine fz_icmp_eq (pc := 2) (tgt := 28) ok dX1_needs_2 (by decide) (fun c2 => ?_) (fun c2 => ?_)
    · exact absurd c2 (by decide +kernel)
    · refine fz_iload (pc := 5) ok dX1_needs_5 rfl ?_
      refine fz_iconst (pc := 6) (v := 2) ok dX1_needs_6 (by decide) ?_
      refine fz_icmp_eq (pc := 7) (tgt := 28) ok dX1_needs_7 (by decide) (fun c7 => ?_) (fun c7 => ?_)
      · exact absurd c7 (by decide +kernel)
      · refine fz_iload (pc := 10) ok dX1_needs_10 rfl ?_
        refine fz_bipush (pc := 11) (v := 9) ok dX1_needs_11 (by decide) ?_
        refine fz_icmp_eq (pc := 13) (tgt := 28) ok dX1_needs_13 (by decide) (fun c13 => ?_) (fun c13 => ?_)
        · exact absurd c13 (by decide +kernel)
        · refine fz_iload (pc := 16) ok dX1_needs_16 rfl ?_
          refine fz_bipush (pc := 17) (v := 10) ok dX1_needs_17 (by decide) ?_
          refine fz_icmp_eq (pc := 19) (tgt := 28) ok dX1_needs_19 (by decide) (fun c19 => ?_) (fun c19 => ?_)
          · refine fz_iconst (pc := 28) (v := 1) ok dX1_needs_28 (by decide) ?_
            exact hret () _ _ _ dX1_needs_29 rfl rfl
          · exact absurd (by decide +kernel) c19
  · refine fz_iload (pc := 0) ok dX1_needs_0 rfl ?_
    refine fz_iconst (pc := 1) (v := 1) ok dX1_needs_1 (by decide) ?_
    refine fz_icmp_eq (pc := 2) (tgt := 28) ok dX1_needs_2 (by decide) (fun c2 => ?_) (fun c2 => ?_)
    · exact absurd c2 (by decide +kernel)
    · refine fz_iload (pc := 5) ok dX1_needs_5 rfl ?_
      refine fz_iconst (pc := 6) (v := 2) ok dX1_needs_6 (by decide) ?_
      refine fz_icmp_eq (pc := 7) (tgt := 28) ok dX1_needs_7 (by decide) (fun c7 => ?_) (fun c7 => ?_)
      · exact absurd c7 (by decide +kernel)
      · refine fz_iload (pc := 10) ok dX1_needs_10 rfl ?_
        refine fz_bipush (pc := 11) (v := 9) ok dX1_needs_11 (by decide) ?_
        refine fz_icmp_eq (pc := 13) (tgt := 28) ok dX1_needs_13 (by decide) (fun c13 => ?_) (fun c13 => ?_)
        · exact absurd c13 (by decide +kernel)
        · refine fz_iload (pc := 16) ok dX1_needs_16 rfl ?_
          refine fz_bipush (pc := 17) (v := 10) ok dX1_needs_17 (by decide) ?_
          refine fz_icmp_eq (pc := 19) (tgt := 28) ok dX1_needs_19 (by decide) (fun c19 => ?_) (fun c19 => ?_)
          · exact absurd c19 (by decide +kernel)
          · refine fz_iload (pc := 22) ok dX1_needs_22 rfl ?_
            refine fz_bipush (pc := 23) (v := 12) ok dX1_needs_23 (by decide) ?_
            refine fz_icmp_ne (pc := 25) (tgt := 30) ok dX1_needs_25 (by decide) (fun c25 => ?_) (fun c25 => ?_)
            · refine fz_iload (pc := 30) ok dX1_needs_30 rfl ?_
              refine fz_iconst (pc := 31) (v := 3) ok dX1_needs_31 (by decide) ?_
              refine fz_icmp_lt (pc := 32) (tgt := 45) ok dX1_needs_32 (by decide) (fun c32 => ?_) (fun c32 => ?_)
              · exact absurd c32 (by decide +kernel)
              · refine fz_iload (pc := 35) ok dX1_needs_35 rfl ?_
                refine fz_bipush (pc := 36) (v := 7) ok dX1_needs_36 (by decide) ?_
                refine fz_icmp_gt (pc := 38) (tgt := 45) ok dX1_needs_38 (by decide) (fun c38 => ?_) (fun c38 => ?_)
                · refine fz_iconst (pc := 45) (v := 0) ok dX1_needs_45 (by decide) ?_
                  exact hret () _ _ _ dX1_needs_46 rfl rfl
                · exact absurd (by decide +kernel) c38
            · exact absurd c25 (by decide +kernel)
  · refine fz_iload (pc := 0) ok dX1_needs_0 rfl ?_
    refine fz_iconst (pc := 1) (v := 1) ok dX1_needs_1 (by decide) ?_
    refine fz_icmp_eq (pc := 2) (tgt := 28) ok dX1_needs_2 (by decide) (fun c2 => ?_) (fun c2 => ?_)
    · exact absurd c2 (by decide +kernel)
    · refine fz_iload (pc := 5) ok dX1_needs_5 rfl ?_
      refine fz_iconst (pc := 6) (v := 2) ok dX1_needs_6 (by decide) ?_
      refine fz_icmp_eq (pc := 7) (tgt := 28) ok dX1_needs_7 (by decide) (fun c7 => ?_) (fun c7 => ?_)
      · exact absurd c7 (by decide +kernel)
      · refine fz_iload (pc := 10) ok dX1_needs_10 rfl ?_
        refine fz_bipush (pc := 11) (v := 9) ok dX1_needs_11 (by decide) ?_
        refine fz_icmp_eq (pc := 13) (tgt := 28) ok dX1_needs_13 (by decide) (fun c13 => ?_) (fun c13 => ?_)
        · exact absurd c13 (by decide +kernel)
        · refine fz_iload (pc := 16) ok dX1_needs_16 rfl ?_
          refine fz_bipush (pc := 17) (v := 10) ok dX1_needs_17 (by decide) ?_
          refine fz_icmp_eq (pc := 19) (tgt := 28) ok dX1_needs_19 (by decide) (fun c19 => ?_) (fun c19 => ?_)
          · exact absurd c19 (by decide +kernel)
          · refine fz_iload (pc := 22) ok dX1_needs_22 rfl ?_
            refine fz_bipush (pc := 23) (v := 12) ok dX1_needs_23 (by decide) ?_
            refine fz_icmp_ne (pc := 25) (tgt := 30) ok dX1_needs_25 (by decide) (fun c25 => ?_) (fun c25 => ?_)
            · exact absurd rfl c25
            · refine fz_iconst (pc := 28) (v := 1) ok dX1_needs_28 (by decide) ?_
              exact hret () _ _ _ dX1_needs_29 rfl rfl
  · refine fz_iload (pc := 0) ok dX1_needs_0 rfl ?_
    refine fz_iconst (pc := 1) (v := 1) ok dX1_needs_1 (by decide) ?_
    refine fz_icmp_eq (pc := 2) (tgt := 28) ok dX1_needs_2 (by decide) (fun c2 => ?_) (fun c2 => ?_)
    · exact absurd c2 (by decide +kernel)
    · refine fz_iload (pc := 5) ok dX1_needs_5 rfl ?_
      refine fz_iconst (pc := 6) (v := 2) ok dX1_needs_6 (by decide) ?_
      refine fz_icmp_eq (pc := 7) (tgt := 28) ok dX1_needs_7 (by decide) (fun c7 => ?_) (fun c7 => ?_)
      · exact absurd c7 (by decide +kernel)
      · refine fz_iload (pc := 10) ok dX1_needs_10 rfl ?_
        refine fz_bipush (pc := 11) (v := 9) ok dX1_needs_11 (by decide) ?_
        refine fz_icmp_eq (pc := 13) (tgt := 28) ok dX1_needs_13 (by decide) (fun c13 => ?_) (fun c13 => ?_)
        · exact absurd c13 (by decide +kernel)
        · refine fz_iload (pc := 16) ok dX1_needs_16 rfl ?_
          refine fz_bipush (pc := 17) (v := 10) ok dX1_needs_17 (by decide) ?_
          refine fz_icmp_eq (pc := 19) (tgt := 28) ok dX1_needs_19 (by decide) (fun c19 => ?_) (fun c19 => ?_)
          · exact absurd c19 (by decide +kernel)
          · refine fz_iload (pc := 22) ok dX1_needs_22 rfl ?_
            refine fz_bipush (pc := 23) (v := 12) ok dX1_needs_23 (by decide) ?_
            refine fz_icmp_ne (pc := 25) (tgt := 30) ok dX1_needs_25 (by decide) (fun c25 => ?_) (fun c25 => ?_)
            · refine fz_iload (pc := 30) ok dX1_needs_30 rfl ?_
              refine fz_iconst (pc := 31) (v := 3) ok dX1_needs_31 (by decide) ?_
              refine fz_icmp_lt (pc := 32) (tgt := 45) ok dX1_needs_32 (by decide) (fun c32 => ?_) (fun c32 => ?_)
              · exact absurd c32 (by decide +kernel)
              · refine fz_iload (pc := 35) ok dX1_needs_35 rfl ?_
                refine fz_bipush (pc := 36) (v := 7) ok dX1_needs_36 (by decide) ?_
                refine fz_icmp_gt (pc := 38) (tgt := 45) ok dX1_needs_38 (by decide) (fun c38 => ?_) (fun c38 => ?_)
                · refine fz_iconst (pc := 45) (v := 0) ok dX1_needs_45 (by decide) ?_
                  exact hret () _ _ _ dX1_needs_46 rfl rfl
                · exact absurd (by decide +kernel) c38
            · exact absurd c25 (by decide +kernel)
  · refine fz_iload (pc := 0) ok dX1_needs_0 rfl ?_
    refine fz_iconst (pc := 1) (v := 1) ok dX1_needs_1 (by decide) ?_
    refine fz_icmp_eq (pc := 2) (tgt := 28) ok dX1_needs_2 (by decide) (fun c2 => ?_) (fun c2 => ?_)
    · exact absurd c2 (by decide +kernel)
    · refine fz_iload (pc := 5) ok dX1_needs_5 rfl ?_
      refine fz_iconst (pc := 6) (v := 2) ok dX1_needs_6 (by decide) ?_
      refine fz_icmp_eq (pc := 7) (tgt := 28) ok dX1_needs_7 (by decide) (fun c7 => ?_) (fun c7 => ?_)
      · exact absurd c7 (by decide +kernel)
      · refine fz_iload (pc := 10) ok dX1_needs_10 rfl ?_
        refine fz_bipush (pc := 11) (v := 9) ok dX1_needs_11 (by decide) ?_
        refine fz_icmp_eq (pc := 13) (tgt := 28) ok dX1_needs_13 (by decide) (fun c13 => ?_) (fun c13 => ?_)
        · exact absurd c13 (by decide +kernel)
        · refine fz_iload (pc := 16) ok dX1_needs_16 rfl ?_
          refine fz_bipush (pc := 17) (v := 10) ok dX1_needs_17 (by decide) ?_
          refine fz_icmp_eq (pc := 19) (tgt := 28) ok dX1_needs_19 (by decide) (fun c19 => ?_) (fun c19 => ?_)
          · exact absurd c19 (by decide +kernel)
          · refine fz_iload (pc := 22) ok dX1_needs_22 rfl ?_
            refine fz_bipush (pc := 23) (v := 12) ok dX1_needs_23 (by decide) ?_
            refine fz_icmp_ne (pc := 25) (tgt := 30) ok dX1_needs_25 (by decide) (fun c25 => ?_) (fun c25 => ?_)
            · refine fz_iload (pc := 30) ok dX1_needs_30 rfl ?_
              refine fz_iconst (pc := 31) (v := 3) ok dX1_needs_31 (by decide) ?_
              refine fz_icmp_lt (pc := 32) (tgt := 45) ok dX1_needs_32 (by decide) (fun c32 => ?_) (fun c32 => ?_)
              · exact absurd c32 (by decide +kernel)
              · refine fz_iload (pc := 35) ok dX1_needs_35 rfl ?_
                refine fz_bipush (pc := 36) (v := 7) ok dX1_needs_36 (by decide) ?_
                refine fz_icmp_gt (pc := 38) (tgt := 45) ok dX1_needs_38 (by decide) (fun c38 => ?_) (fun c38 => ?_)
                · refine fz_iconst (pc := 45) (v := 0) ok dX1_needs_45 (by decide) ?_
                  exact hret () _ _ _ dX1_needs_46 rfl rfl
                · exact absurd (by decide +kernel) c38
            · exact absurd c25 (by decide +kernel)
theorem m1_change (q : fz_Q) (o : fz_O) {sz st fu pt hg : Int32} {op cn ce ht sk : Nat → Int32} {c : Nat} (hc : c < 15) : fz_Mi q yX1_change cX1_change 2 0 .int [.ref o.1, .int (nI c)] (wm q o sz st fu pt hg op cn ce ht sk) (fun (r : Int32) (_ : Unit) => r = grI c) (fun _ => (wm q o sz st fu pt hg op cn ce ht sk)) := by
  refine fz_ofi (own := RX1) (by decide) rfl rfl (Nat.le_of_ble_eq_true rfl) ?_
  intro x ok hret
  rcases fz_15 hc with rfl | rfl | rfl | rfl | rfl | rfl | rfl | rfl | rfl | rfl | rfl | rfl | rfl | rfl | rfl
  · refine fz_iload (pc := 0) ok dX1_change_0 rfl ?_
    refine fz_if_eq (pc := 1) (tgt := 21) ok dX1_change_1 (by decide) (fun c1 => ?_) (fun c1 => ?_)
    · refine fz_iconst (pc := 21) (v := 1) ok dX1_change_21 (by decide) ?_
      exact hret () _ _ _ dX1_change_22 rfl rfl
    · exact absurd (by decide +kernel) c1
  · refine fz_iload (pc := 0) ok dX1_change_0 rfl ?_
    refine fz_if_eq (pc := 1) (tgt := 21) ok dX1_change_1 (by decide) (fun c1 => ?_) (fun c1 => ?_)
    · exact absurd c1 (by decide +kernel)
    · refine fz_iload (pc := 4) ok dX1_change_4 rfl ?_
      refine fz_iconst (pc := 5) (v := 2) ok dX1_change_5 (by decide) ?_
      refine fz_icmp_eq (pc := 6) (tgt := 21) ok dX1_change_6 (by decide) (fun c6 => ?_) (fun c6 => ?_)
      · exact absurd c6 (by decide +kernel)
      · refine fz_iload (pc := 9) ok dX1_change_9 rfl ?_
        refine fz_bipush (pc := 10) (v := 7) ok dX1_change_10 (by decide) ?_
        refine fz_icmp_eq (pc := 12) (tgt := 21) ok dX1_change_12 (by decide) (fun c12 => ?_) (fun c12 => ?_)
        · exact absurd c12 (by decide +kernel)
        · refine fz_iload (pc := 15) ok dX1_change_15 rfl ?_
          refine fz_bipush (pc := 16) (v := 11) ok dX1_change_16 (by decide) ?_
          refine fz_icmp_ne (pc := 18) (tgt := 23) ok dX1_change_18 (by decide) (fun c18 => ?_) (fun c18 => ?_)
          · refine fz_iload (pc := 23) ok dX1_change_23 rfl ?_
            refine fz_iconst (pc := 24) (v := 1) ok dX1_change_24 (by decide) ?_
            refine fz_icmp_eq (pc := 25) (tgt := 56) ok dX1_change_25 (by decide) (fun c25 => ?_) (fun c25 => ?_)
            · refine fz_iconst (pc := 56) (v := (-1)) ok dX1_change_56 (by decide) ?_
              refine fz_goto (pc := 57) (tgt := 61) ok dX1_change_57 (by decide) ?_
              exact hret () _ _ _ dX1_change_61 rfl rfl
            · exact absurd (by decide +kernel) c25
          · exact absurd c18 (by decide +kernel)
  · refine fz_iload (pc := 0) ok dX1_change_0 rfl ?_
    refine fz_if_eq (pc := 1) (tgt := 21) ok dX1_change_1 (by decide) (fun c1 => ?_) (fun c1 => ?_)
    · exact absurd c1 (by decide +kernel)
    · refine fz_iload (pc := 4) ok dX1_change_4 rfl ?_
      refine fz_iconst (pc := 5) (v := 2) ok dX1_change_5 (by decide) ?_
      refine fz_icmp_eq (pc := 6) (tgt := 21) ok dX1_change_6 (by decide) (fun c6 => ?_) (fun c6 => ?_)
      · refine fz_iconst (pc := 21) (v := 1) ok dX1_change_21 (by decide) ?_
        exact hret () _ _ _ dX1_change_22 rfl rfl
      · exact absurd (by decide +kernel) c6
  · refine fz_iload (pc := 0) ok dX1_change_0 rfl ?_
    refine fz_if_eq (pc := 1) (tgt := 21) ok dX1_change_1 (by decide) (fun c1 => ?_) (fun c1 => ?_)
    · exact absurd c1 (by decide +kernel)
    · refine fz_iload (pc := 4) ok dX1_change_4 rfl ?_
      refine fz_iconst (pc := 5) (v := 2) ok dX1_change_5 (by decide) ?_
      refine fz_icmp_eq (pc := 6) (tgt := 21) ok dX1_change_6 (by decide) (fun c6 => ?_) (fun c6 => ?_)
      · exact absurd c6 (by decide +kernel)
      · refine fz_iload (pc := 9) ok dX1_change_9 rfl ?_
        refine fz_bipush (pc := 10) (v := 7) ok dX1_change_10 (by decide) ?_
        refine fz_icmp_eq (pc := 12) (tgt := 21) ok dX1_change_12 (by decide) (fun c12 => ?_) (fun c12 => ?_)
        · exact absurd c12 (by decide +kernel)
        · refine fz_iload (pc := 15) ok dX1_change_15 rfl ?_
          refine fz_bipush (pc := 16) (v := 11) ok dX1_change_16 (by decide) ?_
          refine fz_icmp_ne (pc := 18) (tgt := 23) ok dX1_change_18 (by decide) (fun c18 => ?_) (fun c18 => ?_)
          · refine fz_iload (pc := 23) ok dX1_change_23 rfl ?_
            refine fz_iconst (pc := 24) (v := 1) ok dX1_change_24 (by decide) ?_
            refine fz_icmp_eq (pc := 25) (tgt := 56) ok dX1_change_25 (by decide) (fun c25 => ?_) (fun c25 => ?_)
            · exact absurd c25 (by decide +kernel)
            · refine fz_iload (pc := 28) ok dX1_change_28 rfl ?_
              refine fz_iconst (pc := 29) (v := 3) ok dX1_change_29 (by decide) ?_
              refine fz_icmp_lt (pc := 30) (tgt := 38) ok dX1_change_30 (by decide) (fun c30 => ?_) (fun c30 => ?_)
              · exact absurd c30 (by decide +kernel)
              · refine fz_iload (pc := 33) ok dX1_change_33 rfl ?_
                refine fz_iconst (pc := 34) (v := 5) ok dX1_change_34 (by decide) ?_
                refine fz_icmp_le (pc := 35) (tgt := 56) ok dX1_change_35 (by decide) (fun c35 => ?_) (fun c35 => ?_)
                · refine fz_iconst (pc := 56) (v := (-1)) ok dX1_change_56 (by decide) ?_
                  refine fz_goto (pc := 57) (tgt := 61) ok dX1_change_57 (by decide) ?_
                  exact hret () _ _ _ dX1_change_61 rfl rfl
                · exact absurd (by decide +kernel) c35
          · exact absurd c18 (by decide +kernel)
  · refine fz_iload (pc := 0) ok dX1_change_0 rfl ?_
    refine fz_if_eq (pc := 1) (tgt := 21) ok dX1_change_1 (by decide) (fun c1 => ?_) (fun c1 => ?_)
    · exact absurd c1 (by decide +kernel)
    · refine fz_iload (pc := 4) ok dX1_change_4 rfl ?_
      refine fz_iconst (pc := 5) (v := 2) ok dX1_change_5 (by decide) ?_
      refine fz_icmp_eq (pc := 6) (tgt := 21) ok dX1_change_6 (by decide) (fun c6 => ?_) (fun c6 => ?_)
      · exact absurd c6 (by decide +kernel)
      · refine fz_iload (pc := 9) ok dX1_change_9 rfl ?_
        refine fz_bipush (pc := 10) (v := 7) ok dX1_change_10 (by decide) ?_
        refine fz_icmp_eq (pc := 12) (tgt := 21) ok dX1_change_12 (by decide) (fun c12 => ?_) (fun c12 => ?_)
        · exact absurd c12 (by decide +kernel)
        · refine fz_iload (pc := 15) ok dX1_change_15 rfl ?_
          refine fz_bipush (pc := 16) (v := 11) ok dX1_change_16 (by decide) ?_
          refine fz_icmp_ne (pc := 18) (tgt := 23) ok dX1_change_18 (by decide) (fun c18 => ?_) (fun c18 => ?_)
          · refine fz_iload (pc := 23) ok dX1_change_23 rfl ?_
            refine fz_iconst (pc := 24) (v := 1) ok dX1_change_24 (by decide) ?_
            refine fz_icmp_eq (pc := 25) (tgt := 56) ok dX1_change_25 (by decide) (fun c25 => ?_) (fun c25 => ?_)
            · exact absurd c25 (by decide +kernel)
            · refine fz_iload (pc := 28) ok dX1_change_28 rfl ?_
              refine fz_iconst (pc := 29) (v := 3) ok dX1_change_29 (by decide) ?_
              refine fz_icmp_lt (pc := 30) (tgt := 38) ok dX1_change_30 (by decide) (fun c30 => ?_) (fun c30 => ?_)
              · exact absurd c30 (by decide +kernel)
              · refine fz_iload (pc := 33) ok dX1_change_33 rfl ?_
                refine fz_iconst (pc := 34) (v := 5) ok dX1_change_34 (by decide) ?_
                refine fz_icmp_le (pc := 35) (tgt := 56) ok dX1_change_35 (by decide) (fun c35 => ?_) (fun c35 => ?_)
                · refine fz_iconst (pc := 56) (v := (-1)) ok dX1_change_56 (by decide) ?_
                  refine fz_goto (pc := 57) (tgt := 61) ok dX1_change_57 (by decide) ?_
                  exact hret () _ _ _ dX1_change_61 rfl rfl
                · exact absurd (by decide +kernel) c35
          · exact absurd c18 (by decide +kernel)
  · refine fz_iload (pc := 0) ok dX1_change_0 rfl ?_
    refine fz_if_eq (pc := 1) (tgt := 21) ok dX1_change_1 (by decide) (fun c1 => ?_) (fun c1 => ?_)
    · exact absurd c1 (by decide +kernel)
    · refine fz_iload (pc := 4) ok dX1_change_4 rfl ?_
      refine fz_iconst (pc := 5) (v := 2) ok dX1_change_5 (by decide) ?_
      refine fz_icmp_eq (pc := 6) (tgt := 21) ok dX1_change_6 (by decide) (fun c6 => ?_) (fun c6 => ?_)
      · exact absurd c6 (by decide +kernel)
      · refine fz_iload (pc := 9) ok dX1_change_9 rfl ?_
        refine fz_bipush (pc := 10) (v := 7) ok dX1_change_10 (by decide) ?_
        refine fz_icmp_eq (pc := 12) (tgt := 21) ok dX1_change_12 (by decide) (fun c12 => ?_) (fun c12 => ?_)
        · exact absurd c12 (by decide +kernel)
        · refine fz_iload (pc := 15) ok dX1_change_15 rfl ?_
          refine fz_bipush (pc := 16) (v := 11) ok dX1_change_16 (by decide) ?_
          refine fz_icmp_ne (pc := 18) (tgt := 23) ok dX1_change_18 (by decide) (fun c18 => ?_) (fun c18 => ?_)
          · refine fz_iload (pc := 23) ok dX1_change_23 rfl ?_
            refine fz_iconst (pc := 24) (v := 1) ok dX1_change_24 (by decide) ?_
            refine fz_icmp_eq (pc := 25) (tgt := 56) ok dX1_change_25 (by decide) (fun c25 => ?_) (fun c25 => ?_)
            · exact absurd c25 (by decide +kernel)
            · refine fz_iload (pc := 28) ok dX1_change_28 rfl ?_
              refine fz_iconst (pc := 29) (v := 3) ok dX1_change_29 (by decide) ?_
              refine fz_icmp_lt (pc := 30) (tgt := 38) ok dX1_change_30 (by decide) (fun c30 => ?_) (fun c30 => ?_)
              · exact absurd c30 (by decide +kernel)
              · refine fz_iload (pc := 33) ok dX1_change_33 rfl ?_
                refine fz_iconst (pc := 34) (v := 5) ok dX1_change_34 (by decide) ?_
                refine fz_icmp_le (pc := 35) (tgt := 56) ok dX1_change_35 (by decide) (fun c35 => ?_) (fun c35 => ?_)
                · refine fz_iconst (pc := 56) (v := (-1)) ok dX1_change_56 (by decide) ?_
                  refine fz_goto (pc := 57) (tgt := 61) ok dX1_change_57 (by decide) ?_
                  exact hret () _ _ _ dX1_change_61 rfl rfl
                · exact absurd (by decide +kernel) c35
          · exact absurd c18 (by decide +kernel)
  · refine fz_iload (pc := 0) ok dX1_change_0 rfl ?_
    refine fz_if_eq (pc := 1) (tgt := 21) ok dX1_change_1 (by decide) (fun c1 => ?_) (fun c1 => ?_)
    · exact absurd c1 (by decide +kernel)
    · refine fz_iload (pc := 4) ok dX1_change_4 rfl ?_
      refine fz_iconst (pc := 5) (v := 2) ok dX1_change_5 (by decide) ?_
      refine fz_icmp_eq (pc := 6) (tgt := 21) ok dX1_change_6 (by decide) (fun c6 => ?_) (fun c6 => ?_)
      · exact absurd c6 (by decide +kernel)
      · refine fz_iload (pc := 9) ok dX1_change_9 rfl ?_
        refine fz_bipush (pc := 10) (v := 7) ok dX1_change_10 (by decide) ?_
        refine fz_icmp_eq (pc := 12) (tgt := 21) ok dX1_change_12 (by decide) (fun c12 => ?_) (fun c12 => ?_)
        · exact absurd c12 (by decide +kernel)
        · refine fz_iload (pc := 15) ok dX1_change_15 rfl ?_
          refine fz_bipush (pc := 16) (v := 11) ok dX1_change_16 (by decide) ?_
          refine fz_icmp_ne (pc := 18) (tgt := 23) ok dX1_change_18 (by decide) (fun c18 => ?_) (fun c18 => ?_)
          · refine fz_iload (pc := 23) ok dX1_change_23 rfl ?_
            refine fz_iconst (pc := 24) (v := 1) ok dX1_change_24 (by decide) ?_
            refine fz_icmp_eq (pc := 25) (tgt := 56) ok dX1_change_25 (by decide) (fun c25 => ?_) (fun c25 => ?_)
            · exact absurd c25 (by decide +kernel)
            · refine fz_iload (pc := 28) ok dX1_change_28 rfl ?_
              refine fz_iconst (pc := 29) (v := 3) ok dX1_change_29 (by decide) ?_
              refine fz_icmp_lt (pc := 30) (tgt := 38) ok dX1_change_30 (by decide) (fun c30 => ?_) (fun c30 => ?_)
              · exact absurd c30 (by decide +kernel)
              · refine fz_iload (pc := 33) ok dX1_change_33 rfl ?_
                refine fz_iconst (pc := 34) (v := 5) ok dX1_change_34 (by decide) ?_
                refine fz_icmp_le (pc := 35) (tgt := 56) ok dX1_change_35 (by decide) (fun c35 => ?_) (fun c35 => ?_)
                · exact absurd c35 (by decide +kernel)
                · refine fz_iload (pc := 38) ok dX1_change_38 rfl ?_
                  refine fz_bipush (pc := 39) (v := 9) ok dX1_change_39 (by decide) ?_
                  refine fz_icmp_eq (pc := 41) (tgt := 56) ok dX1_change_41 (by decide) (fun c41 => ?_) (fun c41 => ?_)
                  · exact absurd c41 (by decide +kernel)
                  · refine fz_iload (pc := 44) ok dX1_change_44 rfl ?_
                    refine fz_bipush (pc := 45) (v := 10) ok dX1_change_45 (by decide) ?_
                    refine fz_icmp_eq (pc := 47) (tgt := 56) ok dX1_change_47 (by decide) (fun c47 => ?_) (fun c47 => ?_)
                    · exact absurd c47 (by decide +kernel)
                    · refine fz_iload (pc := 50) ok dX1_change_50 rfl ?_
                      refine fz_bipush (pc := 51) (v := 12) ok dX1_change_51 (by decide) ?_
                      refine fz_icmp_ne (pc := 53) (tgt := 60) ok dX1_change_53 (by decide) (fun c53 => ?_) (fun c53 => ?_)
                      · refine fz_iconst (pc := 60) (v := 0) ok dX1_change_60 (by decide) ?_
                        exact hret () _ _ _ dX1_change_61 rfl rfl
                      · exact absurd c53 (by decide +kernel)
          · exact absurd c18 (by decide +kernel)
  · refine fz_iload (pc := 0) ok dX1_change_0 rfl ?_
    refine fz_if_eq (pc := 1) (tgt := 21) ok dX1_change_1 (by decide) (fun c1 => ?_) (fun c1 => ?_)
    · exact absurd c1 (by decide +kernel)
    · refine fz_iload (pc := 4) ok dX1_change_4 rfl ?_
      refine fz_iconst (pc := 5) (v := 2) ok dX1_change_5 (by decide) ?_
      refine fz_icmp_eq (pc := 6) (tgt := 21) ok dX1_change_6 (by decide) (fun c6 => ?_) (fun c6 => ?_)
      · exact absurd c6 (by decide +kernel)
      · refine fz_iload (pc := 9) ok dX1_change_9 rfl ?_
        refine fz_bipush (pc := 10) (v := 7) ok dX1_change_10 (by decide) ?_
        refine fz_icmp_eq (pc := 12) (tgt := 21) ok dX1_change_12 (by decide) (fun c12 => ?_) (fun c12 => ?_)
        · refine fz_iconst (pc := 21) (v := 1) ok dX1_change_21 (by decide) ?_
          exact hret () _ _ _ dX1_change_22 rfl rfl
        · exact absurd (by decide +kernel) c12
  · refine fz_iload (pc := 0) ok dX1_change_0 rfl ?_
    refine fz_if_eq (pc := 1) (tgt := 21) ok dX1_change_1 (by decide) (fun c1 => ?_) (fun c1 => ?_)
    · exact absurd c1 (by decide +kernel)
    · refine fz_iload (pc := 4) ok dX1_change_4 rfl ?_
      refine fz_iconst (pc := 5) (v := 2) ok dX1_change_5 (by decide) ?_
      refine fz_icmp_eq (pc := 6) (tgt := 21) ok dX1_change_6 (by decide) (fun c6 => ?_) (fun c6 => ?_)
      · exact absurd c6 (by decide +kernel)
      · refine fz_iload (pc := 9) ok dX1_change_9 rfl ?_
        refine fz_bipush (pc := 10) (v := 7) ok dX1_change_10 (by decide) ?_
        refine fz_icmp_eq (pc := 12) (tgt := 21) ok dX1_change_12 (by decide) (fun c12 => ?_) (fun c12 => ?_)
        · exact absurd c12 (by decide +kernel)
        · refine fz_iload (pc := 15) ok dX1_change_15 rfl ?_
          refine fz_bipush (pc := 16) (v := 11) ok dX1_change_16 (by decide) ?_
          refine fz_icmp_ne (pc := 18) (tgt := 23) ok dX1_change_18 (by decide) (fun c18 => ?_) (fun c18 => ?_)
          · refine fz_iload (pc := 23) ok dX1_change_23 rfl ?_
            refine fz_iconst (pc := 24) (v := 1) ok dX1_change_24 (by decide) ?_
            refine fz_icmp_eq (pc := 25) (tgt := 56) ok dX1_change_25 (by decide) (fun c25 => ?_) (fun c25 => ?_)
            · exact absurd c25 (by decide +kernel)
            · refine fz_iload (pc := 28) ok dX1_change_28 rfl ?_
              refine fz_iconst (pc := 29) (v := 3) ok dX1_change_29 (by decide) ?_
              refine fz_icmp_lt (pc := 30) (tgt := 38) ok dX1_change_30 (by decide) (fun c30 => ?_) (fun c30 => ?_)
              · exact absurd c30 (by decide +kernel)
              · refine fz_iload (pc := 33) ok dX1_change_33 rfl ?_
                refine fz_iconst (pc := 34) (v := 5) ok dX1_change_34 (by decide) ?_
                refine fz_icmp_le (pc := 35) (tgt := 56) ok dX1_change_35 (by decide) (fun c35 => ?_) (fun c35 => ?_)
                · exact absurd c35 (by decide +kernel)
                · refine fz_iload (pc := 38) ok dX1_change_38 rfl ?_
                  refine fz_bipush (pc := 39) (v := 9) ok dX1_change_39 (by decide) ?_
                  refine fz_icmp_eq (pc := 41) (tgt := 56) ok dX1_change_41 (by decide) (fun c41 => ?_) (fun c41 => ?_)
                  · exact absurd c41 (by decide +kernel)
                  · refine fz_iload (pc := 44) ok dX1_change_44 rfl ?_
                    refine fz_bipush (pc := 45) (v := 10) ok dX1_change_45 (by decide) ?_
                    refine fz_icmp_eq (pc := 47) (tgt := 56) ok dX1_change_47 (by decide) (fun c47 => ?_) (fun c47 => ?_)
                    · exact absurd c47 (by decide +kernel)
                    · refine fz_iload (pc := 50) ok dX1_change_50 rfl ?_
                      refine fz_bipush (pc := 51) (v := 12) ok dX1_change_51 (by decide) ?_
                      refine fz_icmp_ne (pc := 53) (tgt := 60) ok dX1_change_53 (by decide) (fun c53 => ?_) (fun c53 => ?_)
                      · refine fz_iconst (pc := 60) (v := 0) ok dX1_change_60 (by decide) ?_
                        exact hret () _ _ _ dX1_change_61 rfl rfl
                      · exact absurd c53 (by decide +kernel)
          · exact absurd c18 (by decide +kernel)
  · refine fz_iload (pc := 0) ok dX1_change_0 rfl ?_
    refine fz_if_eq (pc := 1) (tgt := 21) ok dX1_change_1 (by decide) (fun c1 => ?_) (fun c1 => ?_)
    · exact absurd c1 (by decide +kernel)
    · refine fz_iload (pc := 4) ok dX1_change_4 rfl ?_
      refine fz_iconst (pc := 5) (v := 2) ok dX1_change_5 (by decide) ?_
      refine fz_icmp_eq (pc := 6) (tgt := 21) ok dX1_change_6 (by decide) (fun c6 => ?_) (fun c6 => ?_)
      · exact absurd c6 (by decide +kernel)
      · refine fz_iload (pc := 9) ok dX1_change_9 rfl ?_
        refine fz_bipush (pc := 10) (v := 7) ok dX1_change_10 (by decide) ?_
        refine fz_icmp_eq (pc := 12) (tgt := 21) ok dX1_change_12 (by decide) (fun c12 => ?_) (fun c12 => ?_)
        · exact absurd c12 (by decide +kernel)
        · refine fz_iload (pc := 15) ok dX1_change_15 rfl ?_
          refine fz_bipush (pc := 16) (v := 11) ok dX1_change_16 (by decide) ?_
          refine fz_icmp_ne (pc := 18) (tgt := 23) ok dX1_change_18 (by decide) (fun c18 => ?_) (fun c18 => ?_)
          · refine fz_iload (pc := 23) ok dX1_change_23 rfl ?_
            refine fz_iconst (pc := 24) (v := 1) ok dX1_change_24 (by decide) ?_
            refine fz_icmp_eq (pc := 25) (tgt := 56) ok dX1_change_25 (by decide) (fun c25 => ?_) (fun c25 => ?_)
            · exact absurd c25 (by decide +kernel)
            · refine fz_iload (pc := 28) ok dX1_change_28 rfl ?_
              refine fz_iconst (pc := 29) (v := 3) ok dX1_change_29 (by decide) ?_
              refine fz_icmp_lt (pc := 30) (tgt := 38) ok dX1_change_30 (by decide) (fun c30 => ?_) (fun c30 => ?_)
              · exact absurd c30 (by decide +kernel)
              · refine fz_iload (pc := 33) ok dX1_change_33 rfl ?_
                refine fz_iconst (pc := 34) (v := 5) ok dX1_change_34 (by decide) ?_
                refine fz_icmp_le (pc := 35) (tgt := 56) ok dX1_change_35 (by decide) (fun c35 => ?_) (fun c35 => ?_)
                · exact absurd c35 (by decide +kernel)
                · refine fz_iload (pc := 38) ok dX1_change_38 rfl ?_
                  refine fz_bipush (pc := 39) (v := 9) ok dX1_change_39 (by decide) ?_
                  refine fz_icmp_eq (pc := 41) (tgt := 56) ok dX1_change_41 (by decide) (fun c41 => ?_) (fun c41 => ?_)
                  · refine fz_iconst (pc := 56) (v := (-1)) ok dX1_change_56 (by decide) ?_
                    refine fz_goto (pc := 57) (tgt := 61) ok dX1_change_57 (by decide) ?_
                    exact hret () _ _ _ dX1_change_61 rfl rfl
                  · exact absurd (by decide +kernel) c41
          · exact absurd c18 (by decide +kernel)
  · refine fz_iload (pc := 0) ok dX1_change_0 rfl ?_
    refine fz_if_eq (pc := 1) (tgt := 21) ok dX1_change_1 (by decide) (fun c1 => ?_) (fun c1 => ?_)
    · exact absurd c1 (by decide +kernel)
    · refine fz_iload (pc := 4) ok dX1_change_4 rfl ?_
      refine fz_iconst (pc := 5) (v := 2) ok dX1_change_5 (by decide) ?_
      refine fz_icmp_eq (pc := 6) (tgt := 21) ok dX1_change_6 (by decide) (fun c6 => ?_) (fun c6 => ?_)
      · exact absurd c6 (by decide +kernel)
      · refine fz_iload (pc := 9) ok dX1_change_9 rfl ?_
        refine fz_bipush (pc := 10) (v := 7) ok dX1_change_10 (by decide) ?_
        refine fz_icmp_eq (pc := 12) (tgt := 21) ok dX1_change_12 (by decide) (fun c12 => ?_) (fun c12 => ?_)
        · exact absurd c12 (by decide +kernel)
        · refine fz_iload (pc := 15) ok dX1_change_15 rfl ?_
          refine fz_bipush (pc := 16) (v := 11) ok dX1_change_16 (by decide) ?_
          refine fz_icmp_ne (pc := 18) (tgt := 23) ok dX1_change_18 (by decide) (fun c18 => ?_) (fun c18 => ?_)
          · refine fz_iload (pc := 23) ok dX1_change_23 rfl ?_
            refine fz_iconst (pc := 24) (v := 1) ok dX1_change_24 (by decide) ?_
            refine fz_icmp_eq (pc := 25) (tgt := 56) ok dX1_change_25 (by decide) (fun c25 => ?_) (fun c25 => ?_)
            · exact absurd c25 (by decide +kernel)
            · refine fz_iload (pc := 28) ok dX1_change_28 rfl ?_
              refine fz_iconst (pc := 29) (v := 3) ok dX1_change_29 (by decide) ?_
              refine fz_icmp_lt (pc := 30) (tgt := 38) ok dX1_change_30 (by decide) (fun c30 => ?_) (fun c30 => ?_)
              · exact absurd c30 (by decide +kernel)
              · refine fz_iload (pc := 33) ok dX1_change_33 rfl ?_
                refine fz_iconst (pc := 34) (v := 5) ok dX1_change_34 (by decide) ?_
                refine fz_icmp_le (pc := 35) (tgt := 56) ok dX1_change_35 (by decide) (fun c35 => ?_) (fun c35 => ?_)
                · exact absurd c35 (by decide +kernel)
                · refine fz_iload (pc := 38) ok dX1_change_38 rfl ?_
                  refine fz_bipush (pc := 39) (v := 9) ok dX1_change_39 (by decide) ?_
                  refine fz_icmp_eq (pc := 41) (tgt := 56) ok dX1_change_41 (by decide) (fun c41 => ?_) (fun c41 => ?_)
                  · exact absurd c41 (by decide +kernel)
                  · refine fz_iload (pc := 44) ok dX1_change_44 rfl ?_
                    refine fz_bipush (pc := 45) (v := 10) ok dX1_change_45 (by decide) ?_
                    refine fz_icmp_eq (pc := 47) (tgt := 56) ok dX1_change_47 (by decide) (fun c47 => ?_) (fun c47 => ?_)
                    · refine fz_iconst (pc := 56) (v := (-1)) ok dX1_change_56 (by decide) ?_
                      refine fz_goto (pc := 57) (tgt := 61) ok dX1_change_57 (by decide) ?_
                      exact hret () _ _ _ dX1_change_61 rfl rfl
                    · exact absurd (by decide +kernel) c47
          · exact absurd c18 (by decide +kernel)
  · refine fz_iload (pc := 0) ok dX1_change_0 rfl ?_
    refine fz_if_eq (pc := 1) (tgt := 21) ok dX1_change_1 (by decide) (fun c1 => ?_) (fun c1 => ?_)
    · exact absurd c1 (by decide +kernel)
    · refine fz_iload (pc := 4) ok dX1_change_4 rfl ?_
      refine fz_iconst (pc := 5) (v := 2) ok dX1_change_5 (by decide) ?_
      refine fz_icmp_eq (pc := 6) (tgt := 21) ok dX1_change_6 (by decide) (fun c6 => ?_) (fun c6 => ?_)
      · exact absurd c6 (by decide +kernel)
      · refine fz_iload (pc := 9) ok dX1_change_9 rfl ?_
        refine fz_bipush (pc := 10) (v := 7) ok dX1_change_10 (by decide) ?_
        refine fz_icmp_eq (pc := 12) (tgt := 21) ok dX1_change_12 (by decide) (fun c12 => ?_) (fun c12 => ?_)
        · exact absurd c12 (by decide +kernel)
        · refine fz_iload (pc := 15) ok dX1_change_15 rfl ?_
          refine fz_bipush (pc := 16) (v := 11) ok dX1_change_16 (by decide) ?_
          refine fz_icmp_ne (pc := 18) (tgt := 23) ok dX1_change_18 (by decide) (fun c18 => ?_) (fun c18 => ?_)
          · exact absurd rfl c18
          · refine fz_iconst (pc := 21) (v := 1) ok dX1_change_21 (by decide) ?_
            exact hret () _ _ _ dX1_change_22 rfl rfl
  · refine fz_iload (pc := 0) ok dX1_change_0 rfl ?_
    refine fz_if_eq (pc := 1) (tgt := 21) ok dX1_change_1 (by decide) (fun c1 => ?_) (fun c1 => ?_)
    · exact absurd c1 (by decide +kernel)
    · refine fz_iload (pc := 4) ok dX1_change_4 rfl ?_
      refine fz_iconst (pc := 5) (v := 2) ok dX1_change_5 (by decide) ?_
      refine fz_icmp_eq (pc := 6) (tgt := 21) ok dX1_change_6 (by decide) (fun c6 => ?_) (fun c6 => ?_)
      · exact absurd c6 (by decide +kernel)
      · refine fz_iload (pc := 9) ok dX1_change_9 rfl ?_
        refine fz_bipush (pc := 10) (v := 7) ok dX1_change_10 (by decide) ?_
        refine fz_icmp_eq (pc := 12) (tgt := 21) ok dX1_change_12 (by decide) (fun c12 => ?_) (fun c12 => ?_)
        · exact absurd c12 (by decide +kernel)
        · refine fz_iload (pc := 15) ok dX1_change_15 rfl ?_
          refine fz_bipush (pc := 16) (v := 11) ok dX1_change_16 (by decide) ?_
          refine fz_icmp_ne (pc := 18) (tgt := 23) ok dX1_change_18 (by decide) (fun c18 => ?_) (fun c18 => ?_)
          · refine fz_iload (pc := 23) ok dX1_change_23 rfl ?_
            refine fz_iconst (pc := 24) (v := 1) ok dX1_change_24 (by decide) ?_
            refine fz_icmp_eq (pc := 25) (tgt := 56) ok dX1_change_25 (by decide) (fun c25 => ?_) (fun c25 => ?_)
            · exact absurd c25 (by decide +kernel)
            · refine fz_iload (pc := 28) ok dX1_change_28 rfl ?_
              refine fz_iconst (pc := 29) (v := 3) ok dX1_change_29 (by decide) ?_
              refine fz_icmp_lt (pc := 30) (tgt := 38) ok dX1_change_30 (by decide) (fun c30 => ?_) (fun c30 => ?_)
              · exact absurd c30 (by decide +kernel)
              · refine fz_iload (pc := 33) ok dX1_change_33 rfl ?_
                refine fz_iconst (pc := 34) (v := 5) ok dX1_change_34 (by decide) ?_
                refine fz_icmp_le (pc := 35) (tgt := 56) ok dX1_change_35 (by decide) (fun c35 => ?_) (fun c35 => ?_)
                · exact absurd c35 (by decide +kernel)
                · refine fz_iload (pc := 38) ok dX1_change_38 rfl ?_
                  refine fz_bipush (pc := 39) (v := 9) ok dX1_change_39 (by decide) ?_
                  refine fz_icmp_eq (pc := 41) (tgt := 56) ok dX1_change_41 (by decide) (fun c41 => ?_) (fun c41 => ?_)
                  · exact absurd c41 (by decide +kernel)
                  · refine fz_iload (pc := 44) ok dX1_change_44 rfl ?_
                    refine fz_bipush (pc := 45) (v := 10) ok dX1_change_45 (by decide) ?_
                    refine fz_icmp_eq (pc := 47) (tgt := 56) ok dX1_change_47 (by decide) (fun c47 => ?_) (fun c47 => ?_)
                    · exact absurd c47 (by decide +kernel)
                    · refine fz_iload (pc := 50) ok dX1_change_50 rfl ?_
                      refine fz_bipush (pc := 51) (v := 12) ok dX1_change_51 (by decide) ?_
                      refine fz_icmp_ne (pc := 53) (tgt := 60) ok dX1_change_53 (by decide) (fun c53 => ?_) (fun c53 => ?_)
                      · exact absurd rfl c53
                      · refine fz_iconst (pc := 56) (v := (-1)) ok dX1_change_56 (by decide) ?_
                        refine fz_goto (pc := 57) (tgt := 61) ok dX1_change_57 (by decide) ?_
                        exact hret () _ _ _ dX1_change_61 rfl rfl
          · exact absurd c18 (by decide +kernel)
  · refine fz_iload (pc := 0) ok dX1_change_0 rfl ?_
    refine fz_if_eq (pc := 1) (tgt := 21) ok dX1_change_1 (by decide) (fun c1 => ?_) (fun c1 => ?_)
    · exact absurd c1 (by decide +kernel)
    · refine fz_iload (pc := 4) ok dX1_change_4 rfl ?_
      refine fz_iconst (pc := 5) (v := 2) ok dX1_change_5 (by decide) ?_
      refine fz_icmp_eq (pc := 6) (tgt := 21) ok dX1_change_6 (by decide) (fun c6 => ?_) (fun c6 => ?_)
      · exact absurd c6 (by decide +kernel)
      · refine fz_iload (pc := 9) ok dX1_change_9 rfl ?_
        refine fz_bipush (pc := 10) (v := 7) ok dX1_change_10 (by decide) ?_
        refine fz_icmp_eq (pc := 12) (tgt := 21) ok dX1_change_12 (by decide) (fun c12 => ?_) (fun c12 => ?_)
        · exact absurd c12 (by decide +kernel)
        · refine fz_iload (pc := 15) ok dX1_change_15 rfl ?_
          refine fz_bipush (pc := 16) (v := 11) ok dX1_change_16 (by decide) ?_
          refine fz_icmp_ne (pc := 18) (tgt := 23) ok dX1_change_18 (by decide) (fun c18 => ?_) (fun c18 => ?_)
          · refine fz_iload (pc := 23) ok dX1_change_23 rfl ?_
            refine fz_iconst (pc := 24) (v := 1) ok dX1_change_24 (by decide) ?_
            refine fz_icmp_eq (pc := 25) (tgt := 56) ok dX1_change_25 (by decide) (fun c25 => ?_) (fun c25 => ?_)
            · exact absurd c25 (by decide +kernel)
            · refine fz_iload (pc := 28) ok dX1_change_28 rfl ?_
              refine fz_iconst (pc := 29) (v := 3) ok dX1_change_29 (by decide) ?_
              refine fz_icmp_lt (pc := 30) (tgt := 38) ok dX1_change_30 (by decide) (fun c30 => ?_) (fun c30 => ?_)
              · exact absurd c30 (by decide +kernel)
              · refine fz_iload (pc := 33) ok dX1_change_33 rfl ?_
                refine fz_iconst (pc := 34) (v := 5) ok dX1_change_34 (by decide) ?_
                refine fz_icmp_le (pc := 35) (tgt := 56) ok dX1_change_35 (by decide) (fun c35 => ?_) (fun c35 => ?_)
                · exact absurd c35 (by decide +kernel)
                · refine fz_iload (pc := 38) ok dX1_change_38 rfl ?_
                  refine fz_bipush (pc := 39) (v := 9) ok dX1_change_39 (by decide) ?_
                  refine fz_icmp_eq (pc := 41) (tgt := 56) ok dX1_change_41 (by decide) (fun c41 => ?_) (fun c41 => ?_)
                  · exact absurd c41 (by decide +kernel)
                  · refine fz_iload (pc := 44) ok dX1_change_44 rfl ?_
                    refine fz_bipush (pc := 45) (v := 10) ok dX1_change_45 (by decide) ?_
                    refine fz_icmp_eq (pc := 47) (tgt := 56) ok dX1_change_47 (by decide) (fun c47 => ?_) (fun c47 => ?_)
                    · exact absurd c47 (by decide +kernel)
                    · refine fz_iload (pc := 50) ok dX1_change_50 rfl ?_
                      refine fz_bipush (pc := 51) (v := 12) ok dX1_change_51 (by decide) ?_
                      refine fz_icmp_ne (pc := 53) (tgt := 60) ok dX1_change_53 (by decide) (fun c53 => ?_) (fun c53 => ?_)
                      · refine fz_iconst (pc := 60) (v := 0) ok dX1_change_60 (by decide) ?_
                        exact hret () _ _ _ dX1_change_61 rfl rfl
                      · exact absurd c53 (by decide +kernel)
          · exact absurd c18 (by decide +kernel)
  · refine fz_iload (pc := 0) ok dX1_change_0 rfl ?_
    refine fz_if_eq (pc := 1) (tgt := 21) ok dX1_change_1 (by decide) (fun c1 => ?_) (fun c1 => ?_)
    · exact absurd c1 (by decide +kernel)
    · refine fz_iload (pc := 4) ok dX1_change_4 rfl ?_
      refine fz_iconst (pc := 5) (v := 2) ok dX1_change_5 (by decide) ?_
      refine fz_icmp_eq (pc := 6) (tgt := 21) ok dX1_change_6 (by decide) (fun c6 => ?_) (fun c6 => ?_)
      · exact absurd c6 (by decide +kernel)
      · refine fz_iload (pc := 9) ok dX1_change_9 rfl ?_
        refine fz_bipush (pc := 10) (v := 7) ok dX1_change_10 (by decide) ?_
        refine fz_icmp_eq (pc := 12) (tgt := 21) ok dX1_change_12 (by decide) (fun c12 => ?_) (fun c12 => ?_)
        · exact absurd c12 (by decide +kernel)
        · refine fz_iload (pc := 15) ok dX1_change_15 rfl ?_
          refine fz_bipush (pc := 16) (v := 11) ok dX1_change_16 (by decide) ?_
          refine fz_icmp_ne (pc := 18) (tgt := 23) ok dX1_change_18 (by decide) (fun c18 => ?_) (fun c18 => ?_)
          · refine fz_iload (pc := 23) ok dX1_change_23 rfl ?_
            refine fz_iconst (pc := 24) (v := 1) ok dX1_change_24 (by decide) ?_
            refine fz_icmp_eq (pc := 25) (tgt := 56) ok dX1_change_25 (by decide) (fun c25 => ?_) (fun c25 => ?_)
            · exact absurd c25 (by decide +kernel)
            · refine fz_iload (pc := 28) ok dX1_change_28 rfl ?_
              refine fz_iconst (pc := 29) (v := 3) ok dX1_change_29 (by decide) ?_
              refine fz_icmp_lt (pc := 30) (tgt := 38) ok dX1_change_30 (by decide) (fun c30 => ?_) (fun c30 => ?_)
              · exact absurd c30 (by decide +kernel)
              · refine fz_iload (pc := 33) ok dX1_change_33 rfl ?_
                refine fz_iconst (pc := 34) (v := 5) ok dX1_change_34 (by decide) ?_
                refine fz_icmp_le (pc := 35) (tgt := 56) ok dX1_change_35 (by decide) (fun c35 => ?_) (fun c35 => ?_)
                · exact absurd c35 (by decide +kernel)
                · refine fz_iload (pc := 38) ok dX1_change_38 rfl ?_
                  refine fz_bipush (pc := 39) (v := 9) ok dX1_change_39 (by decide) ?_
                  refine fz_icmp_eq (pc := 41) (tgt := 56) ok dX1_change_41 (by decide) (fun c41 => ?_) (fun c41 => ?_)
                  · exact absurd c41 (by decide +kernel)
                  · refine fz_iload (pc := 44) ok dX1_change_44 rfl ?_
                    refine fz_bipush (pc := 45) (v := 10) ok dX1_change_45 (by decide) ?_
                    refine fz_icmp_eq (pc := 47) (tgt := 56) ok dX1_change_47 (by decide) (fun c47 => ?_) (fun c47 => ?_)
                    · exact absurd c47 (by decide +kernel)
                    · refine fz_iload (pc := 50) ok dX1_change_50 rfl ?_
                      refine fz_bipush (pc := 51) (v := 12) ok dX1_change_51 (by decide) ?_
                      refine fz_icmp_ne (pc := 53) (tgt := 60) ok dX1_change_53 (by decide) (fun c53 => ?_) (fun c53 => ?_)
                      · refine fz_iconst (pc := 60) (v := 0) ok dX1_change_60 (by decide) ?_
                        exact hret () _ _ _ dX1_change_61 rfl rfl
                      · exact absurd c53 (by decide +kernel)
          · exact absurd c18 (by decide +kernel)
theorem m1_least (q : fz_Q) (o : fz_O) {sz st fu pt hg : Int32} {op cn ce ht sk : Nat → Int32} (v1 v2 : Int32) : fz_Mi q yX1_least cX1_least 3 0 .int [.ref o.1, .int v1, .int v2] (wm q o sz st fu pt hg op cn ce ht sk) (fun (r : Int32) (_ : Unit) => r = if v2 ≤ v1 then v2 else v1) (fun _ => (wm q o sz st fu pt hg op cn ce ht sk)) := by
  refine fz_ofi (own := RX1) (by decide) rfl rfl (Nat.le_of_ble_eq_true rfl) ?_
  intro x ok hret
  refine fz_iload (pc := 0) ok dX1_least_0 rfl ?_
  refine fz_iload (pc := 1) ok dX1_least_1 rfl ?_
  refine fz_icmp_ge (pc := 2) (tgt := 9) ok dX1_least_2 (by decide) (fun c2 => ?_) (fun c2 => ?_)
  · refine fz_iload (pc := 9) ok dX1_least_9 rfl ?_
    exact hret () _ _ _ dX1_least_10 rfl (if_pos c2).symm
  · refine fz_iload (pc := 5) ok dX1_least_5 rfl ?_
    refine fz_goto (pc := 6) (tgt := 10) ok dX1_least_6 (by decide) ?_
    exact hret () _ _ _ dX1_least_10 rfl (if_neg c2).symm
theorem fz_lt_le {a b : Int32} (h : a < b) : a ≤ b := by
  rw [Int32.lt_iff_toInt_lt] at h
  rw [Int32.le_iff_toInt_le]
  omega
theorem clF_least {v : Int32} (h : ¬ v < 0) : (if (2000 : Int32) ≤ v then (2000 : Int32) else v) = nI (clF v) := by
  by_cases a : (2000 : Int32) ≤ v
  · rw [if_pos a]
    by_cases b : v ≤ 2000
    · rw [clF_mid h b]
      exact Int32.le_antisymm a b
    · rw [clF_big h b]
  · rw [if_neg a, clF_mid h (fz_lt_le (fz_nle_lt a))]
theorem min_least {f g : Nat} (h : f + g ≤ 4000) : (if (2000 : Int32) ≤ nI (f + g) then (2000 : Int32) else nI (f + g)) = nI (min (f + g) 2000) := by
  by_cases a : 2000 ≤ f + g
  · have z : (2000 : Int32) ≤ nI (f + g) := (nI_leI (a := 2000) (by decide) (by omega)).mpr a
    rw [if_pos z, Nat.min_eq_right a]
    rfl
  · have z : ¬ (2000 : Int32) ≤ nI (f + g) := fun z => a ((nI_leI (a := 2000) (by decide) (by omega)).mp z)
    rw [if_neg z, Nat.min_eq_left (by omega)]
theorem m1_held (q : fz_Q) (o : fz_O) {sz st fu pt hg : Int32} {op cn ce ht sk : Nat → Int32} (v1 : Int32) : fz_Mi q yX1_held cX1_held 2 1 .int [.ref o.1, .int v1] (wm q o sz st fu pt hg op cn ce ht sk) (fun (r : Int32) (_ : Unit) => r = nI (clF v1)) (fun _ => (wm q o sz st fu pt hg op cn ce ht sk)) := by
  refine fz_ofi (own := RX1) (by decide) rfl rfl (Nat.le_of_ble_eq_true rfl) ?_
  intro x ok hret
  refine fz_iload (pc := 0) ok dX1_held_0 rfl ?_
  refine fz_if_ge (pc := 1) (tgt := 8) ok dX1_held_1 (by decide) (fun c1 => ?_) (fun c1 => ?_)
  · have h0 : ¬ v1 < 0 := fz_le_nlt c1
    refine fz_aload (pc := 8) ok dX1_held_8 rfl ?_
    refine fz_iload (pc := 9) ok dX1_held_9 rfl ?_
    refine fz_sipush (pc := 10) (v := 2000) ok dX1_held_10 (by decide) ?_
    refine k1_least (pc := 13) ok (m1_least q o v1 2000) rfl (by decide) (Nat.le_of_ble_eq_true rfl) dX1_held_13 (fun r u hu => ?_)
    subst hu
    exact hret () _ _ _ dX1_held_16 rfl (clF_least h0)
  · refine fz_iconst (pc := 4) (v := 0) ok dX1_held_4 (by decide) ?_
    refine fz_goto (pc := 5) (tgt := 16) ok dX1_held_5 (by decide) ?_
    exact hret () _ _ _ dX1_held_16 rfl (clF_neg (fz_nle_lt c1)).symm
theorem m1_cost (q : fz_Q) (o : fz_O) {sz st fu pt hg : Int32} {op cn ce ht sk : Nat → Int32} {p c : Nat} (hp : p < 24) (eo : op p = nI c) (ho : c < 15) : fz_Mi q yX1_cost cX1_cost 2 0 .int [.ref o.1, .int (nI p)] (wm q o sz st fu pt hg op cn ce ht sk) (fun (r : Int32) (_ : Unit) => r = nI (cst op cn p)) (fun _ => (wm q o sz st fu pt hg op cn ce ht sk)) := by
  refine fz_ofi (own := RX1) (by decide) rfl rfl (Nat.le_of_ble_eq_true rfl) ?_
  intro x ok hret
  refine fz_aload (pc := 0) ok dX1_cost_0 rfl ?_
  refine g1_ops (pc := 1) ok dX1_cost_1 ?_
  refine fz_iload (pc := 4) ok dX1_cost_4 rfl ?_
  refine l1_ops (pc := 5) ok dX1_cost_5 (p) (rfl) (hp) ?_
  refine fz_bipush (pc := 6) (v := 14) ok dX1_cost_6 (by decide) ?_
  refine fz_icmp_ne (pc := 8) (tgt := 23) ok dX1_cost_8 (by decide) (fun c8 => ?_) (fun c8 => ?_)
  · refine fz_aload (pc := 23) ok dX1_cost_23 rfl ?_
    refine g1_ops (pc := 24) ok dX1_cost_24 ?_
    refine fz_iload (pc := 27) ok dX1_cost_27 rfl ?_
    refine l1_ops (pc := 28) ok dX1_cost_28 (p) (rfl) (hp) ?_
    refine fz_iconst (pc := 29) (v := 5) ok dX1_cost_29 (by decide) ?_
    refine fz_icmp_ne (pc := 30) (tgt := 37) ok dX1_cost_30 (by decide) (fun c30 => ?_) (fun c30 => ?_)
    · refine fz_iconst (pc := 37) (v := 1) ok dX1_cost_37 (by decide) ?_
      exact hret () _ _ _ dX1_cost_38 rfl (csN_1 eo ho c30 c8).symm
    · refine fz_iconst (pc := 33) (v := 3) ok dX1_cost_33 (by decide) ?_
      refine fz_goto (pc := 34) (tgt := 38) ok dX1_cost_34 (by decide) ?_
      exact hret () _ _ _ dX1_cost_38 rfl (csN_5 c30).symm
  · refine fz_aload (pc := 11) ok dX1_cost_11 rfl ?_
    refine g1_cs (pc := 12) ok dX1_cost_12 ?_
    refine fz_iload (pc := 15) ok dX1_cost_15 rfl ?_
    refine l1_cs (pc := 16) ok dX1_cost_16 (p) (rfl) (hp) ?_
    refine fz_bipush (pc := 17) (v := 15) ok dX1_cost_17 (by decide) ?_
    refine fz_iand (pc := 19) ok dX1_cost_19 ?_
    refine fz_iconst (pc := 20) (v := 1) ok dX1_cost_20 (by decide) ?_
    refine fz_iadd (pc := 21) ok dX1_cost_21 ?_
    exact hret () _ _ _ dX1_cost_22 rfl (csN_14 c8).symm
theorem m1_put (q : fz_Q) (o : fz_O) {sz st fu pt : Int32} {op cn ce ht sk : Nat → Int32} {d : Nat} (hd : d < 16) (v1 : Int32) : fz_Mv q yX1_put cX1_put 2 0 [.ref o.1, .int v1] (wm q o sz st fu pt (nI d) op cn ce ht sk) (fun _ : Unit => True) (fun _ => (wm q o sz st fu pt (nI (d + 1)) op cn ce ht (upd sk d v1))) := by
  refine fz_ofv (own := RX1) (by decide) rfl rfl (Nat.le_of_ble_eq_true rfl) ?_
  intro x ok hret
  refine fz_aload (pc := 0) ok dX1_put_0 rfl ?_
  refine g1_high (pc := 1) ok dX1_put_1 ?_
  refine fz_bipush (pc := 4) (v := 16) ok dX1_put_4 (by decide) ?_
  refine fz_icmp_ge (pc := 6) (tgt := 29) ok dX1_put_6 (by decide) (fun c6 => ?_) (fun c6 => ?_)
  · exact absurd ((nI_leI (a := 16) (by decide) (by omega)).mp c6) (by omega)
  · refine fz_aload (pc := 9) ok dX1_put_9 rfl ?_
    refine g1_stack (pc := 10) ok dX1_put_10 ?_
    refine fz_aload (pc := 13) ok dX1_put_13 rfl ?_
    refine g1_high (pc := 14) ok dX1_put_14 ?_
    refine fz_iload (pc := 17) ok dX1_put_17 rfl ?_
    refine s1_stack (pc := 18) ok dX1_put_18 (d) (rfl) (hd) ?_
    refine fz_aload (pc := 19) ok dX1_put_19 rfl ?_
    refine fz_aload (pc := 20) ok dX1_put_20 rfl ?_
    refine g1_high (pc := 21) ok dX1_put_21 ?_
    refine fz_iconst (pc := 24) (v := 1) ok dX1_put_24 (by decide) ?_
    refine fz_iadd (pc := 25) ok dX1_put_25 ?_
    refine p1_high (pc := 26) ok dX1_put_26 (nI (d + 1)) (fz_a1 d) ?_
    exact hret () _ _ dX1_put_29 trivial
theorem m1_take (q : fz_Q) (o : fz_O) {sz st fu pt : Int32} {op cn ce ht sk : Nat → Int32} {d : Nat} (hd : 1 ≤ d) (h16 : d ≤ 16) : fz_Mi q yX1_take cX1_take 1 0 .int [.ref o.1] (wm q o sz st fu pt (nI d) op cn ce ht sk) (fun (r : Int32) (_ : Unit) => r = sk (d - 1)) (fun _ => (wm q o sz st fu pt (nI (d - 1)) op cn ce ht sk)) := by
  refine fz_ofi (own := RX1) (by decide) rfl rfl (Nat.le_of_ble_eq_true rfl) ?_
  intro x ok hret
  refine fz_aload (pc := 0) ok dX1_take_0 rfl ?_
  refine g1_high (pc := 1) ok dX1_take_1 ?_
  refine fz_if_ne (pc := 4) (tgt := 9) ok dX1_take_4 (by decide) (fun c4 => ?_) (fun c4 => ?_)
  · refine fz_aload (pc := 9) ok dX1_take_9 rfl ?_
    refine fz_aload (pc := 10) ok dX1_take_10 rfl ?_
    refine g1_high (pc := 11) ok dX1_take_11 ?_
    refine fz_iconst (pc := 14) (v := 1) ok dX1_take_14 (by decide) ?_
    refine fz_isub (pc := 15) ok dX1_take_15 ?_
    refine p1_high (pc := 16) ok dX1_take_16 (nI (d - 1)) (fz_s1 hd) ?_
    refine fz_aload (pc := 19) ok dX1_take_19 rfl ?_
    refine g1_stack (pc := 20) ok dX1_take_20 ?_
    refine fz_aload (pc := 23) ok dX1_take_23 rfl ?_
    refine g1_high (pc := 24) ok dX1_take_24 ?_
    refine l1_stack (pc := 27) ok dX1_take_27 (d - 1) (rfl) (by omega) ?_
    exact hret () _ _ _ dX1_take_28 rfl rfl
  · exact absurd c4 (nI_ne0 hd (by omega))
theorem upd_swap {f : Nat → Int32} {a b : Nat} {v w : Int32} (h : a ≠ b) : upd (upd f a v) b w = upd (upd f b w) a v := by
  funext j
  by_cases h1 : j = a
  · subst h1
    rw [pk_un h, pk_us, pk_us]
  · rw [pk_un h1]
    by_cases h2 : j = b
    · subst h2
      rw [pk_us, pk_us]
    · rw [pk_un h2, pk_un h1, pk_un h2]
theorem upd_self {f : Nat → Int32} {a : Nat} : upd f a (f a) = f := by
  funext j
  unfold upd
  by_cases h : j = a
  · rw [if_pos h, h]
  · rw [if_neg h]
theorem m1_two (q : fz_Q) (o : fz_O) {sz st fu pt : Int32} {op cn ce ht sk : Nat → Int32} {d c : Nat} (h2 : 2 ≤ d) (hd : d ≤ 8) (hc : c = 3 ∨ c = 4 ∨ c = 5 ∨ c = 6 ∨ c = 7) (v : Int32) : fz_Mv q yX1_two cX1_two 4 1 [.ref o.1, .int (nI c)] (wm q o sz st fu pt (nI d) op cn ce ht sk) (fun _ : Unit => True) (fun _ => (wm q o sz st fu pt (nI (stD c d)) op cn ce ht (stS c v d sk ce))) := by
  refine fz_ofv (own := RX1) (by decide) rfl rfl (Nat.le_of_ble_eq_true rfl) ?_
  intro x ok hret
  rcases hc with rfl | rfl | rfl | rfl | rfl
  · refine fz_aload (pc := 0) ok dX1_two_0 rfl ?_
    refine k1_take (pc := 1) ok (m1_take q o (d := d) (by omega) (by omega)) rfl (by decide) (Nat.le_of_ble_eq_true rfl) dX1_two_1 (fun r u hu => ?_)
    subst hu
    refine fz_istore (pc := 4) (lc' := [_, _, _]) ok dX1_two_4 (by decide) (Nat.le_of_ble_eq_true rfl) rfl ?_
    refine fz_aload (pc := 5) ok dX1_two_5 rfl ?_
    refine k1_take (pc := 6) ok (m1_take q o (d := d - 1) (by omega) (by omega)) rfl (by decide) (Nat.le_of_ble_eq_true rfl) dX1_two_6 (fun r u hu => ?_)
    subst hu
    rw [show d - 1 - 1 = d - 2 by omega]
    refine fz_istore (pc := 9) (lc' := [_, _, _, _]) ok dX1_two_9 (by decide) (Nat.le_of_ble_eq_true rfl) rfl ?_
    refine fz_iload (pc := 10) ok dX1_two_10 rfl ?_
    refine fz_iconst (pc := 11) (v := 3) ok dX1_two_11 (by decide) ?_
    refine fz_icmp_ne (pc := 12) (tgt := 25) ok dX1_two_12 (by decide) (fun c12 => ?_) (fun c12 => ?_)
    · exact absurd rfl c12
    · refine fz_aload (pc := 15) ok dX1_two_15 rfl ?_
      refine fz_iload (pc := 16) ok dX1_two_16 rfl ?_
      refine fz_iload (pc := 17) ok dX1_two_17 rfl ?_
      refine fz_iadd (pc := 18) ok dX1_two_18 ?_
      refine k1_put (pc := 19) ok (m1_put q o (d := d - 2) (by omega) _) rfl (by decide) (Nat.le_of_ble_eq_true rfl) dX1_two_19 (fun u hu => ?_)
      rw [show d - 2 + 1 = d - 1 by omega]
      refine fz_goto (pc := 22) (tgt := 89) ok dX1_two_22 (by decide) ?_
      exact hret () _ _ dX1_two_89 trivial
  · refine fz_aload (pc := 0) ok dX1_two_0 rfl ?_
    refine k1_take (pc := 1) ok (m1_take q o (d := d) (by omega) (by omega)) rfl (by decide) (Nat.le_of_ble_eq_true rfl) dX1_two_1 (fun r u hu => ?_)
    subst hu
    refine fz_istore (pc := 4) (lc' := [_, _, _]) ok dX1_two_4 (by decide) (Nat.le_of_ble_eq_true rfl) rfl ?_
    refine fz_aload (pc := 5) ok dX1_two_5 rfl ?_
    refine k1_take (pc := 6) ok (m1_take q o (d := d - 1) (by omega) (by omega)) rfl (by decide) (Nat.le_of_ble_eq_true rfl) dX1_two_6 (fun r u hu => ?_)
    subst hu
    rw [show d - 1 - 1 = d - 2 by omega]
    refine fz_istore (pc := 9) (lc' := [_, _, _, _]) ok dX1_two_9 (by decide) (Nat.le_of_ble_eq_true rfl) rfl ?_
    refine fz_iload (pc := 10) ok dX1_two_10 rfl ?_
    refine fz_iconst (pc := 11) (v := 3) ok dX1_two_11 (by decide) ?_
    refine fz_icmp_ne (pc := 12) (tgt := 25) ok dX1_two_12 (by decide) (fun c12 => ?_) (fun c12 => ?_)
    · refine fz_iload (pc := 25) ok dX1_two_25 rfl ?_
      refine fz_iconst (pc := 26) (v := 4) ok dX1_two_26 (by decide) ?_
      refine fz_icmp_ne (pc := 27) (tgt := 40) ok dX1_two_27 (by decide) (fun c27 => ?_) (fun c27 => ?_)
      · exact absurd rfl c27
      · refine fz_aload (pc := 30) ok dX1_two_30 rfl ?_
        refine fz_iload (pc := 31) ok dX1_two_31 rfl ?_
        refine fz_iload (pc := 32) ok dX1_two_32 rfl ?_
        refine fz_isub (pc := 33) ok dX1_two_33 ?_
        refine k1_put (pc := 34) ok (m1_put q o (d := d - 2) (by omega) _) rfl (by decide) (Nat.le_of_ble_eq_true rfl) dX1_two_34 (fun u hu => ?_)
        rw [show d - 2 + 1 = d - 1 by omega]
        refine fz_goto (pc := 37) (tgt := 89) ok dX1_two_37 (by decide) ?_
        exact hret () _ _ dX1_two_89 trivial
    · exact absurd c12 (by decide +kernel)
  · refine fz_aload (pc := 0) ok dX1_two_0 rfl ?_
    refine k1_take (pc := 1) ok (m1_take q o (d := d) (by omega) (by omega)) rfl (by decide) (Nat.le_of_ble_eq_true rfl) dX1_two_1 (fun r u hu => ?_)
    subst hu
    refine fz_istore (pc := 4) (lc' := [_, _, _]) ok dX1_two_4 (by decide) (Nat.le_of_ble_eq_true rfl) rfl ?_
    refine fz_aload (pc := 5) ok dX1_two_5 rfl ?_
    refine k1_take (pc := 6) ok (m1_take q o (d := d - 1) (by omega) (by omega)) rfl (by decide) (Nat.le_of_ble_eq_true rfl) dX1_two_6 (fun r u hu => ?_)
    subst hu
    rw [show d - 1 - 1 = d - 2 by omega]
    refine fz_istore (pc := 9) (lc' := [_, _, _, _]) ok dX1_two_9 (by decide) (Nat.le_of_ble_eq_true rfl) rfl ?_
    refine fz_iload (pc := 10) ok dX1_two_10 rfl ?_
    refine fz_iconst (pc := 11) (v := 3) ok dX1_two_11 (by decide) ?_
    refine fz_icmp_ne (pc := 12) (tgt := 25) ok dX1_two_12 (by decide) (fun c12 => ?_) (fun c12 => ?_)
    · refine fz_iload (pc := 25) ok dX1_two_25 rfl ?_
      refine fz_iconst (pc := 26) (v := 4) ok dX1_two_26 (by decide) ?_
      refine fz_icmp_ne (pc := 27) (tgt := 40) ok dX1_two_27 (by decide) (fun c27 => ?_) (fun c27 => ?_)
      · refine fz_iload (pc := 40) ok dX1_two_40 rfl ?_
        refine fz_iconst (pc := 41) (v := 5) ok dX1_two_41 (by decide) ?_
        refine fz_icmp_ne (pc := 42) (tgt := 55) ok dX1_two_42 (by decide) (fun c42 => ?_) (fun c42 => ?_)
        · exact absurd rfl c42
        · refine fz_aload (pc := 45) ok dX1_two_45 rfl ?_
          refine fz_iload (pc := 46) ok dX1_two_46 rfl ?_
          refine fz_iload (pc := 47) ok dX1_two_47 rfl ?_
          refine fz_imul (pc := 48) ok dX1_two_48 ?_
          refine k1_put (pc := 49) ok (m1_put q o (d := d - 2) (by omega) _) rfl (by decide) (Nat.le_of_ble_eq_true rfl) dX1_two_49 (fun u hu => ?_)
          rw [show d - 2 + 1 = d - 1 by omega]
          refine fz_goto (pc := 52) (tgt := 89) ok dX1_two_52 (by decide) ?_
          exact hret () _ _ dX1_two_89 trivial
      · exact absurd c27 (by decide +kernel)
    · exact absurd c12 (by decide +kernel)
  · refine fz_aload (pc := 0) ok dX1_two_0 rfl ?_
    refine k1_take (pc := 1) ok (m1_take q o (d := d) (by omega) (by omega)) rfl (by decide) (Nat.le_of_ble_eq_true rfl) dX1_two_1 (fun r u hu => ?_)
    subst hu
    refine fz_istore (pc := 4) (lc' := [_, _, _]) ok dX1_two_4 (by decide) (Nat.le_of_ble_eq_true rfl) rfl ?_
    refine fz_aload (pc := 5) ok dX1_two_5 rfl ?_
    refine k1_take (pc := 6) ok (m1_take q o (d := d - 1) (by omega) (by omega)) rfl (by decide) (Nat.le_of_ble_eq_true rfl) dX1_two_6 (fun r u hu => ?_)
    subst hu
    rw [show d - 1 - 1 = d - 2 by omega]
    refine fz_istore (pc := 9) (lc' := [_, _, _, _]) ok dX1_two_9 (by decide) (Nat.le_of_ble_eq_true rfl) rfl ?_
    refine fz_iload (pc := 10) ok dX1_two_10 rfl ?_
    refine fz_iconst (pc := 11) (v := 3) ok dX1_two_11 (by decide) ?_
    refine fz_icmp_ne (pc := 12) (tgt := 25) ok dX1_two_12 (by decide) (fun c12 => ?_) (fun c12 => ?_)
    · refine fz_iload (pc := 25) ok dX1_two_25 rfl ?_
      refine fz_iconst (pc := 26) (v := 4) ok dX1_two_26 (by decide) ?_
      refine fz_icmp_ne (pc := 27) (tgt := 40) ok dX1_two_27 (by decide) (fun c27 => ?_) (fun c27 => ?_)
      · refine fz_iload (pc := 40) ok dX1_two_40 rfl ?_
        refine fz_iconst (pc := 41) (v := 5) ok dX1_two_41 (by decide) ?_
        refine fz_icmp_ne (pc := 42) (tgt := 55) ok dX1_two_42 (by decide) (fun c42 => ?_) (fun c42 => ?_)
        · refine fz_iload (pc := 55) ok dX1_two_55 rfl ?_
          refine fz_bipush (pc := 56) (v := 6) ok dX1_two_56 (by decide) ?_
          refine fz_icmp_ne (pc := 58) (tgt := 74) ok dX1_two_58 (by decide) (fun c58 => ?_) (fun c58 => ?_)
          · exact absurd rfl c58
          · refine fz_aload (pc := 61) ok dX1_two_61 rfl ?_
            refine fz_iload (pc := 62) ok dX1_two_62 rfl ?_
            refine k1_put (pc := 63) ok (m1_put q o (d := d - 2) (by omega) _) rfl (by decide) (Nat.le_of_ble_eq_true rfl) dX1_two_63 (fun u hu => ?_)
            rw [show d - 2 + 1 = d - 1 by omega]
            refine fz_aload (pc := 66) ok dX1_two_66 rfl ?_
            refine fz_iload (pc := 67) ok dX1_two_67 rfl ?_
            refine k1_put (pc := 68) ok (m1_put q o (d := d - 1) (by omega) _) rfl (by decide) (Nat.le_of_ble_eq_true rfl) dX1_two_68 (fun u hu => ?_)
            rw [show d - 1 + 1 = d by omega]
            rw [upd_swap (show d - 2 ≠ d - 1 by omega)]
            refine fz_goto (pc := 71) (tgt := 89) ok dX1_two_71 (by decide) ?_
            exact hret () _ _ dX1_two_89 trivial
        · exact absurd c42 (by decide +kernel)
      · exact absurd c27 (by decide +kernel)
    · exact absurd c12 (by decide +kernel)
  · refine fz_aload (pc := 0) ok dX1_two_0 rfl ?_
    refine k1_take (pc := 1) ok (m1_take q o (d := d) (by omega) (by omega)) rfl (by decide) (Nat.le_of_ble_eq_true rfl) dX1_two_1 (fun r u hu => ?_)
    subst hu
    refine fz_istore (pc := 4) (lc' := [_, _, _]) ok dX1_two_4 (by decide) (Nat.le_of_ble_eq_true rfl) rfl ?_
    refine fz_aload (pc := 5) ok dX1_two_5 rfl ?_
    refine k1_take (pc := 6) ok (m1_take q o (d := d - 1) (by omega) (by omega)) rfl (by decide) (Nat.le_of_ble_eq_true rfl) dX1_two_6 (fun r u hu => ?_)
    subst hu
    rw [show d - 1 - 1 = d - 2 by omega]
    refine fz_istore (pc := 9) (lc' := [_, _, _, _]) ok dX1_two_9 (by decide) (Nat.le_of_ble_eq_true rfl) rfl ?_
    refine fz_iload (pc := 10) ok dX1_two_10 rfl ?_
    refine fz_iconst (pc := 11) (v := 3) ok dX1_two_11 (by decide) ?_
    refine fz_icmp_ne (pc := 12) (tgt := 25) ok dX1_two_12 (by decide) (fun c12 => ?_) (fun c12 => ?_)
    · refine fz_iload (pc := 25) ok dX1_two_25 rfl ?_
      refine fz_iconst (pc := 26) (v := 4) ok dX1_two_26 (by decide) ?_
      refine fz_icmp_ne (pc := 27) (tgt := 40) ok dX1_two_27 (by decide) (fun c27 => ?_) (fun c27 => ?_)
      · refine fz_iload (pc := 40) ok dX1_two_40 rfl ?_
        refine fz_iconst (pc := 41) (v := 5) ok dX1_two_41 (by decide) ?_
        refine fz_icmp_ne (pc := 42) (tgt := 55) ok dX1_two_42 (by decide) (fun c42 => ?_) (fun c42 => ?_)
        · refine fz_iload (pc := 55) ok dX1_two_55 rfl ?_
          refine fz_bipush (pc := 56) (v := 6) ok dX1_two_56 (by decide) ?_
          refine fz_icmp_ne (pc := 58) (tgt := 74) ok dX1_two_58 (by decide) (fun c58 => ?_) (fun c58 => ?_)
          · refine fz_aload (pc := 74) ok dX1_two_74 rfl ?_
            refine fz_iload (pc := 75) ok dX1_two_75 rfl ?_
            refine k1_put (pc := 76) ok (m1_put q o (d := d - 2) (by omega) _) rfl (by decide) (Nat.le_of_ble_eq_true rfl) dX1_two_76 (fun u hu => ?_)
            rw [show d - 2 + 1 = d - 1 by omega]
            rw [upd_self]
            refine fz_aload (pc := 79) ok dX1_two_79 rfl ?_
            refine fz_iload (pc := 80) ok dX1_two_80 rfl ?_
            refine k1_put (pc := 81) ok (m1_put q o (d := d - 1) (by omega) _) rfl (by decide) (Nat.le_of_ble_eq_true rfl) dX1_two_81 (fun u hu => ?_)
            rw [show d - 1 + 1 = d by omega]
            rw [upd_self]
            refine fz_aload (pc := 84) ok dX1_two_84 rfl ?_
            refine fz_iload (pc := 85) ok dX1_two_85 rfl ?_
            refine k1_put (pc := 86) ok (m1_put q o (d := d) (by omega) _) rfl (by decide) (Nat.le_of_ble_eq_true rfl) dX1_two_86 (fun u hu => ?_)
            exact hret () _ _ dX1_two_89 trivial
          · exact absurd c58 (by decide +kernel)
        · exact absurd c42 (by decide +kernel)
      · exact absurd c27 (by decide +kernel)
    · exact absurd c12 (by decide +kernel)
end
section
set_option maxRecDepth 100000
/-! FuelGateModel: carryOut, goOn -/
theorem topF_0 {d : Nat} {sk : Nat → Int32} (h : 1 ≤ d) (hd : d < 2 ^ 31) : topF d sk 0 = sk (d - 1) := by
  unfold topF
  have a : ¬ ((0 : Int32) < 0 ∨ nI d ≤ 0) := by
    rintro (z | z)
    · exact absurd z (by decide +kernel)
    · exact nI_nle h hd z
  rw [if_neg a]
  rfl
theorem sp13 {op cn : Nat → Int32} {m : Ms} (h : oOf op m = 13) (e : m.1 = nI (aOf m)) : sp op cn m = m := by
  obtain ⟨pt, d, sk, ce⟩ := m
  unfold sp
  rw [h, show stP 13 (aOf (pt, d, sk, ce)) (cn (aOf (pt, d, sk, ce))) (pt, d, sk, ce).2.1 (pt, d, sk, ce).2.2.1 = nI (aOf (pt, d, sk, ce)) from rfl, ← e]
  rfl
theorem m1_carryOut0 (q : fz_Q) (o : fz_O) {sz st fu : Int32} {op cn ce ht sk : Nat → Int32} {a c d : Nat} (ha : a < 24) (eo : op a = nI c) (hc : c < 15) (h13 : c ≠ 13) (hu : usN c ≤ d) (h8 : d ≤ 8) (hb : stD c d ≤ 8) : fz_Mv q yX1_carryOut cX1_carryOut 5 2 [.ref o.1] (wm q o sz st fu (nI a) (nI d) op cn ce ht sk) (fun _ : Unit => True) (fun _ => (wm q o sz st fu (stP c a (cn a) d sk) (nI (stD c d)) op cn (stC c (cn a) d sk ce) ht (stS c (cn a) d sk ce))) := by
  refine fz_ofv (own := RX1) (by decide) rfl rfl (Nat.le_of_ble_eq_true rfl) ?_
  intro x ok hret
  refine fz_aload (pc := 0) ok dX1_carryOut_0 rfl ?_
  refine g1_ops (pc := 1) ok dX1_carryOut_1 ?_
  refine fz_aload (pc := 4) ok dX1_carryOut_4 rfl ?_
  refine g1_at (pc := 5) ok dX1_carryOut_5 ?_
  refine l1_ops (pc := 8) ok dX1_carryOut_8 (a) (rfl) (ha) ?_
  refine fz_top (eo) ?_
  refine fz_istore (pc := 9) (lc' := [_, _]) ok dX1_carryOut_9 (by decide) (Nat.le_of_ble_eq_true rfl) rfl ?_
  refine fz_aload (pc := 10) ok dX1_carryOut_10 rfl ?_
  refine g1_cs (pc := 11) ok dX1_carryOut_11 ?_
  refine fz_aload (pc := 14) ok dX1_carryOut_14 rfl ?_
  refine g1_at (pc := 15) ok dX1_carryOut_15 ?_
  refine l1_cs (pc := 18) ok dX1_carryOut_18 (a) (rfl) (ha) ?_
  refine fz_istore (pc := 19) (lc' := [_, _, _]) ok dX1_carryOut_19 (by decide) (Nat.le_of_ble_eq_true rfl) rfl ?_
  refine fz_aload (pc := 20) ok dX1_carryOut_20 rfl ?_
  refine g1_at (pc := 21) ok dX1_carryOut_21 ?_
  refine fz_iconst (pc := 24) (v := 1) ok dX1_carryOut_24 (by decide) ?_
  refine fz_iadd (pc := 25) ok dX1_carryOut_25 ?_
  refine fz_top (show _ = nI (a + 1) from fz_a1 a) ?_
  refine fz_istore (pc := 26) (lc' := [_, _, _, _]) ok dX1_carryOut_26 (by decide) (Nat.le_of_ble_eq_true rfl) rfl ?_
  rcases fz_15 hc with rfl | rfl | rfl | rfl | rfl | rfl | rfl | rfl | rfl | rfl | rfl | rfl | rfl | rfl | rfl
  · have hb : d + 1 ≤ 8 := hb
    refine fz_iload (pc := 27) ok dX1_carryOut_27 rfl ?_
    refine fz_if_ne (pc := 28) (tgt := 39) ok dX1_carryOut_28 (by decide) (fun c28 => ?_) (fun c28 => ?_)
    · exact absurd rfl c28
    · refine fz_aload (pc := 31) ok dX1_carryOut_31 rfl ?_
      refine fz_iload (pc := 32) ok dX1_carryOut_32 rfl ?_
      refine k1_put (pc := 33) ok (m1_put q o (d := d) (by omega) _) rfl (by decide) (Nat.le_of_ble_eq_true rfl) dX1_carryOut_33 (fun u hu => ?_)
      refine fz_goto (pc := 36) (tgt := 197) ok dX1_carryOut_36 (by decide) ?_
      refine fz_aload (pc := 197) ok dX1_carryOut_197 rfl ?_
      refine fz_iload (pc := 198) ok dX1_carryOut_198 rfl ?_
      refine p1_at (pc := 199) ok dX1_carryOut_199 (_) (rfl) ?_
      exact hret () _ _ dX1_carryOut_202 trivial
  · have hu : 1 ≤ d := hu
    refine fz_iload (pc := 27) ok dX1_carryOut_27 rfl ?_
    refine fz_if_ne (pc := 28) (tgt := 39) ok dX1_carryOut_28 (by decide) (fun c28 => ?_) (fun c28 => ?_)
    · refine fz_iload (pc := 39) ok dX1_carryOut_39 rfl ?_
      refine fz_iconst (pc := 40) (v := 1) ok dX1_carryOut_40 (by decide) ?_
      refine fz_icmp_ne (pc := 41) (tgt := 68) ok dX1_carryOut_41 (by decide) (fun c41 => ?_) (fun c41 => ?_)
      · exact absurd rfl c41
      · refine fz_aload (pc := 44) ok dX1_carryOut_44 rfl ?_
        refine fz_aload (pc := 45) ok dX1_carryOut_45 rfl ?_
        refine g1_high (pc := 46) ok dX1_carryOut_46 ?_
        refine fz_if_le (pc := 49) (tgt := 61) ok dX1_carryOut_49 (by decide) (fun c49 => ?_) (fun c49 => ?_)
        · exact absurd c49 (nI_nle hu (by omega))
        · refine fz_aload (pc := 52) ok dX1_carryOut_52 rfl ?_
          refine g1_high (pc := 53) ok dX1_carryOut_53 ?_
          refine fz_iconst (pc := 56) (v := 1) ok dX1_carryOut_56 (by decide) ?_
          refine fz_isub (pc := 57) ok dX1_carryOut_57 ?_
          refine fz_goto (pc := 58) (tgt := 62) ok dX1_carryOut_58 (by decide) ?_
          refine p1_high (pc := 62) ok dX1_carryOut_62 (nI (d - 1)) (fz_s1 hu) ?_
          refine fz_goto (pc := 65) (tgt := 197) ok dX1_carryOut_65 (by decide) ?_
          refine fz_aload (pc := 197) ok dX1_carryOut_197 rfl ?_
          refine fz_iload (pc := 198) ok dX1_carryOut_198 rfl ?_
          refine p1_at (pc := 199) ok dX1_carryOut_199 (_) (rfl) ?_
          exact hret () _ _ dX1_carryOut_202 trivial
    · exact absurd c28 (by decide +kernel)
  · have hu : 1 ≤ d := hu
    have hb : d + 1 ≤ 8 := hb
    refine fz_iload (pc := 27) ok dX1_carryOut_27 rfl ?_
    refine fz_if_ne (pc := 28) (tgt := 39) ok dX1_carryOut_28 (by decide) (fun c28 => ?_) (fun c28 => ?_)
    · refine fz_iload (pc := 39) ok dX1_carryOut_39 rfl ?_
      refine fz_iconst (pc := 40) (v := 1) ok dX1_carryOut_40 (by decide) ?_
      refine fz_icmp_ne (pc := 41) (tgt := 68) ok dX1_carryOut_41 (by decide) (fun c41 => ?_) (fun c41 => ?_)
      · refine fz_iload (pc := 68) ok dX1_carryOut_68 rfl ?_
        refine fz_iconst (pc := 69) (v := 2) ok dX1_carryOut_69 (by decide) ?_
        refine fz_icmp_ne (pc := 70) (tgt := 89) ok dX1_carryOut_70 (by decide) (fun c70 => ?_) (fun c70 => ?_)
        · exact absurd rfl c70
        · refine fz_aload (pc := 73) ok dX1_carryOut_73 rfl ?_
          refine fz_iconst (pc := 74) (v := 0) ok dX1_carryOut_74 (by decide) ?_
          refine k1_top (pc := 75) ok (m1_top q o (d := d) rfl (by omega) 0) rfl (by decide) (Nat.le_of_ble_eq_true rfl) dX1_carryOut_75 (fun r9 u9 hu9 => ?_)
          subst hu9
          refine fz_istoreL (pc := 78) (lc' := [_, _, _, _, _]) ok dX1_carryOut_78 (by decide) (Nat.le_of_ble_eq_true rfl) rfl ?_
          refine fz_aload (pc := 80) ok dX1_carryOut_80 rfl ?_
          refine fz_iloadL (pc := 81) ok dX1_carryOut_81 rfl ?_
          refine k1_put (pc := 83) ok (m1_put q o (d := d) (by omega) _) rfl (by decide) (Nat.le_of_ble_eq_true rfl) dX1_carryOut_83 (fun u9 hu9 => ?_)
          rw [topF_0 hu (by omega)]
          refine fz_goto (pc := 86) (tgt := 197) ok dX1_carryOut_86 (by decide) ?_
          refine fz_aload (pc := 197) ok dX1_carryOut_197 rfl ?_
          refine fz_iload (pc := 198) ok dX1_carryOut_198 rfl ?_
          refine p1_at (pc := 199) ok dX1_carryOut_199 (_) (rfl) ?_
          exact hret () _ _ dX1_carryOut_202 trivial
      · exact absurd c41 (by decide +kernel)
    · exact absurd c28 (by decide +kernel)
  · have hu : 2 ≤ d := hu
    refine fz_iload (pc := 27) ok dX1_carryOut_27 rfl ?_
    refine fz_if_ne (pc := 28) (tgt := 39) ok dX1_carryOut_28 (by decide) (fun c28 => ?_) (fun c28 => ?_)
    · refine fz_iload (pc := 39) ok dX1_carryOut_39 rfl ?_
      refine fz_iconst (pc := 40) (v := 1) ok dX1_carryOut_40 (by decide) ?_
      refine fz_icmp_ne (pc := 41) (tgt := 68) ok dX1_carryOut_41 (by decide) (fun c41 => ?_) (fun c41 => ?_)
      · refine fz_iload (pc := 68) ok dX1_carryOut_68 rfl ?_
        refine fz_iconst (pc := 69) (v := 2) ok dX1_carryOut_69 (by decide) ?_
        refine fz_icmp_ne (pc := 70) (tgt := 89) ok dX1_carryOut_70 (by decide) (fun c70 => ?_) (fun c70 => ?_)
        · refine fz_iload (pc := 89) ok dX1_carryOut_89 rfl ?_
          refine fz_bipush (pc := 90) (v := 7) ok dX1_carryOut_90 (by decide) ?_
          refine fz_icmp_gt (pc := 92) (tgt := 103) ok dX1_carryOut_92 (by decide) (fun c92 => ?_) (fun c92 => ?_)
          · exact absurd c92 (by decide +kernel)
          · refine fz_aload (pc := 95) ok dX1_carryOut_95 rfl ?_
            refine fz_iload (pc := 96) ok dX1_carryOut_96 rfl ?_
            refine k1_two (pc := 97) ok (m1_two q o (d := d) (c := 3) hu h8 (by decide) (cn a)) rfl (by decide) (Nat.le_of_ble_eq_true rfl) dX1_carryOut_97 (fun u hu => ?_)
            refine fz_goto (pc := 100) (tgt := 197) ok dX1_carryOut_100 (by decide) ?_
            refine fz_aload (pc := 197) ok dX1_carryOut_197 rfl ?_
            refine fz_iload (pc := 198) ok dX1_carryOut_198 rfl ?_
            refine p1_at (pc := 199) ok dX1_carryOut_199 (_) (rfl) ?_
            exact hret () _ _ dX1_carryOut_202 trivial
        · exact absurd c70 (by decide +kernel)
      · exact absurd c41 (by decide +kernel)
    · exact absurd c28 (by decide +kernel)
  · have hu : 2 ≤ d := hu
    refine fz_iload (pc := 27) ok dX1_carryOut_27 rfl ?_
    refine fz_if_ne (pc := 28) (tgt := 39) ok dX1_carryOut_28 (by decide) (fun c28 => ?_) (fun c28 => ?_)
    · refine fz_iload (pc := 39) ok dX1_carryOut_39 rfl ?_
      refine fz_iconst (pc := 40) (v := 1) ok dX1_carryOut_40 (by decide) ?_
      refine fz_icmp_ne (pc := 41) (tgt := 68) ok dX1_carryOut_41 (by decide) (fun c41 => ?_) (fun c41 => ?_)
      · refine fz_iload (pc := 68) ok dX1_carryOut_68 rfl ?_
        refine fz_iconst (pc := 69) (v := 2) ok dX1_carryOut_69 (by decide) ?_
        refine fz_icmp_ne (pc := 70) (tgt := 89) ok dX1_carryOut_70 (by decide) (fun c70 => ?_) (fun c70 => ?_)
        · refine fz_iload (pc := 89) ok dX1_carryOut_89 rfl ?_
          refine fz_bipush (pc := 90) (v := 7) ok dX1_carryOut_90 (by decide) ?_
          refine fz_icmp_gt (pc := 92) (tgt := 103) ok dX1_carryOut_92 (by decide) (fun c92 => ?_) (fun c92 => ?_)
          · exact absurd c92 (by decide +kernel)
          · refine fz_aload (pc := 95) ok dX1_carryOut_95 rfl ?_
            refine fz_iload (pc := 96) ok dX1_carryOut_96 rfl ?_
            refine k1_two (pc := 97) ok (m1_two q o (d := d) (c := 4) hu h8 (by decide) (cn a)) rfl (by decide) (Nat.le_of_ble_eq_true rfl) dX1_carryOut_97 (fun u hu => ?_)
            refine fz_goto (pc := 100) (tgt := 197) ok dX1_carryOut_100 (by decide) ?_
            refine fz_aload (pc := 197) ok dX1_carryOut_197 rfl ?_
            refine fz_iload (pc := 198) ok dX1_carryOut_198 rfl ?_
            refine p1_at (pc := 199) ok dX1_carryOut_199 (_) (rfl) ?_
            exact hret () _ _ dX1_carryOut_202 trivial
        · exact absurd c70 (by decide +kernel)
      · exact absurd c41 (by decide +kernel)
    · exact absurd c28 (by decide +kernel)
  · have hu : 2 ≤ d := hu
    refine fz_iload (pc := 27) ok dX1_carryOut_27 rfl ?_
    refine fz_if_ne (pc := 28) (tgt := 39) ok dX1_carryOut_28 (by decide) (fun c28 => ?_) (fun c28 => ?_)
    · refine fz_iload (pc := 39) ok dX1_carryOut_39 rfl ?_
      refine fz_iconst (pc := 40) (v := 1) ok dX1_carryOut_40 (by decide) ?_
      refine fz_icmp_ne (pc := 41) (tgt := 68) ok dX1_carryOut_41 (by decide) (fun c41 => ?_) (fun c41 => ?_)
      · refine fz_iload (pc := 68) ok dX1_carryOut_68 rfl ?_
        refine fz_iconst (pc := 69) (v := 2) ok dX1_carryOut_69 (by decide) ?_
        refine fz_icmp_ne (pc := 70) (tgt := 89) ok dX1_carryOut_70 (by decide) (fun c70 => ?_) (fun c70 => ?_)
        · refine fz_iload (pc := 89) ok dX1_carryOut_89 rfl ?_
          refine fz_bipush (pc := 90) (v := 7) ok dX1_carryOut_90 (by decide) ?_
          refine fz_icmp_gt (pc := 92) (tgt := 103) ok dX1_carryOut_92 (by decide) (fun c92 => ?_) (fun c92 => ?_)
          · exact absurd c92 (by decide +kernel)
          · refine fz_aload (pc := 95) ok dX1_carryOut_95 rfl ?_
            refine fz_iload (pc := 96) ok dX1_carryOut_96 rfl ?_
            refine k1_two (pc := 97) ok (m1_two q o (d := d) (c := 5) hu h8 (by decide) (cn a)) rfl (by decide) (Nat.le_of_ble_eq_true rfl) dX1_carryOut_97 (fun u hu => ?_)
            refine fz_goto (pc := 100) (tgt := 197) ok dX1_carryOut_100 (by decide) ?_
            refine fz_aload (pc := 197) ok dX1_carryOut_197 rfl ?_
            refine fz_iload (pc := 198) ok dX1_carryOut_198 rfl ?_
            refine p1_at (pc := 199) ok dX1_carryOut_199 (_) (rfl) ?_
            exact hret () _ _ dX1_carryOut_202 trivial
        · exact absurd c70 (by decide +kernel)
      · exact absurd c41 (by decide +kernel)
    · exact absurd c28 (by decide +kernel)
  · have hu : 2 ≤ d := hu
    refine fz_iload (pc := 27) ok dX1_carryOut_27 rfl ?_
    refine fz_if_ne (pc := 28) (tgt := 39) ok dX1_carryOut_28 (by decide) (fun c28 => ?_) (fun c28 => ?_)
    · refine fz_iload (pc := 39) ok dX1_carryOut_39 rfl ?_
      refine fz_iconst (pc := 40) (v := 1) ok dX1_carryOut_40 (by decide) ?_
      refine fz_icmp_ne (pc := 41) (tgt := 68) ok dX1_carryOut_41 (by decide) (fun c41 => ?_) (fun c41 => ?_)
      · refine fz_iload (pc := 68) ok dX1_carryOut_68 rfl ?_
        refine fz_iconst (pc := 69) (v := 2) ok dX1_carryOut_69 (by decide) ?_
        refine fz_icmp_ne (pc := 70) (tgt := 89) ok dX1_carryOut_70 (by decide) (fun c70 => ?_) (fun c70 => ?_)
        · refine fz_iload (pc := 89) ok dX1_carryOut_89 rfl ?_
          refine fz_bipush (pc := 90) (v := 7) ok dX1_carryOut_90 (by decide) ?_
          refine fz_icmp_gt (pc := 92) (tgt := 103) ok dX1_carryOut_92 (by decide) (fun c92 => ?_) (fun c92 => ?_)
          · exact absurd c92 (by decide +kernel)
          · refine fz_aload (pc := 95) ok dX1_carryOut_95 rfl ?_
            refine fz_iload (pc := 96) ok dX1_carryOut_96 rfl ?_
            refine k1_two (pc := 97) ok (m1_two q o (d := d) (c := 6) hu h8 (by decide) (cn a)) rfl (by decide) (Nat.le_of_ble_eq_true rfl) dX1_carryOut_97 (fun u hu => ?_)
            refine fz_goto (pc := 100) (tgt := 197) ok dX1_carryOut_100 (by decide) ?_
            refine fz_aload (pc := 197) ok dX1_carryOut_197 rfl ?_
            refine fz_iload (pc := 198) ok dX1_carryOut_198 rfl ?_
            refine p1_at (pc := 199) ok dX1_carryOut_199 (_) (rfl) ?_
            exact hret () _ _ dX1_carryOut_202 trivial
        · exact absurd c70 (by decide +kernel)
      · exact absurd c41 (by decide +kernel)
    · exact absurd c28 (by decide +kernel)
  · have hu : 2 ≤ d := hu
    have hb : d + 1 ≤ 8 := hb
    refine fz_iload (pc := 27) ok dX1_carryOut_27 rfl ?_
    refine fz_if_ne (pc := 28) (tgt := 39) ok dX1_carryOut_28 (by decide) (fun c28 => ?_) (fun c28 => ?_)
    · refine fz_iload (pc := 39) ok dX1_carryOut_39 rfl ?_
      refine fz_iconst (pc := 40) (v := 1) ok dX1_carryOut_40 (by decide) ?_
      refine fz_icmp_ne (pc := 41) (tgt := 68) ok dX1_carryOut_41 (by decide) (fun c41 => ?_) (fun c41 => ?_)
      · refine fz_iload (pc := 68) ok dX1_carryOut_68 rfl ?_
        refine fz_iconst (pc := 69) (v := 2) ok dX1_carryOut_69 (by decide) ?_
        refine fz_icmp_ne (pc := 70) (tgt := 89) ok dX1_carryOut_70 (by decide) (fun c70 => ?_) (fun c70 => ?_)
        · refine fz_iload (pc := 89) ok dX1_carryOut_89 rfl ?_
          refine fz_bipush (pc := 90) (v := 7) ok dX1_carryOut_90 (by decide) ?_
          refine fz_icmp_gt (pc := 92) (tgt := 103) ok dX1_carryOut_92 (by decide) (fun c92 => ?_) (fun c92 => ?_)
          · exact absurd c92 (by decide +kernel)
          · refine fz_aload (pc := 95) ok dX1_carryOut_95 rfl ?_
            refine fz_iload (pc := 96) ok dX1_carryOut_96 rfl ?_
            refine k1_two (pc := 97) ok (m1_two q o (d := d) (c := 7) hu h8 (by decide) (cn a)) rfl (by decide) (Nat.le_of_ble_eq_true rfl) dX1_carryOut_97 (fun u hu => ?_)
            refine fz_goto (pc := 100) (tgt := 197) ok dX1_carryOut_100 (by decide) ?_
            refine fz_aload (pc := 197) ok dX1_carryOut_197 rfl ?_
            refine fz_iload (pc := 198) ok dX1_carryOut_198 rfl ?_
            refine p1_at (pc := 199) ok dX1_carryOut_199 (_) (rfl) ?_
            exact hret () _ _ dX1_carryOut_202 trivial
        · exact absurd c70 (by decide +kernel)
      · exact absurd c41 (by decide +kernel)
    · exact absurd c28 (by decide +kernel)
  · refine fz_iload (pc := 27) ok dX1_carryOut_27 rfl ?_
    refine fz_if_ne (pc := 28) (tgt := 39) ok dX1_carryOut_28 (by decide) (fun c28 => ?_) (fun c28 => ?_)
    · refine fz_iload (pc := 39) ok dX1_carryOut_39 rfl ?_
      refine fz_iconst (pc := 40) (v := 1) ok dX1_carryOut_40 (by decide) ?_
      refine fz_icmp_ne (pc := 41) (tgt := 68) ok dX1_carryOut_41 (by decide) (fun c41 => ?_) (fun c41 => ?_)
      · refine fz_iload (pc := 68) ok dX1_carryOut_68 rfl ?_
        refine fz_iconst (pc := 69) (v := 2) ok dX1_carryOut_69 (by decide) ?_
        refine fz_icmp_ne (pc := 70) (tgt := 89) ok dX1_carryOut_70 (by decide) (fun c70 => ?_) (fun c70 => ?_)
        · refine fz_iload (pc := 89) ok dX1_carryOut_89 rfl ?_
          refine fz_bipush (pc := 90) (v := 7) ok dX1_carryOut_90 (by decide) ?_
          refine fz_icmp_gt (pc := 92) (tgt := 103) ok dX1_carryOut_92 (by decide) (fun c92 => ?_) (fun c92 => ?_)
          · refine fz_iload (pc := 103) ok dX1_carryOut_103 rfl ?_
            refine fz_bipush (pc := 104) (v := 8) ok dX1_carryOut_104 (by decide) ?_
            refine fz_icmp_ne (pc := 106) (tgt := 114) ok dX1_carryOut_106 (by decide) (fun c106 => ?_) (fun c106 => ?_)
            · exact absurd rfl c106
            · refine fz_iload (pc := 109) ok dX1_carryOut_109 rfl ?_
              refine fz_istore (pc := 110) (lc' := [_, _, _, _]) ok dX1_carryOut_110 (by decide) (Nat.le_of_ble_eq_true rfl) rfl ?_
              refine fz_goto (pc := 111) (tgt := 197) ok dX1_carryOut_111 (by decide) ?_
              refine fz_aload (pc := 197) ok dX1_carryOut_197 rfl ?_
              refine fz_iload (pc := 198) ok dX1_carryOut_198 rfl ?_
              refine p1_at (pc := 199) ok dX1_carryOut_199 (_) (rfl) ?_
              exact hret () _ _ dX1_carryOut_202 trivial
          · exact absurd (by decide +kernel) c92
        · exact absurd c70 (by decide +kernel)
      · exact absurd c41 (by decide +kernel)
    · exact absurd c28 (by decide +kernel)
  · have hu : 1 ≤ d := hu
    refine fz_iload (pc := 27) ok dX1_carryOut_27 rfl ?_
    refine fz_if_ne (pc := 28) (tgt := 39) ok dX1_carryOut_28 (by decide) (fun c28 => ?_) (fun c28 => ?_)
    · refine fz_iload (pc := 39) ok dX1_carryOut_39 rfl ?_
      refine fz_iconst (pc := 40) (v := 1) ok dX1_carryOut_40 (by decide) ?_
      refine fz_icmp_ne (pc := 41) (tgt := 68) ok dX1_carryOut_41 (by decide) (fun c41 => ?_) (fun c41 => ?_)
      · refine fz_iload (pc := 68) ok dX1_carryOut_68 rfl ?_
        refine fz_iconst (pc := 69) (v := 2) ok dX1_carryOut_69 (by decide) ?_
        refine fz_icmp_ne (pc := 70) (tgt := 89) ok dX1_carryOut_70 (by decide) (fun c70 => ?_) (fun c70 => ?_)
        · refine fz_iload (pc := 89) ok dX1_carryOut_89 rfl ?_
          refine fz_bipush (pc := 90) (v := 7) ok dX1_carryOut_90 (by decide) ?_
          refine fz_icmp_gt (pc := 92) (tgt := 103) ok dX1_carryOut_92 (by decide) (fun c92 => ?_) (fun c92 => ?_)
          · refine fz_iload (pc := 103) ok dX1_carryOut_103 rfl ?_
            refine fz_bipush (pc := 104) (v := 8) ok dX1_carryOut_104 (by decide) ?_
            refine fz_icmp_ne (pc := 106) (tgt := 114) ok dX1_carryOut_106 (by decide) (fun c106 => ?_) (fun c106 => ?_)
            · refine fz_iload (pc := 114) ok dX1_carryOut_114 rfl ?_
              refine fz_bipush (pc := 115) (v := 9) ok dX1_carryOut_115 (by decide) ?_
              refine fz_icmp_ne (pc := 117) (tgt := 136) ok dX1_carryOut_117 (by decide) (fun c117 => ?_) (fun c117 => ?_)
              · exact absurd rfl c117
              · refine fz_aload (pc := 120) ok dX1_carryOut_120 rfl ?_
                refine k1_take (pc := 121) ok (m1_take q o (d := d) hu (by omega)) rfl (by decide) (Nat.le_of_ble_eq_true rfl) dX1_carryOut_121 (fun r9 u9 hu9 => ?_)
                subst hu9
                refine fz_if_ne (pc := 124) (tgt := 131) ok dX1_carryOut_124 (by decide) (fun c124 => ?_) (fun c124 => ?_)
                · refine fz_iload (pc := 131) ok dX1_carryOut_131 rfl ?_
                  refine fz_istore (pc := 132) (lc' := [_, _, _, _]) ok dX1_carryOut_132 (by decide) (Nat.le_of_ble_eq_true rfl) rfl ?_
                  refine fz_goto (pc := 133) (tgt := 197) ok dX1_carryOut_133 (by decide) ?_
                  refine fz_aload (pc := 197) ok dX1_carryOut_197 rfl ?_
                  refine fz_iload (pc := 198) ok dX1_carryOut_198 rfl ?_
                  refine p1_at (pc := 199) ok dX1_carryOut_199 (stP 9 a (cn a) d sk) ((if_neg c124).symm) ?_
                  exact hret () _ _ dX1_carryOut_202 trivial
                · refine fz_iload (pc := 127) ok dX1_carryOut_127 rfl ?_
                  refine fz_goto (pc := 128) (tgt := 132) ok dX1_carryOut_128 (by decide) ?_
                  refine fz_istore (pc := 132) (lc' := [_, _, _, _]) ok dX1_carryOut_132 (by decide) (Nat.le_of_ble_eq_true rfl) rfl ?_
                  refine fz_goto (pc := 133) (tgt := 197) ok dX1_carryOut_133 (by decide) ?_
                  refine fz_aload (pc := 197) ok dX1_carryOut_197 rfl ?_
                  refine fz_iload (pc := 198) ok dX1_carryOut_198 rfl ?_
                  refine p1_at (pc := 199) ok dX1_carryOut_199 (stP 9 a (cn a) d sk) ((if_pos c124).symm) ?_
                  exact hret () _ _ dX1_carryOut_202 trivial
            · exact absurd c106 (by decide +kernel)
          · exact absurd (by decide +kernel) c92
        · exact absurd c70 (by decide +kernel)
      · exact absurd c41 (by decide +kernel)
    · exact absurd c28 (by decide +kernel)
  · have hu : 1 ≤ d := hu
    refine fz_iload (pc := 27) ok dX1_carryOut_27 rfl ?_
    refine fz_if_ne (pc := 28) (tgt := 39) ok dX1_carryOut_28 (by decide) (fun c28 => ?_) (fun c28 => ?_)
    · refine fz_iload (pc := 39) ok dX1_carryOut_39 rfl ?_
      refine fz_iconst (pc := 40) (v := 1) ok dX1_carryOut_40 (by decide) ?_
      refine fz_icmp_ne (pc := 41) (tgt := 68) ok dX1_carryOut_41 (by decide) (fun c41 => ?_) (fun c41 => ?_)
      · refine fz_iload (pc := 68) ok dX1_carryOut_68 rfl ?_
        refine fz_iconst (pc := 69) (v := 2) ok dX1_carryOut_69 (by decide) ?_
        refine fz_icmp_ne (pc := 70) (tgt := 89) ok dX1_carryOut_70 (by decide) (fun c70 => ?_) (fun c70 => ?_)
        · refine fz_iload (pc := 89) ok dX1_carryOut_89 rfl ?_
          refine fz_bipush (pc := 90) (v := 7) ok dX1_carryOut_90 (by decide) ?_
          refine fz_icmp_gt (pc := 92) (tgt := 103) ok dX1_carryOut_92 (by decide) (fun c92 => ?_) (fun c92 => ?_)
          · refine fz_iload (pc := 103) ok dX1_carryOut_103 rfl ?_
            refine fz_bipush (pc := 104) (v := 8) ok dX1_carryOut_104 (by decide) ?_
            refine fz_icmp_ne (pc := 106) (tgt := 114) ok dX1_carryOut_106 (by decide) (fun c106 => ?_) (fun c106 => ?_)
            · refine fz_iload (pc := 114) ok dX1_carryOut_114 rfl ?_
              refine fz_bipush (pc := 115) (v := 9) ok dX1_carryOut_115 (by decide) ?_
              refine fz_icmp_ne (pc := 117) (tgt := 136) ok dX1_carryOut_117 (by decide) (fun c117 => ?_) (fun c117 => ?_)
              · refine fz_iload (pc := 136) ok dX1_carryOut_136 rfl ?_
                refine fz_bipush (pc := 137) (v := 10) ok dX1_carryOut_137 (by decide) ?_
                refine fz_icmp_ne (pc := 139) (tgt := 158) ok dX1_carryOut_139 (by decide) (fun c139 => ?_) (fun c139 => ?_)
                · exact absurd rfl c139
                · refine fz_aload (pc := 142) ok dX1_carryOut_142 rfl ?_
                  refine k1_take (pc := 143) ok (m1_take q o (d := d) hu (by omega)) rfl (by decide) (Nat.le_of_ble_eq_true rfl) dX1_carryOut_143 (fun r9 u9 hu9 => ?_)
                  subst hu9
                  refine fz_if_le (pc := 146) (tgt := 153) ok dX1_carryOut_146 (by decide) (fun c146 => ?_) (fun c146 => ?_)
                  · refine fz_iload (pc := 153) ok dX1_carryOut_153 rfl ?_
                    refine fz_istore (pc := 154) (lc' := [_, _, _, _]) ok dX1_carryOut_154 (by decide) (Nat.le_of_ble_eq_true rfl) rfl ?_
                    refine fz_goto (pc := 155) (tgt := 197) ok dX1_carryOut_155 (by decide) ?_
                    refine fz_aload (pc := 197) ok dX1_carryOut_197 rfl ?_
                    refine fz_iload (pc := 198) ok dX1_carryOut_198 rfl ?_
                    refine p1_at (pc := 199) ok dX1_carryOut_199 (stP 10 a (cn a) d sk) ((if_neg (fz_le_nlt c146)).symm) ?_
                    exact hret () _ _ dX1_carryOut_202 trivial
                  · refine fz_iload (pc := 149) ok dX1_carryOut_149 rfl ?_
                    refine fz_goto (pc := 150) (tgt := 154) ok dX1_carryOut_150 (by decide) ?_
                    refine fz_istore (pc := 154) (lc' := [_, _, _, _]) ok dX1_carryOut_154 (by decide) (Nat.le_of_ble_eq_true rfl) rfl ?_
                    refine fz_goto (pc := 155) (tgt := 197) ok dX1_carryOut_155 (by decide) ?_
                    refine fz_aload (pc := 197) ok dX1_carryOut_197 rfl ?_
                    refine fz_iload (pc := 198) ok dX1_carryOut_198 rfl ?_
                    refine p1_at (pc := 199) ok dX1_carryOut_199 (stP 10 a (cn a) d sk) ((if_pos (fz_nle_lt c146)).symm) ?_
                    exact hret () _ _ dX1_carryOut_202 trivial
              · exact absurd c117 (by decide +kernel)
            · exact absurd c106 (by decide +kernel)
          · exact absurd (by decide +kernel) c92
        · exact absurd c70 (by decide +kernel)
      · exact absurd c41 (by decide +kernel)
    · exact absurd c28 (by decide +kernel)
  · have hb : d + 1 ≤ 8 := hb
    refine fz_iload (pc := 27) ok dX1_carryOut_27 rfl ?_
    refine fz_if_ne (pc := 28) (tgt := 39) ok dX1_carryOut_28 (by decide) (fun c28 => ?_) (fun c28 => ?_)
    · refine fz_iload (pc := 39) ok dX1_carryOut_39 rfl ?_
      refine fz_iconst (pc := 40) (v := 1) ok dX1_carryOut_40 (by decide) ?_
      refine fz_icmp_ne (pc := 41) (tgt := 68) ok dX1_carryOut_41 (by decide) (fun c41 => ?_) (fun c41 => ?_)
      · refine fz_iload (pc := 68) ok dX1_carryOut_68 rfl ?_
        refine fz_iconst (pc := 69) (v := 2) ok dX1_carryOut_69 (by decide) ?_
        refine fz_icmp_ne (pc := 70) (tgt := 89) ok dX1_carryOut_70 (by decide) (fun c70 => ?_) (fun c70 => ?_)
        · refine fz_iload (pc := 89) ok dX1_carryOut_89 rfl ?_
          refine fz_bipush (pc := 90) (v := 7) ok dX1_carryOut_90 (by decide) ?_
          refine fz_icmp_gt (pc := 92) (tgt := 103) ok dX1_carryOut_92 (by decide) (fun c92 => ?_) (fun c92 => ?_)
          · refine fz_iload (pc := 103) ok dX1_carryOut_103 rfl ?_
            refine fz_bipush (pc := 104) (v := 8) ok dX1_carryOut_104 (by decide) ?_
            refine fz_icmp_ne (pc := 106) (tgt := 114) ok dX1_carryOut_106 (by decide) (fun c106 => ?_) (fun c106 => ?_)
            · refine fz_iload (pc := 114) ok dX1_carryOut_114 rfl ?_
              refine fz_bipush (pc := 115) (v := 9) ok dX1_carryOut_115 (by decide) ?_
              refine fz_icmp_ne (pc := 117) (tgt := 136) ok dX1_carryOut_117 (by decide) (fun c117 => ?_) (fun c117 => ?_)
              · refine fz_iload (pc := 136) ok dX1_carryOut_136 rfl ?_
                refine fz_bipush (pc := 137) (v := 10) ok dX1_carryOut_137 (by decide) ?_
                refine fz_icmp_ne (pc := 139) (tgt := 158) ok dX1_carryOut_139 (by decide) (fun c139 => ?_) (fun c139 => ?_)
                · refine fz_iload (pc := 158) ok dX1_carryOut_158 rfl ?_
                  refine fz_bipush (pc := 159) (v := 11) ok dX1_carryOut_159 (by decide) ?_
                  refine fz_icmp_ne (pc := 161) (tgt := 179) ok dX1_carryOut_161 (by decide) (fun c161 => ?_) (fun c161 => ?_)
                  · exact absurd rfl c161
                  · refine fz_aload (pc := 164) ok dX1_carryOut_164 rfl ?_
                    refine fz_aload (pc := 165) ok dX1_carryOut_165 rfl ?_
                    refine g1_cells (pc := 166) ok dX1_carryOut_166 ?_
                    refine fz_iload (pc := 169) ok dX1_carryOut_169 rfl ?_
                    refine fz_iconst (pc := 170) (v := 3) ok dX1_carryOut_170 (by decide) ?_
                    refine fz_iand (pc := 171) ok dX1_carryOut_171 ?_
                    refine l1_cells (pc := 172) ok dX1_carryOut_172 ((cn a &&& 3).toNatClampNeg) ((fz_and3' (cn a)).1) ((fz_and3' (cn a)).2) ?_
                    refine k1_put (pc := 173) ok (m1_put q o (d := d) (by omega) _) rfl (by decide) (Nat.le_of_ble_eq_true rfl) dX1_carryOut_173 (fun u hu => ?_)
                    refine fz_goto (pc := 176) (tgt := 197) ok dX1_carryOut_176 (by decide) ?_
                    refine fz_aload (pc := 197) ok dX1_carryOut_197 rfl ?_
                    refine fz_iload (pc := 198) ok dX1_carryOut_198 rfl ?_
                    refine p1_at (pc := 199) ok dX1_carryOut_199 (_) (rfl) ?_
                    exact hret () _ _ dX1_carryOut_202 trivial
                · exact absurd c139 (by decide +kernel)
              · exact absurd c117 (by decide +kernel)
            · exact absurd c106 (by decide +kernel)
          · exact absurd (by decide +kernel) c92
        · exact absurd c70 (by decide +kernel)
      · exact absurd c41 (by decide +kernel)
    · exact absurd c28 (by decide +kernel)
  · have hu : 1 ≤ d := hu
    refine fz_iload (pc := 27) ok dX1_carryOut_27 rfl ?_
    refine fz_if_ne (pc := 28) (tgt := 39) ok dX1_carryOut_28 (by decide) (fun c28 => ?_) (fun c28 => ?_)
    · refine fz_iload (pc := 39) ok dX1_carryOut_39 rfl ?_
      refine fz_iconst (pc := 40) (v := 1) ok dX1_carryOut_40 (by decide) ?_
      refine fz_icmp_ne (pc := 41) (tgt := 68) ok dX1_carryOut_41 (by decide) (fun c41 => ?_) (fun c41 => ?_)
      · refine fz_iload (pc := 68) ok dX1_carryOut_68 rfl ?_
        refine fz_iconst (pc := 69) (v := 2) ok dX1_carryOut_69 (by decide) ?_
        refine fz_icmp_ne (pc := 70) (tgt := 89) ok dX1_carryOut_70 (by decide) (fun c70 => ?_) (fun c70 => ?_)
        · refine fz_iload (pc := 89) ok dX1_carryOut_89 rfl ?_
          refine fz_bipush (pc := 90) (v := 7) ok dX1_carryOut_90 (by decide) ?_
          refine fz_icmp_gt (pc := 92) (tgt := 103) ok dX1_carryOut_92 (by decide) (fun c92 => ?_) (fun c92 => ?_)
          · refine fz_iload (pc := 103) ok dX1_carryOut_103 rfl ?_
            refine fz_bipush (pc := 104) (v := 8) ok dX1_carryOut_104 (by decide) ?_
            refine fz_icmp_ne (pc := 106) (tgt := 114) ok dX1_carryOut_106 (by decide) (fun c106 => ?_) (fun c106 => ?_)
            · refine fz_iload (pc := 114) ok dX1_carryOut_114 rfl ?_
              refine fz_bipush (pc := 115) (v := 9) ok dX1_carryOut_115 (by decide) ?_
              refine fz_icmp_ne (pc := 117) (tgt := 136) ok dX1_carryOut_117 (by decide) (fun c117 => ?_) (fun c117 => ?_)
              · refine fz_iload (pc := 136) ok dX1_carryOut_136 rfl ?_
                refine fz_bipush (pc := 137) (v := 10) ok dX1_carryOut_137 (by decide) ?_
                refine fz_icmp_ne (pc := 139) (tgt := 158) ok dX1_carryOut_139 (by decide) (fun c139 => ?_) (fun c139 => ?_)
                · refine fz_iload (pc := 158) ok dX1_carryOut_158 rfl ?_
                  refine fz_bipush (pc := 159) (v := 11) ok dX1_carryOut_159 (by decide) ?_
                  refine fz_icmp_ne (pc := 161) (tgt := 179) ok dX1_carryOut_161 (by decide) (fun c161 => ?_) (fun c161 => ?_)
                  · refine fz_iload (pc := 179) ok dX1_carryOut_179 rfl ?_
                    refine fz_bipush (pc := 180) (v := 12) ok dX1_carryOut_180 (by decide) ?_
                    refine fz_icmp_ne (pc := 182) (tgt := 197) ok dX1_carryOut_182 (by decide) (fun c182 => ?_) (fun c182 => ?_)
                    · exact absurd rfl c182
                    · refine fz_aload (pc := 185) ok dX1_carryOut_185 rfl ?_
                      refine g1_cells (pc := 186) ok dX1_carryOut_186 ?_
                      refine fz_iload (pc := 189) ok dX1_carryOut_189 rfl ?_
                      refine fz_iconst (pc := 190) (v := 3) ok dX1_carryOut_190 (by decide) ?_
                      refine fz_iand (pc := 191) ok dX1_carryOut_191 ?_
                      refine fz_aload (pc := 192) ok dX1_carryOut_192 rfl ?_
                      refine k1_take (pc := 193) ok (m1_take q o (d := d) hu (by omega)) rfl (by decide) (Nat.le_of_ble_eq_true rfl) dX1_carryOut_193 (fun r9 u9 hu9 => ?_)
                      subst hu9
                      refine s1_cells (pc := 196) ok dX1_carryOut_196 ((cn a &&& 3).toNatClampNeg) ((fz_and3' (cn a)).1) ((fz_and3' (cn a)).2) ?_
                      refine fz_aload (pc := 197) ok dX1_carryOut_197 rfl ?_
                      refine fz_iload (pc := 198) ok dX1_carryOut_198 rfl ?_
                      refine p1_at (pc := 199) ok dX1_carryOut_199 (_) (rfl) ?_
                      exact hret () _ _ dX1_carryOut_202 trivial
                  · exact absurd c161 (by decide +kernel)
                · exact absurd c139 (by decide +kernel)
              · exact absurd c117 (by decide +kernel)
            · exact absurd c106 (by decide +kernel)
          · exact absurd (by decide +kernel) c92
        · exact absurd c70 (by decide +kernel)
      · exact absurd c41 (by decide +kernel)
    · exact absurd c28 (by decide +kernel)
  · exact absurd rfl h13
  · refine fz_iload (pc := 27) ok dX1_carryOut_27 rfl ?_
    refine fz_if_ne (pc := 28) (tgt := 39) ok dX1_carryOut_28 (by decide) (fun c28 => ?_) (fun c28 => ?_)
    · refine fz_iload (pc := 39) ok dX1_carryOut_39 rfl ?_
      refine fz_iconst (pc := 40) (v := 1) ok dX1_carryOut_40 (by decide) ?_
      refine fz_icmp_ne (pc := 41) (tgt := 68) ok dX1_carryOut_41 (by decide) (fun c41 => ?_) (fun c41 => ?_)
      · refine fz_iload (pc := 68) ok dX1_carryOut_68 rfl ?_
        refine fz_iconst (pc := 69) (v := 2) ok dX1_carryOut_69 (by decide) ?_
        refine fz_icmp_ne (pc := 70) (tgt := 89) ok dX1_carryOut_70 (by decide) (fun c70 => ?_) (fun c70 => ?_)
        · refine fz_iload (pc := 89) ok dX1_carryOut_89 rfl ?_
          refine fz_bipush (pc := 90) (v := 7) ok dX1_carryOut_90 (by decide) ?_
          refine fz_icmp_gt (pc := 92) (tgt := 103) ok dX1_carryOut_92 (by decide) (fun c92 => ?_) (fun c92 => ?_)
          · refine fz_iload (pc := 103) ok dX1_carryOut_103 rfl ?_
            refine fz_bipush (pc := 104) (v := 8) ok dX1_carryOut_104 (by decide) ?_
            refine fz_icmp_ne (pc := 106) (tgt := 114) ok dX1_carryOut_106 (by decide) (fun c106 => ?_) (fun c106 => ?_)
            · refine fz_iload (pc := 114) ok dX1_carryOut_114 rfl ?_
              refine fz_bipush (pc := 115) (v := 9) ok dX1_carryOut_115 (by decide) ?_
              refine fz_icmp_ne (pc := 117) (tgt := 136) ok dX1_carryOut_117 (by decide) (fun c117 => ?_) (fun c117 => ?_)
              · refine fz_iload (pc := 136) ok dX1_carryOut_136 rfl ?_
                refine fz_bipush (pc := 137) (v := 10) ok dX1_carryOut_137 (by decide) ?_
                refine fz_icmp_ne (pc := 139) (tgt := 158) ok dX1_carryOut_139 (by decide) (fun c139 => ?_) (fun c139 => ?_)
                · refine fz_iload (pc := 158) ok dX1_carryOut_158 rfl ?_
                  refine fz_bipush (pc := 159) (v := 11) ok dX1_carryOut_159 (by decide) ?_
                  refine fz_icmp_ne (pc := 161) (tgt := 179) ok dX1_carryOut_161 (by decide) (fun c161 => ?_) (fun c161 => ?_)
                  · refine fz_iload (pc := 179) ok dX1_carryOut_179 rfl ?_
                    refine fz_bipush (pc := 180) (v := 12) ok dX1_carryOut_180 (by decide) ?_
                    refine fz_icmp_ne (pc := 182) (tgt := 197) ok dX1_carryOut_182 (by decide) (fun c182 => ?_) (fun c182 => ?_)
                    · refine fz_aload (pc := 197) ok dX1_carryOut_197 rfl ?_
                      refine fz_iload (pc := 198) ok dX1_carryOut_198 rfl ?_
                      refine p1_at (pc := 199) ok dX1_carryOut_199 (_) (rfl) ?_
                      exact hret () _ _ dX1_carryOut_202 trivial
                    · exact absurd c182 (by decide +kernel)
                  · exact absurd c161 (by decide +kernel)
                · exact absurd c139 (by decide +kernel)
              · exact absurd c117 (by decide +kernel)
            · exact absurd c106 (by decide +kernel)
          · exact absurd (by decide +kernel) c92
        · exact absurd c70 (by decide +kernel)
      · exact absurd c41 (by decide +kernel)
    · exact absurd c28 (by decide +kernel)
/-- carryOut(): one step -/
theorem m1_carryOut (q : fz_Q) (o : fz_O) {sz st fu : Int32} {op cn ht : Nat → Int32} {mm : Ms} (hp : PreM op mm) (h13 : oOf op mm ≠ 13) : fz_Mv q yX1_carryOut cX1_carryOut 5 2 [.ref o.1] (wm q o sz st fu mm.1 (nI mm.2.1) op cn mm.2.2.2 ht mm.2.2.1) (fun _ : Unit => True) (fun _ => (wm q o sz st fu ((sp op cn mm).1) (nI (sp op cn mm).2.1) op cn ((sp op cn mm).2.2.2) ht ((sp op cn mm).2.2.1))) := by
  obtain ⟨a, c, ea, ha, eo, hc, hu, h8, hb⟩ := hp
  have e1 : aOf mm = a := aOf_nI ea (by omega)
  have e2 : oOf op mm = c := oOf_nI ea (by omega) eo (by omega)
  rw [e2] at h13
  unfold sp
  rw [e2, e1, ea]
  exact m1_carryOut0 q o ha eo hc h13 hu h8 hb
/-- goOn() -/
theorem m1_goOn (q : fz_Q) (o : fz_O) {sz st : Int32} {op cn ht : Nat → Int32} {n f0 N : Nat} (hN : N = 2001) {hh : Nat → Int32} {mm : Ms} (hsz : sz = nI n) (hn : n ≤ 24) (hop : OpOK n op) (hc : Cl n op cn hh) (h1 : Ok1 n hh mm) (hf : f0 ≤ 2000) : fz_Mi q yX1_goOn cX1_goOn 2 3 .int [.ref o.1] (wm q o sz st (nI f0) mm.1 (nI mm.2.1) op cn mm.2.2.2 ht mm.2.2.1) (fun (r : Int32) (_ : Unit) => r = fst2 (itN (mu op cn) N (false, f0, mm)).1) (fun _ => (wm q o sz (fst2 (itN (mu op cn) N (false, f0, mm)).1) (nI (itN (mu op cn) N (false, f0, mm)).2.1) ((itN (mu op cn) N (false, f0, mm)).2.2.1) (nI (itN (mu op cn) N (false, f0, mm)).2.2.2.1) op cn ((itN (mu op cn) N (false, f0, mm)).2.2.2.2.2) ht ((itN (mu op cn) N (false, f0, mm)).2.2.2.2.1))) := by
  refine fz_ofi (own := RX1) (by decide) rfl rfl (Nat.le_of_ble_eq_true rfl) ?_
  intro x ok hret
  have loop : ∀ (r i : Nat) (cf : Cf), i + r = N → Ok1 n hh cf.2.2 → cf.2.1 ≤ 2000 → itN (mu op cn) r cf = itN (mu op cn) N (false, f0, mm) → fz_A q x (wm q o sz (fst2 cf.1) (nI cf.2.1) cf.2.2.1 (nI cf.2.2.2.1) op cn cf.2.2.2.2.2 ht cf.2.2.2.2.1) 7 [.ref o.1, .int (nI i)] [] := by
    intro r
    induction r with
    | zero =>
      intro i cf hi g1 hf hfin
      have ei : i = 2001 := by omega
      have hfin : cf = itN (mu op cn) N (false, f0, mm) := hfin
      subst hfin
      refine fz_iload (pc := 7) ok dX1_goOn_7 rfl ?_
      refine fz_sipush (pc := 8) (v := 2000) ok dX1_goOn_8 (by decide) ?_
      refine fz_icmp_gt (pc := 11) (tgt := 104) ok dX1_goOn_11 (by decide) (fun c11 => ?_) (fun c11 => ?_)
      · refine fz_aload (pc := 104) ok dX1_goOn_104 rfl ?_
        refine g1_state (pc := 105) ok dX1_goOn_105 ?_
        exact hret () _ _ _ dX1_goOn_108 rfl rfl
      · exact absurd (by rw [ei]; decide +kernel) c11
    | succ r ih =>
      intro i cf hi g1 hf hfin
      obtain ⟨b, f, m⟩ := cf
      have hfin : itN (mu op cn) r (mu op cn (b, f, m)) = itN (mu op cn) N (false, f0, mm) := hfin
      obtain ⟨p, em, hp, -, -⟩ := id g1
      have em : m.1 = nI p := em
      have ea : aOf m = p := aOf_nI em (by omega)
      have hf : f ≤ 2000 := hf
      obtain ⟨c, ho, eo⟩ := hop p hp
      have hcl := cst_le op cn p
      cases b with
      | true =>
        rw [mu_stop rfl] at hfin
        refine fz_iload (pc := 7) ok dX1_goOn_7 rfl ?_
        refine fz_sipush (pc := 8) (v := 2000) ok dX1_goOn_8 (by decide) ?_
        refine fz_icmp_gt (pc := 11) (tgt := 104) ok dX1_goOn_11 (by decide) (fun c11 => ?_) (fun c11 => ?_)
        · exact absurd ((nI_ltI (a := 2000) (by decide) (by omega)).mp c11) (by omega)
        · refine fz_aload (pc := 14) ok dX1_goOn_14 rfl ?_
          refine g1_state (pc := 15) ok dX1_goOn_15 ?_
          refine fz_iconst (pc := 18) (v := 2) ok dX1_goOn_18 (by decide) ?_
          refine fz_icmp_ne (pc := 19) (tgt := 98) ok dX1_goOn_19 (by decide) (fun c19 => ?_) (fun c19 => ?_)
          · refine fz_iinc (pc := 98) (v := nI (i + 1)) (lc' := [_, _]) ok dX1_goOn_98 (by decide) rfl (fz_a1 i) rfl ?_
            refine fz_goto (pc := 101) (tgt := 7) ok dX1_goOn_101 (by decide) ?_
            exact ih (i + 1) (true, f, m) (by omega) g1 hf hfin
          · exact absurd (show (1 : Int32) = 2 from c19) (by decide +kernel)
      | false =>
        refine fz_iload (pc := 7) ok dX1_goOn_7 rfl ?_
        refine fz_sipush (pc := 8) (v := 2000) ok dX1_goOn_8 (by decide) ?_
        refine fz_icmp_gt (pc := 11) (tgt := 104) ok dX1_goOn_11 (by decide) (fun c11 => ?_) (fun c11 => ?_)
        · exact absurd ((nI_ltI (a := 2000) (by decide) (by omega)).mp c11) (by omega)
        · refine fz_aload (pc := 14) ok dX1_goOn_14 rfl ?_
          refine g1_state (pc := 15) ok dX1_goOn_15 ?_
          refine fz_iconst (pc := 18) (v := 2) ok dX1_goOn_18 (by decide) ?_
          refine fz_icmp_ne (pc := 19) (tgt := 98) ok dX1_goOn_19 (by decide) (fun c19 => ?_) (fun c19 => ?_)
          · exact absurd rfl c19
          · refine fz_aload (pc := 22) ok dX1_goOn_22 rfl ?_
            refine g1_at (pc := 23) ok dX1_goOn_23 ?_
            refine fz_if_lt (pc := 26) (tgt := 98) ok dX1_goOn_26 (by decide) (fun c26 => ?_) (fun c26 => ?_)
            · exact absurd (show nI p < 0 by rw [em] at c26; exact c26) (fz_nneg (by omega))
            · refine fz_aload (pc := 29) ok dX1_goOn_29 rfl ?_
              refine g1_at (pc := 30) ok dX1_goOn_30 ?_
              refine fz_aload (pc := 33) ok dX1_goOn_33 rfl ?_
              refine g1_size (pc := 34) ok dX1_goOn_34 ?_
              refine fz_icmp_ge (pc := 37) (tgt := 98) ok dX1_goOn_37 (by decide) (fun c37 => ?_) (fun c37 => ?_)
              · exact absurd ((nI_leI (a := n) (b := p) (by omega) (by omega)).mp (by rw [hsz, em] at c37; exact c37)) (by omega)
              · refine fz_aload (pc := 40) ok dX1_goOn_40 rfl ?_
                refine g1_fuel (pc := 41) ok dX1_goOn_41 ?_
                refine fz_aload (pc := 44) ok dX1_goOn_44 rfl ?_
                refine fz_aload (pc := 45) ok dX1_goOn_45 rfl ?_
                refine g1_at (pc := 46) ok dX1_goOn_46 ?_
                refine fz_top (em) ?_
                refine k1_cost (pc := 49) ok (m1_cost q o (p := p) (c := c) (by omega) eo ho) rfl (by decide) (Nat.le_of_ble_eq_true rfl) dX1_goOn_49 (fun r u hu => ?_)
                subst hu
                refine fz_icmp_lt (pc := 52) (tgt := 98) ok dX1_goOn_52 (by decide) (fun c52 => ?_) (fun c52 => ?_)
                · have hlt : f < cst op cn p := (nI_ltI (by omega) (by omega)).mp c52
                  rw [mu_no (c := (false, f, m)) (show ¬ cst op cn (aOf m) ≤ f by rw [ea]; omega)] at hfin
                  refine fz_iinc (pc := 98) (v := nI (i + 1)) (lc' := [_, _]) ok dX1_goOn_98 (by decide) rfl (fz_a1 i) rfl ?_
                  refine fz_goto (pc := 101) (tgt := 7) ok dX1_goOn_101 (by decide) ?_
                  exact ih (i + 1) (false, f, m) (by omega) g1 hf hfin
                · have hge : cst op cn p ≤ f := Nat.not_lt.mp (fun z => c52 ((nI_ltI (by omega) (by omega)).mpr z))
                  rw [mu_yes (by rw [ea]; exact hge), ea] at hfin
                  refine fz_aload (pc := 55) ok dX1_goOn_55 rfl ?_
                  refine fz_aload (pc := 56) ok dX1_goOn_56 rfl ?_
                  refine g1_fuel (pc := 57) ok dX1_goOn_57 ?_
                  refine fz_aload (pc := 60) ok dX1_goOn_60 rfl ?_
                  refine fz_aload (pc := 61) ok dX1_goOn_61 rfl ?_
                  refine g1_at (pc := 62) ok dX1_goOn_62 ?_
                  refine fz_top (em) ?_
                  refine k1_cost (pc := 65) ok (m1_cost q o (p := p) (c := c) (by omega) eo ho) rfl (by decide) (Nat.le_of_ble_eq_true rfl) dX1_goOn_65 (fun r u hu => ?_)
                  subst hu
                  refine fz_isub (pc := 68) ok dX1_goOn_68 ?_
                  refine p1_fuel (pc := 69) ok dX1_goOn_69 (nI (f - cst op cn p)) (pk_sub hge) ?_
                  refine fz_aload (pc := 72) ok dX1_goOn_72 rfl ?_
                  refine g1_ops (pc := 73) ok dX1_goOn_73 ?_
                  refine fz_aload (pc := 76) ok dX1_goOn_76 rfl ?_
                  refine g1_at (pc := 77) ok dX1_goOn_77 ?_
                  refine l1_ops (pc := 80) ok dX1_goOn_80 (p) (em) (by omega) ?_
                  refine fz_bipush (pc := 81) (v := 13) ok dX1_goOn_81 (by decide) ?_
                  refine fz_icmp_ne (pc := 83) (tgt := 94) ok dX1_goOn_83 (by decide) (fun c83 => ?_) (fun c83 => ?_)
                  · have h13 : oOf op m ≠ 13 := fun z => by
                      have z2 : (op p).toNatClampNeg = 13 := by rw [← ea]; exact z
                      rw [eo, nI_clamp (by omega)] at z2
                      exact c83 (by rw [eo, z2]; rfl)
                    rw [show decide (oOf op m = 13) = false by simp [h13]] at hfin
                    refine fz_aload (pc := 94) ok dX1_goOn_94 rfl ?_
                    refine k1_carryOut (pc := 95) ok (m1_carryOut q o (ok1_pre hn hop hc g1) h13) rfl (by decide) (Nat.le_of_ble_eq_true rfl) dX1_goOn_95 (fun u hu => ?_)
                    refine fz_iinc (pc := 98) (v := nI (i + 1)) (lc' := [_, _]) ok dX1_goOn_98 (by decide) rfl (fz_a1 i) rfl ?_
                    refine fz_goto (pc := 101) (tgt := 7) ok dX1_goOn_101 (by decide) ?_
                    exact ih (i + 1) (false, f - cst op cn p, sp op cn m) (by omega) (ok1_step hn hop hc g1) (by show f - _ ≤ 2000; omega) hfin
                  · have h13 : oOf op m = 13 := by
                      unfold oOf; rw [ea, c83]; rfl
                    rw [show decide (oOf op m = 13) = true by simp [h13], sp13 h13 (by rw [ea]; exact em)] at hfin
                    refine fz_aload (pc := 86) ok dX1_goOn_86 rfl ?_
                    refine fz_iconst (pc := 87) (v := 1) ok dX1_goOn_87 (by decide) ?_
                    refine p1_state (pc := 88) ok dX1_goOn_88 (_) (rfl) ?_
                    refine fz_goto (pc := 91) (tgt := 98) ok dX1_goOn_91 (by decide) ?_
                    refine fz_iinc (pc := 98) (v := nI (i + 1)) (lc' := [_, _]) ok dX1_goOn_98 (by decide) rfl (fz_a1 i) rfl ?_
                    refine fz_goto (pc := 101) (tgt := 7) ok dX1_goOn_101 (by decide) ?_
                    exact ih (i + 1) (true, f - cst op cn p, m) (by omega) g1 (by show f - _ ≤ 2000; omega) hfin
  refine fz_aload (pc := 0) ok dX1_goOn_0 rfl ?_
  refine fz_iconst (pc := 1) (v := 2) ok dX1_goOn_1 (by decide) ?_
  refine p1_state (pc := 2) ok dX1_goOn_2 (_) (rfl) ?_
  refine fz_iconst (pc := 5) (v := 0) ok dX1_goOn_5 (by decide) ?_
  refine fz_top (nI_0.symm) ?_
  refine fz_istore (pc := 6) (lc' := [_, _]) ok dX1_goOn_6 (by decide) (Nat.le_of_ble_eq_true rfl) rfl ?_
  exact loop N 0 (false, f0, mm) (Nat.zero_add N) h1 hf rfl
end
section
set_option maxRecDepth 100000
/-! FuelGateModel: the check by sweeps, run, refuel -/
/-- come(p, h) -/
theorem m1_come (q : fz_Q) (o : fz_O) {sz st fu pt hg : Int32} {op cn ce ht sk : Nat → Int32} {n : Nat} (hsz : sz = nI n) (hn : n ≤ 24) (v1 v2 : Int32) : fz_Mi q yX1_come cX1_come 3 0 .boolean [.ref o.1, .int v1, .int v2] (wm q o sz st fu pt hg op cn ce ht sk) (fun (r : Int32) (u : Nat → Int32) => ((¬ ∃ j : Nat, j < n ∧ v1 = nI j) ∧ r = 0 ∧ u = ht) ∨ ∃ j : Nat, j < n ∧ v1 = nI j ∧ ((¬ ht j < 0 ∧ ht j ≠ v2 ∧ r = 0 ∧ u = ht) ∨ ((ht j < 0 ∨ ht j = v2) ∧ r = 1 ∧ u = upd ht j v2))) (fun u => (wm q o sz st fu pt hg op cn ce u sk)) := by
  refine fz_ofi (own := RX1) (by decide) rfl rfl (Nat.le_of_ble_eq_true rfl) ?_
  intro x ok hret
  refine fz_iload (pc := 0) ok dX1_come_0 rfl ?_
  refine fz_if_lt (pc := 1) (tgt := 12) ok dX1_come_1 (by decide) (fun c1 => ?_) (fun c1 => ?_)
  · refine fz_iconst (pc := 12) (v := 0) ok dX1_come_12 (by decide) ?_
    exact hret ht _ _ _ dX1_come_13 rfl (Or.inl ⟨fz_out (by omega) (Or.inl c1), rfl, rfl⟩)
  · refine fz_iload (pc := 4) ok dX1_come_4 rfl ?_
    refine fz_aload (pc := 5) ok dX1_come_5 rfl ?_
    refine g1_size (pc := 6) ok dX1_come_6 ?_
    refine fz_icmp_lt (pc := 9) (tgt := 14) ok dX1_come_9 (by decide) (fun c9 => ?_) (fun c9 => ?_)
    · obtain ⟨j, hj, rfl⟩ : ∃ j : Nat, j < n ∧ v1 = nI j := by
        rcases fz_ix v1 (n := n) (by omega) with g | g | g
        · exact absurd g c1
        · exact absurd (by rw [hsz] at c9; exact c9) (fz_le_nlt g)
        · exact g
      refine fz_aload (pc := 14) ok dX1_come_14 rfl ?_
      refine g1_heights (pc := 15) ok dX1_come_15 ?_
      refine fz_iload (pc := 18) ok dX1_come_18 rfl ?_
      refine l1_heights (pc := 19) ok dX1_come_19 (j) (rfl) (by omega) ?_
      refine fz_if_lt (pc := 20) (tgt := 35) ok dX1_come_20 (by decide) (fun c20 => ?_) (fun c20 => ?_)
      · refine fz_aload (pc := 35) ok dX1_come_35 rfl ?_
        refine g1_heights (pc := 36) ok dX1_come_36 ?_
        refine fz_iload (pc := 39) ok dX1_come_39 rfl ?_
        refine fz_iload (pc := 40) ok dX1_come_40 rfl ?_
        refine s1_heights (pc := 41) ok dX1_come_41 (j) (rfl) (by omega) ?_
        refine fz_iconst (pc := 42) (v := 1) ok dX1_come_42 (by decide) ?_
        exact hret (upd ht j v2) _ _ _ dX1_come_43 rfl (Or.inr ⟨j, hj, rfl, Or.inr ⟨Or.inl c20, rfl, rfl⟩⟩)
      · refine fz_aload (pc := 23) ok dX1_come_23 rfl ?_
        refine g1_heights (pc := 24) ok dX1_come_24 ?_
        refine fz_iload (pc := 27) ok dX1_come_27 rfl ?_
        refine l1_heights (pc := 28) ok dX1_come_28 (j) (rfl) (by omega) ?_
        refine fz_iload (pc := 29) ok dX1_come_29 rfl ?_
        refine fz_icmp_eq (pc := 30) (tgt := 35) ok dX1_come_30 (by decide) (fun c30 => ?_) (fun c30 => ?_)
        · refine fz_aload (pc := 35) ok dX1_come_35 rfl ?_
          refine g1_heights (pc := 36) ok dX1_come_36 ?_
          refine fz_iload (pc := 39) ok dX1_come_39 rfl ?_
          refine fz_iload (pc := 40) ok dX1_come_40 rfl ?_
          refine s1_heights (pc := 41) ok dX1_come_41 (j) (rfl) (by omega) ?_
          refine fz_iconst (pc := 42) (v := 1) ok dX1_come_42 (by decide) ?_
          exact hret (upd ht j v2) _ _ _ dX1_come_43 rfl (Or.inr ⟨j, hj, rfl, Or.inr ⟨Or.inr c30, rfl, rfl⟩⟩)
        · refine fz_iconst (pc := 33) (v := 0) ok dX1_come_33 (by decide) ?_
          exact hret ht _ _ _ dX1_come_34 rfl (Or.inr ⟨j, hj, rfl, Or.inl ⟨c20, c30, rfl, rfl⟩⟩)
    · refine fz_iconst (pc := 12) (v := 0) ok dX1_come_12 (by decide) ?_
      exact hret ht _ _ _ dX1_come_13 rfl (Or.inl ⟨fz_out (by omega) (Or.inr (fz_nlt_le (by rw [hsz] at c9; exact c9))), rfl, rfl⟩)
theorem come1_ok {n : Nat} {op cn ht : Nat → Int32} {v1 v2 r : Int32} {h : Nat} {u : Nat → Int32} (hn : n ≤ 24) (hh : h ≤ 8) (hv2 : v2 = nI h) (hr : Rg n ht) (hm : Mn n op cn ht) (hF : ∀ h' : Nat → Int32, Cl n op cn h' → ∃ t : Nat, t < n ∧ v1 = nI t ∧ h' t = nI h) (hu : ((¬ ∃ j : Nat, j < n ∧ v1 = nI j) ∧ r = 0 ∧ u = ht) ∨ ∃ j : Nat, j < n ∧ v1 = nI j ∧ ((¬ ht j < 0 ∧ ht j ≠ v2 ∧ r = 0 ∧ u = ht) ∨ ((ht j < 0 ∨ ht j = v2) ∧ r = 1 ∧ u = upd ht j v2))) :
    Rg n u ∧ Mn n op cn u ∧ Ex ht u ∧ ((r = 1 ∧ ∃ t : Nat, t < n ∧ v1 = nI t ∧ u t = nI h) ∨ (r = 0 ∧ ∀ h' : Nat → Int32, ¬ Cl n op cn h')) := by
  subst hv2
  rcases hu with ⟨hno, rfl, rfl⟩ | ⟨j, hj, ej, hu⟩
  · exact ⟨hr, hm, Ex_refl _, Or.inr ⟨rfl, fun h' hc => by
      obtain ⟨t, ht', et, -⟩ := hF h' hc
      exact hno ⟨t, ht', et⟩⟩⟩
  · have hF' : ∀ h' : Nat → Int32, Cl n op cn h' → h' j = nI h := fun h' hc => by
      obtain ⟨t, ht', et, e2⟩ := hF h' hc
      have : t = j := fz_inj (by omega) (by omega) (et.symm.trans ej)
      rw [← this]; exact e2
    rcases hu with ⟨hnn, hne, rfl, rfl⟩ | ⟨hor, rfl, rfl⟩
    · exact ⟨hr, hm, Ex_refl _, Or.inr ⟨rfl, fun h' hc => hne (by rw [← hm h' hc j hj hnn]; exact hF' h' hc)⟩⟩
    · exact ⟨Rg_upd hr hj hh, Mn_upd hm hF', Ex_upd hor, Or.inl ⟨rfl, j, hj, ej, pk_us⟩⟩
/-- check(p) -/
theorem m1_check (q : fz_Q) (o : fz_O) {sz st fu pt hg : Int32} {op cn ce ht sk : Nat → Int32} {n p h c : Nat} (hsz : sz = nI n) (hn : n ≤ 24) (hp : p < n) (eo : op p = nI c) (ho : c < 15) (eh : ht p = nI h) (hh : h ≤ 8) (hr : Rg n ht) (hm : Mn n op cn ht) : fz_Mi q yX1_check cX1_check 4 1 .boolean [.ref o.1, .int (nI p)] (wm q o sz st fu pt hg op cn ce ht sk) (fun (r : Int32) (u : Nat → Int32) => Rg n u ∧ Mn n op cn u ∧ Ex ht u ∧ ((r = 1 ∧ CO n op cn u p h) ∨ (r = 0 ∧ ∀ h' : Nat → Int32, ¬ Cl n op cn h'))) (fun u => (wm q o sz st fu pt hg op cn ce u sk)) := by
  refine fz_ofi (own := RX1) (by decide) rfl rfl (Nat.le_of_ble_eq_true rfl) ?_
  intro x ok hret
  have f70 : usN c ≤ h → stD c h ≤ 8 → ∀ ht2 : Nat → Int32, Rg n ht2 → Mn n op cn ht2 → Ex ht ht2 → (8 ≤ c → c ≤ 10 → ∃ t : Nat, t < n ∧ cn p = nI t ∧ ht2 t = nI (stD c h)) → fz_A q x (wm q o sz st fu pt hg op cn ce ht2 sk) 70 [.ref o.1, .int (nI p), .int (nI c), .int (nI (stD c h))] [] := by
    intro hus hst ht2 f1 f2 f3 f4
    refine fz_iload (pc := 70) ok dX1_check_70 rfl ?_
    refine fz_bipush (pc := 71) (v := 8) ok dX1_check_71 (by decide) ?_
    refine fz_icmp_eq (pc := 73) (tgt := 93) ok dX1_check_73 (by decide) (fun c73 => ?_) (fun c73 => ?_)
    · refine fz_iconst (pc := 93) (v := 1) ok dX1_check_93 (by decide) ?_
      refine fz_goto (pc := 94) (tgt := 98) ok dX1_check_94 (by decide) ?_
      exact hret ht2 _ _ _ dX1_check_98 rfl ⟨f1, f2, f3, Or.inl ⟨rfl, CO_of ho eo hus hst f4 (fun z => absurd (fz_inj (by omega) (by decide) c73) z)⟩⟩
    · have h8 : c ≠ 8 := fun z => c73 (by rw [z]; rfl)
      refine fz_iload (pc := 76) ok dX1_check_76 rfl ?_
      refine fz_bipush (pc := 77) (v := 13) ok dX1_check_77 (by decide) ?_
      refine fz_icmp_eq (pc := 79) (tgt := 93) ok dX1_check_79 (by decide) (fun c79 => ?_) (fun c79 => ?_)
      · refine fz_iconst (pc := 93) (v := 1) ok dX1_check_93 (by decide) ?_
        refine fz_goto (pc := 94) (tgt := 98) ok dX1_check_94 (by decide) ?_
        exact hret ht2 _ _ _ dX1_check_98 rfl ⟨f1, f2, f3, Or.inl ⟨rfl, CO_of ho eo hus hst f4 (fun _ z => absurd (fz_inj (by omega) (by decide) c79) z)⟩⟩
      · have h13 : c ≠ 13 := fun z => c79 (by rw [z]; rfl)
        have hF : ∀ h' : Nat → Int32, Cl n op cn h' → ∃ t : Nat, t < n ∧ nI (p + 1) = nI t ∧ h' t = nI (stD c h) := fun h' hc => by
          obtain ⟨z1, z2⟩ := (Cl_jump hm hc hp hh eh ho eo).2.2.2 h8 h13
          exact ⟨p + 1, z1, rfl, z2⟩
        refine fz_aload (pc := 82) ok dX1_check_82 rfl ?_
        refine fz_iload (pc := 83) ok dX1_check_83 rfl ?_
        refine fz_iconst (pc := 84) (v := 1) ok dX1_check_84 (by decide) ?_
        refine fz_iadd (pc := 85) ok dX1_check_85 ?_
        refine fz_top (fz_a1 p) ?_
        refine fz_iload (pc := 86) ok dX1_check_86 rfl ?_
        refine k1_come (pc := 87) ok (m1_come q o hsz hn (nI (p + 1)) (nI (stD c h))) rfl (by decide) (Nat.le_of_ble_eq_true rfl) dX1_check_87 (fun r u hu => ?_)
        obtain ⟨g1, g2, g3, g4⟩ := come1_ok hn hst rfl f1 f2 hF hu
        refine fz_if_eq (pc := 90) (tgt := 97) ok dX1_check_90 (by decide) (fun c90 => ?_) (fun c90 => ?_)
        · refine fz_iconst (pc := 97) (v := 0) ok dX1_check_97 (by decide) ?_
          exact hret u _ _ _ dX1_check_98 rfl ⟨g1, g2, Ex_trans f3 g3, Or.inr ⟨rfl, by rcases g4 with a | a; exact absurd (a.1.symm.trans c90) (by decide +kernel); exact a.2⟩⟩
        · obtain ⟨t, b2, b3, b4⟩ : ∃ t : Nat, t < n ∧ nI (p + 1) = nI t ∧ u t = nI (stD c h) := by
            rcases g4 with a | a
            · exact a.2
            · exact absurd a.1 c90
          have et : t = p + 1 := fz_inj (by omega) (by omega) b3.symm
          subst et
          have f5 : 8 ≤ c → c ≤ 10 → ∃ t : Nat, t < n ∧ cn p = nI t ∧ u t = nI (stD c h) := fun y z => by
            obtain ⟨t2, d1, d2, d3⟩ := f4 y z
            exact ⟨t2, d1, d2, by rw [g3 t2 (by omega) (by rw [d3]; exact fz_nneg (by omega))]; exact d3⟩
          refine fz_iconst (pc := 93) (v := 1) ok dX1_check_93 (by decide) ?_
          refine fz_goto (pc := 94) (tgt := 98) ok dX1_check_94 (by decide) ?_
          exact hret u _ _ _ dX1_check_98 rfl ⟨g1, g2, Ex_trans f3 g3, Or.inl ⟨rfl, CO_of ho eo hus hst f5 (fun _ _ => ⟨b2, b4⟩)⟩⟩
  refine fz_aload (pc := 0) ok dX1_check_0 rfl ?_
  refine g1_ops (pc := 1) ok dX1_check_1 ?_
  refine fz_iload (pc := 4) ok dX1_check_4 rfl ?_
  refine l1_ops (pc := 5) ok dX1_check_5 (p) (rfl) (by omega) ?_
  refine fz_top (eo) ?_
  refine fz_istore (pc := 6) (lc' := [_, _, _]) ok dX1_check_6 (by decide) (Nat.le_of_ble_eq_true rfl) rfl ?_
  refine fz_aload (pc := 7) ok dX1_check_7 rfl ?_
  refine g1_heights (pc := 8) ok dX1_check_8 ?_
  refine fz_iload (pc := 11) ok dX1_check_11 rfl ?_
  refine l1_heights (pc := 12) ok dX1_check_12 (p) (rfl) (by omega) ?_
  refine fz_top (eh) ?_
  refine fz_aload (pc := 13) ok dX1_check_13 rfl ?_
  refine fz_iload (pc := 14) ok dX1_check_14 rfl ?_
  refine k1_change (pc := 15) ok (m1_change q o ho) rfl (by decide) (Nat.le_of_ble_eq_true rfl) dX1_check_15 (fun r u hu => ?_)
  subst hu
  refine fz_iadd (pc := 18) ok dX1_check_18 ?_
  refine fz_istore (pc := 19) (lc' := [_, _, _, _]) ok dX1_check_19 (by decide) (Nat.le_of_ble_eq_true rfl) rfl ?_
  refine fz_aload (pc := 20) ok dX1_check_20 rfl ?_
  refine g1_heights (pc := 21) ok dX1_check_21 ?_
  refine fz_iload (pc := 24) ok dX1_check_24 rfl ?_
  refine l1_heights (pc := 25) ok dX1_check_25 (p) (rfl) (by omega) ?_
  refine fz_top (eh) ?_
  refine fz_aload (pc := 26) ok dX1_check_26 rfl ?_
  refine fz_iload (pc := 27) ok dX1_check_27 rfl ?_
  refine k1_needs (pc := 28) ok (m1_needs q o ho) rfl (by decide) (Nat.le_of_ble_eq_true rfl) dX1_check_28 (fun r u hu => ?_)
  subst hu
  refine fz_icmp_lt (pc := 31) (tgt := 40) ok dX1_check_31 (by decide) (fun c31 => ?_) (fun c31 => ?_)
  · have hlt : h < usN c := (nI_ltI (by omega) (by have := usN_le c; omega)).mp c31
    refine fz_iconst (pc := 40) (v := 0) ok dX1_check_40 (by decide) ?_
    exact hret ht _ _ _ dX1_check_41 rfl ⟨hr, hm, Ex_refl ht, Or.inr ⟨rfl, fun h' hc => absurd (Cl_jump hm hc hp hh eh ho eo).1 (by omega)⟩⟩
  · have hus : usN c ≤ h := Nat.not_lt.mp (fun z => c31 ((nI_ltI (by omega) (by have := usN_le c; omega)).mpr z))
    rw [fz_behind ho hus]
    have h9 : stD c h ≤ 9 := stD_le hh
    refine fz_iload (pc := 34) ok dX1_check_34 rfl ?_
    refine fz_bipush (pc := 35) (v := 8) ok dX1_check_35 (by decide) ?_
    refine fz_icmp_le (pc := 37) (tgt := 42) ok dX1_check_37 (by decide) (fun c37 => ?_) (fun c37 => ?_)
    · have hst : stD c h ≤ 8 := (nI_leI (b := 8) (by omega) (by decide)).mp c37
      refine fz_iload (pc := 42) ok dX1_check_42 rfl ?_
      refine fz_bipush (pc := 43) (v := 8) ok dX1_check_43 (by decide) ?_
      refine fz_icmp_lt (pc := 45) (tgt := 70) ok dX1_check_45 (by decide) (fun c45 => ?_) (fun c45 => ?_)
      · exact f70 hus hst ht hr hm (Ex_refl ht) (fun y _ => absurd ((nI_ltI (b := 8) (by omega) (by decide)).mp c45) (by omega))
      · have j8 : 8 ≤ c := Nat.not_lt.mp (fun z => c45 ((nI_ltI (b := 8) (by omega) (by decide)).mpr z))
        refine fz_iload (pc := 48) ok dX1_check_48 rfl ?_
        refine fz_bipush (pc := 49) (v := 10) ok dX1_check_49 (by decide) ?_
        refine fz_icmp_gt (pc := 51) (tgt := 70) ok dX1_check_51 (by decide) (fun c51 => ?_) (fun c51 => ?_)
        · exact f70 hus hst ht hr hm (Ex_refl ht) (fun _ y => absurd ((nI_ltI (a := 10) (by decide) (by omega)).mp c51) (by omega))
        · have j10 : c ≤ 10 := Nat.not_lt.mp (fun z => c51 ((nI_ltI (a := 10) (by decide) (by omega)).mpr z))
          have hF : ∀ h' : Nat → Int32, Cl n op cn h' → ∃ t : Nat, t < n ∧ cn p = nI t ∧ h' t = nI (stD c h) := fun h' hc => (Cl_jump hm hc hp hh eh ho eo).2.2.1 j8 j10
          refine fz_aload (pc := 54) ok dX1_check_54 rfl ?_
          refine fz_aload (pc := 55) ok dX1_check_55 rfl ?_
          refine g1_cs (pc := 56) ok dX1_check_56 ?_
          refine fz_iload (pc := 59) ok dX1_check_59 rfl ?_
          refine l1_cs (pc := 60) ok dX1_check_60 (p) (rfl) (by omega) ?_
          refine fz_iload (pc := 61) ok dX1_check_61 rfl ?_
          refine k1_come (pc := 62) ok (m1_come q o hsz hn (cn p) (nI (stD c h))) rfl (by decide) (Nat.le_of_ble_eq_true rfl) dX1_check_62 (fun r u hu => ?_)
          obtain ⟨g1, g2, g3, g4⟩ := come1_ok hn hst rfl hr hm hF hu
          refine fz_if_ne (pc := 65) (tgt := 70) ok dX1_check_65 (by decide) (fun c65 => ?_) (fun c65 => ?_)
          · refine f70 hus hst u g1 g2 g3 (fun _ _ => ?_)
            rcases g4 with a | a
            · exact a.2
            · exact absurd a.1 c65
          · refine fz_iconst (pc := 68) (v := 0) ok dX1_check_68 (by decide) ?_
            exact hret u _ _ _ dX1_check_69 rfl ⟨g1, g2, g3, Or.inr ⟨rfl, by rcases g4 with a | a; exact absurd (a.1.symm.trans c65) (by decide +kernel); exact a.2⟩⟩
    · refine fz_iconst (pc := 40) (v := 0) ok dX1_check_40 (by decide) ?_
      exact hret ht _ _ _ dX1_check_41 rfl ⟨hr, hm, Ex_refl ht, Or.inr ⟨rfl, fun h' hc => c37 ((nI_leI (b := 8) (by omega) (by decide)).mpr (Cl_jump hm hc hp hh eh ho eo).2.1)⟩⟩
def SPx (n : Nat) (op cn : Nat → Int32) (g : Int32) (ht : Nat → Int32) : Prop := (g = 1 ∧ Cl n op cn ht ∧ Mn n op cn ht ∧ Rg n ht) ∨ (g = 0 ∧ ∀ h' : Nat → Int32, ¬ Cl n op cn h')
theorem SPx_z {n : Nat} {op cn ht : Nat → Int32} {g : Int32} (h : SPx n op cn g ht) : g = 0 ∨ g = 1 := by
  rcases h with a | a
  · exact Or.inr a.1
  · exact Or.inl a.1
/-- with a closed map at hand nothing more is reached -/
theorem cnN_closed {n : Nat} {op cn a b : Nat → Int32} (hn : n ≤ 24) (hb : Rg n b) (hm : Mn n op cn b) (hc : Cl n op cn a) : cnN b 24 ≤ cnN a 24 := by
  refine cnN_mono (fun p hp h => ?_)
  rcases hb p hp with e | ⟨x, hx, e, hpn⟩
  · rw [e] at h; exact absurd fz_neg1 h
  · rw [hm a hc p hpn h]; exact h
/-- a grown map of the same count is the same -/
theorem Ex_same {n : Nat} {a b : Nat → Int32} (ha : Rg n a) (hb : Rg n b) (he : Ex a b) (hc : cnN a 24 = cnN b 24) : ∀ p, p < 24 → b p = a p := by
  intro p hp
  have hmono : ∀ p, p < 24 → ¬ a p < 0 → ¬ b p < 0 := fun p hp h => by rw [he p hp h]; exact h
  by_cases h : b p < 0
  · have h2 : a p < 0 := by
      by_cases h3 : a p < 0
      · exact h3
      · exact absurd h (hmono p hp h3)
    have e1 : a p = -1 := by
      rcases ha p hp with e | ⟨x, hx, e, -⟩
      · exact e
      · rw [e] at h2; exact absurd h2 (fz_nneg (by omega))
    have e2 : b p = -1 := by
      rcases hb p hp with e | ⟨x, hx, e, -⟩
      · exact e
      · rw [e] at h; exact absurd h (fz_nneg (by omega))
    rw [e1, e2]
  · exact he p hp (cnN_eq hmono hc p hp h)
theorem Ex_of_same {a b : Nat → Int32} (h : ∀ p, p < 24 → b p = a p) : Ex a b := fun p hp _ => h p hp
/-- sound() -/
theorem m1_sound (q : fz_Q) (o : fz_O) {sz st fu pt hg : Int32} {op cn ce ht sk : Nat → Int32} {n : Nat} (hsz : sz = nI n) (hn : n ≤ 24) (hop : OpOK n op) : fz_Mi q yX1_sound cX1_sound 3 2 .boolean [.ref o.1] (wm q o sz st fu pt hg op cn ce ht sk) (fun (r : Int32) (u : Nat → Int32) => SPx n op cn r u) (fun u => (wm q o sz st fu pt hg op cn ce u sk)) := by
  refine fz_ofi (own := RX1) (by decide) rfl rfl (Nat.le_of_ble_eq_true rfl) ?_
  intro x ok hret
  have outer : ∀ (r k : Nat) (ht2 : Nat → Int32), k + r = 25 → 0 < n → ht2 0 = 0 → Rg n ht2 → Mn n op cn ht2 → (Cl n op cn ht2 ∨ k + 1 ≤ cnN ht2 24) → fz_A q x (wm q o sz st fu pt hg op cn ce ht2 sk) 34 [.ref o.1, .int (nI k)] [] := by
    intro r
    induction r with
    | zero =>
      intro k ht2 hkr h0 e0 f1 f2 f3
      have ek : k = 25 := by omega
      refine fz_iload (pc := 34) ok dX1_sound_34 rfl ?_
      refine fz_bipush (pc := 35) (v := 25) ok dX1_sound_35 (by decide) ?_
      refine fz_icmp_ge (pc := 37) (tgt := 81) ok dX1_sound_37 (by decide) (fun c37 => ?_) (fun c37 => ?_)
      · refine fz_iconst (pc := 81) (v := 1) ok dX1_sound_81 (by decide) ?_
        exact hret ht2 _ _ _ dX1_sound_82 rfl (Or.inl ⟨rfl, by rcases f3 with a | a; exact a; exact absurd a (by have := cnN_le ht2 24; omega), f2, f1⟩)
      · exact absurd (by rw [ek]; exact Int32.le_refl _) c37
    | succ r ih =>
      intro k ht2 hkr h0 e0 f1 f2 f3
      have inner : ∀ (r2 p : Nat) (ht3 : Nat → Int32), p + r2 = n → Rg n ht3 → Mn n op cn ht3 → Ex ht2 ht3 → (((∀ z, z < 24 → ht3 z = ht2 z) ∧ ∀ z, z < p → ∀ h : Nat, h ≤ 8 → ht3 z = nI h → CO n op cn ht3 z h) ∨ cnN ht2 24 < cnN ht3 24) → fz_A q x (wm q o sz st fu pt hg op cn ce ht3 sk) 42 [.ref o.1, .int (nI k), .int (nI p)] [] := by
        intro r2
        induction r2 with
        | zero =>
          intro p ht3 hpr g1 g2 g3 g4
          have ep : p = n := by omega
          refine fz_iload (pc := 42) ok dX1_sound_42 rfl ?_
          refine fz_aload (pc := 43) ok dX1_sound_43 rfl ?_
          refine g1_size (pc := 44) ok dX1_sound_44 ?_
          refine fz_icmp_ge (pc := 47) (tgt := 75) ok dX1_sound_47 (by decide) (fun c47 => ?_) (fun c47 => ?_)
          · refine fz_iinc (pc := 75) (v := nI (k + 1)) (lc' := [_, _, _]) ok dX1_sound_75 (by decide) rfl (fz_a1 k) rfl ?_
            refine fz_goto (pc := 78) (tgt := 34) ok dX1_sound_78 (by decide) ?_
            refine fz_take 2 rfl ?_
            refine ih (k + 1) ht3 (by omega) h0 (by rw [g3 0 (by omega) (by rw [e0]; decide +kernel)]; exact e0) g1 g2 ?_
            rcases g4 with ⟨a1, a2⟩ | a
            · exact Or.inl (Cl_of hn h0 (by rw [g3 0 (by omega) (by rw [e0]; decide +kernel)]; exact e0) (fun z hz h hh e => a2 z (by omega) h hh e))
            · rcases f3 with b | b
              · exact absurd (cnN_closed hn g1 g2 b) (by omega)
              · exact Or.inr (by omega)
          · exact absurd (by rw [hsz, ep]; exact Int32.le_refl _) c47
        | succ r2 ih2 =>
          intro p ht3 hpr g1 g2 g3 g4
          refine fz_iload (pc := 42) ok dX1_sound_42 rfl ?_
          refine fz_aload (pc := 43) ok dX1_sound_43 rfl ?_
          refine g1_size (pc := 44) ok dX1_sound_44 ?_
          refine fz_icmp_ge (pc := 47) (tgt := 75) ok dX1_sound_47 (by decide) (fun c47 => ?_) (fun c47 => ?_)
          · exact absurd ((nI_leI (a := n) (b := p) (by omega) (by omega)).mp (by rw [hsz] at c47; exact c47)) (by omega)
          · refine fz_aload (pc := 50) ok dX1_sound_50 rfl ?_
            refine g1_heights (pc := 51) ok dX1_sound_51 ?_
            refine fz_iload (pc := 54) ok dX1_sound_54 rfl ?_
            refine l1_heights (pc := 55) ok dX1_sound_55 (p) (rfl) (by omega) ?_
            refine fz_if_lt (pc := 56) (tgt := 69) ok dX1_sound_56 (by decide) (fun c56 => ?_) (fun c56 => ?_)
            · refine fz_iinc (pc := 69) (v := nI (p + 1)) (lc' := [_, _, _]) ok dX1_sound_69 (by decide) rfl (fz_a1 p) rfl ?_
              refine fz_goto (pc := 72) (tgt := 42) ok dX1_sound_72 (by decide) ?_
              refine ih2 (p + 1) ht3 (by omega) g1 g2 g3 ?_
              rcases g4 with ⟨a1, a2⟩ | a
              · refine Or.inl ⟨a1, fun z hz h hh e => ?_⟩
                rcases Nat.lt_succ_iff_lt_or_eq.mp hz with y | y
                · exact a2 z y h hh e
                · subst y; rw [e] at c56; exact absurd c56 (fz_nneg (by omega))
              · exact Or.inr a
            · obtain ⟨h, hh, eh⟩ : ∃ h : Nat, h ≤ 8 ∧ ht3 p = nI h := by
                rcases g1 p (by omega) with e | ⟨h, hh, e, -⟩
                · rw [e] at c56; exact absurd fz_neg1 c56
                · exact ⟨h, hh, e⟩
              obtain ⟨c, ho, eo⟩ := hop p (by omega)
              refine fz_aload (pc := 59) ok dX1_sound_59 rfl ?_
              refine fz_iload (pc := 60) ok dX1_sound_60 rfl ?_
              refine k1_check (pc := 61) ok (m1_check q o hsz hn (p := p) (h := h) (c := c) (by omega) eo ho eh hh g1 g2) rfl (by decide) (Nat.le_of_ble_eq_true rfl) dX1_sound_61 (fun r u hu => ?_)
              obtain ⟨k1, k2, k3, k4⟩ := hu
              refine fz_if_ne (pc := 64) (tgt := 69) ok dX1_sound_64 (by decide) (fun c64 => ?_) (fun c64 => ?_)
              · refine fz_iinc (pc := 69) (v := nI (p + 1)) (lc' := [_, _, _]) ok dX1_sound_69 (by decide) rfl (fz_a1 p) rfl ?_
                refine fz_goto (pc := 72) (tgt := 42) ok dX1_sound_72 (by decide) ?_
                have hco : CO n op cn u p h := by
                  rcases k4 with a | a
                  · exact a.2
                  · exact absurd a.1 c64
                have hmono : cnN ht3 24 ≤ cnN u 24 := cnN_mono (fun z hz y => by rw [k3 z hz y]; exact y)
                refine ih2 (p + 1) u (by omega) k1 k2 (Ex_trans g3 k3) ?_
                rcases g4 with ⟨a1, a2⟩ | a
                · have e32 : cnN ht3 24 = cnN ht2 24 := cnN_same a1
                  by_cases hq : cnN ht3 24 = cnN u 24
                  · have hs := Ex_same g1 k1 k3 hq
                    refine Or.inl ⟨fun z hz => by rw [hs z hz]; exact a1 z hz, fun z hz h9 hh9 e => ?_⟩
                    rcases Nat.lt_succ_iff_lt_or_eq.mp hz with y | y
                    · exact CO_ex hn hh9 (a2 z y h9 hh9 (by rw [← hs z (by omega)]; exact e)) k3
                    · subst y
                      rw [hs z (by omega), eh] at e
                      have e9 : h = h9 := fz_inj (by omega) (by omega) e
                      rw [← e9]; exact hco
                  · exact Or.inr (by omega)
                · exact Or.inr (by omega)
              · refine fz_iconst (pc := 67) (v := 0) ok dX1_sound_67 (by decide) ?_
                exact hret u _ _ _ dX1_sound_68 rfl (Or.inr ⟨rfl, by rcases k4 with a | a; exact absurd (a.1.symm.trans c64) (by decide +kernel); exact a.2⟩)
      refine fz_iload (pc := 34) ok dX1_sound_34 rfl ?_
      refine fz_bipush (pc := 35) (v := 25) ok dX1_sound_35 (by decide) ?_
      refine fz_icmp_ge (pc := 37) (tgt := 81) ok dX1_sound_37 (by decide) (fun c37 => ?_) (fun c37 => ?_)
      · exact absurd ((nI_leI (a := 25) (by decide) (by omega)).mp c37) (by omega)
      · refine fz_iconst (pc := 40) (v := 0) ok dX1_sound_40 (by decide) ?_
        refine fz_top (nI_0.symm) ?_
        refine fz_istore (pc := 41) (lc' := [_, _, _]) ok dX1_sound_41 (by decide) (Nat.le_of_ble_eq_true rfl) rfl ?_
        exact inner n 0 ht2 (Nat.zero_add n) f1 f2 (Ex_refl ht2) (Or.inl ⟨fun _ _ => rfl, fun z hz => absurd hz (Nat.not_lt_zero _)⟩)
  have loop1 : ∀ (r i : Nat) (ht2 : Nat → Int32), i + r = 24 → (∀ p, p < i → ht2 p = -1) → fz_A q x (wm q o sz st fu pt hg op cn ce ht2 sk) 2 [.ref o.1, .int (nI i)] [] := by
    intro r
    induction r with
    | zero =>
      intro i ht2 hir hno
      have ei : i = 24 := by omega
      subst ei
      refine fz_iload (pc := 2) ok dX1_sound_2 rfl ?_
      refine fz_bipush (pc := 3) (v := 24) ok dX1_sound_3 (by decide) ?_
      refine fz_icmp_ge (pc := 5) (tgt := 21) ok dX1_sound_5 (by decide) (fun c5 => ?_) (fun c5 => ?_)
      · refine fz_aload (pc := 21) ok dX1_sound_21 rfl ?_
        refine fz_iconst (pc := 22) (v := 0) ok dX1_sound_22 (by decide) ?_
        refine fz_top (nI_0.symm) ?_
        refine fz_iconst (pc := 23) (v := 0) ok dX1_sound_23 (by decide) ?_
        refine fz_top (nI_0.symm) ?_
        refine k1_come (pc := 24) ok (m1_come q o hsz hn (nI 0) (nI 0)) rfl (by decide) (Nat.le_of_ble_eq_true rfl) dX1_sound_24 (fun r u hu => ?_)
        obtain ⟨g1, g2, g3, g4⟩ := come1_ok (op := op) (cn := cn) (h := 0) hn (by decide) rfl (Rg_none hno) (Mn_none hn hno) (fun h9 hc => ⟨0, hc.1, rfl, by rw [hc.2.1]; exact nI_0.symm⟩) hu
        refine fz_if_ne (pc := 27) (tgt := 32) ok dX1_sound_27 (by decide) (fun c27 => ?_) (fun c27 => ?_)
        · obtain ⟨t, b2, b3, b4⟩ : ∃ t : Nat, t < n ∧ nI 0 = nI t ∧ u t = nI 0 := by
            rcases g4 with a | a
            · exact a.2
            · exact absurd a.1 c27
          have et : t = 0 := fz_inj (by omega) (by decide) b3.symm
          subst et
          refine fz_iconst (pc := 32) (v := 0) ok dX1_sound_32 (by decide) ?_
          refine fz_top (nI_0.symm) ?_
          refine fz_istore (pc := 33) (lc' := [_, _]) ok dX1_sound_33 (by decide) (Nat.le_of_ble_eq_true rfl) rfl ?_
          refine outer 25 0 u rfl b2 b4 g1 g2 (Or.inr ?_)
          have h1 := cnN_mono (h1 := upd (fun _ => -1) 0 0) (h2 := u) (m := 24) (fun p hp h => by
            by_cases e : p = 0
            · subst e; rw [b4]; decide +kernel
            · rw [pk_un e] at h; exact absurd fz_neg1 h)
          exact Nat.le_trans (by decide +kernel) h1
        · refine fz_iconst (pc := 30) (v := 0) ok dX1_sound_30 (by decide) ?_
          exact hret u _ _ _ dX1_sound_31 rfl (Or.inr ⟨rfl, by rcases g4 with a | a; exact absurd (a.1.symm.trans c27) (by decide +kernel); exact a.2⟩)
      · exact absurd (Int32.le_refl _) c5
    | succ r ih =>
      intro i ht2 hir hno
      refine fz_iload (pc := 2) ok dX1_sound_2 rfl ?_
      refine fz_bipush (pc := 3) (v := 24) ok dX1_sound_3 (by decide) ?_
      refine fz_icmp_ge (pc := 5) (tgt := 21) ok dX1_sound_5 (by decide) (fun c5 => ?_) (fun c5 => ?_)
      · exact absurd ((nI_leI (a := 24) (by decide) (by omega)).mp c5) (by omega)
      · refine fz_aload (pc := 8) ok dX1_sound_8 rfl ?_
        refine g1_heights (pc := 9) ok dX1_sound_9 ?_
        refine fz_iload (pc := 12) ok dX1_sound_12 rfl ?_
        refine fz_iconst (pc := 13) (v := (-1)) ok dX1_sound_13 (by decide) ?_
        refine s1_heights (pc := 14) ok dX1_sound_14 (i) (rfl) (by omega) ?_
        refine fz_iinc (pc := 15) (v := nI (i + 1)) (lc' := [_, _]) ok dX1_sound_15 (by decide) rfl (fz_a1 i) rfl ?_
        refine fz_goto (pc := 18) (tgt := 2) ok dX1_sound_18 (by decide) ?_
        refine ih (i + 1) _ (by omega) (fun p hp => ?_)
        by_cases e : p = i
        · rw [e]; exact pk_us
        · rw [pk_un e]; exact hno p (by omega)
  refine fz_iconst (pc := 0) (v := 0) ok dX1_sound_0 (by decide) ?_
  refine fz_top (nI_0.symm) ?_
  refine fz_istore (pc := 1) (lc' := [_, _]) ok dX1_sound_1 (by decide) (Nat.le_of_ble_eq_true rfl) rfl ?_
  exact loop1 24 0 ht rfl (fun p hp => absurd hp (Nat.not_lt_zero _))
/-- height(p) -/
theorem m1_height (q : fz_Q) (o : fz_O) {sz st fu pt hg : Int32} {op cn ce ht sk : Nat → Int32} {n : Nat} (hsz : sz = nI n) (hn : n ≤ 24) (hop : OpOK n op) (v1 : Int32) : fz_Mi q yX1_height cX1_height 2 3 .int [.ref o.1, .int v1] (wm q o sz st fu pt hg op cn ce ht sk) (fun (r : Int32) (u : Nat → Int32) => ∃ g : Int32, SPx n op cn g u ∧ r = hgF n g u v1) (fun u => (wm q o sz st fu pt hg op cn ce u sk)) := by
  refine fz_ofi (own := RX1) (by decide) rfl rfl (Nat.le_of_ble_eq_true rfl) ?_
  intro x ok hret
  refine fz_aload (pc := 0) ok dX1_height_0 rfl ?_
  refine k1_sound (pc := 1) ok (m1_sound q o hsz hn hop) rfl (by decide) (Nat.le_of_ble_eq_true rfl) dX1_height_1 (fun r u hu => ?_)
  refine fz_if_eq (pc := 4) (tgt := 28) ok dX1_height_4 (by decide) (fun c4 => ?_) (fun c4 => ?_)
  · refine fz_bipush (pc := 28) (v := (-4)) ok dX1_height_28 (by decide) ?_
    exact hret u _ _ _ dX1_height_30 rfl ⟨r, hu, (hgF_no (Or.inl c4)).symm⟩
  · refine fz_iload (pc := 7) ok dX1_height_7 rfl ?_
    refine fz_if_lt (pc := 8) (tgt := 28) ok dX1_height_8 (by decide) (fun c8 => ?_) (fun c8 => ?_)
    · refine fz_bipush (pc := 28) (v := (-4)) ok dX1_height_28 (by decide) ?_
      exact hret u _ _ _ dX1_height_30 rfl ⟨r, hu, (hgF_no (Or.inr (Or.inl c8))).symm⟩
    · refine fz_iload (pc := 11) ok dX1_height_11 rfl ?_
      refine fz_aload (pc := 12) ok dX1_height_12 rfl ?_
      refine g1_size (pc := 13) ok dX1_height_13 ?_
      refine fz_icmp_ge (pc := 16) (tgt := 28) ok dX1_height_16 (by decide) (fun c16 => ?_) (fun c16 => ?_)
      · refine fz_bipush (pc := 28) (v := (-4)) ok dX1_height_28 (by decide) ?_
        exact hret u _ _ _ dX1_height_30 rfl ⟨r, hu, (hgF_no (Or.inr (Or.inr (Or.inl (by rw [hsz] at c16; exact c16))))).symm⟩
      · obtain ⟨j, hj, rfl⟩ : ∃ j : Nat, j < n ∧ v1 = nI j := by
          rcases fz_ix v1 (n := n) (by omega) with g | g | g
          · exact absurd g c8
          · exact absurd (by rw [hsz]; exact g) c16
          · exact g
        refine fz_aload (pc := 19) ok dX1_height_19 rfl ?_
        refine g1_heights (pc := 20) ok dX1_height_20 ?_
        refine fz_iload (pc := 23) ok dX1_height_23 rfl ?_
        refine l1_heights (pc := 24) ok dX1_height_24 (j) (rfl) (by omega) ?_
        refine fz_if_ge (pc := 25) (tgt := 31) ok dX1_height_25 (by decide) (fun c25 => ?_) (fun c25 => ?_)
        · refine fz_aload (pc := 31) ok dX1_height_31 rfl ?_
          refine g1_heights (pc := 32) ok dX1_height_32 ?_
          refine fz_iload (pc := 35) ok dX1_height_35 rfl ?_
          refine l1_heights (pc := 36) ok dX1_height_36 (j) (rfl) (by omega) ?_
          exact hret u _ _ _ dX1_height_37 rfl ⟨r, hu, (hgF_yes c4 hj hn (fz_le_nlt c25)).symm⟩
        · refine fz_bipush (pc := 28) (v := (-4)) ok dX1_height_28 (by decide) ?_
          exact hret u _ _ _ dX1_height_30 rfl ⟨r, hu, (hgF_no (Or.inr (Or.inr (Or.inr (by rw [nI_clamp (by omega)]; exact fz_nle_lt c25))))).symm⟩
/-- run(fuel) -/
theorem m1_run (q : fz_Q) (o : fz_O) {sz st fu pt hg : Int32} {op cn ce ht sk : Nat → Int32} {n N : Nat} (hN : N = 2001) (hsz : sz = nI n) (hn : n ≤ 24) (hop : OpOK n op) (v1 : Int32) : fz_Mi q yX1_run cX1_run 2 4 .int [.ref o.1, .int v1] (wm q o sz st fu pt hg op cn ce ht sk) (fun (r : Int32) (u : (Nat → Int32) × Int32 × Int32 × Int32 × Int32 × (Nat → Int32) × (Nat → Int32)) => ∃ g : Int32, SPx n op cn g u.1 ∧ ((g = 0 ∧ r = -3 ∧ u.2 = (st, fu, pt, hg, sk, ce)) ∨ (g = 1 ∧ r = fst2 (itN (mu op cn) N (false, clF v1, nI 0, 0, sk, ce)).1 ∧ u.2 = (fst2 (itN (mu op cn) N (false, clF v1, nI 0, 0, sk, ce)).1, nI (itN (mu op cn) N (false, clF v1, nI 0, 0, sk, ce)).2.1, (itN (mu op cn) N (false, clF v1, nI 0, 0, sk, ce)).2.2.1, nI (itN (mu op cn) N (false, clF v1, nI 0, 0, sk, ce)).2.2.2.1, (itN (mu op cn) N (false, clF v1, nI 0, 0, sk, ce)).2.2.2.2.1, (itN (mu op cn) N (false, clF v1, nI 0, 0, sk, ce)).2.2.2.2.2)))) (fun u => (wm q o sz u.2.1 u.2.2.1 u.2.2.2.1 u.2.2.2.2.1 op cn u.2.2.2.2.2.2 u.1 u.2.2.2.2.2.1)) := by
  refine fz_ofi (own := RX1) (by decide) rfl rfl (Nat.le_of_ble_eq_true rfl) ?_
  intro x ok hret
  refine fz_aload (pc := 0) ok dX1_run_0 rfl ?_
  refine k1_sound (pc := 1) ok (m1_sound q o hsz hn hop) rfl (by decide) (Nat.le_of_ble_eq_true rfl) dX1_run_1 (fun g u hu => ?_)
  refine fz_if_ne (pc := 4) (tgt := 10) ok dX1_run_4 (by decide) (fun c4 => ?_) (fun c4 => ?_)
  · obtain ⟨z1, z2, z3, z4⟩ : g = 1 ∧ Cl n op cn u ∧ Mn n op cn u ∧ Rg n u := by
      rcases hu with a | a
      · exact a
      · exact absurd a.1 c4
    have hok : Ok1 n u (nI 0, 0, sk, ce) := ⟨0, rfl, z2.1, by rw [z2.2.1]; exact nI_0.symm, Nat.zero_le _⟩
    refine fz_aload (pc := 10) ok dX1_run_10 rfl ?_
    refine fz_aload (pc := 11) ok dX1_run_11 rfl ?_
    refine fz_iload (pc := 12) ok dX1_run_12 rfl ?_
    refine k1_held (pc := 13) ok (m1_held q o v1) rfl (by decide) (Nat.le_of_ble_eq_true rfl) dX1_run_13 (fun r9 u9 hu9 => ?_)
    subst hu9
    refine p1_fuel (pc := 16) ok dX1_run_16 (_) (rfl) ?_
    refine fz_aload (pc := 19) ok dX1_run_19 rfl ?_
    refine fz_iconst (pc := 20) (v := 0) ok dX1_run_20 (by decide) ?_
    refine p1_at (pc := 21) ok dX1_run_21 (nI 0) (nI_0.symm) ?_
    refine fz_aload (pc := 24) ok dX1_run_24 rfl ?_
    refine fz_iconst (pc := 25) (v := 0) ok dX1_run_25 (by decide) ?_
    refine p1_high (pc := 26) ok dX1_run_26 (nI 0) (nI_0.symm) ?_
    refine fz_aload (pc := 29) ok dX1_run_29 rfl ?_
    refine k1_goOn (pc := 30) ok (m1_goOn q o hN (mm := (nI 0, 0, sk, ce)) hsz hn hop z2 hok (clF_le v1)) rfl (by decide) (Nat.le_of_ble_eq_true rfl) dX1_run_30 (fun r9 u9 hu9 => ?_)
    subst hu9
    exact hret (u, (fst2 (itN (mu op cn) N (false, clF v1, nI 0, 0, sk, ce)).1, nI (itN (mu op cn) N (false, clF v1, nI 0, 0, sk, ce)).2.1, (itN (mu op cn) N (false, clF v1, nI 0, 0, sk, ce)).2.2.1, nI (itN (mu op cn) N (false, clF v1, nI 0, 0, sk, ce)).2.2.2.1, (itN (mu op cn) N (false, clF v1, nI 0, 0, sk, ce)).2.2.2.2.1, (itN (mu op cn) N (false, clF v1, nI 0, 0, sk, ce)).2.2.2.2.2)) _ _ _ dX1_run_33 rfl ⟨g, hu, Or.inr ⟨z1, rfl, rfl⟩⟩
  · refine fz_bipush (pc := 7) (v := (-3)) ok dX1_run_7 (by decide) ?_
    exact hret (u, st, fu, pt, hg, sk, ce) _ _ _ dX1_run_9 rfl ⟨g, hu, Or.inl ⟨c4, rfl, rfl⟩⟩
/-- refuel(more) -/
theorem m1_refuel (q : fz_Q) (o : fz_O) {sz st : Int32} {op cn ht : Nat → Int32} {n f N : Nat} (hN : N = 2001) {hh : Nat → Int32} {mm : Ms} (hsz : sz = nI n) (hn : n ≤ 24) (hop : OpOK n op) (hf : f ≤ 2000) (h2 : st = 2 → Cl n op cn hh ∧ Ok1 n hh mm) (v1 : Int32) : fz_Mi q yX1_refuel cX1_refuel 3 4 .int [.ref o.1, .int v1] (wm q o sz st (nI f) mm.1 (nI mm.2.1) op cn mm.2.2.2 ht mm.2.2.1) (fun (r : Int32) (u : Int32 × Int32 × Int32 × Int32 × (Nat → Int32) × (Nat → Int32)) => (¬ st = 2 ∧ r = st ∧ u = (st, nI f, mm.1, nI mm.2.1, mm.2.2.1, mm.2.2.2)) ∨ (st = 2 ∧ r = fst2 (itN (mu op cn) N (false, min (f + clF v1) 2000, mm)).1 ∧ u = (fst2 (itN (mu op cn) N (false, min (f + clF v1) 2000, mm)).1, nI (itN (mu op cn) N (false, min (f + clF v1) 2000, mm)).2.1, (itN (mu op cn) N (false, min (f + clF v1) 2000, mm)).2.2.1, nI (itN (mu op cn) N (false, min (f + clF v1) 2000, mm)).2.2.2.1, (itN (mu op cn) N (false, min (f + clF v1) 2000, mm)).2.2.2.2.1, (itN (mu op cn) N (false, min (f + clF v1) 2000, mm)).2.2.2.2.2))) (fun u => (wm q o sz u.1 u.2.1 u.2.2.1 u.2.2.2.1 op cn u.2.2.2.2.2 ht u.2.2.2.2.1)) := by
  refine fz_ofi (own := RX1) (by decide) rfl rfl (Nat.le_of_ble_eq_true rfl) ?_
  intro x ok hret
  refine fz_aload (pc := 0) ok dX1_refuel_0 rfl ?_
  refine g1_state (pc := 1) ok dX1_refuel_1 ?_
  refine fz_iconst (pc := 4) (v := 2) ok dX1_refuel_4 (by decide) ?_
  refine fz_icmp_ne (pc := 5) (tgt := 36) ok dX1_refuel_5 (by decide) (fun c5 => ?_) (fun c5 => ?_)
  · refine fz_aload (pc := 36) ok dX1_refuel_36 rfl ?_
    refine g1_state (pc := 37) ok dX1_refuel_37 ?_
    exact hret (st, nI f, mm.1, nI mm.2.1, mm.2.2.1, mm.2.2.2) _ _ _ dX1_refuel_40 rfl (Or.inl ⟨c5, rfl, rfl⟩)
  · obtain ⟨z2, z1⟩ := h2 c5
    refine fz_aload (pc := 8) ok dX1_refuel_8 rfl ?_
    refine fz_iload (pc := 9) ok dX1_refuel_9 rfl ?_
    refine k1_held (pc := 10) ok (m1_held q o v1) rfl (by decide) (Nat.le_of_ble_eq_true rfl) dX1_refuel_10 (fun r9 u9 hu9 => ?_)
    subst hu9
    refine fz_istore (pc := 13) (lc' := [_, _, _]) ok dX1_refuel_13 (by decide) (Nat.le_of_ble_eq_true rfl) rfl ?_
    refine fz_aload (pc := 14) ok dX1_refuel_14 rfl ?_
    refine fz_aload (pc := 15) ok dX1_refuel_15 rfl ?_
    refine fz_aload (pc := 16) ok dX1_refuel_16 rfl ?_
    refine g1_fuel (pc := 17) ok dX1_refuel_17 ?_
    refine fz_iload (pc := 20) ok dX1_refuel_20 rfl ?_
    refine fz_iadd (pc := 21) ok dX1_refuel_21 ?_
    refine fz_top (nI_add f (clF v1)) ?_
    refine fz_sipush (pc := 22) (v := 2000) ok dX1_refuel_22 (by decide) ?_
    refine k1_least (pc := 25) ok (m1_least q o (nI (f + clF v1)) 2000) rfl (by decide) (Nat.le_of_ble_eq_true rfl) dX1_refuel_25 (fun r9 u9 hu9 => ?_)
    rw [min_least (by have := clF_le v1; omega)] at hu9
    subst hu9
    refine p1_fuel (pc := 28) ok dX1_refuel_28 (_) (rfl) ?_
    refine fz_aload (pc := 31) ok dX1_refuel_31 rfl ?_
    refine k1_goOn (pc := 32) ok (m1_goOn q o hN (mm := mm) hsz hn hop z2 z1 (Nat.min_le_right _ _)) rfl (by decide) (Nat.le_of_ble_eq_true rfl) dX1_refuel_32 (fun r9 u9 hu9 => ?_)
    subst hu9
    exact hret (fst2 (itN (mu op cn) N (false, min (f + clF v1) 2000, mm)).1, nI (itN (mu op cn) N (false, min (f + clF v1) 2000, mm)).2.1, (itN (mu op cn) N (false, min (f + clF v1) 2000, mm)).2.2.1, nI (itN (mu op cn) N (false, min (f + clF v1) 2000, mm)).2.2.2.1, (itN (mu op cn) N (false, min (f + clF v1) 2000, mm)).2.2.2.2.1, (itN (mu op cn) N (false, min (f + clF v1) 2000, mm)).2.2.2.2.2) _ _ _ dX1_refuel_35 rfl (Or.inr ⟨c5, rfl, rfl⟩)
end
section
set_option maxRecDepth 100000
/-! the constructors -/
def fz_MC (q : fz_Q) (y : MethodName) (b : ByteArray) (n mc ms : Nat) (h0 : Nat) (w : va_W) {S : Type} (w' : S → va_W) : Prop :=
  ∀ sz : Nat, Met q.1 y (ws_ y b n none) ({ frames := 1, cells := mc, slots := ms, locals := 30 }) (va_Pc [.ref h0] (fun U => U.heap.size = sz ∧ va_P q.2.1 vwCl w U.heap ∧ va_K q.2.1 vwCl (fz_ty q) U ∧ va_D (fun _ => True) w)) (va_Qv (fun _ : S => True) (fun u t => va_P q.2.1 vwCl (w' u) t.heap ∧ va_K q.2.1 vwCl (fz_ty q) t ∧ va_D (va_A w sz) (w' u)) (va_A w sz)) mc ms (va_A w sz)
theorem fz_same {U : State} {D : va_G} {cl : List vw_C} {tys : List (ClassId × FieldType)} {a c : ClassId} {ty : FieldType} (h : va_K D cl tys U) {i j : Nat} (hi : tys[i]? = some (a, ty)) (hj : tys[j]? = some (c, ty)) (hty : ty = .int ∨ ty = .boolean) : c = a := by
  have h1 := (h.2 i _ hi).2
  have h2 := (h.2 j _ hj).2
  rcases hty with rfl | rfl
  · exact Option.some.inj (h2.symm.trans h1)
  · exact Option.some.inj (h2.symm.trans h1)
set_option maxHeartbeats 4000000 in
/-- FuelGate() -/
theorem m0_init (q : fz_Q) (h0 : Nat) : fz_MC q yX0_init cX0_init 1 9 181 h0 [(h0, .inr (0, [.int 0, .null, .null, .int 0, .int 0, .null, .null, .null, .null, .null, .int 0, .int 0, .int 0, .int 0, .int 0, .null, .null]))] (fun ad : Nat → Nat => wg q (h0, ad) 0 0 0 0 0 0 0 0 (fun _ => 0) (fun _ => 0) (fun _ => 0) (fun _ => 0) (fun _ => 0) (fun _ => 0) (fun _ => 0) (fun _ => 0) (fun _ => 0)) := by
  intro sz
  refine Met.ofW (cc := cX0_init) (maxL := 1) (ret := none) (by decide) rfl ?_
  intro p e s m args below meth c s₁ B hml hv
  obtain ⟨rfl, hsz, hP, hK, hD0⟩ := hv
  have hx := B.exec
  have hb := B.bytes
  have hr := B.returns
  have hts0 := atoms_spec (ws := ws_ yX0_init cX0_init 1 none) B.pre
  have hts : ∀ w ∈ lw_all, w.before _ s = true := fun w h => hts0 w (List.mem_cons_of_mem _ h)
  have hown : s.vm.findClass RX0 = some m.cls := findClass_of_methodNamed B.named
  have hlocks := B.notSynchronized
  have hin : meth.name = "<init>" := (name_of_methodNamed B.named B.method).1
  subst hsz
  have hD := hD0.self (sz := s.heap.size)
  generalize hAe : va_A [(h0, .inr (0, [.int 0, .null, .null, .int 0, .int 0, .null, .null, .null, .null, .null, .int 0, .int 0, .int 0, .int 0, .int 0, .null, .null]))] s.heap.size = A at hD ⊢
  have hA : ∀ a : Nat, s.heap.size ≤ a → A a := fun a h => by rw [← hAe]; exact Or.inr h
  have hS : va_S A s.heap s.heap [] := va_S.rf
  have hl := lv_entry ([.ref h0]) (n := 1) (Nat.le_of_ble_eq_true rfl)
  rw [lg_entry_eq]
  generalize (lg_sl ([.ref h0]) ++ List.replicate (1 - (lg_sl ([.ref h0])).length) Slot.unset).toArray = ls at hl ⊢
  have hl : lv_has ls 1 [(0, .ref h0)] := hl
  refine lv_aload_n (pc := 0) hx hb dX0_init_0 rfl (lv_at hl 0 rfl) ?_
  refine W.objInit hx hb hown (hts _ q34) (hts _ q35) (hts _ q36) rfl (by rw [hml]; exact hl.1) rfl dX0_init_1 (Nat.le_of_ble_eq_true rfl) (Nat.le_of_ble_eq_true rfl) ?_
  refine W.eq (g2 := F0 m 4 ls []) rfl ?_
  refine lv_aload_n (pc := 4) hx hb dX0_init_4 rfl (lv_at hl 0 rfl) ?_
  refine lv_bipush (pc := 5) (v := 24) hx hb dX0_init_5 (by decide) ?_
  refine va_newa (pc := 7) (atype := .int) (ty := .int) (N' := 24) (a0 := (24, .inl (fun _ => 0))) hx hb (hts _ q89) rfl hK hP hD hS hA (fun _ => rfl) (by decide) (by decide) (by decide) (Nat.le_of_ble_eq_true rfl) (Nat.le_of_ble_eq_true rfl) dX0_init_7 (fun a0 cA H hK1 hP hD hS => ?_)
  obtain rfl : cA = q.2.2.1 := fz_same hK1 (i := 0) (j := 2) rfl rfl (by simp)
  have hP : va_P q.2.1 vwCl [(h0, .inr (0, [.int 0, .null, .null, .int 0, .int 0, .null, .null, .null, .null, .null, .int 0, .int 0, .int 0, .int 0, .int 0, .null, .null])), (a0, .inl (q.2.2.1, 24, .inl (fun _ => 0)))] H := hP
  have hD : va_D A [(h0, .inr (0, [.int 0, .null, .null, .int 0, .int 0, .null, .null, .null, .null, .null, .int 0, .int 0, .int 0, .int 0, .int 0, .null, .null])), (a0, .inl (q.2.2.1, 24, .inl (fun _ => 0)))] := hD
  refine W.widen (k := 1) (n := 24) (Nat.le_of_ble_eq_true rfl) (Nat.le_of_ble_eq_true rfl) ?_
  refine va_putF (pc := 9) (D := q.2.1) (ci := 0) (v := .ref a0) (ty := .array .int) (C := RX0) (T := TX0) (N := 17) hx hb hts in_X0 tyX0 tyX0_ok nmX0 hown hK hP hD hS 0 rfl rfl 1 (by decide) (hts _ q38) (fun _ h9 => h9) rfl hin rfl (by decide +kernel) rfl rfl (Nat.le_of_ble_eq_true rfl) dX0_init_9 (fun H locs hP hD hS => ?_)
  have hP : va_P q.2.1 vwCl [(h0, .inr (0, [.int 0, .ref a0, .null, .int 0, .int 0, .null, .null, .null, .null, .null, .int 0, .int 0, .int 0, .int 0, .int 0, .null, .null])), (a0, .inl (q.2.2.1, 24, .inl (fun _ => 0)))] H := hP
  have hD : va_D A [(h0, .inr (0, [.int 0, .ref a0, .null, .int 0, .int 0, .null, .null, .null, .null, .null, .int 0, .int 0, .int 0, .int 0, .int 0, .null, .null])), (a0, .inl (q.2.2.1, 24, .inl (fun _ => 0)))] := hD
  refine lv_aload_n (pc := 12) hx hb dX0_init_12 rfl (lv_at hl 0 rfl) ?_
  refine lv_bipush (pc := 13) (v := 24) hx hb dX0_init_13 (by decide) ?_
  refine va_newa (pc := 15) (atype := .int) (ty := .int) (N' := 24) (a0 := (24, .inl (fun _ => 0))) hx hb (hts _ q89) rfl hK hP hD hS hA (fun _ => rfl) (by decide) (by decide) (by decide) (Nat.le_of_ble_eq_true rfl) (Nat.le_of_ble_eq_true rfl) dX0_init_15 (fun a1 cA H hK1 hP hD hS => ?_)
  obtain rfl : cA = q.2.2.1 := fz_same hK1 (i := 0) (j := 2) rfl rfl (by simp)
  have hP : va_P q.2.1 vwCl [(h0, .inr (0, [.int 0, .ref a0, .null, .int 0, .int 0, .null, .null, .null, .null, .null, .int 0, .int 0, .int 0, .int 0, .int 0, .null, .null])), (a0, .inl (q.2.2.1, 24, .inl (fun _ => 0))), (a1, .inl (q.2.2.1, 24, .inl (fun _ => 0)))] H := hP
  have hD : va_D A [(h0, .inr (0, [.int 0, .ref a0, .null, .int 0, .int 0, .null, .null, .null, .null, .null, .int 0, .int 0, .int 0, .int 0, .int 0, .null, .null])), (a0, .inl (q.2.2.1, 24, .inl (fun _ => 0))), (a1, .inl (q.2.2.1, 24, .inl (fun _ => 0)))] := hD
  refine W.widen (k := 2) (n := 48) (Nat.le_of_ble_eq_true rfl) (Nat.le_of_ble_eq_true rfl) ?_
  refine va_putF (pc := 17) (D := q.2.1) (ci := 0) (v := .ref a1) (ty := .array .int) (C := RX0) (T := TX0) (N := 17) hx hb hts in_X0 tyX0 tyX0_ok nmX0 hown hK hP hD hS 0 rfl rfl 2 (by decide) (hts _ q39) (fun _ h9 => h9) rfl hin rfl (by decide +kernel) rfl rfl (Nat.le_of_ble_eq_true rfl) dX0_init_17 (fun H locs hP hD hS => ?_)
  have hP : va_P q.2.1 vwCl [(h0, .inr (0, [.int 0, .ref a0, .ref a1, .int 0, .int 0, .null, .null, .null, .null, .null, .int 0, .int 0, .int 0, .int 0, .int 0, .null, .null])), (a0, .inl (q.2.2.1, 24, .inl (fun _ => 0))), (a1, .inl (q.2.2.1, 24, .inl (fun _ => 0)))] H := hP
  have hD : va_D A [(h0, .inr (0, [.int 0, .ref a0, .ref a1, .int 0, .int 0, .null, .null, .null, .null, .null, .int 0, .int 0, .int 0, .int 0, .int 0, .null, .null])), (a0, .inl (q.2.2.1, 24, .inl (fun _ => 0))), (a1, .inl (q.2.2.1, 24, .inl (fun _ => 0)))] := hD
  refine lv_aload_n (pc := 20) hx hb dX0_init_20 rfl (lv_at hl 0 rfl) ?_
  refine lv_bipush (pc := 21) (v := 24) hx hb dX0_init_21 (by decide) ?_
  refine va_newa (pc := 23) (atype := .int) (ty := .int) (N' := 24) (a0 := (24, .inl (fun _ => 0))) hx hb (hts _ q89) rfl hK hP hD hS hA (fun _ => rfl) (by decide) (by decide) (by decide) (Nat.le_of_ble_eq_true rfl) (Nat.le_of_ble_eq_true rfl) dX0_init_23 (fun a2 cA H hK1 hP hD hS => ?_)
  obtain rfl : cA = q.2.2.1 := fz_same hK1 (i := 0) (j := 2) rfl rfl (by simp)
  have hP : va_P q.2.1 vwCl [(h0, .inr (0, [.int 0, .ref a0, .ref a1, .int 0, .int 0, .null, .null, .null, .null, .null, .int 0, .int 0, .int 0, .int 0, .int 0, .null, .null])), (a0, .inl (q.2.2.1, 24, .inl (fun _ => 0))), (a1, .inl (q.2.2.1, 24, .inl (fun _ => 0))), (a2, .inl (q.2.2.1, 24, .inl (fun _ => 0)))] H := hP
  have hD : va_D A [(h0, .inr (0, [.int 0, .ref a0, .ref a1, .int 0, .int 0, .null, .null, .null, .null, .null, .int 0, .int 0, .int 0, .int 0, .int 0, .null, .null])), (a0, .inl (q.2.2.1, 24, .inl (fun _ => 0))), (a1, .inl (q.2.2.1, 24, .inl (fun _ => 0))), (a2, .inl (q.2.2.1, 24, .inl (fun _ => 0)))] := hD
  refine W.widen (k := 3) (n := 72) (Nat.le_of_ble_eq_true rfl) (Nat.le_of_ble_eq_true rfl) ?_
  refine va_putF (pc := 25) (D := q.2.1) (ci := 0) (v := .ref a2) (ty := .array .int) (C := RX0) (T := TX0) (N := 17) hx hb hts in_X0 tyX0 tyX0_ok nmX0 hown hK hP hD hS 0 rfl rfl 5 (by decide) (hts _ q42) (fun _ h9 => h9) rfl hin rfl (by decide +kernel) rfl rfl (Nat.le_of_ble_eq_true rfl) dX0_init_25 (fun H locs hP hD hS => ?_)
  have hP : va_P q.2.1 vwCl [(h0, .inr (0, [.int 0, .ref a0, .ref a1, .int 0, .int 0, .ref a2, .null, .null, .null, .null, .int 0, .int 0, .int 0, .int 0, .int 0, .null, .null])), (a0, .inl (q.2.2.1, 24, .inl (fun _ => 0))), (a1, .inl (q.2.2.1, 24, .inl (fun _ => 0))), (a2, .inl (q.2.2.1, 24, .inl (fun _ => 0)))] H := hP
  have hD : va_D A [(h0, .inr (0, [.int 0, .ref a0, .ref a1, .int 0, .int 0, .ref a2, .null, .null, .null, .null, .int 0, .int 0, .int 0, .int 0, .int 0, .null, .null])), (a0, .inl (q.2.2.1, 24, .inl (fun _ => 0))), (a1, .inl (q.2.2.1, 24, .inl (fun _ => 0))), (a2, .inl (q.2.2.1, 24, .inl (fun _ => 0)))] := hD
  refine lv_aload_n (pc := 28) hx hb dX0_init_28 rfl (lv_at hl 0 rfl) ?_
  refine lv_bipush (pc := 29) (v := 24) hx hb dX0_init_29 (by decide) ?_
  refine va_newa (pc := 31) (atype := .boolean) (ty := .boolean) (N' := 24) (a0 := (24, .inl (fun _ => 0))) hx hb (hts _ q90) rfl hK hP hD hS hA (fun _ => rfl) (by decide) (by decide) (by decide) (Nat.le_of_ble_eq_true rfl) (Nat.le_of_ble_eq_true rfl) dX0_init_31 (fun a3 cA H hK1 hP hD hS => ?_)
  obtain rfl : cA = q.2.2.2 := fz_same hK1 (i := 1) (j := 2) rfl rfl (by simp)
  have hP : va_P q.2.1 vwCl [(h0, .inr (0, [.int 0, .ref a0, .ref a1, .int 0, .int 0, .ref a2, .null, .null, .null, .null, .int 0, .int 0, .int 0, .int 0, .int 0, .null, .null])), (a0, .inl (q.2.2.1, 24, .inl (fun _ => 0))), (a1, .inl (q.2.2.1, 24, .inl (fun _ => 0))), (a2, .inl (q.2.2.1, 24, .inl (fun _ => 0))), (a3, .inl (q.2.2.2, 24, .inl (fun _ => 0)))] H := hP
  have hD : va_D A [(h0, .inr (0, [.int 0, .ref a0, .ref a1, .int 0, .int 0, .ref a2, .null, .null, .null, .null, .int 0, .int 0, .int 0, .int 0, .int 0, .null, .null])), (a0, .inl (q.2.2.1, 24, .inl (fun _ => 0))), (a1, .inl (q.2.2.1, 24, .inl (fun _ => 0))), (a2, .inl (q.2.2.1, 24, .inl (fun _ => 0))), (a3, .inl (q.2.2.2, 24, .inl (fun _ => 0)))] := hD
  refine W.widen (k := 4) (n := 96) (Nat.le_of_ble_eq_true rfl) (Nat.le_of_ble_eq_true rfl) ?_
  refine va_putF (pc := 33) (D := q.2.1) (ci := 0) (v := .ref a3) (ty := .array .boolean) (C := RX0) (T := TX0) (N := 17) hx hb hts in_X0 tyX0 tyX0_ok nmX0 hown hK hP hD hS 0 rfl rfl 6 (by decide) (hts _ q43) (fun _ h9 => h9) rfl hin rfl (by decide +kernel) rfl rfl (Nat.le_of_ble_eq_true rfl) dX0_init_33 (fun H locs hP hD hS => ?_)
  have hP : va_P q.2.1 vwCl [(h0, .inr (0, [.int 0, .ref a0, .ref a1, .int 0, .int 0, .ref a2, .ref a3, .null, .null, .null, .int 0, .int 0, .int 0, .int 0, .int 0, .null, .null])), (a0, .inl (q.2.2.1, 24, .inl (fun _ => 0))), (a1, .inl (q.2.2.1, 24, .inl (fun _ => 0))), (a2, .inl (q.2.2.1, 24, .inl (fun _ => 0))), (a3, .inl (q.2.2.2, 24, .inl (fun _ => 0)))] H := hP
  have hD : va_D A [(h0, .inr (0, [.int 0, .ref a0, .ref a1, .int 0, .int 0, .ref a2, .ref a3, .null, .null, .null, .int 0, .int 0, .int 0, .int 0, .int 0, .null, .null])), (a0, .inl (q.2.2.1, 24, .inl (fun _ => 0))), (a1, .inl (q.2.2.1, 24, .inl (fun _ => 0))), (a2, .inl (q.2.2.1, 24, .inl (fun _ => 0))), (a3, .inl (q.2.2.2, 24, .inl (fun _ => 0)))] := hD
  refine lv_aload_n (pc := 36) hx hb dX0_init_36 rfl (lv_at hl 0 rfl) ?_
  refine lv_bipush (pc := 37) (v := 24) hx hb dX0_init_37 (by decide) ?_
  refine va_newa (pc := 39) (atype := .int) (ty := .int) (N' := 24) (a0 := (24, .inl (fun _ => 0))) hx hb (hts _ q89) rfl hK hP hD hS hA (fun _ => rfl) (by decide) (by decide) (by decide) (Nat.le_of_ble_eq_true rfl) (Nat.le_of_ble_eq_true rfl) dX0_init_39 (fun a4 cA H hK1 hP hD hS => ?_)
  obtain rfl : cA = q.2.2.1 := fz_same hK1 (i := 0) (j := 2) rfl rfl (by simp)
  have hP : va_P q.2.1 vwCl [(h0, .inr (0, [.int 0, .ref a0, .ref a1, .int 0, .int 0, .ref a2, .ref a3, .null, .null, .null, .int 0, .int 0, .int 0, .int 0, .int 0, .null, .null])), (a0, .inl (q.2.2.1, 24, .inl (fun _ => 0))), (a1, .inl (q.2.2.1, 24, .inl (fun _ => 0))), (a2, .inl (q.2.2.1, 24, .inl (fun _ => 0))), (a3, .inl (q.2.2.2, 24, .inl (fun _ => 0))), (a4, .inl (q.2.2.1, 24, .inl (fun _ => 0)))] H := hP
  have hD : va_D A [(h0, .inr (0, [.int 0, .ref a0, .ref a1, .int 0, .int 0, .ref a2, .ref a3, .null, .null, .null, .int 0, .int 0, .int 0, .int 0, .int 0, .null, .null])), (a0, .inl (q.2.2.1, 24, .inl (fun _ => 0))), (a1, .inl (q.2.2.1, 24, .inl (fun _ => 0))), (a2, .inl (q.2.2.1, 24, .inl (fun _ => 0))), (a3, .inl (q.2.2.2, 24, .inl (fun _ => 0))), (a4, .inl (q.2.2.1, 24, .inl (fun _ => 0)))] := hD
  refine W.widen (k := 5) (n := 120) (Nat.le_of_ble_eq_true rfl) (Nat.le_of_ble_eq_true rfl) ?_
  refine va_putF (pc := 41) (D := q.2.1) (ci := 0) (v := .ref a4) (ty := .array .int) (C := RX0) (T := TX0) (N := 17) hx hb hts in_X0 tyX0 tyX0_ok nmX0 hown hK hP hD hS 0 rfl rfl 7 (by decide) (hts _ q44) (fun _ h9 => h9) rfl hin rfl (by decide +kernel) rfl rfl (Nat.le_of_ble_eq_true rfl) dX0_init_41 (fun H locs hP hD hS => ?_)
  have hP : va_P q.2.1 vwCl [(h0, .inr (0, [.int 0, .ref a0, .ref a1, .int 0, .int 0, .ref a2, .ref a3, .ref a4, .null, .null, .int 0, .int 0, .int 0, .int 0, .int 0, .null, .null])), (a0, .inl (q.2.2.1, 24, .inl (fun _ => 0))), (a1, .inl (q.2.2.1, 24, .inl (fun _ => 0))), (a2, .inl (q.2.2.1, 24, .inl (fun _ => 0))), (a3, .inl (q.2.2.2, 24, .inl (fun _ => 0))), (a4, .inl (q.2.2.1, 24, .inl (fun _ => 0)))] H := hP
  have hD : va_D A [(h0, .inr (0, [.int 0, .ref a0, .ref a1, .int 0, .int 0, .ref a2, .ref a3, .ref a4, .null, .null, .int 0, .int 0, .int 0, .int 0, .int 0, .null, .null])), (a0, .inl (q.2.2.1, 24, .inl (fun _ => 0))), (a1, .inl (q.2.2.1, 24, .inl (fun _ => 0))), (a2, .inl (q.2.2.1, 24, .inl (fun _ => 0))), (a3, .inl (q.2.2.2, 24, .inl (fun _ => 0))), (a4, .inl (q.2.2.1, 24, .inl (fun _ => 0)))] := hD
  refine lv_aload_n (pc := 44) hx hb dX0_init_44 rfl (lv_at hl 0 rfl) ?_
  refine lv_bipush (pc := 45) (v := 24) hx hb dX0_init_45 (by decide) ?_
  refine va_newa (pc := 47) (atype := .int) (ty := .int) (N' := 24) (a0 := (24, .inl (fun _ => 0))) hx hb (hts _ q89) rfl hK hP hD hS hA (fun _ => rfl) (by decide) (by decide) (by decide) (Nat.le_of_ble_eq_true rfl) (Nat.le_of_ble_eq_true rfl) dX0_init_47 (fun a5 cA H hK1 hP hD hS => ?_)
  obtain rfl : cA = q.2.2.1 := fz_same hK1 (i := 0) (j := 2) rfl rfl (by simp)
  have hP : va_P q.2.1 vwCl [(h0, .inr (0, [.int 0, .ref a0, .ref a1, .int 0, .int 0, .ref a2, .ref a3, .ref a4, .null, .null, .int 0, .int 0, .int 0, .int 0, .int 0, .null, .null])), (a0, .inl (q.2.2.1, 24, .inl (fun _ => 0))), (a1, .inl (q.2.2.1, 24, .inl (fun _ => 0))), (a2, .inl (q.2.2.1, 24, .inl (fun _ => 0))), (a3, .inl (q.2.2.2, 24, .inl (fun _ => 0))), (a4, .inl (q.2.2.1, 24, .inl (fun _ => 0))), (a5, .inl (q.2.2.1, 24, .inl (fun _ => 0)))] H := hP
  have hD : va_D A [(h0, .inr (0, [.int 0, .ref a0, .ref a1, .int 0, .int 0, .ref a2, .ref a3, .ref a4, .null, .null, .int 0, .int 0, .int 0, .int 0, .int 0, .null, .null])), (a0, .inl (q.2.2.1, 24, .inl (fun _ => 0))), (a1, .inl (q.2.2.1, 24, .inl (fun _ => 0))), (a2, .inl (q.2.2.1, 24, .inl (fun _ => 0))), (a3, .inl (q.2.2.2, 24, .inl (fun _ => 0))), (a4, .inl (q.2.2.1, 24, .inl (fun _ => 0))), (a5, .inl (q.2.2.1, 24, .inl (fun _ => 0)))] := hD
  refine W.widen (k := 6) (n := 144) (Nat.le_of_ble_eq_true rfl) (Nat.le_of_ble_eq_true rfl) ?_
  refine va_putF (pc := 49) (D := q.2.1) (ci := 0) (v := .ref a5) (ty := .array .int) (C := RX0) (T := TX0) (N := 17) hx hb hts in_X0 tyX0 tyX0_ok nmX0 hown hK hP hD hS 0 rfl rfl 8 (by decide) (hts _ q45) (fun _ h9 => h9) rfl hin rfl (by decide +kernel) rfl rfl (Nat.le_of_ble_eq_true rfl) dX0_init_49 (fun H locs hP hD hS => ?_)
  have hP : va_P q.2.1 vwCl [(h0, .inr (0, [.int 0, .ref a0, .ref a1, .int 0, .int 0, .ref a2, .ref a3, .ref a4, .ref a5, .null, .int 0, .int 0, .int 0, .int 0, .int 0, .null, .null])), (a0, .inl (q.2.2.1, 24, .inl (fun _ => 0))), (a1, .inl (q.2.2.1, 24, .inl (fun _ => 0))), (a2, .inl (q.2.2.1, 24, .inl (fun _ => 0))), (a3, .inl (q.2.2.2, 24, .inl (fun _ => 0))), (a4, .inl (q.2.2.1, 24, .inl (fun _ => 0))), (a5, .inl (q.2.2.1, 24, .inl (fun _ => 0)))] H := hP
  have hD : va_D A [(h0, .inr (0, [.int 0, .ref a0, .ref a1, .int 0, .int 0, .ref a2, .ref a3, .ref a4, .ref a5, .null, .int 0, .int 0, .int 0, .int 0, .int 0, .null, .null])), (a0, .inl (q.2.2.1, 24, .inl (fun _ => 0))), (a1, .inl (q.2.2.1, 24, .inl (fun _ => 0))), (a2, .inl (q.2.2.1, 24, .inl (fun _ => 0))), (a3, .inl (q.2.2.2, 24, .inl (fun _ => 0))), (a4, .inl (q.2.2.1, 24, .inl (fun _ => 0))), (a5, .inl (q.2.2.1, 24, .inl (fun _ => 0)))] := hD
  refine lv_aload_n (pc := 52) hx hb dX0_init_52 rfl (lv_at hl 0 rfl) ?_
  refine lv_bipush (pc := 53) (v := 24) hx hb dX0_init_53 (by decide) ?_
  refine va_newa (pc := 55) (atype := .int) (ty := .int) (N' := 24) (a0 := (24, .inl (fun _ => 0))) hx hb (hts _ q89) rfl hK hP hD hS hA (fun _ => rfl) (by decide) (by decide) (by decide) (Nat.le_of_ble_eq_true rfl) (Nat.le_of_ble_eq_true rfl) dX0_init_55 (fun a6 cA H hK1 hP hD hS => ?_)
  obtain rfl : cA = q.2.2.1 := fz_same hK1 (i := 0) (j := 2) rfl rfl (by simp)
  have hP : va_P q.2.1 vwCl [(h0, .inr (0, [.int 0, .ref a0, .ref a1, .int 0, .int 0, .ref a2, .ref a3, .ref a4, .ref a5, .null, .int 0, .int 0, .int 0, .int 0, .int 0, .null, .null])), (a0, .inl (q.2.2.1, 24, .inl (fun _ => 0))), (a1, .inl (q.2.2.1, 24, .inl (fun _ => 0))), (a2, .inl (q.2.2.1, 24, .inl (fun _ => 0))), (a3, .inl (q.2.2.2, 24, .inl (fun _ => 0))), (a4, .inl (q.2.2.1, 24, .inl (fun _ => 0))), (a5, .inl (q.2.2.1, 24, .inl (fun _ => 0))), (a6, .inl (q.2.2.1, 24, .inl (fun _ => 0)))] H := hP
  have hD : va_D A [(h0, .inr (0, [.int 0, .ref a0, .ref a1, .int 0, .int 0, .ref a2, .ref a3, .ref a4, .ref a5, .null, .int 0, .int 0, .int 0, .int 0, .int 0, .null, .null])), (a0, .inl (q.2.2.1, 24, .inl (fun _ => 0))), (a1, .inl (q.2.2.1, 24, .inl (fun _ => 0))), (a2, .inl (q.2.2.1, 24, .inl (fun _ => 0))), (a3, .inl (q.2.2.2, 24, .inl (fun _ => 0))), (a4, .inl (q.2.2.1, 24, .inl (fun _ => 0))), (a5, .inl (q.2.2.1, 24, .inl (fun _ => 0))), (a6, .inl (q.2.2.1, 24, .inl (fun _ => 0)))] := hD
  refine W.widen (k := 7) (n := 168) (Nat.le_of_ble_eq_true rfl) (Nat.le_of_ble_eq_true rfl) ?_
  refine va_putF (pc := 57) (D := q.2.1) (ci := 0) (v := .ref a6) (ty := .array .int) (C := RX0) (T := TX0) (N := 17) hx hb hts in_X0 tyX0 tyX0_ok nmX0 hown hK hP hD hS 0 rfl rfl 9 (by decide) (hts _ q46) (fun _ h9 => h9) rfl hin rfl (by decide +kernel) rfl rfl (Nat.le_of_ble_eq_true rfl) dX0_init_57 (fun H locs hP hD hS => ?_)
  have hP : va_P q.2.1 vwCl [(h0, .inr (0, [.int 0, .ref a0, .ref a1, .int 0, .int 0, .ref a2, .ref a3, .ref a4, .ref a5, .ref a6, .int 0, .int 0, .int 0, .int 0, .int 0, .null, .null])), (a0, .inl (q.2.2.1, 24, .inl (fun _ => 0))), (a1, .inl (q.2.2.1, 24, .inl (fun _ => 0))), (a2, .inl (q.2.2.1, 24, .inl (fun _ => 0))), (a3, .inl (q.2.2.2, 24, .inl (fun _ => 0))), (a4, .inl (q.2.2.1, 24, .inl (fun _ => 0))), (a5, .inl (q.2.2.1, 24, .inl (fun _ => 0))), (a6, .inl (q.2.2.1, 24, .inl (fun _ => 0)))] H := hP
  have hD : va_D A [(h0, .inr (0, [.int 0, .ref a0, .ref a1, .int 0, .int 0, .ref a2, .ref a3, .ref a4, .ref a5, .ref a6, .int 0, .int 0, .int 0, .int 0, .int 0, .null, .null])), (a0, .inl (q.2.2.1, 24, .inl (fun _ => 0))), (a1, .inl (q.2.2.1, 24, .inl (fun _ => 0))), (a2, .inl (q.2.2.1, 24, .inl (fun _ => 0))), (a3, .inl (q.2.2.2, 24, .inl (fun _ => 0))), (a4, .inl (q.2.2.1, 24, .inl (fun _ => 0))), (a5, .inl (q.2.2.1, 24, .inl (fun _ => 0))), (a6, .inl (q.2.2.1, 24, .inl (fun _ => 0)))] := hD
  refine lv_aload_n (pc := 60) hx hb dX0_init_60 rfl (lv_at hl 0 rfl) ?_
  refine lv_bipush (pc := 61) (v := 9) hx hb dX0_init_61 (by decide) ?_
  refine va_newa (pc := 63) (atype := .int) (ty := .int) (N' := 9) (a0 := (9, .inl (fun _ => 0))) hx hb (hts _ q89) rfl hK hP hD hS hA (fun _ => rfl) (by decide) (by decide) (by decide) (Nat.le_of_ble_eq_true rfl) (Nat.le_of_ble_eq_true rfl) dX0_init_63 (fun a7 cA H hK1 hP hD hS => ?_)
  obtain rfl : cA = q.2.2.1 := fz_same hK1 (i := 0) (j := 2) rfl rfl (by simp)
  have hP : va_P q.2.1 vwCl [(h0, .inr (0, [.int 0, .ref a0, .ref a1, .int 0, .int 0, .ref a2, .ref a3, .ref a4, .ref a5, .ref a6, .int 0, .int 0, .int 0, .int 0, .int 0, .null, .null])), (a0, .inl (q.2.2.1, 24, .inl (fun _ => 0))), (a1, .inl (q.2.2.1, 24, .inl (fun _ => 0))), (a2, .inl (q.2.2.1, 24, .inl (fun _ => 0))), (a3, .inl (q.2.2.2, 24, .inl (fun _ => 0))), (a4, .inl (q.2.2.1, 24, .inl (fun _ => 0))), (a5, .inl (q.2.2.1, 24, .inl (fun _ => 0))), (a6, .inl (q.2.2.1, 24, .inl (fun _ => 0))), (a7, .inl (q.2.2.1, 9, .inl (fun _ => 0)))] H := hP
  have hD : va_D A [(h0, .inr (0, [.int 0, .ref a0, .ref a1, .int 0, .int 0, .ref a2, .ref a3, .ref a4, .ref a5, .ref a6, .int 0, .int 0, .int 0, .int 0, .int 0, .null, .null])), (a0, .inl (q.2.2.1, 24, .inl (fun _ => 0))), (a1, .inl (q.2.2.1, 24, .inl (fun _ => 0))), (a2, .inl (q.2.2.1, 24, .inl (fun _ => 0))), (a3, .inl (q.2.2.2, 24, .inl (fun _ => 0))), (a4, .inl (q.2.2.1, 24, .inl (fun _ => 0))), (a5, .inl (q.2.2.1, 24, .inl (fun _ => 0))), (a6, .inl (q.2.2.1, 24, .inl (fun _ => 0))), (a7, .inl (q.2.2.1, 9, .inl (fun _ => 0)))] := hD
  refine W.widen (k := 8) (n := 177) (Nat.le_of_ble_eq_true rfl) (Nat.le_of_ble_eq_true rfl) ?_
  refine va_putF (pc := 65) (D := q.2.1) (ci := 0) (v := .ref a7) (ty := .array .int) (C := RX0) (T := TX0) (N := 17) hx hb hts in_X0 tyX0 tyX0_ok nmX0 hown hK hP hD hS 0 rfl rfl 15 (by decide) (hts _ q52) (fun _ h9 => h9) rfl hin rfl (by decide +kernel) rfl rfl (Nat.le_of_ble_eq_true rfl) dX0_init_65 (fun H locs hP hD hS => ?_)
  have hP : va_P q.2.1 vwCl [(h0, .inr (0, [.int 0, .ref a0, .ref a1, .int 0, .int 0, .ref a2, .ref a3, .ref a4, .ref a5, .ref a6, .int 0, .int 0, .int 0, .int 0, .int 0, .ref a7, .null])), (a0, .inl (q.2.2.1, 24, .inl (fun _ => 0))), (a1, .inl (q.2.2.1, 24, .inl (fun _ => 0))), (a2, .inl (q.2.2.1, 24, .inl (fun _ => 0))), (a3, .inl (q.2.2.2, 24, .inl (fun _ => 0))), (a4, .inl (q.2.2.1, 24, .inl (fun _ => 0))), (a5, .inl (q.2.2.1, 24, .inl (fun _ => 0))), (a6, .inl (q.2.2.1, 24, .inl (fun _ => 0))), (a7, .inl (q.2.2.1, 9, .inl (fun _ => 0)))] H := hP
  have hD : va_D A [(h0, .inr (0, [.int 0, .ref a0, .ref a1, .int 0, .int 0, .ref a2, .ref a3, .ref a4, .ref a5, .ref a6, .int 0, .int 0, .int 0, .int 0, .int 0, .ref a7, .null])), (a0, .inl (q.2.2.1, 24, .inl (fun _ => 0))), (a1, .inl (q.2.2.1, 24, .inl (fun _ => 0))), (a2, .inl (q.2.2.1, 24, .inl (fun _ => 0))), (a3, .inl (q.2.2.2, 24, .inl (fun _ => 0))), (a4, .inl (q.2.2.1, 24, .inl (fun _ => 0))), (a5, .inl (q.2.2.1, 24, .inl (fun _ => 0))), (a6, .inl (q.2.2.1, 24, .inl (fun _ => 0))), (a7, .inl (q.2.2.1, 9, .inl (fun _ => 0)))] := hD
  refine lv_aload_n (pc := 68) hx hb dX0_init_68 rfl (lv_at hl 0 rfl) ?_
  refine lv_iconst (pc := 69) (v := 4) hx hb dX0_init_69 (by decide) ?_
  refine va_newa (pc := 70) (atype := .int) (ty := .int) (N' := 4) (a0 := (4, .inl (fun _ => 0))) hx hb (hts _ q89) rfl hK hP hD hS hA (fun _ => rfl) (by decide) (by decide) (by decide) (Nat.le_of_ble_eq_true rfl) (Nat.le_of_ble_eq_true rfl) dX0_init_70 (fun a8 cA H hK1 hP hD hS => ?_)
  obtain rfl : cA = q.2.2.1 := fz_same hK1 (i := 0) (j := 2) rfl rfl (by simp)
  have hP : va_P q.2.1 vwCl [(h0, .inr (0, [.int 0, .ref a0, .ref a1, .int 0, .int 0, .ref a2, .ref a3, .ref a4, .ref a5, .ref a6, .int 0, .int 0, .int 0, .int 0, .int 0, .ref a7, .null])), (a0, .inl (q.2.2.1, 24, .inl (fun _ => 0))), (a1, .inl (q.2.2.1, 24, .inl (fun _ => 0))), (a2, .inl (q.2.2.1, 24, .inl (fun _ => 0))), (a3, .inl (q.2.2.2, 24, .inl (fun _ => 0))), (a4, .inl (q.2.2.1, 24, .inl (fun _ => 0))), (a5, .inl (q.2.2.1, 24, .inl (fun _ => 0))), (a6, .inl (q.2.2.1, 24, .inl (fun _ => 0))), (a7, .inl (q.2.2.1, 9, .inl (fun _ => 0))), (a8, .inl (q.2.2.1, 4, .inl (fun _ => 0)))] H := hP
  have hD : va_D A [(h0, .inr (0, [.int 0, .ref a0, .ref a1, .int 0, .int 0, .ref a2, .ref a3, .ref a4, .ref a5, .ref a6, .int 0, .int 0, .int 0, .int 0, .int 0, .ref a7, .null])), (a0, .inl (q.2.2.1, 24, .inl (fun _ => 0))), (a1, .inl (q.2.2.1, 24, .inl (fun _ => 0))), (a2, .inl (q.2.2.1, 24, .inl (fun _ => 0))), (a3, .inl (q.2.2.2, 24, .inl (fun _ => 0))), (a4, .inl (q.2.2.1, 24, .inl (fun _ => 0))), (a5, .inl (q.2.2.1, 24, .inl (fun _ => 0))), (a6, .inl (q.2.2.1, 24, .inl (fun _ => 0))), (a7, .inl (q.2.2.1, 9, .inl (fun _ => 0))), (a8, .inl (q.2.2.1, 4, .inl (fun _ => 0)))] := hD
  refine W.widen (k := 9) (n := 181) (Nat.le_of_ble_eq_true rfl) (Nat.le_of_ble_eq_true rfl) ?_
  refine va_putF (pc := 72) (D := q.2.1) (ci := 0) (v := .ref a8) (ty := .array .int) (C := RX0) (T := TX0) (N := 17) hx hb hts in_X0 tyX0 tyX0_ok nmX0 hown hK hP hD hS 0 rfl rfl 16 (by decide) (hts _ q53) (fun _ h9 => h9) rfl hin rfl (by decide +kernel) rfl rfl (Nat.le_of_ble_eq_true rfl) dX0_init_72 (fun H locs hP hD hS => ?_)
  have hP : va_P q.2.1 vwCl [(h0, .inr (0, [.int 0, .ref a0, .ref a1, .int 0, .int 0, .ref a2, .ref a3, .ref a4, .ref a5, .ref a6, .int 0, .int 0, .int 0, .int 0, .int 0, .ref a7, .ref a8])), (a0, .inl (q.2.2.1, 24, .inl (fun _ => 0))), (a1, .inl (q.2.2.1, 24, .inl (fun _ => 0))), (a2, .inl (q.2.2.1, 24, .inl (fun _ => 0))), (a3, .inl (q.2.2.2, 24, .inl (fun _ => 0))), (a4, .inl (q.2.2.1, 24, .inl (fun _ => 0))), (a5, .inl (q.2.2.1, 24, .inl (fun _ => 0))), (a6, .inl (q.2.2.1, 24, .inl (fun _ => 0))), (a7, .inl (q.2.2.1, 9, .inl (fun _ => 0))), (a8, .inl (q.2.2.1, 4, .inl (fun _ => 0)))] H := hP
  have hD : va_D A [(h0, .inr (0, [.int 0, .ref a0, .ref a1, .int 0, .int 0, .ref a2, .ref a3, .ref a4, .ref a5, .ref a6, .int 0, .int 0, .int 0, .int 0, .int 0, .ref a7, .ref a8])), (a0, .inl (q.2.2.1, 24, .inl (fun _ => 0))), (a1, .inl (q.2.2.1, 24, .inl (fun _ => 0))), (a2, .inl (q.2.2.1, 24, .inl (fun _ => 0))), (a3, .inl (q.2.2.2, 24, .inl (fun _ => 0))), (a4, .inl (q.2.2.1, 24, .inl (fun _ => 0))), (a5, .inl (q.2.2.1, 24, .inl (fun _ => 0))), (a6, .inl (q.2.2.1, 24, .inl (fun _ => 0))), (a7, .inl (q.2.2.1, 9, .inl (fun _ => 0))), (a8, .inl (q.2.2.1, 4, .inl (fun _ => 0)))] := hD
  refine lv_aload_n (pc := 75) hx hb dX0_init_75 rfl (lv_at hl 0 rfl) ?_
  refine lv_iconst (pc := 76) (v := 0) hx hb dX0_init_76 (by decide) ?_
  refine va_put (pc := 77) (D := q.2.1) (ci := 0) (v := .int 0) (ty := .int) (C := RX0) (T := TX0) (N := 17) hx hb hts in_X0 tyX0 tyX0_ok nmX0 hown hK hP hD hS 0 rfl rfl 11 (by decide) (hts _ q48) (fun _ h9 => h9) rfl (by decide +kernel) rfl rfl (Nat.le_of_ble_eq_true rfl) dX0_init_77 (fun H locs hP hD hS => ?_)
  have hP : va_P q.2.1 vwCl [(h0, .inr (0, [.int 0, .ref a0, .ref a1, .int 0, .int 0, .ref a2, .ref a3, .ref a4, .ref a5, .ref a6, .int 0, .int 0, .int 0, .int 0, .int 0, .ref a7, .ref a8])), (a0, .inl (q.2.2.1, 24, .inl (fun _ => 0))), (a1, .inl (q.2.2.1, 24, .inl (fun _ => 0))), (a2, .inl (q.2.2.1, 24, .inl (fun _ => 0))), (a3, .inl (q.2.2.2, 24, .inl (fun _ => 0))), (a4, .inl (q.2.2.1, 24, .inl (fun _ => 0))), (a5, .inl (q.2.2.1, 24, .inl (fun _ => 0))), (a6, .inl (q.2.2.1, 24, .inl (fun _ => 0))), (a7, .inl (q.2.2.1, 9, .inl (fun _ => 0))), (a8, .inl (q.2.2.1, 4, .inl (fun _ => 0)))] H := hP
  have hD : va_D A [(h0, .inr (0, [.int 0, .ref a0, .ref a1, .int 0, .int 0, .ref a2, .ref a3, .ref a4, .ref a5, .ref a6, .int 0, .int 0, .int 0, .int 0, .int 0, .ref a7, .ref a8])), (a0, .inl (q.2.2.1, 24, .inl (fun _ => 0))), (a1, .inl (q.2.2.1, 24, .inl (fun _ => 0))), (a2, .inl (q.2.2.1, 24, .inl (fun _ => 0))), (a3, .inl (q.2.2.2, 24, .inl (fun _ => 0))), (a4, .inl (q.2.2.1, 24, .inl (fun _ => 0))), (a5, .inl (q.2.2.1, 24, .inl (fun _ => 0))), (a6, .inl (q.2.2.1, 24, .inl (fun _ => 0))), (a7, .inl (q.2.2.1, 9, .inl (fun _ => 0))), (a8, .inl (q.2.2.1, 4, .inl (fun _ => 0)))] := hD
  exact W.vret (pc := 80) hx hb hr (fun t ht hW => ⟨⟨(fun k => match k with | 1 => a0 | 2 => a1 | 5 => a2 | 6 => a3 | 7 => a4 | 8 => a5 | 9 => a6 | 15 => a7 | 16 => a8 | _ => 0), rfl, trivial, by rw [ht]; exact hP, va_K.moved hW.alike hK, hD⟩, hS.F ht⟩) hS.2.2 dX0_init_80
set_option maxHeartbeats 4000000 in
/-- FuelGateModel() -/
theorem m1_init (q : fz_Q) (h0 : Nat) : fz_MC q yX1_init cX1_init 1 5 92 h0 [(h0, .inr (1, [.int 0, .null, .null, .null, .null, .int 0, .int 0, .int 0, .int 0, .null]))] (fun ad : Nat → Nat => wm q (h0, ad) 0 0 0 0 0 (fun _ => 0) (fun _ => 0) (fun _ => 0) (fun _ => 0) (fun _ => 0)) := by
  intro sz
  refine Met.ofW (cc := cX1_init) (maxL := 1) (ret := none) (by decide) rfl ?_
  intro p e s m args below meth c s₁ B hml hv
  obtain ⟨rfl, hsz, hP, hK, hD0⟩ := hv
  have hx := B.exec
  have hb := B.bytes
  have hr := B.returns
  have hts0 := atoms_spec (ws := ws_ yX1_init cX1_init 1 none) B.pre
  have hts : ∀ w ∈ lw_all, w.before _ s = true := fun w h => hts0 w (List.mem_cons_of_mem _ h)
  have hown : s.vm.findClass RX1 = some m.cls := findClass_of_methodNamed B.named
  have hlocks := B.notSynchronized
  have hin : meth.name = "<init>" := (name_of_methodNamed B.named B.method).1
  subst hsz
  have hD := hD0.self (sz := s.heap.size)
  generalize hAe : va_A [(h0, .inr (1, [.int 0, .null, .null, .null, .null, .int 0, .int 0, .int 0, .int 0, .null]))] s.heap.size = A at hD ⊢
  have hA : ∀ a : Nat, s.heap.size ≤ a → A a := fun a h => by rw [← hAe]; exact Or.inr h
  have hS : va_S A s.heap s.heap [] := va_S.rf
  have hl := lv_entry ([.ref h0]) (n := 1) (Nat.le_of_ble_eq_true rfl)
  rw [lg_entry_eq]
  generalize (lg_sl ([.ref h0]) ++ List.replicate (1 - (lg_sl ([.ref h0])).length) Slot.unset).toArray = ls at hl ⊢
  have hl : lv_has ls 1 [(0, .ref h0)] := hl
  refine lv_aload_n (pc := 0) hx hb dX1_init_0 rfl (lv_at hl 0 rfl) ?_
  refine W.objInit hx hb hown (hts _ q212) (hts _ q35) (hts _ q36) rfl (by rw [hml]; exact hl.1) rfl dX1_init_1 (Nat.le_of_ble_eq_true rfl) (Nat.le_of_ble_eq_true rfl) ?_
  refine W.eq (g2 := F0 m 4 ls []) rfl ?_
  refine lv_aload_n (pc := 4) hx hb dX1_init_4 rfl (lv_at hl 0 rfl) ?_
  refine lv_bipush (pc := 5) (v := 24) hx hb dX1_init_5 (by decide) ?_
  refine va_newa (pc := 7) (atype := .int) (ty := .int) (N' := 24) (a0 := (24, .inl (fun _ => 0))) hx hb (hts _ q89) rfl hK hP hD hS hA (fun _ => rfl) (by decide) (by decide) (by decide) (Nat.le_of_ble_eq_true rfl) (Nat.le_of_ble_eq_true rfl) dX1_init_7 (fun a0 cA H hK1 hP hD hS => ?_)
  obtain rfl : cA = q.2.2.1 := fz_same hK1 (i := 0) (j := 2) rfl rfl (by simp)
  have hP : va_P q.2.1 vwCl [(h0, .inr (1, [.int 0, .null, .null, .null, .null, .int 0, .int 0, .int 0, .int 0, .null])), (a0, .inl (q.2.2.1, 24, .inl (fun _ => 0)))] H := hP
  have hD : va_D A [(h0, .inr (1, [.int 0, .null, .null, .null, .null, .int 0, .int 0, .int 0, .int 0, .null])), (a0, .inl (q.2.2.1, 24, .inl (fun _ => 0)))] := hD
  refine W.widen (k := 1) (n := 24) (Nat.le_of_ble_eq_true rfl) (Nat.le_of_ble_eq_true rfl) ?_
  refine va_putF (pc := 9) (D := q.2.1) (ci := 1) (v := .ref a0) (ty := .array .int) (C := RX1) (T := TX1) (N := 10) hx hb hts in_X1 tyX1 tyX1_ok nmX1 hown hK hP hD hS 0 rfl rfl 1 (by decide) (hts _ q214) (fun _ h9 => h9) rfl hin rfl (by decide +kernel) rfl rfl (Nat.le_of_ble_eq_true rfl) dX1_init_9 (fun H locs hP hD hS => ?_)
  have hP : va_P q.2.1 vwCl [(h0, .inr (1, [.int 0, .ref a0, .null, .null, .null, .int 0, .int 0, .int 0, .int 0, .null])), (a0, .inl (q.2.2.1, 24, .inl (fun _ => 0)))] H := hP
  have hD : va_D A [(h0, .inr (1, [.int 0, .ref a0, .null, .null, .null, .int 0, .int 0, .int 0, .int 0, .null])), (a0, .inl (q.2.2.1, 24, .inl (fun _ => 0)))] := hD
  refine lv_aload_n (pc := 12) hx hb dX1_init_12 rfl (lv_at hl 0 rfl) ?_
  refine lv_bipush (pc := 13) (v := 24) hx hb dX1_init_13 (by decide) ?_
  refine va_newa (pc := 15) (atype := .int) (ty := .int) (N' := 24) (a0 := (24, .inl (fun _ => 0))) hx hb (hts _ q89) rfl hK hP hD hS hA (fun _ => rfl) (by decide) (by decide) (by decide) (Nat.le_of_ble_eq_true rfl) (Nat.le_of_ble_eq_true rfl) dX1_init_15 (fun a1 cA H hK1 hP hD hS => ?_)
  obtain rfl : cA = q.2.2.1 := fz_same hK1 (i := 0) (j := 2) rfl rfl (by simp)
  have hP : va_P q.2.1 vwCl [(h0, .inr (1, [.int 0, .ref a0, .null, .null, .null, .int 0, .int 0, .int 0, .int 0, .null])), (a0, .inl (q.2.2.1, 24, .inl (fun _ => 0))), (a1, .inl (q.2.2.1, 24, .inl (fun _ => 0)))] H := hP
  have hD : va_D A [(h0, .inr (1, [.int 0, .ref a0, .null, .null, .null, .int 0, .int 0, .int 0, .int 0, .null])), (a0, .inl (q.2.2.1, 24, .inl (fun _ => 0))), (a1, .inl (q.2.2.1, 24, .inl (fun _ => 0)))] := hD
  refine W.widen (k := 2) (n := 48) (Nat.le_of_ble_eq_true rfl) (Nat.le_of_ble_eq_true rfl) ?_
  refine va_putF (pc := 17) (D := q.2.1) (ci := 1) (v := .ref a1) (ty := .array .int) (C := RX1) (T := TX1) (N := 10) hx hb hts in_X1 tyX1 tyX1_ok nmX1 hown hK hP hD hS 0 rfl rfl 2 (by decide) (hts _ q215) (fun _ h9 => h9) rfl hin rfl (by decide +kernel) rfl rfl (Nat.le_of_ble_eq_true rfl) dX1_init_17 (fun H locs hP hD hS => ?_)
  have hP : va_P q.2.1 vwCl [(h0, .inr (1, [.int 0, .ref a0, .ref a1, .null, .null, .int 0, .int 0, .int 0, .int 0, .null])), (a0, .inl (q.2.2.1, 24, .inl (fun _ => 0))), (a1, .inl (q.2.2.1, 24, .inl (fun _ => 0)))] H := hP
  have hD : va_D A [(h0, .inr (1, [.int 0, .ref a0, .ref a1, .null, .null, .int 0, .int 0, .int 0, .int 0, .null])), (a0, .inl (q.2.2.1, 24, .inl (fun _ => 0))), (a1, .inl (q.2.2.1, 24, .inl (fun _ => 0)))] := hD
  refine lv_aload_n (pc := 20) hx hb dX1_init_20 rfl (lv_at hl 0 rfl) ?_
  refine lv_iconst (pc := 21) (v := 4) hx hb dX1_init_21 (by decide) ?_
  refine va_newa (pc := 22) (atype := .int) (ty := .int) (N' := 4) (a0 := (4, .inl (fun _ => 0))) hx hb (hts _ q89) rfl hK hP hD hS hA (fun _ => rfl) (by decide) (by decide) (by decide) (Nat.le_of_ble_eq_true rfl) (Nat.le_of_ble_eq_true rfl) dX1_init_22 (fun a2 cA H hK1 hP hD hS => ?_)
  obtain rfl : cA = q.2.2.1 := fz_same hK1 (i := 0) (j := 2) rfl rfl (by simp)
  have hP : va_P q.2.1 vwCl [(h0, .inr (1, [.int 0, .ref a0, .ref a1, .null, .null, .int 0, .int 0, .int 0, .int 0, .null])), (a0, .inl (q.2.2.1, 24, .inl (fun _ => 0))), (a1, .inl (q.2.2.1, 24, .inl (fun _ => 0))), (a2, .inl (q.2.2.1, 4, .inl (fun _ => 0)))] H := hP
  have hD : va_D A [(h0, .inr (1, [.int 0, .ref a0, .ref a1, .null, .null, .int 0, .int 0, .int 0, .int 0, .null])), (a0, .inl (q.2.2.1, 24, .inl (fun _ => 0))), (a1, .inl (q.2.2.1, 24, .inl (fun _ => 0))), (a2, .inl (q.2.2.1, 4, .inl (fun _ => 0)))] := hD
  refine W.widen (k := 3) (n := 52) (Nat.le_of_ble_eq_true rfl) (Nat.le_of_ble_eq_true rfl) ?_
  refine va_putF (pc := 24) (D := q.2.1) (ci := 1) (v := .ref a2) (ty := .array .int) (C := RX1) (T := TX1) (N := 10) hx hb hts in_X1 tyX1 tyX1_ok nmX1 hown hK hP hD hS 0 rfl rfl 3 (by decide) (hts _ q216) (fun _ h9 => h9) rfl hin rfl (by decide +kernel) rfl rfl (Nat.le_of_ble_eq_true rfl) dX1_init_24 (fun H locs hP hD hS => ?_)
  have hP : va_P q.2.1 vwCl [(h0, .inr (1, [.int 0, .ref a0, .ref a1, .ref a2, .null, .int 0, .int 0, .int 0, .int 0, .null])), (a0, .inl (q.2.2.1, 24, .inl (fun _ => 0))), (a1, .inl (q.2.2.1, 24, .inl (fun _ => 0))), (a2, .inl (q.2.2.1, 4, .inl (fun _ => 0)))] H := hP
  have hD : va_D A [(h0, .inr (1, [.int 0, .ref a0, .ref a1, .ref a2, .null, .int 0, .int 0, .int 0, .int 0, .null])), (a0, .inl (q.2.2.1, 24, .inl (fun _ => 0))), (a1, .inl (q.2.2.1, 24, .inl (fun _ => 0))), (a2, .inl (q.2.2.1, 4, .inl (fun _ => 0)))] := hD
  refine lv_aload_n (pc := 27) hx hb dX1_init_27 rfl (lv_at hl 0 rfl) ?_
  refine lv_bipush (pc := 28) (v := 24) hx hb dX1_init_28 (by decide) ?_
  refine va_newa (pc := 30) (atype := .int) (ty := .int) (N' := 24) (a0 := (24, .inl (fun _ => 0))) hx hb (hts _ q89) rfl hK hP hD hS hA (fun _ => rfl) (by decide) (by decide) (by decide) (Nat.le_of_ble_eq_true rfl) (Nat.le_of_ble_eq_true rfl) dX1_init_30 (fun a3 cA H hK1 hP hD hS => ?_)
  obtain rfl : cA = q.2.2.1 := fz_same hK1 (i := 0) (j := 2) rfl rfl (by simp)
  have hP : va_P q.2.1 vwCl [(h0, .inr (1, [.int 0, .ref a0, .ref a1, .ref a2, .null, .int 0, .int 0, .int 0, .int 0, .null])), (a0, .inl (q.2.2.1, 24, .inl (fun _ => 0))), (a1, .inl (q.2.2.1, 24, .inl (fun _ => 0))), (a2, .inl (q.2.2.1, 4, .inl (fun _ => 0))), (a3, .inl (q.2.2.1, 24, .inl (fun _ => 0)))] H := hP
  have hD : va_D A [(h0, .inr (1, [.int 0, .ref a0, .ref a1, .ref a2, .null, .int 0, .int 0, .int 0, .int 0, .null])), (a0, .inl (q.2.2.1, 24, .inl (fun _ => 0))), (a1, .inl (q.2.2.1, 24, .inl (fun _ => 0))), (a2, .inl (q.2.2.1, 4, .inl (fun _ => 0))), (a3, .inl (q.2.2.1, 24, .inl (fun _ => 0)))] := hD
  refine W.widen (k := 4) (n := 76) (Nat.le_of_ble_eq_true rfl) (Nat.le_of_ble_eq_true rfl) ?_
  refine va_putF (pc := 32) (D := q.2.1) (ci := 1) (v := .ref a3) (ty := .array .int) (C := RX1) (T := TX1) (N := 10) hx hb hts in_X1 tyX1 tyX1_ok nmX1 hown hK hP hD hS 0 rfl rfl 4 (by decide) (hts _ q217) (fun _ h9 => h9) rfl hin rfl (by decide +kernel) rfl rfl (Nat.le_of_ble_eq_true rfl) dX1_init_32 (fun H locs hP hD hS => ?_)
  have hP : va_P q.2.1 vwCl [(h0, .inr (1, [.int 0, .ref a0, .ref a1, .ref a2, .ref a3, .int 0, .int 0, .int 0, .int 0, .null])), (a0, .inl (q.2.2.1, 24, .inl (fun _ => 0))), (a1, .inl (q.2.2.1, 24, .inl (fun _ => 0))), (a2, .inl (q.2.2.1, 4, .inl (fun _ => 0))), (a3, .inl (q.2.2.1, 24, .inl (fun _ => 0)))] H := hP
  have hD : va_D A [(h0, .inr (1, [.int 0, .ref a0, .ref a1, .ref a2, .ref a3, .int 0, .int 0, .int 0, .int 0, .null])), (a0, .inl (q.2.2.1, 24, .inl (fun _ => 0))), (a1, .inl (q.2.2.1, 24, .inl (fun _ => 0))), (a2, .inl (q.2.2.1, 4, .inl (fun _ => 0))), (a3, .inl (q.2.2.1, 24, .inl (fun _ => 0)))] := hD
  refine lv_aload_n (pc := 35) hx hb dX1_init_35 rfl (lv_at hl 0 rfl) ?_
  refine lv_bipush (pc := 36) (v := 16) hx hb dX1_init_36 (by decide) ?_
  refine va_newa (pc := 38) (atype := .int) (ty := .int) (N' := 16) (a0 := (16, .inl (fun _ => 0))) hx hb (hts _ q89) rfl hK hP hD hS hA (fun _ => rfl) (by decide) (by decide) (by decide) (Nat.le_of_ble_eq_true rfl) (Nat.le_of_ble_eq_true rfl) dX1_init_38 (fun a4 cA H hK1 hP hD hS => ?_)
  obtain rfl : cA = q.2.2.1 := fz_same hK1 (i := 0) (j := 2) rfl rfl (by simp)
  have hP : va_P q.2.1 vwCl [(h0, .inr (1, [.int 0, .ref a0, .ref a1, .ref a2, .ref a3, .int 0, .int 0, .int 0, .int 0, .null])), (a0, .inl (q.2.2.1, 24, .inl (fun _ => 0))), (a1, .inl (q.2.2.1, 24, .inl (fun _ => 0))), (a2, .inl (q.2.2.1, 4, .inl (fun _ => 0))), (a3, .inl (q.2.2.1, 24, .inl (fun _ => 0))), (a4, .inl (q.2.2.1, 16, .inl (fun _ => 0)))] H := hP
  have hD : va_D A [(h0, .inr (1, [.int 0, .ref a0, .ref a1, .ref a2, .ref a3, .int 0, .int 0, .int 0, .int 0, .null])), (a0, .inl (q.2.2.1, 24, .inl (fun _ => 0))), (a1, .inl (q.2.2.1, 24, .inl (fun _ => 0))), (a2, .inl (q.2.2.1, 4, .inl (fun _ => 0))), (a3, .inl (q.2.2.1, 24, .inl (fun _ => 0))), (a4, .inl (q.2.2.1, 16, .inl (fun _ => 0)))] := hD
  refine W.widen (k := 5) (n := 92) (Nat.le_of_ble_eq_true rfl) (Nat.le_of_ble_eq_true rfl) ?_
  refine va_putF (pc := 40) (D := q.2.1) (ci := 1) (v := .ref a4) (ty := .array .int) (C := RX1) (T := TX1) (N := 10) hx hb hts in_X1 tyX1 tyX1_ok nmX1 hown hK hP hD hS 0 rfl rfl 9 (by decide) (hts _ q222) (fun _ h9 => h9) rfl hin rfl (by decide +kernel) rfl rfl (Nat.le_of_ble_eq_true rfl) dX1_init_40 (fun H locs hP hD hS => ?_)
  have hP : va_P q.2.1 vwCl [(h0, .inr (1, [.int 0, .ref a0, .ref a1, .ref a2, .ref a3, .int 0, .int 0, .int 0, .int 0, .ref a4])), (a0, .inl (q.2.2.1, 24, .inl (fun _ => 0))), (a1, .inl (q.2.2.1, 24, .inl (fun _ => 0))), (a2, .inl (q.2.2.1, 4, .inl (fun _ => 0))), (a3, .inl (q.2.2.1, 24, .inl (fun _ => 0))), (a4, .inl (q.2.2.1, 16, .inl (fun _ => 0)))] H := hP
  have hD : va_D A [(h0, .inr (1, [.int 0, .ref a0, .ref a1, .ref a2, .ref a3, .int 0, .int 0, .int 0, .int 0, .ref a4])), (a0, .inl (q.2.2.1, 24, .inl (fun _ => 0))), (a1, .inl (q.2.2.1, 24, .inl (fun _ => 0))), (a2, .inl (q.2.2.1, 4, .inl (fun _ => 0))), (a3, .inl (q.2.2.1, 24, .inl (fun _ => 0))), (a4, .inl (q.2.2.1, 16, .inl (fun _ => 0)))] := hD
  exact W.vret (pc := 43) hx hb hr (fun t ht hW => ⟨⟨(fun k => match k with | 1 => a0 | 2 => a1 | 3 => a2 | 4 => a3 | 9 => a4 | _ => 0), rfl, trivial, by rw [ht]; exact hP, va_K.moved hW.alike hK, hD⟩, hS.F ht⟩) hS.2.2 dX1_init_43
end
section
set_option maxRecDepth 100000
/-! the plain law: what holds between the two objects, and that each pair of answers agrees -/
def LJ (n f d e : Nat) (ck gd st pt : Int32) (op cn ht bc be sk ce : Nat → Int32) : Prop := n ≤ 24 ∧ OpOK n op ∧ CK n op cn ck gd ht bc be ∧ f ≤ 2000 ∧ d ≤ 8 ∧ ((st = 0 ∧ e = 0) ∨ ((st = 1 ∨ st = 2) ∧ e = d ∧ ck = 1 ∧ gd = 1 ∧ Ok1 n ht (pt, d, sk, ce)))
theorem LJ_start (op cn ht bc be sk ce : Nat → Int32) (gd pt : Int32) {d : Nat} (hd : d ≤ 8) : LJ 0 0 d 0 0 gd 0 pt op cn ht bc be sk ce := ⟨by decide, fun p hp => absurd hp (Nat.not_lt_zero _), Or.inl rfl, by decide, hd, Or.inl ⟨rfl, rfl⟩⟩
theorem LJ_ce {n f d e : Nat} {ck gd st pt : Int32} {op cn ht bc be sk ce ce' : Nat → Int32} (h : LJ n f d e ck gd st pt op cn ht bc be sk ce) : LJ n f d e ck gd st pt op cn ht bc be sk ce' := by
  obtain ⟨h1, h2, h3, h4, h5, h6⟩ := h
  refine ⟨h1, h2, h3, h4, h5, ?_⟩
  rcases h6 with a | ⟨a1, a2, a3, a4, a5⟩
  · exact Or.inl a
  · obtain ⟨x, y1, y2, y3, y4⟩ := a5
    exact Or.inr ⟨a1, a2, a3, a4, x, y1, y2, y3, y4⟩
/-- emit that goes through -/
theorem LJ_emit {n f d e : Nat} {ck gd st pt : Int32} {op cn ht bc be sk ce : Nat → Int32} {c : Nat} (h : LJ n f d e ck gd st pt op cn ht bc be sk ce) (hc : c < 15) (hn : n < 24) (cn' : Nat → Int32) : LJ (n + 1) 0 d 0 0 gd 0 pt (upd op n (nI c)) cn' ht bc be sk ce := by
  obtain ⟨h1, h2, h3, h4, h5, h6⟩ := h
  refine ⟨by omega, fun p hp => ?_, Or.inl rfl, by decide, h5, Or.inl ⟨rfl, rfl⟩⟩
  by_cases e : p = n
  · rw [e]; exact ⟨c, hc, pk_us⟩
  · rw [pk_un e]; exact h2 p (by omega)
/-- what check leaves -/
theorem LJ_check {n f d e : Nat} {ck gd gd' st pt : Int32} {op cn ht bc be ht' bc' be' sk ce : Nat → Int32} (h : LJ n f d e ck gd st pt op cn ht bc be sk ce) (hc : CK n op cn 1 gd' ht' bc' be') : LJ n f d e 1 gd' st pt op cn ht' bc' be' sk ce := by
  obtain ⟨h1, h2, h3, h4, h5, h6⟩ := h
  refine ⟨h1, h2, hc, h4, h5, ?_⟩
  rcases h6 with a | ⟨a1, a2, a3, a4, a5⟩
  · exact Or.inl a
  · subst a3; subst a4
    obtain ⟨-, b1, b2, b3, -⟩ := CK_good h3 (by decide +kernel)
    have hg : ¬ gd' = 0 := fun z => by
      rcases hc with w | ⟨-, w | w⟩
      · exact absurd w (by decide +kernel)
      · exact absurd (w.1.symm.trans z) (by decide +kernel)
      · exact w.2 _ b1
    obtain ⟨c0, c1, c2, c3, -⟩ := CK_good hc hg
    obtain ⟨x, y1, y2, y3, y4⟩ := a5
    exact Or.inr ⟨a1, a2, rfl, c0, x, y1, y2, by rw [Cl_uniq h1 c3 b3 c1 b1 c2 b2 x y2]; exact y3, y4⟩
/-- the two checks agree -/
theorem CK_SP {n : Nat} {op cn ht bc be u : Nat → Int32} {gd g : Int32} (hn : n ≤ 24) (hc : CK n op cn 1 gd ht bc be) (hs : SPx n op cn g u) : (gd = 0 ∧ g = 0) ∨ (gd = 1 ∧ g = 1 ∧ (∀ p, p < n → ht p = u p) ∧ Cl n op cn ht) := by
  rcases hc with w | ⟨-, w | w⟩
  · exact absurd w (by decide +kernel)
  · rcases hs with v | v
    · exact Or.inr ⟨w.1, v.1, Cl_uniq hn w.2.2.2.1 v.2.2.2 w.2.1 v.2.1 w.2.2.1 v.2.2.1, w.2.1⟩
    · exact absurd w.2.1 (v.2 _)
  · rcases hs with v | v
    · exact absurd v.2.1 (w.2 _)
    · exact Or.inl ⟨w.1, v.1⟩
theorem CK_SP_eq {n : Nat} {op cn ht bc be u : Nat → Int32} {gd g : Int32} (hn : n ≤ 24) (hc : CK n op cn 1 gd ht bc be) (hs : SPx n op cn g u) : gd = g := by
  rcases CK_SP hn hc hs with a | a
  · rw [a.1, a.2]
  · rw [a.1, a.2.1]
theorem hgF_same {n : Nat} {op cn ht bc be u : Nat → Int32} {gd g : Int32} (hn : n ≤ 24) (hc : CK n op cn 1 gd ht bc be) (hs : SPx n op cn g u) (v : Int32) : hgF n gd ht v = hgF n g u v := by
  rcases CK_SP hn hc hs with a | ⟨a1, a2, a3, -⟩
  · rw [hgF_no (Or.inl a.1), hgF_no (Or.inl a.2)]
  · rcases fz_ix v (n := n) (by omega) with x | x | ⟨j, hj, rfl⟩
    · rw [hgF_no (Or.inr (Or.inl x)), hgF_no (Or.inr (Or.inl x))]
    · rw [hgF_no (Or.inr (Or.inr (Or.inl x))), hgF_no (Or.inr (Or.inr (Or.inl x)))]
    · have ecl : (nI j).toNatClampNeg = j := nI_clamp (by omega)
      unfold hgF
      rw [ecl, a1, a2, a3 j hj]
/-- both runs come to the same end -/
theorem run_same {op cn : Nat → Int32} {c0 : Cf} {k N : Nat} (hk : mu op cn (itN (mu op cn) k c0) = itN (mu op cn) k c0) (hN : N = 2001) (hf : c0.2.1 ≤ 2000) : itN (mu op cn) N c0 = itN (mu op cn) k c0 := itN_uniq (mu_fixed N c0 (by omega)) hk
theorem fst2_z (b : Bool) : fst2 b = 1 ∨ fst2 b = 2 := by
  cases b
  · exact Or.inr rfl
  · exact Or.inl rfl
/-- behind a run -/
theorem LJ_ran {n : Nat} {gd : Int32} {op cn ht bc be : Nat → Int32} {k : Nat} {c0 : Cf} (hn : n ≤ 24) (hop : OpOK n op) (hc : CK n op cn 1 gd ht bc be) (hg : gd = 1) (hok : Ok1 n ht c0.2.2) (hf : c0.2.1 ≤ 2000) :
    LJ n (itN (mu op cn) k c0).2.1 (itN (mu op cn) k c0).2.2.2.1 (itN (mu op cn) k c0).2.2.2.1 1 gd (fst2 (itN (mu op cn) k c0).1) (itN (mu op cn) k c0).2.2.1 op cn ht bc be (itN (mu op cn) k c0).2.2.2.2.1 (itN (mu op cn) k c0).2.2.2.2.2 := by
  have hcl := (CK_good hc (by rw [hg]; decide +kernel)).2.1
  have h1 := ok1_mus hn hop hcl k c0 hok
  have h2 := mus_le op cn k c0
  generalize itN (mu op cn) k c0 = cf at h1 h2 ⊢
  obtain ⟨x, y1, y2, y3, y4⟩ := h1
  exact ⟨hn, hop, hc, by omega, y4, Or.inr ⟨fst2_z _, rfl, rfl, hg, x, y1, y2, y3, y4⟩⟩
end
section
set_option maxRecDepth 100000
/-! THE CLAIM OUT OF ONE WALK OF THE LAW'S BODY. Your part is whole_start (and what it stands on); all else here is the same for every law, but numbers. -/
def R_law : String := "FuelGateLaw"
def lw_P (b : Addr) (xs : List Int32) (args : Array Value) (s : State) : Prop := args = #[.ref b] ∧ s.IntsAt b xs ∧ xs.length ≤ 192 ∧ (Jvm.Cond.and given_1 narrow_1).before args s = true
def lw_Q (_ : Array Value) (s : State) (o : Outcome) (t : State) : Prop := o = .returned (some (.int 1)) ∧ Framed s o t [] 600000 7290000
def lw_Z (below : List Frame) (a : Array Value) (s : State) : State → Prop := fun t => ∃ o, t.status = .running ∧ Ended t below o ∧ lw_Q a s o t
/-- the law's own end, with 1 on the stack, nothing written that was there before, its room as the claim has it -/
theorem lw_ret {p : Program} {l : Launch} {e : Env} {s : State} {m : MethodId} {below : List Frame} {meth : Method} {c : Code} {b : Nat} (hx : p.tables.exec = Jvm.exec) (hb : c.code = code) (hr : meth.sig.returnType = ret) (hlocks : meth.locks = false) {pc : Nat} {H : Heap} {ls : Array Slot} (hdg : decode code pc = .ok (.ireturn, 1)) : W p l e room_1 s m #[Value.ref b] below meth c H [] 600000 7290000 (lw_Z below #[Value.ref b] s) (F0 m pc ls [.int 1]) := by
  intro T hT X
  obtain ⟨fs, hret, hrun, hended, hW, hframe⟩ := X.leave (v := some (.int 1)) (hlocks := hlocks) (fun h => by rw [hr] at h; cases h)
  have hmeth' : T.vm.method? m = some meth := X.method'
  refine ⟨T.setFrames fs, ?_, .returned (some (.int 1)), hrun, hended, rfl, ⟨_, rfl⟩, hW, hframe⟩
  jvm_step X.here [X.here.top, hx, hb, hdg, hmeth', hr, ret, narrow_b1]
  (try refine ⟨rfl, ?_⟩); (try refine ⟨rfl, ?_⟩)
  first | (intro acts; rw [hret _ acts rfl rfl rfl]) | rw [hret _ _ rfl rfl rfl]
  exact Steps.refl _
/-- what holds at the law's entry: the machine, the code, the tables' words (any of lw_tbl by 'hts w (by decide +kernel)'), the script of L ints xs at the cell b, what the Statement gives of the start (any of its parts by flat_of_before) -/
def lw_At (p : Program) (s : State) (m : MethodId) (meth : Method) (c : Code) (b L : Nat) (xs : Nat → Int32) : Prop :=
  p.tables.exec = Jvm.exec ∧ c.code = code ∧ meth.sig.returnType = ret ∧ c.maxLocals = 4 ∧ s.vm.findClass R_law = some m.cls ∧ (∀ w ∈ lw_tbl, w.before #[Value.ref b] s = true) ∧ va_X b L xs s s.heap ∧ b < s.heap.size ∧ meth.locks = false ∧ (Jvm.Cond.and given_1 narrow_1).before #[Value.ref b] s = true
/-! the law's own rules: the script, and the calls -/
def fz_scr (x : fz_X) (b L : Nat) (xs : Nat → Int32) : Prop := match x with
  | (_, _, _, s, _, _, _, _, _, A, _, _, _) => va_X b L xs s s.heap ∧ b < s.heap.size ∧ ¬ A b
section FZL
variable {q : fz_Q} {x : fz_X} {cc : ByteArray} {n : Nat} {own : String} {k : Nat} {ws : va_W} {pc : Nat} {lc st : List Value} {b L : Nat} {xs : Nat → Int32}
theorem fz_sld (ok : fz_ok q x cc n own k) (hX : fz_scr x b L xs) (hL : L < 2 ^ 31) {i : Int32} (d : decode cc pc = .ok (.iaload, 1)) (j : Nat) (hi : i = nI j) (hj : j < L) (kk : fz_A q x ws (pc + 1) lc (.int (xs j) :: st)) : fz_A q x ws pc lc (.int i :: .ref b :: st) := by
  subst hi
  obtain ⟨p, e, R, s, m, args, below, meth, c, A, Qf, nc, ns⟩ := x
  obtain ⟨hx, hb, hml, hown, hts, hK, hA, hfr, hlo, hce, hsl⟩ := ok
  obtain ⟨h1, h2, h3⟩ := hX
  intro H locs ls hP hD hS hl
  refine va_sld hx hb h1 h2 h3 hS (vp_in_nI hj hL) d ?_
  rw [nI_clamp (Nat.lt_trans hj hL)]
  exact kk H locs ls hP hD hS hl
theorem fz_slen (ok : fz_ok q x cc n own k) (hX : fz_scr x b L xs) (d : decode cc pc = .ok (.arraylength, 1)) (kk : fz_A q x ws (pc + 1) lc (.int (nI L) :: st)) : fz_A q x ws pc lc (.ref b :: st) := by
  obtain ⟨p, e, R, s, m, args, below, meth, c, A, Qf, nc, ns⟩ := x
  obtain ⟨hx, hb, hml, hown, hts, hK, hA, hfr, hlo, hce, hsl⟩ := ok
  obtain ⟨h1, h2, h3⟩ := hX
  intro H locs ls hP hD hS hl
  exact va_slen hx hb h1 h2 h3 hS d (kk H locs ls hP hD hS hl)
end FZL
section FZLC
variable {q : fz_Q} {x : fz_X} {cc : ByteArray} {n : Nat} {k : Nat} {w w2 : va_W} {pc : Nat} {lc stk : List Value} {kc a : Nat} {fs : List Value} {S : Type} {w' : S → va_W} {v1 v2 : Int32}
theorem cdL0_emit : yX0_emit.cls = RX0 ∧ yX0_emit.cls ≠ "java/lang/invoke/MethodHandle" ∧ yX0_emit.cls ≠ "java/lang/invoke/VarHandle" ∧ (parseMethodDescriptor yX0_emit.desc).map (fun d => d.parameters.length) = some 2 := by decide +kernel
theorem kL0_emit (ok : fz_ok q x cc n R_law k) {post : Int32 → S → Prop} (hM : fz_Mi q yX0_emit cX0_emit 3 kc .int (.ref a :: [.int v1, .int v2]) w post w') (he : w[0]? = some (a, .inr (0, fs))) (hk : kc + 1 ≤ k) (hst : (stk.map fun v => v.category).sum ≤ 8) (d : decode cc pc = .ok (.invokevirtual 13, 3)) (kk : ∀ (r : Int32) (u : S), post r u → fz_A q x (w' u ++ w2) (pc + 3) lc (.int r :: stk)) : fz_A q x (w ++ w2) pc lc (.int v2 :: .int v1 :: .ref a :: stk) := fz_cVi (As := [.int v1, .int v2]) (C := RX0) (ci := 0) ok hM (lw_V q91 q92 q93 q27 q94) cdL0_emit he rfl hk (by decide) hst d kk
theorem cdL0_clear : yX0_clear.cls = RX0 ∧ yX0_clear.cls ≠ "java/lang/invoke/MethodHandle" ∧ yX0_clear.cls ≠ "java/lang/invoke/VarHandle" ∧ (parseMethodDescriptor yX0_clear.desc).map (fun d => d.parameters.length) = some 0 := by decide +kernel
theorem kL0_clear (ok : fz_ok q x cc n R_law k) {post : S → Prop} (hM : fz_Mv q yX0_clear cX0_clear 1 kc (.ref a :: []) w post w') (he : w[0]? = some (a, .inr (0, fs))) (hk : kc + 1 ≤ k) (hst : (stk.map fun v => v.category).sum ≤ 8) (d : decode cc pc = .ok (.invokevirtual 18, 3)) (kk : ∀ u : S, post u → fz_A q x (w' u ++ w2) (pc + 3) lc stk) : fz_A q x (w ++ w2) pc lc (.ref a :: stk) := fz_cVv (As := []) (C := RX0) (ci := 0) ok hM (lw_V q99 q100 q101 q27 q102) cdL0_clear he rfl hk (by decide) hst d kk
theorem cdL0_cell : yX0_cell.cls = RX0 ∧ yX0_cell.cls ≠ "java/lang/invoke/MethodHandle" ∧ yX0_cell.cls ≠ "java/lang/invoke/VarHandle" ∧ (parseMethodDescriptor yX0_cell.desc).map (fun d => d.parameters.length) = some 2 := by decide +kernel
theorem kL0_cell (ok : fz_ok q x cc n R_law k) {post : Int32 → S → Prop} (hM : fz_Mi q yX0_cell cX0_cell 4 kc .int (.ref a :: [.int v1, .int v2]) w post w') (he : w[0]? = some (a, .inr (0, fs))) (hk : kc + 1 ≤ k) (hst : (stk.map fun v => v.category).sum ≤ 8) (d : decode cc pc = .ok (.invokevirtual 22, 3)) (kk : ∀ (r : Int32) (u : S), post r u → fz_A q x (w' u ++ w2) (pc + 3) lc (.int r :: stk)) : fz_A q x (w ++ w2) pc lc (.int v2 :: .int v1 :: .ref a :: stk) := fz_cVi (As := [.int v1, .int v2]) (C := RX0) (ci := 0) ok hM (lw_V q103 q104 q105 q27 q106) cdL0_cell he rfl hk (by decide) hst d kk
theorem cdL0_run : yX0_run.cls = RX0 ∧ yX0_run.cls ≠ "java/lang/invoke/MethodHandle" ∧ yX0_run.cls ≠ "java/lang/invoke/VarHandle" ∧ (parseMethodDescriptor yX0_run.desc).map (fun d => d.parameters.length) = some 1 := by decide +kernel
theorem kL0_run (ok : fz_ok q x cc n R_law k) {post : Int32 → S → Prop} (hM : fz_Mi q yX0_run cX0_run 2 kc .int (.ref a :: [.int v1]) w post w') (he : w[0]? = some (a, .inr (0, fs))) (hk : kc + 1 ≤ k) (hst : (stk.map fun v => v.category).sum ≤ 8) (d : decode cc pc = .ok (.invokevirtual 26, 3)) (kk : ∀ (r : Int32) (u : S), post r u → fz_A q x (w' u ++ w2) (pc + 3) lc (.int r :: stk)) : fz_A q x (w ++ w2) pc lc (.int v1 :: .ref a :: stk) := fz_cVi (As := [.int v1]) (C := RX0) (ci := 0) ok hM (lw_V q107 q108 q109 q27 q110) cdL0_run he rfl hk (by decide) hst d kk
theorem cdL0_refuel : yX0_refuel.cls = RX0 ∧ yX0_refuel.cls ≠ "java/lang/invoke/MethodHandle" ∧ yX0_refuel.cls ≠ "java/lang/invoke/VarHandle" ∧ (parseMethodDescriptor yX0_refuel.desc).map (fun d => d.parameters.length) = some 1 := by decide +kernel
theorem kL0_refuel (ok : fz_ok q x cc n R_law k) {post : Int32 → S → Prop} (hM : fz_Mi q yX0_refuel cX0_refuel 3 kc .int (.ref a :: [.int v1]) w post w') (he : w[0]? = some (a, .inr (0, fs))) (hk : kc + 1 ≤ k) (hst : (stk.map fun v => v.category).sum ≤ 8) (d : decode cc pc = .ok (.invokevirtual 31, 3)) (kk : ∀ (r : Int32) (u : S), post r u → fz_A q x (w' u ++ w2) (pc + 3) lc (.int r :: stk)) : fz_A q x (w ++ w2) pc lc (.int v1 :: .ref a :: stk) := fz_cVi (As := [.int v1]) (C := RX0) (ci := 0) ok hM (lw_V q171 q172 q173 q27 q174) cdL0_refuel he rfl hk (by decide) hst d kk
theorem cdL0_sound : yX0_sound.cls = RX0 ∧ yX0_sound.cls ≠ "java/lang/invoke/MethodHandle" ∧ yX0_sound.cls ≠ "java/lang/invoke/VarHandle" ∧ (parseMethodDescriptor yX0_sound.desc).map (fun d => d.parameters.length) = some 0 := by decide +kernel
theorem kL0_sound (ok : fz_ok q x cc n R_law k) {post : Int32 → S → Prop} (hM : fz_Mi q yX0_sound cX0_sound 1 kc .boolean (.ref a :: []) w post w') (he : w[0]? = some (a, .inr (0, fs))) (hk : kc + 1 ≤ k) (hst : (stk.map fun v => v.category).sum ≤ 8) (d : decode cc pc = .ok (.invokevirtual 35, 3)) (kk : ∀ (r : Int32) (u : S), post r u → fz_A q x (w' u ++ w2) (pc + 3) lc (.int r :: stk)) : fz_A q x (w ++ w2) pc lc (.ref a :: stk) := fz_cVi (As := []) (C := RX0) (ci := 0) ok hM (lw_V q175 q176 q177 q27 q178) cdL0_sound he rfl hk (by decide) hst d kk
theorem cdL0_height : yX0_height.cls = RX0 ∧ yX0_height.cls ≠ "java/lang/invoke/MethodHandle" ∧ yX0_height.cls ≠ "java/lang/invoke/VarHandle" ∧ (parseMethodDescriptor yX0_height.desc).map (fun d => d.parameters.length) = some 1 := by decide +kernel
theorem kL0_height (ok : fz_ok q x cc n R_law k) {post : Int32 → S → Prop} (hM : fz_Mi q yX0_height cX0_height 2 kc .int (.ref a :: [.int v1]) w post w') (he : w[0]? = some (a, .inr (0, fs))) (hk : kc + 1 ≤ k) (hst : (stk.map fun v => v.category).sum ≤ 8) (d : decode cc pc = .ok (.invokevirtual 40, 3)) (kk : ∀ (r : Int32) (u : S), post r u → fz_A q x (w' u ++ w2) (pc + 3) lc (.int r :: stk)) : fz_A q x (w ++ w2) pc lc (.int v1 :: .ref a :: stk) := fz_cVi (As := [.int v1]) (C := RX0) (ci := 0) ok hM (lw_V q179 q180 q181 q27 q182) cdL0_height he rfl hk (by decide) hst d kk
theorem cdL0_state : yX0_state.cls = RX0 ∧ yX0_state.cls ≠ "java/lang/invoke/MethodHandle" ∧ yX0_state.cls ≠ "java/lang/invoke/VarHandle" ∧ (parseMethodDescriptor yX0_state.desc).map (fun d => d.parameters.length) = some 0 := by decide +kernel
theorem kL0_state (ok : fz_ok q x cc n R_law k) {post : Int32 → S → Prop} (hM : fz_Mi q yX0_state cX0_state 1 kc .int (.ref a :: []) w post w') (he : w[0]? = some (a, .inr (0, fs))) (hk : kc + 1 ≤ k) (hst : (stk.map fun v => v.category).sum ≤ 8) (d : decode cc pc = .ok (.invokevirtual 44, 3)) (kk : ∀ (r : Int32) (u : S), post r u → fz_A q x (w' u ++ w2) (pc + 3) lc (.int r :: stk)) : fz_A q x (w ++ w2) pc lc (.ref a :: stk) := fz_cVi (As := []) (C := RX0) (ci := 0) ok hM (lw_V q183 q184 q185 q27 q186) cdL0_state he rfl hk (by decide) hst d kk
theorem cdL0_fuel : yX0_fuel.cls = RX0 ∧ yX0_fuel.cls ≠ "java/lang/invoke/MethodHandle" ∧ yX0_fuel.cls ≠ "java/lang/invoke/VarHandle" ∧ (parseMethodDescriptor yX0_fuel.desc).map (fun d => d.parameters.length) = some 0 := by decide +kernel
theorem kL0_fuel (ok : fz_ok q x cc n R_law k) {post : Int32 → S → Prop} (hM : fz_Mi q yX0_fuel cX0_fuel 1 kc .int (.ref a :: []) w post w') (he : w[0]? = some (a, .inr (0, fs))) (hk : kc + 1 ≤ k) (hst : (stk.map fun v => v.category).sum ≤ 8) (d : decode cc pc = .ok (.invokevirtual 49, 3)) (kk : ∀ (r : Int32) (u : S), post r u → fz_A q x (w' u ++ w2) (pc + 3) lc (.int r :: stk)) : fz_A q x (w ++ w2) pc lc (.ref a :: stk) := fz_cVi (As := []) (C := RX0) (ci := 0) ok hM (lw_V q187 q188 q189 q27 q190) cdL0_fuel he rfl hk (by decide) hst d kk
theorem cdL0_place : yX0_place.cls = RX0 ∧ yX0_place.cls ≠ "java/lang/invoke/MethodHandle" ∧ yX0_place.cls ≠ "java/lang/invoke/VarHandle" ∧ (parseMethodDescriptor yX0_place.desc).map (fun d => d.parameters.length) = some 0 := by decide +kernel
theorem kL0_place (ok : fz_ok q x cc n R_law k) {post : Int32 → S → Prop} (hM : fz_Mi q yX0_place cX0_place 1 kc .int (.ref a :: []) w post w') (he : w[0]? = some (a, .inr (0, fs))) (hk : kc + 1 ≤ k) (hst : (stk.map fun v => v.category).sum ≤ 8) (d : decode cc pc = .ok (.invokevirtual 53, 3)) (kk : ∀ (r : Int32) (u : S), post r u → fz_A q x (w' u ++ w2) (pc + 3) lc (.int r :: stk)) : fz_A q x (w ++ w2) pc lc (.ref a :: stk) := fz_cVi (As := []) (C := RX0) (ci := 0) ok hM (lw_V q191 q192 q193 q27 q194) cdL0_place he rfl hk (by decide) hst d kk
theorem cdL0_depth : yX0_depth.cls = RX0 ∧ yX0_depth.cls ≠ "java/lang/invoke/MethodHandle" ∧ yX0_depth.cls ≠ "java/lang/invoke/VarHandle" ∧ (parseMethodDescriptor yX0_depth.desc).map (fun d => d.parameters.length) = some 0 := by decide +kernel
theorem kL0_depth (ok : fz_ok q x cc n R_law k) {post : Int32 → S → Prop} (hM : fz_Mi q yX0_depth cX0_depth 1 kc .int (.ref a :: []) w post w') (he : w[0]? = some (a, .inr (0, fs))) (hk : kc + 1 ≤ k) (hst : (stk.map fun v => v.category).sum ≤ 8) (d : decode cc pc = .ok (.invokevirtual 57, 3)) (kk : ∀ (r : Int32) (u : S), post r u → fz_A q x (w' u ++ w2) (pc + 3) lc (.int r :: stk)) : fz_A q x (w ++ w2) pc lc (.ref a :: stk) := fz_cVi (As := []) (C := RX0) (ci := 0) ok hM (lw_V q195 q196 q197 q27 q198) cdL0_depth he rfl hk (by decide) hst d kk
theorem cdL0_top : yX0_top.cls = RX0 ∧ yX0_top.cls ≠ "java/lang/invoke/MethodHandle" ∧ yX0_top.cls ≠ "java/lang/invoke/VarHandle" ∧ (parseMethodDescriptor yX0_top.desc).map (fun d => d.parameters.length) = some 1 := by decide +kernel
theorem kL0_top (ok : fz_ok q x cc n R_law k) {post : Int32 → S → Prop} (hM : fz_Mi q yX0_top cX0_top 2 kc .int (.ref a :: [.int v1]) w post w') (he : w[0]? = some (a, .inr (0, fs))) (hk : kc + 1 ≤ k) (hst : (stk.map fun v => v.category).sum ≤ 8) (d : decode cc pc = .ok (.invokevirtual 61, 3)) (kk : ∀ (r : Int32) (u : S), post r u → fz_A q x (w' u ++ w2) (pc + 3) lc (.int r :: stk)) : fz_A q x (w ++ w2) pc lc (.int v1 :: .ref a :: stk) := fz_cVi (As := [.int v1]) (C := RX0) (ci := 0) ok hM (lw_V q199 q200 q201 q27 q202) cdL0_top he rfl hk (by decide) hst d kk
theorem cdL0_get : yX0_get.cls = RX0 ∧ yX0_get.cls ≠ "java/lang/invoke/MethodHandle" ∧ yX0_get.cls ≠ "java/lang/invoke/VarHandle" ∧ (parseMethodDescriptor yX0_get.desc).map (fun d => d.parameters.length) = some 1 := by decide +kernel
theorem kL0_get (ok : fz_ok q x cc n R_law k) {post : Int32 → S → Prop} (hM : fz_Mi q yX0_get cX0_get 2 kc .int (.ref a :: [.int v1]) w post w') (he : w[0]? = some (a, .inr (0, fs))) (hk : kc + 1 ≤ k) (hst : (stk.map fun v => v.category).sum ≤ 8) (d : decode cc pc = .ok (.invokevirtual 65, 3)) (kk : ∀ (r : Int32) (u : S), post r u → fz_A q x (w' u ++ w2) (pc + 3) lc (.int r :: stk)) : fz_A q x (w ++ w2) pc lc (.int v1 :: .ref a :: stk) := fz_cVi (As := [.int v1]) (C := RX0) (ci := 0) ok hM (lw_V q203 q204 q205 q27 q206) cdL0_get he rfl hk (by decide) hst d kk
theorem cdL1_emit : yX1_emit.cls = RX1 ∧ yX1_emit.cls ≠ "java/lang/invoke/MethodHandle" ∧ yX1_emit.cls ≠ "java/lang/invoke/VarHandle" ∧ (parseMethodDescriptor yX1_emit.desc).map (fun d => d.parameters.length) = some 2 := by decide +kernel
theorem kL1_emit (ok : fz_ok q x cc n R_law k) {post : Int32 → S → Prop} (hM : fz_Mi q yX1_emit cX1_emit 3 kc .int (.ref a :: [.int v1, .int v2]) w post w') (he : w[0]? = some (a, .inr (1, fs))) (hk : kc + 1 ≤ k) (hst : (stk.map fun v => v.category).sum ≤ 8) (d : decode cc pc = .ok (.invokevirtual 17, 3)) (kk : ∀ (r : Int32) (u : S), post r u → fz_A q x (w' u ++ w2) (pc + 3) lc (.int r :: stk)) : fz_A q x (w ++ w2) pc lc (.int v2 :: .int v1 :: .ref a :: stk) := fz_cVi (As := [.int v1, .int v2]) (C := RX1) (ci := 1) ok hM (lw_V q244 q245 q246 q28 q247) cdL1_emit he rfl hk (by decide) hst d kk
theorem cdL1_clear : yX1_clear.cls = RX1 ∧ yX1_clear.cls ≠ "java/lang/invoke/MethodHandle" ∧ yX1_clear.cls ≠ "java/lang/invoke/VarHandle" ∧ (parseMethodDescriptor yX1_clear.desc).map (fun d => d.parameters.length) = some 0 := by decide +kernel
theorem kL1_clear (ok : fz_ok q x cc n R_law k) {post : S → Prop} (hM : fz_Mv q yX1_clear cX1_clear 1 kc (.ref a :: []) w post w') (he : w[0]? = some (a, .inr (1, fs))) (hk : kc + 1 ≤ k) (hst : (stk.map fun v => v.category).sum ≤ 8) (d : decode cc pc = .ok (.invokevirtual 21, 3)) (kk : ∀ u : S, post u → fz_A q x (w' u ++ w2) (pc + 3) lc stk) : fz_A q x (w ++ w2) pc lc (.ref a :: stk) := fz_cVv (As := []) (C := RX1) (ci := 1) ok hM (lw_V q252 q253 q254 q28 q255) cdL1_clear he rfl hk (by decide) hst d kk
theorem cdL1_cell : yX1_cell.cls = RX1 ∧ yX1_cell.cls ≠ "java/lang/invoke/MethodHandle" ∧ yX1_cell.cls ≠ "java/lang/invoke/VarHandle" ∧ (parseMethodDescriptor yX1_cell.desc).map (fun d => d.parameters.length) = some 2 := by decide +kernel
theorem kL1_cell (ok : fz_ok q x cc n R_law k) {post : Int32 → S → Prop} (hM : fz_Mi q yX1_cell cX1_cell 4 kc .int (.ref a :: [.int v1, .int v2]) w post w') (he : w[0]? = some (a, .inr (1, fs))) (hk : kc + 1 ≤ k) (hst : (stk.map fun v => v.category).sum ≤ 8) (d : decode cc pc = .ok (.invokevirtual 25, 3)) (kk : ∀ (r : Int32) (u : S), post r u → fz_A q x (w' u ++ w2) (pc + 3) lc (.int r :: stk)) : fz_A q x (w ++ w2) pc lc (.int v2 :: .int v1 :: .ref a :: stk) := fz_cVi (As := [.int v1, .int v2]) (C := RX1) (ci := 1) ok hM (lw_V q256 q257 q258 q28 q259) cdL1_cell he rfl hk (by decide) hst d kk
theorem cdL1_run : yX1_run.cls = RX1 ∧ yX1_run.cls ≠ "java/lang/invoke/MethodHandle" ∧ yX1_run.cls ≠ "java/lang/invoke/VarHandle" ∧ (parseMethodDescriptor yX1_run.desc).map (fun d => d.parameters.length) = some 1 := by decide +kernel
theorem kL1_run (ok : fz_ok q x cc n R_law k) {post : Int32 → S → Prop} (hM : fz_Mi q yX1_run cX1_run 2 kc .int (.ref a :: [.int v1]) w post w') (he : w[0]? = some (a, .inr (1, fs))) (hk : kc + 1 ≤ k) (hst : (stk.map fun v => v.category).sum ≤ 8) (d : decode cc pc = .ok (.invokevirtual 30, 3)) (kk : ∀ (r : Int32) (u : S), post r u → fz_A q x (w' u ++ w2) (pc + 3) lc (.int r :: stk)) : fz_A q x (w ++ w2) pc lc (.int v1 :: .ref a :: stk) := fz_cVi (As := [.int v1]) (C := RX1) (ci := 1) ok hM (lw_V q260 q261 q262 q28 q263) cdL1_run he rfl hk (by decide) hst d kk
theorem cdL1_sound : yX1_sound.cls = RX1 ∧ yX1_sound.cls ≠ "java/lang/invoke/MethodHandle" ∧ yX1_sound.cls ≠ "java/lang/invoke/VarHandle" ∧ (parseMethodDescriptor yX1_sound.desc).map (fun d => d.parameters.length) = some 0 := by decide +kernel
theorem kL1_sound (ok : fz_ok q x cc n R_law k) {post : Int32 → S → Prop} (hM : fz_Mi q yX1_sound cX1_sound 3 kc .boolean (.ref a :: []) w post w') (he : w[0]? = some (a, .inr (1, fs))) (hk : kc + 1 ≤ k) (hst : (stk.map fun v => v.category).sum ≤ 8) (d : decode cc pc = .ok (.invokevirtual 39, 3)) (kk : ∀ (r : Int32) (u : S), post r u → fz_A q x (w' u ++ w2) (pc + 3) lc (.int r :: stk)) : fz_A q x (w ++ w2) pc lc (.ref a :: stk) := fz_cVi (As := []) (C := RX1) (ci := 1) ok hM (lw_V q324 q265 q266 q28 q267) cdL1_sound he rfl hk (by decide) hst d kk
theorem cdL1_top : yX1_top.cls = RX1 ∧ yX1_top.cls ≠ "java/lang/invoke/MethodHandle" ∧ yX1_top.cls ≠ "java/lang/invoke/VarHandle" ∧ (parseMethodDescriptor yX1_top.desc).map (fun d => d.parameters.length) = some 1 := by decide +kernel
theorem kL1_top (ok : fz_ok q x cc n R_law k) {post : Int32 → S → Prop} (hM : fz_Mi q yX1_top cX1_top 2 kc .int (.ref a :: [.int v1]) w post w') (he : w[0]? = some (a, .inr (1, fs))) (hk : kc + 1 ≤ k) (hst : (stk.map fun v => v.category).sum ≤ 8) (d : decode cc pc = .ok (.invokevirtual 64, 3)) (kk : ∀ (r : Int32) (u : S), post r u → fz_A q x (w' u ++ w2) (pc + 3) lc (.int r :: stk)) : fz_A q x (w ++ w2) pc lc (.int v1 :: .ref a :: stk) := fz_cVi (As := [.int v1]) (C := RX1) (ci := 1) ok hM (lw_V q345 q309 q310 q28 q311) cdL1_top he rfl hk (by decide) hst d kk
theorem cdL1_refuel : yX1_refuel.cls = RX1 ∧ yX1_refuel.cls ≠ "java/lang/invoke/MethodHandle" ∧ yX1_refuel.cls ≠ "java/lang/invoke/VarHandle" ∧ (parseMethodDescriptor yX1_refuel.desc).map (fun d => d.parameters.length) = some 1 := by decide +kernel
theorem kL1_refuel (ok : fz_ok q x cc n R_law k) {post : Int32 → S → Prop} (hM : fz_Mi q yX1_refuel cX1_refuel 3 kc .int (.ref a :: [.int v1]) w post w') (he : w[0]? = some (a, .inr (1, fs))) (hk : kc + 1 ≤ k) (hst : (stk.map fun v => v.category).sum ≤ 8) (d : decode cc pc = .ok (.invokevirtual 34, 3)) (kk : ∀ (r : Int32) (u : S), post r u → fz_A q x (w' u ++ w2) (pc + 3) lc (.int r :: stk)) : fz_A q x (w ++ w2) pc lc (.int v1 :: .ref a :: stk) := fz_cVi (As := [.int v1]) (C := RX1) (ci := 1) ok hM (lw_V q320 q321 q322 q28 q323) cdL1_refuel he rfl hk (by decide) hst d kk
theorem cdL1_height : yX1_height.cls = RX1 ∧ yX1_height.cls ≠ "java/lang/invoke/MethodHandle" ∧ yX1_height.cls ≠ "java/lang/invoke/VarHandle" ∧ (parseMethodDescriptor yX1_height.desc).map (fun d => d.parameters.length) = some 1 := by decide +kernel
theorem kL1_height (ok : fz_ok q x cc n R_law k) {post : Int32 → S → Prop} (hM : fz_Mi q yX1_height cX1_height 2 kc .int (.ref a :: [.int v1]) w post w') (he : w[0]? = some (a, .inr (1, fs))) (hk : kc + 1 ≤ k) (hst : (stk.map fun v => v.category).sum ≤ 8) (d : decode cc pc = .ok (.invokevirtual 43, 3)) (kk : ∀ (r : Int32) (u : S), post r u → fz_A q x (w' u ++ w2) (pc + 3) lc (.int r :: stk)) : fz_A q x (w ++ w2) pc lc (.int v1 :: .ref a :: stk) := fz_cVi (As := [.int v1]) (C := RX1) (ci := 1) ok hM (lw_V q325 q326 q327 q28 q328) cdL1_height he rfl hk (by decide) hst d kk
theorem cdL1_state : yX1_state.cls = RX1 ∧ yX1_state.cls ≠ "java/lang/invoke/MethodHandle" ∧ yX1_state.cls ≠ "java/lang/invoke/VarHandle" ∧ (parseMethodDescriptor yX1_state.desc).map (fun d => d.parameters.length) = some 0 := by decide +kernel
theorem kL1_state (ok : fz_ok q x cc n R_law k) {post : Int32 → S → Prop} (hM : fz_Mi q yX1_state cX1_state 1 kc .int (.ref a :: []) w post w') (he : w[0]? = some (a, .inr (1, fs))) (hk : kc + 1 ≤ k) (hst : (stk.map fun v => v.category).sum ≤ 8) (d : decode cc pc = .ok (.invokevirtual 48, 3)) (kk : ∀ (r : Int32) (u : S), post r u → fz_A q x (w' u ++ w2) (pc + 3) lc (.int r :: stk)) : fz_A q x (w ++ w2) pc lc (.ref a :: stk) := fz_cVi (As := []) (C := RX1) (ci := 1) ok hM (lw_V q329 q330 q331 q28 q332) cdL1_state he rfl hk (by decide) hst d kk
theorem cdL1_fuel : yX1_fuel.cls = RX1 ∧ yX1_fuel.cls ≠ "java/lang/invoke/MethodHandle" ∧ yX1_fuel.cls ≠ "java/lang/invoke/VarHandle" ∧ (parseMethodDescriptor yX1_fuel.desc).map (fun d => d.parameters.length) = some 0 := by decide +kernel
theorem kL1_fuel (ok : fz_ok q x cc n R_law k) {post : Int32 → S → Prop} (hM : fz_Mi q yX1_fuel cX1_fuel 1 kc .int (.ref a :: []) w post w') (he : w[0]? = some (a, .inr (1, fs))) (hk : kc + 1 ≤ k) (hst : (stk.map fun v => v.category).sum ≤ 8) (d : decode cc pc = .ok (.invokevirtual 52, 3)) (kk : ∀ (r : Int32) (u : S), post r u → fz_A q x (w' u ++ w2) (pc + 3) lc (.int r :: stk)) : fz_A q x (w ++ w2) pc lc (.ref a :: stk) := fz_cVi (As := []) (C := RX1) (ci := 1) ok hM (lw_V q333 q334 q335 q28 q336) cdL1_fuel he rfl hk (by decide) hst d kk
theorem cdL1_place : yX1_place.cls = RX1 ∧ yX1_place.cls ≠ "java/lang/invoke/MethodHandle" ∧ yX1_place.cls ≠ "java/lang/invoke/VarHandle" ∧ (parseMethodDescriptor yX1_place.desc).map (fun d => d.parameters.length) = some 0 := by decide +kernel
theorem kL1_place (ok : fz_ok q x cc n R_law k) {post : Int32 → S → Prop} (hM : fz_Mi q yX1_place cX1_place 1 kc .int (.ref a :: []) w post w') (he : w[0]? = some (a, .inr (1, fs))) (hk : kc + 1 ≤ k) (hst : (stk.map fun v => v.category).sum ≤ 8) (d : decode cc pc = .ok (.invokevirtual 56, 3)) (kk : ∀ (r : Int32) (u : S), post r u → fz_A q x (w' u ++ w2) (pc + 3) lc (.int r :: stk)) : fz_A q x (w ++ w2) pc lc (.ref a :: stk) := fz_cVi (As := []) (C := RX1) (ci := 1) ok hM (lw_V q337 q338 q339 q28 q340) cdL1_place he rfl hk (by decide) hst d kk
theorem cdL1_depth : yX1_depth.cls = RX1 ∧ yX1_depth.cls ≠ "java/lang/invoke/MethodHandle" ∧ yX1_depth.cls ≠ "java/lang/invoke/VarHandle" ∧ (parseMethodDescriptor yX1_depth.desc).map (fun d => d.parameters.length) = some 0 := by decide +kernel
theorem kL1_depth (ok : fz_ok q x cc n R_law k) {post : Int32 → S → Prop} (hM : fz_Mi q yX1_depth cX1_depth 1 kc .int (.ref a :: []) w post w') (he : w[0]? = some (a, .inr (1, fs))) (hk : kc + 1 ≤ k) (hst : (stk.map fun v => v.category).sum ≤ 8) (d : decode cc pc = .ok (.invokevirtual 60, 3)) (kk : ∀ (r : Int32) (u : S), post r u → fz_A q x (w' u ++ w2) (pc + 3) lc (.int r :: stk)) : fz_A q x (w ++ w2) pc lc (.ref a :: stk) := fz_cVi (As := []) (C := RX1) (ci := 1) ok hM (lw_V q341 q342 q343 q28 q344) cdL1_depth he rfl hk (by decide) hst d kk
theorem cdL1_get : yX1_get.cls = RX1 ∧ yX1_get.cls ≠ "java/lang/invoke/MethodHandle" ∧ yX1_get.cls ≠ "java/lang/invoke/VarHandle" ∧ (parseMethodDescriptor yX1_get.desc).map (fun d => d.parameters.length) = some 1 := by decide +kernel
theorem kL1_get (ok : fz_ok q x cc n R_law k) {post : Int32 → S → Prop} (hM : fz_Mi q yX1_get cX1_get 2 kc .int (.ref a :: [.int v1]) w post w') (he : w[0]? = some (a, .inr (1, fs))) (hk : kc + 1 ≤ k) (hst : (stk.map fun v => v.category).sum ≤ 8) (d : decode cc pc = .ok (.invokevirtual 68, 3)) (kk : ∀ (r : Int32) (u : S), post r u → fz_A q x (w' u ++ w2) (pc + 3) lc (.int r :: stk)) : fz_A q x (w ++ w2) pc lc (.int v1 :: .ref a :: stk) := fz_cVi (As := [.int v1]) (C := RX1) (ci := 1) ok hM (lw_V q346 q347 q348 q28 q349) cdL1_get he rfl hk (by decide) hst d kk
end FZLC
end
section
set_option maxRecDepth 100000
/-! the law's loop -/
theorem emit_no {v : Int32} {c : Nat} (h : v < 0 ∨ 14 < v) (e : v = nI c) (hc : c < 15) : False := by
  subst e
  rcases h with a | a
  · exact fz_nneg (by omega) a
  · have := (nI_ltI (a := 14) (by decide) (by omega)).mp a
    omega
section LJS
variable {n f d e : Nat} {ck gd st pt : Int32} {op cn ht bc be sk ce : Nat → Int32}
theorem LJ_two (h : LJ n f d e ck gd st pt op cn ht bc be sk ce) (h2 : st = 2) : e = d ∧ ck = 1 ∧ gd = 1 ∧ Cl n op cn ht ∧ Ok1 n ht (pt, d, sk, ce) ∧ ∀ p, p < n → BK n op cn bc be p := by
  obtain ⟨h1, h3, h4, h5, h6, h7⟩ := h
  rcases h7 with a | ⟨a1, a2, a3, a4, a5⟩
  · exact absurd (a.1.symm.trans h2) (by decide +kernel)
  · subst a3
    obtain ⟨-, b1, b2, b3, b4⟩ := CK_good h4 (by rw [a4]; decide +kernel)
    exact ⟨a2, rfl, a4, b1, a5, b4⟩
theorem LJ_e (h : LJ n f d e ck gd st pt op cn ht bc be sk ce) : e ≤ 8 := by
  obtain ⟨h1, h3, h4, h5, h6, h7⟩ := h
  rcases h7 with a | a
  · omega
  · omega
theorem LJ_depth (h : LJ n f d e ck gd st pt op cn ht bc be sk ce) : (if st = 0 then (0 : Int32) else nI d) = nI e := by
  obtain ⟨h1, h3, h4, h5, h6, h7⟩ := h
  rcases h7 with a | a
  · rw [if_pos a.1, a.2]; rfl
  · have hne : ¬ st = 0 := by
      rcases a.1 with z | z <;> rw [z] <;> decide +kernel
    rw [if_neg hne, a.2.1]
theorem LJ_top (h : LJ n f d e ck gd st pt op cn ht bc be sk ce) (v : Int32) : (if st = 0 then (0 : Int32) else topF d sk v) = topF e sk v := by
  obtain ⟨h1, h3, h4, h5, h6, h7⟩ := h
  rcases h7 with a | a
  · rw [if_pos a.1, a.2, topF_out]
    rcases fz_ix v (n := 0) (by decide) with x | x | ⟨j, hj, -⟩
    · exact Or.inl x
    · exact Or.inr x
    · exact absurd hj (Nat.not_lt_zero _)
  · have hne : ¬ st = 0 := by
      rcases a.1 with z | z <;> rw [z] <;> decide +kernel
    rw [if_neg hne, a.2.1]
end LJS
theorem fz_step3 (i : Nat) : nI (3 * i) + Int32.ofInt 3 = nI (3 * (i + 1)) := nI_add (3 * i) 3
theorem fz_len3 {L i : Nat} (hL : L ≤ 192) (hi : 3 * i ≤ 192) (h : ¬ nI L - 3 < nI (3 * i)) : 3 * i + 3 ≤ L := by
  rcases Nat.lt_or_ge L 3 with a | a
  · have h1 : nI L - 3 < 0 := pk_sneg (b := 3) (by decide) a
    exact absurd (Int32.lt_of_lt_of_le h1 (nI_pos' (by omega))) h
  · have h1 : nI L - 3 = nI (L - 3) := pk_sub (b := 3) a
    rw [h1] at h
    have h2 : ¬ L - 3 < 3 * i := fun z => h ((nI_ltI (by omega) (by omega)).mpr z)
    omega
/-- at the head of the law's loop, i triples of ints read -/
theorem law_loop {q : fz_Q} {x : fz_X} {b L N : Nat} {xs : Nat → Int32} {o o2 : fz_O} (ok : fz_ok q x cL_law 4 R_law 7) (hX : fz_scr x b L xs) (hL : L ≤ 192) (hN : N = 2001) (hfin : ∀ (ws : va_W) (pc : Nat) (lc : List Value), decode cL_law pc = .ok (.ireturn, 1) → fz_A q x ws pc lc [.int 1]) :
    ∀ (r i : Nat) (n f d e : Nat) (ck gd ls st pt : Int32) (op cn ht ld bc be li sk ce ht2 : Nat → Int32), L < 3 * i + 3 * r → 3 * i ≤ 192 → LJ n f d e ck gd st pt op cn ht bc be sk ce → fz_A q x (wg q o (nI n) ck gd ls st (nI f) pt (nI d) op cn ht ld bc be li sk ce ++ wm q o2 (nI n) st (nI f) pt (nI e) op cn ce ht2 sk) 18 [.ref b, .ref o.1, .ref o2.1, .int (nI (3 * i))] [] := by
  intro r
  induction r with
  | zero =>
    intro i n f d e ck gd ls st pt op cn ht ld bc be li sk ce ht2 hr hi hJ
    refine fz_iload (pc := 18) ok dL_law_18 rfl ?_
    refine fz_aload (pc := 19) ok dL_law_19 rfl ?_
    refine fz_slen (pc := 20) ok hX dL_law_20 ?_
    refine fz_iconst (pc := 21) (v := 3) ok dL_law_21 (by decide) ?_
    refine fz_isub (pc := 22) ok dL_law_22 ?_
    refine fz_icmp_gt (pc := 23) (tgt := 363) ok dL_law_23 (by decide) (fun c23 => ?_) (fun c23 => ?_)
    · refine fz_iconst (pc := 363) (v := 1) ok dL_law_363 (by decide) ?_
      exact hfin _ _ _ dL_law_364
    · exact absurd (fz_len3 hL hi c23) (by omega)
  | succ r ih =>
    intro i n f d e ck gd ls st pt op cn ht ld bc be li sk ce ht2 hr hi hJ
    have next : 3 * i + 3 ≤ L → ∀ (n f d e : Nat) (ck gd ls st pt : Int32) (op cn ht ld bc be li sk ce ht2 : Nat → Int32), LJ n f d e ck gd st pt op cn ht bc be sk ce → fz_A q x (wg q o (nI n) ck gd ls st (nI f) pt (nI d) op cn ht ld bc be li sk ce ++ wm q o2 (nI n) st (nI f) pt (nI e) op cn ce ht2 sk) 357 [.ref b, .ref o.1, .ref o2.1, .int (nI (3 * i))] [] := by
      intro h3 n f d e ck gd ls st pt op cn ht ld bc be li sk ce ht2 hJ
      refine fz_iinc (pc := 357) (v := nI (3 * (i + 1))) (lc' := [_, _, _, _]) ok dL_law_357 (by decide) rfl (fz_step3 i) rfl ?_
      refine fz_goto (pc := 360) (tgt := 18) ok dL_law_360 (by decide) ?_
      exact ih (i + 1) n f d e ck gd ls st pt op cn ht ld bc be li sk ce ht2 (by omega) (by omega) hJ
    obtain ⟨hn, hop, hck, hf, hd, hst⟩ := id hJ
    refine fz_iload (pc := 18) ok dL_law_18 rfl ?_
    refine fz_aload (pc := 19) ok dL_law_19 rfl ?_
    refine fz_slen (pc := 20) ok hX dL_law_20 ?_
    refine fz_iconst (pc := 21) (v := 3) ok dL_law_21 (by decide) ?_
    refine fz_isub (pc := 22) ok dL_law_22 ?_
    refine fz_icmp_gt (pc := 23) (tgt := 363) ok dL_law_23 (by decide) (fun c23 => ?_) (fun c23 => ?_)
    · refine fz_iconst (pc := 363) (v := 1) ok dL_law_363 (by decide) ?_
      exact hfin _ _ _ dL_law_364
    · have h3 := fz_len3 hL hi c23
      refine fz_aload (pc := 26) ok dL_law_26 rfl ?_
      refine fz_iload (pc := 27) ok dL_law_27 rfl ?_
      refine fz_sld (pc := 28) ok hX (by omega) dL_law_28 (3 * i) (rfl) (by omega) ?_
      refine fz_bipush (pc := 29) (v := 15) ok dL_law_29 (by decide) ?_
      refine fz_iand (pc := 31) ok dL_law_31 ?_
      obtain ⟨c, hc, ec⟩ := fz_and15 (xs (3 * i))
      refine fz_top ec ?_
      have hc16 : c = 0 ∨ c = 1 ∨ c = 2 ∨ c = 3 ∨ c = 4 ∨ c = 5 ∨ c = 6 ∨ c = 7 ∨ c = 8 ∨ c = 9 ∨ c = 10 ∨ c = 11 ∨ c = 12 ∨ c = 13 ∨ c = 14 ∨ c = 15 := by omega
      rcases hc16 with rfl | rfl | rfl | rfl | rfl | rfl | rfl | rfl | rfl | rfl | rfl | rfl | rfl | rfl | rfl | rfl
      · refine fz_tabIn (pc := 32) (off := 68) (tgt := 100) ok dL_law_32 (by decide +kernel) (by decide +kernel) (by decide +kernel) (by decide) ?_
        refine fz_aload (pc := 100) ok dL_law_100 rfl ?_
        refine fz_aload (pc := 101) ok dL_law_101 rfl ?_
        refine fz_iload (pc := 102) ok dL_law_102 rfl ?_
        refine fz_iconst (pc := 103) (v := 1) ok dL_law_103 (by decide) ?_
        refine fz_iadd (pc := 104) ok dL_law_104 ?_
        refine fz_sld (pc := 105) ok hX (by omega) dL_law_105 (3 * i + 1) (fz_a1 (3 * i)) (by omega) ?_
        refine fz_aload (pc := 106) ok dL_law_106 rfl ?_
        refine fz_iload (pc := 107) ok dL_law_107 rfl ?_
        refine fz_iconst (pc := 108) (v := 2) ok dL_law_108 (by decide) ?_
        refine fz_iadd (pc := 109) ok dL_law_109 ?_
        refine fz_sld (pc := 110) ok hX (by omega) dL_law_110 (3 * i + 2) (nI_add (3 * i) 2) (by omega) ?_
        refine kL0_emit (pc := 111) ok (m0_emit q o (n := n) rfl hn (xs (3 * i + 1)) (xs (3 * i + 2))) rfl (by decide) (Nat.le_of_ble_eq_true rfl) dL_law_111 (fun r1 u1 hu1 => ?_)
        refine fz_aload (pc := 114) ok dL_law_114 rfl ?_
        refine fz_aload (pc := 115) ok dL_law_115 rfl ?_
        refine fz_iload (pc := 116) ok dL_law_116 rfl ?_
        refine fz_iconst (pc := 117) (v := 1) ok dL_law_117 (by decide) ?_
        refine fz_iadd (pc := 118) ok dL_law_118 ?_
        refine fz_sld (pc := 119) ok hX (by omega) dL_law_119 (3 * i + 1) (fz_a1 (3 * i)) (by omega) ?_
        refine fz_aload (pc := 120) ok dL_law_120 rfl ?_
        refine fz_iload (pc := 121) ok dL_law_121 rfl ?_
        refine fz_iconst (pc := 122) (v := 2) ok dL_law_122 (by decide) ?_
        refine fz_iadd (pc := 123) ok dL_law_123 ?_
        refine fz_sld (pc := 124) ok hX (by omega) dL_law_124 (3 * i + 2) (nI_add (3 * i) 2) (by omega) ?_
        refine fz_swap ?_
        refine kL1_emit (pc := 125) ok (m1_emit q o2 (n := n) rfl hn (xs (3 * i + 1)) (xs (3 * i + 2))) rfl (by decide) (Nat.le_of_ble_eq_true rfl) dL_law_125 (fun r2 u2 hu2 => ?_)
        refine fz_swap ?_
        rcases hu1 with ⟨x1, rfl, rfl⟩ | ⟨c1, hc1, e1, ⟨y1, rfl, rfl⟩ | ⟨y1, rfl, rfl⟩⟩
        · rcases hu2 with ⟨x2, rfl, rfl⟩ | ⟨c2, hc2, e2, ⟨y2, rfl, rfl⟩ | ⟨y2, rfl, rfl⟩⟩
          · refine fz_icmp_eq (pc := 128) (tgt := 357) ok dL_law_128 (by decide) (fun c9 => ?_) (fun c9 => ?_)
            · exact next h3 n f d e ck gd ls st pt op cn ht ld bc be li sk ce ht2 hJ
            · exact absurd (rfl) c9
          · exact (emit_no x1 e2 hc2).elim
          · exact (emit_no x1 e2 hc2).elim
        · rcases hu2 with ⟨x2, rfl, rfl⟩ | ⟨c2, hc2, e2, ⟨y2, rfl, rfl⟩ | ⟨y2, rfl, rfl⟩⟩
          · exact (emit_no x2 e1 hc1).elim
          · refine fz_icmp_eq (pc := 128) (tgt := 357) ok dL_law_128 (by decide) (fun c9 => ?_) (fun c9 => ?_)
            · exact next h3 n f d e ck gd ls st pt op cn ht ld bc be li sk ce ht2 hJ
            · exact absurd (rfl) c9
          · exact absurd y1 (by omega)
        · rcases hu2 with ⟨x2, rfl, rfl⟩ | ⟨c2, hc2, e2, ⟨y2, rfl, rfl⟩ | ⟨y2, rfl, rfl⟩⟩
          · exact (emit_no x2 e1 hc1).elim
          · exact absurd y2 (by omega)
          · refine fz_icmp_eq (pc := 128) (tgt := 357) ok dL_law_128 (by decide) (fun c9 => ?_) (fun c9 => ?_)
            · exact next h3 (n + 1) 0 d 0 0 gd ls 0 pt (upd op n (xs (3 * i + 1))) (upd cn n (xs (3 * i + 2))) ht ld bc be li sk ce ht2 (by rw [e1]; exact LJ_emit hJ hc1 y1 _)
            · exact absurd (rfl) c9
      · refine fz_tabIn (pc := 32) (off := 101) (tgt := 133) ok dL_law_32 (by decide +kernel) (by decide +kernel) (by decide +kernel) (by decide) ?_
        refine fz_aload (pc := 133) ok dL_law_133 rfl ?_
        refine kL0_clear (pc := 134) ok (m0_clear q o) rfl (by decide) (Nat.le_of_ble_eq_true rfl) dL_law_134 (fun u1 hu1 => ?_)
        refine fz_aload (pc := 137) ok dL_law_137 rfl ?_
        refine fz_swap ?_
        refine kL1_clear (pc := 138) ok (m1_clear q o2) rfl (by decide) (Nat.le_of_ble_eq_true rfl) dL_law_138 (fun u2 hu2 => ?_)
        refine fz_swap ?_
        refine fz_goto (pc := 141) (tgt := 357) ok dL_law_141 (by decide) ?_
        exact next h3 0 0 d 0 0 gd ls 0 pt op cn ht ld bc be li sk ce ht2 (LJ_start op cn ht bc be sk ce gd pt hd)
      · refine fz_tabIn (pc := 32) (off := 112) (tgt := 144) ok dL_law_32 (by decide +kernel) (by decide +kernel) (by decide +kernel) (by decide) ?_
        refine fz_aload (pc := 144) ok dL_law_144 rfl ?_
        refine fz_aload (pc := 145) ok dL_law_145 rfl ?_
        refine fz_iload (pc := 146) ok dL_law_146 rfl ?_
        refine fz_iconst (pc := 147) (v := 1) ok dL_law_147 (by decide) ?_
        refine fz_iadd (pc := 148) ok dL_law_148 ?_
        refine fz_sld (pc := 149) ok hX (by omega) dL_law_149 (3 * i + 1) (fz_a1 (3 * i)) (by omega) ?_
        refine fz_aload (pc := 150) ok dL_law_150 rfl ?_
        refine fz_iload (pc := 151) ok dL_law_151 rfl ?_
        refine fz_iconst (pc := 152) (v := 2) ok dL_law_152 (by decide) ?_
        refine fz_iadd (pc := 153) ok dL_law_153 ?_
        refine fz_sld (pc := 154) ok hX (by omega) dL_law_154 (3 * i + 2) (nI_add (3 * i) 2) (by omega) ?_
        refine kL0_cell (pc := 155) ok (m0_cell q o (xs (3 * i + 1)) (xs (3 * i + 2))) rfl (by decide) (Nat.le_of_ble_eq_true rfl) dL_law_155 (fun r1 u1 hu1 => ?_)
        refine fz_aload (pc := 158) ok dL_law_158 rfl ?_
        refine fz_aload (pc := 159) ok dL_law_159 rfl ?_
        refine fz_iload (pc := 160) ok dL_law_160 rfl ?_
        refine fz_iconst (pc := 161) (v := 1) ok dL_law_161 (by decide) ?_
        refine fz_iadd (pc := 162) ok dL_law_162 ?_
        refine fz_sld (pc := 163) ok hX (by omega) dL_law_163 (3 * i + 1) (fz_a1 (3 * i)) (by omega) ?_
        refine fz_aload (pc := 164) ok dL_law_164 rfl ?_
        refine fz_iload (pc := 165) ok dL_law_165 rfl ?_
        refine fz_iconst (pc := 166) (v := 2) ok dL_law_166 (by decide) ?_
        refine fz_iadd (pc := 167) ok dL_law_167 ?_
        refine fz_sld (pc := 168) ok hX (by omega) dL_law_168 (3 * i + 2) (nI_add (3 * i) 2) (by omega) ?_
        refine fz_swap ?_
        refine kL1_cell (pc := 169) ok (m1_cell q o2 (xs (3 * i + 1)) (xs (3 * i + 2))) rfl (by decide) (Nat.le_of_ble_eq_true rfl) dL_law_169 (fun r2 u2 hu2 => ?_)
        refine fz_swap ?_
        refine fz_icmp_eq (pc := 172) (tgt := 357) ok dL_law_172 (by decide) (fun c9 => ?_) (fun c9 => ?_)
        · exact next h3 n f d e ck gd ls st pt op cn ht ld bc be li sk (upd ce ((xs (3 * i + 1)) &&& 3).toNatClampNeg (xs (3 * i + 2))) ht2 (LJ_ce hJ)
        · exact absurd (hu1.trans hu2.symm) c9
      · refine fz_tabIn (pc := 32) (off := 145) (tgt := 177) ok dL_law_32 (by decide +kernel) (by decide +kernel) (by decide +kernel) (by decide) ?_
        refine fz_aload (pc := 177) ok dL_law_177 rfl ?_
        refine fz_aload (pc := 178) ok dL_law_178 rfl ?_
        refine fz_iload (pc := 179) ok dL_law_179 rfl ?_
        refine fz_iconst (pc := 180) (v := 1) ok dL_law_180 (by decide) ?_
        refine fz_iadd (pc := 181) ok dL_law_181 ?_
        refine fz_sld (pc := 182) ok hX (by omega) dL_law_182 (3 * i + 1) (fz_a1 (3 * i)) (by omega) ?_
        refine kL0_run (pc := 183) ok (m0_run q o (n := n) rfl hn hop hck (xs (3 * i + 1))) rfl (by decide) (Nat.le_of_ble_eq_true rfl) dL_law_183 (fun r1 u1 hu1 => ?_)
        refine fz_aload (pc := 186) ok dL_law_186 rfl ?_
        refine fz_aload (pc := 187) ok dL_law_187 rfl ?_
        refine fz_iload (pc := 188) ok dL_law_188 rfl ?_
        refine fz_iconst (pc := 189) (v := 1) ok dL_law_189 (by decide) ?_
        refine fz_iadd (pc := 190) ok dL_law_190 ?_
        refine fz_sld (pc := 191) ok hX (by omega) dL_law_191 (3 * i + 1) (fz_a1 (3 * i)) (by omega) ?_
        refine fz_swap ?_
        refine kL1_run (pc := 192) ok (m1_run q o2 (n := n) hN rfl hn hop (xs (3 * i + 1))) rfl (by decide) (Nat.le_of_ble_eq_true rfl) dL_law_192 (fun r2 u2 hu2 => ?_)
        refine fz_swap ?_
        obtain ⟨k1, w1⟩ := hu1
        obtain ⟨g, s1, w2⟩ := hu2
        obtain ⟨v7, v6⟩ := u1
        obtain ⟨h7, h6⟩ := u2
        have key := CK_SP hn k1 s1
        dsimp only at k1 w1 s1 w2 key ⊢
        rcases w1 with ⟨a1, rfl, rfl⟩ | ⟨a1, k, hk, rfl, rfl⟩
        · rcases w2 with ⟨b1, rfl, rfl⟩ | ⟨b1, -, -⟩
          · refine fz_icmp_eq (pc := 195) (tgt := 357) ok dL_law_195 (by decide) (fun c9 => ?_) (fun c9 => ?_)
            · exact next h3 n f d e 1 v7.1 v7.2.1 st pt op cn v7.2.2.1 v7.2.2.2.1 v7.2.2.2.2.1 v7.2.2.2.2.2.1 v7.2.2.2.2.2.2 sk ce h7 (LJ_check hJ k1)
            · exact absurd (rfl) c9
          · rcases key with z | z
            · exact absurd (z.2.symm.trans b1) (by decide +kernel)
            · exact absurd (a1.symm.trans z.1) (by decide +kernel)
        · rcases w2 with ⟨b1, -, -⟩ | ⟨b1, er, eu⟩
          · rcases key with z | z
            · exact absurd (z.1.symm.trans a1) (by decide +kernel)
            · exact absurd (b1.symm.trans z.2.1) (by decide +kernel)
          · rw [run_same hk hN (show clF (xs (3 * i + 1)) ≤ 2000 from clF_le _)] at er eu
            subst er
            subst eu
            have hcl := (CK_good k1 (by rw [a1]; decide +kernel)).2.1
            have hok : Ok1 n v7.2.2.1 (false, clF (xs (3 * i + 1)), nI 0, 0, sk, ce).2.2 := ⟨0, rfl, hcl.1, by rw [hcl.2.1]; exact nI_0.symm, Nat.zero_le _⟩
            have hJ2 := LJ_ran (k := k) hn hop k1 a1 hok (show clF (xs (3 * i + 1)) ≤ 2000 from clF_le _)
            refine fz_icmp_eq (pc := 195) (tgt := 357) ok dL_law_195 (by decide) (fun c9 => ?_) (fun c9 => ?_)
            · exact next h3 n (itN (mu op cn) k (false, clF (xs (3 * i + 1)), nI 0, 0, sk, ce)).2.1 (itN (mu op cn) k (false, clF (xs (3 * i + 1)), nI 0, 0, sk, ce)).2.2.2.1 (itN (mu op cn) k (false, clF (xs (3 * i + 1)), nI 0, 0, sk, ce)).2.2.2.1 1 v7.1 v7.2.1 (fst2 (itN (mu op cn) k (false, clF (xs (3 * i + 1)), nI 0, 0, sk, ce)).1) (itN (mu op cn) k (false, clF (xs (3 * i + 1)), nI 0, 0, sk, ce)).2.2.1 op cn v7.2.2.1 v7.2.2.2.1 v7.2.2.2.2.1 v7.2.2.2.2.2.1 v7.2.2.2.2.2.2 (itN (mu op cn) k (false, clF (xs (3 * i + 1)), nI 0, 0, sk, ce)).2.2.2.2.1 (itN (mu op cn) k (false, clF (xs (3 * i + 1)), nI 0, 0, sk, ce)).2.2.2.2.2 h7 hJ2
            · exact absurd (rfl) c9
      · refine fz_tabIn (pc := 32) (off := 168) (tgt := 200) ok dL_law_32 (by decide +kernel) (by decide +kernel) (by decide +kernel) (by decide) ?_
        refine fz_aload (pc := 200) ok dL_law_200 rfl ?_
        refine fz_aload (pc := 201) ok dL_law_201 rfl ?_
        refine fz_iload (pc := 202) ok dL_law_202 rfl ?_
        refine fz_iconst (pc := 203) (v := 1) ok dL_law_203 (by decide) ?_
        refine fz_iadd (pc := 204) ok dL_law_204 ?_
        refine fz_sld (pc := 205) ok hX (by omega) dL_law_205 (3 * i + 1) (fz_a1 (3 * i)) (by omega) ?_
        refine kL0_refuel (pc := 206) ok (m0_refuel q o (n := n) (f := f) (hh := ht) (mm := (pt, d, sk, ce)) hn hop hf (fun z => ⟨(LJ_two hJ z).2.2.2.1, (LJ_two hJ z).2.2.2.2.1, (LJ_two hJ z).2.2.2.2.2⟩) (xs (3 * i + 1))) rfl (by decide) (Nat.le_of_ble_eq_true rfl) dL_law_206 (fun r1 u1 hu1 => ?_)
        refine fz_aload (pc := 209) ok dL_law_209 rfl ?_
        refine fz_aload (pc := 210) ok dL_law_210 rfl ?_
        refine fz_iload (pc := 211) ok dL_law_211 rfl ?_
        refine fz_iconst (pc := 212) (v := 1) ok dL_law_212 (by decide) ?_
        refine fz_iadd (pc := 213) ok dL_law_213 ?_
        refine fz_sld (pc := 214) ok hX (by omega) dL_law_214 (3 * i + 1) (fz_a1 (3 * i)) (by omega) ?_
        refine fz_swap ?_
        refine kL1_refuel (pc := 215) ok (m1_refuel q o2 (n := n) (f := f) (hh := ht) hN (mm := (pt, e, sk, ce)) rfl hn hop hf (fun z => ⟨(LJ_two hJ z).2.2.2.1, by rw [(LJ_two hJ z).1]; exact (LJ_two hJ z).2.2.2.2.1⟩) (xs (3 * i + 1))) rfl (by decide) (Nat.le_of_ble_eq_true rfl) dL_law_215 (fun r2 u2 hu2 => ?_)
        refine fz_swap ?_
        rcases hu1 with ⟨a1, er1, rfl⟩ | ⟨a1, k, hk, rfl, rfl⟩
        · rcases hu2 with ⟨b1, er2, rfl⟩ | ⟨b1, -, -⟩
          · refine fz_icmp_eq (pc := 218) (tgt := 357) ok dL_law_218 (by decide) (fun c9 => ?_) (fun c9 => ?_)
            · exact next h3 n f d e ck gd ls st pt op cn ht ld bc be li sk ce ht2 hJ
            · exact absurd (er1.trans er2.symm) c9
          · exact absurd b1 a1
        · rcases hu2 with ⟨b1, -, -⟩ | ⟨b1, er, eu⟩
          · exact absurd a1 b1
          · obtain ⟨z1, z2, z3, z4, z5, z6⟩ := LJ_two hJ a1
            have z1 := z1.symm
            subst z1
            subst z2
            rw [run_same hk hN (show min (f + clF (xs (3 * i + 1))) 2000 ≤ 2000 from Nat.min_le_right _ _)] at er eu
            subst er
            subst eu
            have hJ2 := LJ_ran (c0 := (false, min (f + clF (xs (3 * i + 1))) 2000, pt, d, sk, ce)) (k := k) hn hop hck z3 z5 (Nat.min_le_right _ _)
            refine fz_icmp_eq (pc := 218) (tgt := 357) ok dL_law_218 (by decide) (fun c9 => ?_) (fun c9 => ?_)
            · exact next h3 n (itN (mu op cn) k (false, min (f + clF (xs (3 * i + 1))) 2000, pt, d, sk, ce)).2.1 (itN (mu op cn) k (false, min (f + clF (xs (3 * i + 1))) 2000, pt, d, sk, ce)).2.2.2.1 (itN (mu op cn) k (false, min (f + clF (xs (3 * i + 1))) 2000, pt, d, sk, ce)).2.2.2.1 1 gd ls (fst2 (itN (mu op cn) k (false, min (f + clF (xs (3 * i + 1))) 2000, pt, d, sk, ce)).1) (itN (mu op cn) k (false, min (f + clF (xs (3 * i + 1))) 2000, pt, d, sk, ce)).2.2.1 op cn ht ld bc be li (itN (mu op cn) k (false, min (f + clF (xs (3 * i + 1))) 2000, pt, d, sk, ce)).2.2.2.2.1 (itN (mu op cn) k (false, min (f + clF (xs (3 * i + 1))) 2000, pt, d, sk, ce)).2.2.2.2.2 ht2 hJ2
            · exact absurd (rfl) c9
      · refine fz_tabIn (pc := 32) (off := 191) (tgt := 223) ok dL_law_32 (by decide +kernel) (by decide +kernel) (by decide +kernel) (by decide) ?_
        refine fz_aload (pc := 223) ok dL_law_223 rfl ?_
        refine kL0_sound (pc := 224) ok (m0_sound q o (n := n) rfl hn hop hck) rfl (by decide) (Nat.le_of_ble_eq_true rfl) dL_law_224 (fun r1 u1 hu1 => ?_)
        refine fz_aload (pc := 227) ok dL_law_227 rfl ?_
        refine fz_swap ?_
        refine kL1_sound (pc := 228) ok (m1_sound q o2 (n := n) rfl hn hop) rfl (by decide) (Nat.le_of_ble_eq_true rfl) dL_law_228 (fun r2 u2 hu2 => ?_)
        refine fz_swap ?_
        refine fz_icmp_eq (pc := 231) (tgt := 357) ok dL_law_231 (by decide) (fun c9 => ?_) (fun c9 => ?_)
        · exact next h3 n f d e 1 u1.1 u1.2.1 st pt op cn u1.2.2.1 u1.2.2.2.1 u1.2.2.2.2.1 u1.2.2.2.2.2.1 u1.2.2.2.2.2.2 sk ce u2 (LJ_check hJ hu1.1)
        · exact absurd (hu1.2.trans (CK_SP_eq hn hu1.1 hu2)) c9
      · refine fz_tabIn (pc := 32) (off := 204) (tgt := 236) ok dL_law_32 (by decide +kernel) (by decide +kernel) (by decide +kernel) (by decide) ?_
        refine fz_aload (pc := 236) ok dL_law_236 rfl ?_
        refine fz_aload (pc := 237) ok dL_law_237 rfl ?_
        refine fz_iload (pc := 238) ok dL_law_238 rfl ?_
        refine fz_iconst (pc := 239) (v := 1) ok dL_law_239 (by decide) ?_
        refine fz_iadd (pc := 240) ok dL_law_240 ?_
        refine fz_sld (pc := 241) ok hX (by omega) dL_law_241 (3 * i + 1) (fz_a1 (3 * i)) (by omega) ?_
        refine kL0_height (pc := 242) ok (m0_height q o (n := n) rfl hn hop hck (xs (3 * i + 1))) rfl (by decide) (Nat.le_of_ble_eq_true rfl) dL_law_242 (fun r1 u1 hu1 => ?_)
        refine fz_aload (pc := 245) ok dL_law_245 rfl ?_
        refine fz_aload (pc := 246) ok dL_law_246 rfl ?_
        refine fz_iload (pc := 247) ok dL_law_247 rfl ?_
        refine fz_iconst (pc := 248) (v := 1) ok dL_law_248 (by decide) ?_
        refine fz_iadd (pc := 249) ok dL_law_249 ?_
        refine fz_sld (pc := 250) ok hX (by omega) dL_law_250 (3 * i + 1) (fz_a1 (3 * i)) (by omega) ?_
        refine fz_swap ?_
        refine kL1_height (pc := 251) ok (m1_height q o2 (n := n) rfl hn hop (xs (3 * i + 1))) rfl (by decide) (Nat.le_of_ble_eq_true rfl) dL_law_251 (fun r2 u2 hu2 => ?_)
        refine fz_swap ?_
        obtain ⟨g, s1, er⟩ := hu2
        refine fz_icmp_eq (pc := 254) (tgt := 357) ok dL_law_254 (by decide) (fun c9 => ?_) (fun c9 => ?_)
        · exact next h3 n f d e 1 u1.1 u1.2.1 st pt op cn u1.2.2.1 u1.2.2.2.1 u1.2.2.2.2.1 u1.2.2.2.2.2.1 u1.2.2.2.2.2.2 sk ce u2 (LJ_check hJ hu1.1)
        · exact absurd (hu1.2.trans ((hgF_same hn hu1.1 s1 (xs (3 * i + 1))).trans er.symm)) c9
      · refine fz_tabIn (pc := 32) (off := 227) (tgt := 259) ok dL_law_32 (by decide +kernel) (by decide +kernel) (by decide +kernel) (by decide) ?_
        refine fz_aload (pc := 259) ok dL_law_259 rfl ?_
        refine kL0_state (pc := 260) ok (m0_state q o) rfl (by decide) (Nat.le_of_ble_eq_true rfl) dL_law_260 (fun r1 u1 hu1 => ?_)
        refine fz_aload (pc := 263) ok dL_law_263 rfl ?_
        refine fz_swap ?_
        refine kL1_state (pc := 264) ok (m1_state q o2) rfl (by decide) (Nat.le_of_ble_eq_true rfl) dL_law_264 (fun r2 u2 hu2 => ?_)
        refine fz_swap ?_
        refine fz_icmp_eq (pc := 267) (tgt := 357) ok dL_law_267 (by decide) (fun c9 => ?_) (fun c9 => ?_)
        · exact next h3 n f d e ck gd ls st pt op cn ht ld bc be li sk ce ht2 hJ
        · exact absurd (hu1.trans hu2.symm) c9
      · refine fz_tabIn (pc := 32) (off := 240) (tgt := 272) ok dL_law_32 (by decide +kernel) (by decide +kernel) (by decide +kernel) (by decide) ?_
        refine fz_aload (pc := 272) ok dL_law_272 rfl ?_
        refine kL0_fuel (pc := 273) ok (m0_fuel q o) rfl (by decide) (Nat.le_of_ble_eq_true rfl) dL_law_273 (fun r1 u1 hu1 => ?_)
        refine fz_aload (pc := 276) ok dL_law_276 rfl ?_
        refine fz_swap ?_
        refine kL1_fuel (pc := 277) ok (m1_fuel q o2) rfl (by decide) (Nat.le_of_ble_eq_true rfl) dL_law_277 (fun r2 u2 hu2 => ?_)
        refine fz_swap ?_
        refine fz_icmp_eq (pc := 280) (tgt := 357) ok dL_law_280 (by decide) (fun c9 => ?_) (fun c9 => ?_)
        · exact next h3 n f d e ck gd ls st pt op cn ht ld bc be li sk ce ht2 hJ
        · exact absurd (hu1.trans hu2.symm) c9
      · refine fz_tabIn (pc := 32) (off := 253) (tgt := 285) ok dL_law_32 (by decide +kernel) (by decide +kernel) (by decide +kernel) (by decide) ?_
        refine fz_aload (pc := 285) ok dL_law_285 rfl ?_
        refine kL0_place (pc := 286) ok (m0_place q o) rfl (by decide) (Nat.le_of_ble_eq_true rfl) dL_law_286 (fun r1 u1 hu1 => ?_)
        refine fz_aload (pc := 289) ok dL_law_289 rfl ?_
        refine fz_swap ?_
        refine kL1_place (pc := 290) ok (m1_place q o2) rfl (by decide) (Nat.le_of_ble_eq_true rfl) dL_law_290 (fun r2 u2 hu2 => ?_)
        refine fz_swap ?_
        refine fz_icmp_eq (pc := 293) (tgt := 357) ok dL_law_293 (by decide) (fun c9 => ?_) (fun c9 => ?_)
        · exact next h3 n f d e ck gd ls st pt op cn ht ld bc be li sk ce ht2 hJ
        · exact absurd (hu1.trans hu2.symm) c9
      · refine fz_tabIn (pc := 32) (off := 266) (tgt := 298) ok dL_law_32 (by decide +kernel) (by decide +kernel) (by decide +kernel) (by decide) ?_
        refine fz_aload (pc := 298) ok dL_law_298 rfl ?_
        refine kL0_depth (pc := 299) ok (m0_depth q o) rfl (by decide) (Nat.le_of_ble_eq_true rfl) dL_law_299 (fun r1 u1 hu1 => ?_)
        refine fz_aload (pc := 302) ok dL_law_302 rfl ?_
        refine fz_swap ?_
        refine kL1_depth (pc := 303) ok (m1_depth q o2) rfl (by decide) (Nat.le_of_ble_eq_true rfl) dL_law_303 (fun r2 u2 hu2 => ?_)
        refine fz_swap ?_
        refine fz_icmp_eq (pc := 306) (tgt := 357) ok dL_law_306 (by decide) (fun c9 => ?_) (fun c9 => ?_)
        · exact next h3 n f d e ck gd ls st pt op cn ht ld bc be li sk ce ht2 hJ
        · exact absurd (hu1.trans ((LJ_depth hJ).trans hu2.symm)) c9
      · refine fz_tabIn (pc := 32) (off := 279) (tgt := 311) ok dL_law_32 (by decide +kernel) (by decide +kernel) (by decide +kernel) (by decide) ?_
        refine fz_aload (pc := 311) ok dL_law_311 rfl ?_
        refine fz_aload (pc := 312) ok dL_law_312 rfl ?_
        refine fz_iload (pc := 313) ok dL_law_313 rfl ?_
        refine fz_iconst (pc := 314) (v := 1) ok dL_law_314 (by decide) ?_
        refine fz_iadd (pc := 315) ok dL_law_315 ?_
        refine fz_sld (pc := 316) ok hX (by omega) dL_law_316 (3 * i + 1) (fz_a1 (3 * i)) (by omega) ?_
        refine kL0_top (pc := 317) ok (m0_top q o (d := d) (fun _ => rfl) (fun _ => hd) (xs (3 * i + 1))) rfl (by decide) (Nat.le_of_ble_eq_true rfl) dL_law_317 (fun r1 u1 hu1 => ?_)
        refine fz_aload (pc := 320) ok dL_law_320 rfl ?_
        refine fz_aload (pc := 321) ok dL_law_321 rfl ?_
        refine fz_iload (pc := 322) ok dL_law_322 rfl ?_
        refine fz_iconst (pc := 323) (v := 1) ok dL_law_323 (by decide) ?_
        refine fz_iadd (pc := 324) ok dL_law_324 ?_
        refine fz_sld (pc := 325) ok hX (by omega) dL_law_325 (3 * i + 1) (fz_a1 (3 * i)) (by omega) ?_
        refine fz_swap ?_
        refine kL1_top (pc := 326) ok (m1_top q o2 (d := e) rfl (by have := LJ_e hJ; omega) (xs (3 * i + 1))) rfl (by decide) (Nat.le_of_ble_eq_true rfl) dL_law_326 (fun r2 u2 hu2 => ?_)
        refine fz_swap ?_
        refine fz_icmp_eq (pc := 329) (tgt := 357) ok dL_law_329 (by decide) (fun c9 => ?_) (fun c9 => ?_)
        · exact next h3 n f d e ck gd ls st pt op cn ht ld bc be li sk ce ht2 hJ
        · exact absurd (hu1.trans ((LJ_top hJ (xs (3 * i + 1))).trans hu2.symm)) c9
      · refine fz_tabIn (pc := 32) (off := 302) (tgt := 334) ok dL_law_32 (by decide +kernel) (by decide +kernel) (by decide +kernel) (by decide) ?_
        refine fz_aload (pc := 334) ok dL_law_334 rfl ?_
        refine fz_aload (pc := 335) ok dL_law_335 rfl ?_
        refine fz_iload (pc := 336) ok dL_law_336 rfl ?_
        refine fz_iconst (pc := 337) (v := 1) ok dL_law_337 (by decide) ?_
        refine fz_iadd (pc := 338) ok dL_law_338 ?_
        refine fz_sld (pc := 339) ok hX (by omega) dL_law_339 (3 * i + 1) (fz_a1 (3 * i)) (by omega) ?_
        refine kL0_get (pc := 340) ok (m0_get q o (xs (3 * i + 1))) rfl (by decide) (Nat.le_of_ble_eq_true rfl) dL_law_340 (fun r1 u1 hu1 => ?_)
        refine fz_aload (pc := 343) ok dL_law_343 rfl ?_
        refine fz_aload (pc := 344) ok dL_law_344 rfl ?_
        refine fz_iload (pc := 345) ok dL_law_345 rfl ?_
        refine fz_iconst (pc := 346) (v := 1) ok dL_law_346 (by decide) ?_
        refine fz_iadd (pc := 347) ok dL_law_347 ?_
        refine fz_sld (pc := 348) ok hX (by omega) dL_law_348 (3 * i + 1) (fz_a1 (3 * i)) (by omega) ?_
        refine fz_swap ?_
        refine kL1_get (pc := 349) ok (m1_get q o2 (xs (3 * i + 1))) rfl (by decide) (Nat.le_of_ble_eq_true rfl) dL_law_349 (fun r2 u2 hu2 => ?_)
        refine fz_swap ?_
        refine fz_icmp_eq (pc := 352) (tgt := 357) ok dL_law_352 (by decide) (fun c9 => ?_) (fun c9 => ?_)
        · exact next h3 n f d e ck gd ls st pt op cn ht ld bc be li sk ce ht2 hJ
        · exact absurd (hu1.trans hu2.symm) c9
      · refine fz_tabOut (pc := 32) (tgt := 357) ok dL_law_32 (by decide +kernel) (by decide) ?_
        exact next h3 n f d e ck gd ls st pt op cn ht ld bc be li sk ce ht2 hJ
      · refine fz_tabOut (pc := 32) (tgt := 357) ok dL_law_32 (by decide +kernel) (by decide) ?_
        exact next h3 n f d e ck gd ls st pt op cn ht ld bc be li sk ce ht2 hJ
      · refine fz_tabOut (pc := 32) (tgt := 357) ok dL_law_32 (by decide +kernel) (by decide) ?_
        exact next h3 n f d e ck gd ls st pt op cn ht ld bc be li sk ce ht2 hJ
end
section
set_option maxRecDepth 100000
/-! the law from its entry -/
theorem fz_arr {args : Array Value} {s : State} {ty : FieldType} (h : (Cond.arrayClass ty).before args s = true) : ∃ cA : ClassId, ArrOfT s cA ty ∧ s.vm.findClass ("[" ++ ty.toString) = some cA := by
  obtain ⟨cA, kA, comp, h1, h2, h3⟩ := Cond.arrayClass_spec h
  exact ⟨cA, fun n z => ⟨fun k h => (by cases h), kA, h2, comp, h3⟩, h1⟩
set_option maxHeartbeats 4000000 in
/-- THE LAW, from its entry -/
theorem whole_start {p : Program} {e : Env} {s : State} {m : MethodId} {below : List Frame} {meth : Method} {c : Code} (l : Launch) {b L : Nat} {xs : Nat → Int32} (hL : L ≤ 192) (C0 : lw_At p s m meth c b L xs) : W p l e room_1 s m #[Value.ref b] below meth c s.heap [] 0 0 (lw_Z below #[Value.ref b] s) (entryFrame m ([Value.ref b] : List Value).toArray 4) := by
  obtain ⟨hx, hb, hr, hml, hown, hts0, hX, hbl, hlocks, hgv⟩ := id C0
  have hts : ∀ w ∈ lw_all, w.before #[Value.ref b] s = true := fun w h => hts0 w (lw_all_tbl h)
  have hA : ∀ a : Nat, s.heap.size ≤ a → (fun a : Nat => s.heap.size ≤ a) a := fun _ h => h
  have hbA : ¬ (fun a : Nat => s.heap.size ≤ a) b := Nat.not_le.mpr hbl
  obtain ⟨c0, iS0, hKn0⟩ := u_known (C := RX0) (T := TX0) (N := 17) (n := 17) hts in_X0 (hts _ q30)
  obtain ⟨c1, iS1, hKn1⟩ := u_known (C := RX1) (T := TX1) (N := 10) (n := 10) hts in_X1 (hts _ q208)
  obtain ⟨dC, dI, hKc⟩ : ∃ (dC : Nat → ClassId) (dI : Nat → Nat → Nat), ∀ (k : Nat) (q : vw_C), vwCl[k]? = some q → u_Kn s q.1 q.2.1 q.2.2 (dC k) (dI k) := by
    refine ⟨fun k => if k = 0 then c0 else c1, fun k => if k = 0 then iS0 else iS1, ?_⟩
    intro k q hq
    match k, hq with
    | 0, hq => cases hq; exact hKn0
    | 1, hq => cases hq; exact hKn1
    | k + 2, hq => simp [vwCl] at hq
  obtain ⟨cI, aI, fI⟩ := fz_arr (hts _ q89)
  obtain ⟨cZ, aZ, fZ⟩ := fz_arr (hts _ q90)
  have hK : va_K (dC, dI) vwCl (fz_ty (l, (dC, dI), cI, cZ)) s := by
    refine ⟨hKc, fun k q hq => ?_⟩
    match k, hq with
    | 0, hq => cases hq; exact ⟨aI, fI⟩
    | 1, hq => cases hq; exact ⟨aZ, fZ⟩
    | k + 2, hq => simp [fz_ty] at hq
  have hS : va_S (fun a : Nat => s.heap.size ≤ a) s.heap s.heap [] := va_S.rf
  have hP : va_P (dC, dI) vwCl [] s.heap := fun k q h => by simp at h
  have hD : va_D (fun a : Nat => s.heap.size ≤ a) [] := ⟨fun i j p q h => by simp at h, fun k q h => by simp at h⟩
  have hl := lv_entry ([.ref b]) (n := 4) (Nat.le_of_ble_eq_true rfl)
  rw [lg_entry_eq]
  generalize (lg_sl ([.ref b]) ++ List.replicate (4 - (lg_sl ([.ref b])).length) Slot.unset).toArray = ls at hl ⊢
  have hl : lv_has ls 4 [(0, .ref b)] := hl
  refine va_new (pc := 0) (ci := 0) (fs := [.int 0, .null, .null, .int 0, .int 0, .null, .null, .null, .null, .null, .int 0, .int 0, .int 0, .int 0, .int 0, .null, .null]) (C := RX0) (T := TX0) (N := 17) hx hb hts in_X0 tyX0 tyX0_ok hown (hts _ q29) (hts _ q30) (hts _ q27) hK hP hD hS hA rfl (fun j hj => by have hj2 : j = 0 ∨ j = 1 ∨ j = 2 ∨ j = 3 ∨ j = 4 ∨ j = 5 ∨ j = 6 ∨ j = 7 ∨ j = 8 ∨ j = 9 ∨ j = 10 ∨ j = 11 ∨ j = 12 ∨ j = 13 ∨ j = 14 ∨ j = 15 ∨ j = 16 := (by omega); rcases hj2 with rfl | rfl | rfl | rfl | rfl | rfl | rfl | rfl | rfl | rfl | rfl | rfl | rfl | rfl | rfl | rfl | rfl <;> rfl) (Nat.le_of_ble_eq_true rfl) (Nat.le_of_ble_eq_true rfl) dL_law_0 (fun x0 H hP hD hS => ?_)
  refine W.widen (k := 1) (n := 17) (Nat.le_of_ble_eq_true rfl) (Nat.le_of_ble_eq_true rfl) ?_
  refine lv_dup (pc := 3) hx hb dL_law_3 rfl ?_
  have hP : va_P (dC, dI) vwCl ([(x0, .inr (0, [.int 0, .null, .null, .int 0, .int 0, .null, .null, .null, .null, .null, .int 0, .int 0, .int 0, .int 0, .int 0, .null, .null]))] ++ []) H := hP
  have hD : va_D (fun a : Nat => s.heap.size ≤ a) ([(x0, .inr (0, [.int 0, .null, .null, .int 0, .int 0, .null, .null, .null, .null, .null, .int 0, .int 0, .int 0, .int 0, .int 0, .null, .null]))] ++ []) := hD
  have hPc := fz_Pl hP
  have hDc := fz_Dl hD
  have hFc := fz_freeL hD hS hA
  refine va_callv (va_runI (As := []) (rest := [.ref x0]) ⟨hx, hb, hml, hown, hts⟩ (m0_init (l, (dC, dI), cI, cZ) x0 H.size) (cwI 0 hts (lw_meth q33) rfl rfl rfl (hts _ q27) (hts _ q31) (hts _ q32) rfl (by decide +kernel) ⟨Nat.le_of_ble_eq_true rfl, Nat.le_of_ble_eq_true rfl⟩) ⟨fun a9 U g mk z => by obtain ⟨z0, z1, zP, zK, zD⟩ := z; exact ⟨z0, z1, zP, va_K.moved (u := U) (U := U.calling g mk a9) (Vm.Alike.refl U.vm) zK, zD⟩, fun U hU hW => ⟨rfl, by rw [hU], by rw [hU]; exact hPc, va_K.moved hW.alike hK, hDc.weaken (fun _ _ _ _ => trivial)⟩⟩ rfl rfl hl.1 rfl (lv_room (Nat.le_of_ble_eq_true rfl)) dL_law_4 ⟨Nat.le_of_ble_eq_true rfl, Nat.le_of_ble_eq_true rfl⟩) hS (fun a9 _ h => hFc a9 h) hFc (fun ad0 t H1 locs ht hvm hw hB hz1 hk1 hS => ?_)
  obtain ⟨hP1, hK1, hD1⟩ := hB
  rw [ht] at hP1
  obtain ⟨hP, hD⟩ := fz_join hP hD hk1 hFc hP1 hD1
  generalize H1 = H at hP hS ⊢
  refine W.widen (k := 10) (n := 198) (Nat.le_of_ble_eq_true rfl) (Nat.le_of_ble_eq_true rfl) ?_
  have hP : va_P (dC, dI) vwCl (wg (l, (dC, dI), cI, cZ) (x0, ad0) 0 0 0 0 0 0 0 0 (fun _ => 0) (fun _ => 0) (fun _ => 0) (fun _ => 0) (fun _ => 0) (fun _ => 0) (fun _ => 0) (fun _ => 0) (fun _ => 0)) H := fz_Pl hP
  have hD : va_D (fun a : Nat => s.heap.size ≤ a) (wg (l, (dC, dI), cI, cZ) (x0, ad0) 0 0 0 0 0 0 0 0 (fun _ => 0) (fun _ => 0) (fun _ => 0) (fun _ => 0) (fun _ => 0) (fun _ => 0) (fun _ => 0) (fun _ => 0) (fun _ => 0)) := fz_Dl hD
  refine lv_astore_n (pc := 7) (lv' := [(1, .ref x0), (0, .ref b)]) hx hb dL_law_7 rfl hl (by decide) rfl (fun ls hl => ?_)
  refine va_new (pc := 8) (ci := 1) (fs := [.int 0, .null, .null, .null, .null, .int 0, .int 0, .int 0, .int 0, .null]) (C := RX1) (T := TX1) (N := 10) hx hb hts in_X1 tyX1 tyX1_ok hown (hts _ q207) (hts _ q208) (hts _ q28) hK hP hD hS hA rfl (fun j hj => by have hj2 : j = 0 ∨ j = 1 ∨ j = 2 ∨ j = 3 ∨ j = 4 ∨ j = 5 ∨ j = 6 ∨ j = 7 ∨ j = 8 ∨ j = 9 := (by omega); rcases hj2 with rfl | rfl | rfl | rfl | rfl | rfl | rfl | rfl | rfl | rfl <;> rfl) (Nat.le_of_ble_eq_true rfl) (Nat.le_of_ble_eq_true rfl) dL_law_8 (fun x1 H hP hD hS => ?_)
  refine W.widen (k := 11) (n := 208) (Nat.le_of_ble_eq_true rfl) (Nat.le_of_ble_eq_true rfl) ?_
  refine lv_dup (pc := 11) hx hb dL_law_11 rfl ?_
  have hP : va_P (dC, dI) vwCl ([(x1, .inr (1, [.int 0, .null, .null, .null, .null, .int 0, .int 0, .int 0, .int 0, .null]))] ++ wg (l, (dC, dI), cI, cZ) (x0, ad0) 0 0 0 0 0 0 0 0 (fun _ => 0) (fun _ => 0) (fun _ => 0) (fun _ => 0) (fun _ => 0) (fun _ => 0) (fun _ => 0) (fun _ => 0) (fun _ => 0)) H := fz_swapP hP
  have hD : va_D (fun a : Nat => s.heap.size ≤ a) ([(x1, .inr (1, [.int 0, .null, .null, .null, .null, .int 0, .int 0, .int 0, .int 0, .null]))] ++ wg (l, (dC, dI), cI, cZ) (x0, ad0) 0 0 0 0 0 0 0 0 (fun _ => 0) (fun _ => 0) (fun _ => 0) (fun _ => 0) (fun _ => 0) (fun _ => 0) (fun _ => 0) (fun _ => 0) (fun _ => 0)) := fz_swapD hD
  have hPc := fz_Pl hP
  have hDc := fz_Dl hD
  have hFc := fz_freeL hD hS hA
  refine va_callv (va_runI (As := []) (rest := [.ref x1]) ⟨hx, hb, hml, hown, hts⟩ (m1_init (l, (dC, dI), cI, cZ) x1 H.size) (cwI 0 hts (lw_meth q211) rfl rfl rfl (hts _ q28) (hts _ q209) (hts _ q210) rfl (by decide +kernel) ⟨Nat.le_of_ble_eq_true rfl, Nat.le_of_ble_eq_true rfl⟩) ⟨fun a9 U g mk z => by obtain ⟨z0, z1, zP, zK, zD⟩ := z; exact ⟨z0, z1, zP, va_K.moved (u := U) (U := U.calling g mk a9) (Vm.Alike.refl U.vm) zK, zD⟩, fun U hU hW => ⟨rfl, by rw [hU], by rw [hU]; exact hPc, va_K.moved hW.alike hK, hDc.weaken (fun _ _ _ _ => trivial)⟩⟩ rfl rfl hl.1 rfl (lv_room (Nat.le_of_ble_eq_true rfl)) dL_law_12 ⟨Nat.le_of_ble_eq_true rfl, Nat.le_of_ble_eq_true rfl⟩) hS (fun a9 _ h => hFc a9 h) hFc (fun ad1 t H1 locs ht hvm hw hB hz1 hk1 hS => ?_)
  obtain ⟨hP1, hK1, hD1⟩ := hB
  rw [ht] at hP1
  obtain ⟨hP, hD⟩ := fz_join hP hD hk1 hFc hP1 hD1
  generalize H1 = H at hP hS ⊢
  have hP : va_P (dC, dI) vwCl (wg (l, (dC, dI), cI, cZ) (x0, ad0) 0 0 0 0 0 0 0 0 (fun _ => 0) (fun _ => 0) (fun _ => 0) (fun _ => 0) (fun _ => 0) (fun _ => 0) (fun _ => 0) (fun _ => 0) (fun _ => 0) ++ wm (l, (dC, dI), cI, cZ) (x1, ad1) 0 0 0 0 0 (fun _ => 0) (fun _ => 0) (fun _ => 0) (fun _ => 0) (fun _ => 0)) H := fz_swapP hP
  have hD : va_D (fun a : Nat => s.heap.size ≤ a) (wg (l, (dC, dI), cI, cZ) (x0, ad0) 0 0 0 0 0 0 0 0 (fun _ => 0) (fun _ => 0) (fun _ => 0) (fun _ => 0) (fun _ => 0) (fun _ => 0) (fun _ => 0) (fun _ => 0) (fun _ => 0) ++ wm (l, (dC, dI), cI, cZ) (x1, ad1) 0 0 0 0 0 (fun _ => 0) (fun _ => 0) (fun _ => 0) (fun _ => 0) (fun _ => 0)) := fz_swapD hD
  refine lv_astore_n (pc := 15) (lv' := [(2, .ref x1), (1, .ref x0), (0, .ref b)]) hx hb dL_law_15 rfl hl (by decide) rfl (fun ls hl => ?_)
  refine lv_iconst (pc := 16) (v := 0) hx hb dL_law_16 (by decide) ?_
  refine lv_istore_n (pc := 17) (lv' := [(3, .int 0), (2, .ref x1), (1, .ref x0), (0, .ref b)]) hx hb dL_law_17 rfl hl (by decide) rfl (fun ls hl => ?_)
  refine W.widen (k := 600000) (n := 7290000) (Nat.le_of_ble_eq_true rfl) (Nat.le_of_ble_eq_true rfl) ?_
  have ok : fz_ok (l, (dC, dI), cI, cZ) (p, e, room_1, s, m, #[Value.ref b], below, meth, c, (fun a : Nat => s.heap.size ≤ a), lw_Z below #[Value.ref b] s, 600000, 7290000) cL_law 4 R_law 7 := ⟨hx, hb, hml, hown, hts, hK, hA, by decide, by decide, Nat.le_refl _, Nat.le_refl _⟩
  have hlc : fz_lc ls c.maxLocals [.ref b, .ref x0, .ref x1, .int (nI (3 * 0))] := by
    rw [hml]
    refine ⟨hl.1, hl.2.1, fz_cats rfl, fun i v hv => ?_⟩
    match i, hv with
    | 0, hv => cases hv; exact lv_at hl 3 rfl
    | 1, hv => cases hv; exact lv_at hl 2 rfl
    | 2, hv => cases hv; exact lv_at hl 1 rfl
    | 3, hv => cases hv; exact lv_at hl 0 rfl
    | i + 4, hv => simp at hv
  exact law_loop (o := (x0, ad0)) (o2 := (x1, ad1)) ok ⟨hX, hbl, hbA⟩ hL rfl (fun ws pc lc hd H locs ls hP hD hS hl => va_forget (fun q hq => hS.2.2 q hq) (lw_ret hx hb hr hlocks hd)) (L + 1) 0 0 0 0 0 0 0 0 0 0 (fun _ => 0) (fun _ => 0) (fun _ => 0) (fun _ => 0) (fun _ => 0) (fun _ => 0) (fun _ => 0) (fun _ => 0) (fun _ => 0) (fun _ => 0) (by omega) (by decide) (LJ_start _ _ _ _ _ _ _ _ _ (by decide)) H locs ls hP hD hS hlc
end
section
set_option maxRecDepth 100000
set_option maxHeartbeats 4000000 in
theorem lw_walk (l : Launch) (b : Addr) (xs : List Int32) : MetFree l x (headSpec (Jvm.Cond.code x code maxLocals ret :: tables_1) room_1) (lw_P b xs) (fun _ _ _ _ _ => True) lw_Q := by
  refine MetFree.of_bodyS (code := code) (maxLocals := maxLocals) (ret := ret) (by decide) ?_ ?_
  · intro args s m h hn
    obtain ⟨meth, c, h1, h2, h3, h4, h5, h6, -, -⟩ := Cond.code_spec hn (atoms_spec (ws := Jvm.Cond.code x code maxLocals ret :: tables_1) h _ List.mem_cons_self)
    exact ⟨meth, c, h1, h2, h3, h4, h5, h6⟩
  · intro p e s m args below meth c s₁ B hml0 hP _
    obtain ⟨rfl, hx, hbd, hgv⟩ := hP
    obtain ⟨scr, harrAt, hlist, hof, hsmall⟩ := hx
    obtain ⟨hcb, hkn, -, -⟩ := State.arrayAt?_spec harrAt
    have hown : s.vm.findClass R_law = some m.cls := findClass_of_methodNamed B.named
    have hts0 : ∀ c ∈ (Jvm.Cond.code x code maxLocals ret :: tables_1), c.before #[Value.ref b] s = true := atoms_spec (ws := Jvm.Cond.code x code maxLocals ret :: tables_1) B.pre
    have hts : ∀ w ∈ lw_tbl, w.before #[Value.ref b] s = true := k2_hts_sels lw_privs (fun w hw => hts0 w (List.mem_cons_of_mem _ hw)) lw_privs_ok
    have hml : c.maxLocals = 4 := B.maxLocals_eq (hts0 _ List.mem_cons_self)
    have X₀ : Stand p l e room_1 s m #[Value.ref b] below meth c s₁ [] 0 0 := Stand.of_body B
    have hh0 : s₁.heap = s.heap := by rw [B.state]; rfl
    have hsz : scr.slots.size = xs.length := by rw [← Array.length_toList, hlist, List.length_map]
    have hval : ∀ j : Nat, j < xs.length → scr.slots[j]? = some (.int (xs.getD j 0)) := fun j hj => by
      rw [← Array.getElem?_toList, hlist]
      simp [hj]
    have hbl : b < s.heap.size := (Array.getElem?_eq_some_iff.mp hcb).1
    have hX : va_X b xs.length (fun j => xs.getD j 0) s s.heap := ⟨scr, hcb, hof, hkn, hsz, hval⟩
    have K : W p l e room_1 s m #[Value.ref b] below meth c s₁.heap [] 0 0 (lw_Z below #[Value.ref b] s) (entryFrame m ([Value.ref b] : List Value).toArray 4) := by
      rw [hh0]
      exact whole_start l hbd ⟨B.exec, B.bytes, B.returns, hml, hown, hts, hX, hbl, B.notSynchronized, hgv⟩
    obtain ⟨t, a1, o, b1, b2, b3⟩ := K s₁ rfl X₀
    exact ⟨t, o, a1, b1, b2, b3⟩
theorem lw_pre_spec {args : Array Value} {s : State} (h : (Jvm.Cond.and given_1 narrow_1).before args s = true) (hr : rest_1_c.before args s = true) : ∃ (b : Addr) (xs : List Int32), lw_P b xs args s := by
  have hs := flat_of_before _ h
  have hq := flat_of_before _ hr
  have hc : (Cond.count 1).before args s = true := hs _ (by decide +kernel)
  have harr : (Cond.arrayOf (.arg 0) .int).before args s = true := hs _ (by decide +kernel)
  have hle : (Cond.le (.length (.arg 0)) (.int 192)).before args s = true := hs _ (by decide +kernel)
  have hlen : (Cond.isInt (.length (.arg 0))).before args s = true := hq _ (by decide +kernel)
  have hall : (Cond.all (.arg 0) (.isInt (.elem (.arg 0) (.index 0)))).before args s = true := hq _ (by decide +kernel)
  obtain ⟨b, xs, hb, hx⟩ := State.ints_of_pre rfl harr hlen hall
  have hsm : xs.length < 2 ^ 31 := hx.choose_spec.2.2.2
  have hev : (Term.length (.arg 0)).eval args s none [] s = some (.int xs.length.toInt32) := hx.length_eval hb
  have hv := Cond.le_ints hev (show (Term.int 192).eval args s none [] s = some (.int 192) from rfl)
  have hd : xs.length.toInt32 ≤ 192 := by
    simpa [Cond.before, Cond.holds, hv] using hle
  have hN : xs.length ≤ 192 := (Int32.ofNat_le_ofNat hsm (by decide)).mp (show Int32.ofNat xs.length ≤ Int32.ofNat 192 from hd)
  exact ⟨b, xs, Cond.one_arg hc (show args[0]? = some (.ref b) from hb), hx, hN, h⟩
theorem lw_comes (l : Launch) : Comes l x (Jvm.Cond.code x code maxLocals ret :: tables_1) room_1 (fun tb e args s => Calls_1 tb e args s ∧ rest_1 tb e args s ∧ Pre_1 tb e args s)
    (fun _ _ args s o t => lw_Q args s o t) := by
  intro p e ha hc hk s m args below hf hfit hheap happ hpre
  obtain ⟨b, xs, hP⟩ := lw_pre_spec hpre.2.2 hpre.2.1
  obtain ⟨k, o, h1, h2, h3, hQ⟩ := lw_walk l b xs p e ha hc hk s m args below hf ((Spec.applies_iff_loose hf).mp happ).1 hP trivial
  exact ⟨k, o, h1, h2, h3, hQ⟩
theorem lw_frame {s t : State} {o : Outcome} {args : Array Value} (h : Framed s o t [] 600000 7290000) :
    Framed s o t (fieldLocs frame_1_writes args s ++ arrayLocs frame_1_arrays args s ++ staticLocs frame_1_statics s) 600000 7290000 := h
theorem lw_limb (L : Cond) (hL : ∀ (args : Array Value) (s t : State), L.after args s (.returned (some (.int 1))) t = true) :
    ArmFor flags0 classFile x code maxLocals ret World_1 tables_1 room_1 Calls_1 rest_1 Pre_1
      (fun tb e a s o t => postC L tb e a s o t ∧ Framed s o t (fieldLocs frame_1_writes a s ++ arrayLocs frame_1_arrays a s ++ staticLocs frame_1_statics s) 600000 7290000) := by
  intro l _ _ _ p e ha hc hk s m args below hf hfit hheap happ hpre
  obtain ⟨k, o, h1, h2, h3, rfl, hF⟩ := lw_comes l p e ha hc hk s m args below hf hfit hheap happ hpre
  exact ⟨k, _, h1, h2, h3, hL args s _, lw_frame hF⟩
theorem i_vc : Claimed_1_1 ∧ Claimed_1_2 := ⟨lw_limb limb_1_1 (fun args s t => by simp [limb_1_1, Cond.after, Cond.holds, Cond.value]), lw_limb limb_1_2 (fun args s t => Cond.after_iff.mpr (by
  first | (rw [show limb_1_2 = Cond.eq .result (.int 1) from rfl, Cond.eq_ints (x := 1) (y := 1) rfl rfl]; simp; done) | (simp [limb_1_2, Cond.value, Term.eval]; done)))⟩
end
