section
-- ===== PART A: goes FIRST, ahead of the names: the tables' words, and 'selects' of the private methods out of them =====
/-- a private method of a class that the tables say can be made, by its rows of tables_1 -/
def lw_okq (q : MethodName × Nat) : Prop := (q.1.cls ≠ "java/lang/invoke/MethodHandle" ∧ q.1.cls ≠ "java/lang/invoke/VarHandle") ∧ Cond.instantiable q.1.cls q.2 ∈ tables_1 ∧ Cond.privateMethod q.1 ∈ tables_1 ∧ Cond.instanceMethod q.1 ∈ tables_1
set_option maxRecDepth 100000
theorem lw_t1 {w : Cond} (h : w ∈ tables_1_1) : w ∈ tables_1 := List.mem_append_left _ h
theorem lw_t2 {w : Cond} (h : w ∈ tables_1_2) : w ∈ tables_1 := List.mem_append_right _ h
theorem lw_p0 : lw_okq (⟨"PlanLayers", "isSet", "(I)Z"⟩, 20) := ⟨⟨by decide +kernel, by decide +kernel⟩, lw_t1 (List.mem_of_getElem? (i := 4) rfl), lw_t1 (List.mem_of_getElem? (i := 80) rfl), lw_t1 (List.mem_of_getElem? (i := 81) rfl)⟩
theorem lw_p1 : lw_okq (⟨"PlanLayers", "isAction", "(I)Z"⟩, 20) := ⟨⟨by decide +kernel, by decide +kernel⟩, lw_t1 (List.mem_of_getElem? (i := 4) rfl), lw_t1 (List.mem_of_getElem? (i := 88) rfl), lw_t1 (List.mem_of_getElem? (i := 89) rfl)⟩
theorem lw_p2 : lw_okq (⟨"PlanLayers", "deedsClash", "(II)Z"⟩, 20) := ⟨⟨by decide +kernel, by decide +kernel⟩, lw_t1 (List.mem_of_getElem? (i := 4) rfl), lw_t1 (List.mem_of_getElem? (i := 100) rfl), lw_t1 (List.mem_of_getElem? (i := 101) rfl)⟩
theorem lw_p3 : lw_okq (⟨"PlanLayers", "needsOf", "(I)I"⟩, 20) := ⟨⟨by decide +kernel, by decide +kernel⟩, lw_t1 (List.mem_of_getElem? (i := 4) rfl), lw_t1 (List.mem_of_getElem? (i := 104) rfl), lw_t1 (List.mem_of_getElem? (i := 105) rfl)⟩
theorem lw_p4 : lw_okq (⟨"PlanLayers", "gainsOf", "(I)I"⟩, 20) := ⟨⟨by decide +kernel, by decide +kernel⟩, lw_t1 (List.mem_of_getElem? (i := 4) rfl), lw_t1 (List.mem_of_getElem? (i := 108) rfl), lw_t1 (List.mem_of_getElem? (i := 109) rfl)⟩
theorem lw_p5 : lw_okq (⟨"PlanLayers", "lossesOf", "(I)I"⟩, 20) := ⟨⟨by decide +kernel, by decide +kernel⟩, lw_t1 (List.mem_of_getElem? (i := 4) rfl), lw_t1 (List.mem_of_getElem? (i := 112) rfl), lw_t1 (List.mem_of_getElem? (i := 113) rfl)⟩
theorem lw_p6 : lw_okq (⟨"PlanLayers", "build", "()V"⟩, 20) := ⟨⟨by decide +kernel, by decide +kernel⟩, lw_t1 (List.mem_of_getElem? (i := 4) rfl), lw_t1 (List.mem_of_getElem? (i := 120) rfl), lw_t1 (List.mem_of_getElem? (i := 121) rfl)⟩
theorem lw_p7 : lw_okq (⟨"PlanLayers", "exists", "(I)Z"⟩, 20) := ⟨⟨by decide +kernel, by decide +kernel⟩, lw_t1 (List.mem_of_getElem? (i := 4) rfl), lw_t1 (List.mem_of_getElem? (i := 124) rfl), lw_t1 (List.mem_of_getElem? (i := 125) rfl)⟩
theorem lw_p8 : lw_okq (⟨"PlanLayers", "findDeeds", "(I)V"⟩, 20) := ⟨⟨by decide +kernel, by decide +kernel⟩, lw_t1 (List.mem_of_getElem? (i := 4) rfl), lw_t1 (List.mem_of_getElem? (i := 128) rfl), lw_t1 (List.mem_of_getElem? (i := 129) rfl)⟩
theorem lw_p9 : lw_okq (⟨"PlanLayers", "canBeTogether", "(II)Z"⟩, 20) := ⟨⟨by decide +kernel, by decide +kernel⟩, lw_t1 (List.mem_of_getElem? (i := 4) rfl), lw_t1 (List.mem_of_getElem? (i := 132) rfl), lw_t1 (List.mem_of_getElem? (i := 133) rfl)⟩
theorem lw_p10 : lw_okq (⟨"PlanLayers", "findFacts", "(I)V"⟩, 20) := ⟨⟨by decide +kernel, by decide +kernel⟩, lw_t1 (List.mem_of_getElem? (i := 4) rfl), lw_t1 (List.mem_of_getElem? (i := 136) rfl), lw_t1 (List.mem_of_getElem? (i := 137) rfl)⟩
theorem lw_p11 : lw_okq (⟨"PlanLayers", "makersOf", "(II)I"⟩, 20) := ⟨⟨by decide +kernel, by decide +kernel⟩, lw_t1 (List.mem_of_getElem? (i := 4) rfl), lw_t1 (List.mem_of_getElem? (i := 140) rfl), lw_t1 (List.mem_of_getElem? (i := 141) rfl)⟩
theorem lw_p12 : lw_okq (⟨"PlanLayers", "allBarred", "(III)Z"⟩, 20) := ⟨⟨by decide +kernel, by decide +kernel⟩, lw_t1 (List.mem_of_getElem? (i := 4) rfl), lw_t1 (List.mem_of_getElem? (i := 144) rfl), lw_t1 (List.mem_of_getElem? (i := 145) rfl)⟩
theorem lw_p13 : lw_okq (⟨"PlanLayers", "serves", "(II)Z"⟩, 20) := ⟨⟨by decide +kernel, by decide +kernel⟩, lw_t1 (List.mem_of_getElem? (i := 4) rfl), lw_t1 (List.mem_of_getElem? (i := 148) rfl), lw_t1 (List.mem_of_getElem? (i := 149) rfl)⟩
theorem lw_p14 : lw_okq (⟨"PlanLayers", "isMarked", "(ZII)Z"⟩, 20) := ⟨⟨by decide +kernel, by decide +kernel⟩, lw_t1 (List.mem_of_getElem? (i := 4) rfl), lw_t1 (List.mem_of_getElem? (i := 152) rfl), lw_t1 (List.mem_of_getElem? (i := 153) rfl)⟩
theorem lw_p15 : lw_okq (⟨"PlanLayers", "enter", "(II)V"⟩, 20) := ⟨⟨by decide +kernel, by decide +kernel⟩, lw_t1 (List.mem_of_getElem? (i := 4) rfl), lw_t1 (List.mem_of_getElem? (i := 156) rfl), lw_t1 (List.mem_of_getElem? (i := 157) rfl)⟩
def lw_privs_1 : List (MethodName × Nat) := [(⟨"PlanLayers", "isSet", "(I)Z"⟩, 20), (⟨"PlanLayers", "isAction", "(I)Z"⟩, 20), (⟨"PlanLayers", "deedsClash", "(II)Z"⟩, 20), (⟨"PlanLayers", "needsOf", "(I)I"⟩, 20), (⟨"PlanLayers", "gainsOf", "(I)I"⟩, 20), (⟨"PlanLayers", "lossesOf", "(I)I"⟩, 20), (⟨"PlanLayers", "build", "()V"⟩, 20), (⟨"PlanLayers", "exists", "(I)Z"⟩, 20), (⟨"PlanLayers", "findDeeds", "(I)V"⟩, 20), (⟨"PlanLayers", "canBeTogether", "(II)Z"⟩, 20), (⟨"PlanLayers", "findFacts", "(I)V"⟩, 20), (⟨"PlanLayers", "makersOf", "(II)I"⟩, 20), (⟨"PlanLayers", "allBarred", "(III)Z"⟩, 20), (⟨"PlanLayers", "serves", "(II)Z"⟩, 20), (⟨"PlanLayers", "isMarked", "(ZII)Z"⟩, 20), (⟨"PlanLayers", "enter", "(II)V"⟩, 20)]
theorem lw_r1 : ∀ q ∈ lw_privs_1, lw_okq q := List.forall_mem_cons.mpr ⟨lw_p0, List.forall_mem_cons.mpr ⟨lw_p1, List.forall_mem_cons.mpr ⟨lw_p2, List.forall_mem_cons.mpr ⟨lw_p3, List.forall_mem_cons.mpr ⟨lw_p4, List.forall_mem_cons.mpr ⟨lw_p5, List.forall_mem_cons.mpr ⟨lw_p6, List.forall_mem_cons.mpr ⟨lw_p7, List.forall_mem_cons.mpr ⟨lw_p8, List.forall_mem_cons.mpr ⟨lw_p9, List.forall_mem_cons.mpr ⟨lw_p10, List.forall_mem_cons.mpr ⟨lw_p11, List.forall_mem_cons.mpr ⟨lw_p12, List.forall_mem_cons.mpr ⟨lw_p13, List.forall_mem_cons.mpr ⟨lw_p14, List.forall_mem_cons.mpr ⟨lw_p15, fun _ h => absurd h List.not_mem_nil⟩⟩⟩⟩⟩⟩⟩⟩⟩⟩⟩⟩⟩⟩⟩⟩
theorem lw_p16 : lw_okq (⟨"PlanLayers", "markAbove", "(II)V"⟩, 20) := ⟨⟨by decide +kernel, by decide +kernel⟩, lw_t1 (List.mem_of_getElem? (i := 4) rfl), lw_t1 (List.mem_of_getElem? (i := 160) rfl), lw_t1 (List.mem_of_getElem? (i := 161) rfl)⟩
theorem lw_p17 : lw_okq (⟨"PlanLayers", "markSet", "(ZII)V"⟩, 20) := ⟨⟨by decide +kernel, by decide +kernel⟩, lw_t1 (List.mem_of_getElem? (i := 4) rfl), lw_t1 (List.mem_of_getElem? (i := 164) rfl), lw_t1 (List.mem_of_getElem? (i := 165) rfl)⟩
theorem lw_p18 : lw_okq (⟨"PlanLayers", "neededBy", "(I)I"⟩, 20) := ⟨⟨by decide +kernel, by decide +kernel⟩, lw_t1 (List.mem_of_getElem? (i := 4) rfl), lw_t1 (List.mem_of_getElem? (i := 168) rfl), lw_t1 (List.mem_of_getElem? (i := 169) rfl)⟩
theorem lw_p19 : lw_okq (⟨"PlanLayers", "goBack", "(II)I"⟩, 20) := ⟨⟨by decide +kernel, by decide +kernel⟩, lw_t1 (List.mem_of_getElem? (i := 4) rfl), lw_t1 (List.mem_of_getElem? (i := 172) rfl), lw_t1 (List.mem_of_getElem? (i := 173) rfl)⟩
theorem lw_p20 : lw_okq (⟨"PlanLayers", "choose", "(III)Z"⟩, 20) := ⟨⟨by decide +kernel, by decide +kernel⟩, lw_t1 (List.mem_of_getElem? (i := 4) rfl), lw_t1 (List.mem_of_getElem? (i := 176) rfl), lw_t1 (List.mem_of_getElem? (i := 177) rfl)⟩
theorem lw_p21 : lw_okq (⟨"PlanLayers", "lowestOpen", "(I)I"⟩, 20) := ⟨⟨by decide +kernel, by decide +kernel⟩, lw_t1 (List.mem_of_getElem? (i := 4) rfl), lw_t1 (List.mem_of_getElem? (i := 180) rfl), lw_t1 (List.mem_of_getElem? (i := 181) rfl)⟩
theorem lw_p22 : lw_okq (⟨"PlanLayers", "isLayer", "(II)Z"⟩, 20) := ⟨⟨by decide +kernel, by decide +kernel⟩, lw_t1 (List.mem_of_getElem? (i := 4) rfl), lw_t1 (List.mem_of_getElem? (i := 197) rfl), lw_t1 (List.mem_of_getElem? (i := 198) rfl)⟩
theorem lw_p23 : lw_okq (⟨"PlanLayers", "after", "(II)I"⟩, 20) := ⟨⟨by decide +kernel, by decide +kernel⟩, lw_t1 (List.mem_of_getElem? (i := 4) rfl), lw_t1 (List.mem_of_getElem? (i := 201) rfl), lw_t1 (List.mem_of_getElem? (i := 202) rfl)⟩
theorem lw_p24 : lw_okq (⟨"PlanLayersModel", "isSet", "(I)Z"⟩, 6) := ⟨⟨by decide +kernel, by decide +kernel⟩, lw_t1 (List.mem_of_getElem? (i := 213) rfl), lw_t2 (List.mem_of_getElem? (i := 3) rfl), lw_t2 (List.mem_of_getElem? (i := 4) rfl)⟩
theorem lw_p25 : lw_okq (⟨"PlanLayersModel", "isAction", "(I)Z"⟩, 6) := ⟨⟨by decide +kernel, by decide +kernel⟩, lw_t1 (List.mem_of_getElem? (i := 213) rfl), lw_t2 (List.mem_of_getElem? (i := 11) rfl), lw_t2 (List.mem_of_getElem? (i := 12) rfl)⟩
theorem lw_p26 : lw_okq (⟨"PlanLayersModel", "setOut", "(I)V"⟩, 6) := ⟨⟨by decide +kernel, by decide +kernel⟩, lw_t1 (List.mem_of_getElem? (i := 213) rfl), lw_t2 (List.mem_of_getElem? (i := 27) rfl), lw_t2 (List.mem_of_getElem? (i := 28) rfl)⟩
theorem lw_p27 : lw_okq (⟨"PlanLayersModel", "after", "(II)I"⟩, 6) := ⟨⟨by decide +kernel, by decide +kernel⟩, lw_t1 (List.mem_of_getElem? (i := 213) rfl), lw_t2 (List.mem_of_getElem? (i := 31) rfl), lw_t2 (List.mem_of_getElem? (i := 32) rfl)⟩
theorem lw_p28 : lw_okq (⟨"PlanLayersModel", "served", "(II)Z"⟩, 6) := ⟨⟨by decide +kernel, by decide +kernel⟩, lw_t1 (List.mem_of_getElem? (i := 213) rfl), lw_t2 (List.mem_of_getElem? (i := 36) rfl), lw_t2 (List.mem_of_getElem? (i := 37) rfl)⟩
def lw_privs_2 : List (MethodName × Nat) := [(⟨"PlanLayers", "markAbove", "(II)V"⟩, 20), (⟨"PlanLayers", "markSet", "(ZII)V"⟩, 20), (⟨"PlanLayers", "neededBy", "(I)I"⟩, 20), (⟨"PlanLayers", "goBack", "(II)I"⟩, 20), (⟨"PlanLayers", "choose", "(III)Z"⟩, 20), (⟨"PlanLayers", "lowestOpen", "(I)I"⟩, 20), (⟨"PlanLayers", "isLayer", "(II)Z"⟩, 20), (⟨"PlanLayers", "after", "(II)I"⟩, 20), (⟨"PlanLayersModel", "isSet", "(I)Z"⟩, 6), (⟨"PlanLayersModel", "isAction", "(I)Z"⟩, 6), (⟨"PlanLayersModel", "setOut", "(I)V"⟩, 6), (⟨"PlanLayersModel", "after", "(II)I"⟩, 6), (⟨"PlanLayersModel", "served", "(II)Z"⟩, 6)]
theorem lw_r2 : ∀ q ∈ lw_privs_2, lw_okq q := List.forall_mem_cons.mpr ⟨lw_p16, List.forall_mem_cons.mpr ⟨lw_p17, List.forall_mem_cons.mpr ⟨lw_p18, List.forall_mem_cons.mpr ⟨lw_p19, List.forall_mem_cons.mpr ⟨lw_p20, List.forall_mem_cons.mpr ⟨lw_p21, List.forall_mem_cons.mpr ⟨lw_p22, List.forall_mem_cons.mpr ⟨lw_p23, List.forall_mem_cons.mpr ⟨lw_p24, List.forall_mem_cons.mpr ⟨lw_p25, List.forall_mem_cons.mpr ⟨lw_p26, List.forall_mem_cons.mpr ⟨lw_p27, List.forall_mem_cons.mpr ⟨lw_p28, fun _ h => absurd h List.not_mem_nil⟩⟩⟩⟩⟩⟩⟩⟩⟩⟩⟩⟩⟩
def lw_privs : List (MethodName × Nat) := lw_privs_1 ++ (lw_privs_2)
def lw_tbl : List Cond := k2_sels lw_privs ++ tables_1
theorem lw_privs_ok : ∀ q ∈ lw_privs, lw_okq q := by
  show ∀ q ∈ lw_privs_1 ++ (lw_privs_2), lw_okq q
  exact List.forall_mem_append.mpr ⟨lw_r1, lw_r2⟩
-- ===== ONE list of words for every method: the tables' words that hold all through a run =====
def lw_all : List Cond := lw_tbl.filter goodWord
/-- a word of the tables by its place: claim/WORDS.tsv -/
theorem lw_w {w : Cond} (i : Nat) (h : lw_tbl[i]? = some w) (g : goodWord w = true) : w ∈ lw_all := List.mem_filter.mpr ⟨List.mem_of_getElem? h, g⟩
theorem lw_all_tbl {w : Cond} (h : w ∈ lw_all) : w ∈ lw_tbl := (List.mem_filter.mp h).1
theorem lw_self : GoodIn lw_all lw_all := fun w h => ⟨h, good_of_word (List.mem_filter.mp h).2⟩
/-- a class's field words, by their places -/
theorem lw_in (ws : List Cond) (ps : List Nat) (hp : ws = ps.filterMap (fun i => lw_tbl[i]?)) (hg : ws.all goodWord = true) : ∀ w ∈ ws, w ∈ lw_all := by
  intro w h
  have h1 := List.all_eq_true.mp hg w h
  rw [hp] at h
  obtain ⟨i, -, hi⟩ := List.mem_filterMap.mp h
  exact lw_w i hi h1
/-- the words of a contract for the method y with code b, L locals, answer r -/
abbrev ws_ (y : MethodName) (b : ByteArray) (L : Nat) (r : Option FieldType) : List Cond := Cond.code y b L r :: lw_all
theorem lw_meth {y : MethodName} {b : ByteArray} {L : Nat} {r : Option FieldType} (h : Cond.code y b L r ∈ lw_all) : GoodIn lw_all (ws_ y b L r) := by
  intro w hw
  rcases List.mem_cons.mp hw with e | e
  · rw [e]
    exact lw_self _ h
  · exact lw_self _ e
theorem lw_app {a c : List Cond} (ha : ∀ w ∈ a, w ∈ lw_all) (hc : GoodIn lw_all c) : GoodIn lw_all (a ++ c) := by
  intro w hw
  rcases List.mem_append.mp hw with e | e
  · exact lw_self w (ha w e)
  · exact hc w e
/-- what a call through an object asks: cwV n hts (lw_V ..) -/
theorem lw_V {own : String} {idx : Nat} {C : String} {y : MethodName} {b : ByteArray} {L : Nat} {r : Option FieldType} (h1 : Cond.methodLink own idx y ∈ lw_all) (h2 : Cond.instanceMethod y ∈ lw_all) (h3 : Cond.selects C y y ∈ lw_all) (h4 : Cond.initialized C ∈ lw_all) (h5 : Cond.code y b L r ∈ lw_all) : GoodIn lw_all (wsV own idx C y (ws_ y b L r)) := by
  refine lw_app ?_ (lw_meth h5)
  intro w hw
  simp only [List.mem_cons, List.not_mem_nil, or_false] at hw
  rcases hw with e | e | e | e
  · rw [e]; exact h1
  · rw [e]; exact h2
  · rw [e]; exact h3
  · rw [e]; exact h4
/-- what a static call asks: va_cwS n hts (lw_S ..) -/
theorem lw_S {own : String} {idx : Nat} {y : MethodName} {b : ByteArray} {L : Nat} {r : Option FieldType} (h1 : Cond.methodLink own idx y ∈ lw_all) (h2 : Cond.static y ∈ lw_all) (h3 : Cond.initialized y.cls ∈ lw_all) (h4 : Cond.code y b L r ∈ lw_all) : GoodIn lw_all (va_wsS own idx y (ws_ y b L r)) := by
  refine lw_app ?_ (lw_meth h4)
  intro w hw
  simp only [List.mem_cons, List.not_mem_nil, or_false] at hw
  rcases hw with e | e | e
  · rw [e]; exact h1
  · rw [e]; exact h2
  · rw [e]; exact h3
/-- the words of a contract for a method WITH HANDLERS (hh: its table) -/
abbrev wsW_ (y : MethodName) (b : ByteArray) (L : Nat) (r : Option FieldType) (hh : List (Nat × Nat × Nat × Nat)) : List Cond := Cond.codeWith y b L r hh :: lw_all
theorem lw_methW {y : MethodName} {b : ByteArray} {L : Nat} {r : Option FieldType} {hh : List (Nat × Nat × Nat × Nat)} (h : Cond.codeWith y b L r hh ∈ lw_all) : GoodIn lw_all (wsW_ y b L r hh) := by
  intro w hw
  rcases List.mem_cons.mp hw with e | e
  · rw [e]
    exact lw_self _ h
  · exact lw_self _ e
/-- any list of words by their places (lw_in), good -/
theorem lw_good {ws : List Cond} (h : ∀ w ∈ ws, w ∈ lw_all) : GoodIn lw_all ws := fun w hw => lw_self w (h w hw)
/-- what a call of a method with handlers asks: vx_cwVW n hts (lw_VW ..), vx_cwSW n hts (lw_SW ..) -/
theorem lw_VW {own : String} {idx : Nat} {C : String} {y : MethodName} {b : ByteArray} {L : Nat} {r : Option FieldType} {hh : List (Nat × Nat × Nat × Nat)} (h1 : Cond.methodLink own idx y ∈ lw_all) (h2 : Cond.instanceMethod y ∈ lw_all) (h3 : Cond.selects C y y ∈ lw_all) (h4 : Cond.initialized C ∈ lw_all) (h5 : Cond.codeWith y b L r hh ∈ lw_all) : GoodIn lw_all (wsV own idx C y (wsW_ y b L r hh)) := by
  refine lw_app ?_ (lw_methW h5)
  intro w hw
  simp only [List.mem_cons, List.not_mem_nil, or_false] at hw
  rcases hw with e | e | e | e
  · rw [e]; exact h1
  · rw [e]; exact h2
  · rw [e]; exact h3
  · rw [e]; exact h4
theorem lw_SW {own : String} {idx : Nat} {y : MethodName} {b : ByteArray} {L : Nat} {r : Option FieldType} {hh : List (Nat × Nat × Nat × Nat)} (h1 : Cond.methodLink own idx y ∈ lw_all) (h2 : Cond.static y ∈ lw_all) (h3 : Cond.initialized y.cls ∈ lw_all) (h4 : Cond.codeWith y b L r hh ∈ lw_all) : GoodIn lw_all (va_wsS own idx y (wsW_ y b L r hh)) := by
  refine lw_app ?_ (lw_methW h4)
  intro w hw
  simp only [List.mem_cons, List.not_mem_nil, or_false] at hw
  rcases hw with e | e | e
  · rw [e]; exact h1
  · rw [e]; exact h2
  · rw [e]; exact h3
/-- a word by its place in its run of the tables -/
theorem lw_at {r : List Cond} (hr : ∀ w ∈ r, w ∈ lw_tbl) {w : Cond} (i : Nat) (h : r[i]? = some w) : w ∈ lw_tbl := hr w (List.mem_of_getElem? h)
theorem lw_g {w : Cond} (h : w ∈ lw_tbl) (g : goodWord w = true) : w ∈ lw_all := List.mem_filter.mpr ⟨h, g⟩
theorem lw_ms : ∀ w ∈ k2_sels lw_privs, w ∈ lw_tbl := fun w h => show w ∈ k2_sels lw_privs ++ tables_1 from List.mem_append_left _ h
theorem lw_m1 : ∀ w ∈ tables_1_1, w ∈ lw_tbl := fun w h => show w ∈ k2_sels lw_privs ++ tables_1 from List.mem_append_right (k2_sels lw_privs) (show w ∈ tables_1 from List.mem_append_left _ h)
theorem lw_m2 : ∀ w ∈ tables_1_2, w ∈ lw_tbl := fun w h => show w ∈ k2_sels lw_privs ++ tables_1 from List.mem_append_right (k2_sels lw_privs) (show w ∈ tables_1 from List.mem_append_right _ h)
theorem qs0 : (Cond.selects "PlanLayers" ⟨"PlanLayers", "isSet", "(I)Z"⟩ ⟨"PlanLayers", "isSet", "(I)Z"⟩) ∈ lw_all := lw_g (lw_at lw_ms 0 rfl) rfl
theorem qs1 : (Cond.selects "PlanLayers" ⟨"PlanLayers", "isAction", "(I)Z"⟩ ⟨"PlanLayers", "isAction", "(I)Z"⟩) ∈ lw_all := lw_g (lw_at lw_ms 1 rfl) rfl
theorem qs2 : (Cond.selects "PlanLayers" ⟨"PlanLayers", "deedsClash", "(II)Z"⟩ ⟨"PlanLayers", "deedsClash", "(II)Z"⟩) ∈ lw_all := lw_g (lw_at lw_ms 2 rfl) rfl
theorem qs3 : (Cond.selects "PlanLayers" ⟨"PlanLayers", "needsOf", "(I)I"⟩ ⟨"PlanLayers", "needsOf", "(I)I"⟩) ∈ lw_all := lw_g (lw_at lw_ms 3 rfl) rfl
theorem qs4 : (Cond.selects "PlanLayers" ⟨"PlanLayers", "gainsOf", "(I)I"⟩ ⟨"PlanLayers", "gainsOf", "(I)I"⟩) ∈ lw_all := lw_g (lw_at lw_ms 4 rfl) rfl
theorem qs5 : (Cond.selects "PlanLayers" ⟨"PlanLayers", "lossesOf", "(I)I"⟩ ⟨"PlanLayers", "lossesOf", "(I)I"⟩) ∈ lw_all := lw_g (lw_at lw_ms 5 rfl) rfl
theorem qs6 : (Cond.selects "PlanLayers" ⟨"PlanLayers", "build", "()V"⟩ ⟨"PlanLayers", "build", "()V"⟩) ∈ lw_all := lw_g (lw_at lw_ms 6 rfl) rfl
theorem qs7 : (Cond.selects "PlanLayers" ⟨"PlanLayers", "exists", "(I)Z"⟩ ⟨"PlanLayers", "exists", "(I)Z"⟩) ∈ lw_all := lw_g (lw_at lw_ms 7 rfl) rfl
theorem qs8 : (Cond.selects "PlanLayers" ⟨"PlanLayers", "findDeeds", "(I)V"⟩ ⟨"PlanLayers", "findDeeds", "(I)V"⟩) ∈ lw_all := lw_g (lw_at lw_ms 8 rfl) rfl
theorem qs9 : (Cond.selects "PlanLayers" ⟨"PlanLayers", "canBeTogether", "(II)Z"⟩ ⟨"PlanLayers", "canBeTogether", "(II)Z"⟩) ∈ lw_all := lw_g (lw_at lw_ms 9 rfl) rfl
theorem qs10 : (Cond.selects "PlanLayers" ⟨"PlanLayers", "findFacts", "(I)V"⟩ ⟨"PlanLayers", "findFacts", "(I)V"⟩) ∈ lw_all := lw_g (lw_at lw_ms 10 rfl) rfl
theorem qs11 : (Cond.selects "PlanLayers" ⟨"PlanLayers", "makersOf", "(II)I"⟩ ⟨"PlanLayers", "makersOf", "(II)I"⟩) ∈ lw_all := lw_g (lw_at lw_ms 11 rfl) rfl
theorem qs12 : (Cond.selects "PlanLayers" ⟨"PlanLayers", "allBarred", "(III)Z"⟩ ⟨"PlanLayers", "allBarred", "(III)Z"⟩) ∈ lw_all := lw_g (lw_at lw_ms 12 rfl) rfl
theorem qs13 : (Cond.selects "PlanLayers" ⟨"PlanLayers", "serves", "(II)Z"⟩ ⟨"PlanLayers", "serves", "(II)Z"⟩) ∈ lw_all := lw_g (lw_at lw_ms 13 rfl) rfl
theorem qs14 : (Cond.selects "PlanLayers" ⟨"PlanLayers", "isMarked", "(ZII)Z"⟩ ⟨"PlanLayers", "isMarked", "(ZII)Z"⟩) ∈ lw_all := lw_g (lw_at lw_ms 14 rfl) rfl
theorem qs15 : (Cond.selects "PlanLayers" ⟨"PlanLayers", "enter", "(II)V"⟩ ⟨"PlanLayers", "enter", "(II)V"⟩) ∈ lw_all := lw_g (lw_at lw_ms 15 rfl) rfl
theorem qs16 : (Cond.selects "PlanLayers" ⟨"PlanLayers", "markAbove", "(II)V"⟩ ⟨"PlanLayers", "markAbove", "(II)V"⟩) ∈ lw_all := lw_g (lw_at lw_ms 16 rfl) rfl
theorem qs17 : (Cond.selects "PlanLayers" ⟨"PlanLayers", "markSet", "(ZII)V"⟩ ⟨"PlanLayers", "markSet", "(ZII)V"⟩) ∈ lw_all := lw_g (lw_at lw_ms 17 rfl) rfl
theorem qs18 : (Cond.selects "PlanLayers" ⟨"PlanLayers", "neededBy", "(I)I"⟩ ⟨"PlanLayers", "neededBy", "(I)I"⟩) ∈ lw_all := lw_g (lw_at lw_ms 18 rfl) rfl
theorem qs19 : (Cond.selects "PlanLayers" ⟨"PlanLayers", "goBack", "(II)I"⟩ ⟨"PlanLayers", "goBack", "(II)I"⟩) ∈ lw_all := lw_g (lw_at lw_ms 19 rfl) rfl
theorem qs20 : (Cond.selects "PlanLayers" ⟨"PlanLayers", "choose", "(III)Z"⟩ ⟨"PlanLayers", "choose", "(III)Z"⟩) ∈ lw_all := lw_g (lw_at lw_ms 20 rfl) rfl
theorem qs21 : (Cond.selects "PlanLayers" ⟨"PlanLayers", "lowestOpen", "(I)I"⟩ ⟨"PlanLayers", "lowestOpen", "(I)I"⟩) ∈ lw_all := lw_g (lw_at lw_ms 21 rfl) rfl
theorem qs22 : (Cond.selects "PlanLayers" ⟨"PlanLayers", "isLayer", "(II)Z"⟩ ⟨"PlanLayers", "isLayer", "(II)Z"⟩) ∈ lw_all := lw_g (lw_at lw_ms 22 rfl) rfl
theorem qs23 : (Cond.selects "PlanLayers" ⟨"PlanLayers", "after", "(II)I"⟩ ⟨"PlanLayers", "after", "(II)I"⟩) ∈ lw_all := lw_g (lw_at lw_ms 23 rfl) rfl
theorem qs24 : (Cond.selects "PlanLayersModel" ⟨"PlanLayersModel", "isSet", "(I)Z"⟩ ⟨"PlanLayersModel", "isSet", "(I)Z"⟩) ∈ lw_all := lw_g (lw_at lw_ms 24 rfl) rfl
theorem qs25 : (Cond.selects "PlanLayersModel" ⟨"PlanLayersModel", "isAction", "(I)Z"⟩ ⟨"PlanLayersModel", "isAction", "(I)Z"⟩) ∈ lw_all := lw_g (lw_at lw_ms 25 rfl) rfl
theorem qs26 : (Cond.selects "PlanLayersModel" ⟨"PlanLayersModel", "setOut", "(I)V"⟩ ⟨"PlanLayersModel", "setOut", "(I)V"⟩) ∈ lw_all := lw_g (lw_at lw_ms 26 rfl) rfl
theorem qs27 : (Cond.selects "PlanLayersModel" ⟨"PlanLayersModel", "after", "(II)I"⟩ ⟨"PlanLayersModel", "after", "(II)I"⟩) ∈ lw_all := lw_g (lw_at lw_ms 27 rfl) rfl
theorem qs28 : (Cond.selects "PlanLayersModel" ⟨"PlanLayersModel", "served", "(II)Z"⟩ ⟨"PlanLayersModel", "served", "(II)Z"⟩) ∈ lw_all := lw_g (lw_at lw_ms 28 rfl) rfl
end
section
set_option maxRecDepth 100000
/-! PlanLayers -/
def RX0 : String := "PlanLayers"
def TX0 : u_T := fun k => match k with
  | 0 => ("PlanLayers", "actionCount", "I", false)
  | 1 => ("PlanLayers", "needs", "[I", true)
  | 2 => ("PlanLayers", "gains", "[I", true)
  | 3 => ("PlanLayers", "losses", "[I", true)
  | 4 => ("PlanLayers", "startState", "I", false)
  | 5 => ("PlanLayers", "built", "Z", false)
  | 6 => ("PlanLayers", "factsAt", "[I", true)
  | 7 => ("PlanLayers", "deedsAt", "[I", true)
  | 8 => ("PlanLayers", "factBars", "[I", true)
  | 9 => ("PlanLayers", "deedBars", "[I", true)
  | 10 => ("PlanLayers", "clashes", "[I", true)
  | 11 => ("PlanLayers", "failed", "[J", true)
  | 12 => ("PlanLayers", "served", "[J", true)
  | 13 => ("PlanLayers", "wanted", "[I", true)
  | 14 => ("PlanLayers", "openFacts", "[I", true)
  | 15 => ("PlanLayers", "chosen", "[I", true)
  | 16 => ("PlanLayers", "choiceCount", "I", false)
  | 17 => ("PlanLayers", "choiceDeed", "[B", true)
  | 18 => ("PlanLayers", "choiceFact", "[B", true)
  | _ => ("PlanLayers", "choiceOpen", "[I", true)
def tyX0 : Nat → FieldType := fun k => match k with
  | 0 => .int
  | 1 => .array .int
  | 2 => .array .int
  | 3 => .array .int
  | 4 => .int
  | 5 => .boolean
  | 6 => .array .int
  | 7 => .array .int
  | 8 => .array .int
  | 9 => .array .int
  | 10 => .array .int
  | 11 => .array .long
  | 12 => .array .long
  | 13 => .array .int
  | 14 => .array .int
  | 15 => .array .int
  | 16 => .int
  | 17 => .array .byte
  | 18 => .array .byte
  | _ => .array .int
abbrev wsX00 : List Cond := u_ws RX0 TX0 20
set_option maxRecDepth 100000 in
theorem nmX0 : ∀ a, a < 20 → ∀ b, b < 20 → a ≠ b → (TX0 a).2.1 ≠ (TX0 b).2.1 := by decide +kernel
set_option maxRecDepth 100000 in
theorem tyX0_ok : ∀ k, k < 20 → parseFieldDescriptor (TX0 k).2.2.1 = some (tyX0 k) := by decide +kernel
abbrev cX0_init : ByteArray := prog_1_method_1_code
def yX0_init : MethodName := ⟨RX0, "<init>", "()V"⟩
abbrev cX0_action : ByteArray := prog_1_method_2_code
def yX0_action : MethodName := ⟨RX0, "action", "(III)I"⟩
abbrev cX0_isSet : ByteArray := prog_1_method_6_code
def yX0_isSet : MethodName := ⟨RX0, "isSet", "(I)Z"⟩
abbrev cX0_drop : ByteArray := prog_1_method_3_code
def yX0_drop : MethodName := ⟨RX0, "drop", "(I)I"⟩
abbrev cX0_isAction : ByteArray := prog_1_method_7_code
def yX0_isAction : MethodName := ⟨RX0, "isAction", "(I)Z"⟩
abbrev cX0_start : ByteArray := prog_1_method_4_code
def yX0_start : MethodName := ⟨RX0, "start", "(I)Z"⟩
abbrev cX0_clash : ByteArray := prog_1_method_5_code
def yX0_clash : MethodName := ⟨RX0, "clash", "(II)Z"⟩
abbrev cX0_deedsClash : ByteArray := prog_1_method_20_code
def yX0_deedsClash : MethodName := ⟨RX0, "deedsClash", "(II)Z"⟩
abbrev cX0_needsOf : ByteArray := prog_1_method_16_code
def yX0_needsOf : MethodName := ⟨RX0, "needsOf", "(I)I"⟩
abbrev cX0_gainsOf : ByteArray := prog_1_method_17_code
def yX0_gainsOf : MethodName := ⟨RX0, "gainsOf", "(I)I"⟩
abbrev cX0_lossesOf : ByteArray := prog_1_method_18_code
def yX0_lossesOf : MethodName := ⟨RX0, "lossesOf", "(I)I"⟩
abbrev cX0_fewest : ByteArray := prog_1_method_8_code
def yX0_fewest : MethodName := ⟨RX0, "fewest", "(I)I"⟩
abbrev cX0_build : ByteArray := prog_1_method_21_code
def yX0_build : MethodName := ⟨RX0, "build", "()V"⟩
abbrev cX0_exists : ByteArray := prog_1_method_19_code
def yX0_exists : MethodName := ⟨RX0, "exists", "(I)Z"⟩
abbrev cX0_findDeeds : ByteArray := prog_1_method_22_code
def yX0_findDeeds : MethodName := ⟨RX0, "findDeeds", "(I)V"⟩
abbrev cX0_canBeTogether : ByteArray := prog_1_method_23_code
def yX0_canBeTogether : MethodName := ⟨RX0, "canBeTogether", "(II)Z"⟩
abbrev cX0_findFacts : ByteArray := prog_1_method_25_code
def yX0_findFacts : MethodName := ⟨RX0, "findFacts", "(I)V"⟩
abbrev cX0_makersOf : ByteArray := prog_1_method_24_code
def yX0_makersOf : MethodName := ⟨RX0, "makersOf", "(II)I"⟩
abbrev cX0_allBarred : ByteArray := prog_1_method_26_code
def yX0_allBarred : MethodName := ⟨RX0, "allBarred", "(III)Z"⟩
abbrev cX0_serves : ByteArray := prog_1_method_29_code
def yX0_serves : MethodName := ⟨RX0, "serves", "(II)Z"⟩
abbrev cX0_isMarked : ByteArray := prog_1_method_27_code
def yX0_isMarked : MethodName := ⟨RX0, "isMarked", "(ZII)Z"⟩
abbrev cX0_enter : ByteArray := prog_1_method_30_code
def yX0_enter : MethodName := ⟨RX0, "enter", "(II)V"⟩
abbrev cX0_markAbove : ByteArray := prog_1_method_31_code
def yX0_markAbove : MethodName := ⟨RX0, "markAbove", "(II)V"⟩
abbrev cX0_markSet : ByteArray := prog_1_method_28_code
def yX0_markSet : MethodName := ⟨RX0, "markSet", "(ZII)V"⟩
abbrev cX0_neededBy : ByteArray := prog_1_method_32_code
def yX0_neededBy : MethodName := ⟨RX0, "neededBy", "(I)I"⟩
abbrev cX0_goBack : ByteArray := prog_1_method_35_code
def yX0_goBack : MethodName := ⟨RX0, "goBack", "(II)I"⟩
abbrev cX0_choose : ByteArray := prog_1_method_34_code
def yX0_choose : MethodName := ⟨RX0, "choose", "(III)Z"⟩
abbrev cX0_lowestOpen : ByteArray := prog_1_method_33_code
def yX0_lowestOpen : MethodName := ⟨RX0, "lowestOpen", "(I)I"⟩
abbrev cX0_within : ByteArray := prog_1_method_9_code
def yX0_within : MethodName := ⟨RX0, "within", "(I)I"⟩
abbrev cX0_together : ByteArray := prog_1_method_10_code
def yX0_together : MethodName := ⟨RX0, "together", "(III)Z"⟩
abbrev cX0_begins : ByteArray := prog_1_method_11_code
def yX0_begins : MethodName := ⟨RX0, "begins", "(II)Z"⟩
abbrev cX0_isLayer : ByteArray := prog_1_method_14_code
def yX0_isLayer : MethodName := ⟨RX0, "isLayer", "(II)Z"⟩
abbrev cX0_after : ByteArray := prog_1_method_15_code
def yX0_after : MethodName := ⟨RX0, "after", "(II)I"⟩
abbrev cX0_advance : ByteArray := prog_1_method_12_code
def yX0_advance : MethodName := ⟨RX0, "advance", "(I)Z"⟩
abbrev cX0_state : ByteArray := prog_1_method_13_code
def yX0_state : MethodName := ⟨RX0, "state", "()I"⟩
theorem q30 : (Jvm.Cond.initialized "PlanLayers") ∈ lw_all := lw_g (lw_at lw_m1 1 rfl) rfl
theorem q33 : (Jvm.Cond.instantiable "PlanLayers" (20 : Nat)) ∈ lw_all := lw_g (lw_at lw_m1 4 rfl) rfl
theorem q35 : (Jvm.Cond.instanceMethod ({ cls := "PlanLayers", name := "<init>", desc := "()V" } : Jvm.MethodName)) ∈ lw_all := lw_g (lw_at lw_m1 6 rfl) rfl
theorem q36 : (Jvm.Cond.code ({ cls := "PlanLayers", name := "<init>", desc := "()V" } : Jvm.MethodName) prog_1_method_1_code (1 : Nat) (Option.none : Option Jvm.ClassFile.FieldType)) ∈ lw_all := lw_g (lw_at lw_m1 7 rfl) rfl
theorem q37 : (Jvm.Cond.methodLink "PlanLayers" (1 : Nat) ({ cls := "java/lang/Object", name := "<init>", desc := "()V" } : Jvm.MethodName)) ∈ lw_all := lw_g (lw_at lw_m1 8 rfl) rfl
theorem q40 : (Jvm.Cond.fieldLink "PlanLayers" (60 : Nat) "PlanLayers" "actionCount" "I") ∈ lw_all := lw_g (lw_at lw_m1 11 rfl) rfl
theorem q41 : (Jvm.Cond.fieldLink "PlanLayers" (7 : Nat) "PlanLayers" "needs" "[I") ∈ lw_all := lw_g (lw_at lw_m1 12 rfl) rfl
theorem q42 : (Jvm.Cond.fieldLink "PlanLayers" (13 : Nat) "PlanLayers" "gains" "[I") ∈ lw_all := lw_g (lw_at lw_m1 13 rfl) rfl
theorem q43 : (Jvm.Cond.fieldLink "PlanLayers" (16 : Nat) "PlanLayers" "losses" "[I") ∈ lw_all := lw_g (lw_at lw_m1 14 rfl) rfl
theorem q44 : (Jvm.Cond.fieldLink "PlanLayers" (75 : Nat) "PlanLayers" "startState" "I") ∈ lw_all := lw_g (lw_at lw_m1 15 rfl) rfl
theorem q45 : (Jvm.Cond.fieldLink "PlanLayers" (68 : Nat) "PlanLayers" "built" "Z") ∈ lw_all := lw_g (lw_at lw_m1 16 rfl) rfl
theorem q46 : (Jvm.Cond.fieldLink "PlanLayers" (19 : Nat) "PlanLayers" "factsAt" "[I") ∈ lw_all := lw_g (lw_at lw_m1 17 rfl) rfl
theorem q47 : (Jvm.Cond.fieldLink "PlanLayers" (22 : Nat) "PlanLayers" "deedsAt" "[I") ∈ lw_all := lw_g (lw_at lw_m1 18 rfl) rfl
theorem q48 : (Jvm.Cond.fieldLink "PlanLayers" (25 : Nat) "PlanLayers" "factBars" "[I") ∈ lw_all := lw_g (lw_at lw_m1 19 rfl) rfl
theorem q49 : (Jvm.Cond.fieldLink "PlanLayers" (28 : Nat) "PlanLayers" "deedBars" "[I") ∈ lw_all := lw_g (lw_at lw_m1 20 rfl) rfl
theorem q50 : (Jvm.Cond.fieldLink "PlanLayers" (31 : Nat) "PlanLayers" "clashes" "[I") ∈ lw_all := lw_g (lw_at lw_m1 21 rfl) rfl
theorem q51 : (Jvm.Cond.fieldLink "PlanLayers" (34 : Nat) "PlanLayers" "failed" "[J") ∈ lw_all := lw_g (lw_at lw_m1 22 rfl) rfl
theorem q52 : (Jvm.Cond.fieldLink "PlanLayers" (38 : Nat) "PlanLayers" "served" "[J") ∈ lw_all := lw_g (lw_at lw_m1 23 rfl) rfl
theorem q53 : (Jvm.Cond.fieldLink "PlanLayers" (41 : Nat) "PlanLayers" "wanted" "[I") ∈ lw_all := lw_g (lw_at lw_m1 24 rfl) rfl
theorem q54 : (Jvm.Cond.fieldLink "PlanLayers" (44 : Nat) "PlanLayers" "openFacts" "[I") ∈ lw_all := lw_g (lw_at lw_m1 25 rfl) rfl
theorem q55 : (Jvm.Cond.fieldLink "PlanLayers" (47 : Nat) "PlanLayers" "chosen" "[I") ∈ lw_all := lw_g (lw_at lw_m1 26 rfl) rfl
theorem q56 : (Jvm.Cond.fieldLink "PlanLayers" (132 : Nat) "PlanLayers" "choiceCount" "I") ∈ lw_all := lw_g (lw_at lw_m1 27 rfl) rfl
theorem q57 : (Jvm.Cond.fieldLink "PlanLayers" (50 : Nat) "PlanLayers" "choiceDeed" "[B") ∈ lw_all := lw_g (lw_at lw_m1 28 rfl) rfl
theorem q58 : (Jvm.Cond.fieldLink "PlanLayers" (54 : Nat) "PlanLayers" "choiceFact" "[B") ∈ lw_all := lw_g (lw_at lw_m1 29 rfl) rfl
theorem q59 : (Jvm.Cond.fieldLink "PlanLayers" (57 : Nat) "PlanLayers" "choiceOpen" "[I") ∈ lw_all := lw_g (lw_at lw_m1 30 rfl) rfl
theorem q60 : (Jvm.Cond.lays "PlanLayers" "PlanLayers" "actionCount" "I") ∈ lw_all := lw_g (lw_at lw_m1 31 rfl) rfl
theorem q61 : (Jvm.Cond.soleField "PlanLayers" "actionCount") ∈ lw_all := lw_g (lw_at lw_m1 32 rfl) rfl
theorem q62 : (Jvm.Cond.laysFinal "PlanLayers" "PlanLayers" "needs" "[I") ∈ lw_all := lw_g (lw_at lw_m1 33 rfl) rfl
theorem q63 : (Jvm.Cond.soleField "PlanLayers" "needs") ∈ lw_all := lw_g (lw_at lw_m1 34 rfl) rfl
theorem q64 : (Jvm.Cond.laysFinal "PlanLayers" "PlanLayers" "gains" "[I") ∈ lw_all := lw_g (lw_at lw_m1 35 rfl) rfl
theorem q65 : (Jvm.Cond.soleField "PlanLayers" "gains") ∈ lw_all := lw_g (lw_at lw_m1 36 rfl) rfl
theorem q66 : (Jvm.Cond.laysFinal "PlanLayers" "PlanLayers" "losses" "[I") ∈ lw_all := lw_g (lw_at lw_m1 37 rfl) rfl
theorem q67 : (Jvm.Cond.soleField "PlanLayers" "losses") ∈ lw_all := lw_g (lw_at lw_m1 38 rfl) rfl
theorem q68 : (Jvm.Cond.lays "PlanLayers" "PlanLayers" "startState" "I") ∈ lw_all := lw_g (lw_at lw_m1 39 rfl) rfl
theorem q69 : (Jvm.Cond.soleField "PlanLayers" "startState") ∈ lw_all := lw_g (lw_at lw_m1 40 rfl) rfl
theorem q70 : (Jvm.Cond.lays "PlanLayers" "PlanLayers" "built" "Z") ∈ lw_all := lw_g (lw_at lw_m1 41 rfl) rfl
theorem q71 : (Jvm.Cond.soleField "PlanLayers" "built") ∈ lw_all := lw_g (lw_at lw_m1 42 rfl) rfl
theorem q72 : (Jvm.Cond.laysFinal "PlanLayers" "PlanLayers" "factsAt" "[I") ∈ lw_all := lw_g (lw_at lw_m1 43 rfl) rfl
theorem q73 : (Jvm.Cond.soleField "PlanLayers" "factsAt") ∈ lw_all := lw_g (lw_at lw_m1 44 rfl) rfl
theorem q74 : (Jvm.Cond.laysFinal "PlanLayers" "PlanLayers" "deedsAt" "[I") ∈ lw_all := lw_g (lw_at lw_m1 45 rfl) rfl
theorem q75 : (Jvm.Cond.soleField "PlanLayers" "deedsAt") ∈ lw_all := lw_g (lw_at lw_m1 46 rfl) rfl
theorem q76 : (Jvm.Cond.laysFinal "PlanLayers" "PlanLayers" "factBars" "[I") ∈ lw_all := lw_g (lw_at lw_m1 47 rfl) rfl
theorem q77 : (Jvm.Cond.soleField "PlanLayers" "factBars") ∈ lw_all := lw_g (lw_at lw_m1 48 rfl) rfl
theorem q78 : (Jvm.Cond.laysFinal "PlanLayers" "PlanLayers" "deedBars" "[I") ∈ lw_all := lw_g (lw_at lw_m1 49 rfl) rfl
theorem q79 : (Jvm.Cond.soleField "PlanLayers" "deedBars") ∈ lw_all := lw_g (lw_at lw_m1 50 rfl) rfl
theorem q80 : (Jvm.Cond.laysFinal "PlanLayers" "PlanLayers" "clashes" "[I") ∈ lw_all := lw_g (lw_at lw_m1 51 rfl) rfl
theorem q81 : (Jvm.Cond.soleField "PlanLayers" "clashes") ∈ lw_all := lw_g (lw_at lw_m1 52 rfl) rfl
theorem q82 : (Jvm.Cond.laysFinal "PlanLayers" "PlanLayers" "failed" "[J") ∈ lw_all := lw_g (lw_at lw_m1 53 rfl) rfl
theorem q83 : (Jvm.Cond.soleField "PlanLayers" "failed") ∈ lw_all := lw_g (lw_at lw_m1 54 rfl) rfl
theorem q84 : (Jvm.Cond.laysFinal "PlanLayers" "PlanLayers" "served" "[J") ∈ lw_all := lw_g (lw_at lw_m1 55 rfl) rfl
theorem q85 : (Jvm.Cond.soleField "PlanLayers" "served") ∈ lw_all := lw_g (lw_at lw_m1 56 rfl) rfl
theorem q86 : (Jvm.Cond.laysFinal "PlanLayers" "PlanLayers" "wanted" "[I") ∈ lw_all := lw_g (lw_at lw_m1 57 rfl) rfl
theorem q87 : (Jvm.Cond.soleField "PlanLayers" "wanted") ∈ lw_all := lw_g (lw_at lw_m1 58 rfl) rfl
theorem q88 : (Jvm.Cond.laysFinal "PlanLayers" "PlanLayers" "openFacts" "[I") ∈ lw_all := lw_g (lw_at lw_m1 59 rfl) rfl
theorem q89 : (Jvm.Cond.soleField "PlanLayers" "openFacts") ∈ lw_all := lw_g (lw_at lw_m1 60 rfl) rfl
theorem q90 : (Jvm.Cond.laysFinal "PlanLayers" "PlanLayers" "chosen" "[I") ∈ lw_all := lw_g (lw_at lw_m1 61 rfl) rfl
theorem q91 : (Jvm.Cond.soleField "PlanLayers" "chosen") ∈ lw_all := lw_g (lw_at lw_m1 62 rfl) rfl
theorem q92 : (Jvm.Cond.lays "PlanLayers" "PlanLayers" "choiceCount" "I") ∈ lw_all := lw_g (lw_at lw_m1 63 rfl) rfl
theorem q93 : (Jvm.Cond.soleField "PlanLayers" "choiceCount") ∈ lw_all := lw_g (lw_at lw_m1 64 rfl) rfl
theorem q94 : (Jvm.Cond.laysFinal "PlanLayers" "PlanLayers" "choiceDeed" "[B") ∈ lw_all := lw_g (lw_at lw_m1 65 rfl) rfl
theorem q95 : (Jvm.Cond.soleField "PlanLayers" "choiceDeed") ∈ lw_all := lw_g (lw_at lw_m1 66 rfl) rfl
theorem q96 : (Jvm.Cond.laysFinal "PlanLayers" "PlanLayers" "choiceFact" "[B") ∈ lw_all := lw_g (lw_at lw_m1 67 rfl) rfl
theorem q97 : (Jvm.Cond.soleField "PlanLayers" "choiceFact") ∈ lw_all := lw_g (lw_at lw_m1 68 rfl) rfl
theorem q98 : (Jvm.Cond.laysFinal "PlanLayers" "PlanLayers" "choiceOpen" "[I") ∈ lw_all := lw_g (lw_at lw_m1 69 rfl) rfl
theorem q99 : (Jvm.Cond.soleField "PlanLayers" "choiceOpen") ∈ lw_all := lw_g (lw_at lw_m1 70 rfl) rfl
theorem q100 : (Jvm.Cond.superclass "PlanLayers" "java/lang/Object") ∈ lw_all := lw_g (lw_at lw_m1 71 rfl) rfl
theorem q105 : (Jvm.Cond.instanceMethod ({ cls := "PlanLayers", name := "action", desc := "(III)I" } : Jvm.MethodName)) ∈ lw_all := lw_g (lw_at lw_m1 76 rfl) rfl
theorem q106 : (Jvm.Cond.selects "PlanLayers" ({ cls := "PlanLayers", name := "action", desc := "(III)I" } : Jvm.MethodName) ({ cls := "PlanLayers", name := "action", desc := "(III)I" } : Jvm.MethodName)) ∈ lw_all := lw_g (lw_at lw_m1 77 rfl) rfl
theorem q107 : (Jvm.Cond.code ({ cls := "PlanLayers", name := "action", desc := "(III)I" } : Jvm.MethodName) prog_1_method_2_code (4 : Nat) (Option.some Jvm.ClassFile.FieldType.int)) ∈ lw_all := lw_g (lw_at lw_m1 78 rfl) rfl
theorem q108 : (Jvm.Cond.methodLink "PlanLayers" (64 : Nat) ({ cls := "PlanLayers", name := "isSet", desc := "(I)Z" } : Jvm.MethodName)) ∈ lw_all := lw_g (lw_at lw_m1 79 rfl) rfl
theorem q109 : (Jvm.Cond.privateMethod ({ cls := "PlanLayers", name := "isSet", desc := "(I)Z" } : Jvm.MethodName)) ∈ lw_tbl := lw_at lw_m1 80 rfl
theorem q110 : (Jvm.Cond.instanceMethod ({ cls := "PlanLayers", name := "isSet", desc := "(I)Z" } : Jvm.MethodName)) ∈ lw_all := lw_g (lw_at lw_m1 81 rfl) rfl
theorem q111 : (Jvm.Cond.code ({ cls := "PlanLayers", name := "isSet", desc := "(I)Z" } : Jvm.MethodName) prog_1_method_6_code (2 : Nat) (Option.some Jvm.ClassFile.FieldType.boolean)) ∈ lw_all := lw_g (lw_at lw_m1 82 rfl) rfl
theorem q113 : (Jvm.Cond.instanceMethod ({ cls := "PlanLayers", name := "drop", desc := "(I)I" } : Jvm.MethodName)) ∈ lw_all := lw_g (lw_at lw_m1 84 rfl) rfl
theorem q114 : (Jvm.Cond.selects "PlanLayers" ({ cls := "PlanLayers", name := "drop", desc := "(I)I" } : Jvm.MethodName) ({ cls := "PlanLayers", name := "drop", desc := "(I)I" } : Jvm.MethodName)) ∈ lw_all := lw_g (lw_at lw_m1 85 rfl) rfl
theorem q115 : (Jvm.Cond.code ({ cls := "PlanLayers", name := "drop", desc := "(I)I" } : Jvm.MethodName) prog_1_method_3_code (3 : Nat) (Option.some Jvm.ClassFile.FieldType.int)) ∈ lw_all := lw_g (lw_at lw_m1 86 rfl) rfl
theorem q116 : (Jvm.Cond.methodLink "PlanLayers" (72 : Nat) ({ cls := "PlanLayers", name := "isAction", desc := "(I)Z" } : Jvm.MethodName)) ∈ lw_all := lw_g (lw_at lw_m1 87 rfl) rfl
theorem q117 : (Jvm.Cond.privateMethod ({ cls := "PlanLayers", name := "isAction", desc := "(I)Z" } : Jvm.MethodName)) ∈ lw_tbl := lw_at lw_m1 88 rfl
theorem q118 : (Jvm.Cond.instanceMethod ({ cls := "PlanLayers", name := "isAction", desc := "(I)Z" } : Jvm.MethodName)) ∈ lw_all := lw_g (lw_at lw_m1 89 rfl) rfl
theorem q119 : (Jvm.Cond.code ({ cls := "PlanLayers", name := "isAction", desc := "(I)Z" } : Jvm.MethodName) prog_1_method_7_code (2 : Nat) (Option.some Jvm.ClassFile.FieldType.boolean)) ∈ lw_all := lw_g (lw_at lw_m1 90 rfl) rfl
theorem q121 : (Jvm.Cond.instanceMethod ({ cls := "PlanLayers", name := "start", desc := "(I)Z" } : Jvm.MethodName)) ∈ lw_all := lw_g (lw_at lw_m1 92 rfl) rfl
theorem q122 : (Jvm.Cond.selects "PlanLayers" ({ cls := "PlanLayers", name := "start", desc := "(I)Z" } : Jvm.MethodName) ({ cls := "PlanLayers", name := "start", desc := "(I)Z" } : Jvm.MethodName)) ∈ lw_all := lw_g (lw_at lw_m1 93 rfl) rfl
theorem q123 : (Jvm.Cond.code ({ cls := "PlanLayers", name := "start", desc := "(I)Z" } : Jvm.MethodName) prog_1_method_4_code (2 : Nat) (Option.some Jvm.ClassFile.FieldType.boolean)) ∈ lw_all := lw_g (lw_at lw_m1 94 rfl) rfl
theorem q125 : (Jvm.Cond.instanceMethod ({ cls := "PlanLayers", name := "clash", desc := "(II)Z" } : Jvm.MethodName)) ∈ lw_all := lw_g (lw_at lw_m1 96 rfl) rfl
theorem q126 : (Jvm.Cond.selects "PlanLayers" ({ cls := "PlanLayers", name := "clash", desc := "(II)Z" } : Jvm.MethodName) ({ cls := "PlanLayers", name := "clash", desc := "(II)Z" } : Jvm.MethodName)) ∈ lw_all := lw_g (lw_at lw_m1 97 rfl) rfl
theorem q127 : (Jvm.Cond.code ({ cls := "PlanLayers", name := "clash", desc := "(II)Z" } : Jvm.MethodName) prog_1_method_5_code (3 : Nat) (Option.some Jvm.ClassFile.FieldType.boolean)) ∈ lw_all := lw_g (lw_at lw_m1 98 rfl) rfl
theorem q128 : (Jvm.Cond.methodLink "PlanLayers" (78 : Nat) ({ cls := "PlanLayers", name := "deedsClash", desc := "(II)Z" } : Jvm.MethodName)) ∈ lw_all := lw_g (lw_at lw_m1 99 rfl) rfl
theorem q129 : (Jvm.Cond.privateMethod ({ cls := "PlanLayers", name := "deedsClash", desc := "(II)Z" } : Jvm.MethodName)) ∈ lw_tbl := lw_at lw_m1 100 rfl
theorem q130 : (Jvm.Cond.instanceMethod ({ cls := "PlanLayers", name := "deedsClash", desc := "(II)Z" } : Jvm.MethodName)) ∈ lw_all := lw_g (lw_at lw_m1 101 rfl) rfl
theorem q131 : (Jvm.Cond.code ({ cls := "PlanLayers", name := "deedsClash", desc := "(II)Z" } : Jvm.MethodName) prog_1_method_20_code (5 : Nat) (Option.some Jvm.ClassFile.FieldType.boolean)) ∈ lw_all := lw_g (lw_at lw_m1 102 rfl) rfl
theorem q132 : (Jvm.Cond.methodLink "PlanLayers" (99 : Nat) ({ cls := "PlanLayers", name := "needsOf", desc := "(I)I" } : Jvm.MethodName)) ∈ lw_all := lw_g (lw_at lw_m1 103 rfl) rfl
theorem q133 : (Jvm.Cond.privateMethod ({ cls := "PlanLayers", name := "needsOf", desc := "(I)I" } : Jvm.MethodName)) ∈ lw_tbl := lw_at lw_m1 104 rfl
theorem q134 : (Jvm.Cond.instanceMethod ({ cls := "PlanLayers", name := "needsOf", desc := "(I)I" } : Jvm.MethodName)) ∈ lw_all := lw_g (lw_at lw_m1 105 rfl) rfl
theorem q135 : (Jvm.Cond.code ({ cls := "PlanLayers", name := "needsOf", desc := "(I)I" } : Jvm.MethodName) prog_1_method_16_code (2 : Nat) (Option.some Jvm.ClassFile.FieldType.int)) ∈ lw_all := lw_g (lw_at lw_m1 106 rfl) rfl
theorem q136 : (Jvm.Cond.methodLink "PlanLayers" (102 : Nat) ({ cls := "PlanLayers", name := "gainsOf", desc := "(I)I" } : Jvm.MethodName)) ∈ lw_all := lw_g (lw_at lw_m1 107 rfl) rfl
theorem q137 : (Jvm.Cond.privateMethod ({ cls := "PlanLayers", name := "gainsOf", desc := "(I)I" } : Jvm.MethodName)) ∈ lw_tbl := lw_at lw_m1 108 rfl
theorem q138 : (Jvm.Cond.instanceMethod ({ cls := "PlanLayers", name := "gainsOf", desc := "(I)I" } : Jvm.MethodName)) ∈ lw_all := lw_g (lw_at lw_m1 109 rfl) rfl
theorem q139 : (Jvm.Cond.code ({ cls := "PlanLayers", name := "gainsOf", desc := "(I)I" } : Jvm.MethodName) prog_1_method_17_code (2 : Nat) (Option.some Jvm.ClassFile.FieldType.int)) ∈ lw_all := lw_g (lw_at lw_m1 110 rfl) rfl
theorem q140 : (Jvm.Cond.methodLink "PlanLayers" (105 : Nat) ({ cls := "PlanLayers", name := "lossesOf", desc := "(I)I" } : Jvm.MethodName)) ∈ lw_all := lw_g (lw_at lw_m1 111 rfl) rfl
theorem q141 : (Jvm.Cond.privateMethod ({ cls := "PlanLayers", name := "lossesOf", desc := "(I)I" } : Jvm.MethodName)) ∈ lw_tbl := lw_at lw_m1 112 rfl
theorem q142 : (Jvm.Cond.instanceMethod ({ cls := "PlanLayers", name := "lossesOf", desc := "(I)I" } : Jvm.MethodName)) ∈ lw_all := lw_g (lw_at lw_m1 113 rfl) rfl
theorem q143 : (Jvm.Cond.code ({ cls := "PlanLayers", name := "lossesOf", desc := "(I)I" } : Jvm.MethodName) prog_1_method_18_code (2 : Nat) (Option.some Jvm.ClassFile.FieldType.int)) ∈ lw_all := lw_g (lw_at lw_m1 114 rfl) rfl
theorem q145 : (Jvm.Cond.instanceMethod ({ cls := "PlanLayers", name := "fewest", desc := "(I)I" } : Jvm.MethodName)) ∈ lw_all := lw_g (lw_at lw_m1 116 rfl) rfl
theorem q146 : (Jvm.Cond.selects "PlanLayers" ({ cls := "PlanLayers", name := "fewest", desc := "(I)I" } : Jvm.MethodName) ({ cls := "PlanLayers", name := "fewest", desc := "(I)I" } : Jvm.MethodName)) ∈ lw_all := lw_g (lw_at lw_m1 117 rfl) rfl
theorem q147 : (Jvm.Cond.code ({ cls := "PlanLayers", name := "fewest", desc := "(I)I" } : Jvm.MethodName) prog_1_method_8_code (3 : Nat) (Option.some Jvm.ClassFile.FieldType.int)) ∈ lw_all := lw_g (lw_at lw_m1 118 rfl) rfl
theorem q148 : (Jvm.Cond.methodLink "PlanLayers" (82 : Nat) ({ cls := "PlanLayers", name := "build", desc := "()V" } : Jvm.MethodName)) ∈ lw_all := lw_g (lw_at lw_m1 119 rfl) rfl
theorem q149 : (Jvm.Cond.privateMethod ({ cls := "PlanLayers", name := "build", desc := "()V" } : Jvm.MethodName)) ∈ lw_tbl := lw_at lw_m1 120 rfl
theorem q150 : (Jvm.Cond.instanceMethod ({ cls := "PlanLayers", name := "build", desc := "()V" } : Jvm.MethodName)) ∈ lw_all := lw_g (lw_at lw_m1 121 rfl) rfl
theorem q151 : (Jvm.Cond.code ({ cls := "PlanLayers", name := "build", desc := "()V" } : Jvm.MethodName) prog_1_method_21_code (3 : Nat) (Option.none : Option Jvm.ClassFile.FieldType)) ∈ lw_all := lw_g (lw_at lw_m1 122 rfl) rfl
theorem q152 : (Jvm.Cond.methodLink "PlanLayers" (108 : Nat) ({ cls := "PlanLayers", name := "exists", desc := "(I)Z" } : Jvm.MethodName)) ∈ lw_all := lw_g (lw_at lw_m1 123 rfl) rfl
theorem q153 : (Jvm.Cond.privateMethod ({ cls := "PlanLayers", name := "exists", desc := "(I)Z" } : Jvm.MethodName)) ∈ lw_tbl := lw_at lw_m1 124 rfl
theorem q154 : (Jvm.Cond.instanceMethod ({ cls := "PlanLayers", name := "exists", desc := "(I)Z" } : Jvm.MethodName)) ∈ lw_all := lw_g (lw_at lw_m1 125 rfl) rfl
theorem q155 : (Jvm.Cond.code ({ cls := "PlanLayers", name := "exists", desc := "(I)Z" } : Jvm.MethodName) prog_1_method_19_code (2 : Nat) (Option.some Jvm.ClassFile.FieldType.boolean)) ∈ lw_all := lw_g (lw_at lw_m1 126 rfl) rfl
theorem q156 : (Jvm.Cond.methodLink "PlanLayers" (111 : Nat) ({ cls := "PlanLayers", name := "findDeeds", desc := "(I)V" } : Jvm.MethodName)) ∈ lw_all := lw_g (lw_at lw_m1 127 rfl) rfl
theorem q157 : (Jvm.Cond.privateMethod ({ cls := "PlanLayers", name := "findDeeds", desc := "(I)V" } : Jvm.MethodName)) ∈ lw_tbl := lw_at lw_m1 128 rfl
theorem q158 : (Jvm.Cond.instanceMethod ({ cls := "PlanLayers", name := "findDeeds", desc := "(I)V" } : Jvm.MethodName)) ∈ lw_all := lw_g (lw_at lw_m1 129 rfl) rfl
theorem q159 : (Jvm.Cond.code ({ cls := "PlanLayers", name := "findDeeds", desc := "(I)V" } : Jvm.MethodName) prog_1_method_22_code (5 : Nat) (Option.none : Option Jvm.ClassFile.FieldType)) ∈ lw_all := lw_g (lw_at lw_m1 130 rfl) rfl
theorem q160 : (Jvm.Cond.methodLink "PlanLayers" (118 : Nat) ({ cls := "PlanLayers", name := "canBeTogether", desc := "(II)Z" } : Jvm.MethodName)) ∈ lw_all := lw_g (lw_at lw_m1 131 rfl) rfl
theorem q161 : (Jvm.Cond.privateMethod ({ cls := "PlanLayers", name := "canBeTogether", desc := "(II)Z" } : Jvm.MethodName)) ∈ lw_tbl := lw_at lw_m1 132 rfl
theorem q162 : (Jvm.Cond.instanceMethod ({ cls := "PlanLayers", name := "canBeTogether", desc := "(II)Z" } : Jvm.MethodName)) ∈ lw_all := lw_g (lw_at lw_m1 133 rfl) rfl
theorem q163 : (Jvm.Cond.code ({ cls := "PlanLayers", name := "canBeTogether", desc := "(II)Z" } : Jvm.MethodName) prog_1_method_23_code (4 : Nat) (Option.some Jvm.ClassFile.FieldType.boolean)) ∈ lw_all := lw_g (lw_at lw_m1 134 rfl) rfl
theorem q164 : (Jvm.Cond.methodLink "PlanLayers" (115 : Nat) ({ cls := "PlanLayers", name := "findFacts", desc := "(I)V" } : Jvm.MethodName)) ∈ lw_all := lw_g (lw_at lw_m1 135 rfl) rfl
theorem q165 : (Jvm.Cond.privateMethod ({ cls := "PlanLayers", name := "findFacts", desc := "(I)V" } : Jvm.MethodName)) ∈ lw_tbl := lw_at lw_m1 136 rfl
theorem q166 : (Jvm.Cond.instanceMethod ({ cls := "PlanLayers", name := "findFacts", desc := "(I)V" } : Jvm.MethodName)) ∈ lw_all := lw_g (lw_at lw_m1 137 rfl) rfl
theorem q167 : (Jvm.Cond.code ({ cls := "PlanLayers", name := "findFacts", desc := "(I)V" } : Jvm.MethodName) prog_1_method_25_code (6 : Nat) (Option.none : Option Jvm.ClassFile.FieldType)) ∈ lw_all := lw_g (lw_at lw_m1 138 rfl) rfl
theorem q168 : (Jvm.Cond.methodLink "PlanLayers" (121 : Nat) ({ cls := "PlanLayers", name := "makersOf", desc := "(II)I" } : Jvm.MethodName)) ∈ lw_all := lw_g (lw_at lw_m1 139 rfl) rfl
theorem q169 : (Jvm.Cond.privateMethod ({ cls := "PlanLayers", name := "makersOf", desc := "(II)I" } : Jvm.MethodName)) ∈ lw_tbl := lw_at lw_m1 140 rfl
theorem q170 : (Jvm.Cond.instanceMethod ({ cls := "PlanLayers", name := "makersOf", desc := "(II)I" } : Jvm.MethodName)) ∈ lw_all := lw_g (lw_at lw_m1 141 rfl) rfl
theorem q171 : (Jvm.Cond.code ({ cls := "PlanLayers", name := "makersOf", desc := "(II)I" } : Jvm.MethodName) prog_1_method_24_code (5 : Nat) (Option.some Jvm.ClassFile.FieldType.int)) ∈ lw_all := lw_g (lw_at lw_m1 142 rfl) rfl
theorem q172 : (Jvm.Cond.methodLink "PlanLayers" (124 : Nat) ({ cls := "PlanLayers", name := "allBarred", desc := "(III)Z" } : Jvm.MethodName)) ∈ lw_all := lw_g (lw_at lw_m1 143 rfl) rfl
theorem q173 : (Jvm.Cond.privateMethod ({ cls := "PlanLayers", name := "allBarred", desc := "(III)Z" } : Jvm.MethodName)) ∈ lw_tbl := lw_at lw_m1 144 rfl
theorem q174 : (Jvm.Cond.instanceMethod ({ cls := "PlanLayers", name := "allBarred", desc := "(III)Z" } : Jvm.MethodName)) ∈ lw_all := lw_g (lw_at lw_m1 145 rfl) rfl
theorem q175 : (Jvm.Cond.code ({ cls := "PlanLayers", name := "allBarred", desc := "(III)Z" } : Jvm.MethodName) prog_1_method_26_code (7 : Nat) (Option.some Jvm.ClassFile.FieldType.boolean)) ∈ lw_all := lw_g (lw_at lw_m1 146 rfl) rfl
theorem q176 : (Jvm.Cond.methodLink "PlanLayers" (85 : Nat) ({ cls := "PlanLayers", name := "serves", desc := "(II)Z" } : Jvm.MethodName)) ∈ lw_all := lw_g (lw_at lw_m1 147 rfl) rfl
theorem q177 : (Jvm.Cond.privateMethod ({ cls := "PlanLayers", name := "serves", desc := "(II)Z" } : Jvm.MethodName)) ∈ lw_tbl := lw_at lw_m1 148 rfl
theorem q178 : (Jvm.Cond.instanceMethod ({ cls := "PlanLayers", name := "serves", desc := "(II)Z" } : Jvm.MethodName)) ∈ lw_all := lw_g (lw_at lw_m1 149 rfl) rfl
theorem q179 : (Jvm.Cond.code ({ cls := "PlanLayers", name := "serves", desc := "(II)Z" } : Jvm.MethodName) prog_1_method_29_code (6 : Nat) (Option.some Jvm.ClassFile.FieldType.boolean)) ∈ lw_all := lw_g (lw_at lw_m1 150 rfl) rfl
theorem q180 : (Jvm.Cond.methodLink "PlanLayers" (128 : Nat) ({ cls := "PlanLayers", name := "isMarked", desc := "(ZII)Z" } : Jvm.MethodName)) ∈ lw_all := lw_g (lw_at lw_m1 151 rfl) rfl
theorem q181 : (Jvm.Cond.privateMethod ({ cls := "PlanLayers", name := "isMarked", desc := "(ZII)Z" } : Jvm.MethodName)) ∈ lw_tbl := lw_at lw_m1 152 rfl
theorem q182 : (Jvm.Cond.instanceMethod ({ cls := "PlanLayers", name := "isMarked", desc := "(ZII)Z" } : Jvm.MethodName)) ∈ lw_all := lw_g (lw_at lw_m1 153 rfl) rfl
theorem q183 : (Jvm.Cond.code ({ cls := "PlanLayers", name := "isMarked", desc := "(ZII)Z" } : Jvm.MethodName) prog_1_method_27_code (7 : Nat) (Option.some Jvm.ClassFile.FieldType.boolean)) ∈ lw_all := lw_g (lw_at lw_m1 154 rfl) rfl
theorem q184 : (Jvm.Cond.methodLink "PlanLayers" (135 : Nat) ({ cls := "PlanLayers", name := "enter", desc := "(II)V" } : Jvm.MethodName)) ∈ lw_all := lw_g (lw_at lw_m1 155 rfl) rfl
theorem q185 : (Jvm.Cond.privateMethod ({ cls := "PlanLayers", name := "enter", desc := "(II)V" } : Jvm.MethodName)) ∈ lw_tbl := lw_at lw_m1 156 rfl
theorem q186 : (Jvm.Cond.instanceMethod ({ cls := "PlanLayers", name := "enter", desc := "(II)V" } : Jvm.MethodName)) ∈ lw_all := lw_g (lw_at lw_m1 157 rfl) rfl
theorem q187 : (Jvm.Cond.code ({ cls := "PlanLayers", name := "enter", desc := "(II)V" } : Jvm.MethodName) prog_1_method_30_code (3 : Nat) (Option.none : Option Jvm.ClassFile.FieldType)) ∈ lw_all := lw_g (lw_at lw_m1 158 rfl) rfl
theorem q188 : (Jvm.Cond.methodLink "PlanLayers" (139 : Nat) ({ cls := "PlanLayers", name := "markAbove", desc := "(II)V" } : Jvm.MethodName)) ∈ lw_all := lw_g (lw_at lw_m1 159 rfl) rfl
theorem q189 : (Jvm.Cond.privateMethod ({ cls := "PlanLayers", name := "markAbove", desc := "(II)V" } : Jvm.MethodName)) ∈ lw_tbl := lw_at lw_m1 160 rfl
theorem q190 : (Jvm.Cond.instanceMethod ({ cls := "PlanLayers", name := "markAbove", desc := "(II)V" } : Jvm.MethodName)) ∈ lw_all := lw_g (lw_at lw_m1 161 rfl) rfl
theorem q191 : (Jvm.Cond.code ({ cls := "PlanLayers", name := "markAbove", desc := "(II)V" } : Jvm.MethodName) prog_1_method_31_code (4 : Nat) (Option.none : Option Jvm.ClassFile.FieldType)) ∈ lw_all := lw_g (lw_at lw_m1 162 rfl) rfl
theorem q192 : (Jvm.Cond.methodLink "PlanLayers" (154 : Nat) ({ cls := "PlanLayers", name := "markSet", desc := "(ZII)V" } : Jvm.MethodName)) ∈ lw_all := lw_g (lw_at lw_m1 163 rfl) rfl
theorem q193 : (Jvm.Cond.privateMethod ({ cls := "PlanLayers", name := "markSet", desc := "(ZII)V" } : Jvm.MethodName)) ∈ lw_tbl := lw_at lw_m1 164 rfl
theorem q194 : (Jvm.Cond.instanceMethod ({ cls := "PlanLayers", name := "markSet", desc := "(ZII)V" } : Jvm.MethodName)) ∈ lw_all := lw_g (lw_at lw_m1 165 rfl) rfl
theorem q195 : (Jvm.Cond.code ({ cls := "PlanLayers", name := "markSet", desc := "(ZII)V" } : Jvm.MethodName) prog_1_method_28_code (5 : Nat) (Option.none : Option Jvm.ClassFile.FieldType)) ∈ lw_all := lw_g (lw_at lw_m1 166 rfl) rfl
theorem q196 : (Jvm.Cond.methodLink "PlanLayers" (142 : Nat) ({ cls := "PlanLayers", name := "neededBy", desc := "(I)I" } : Jvm.MethodName)) ∈ lw_all := lw_g (lw_at lw_m1 167 rfl) rfl
theorem q197 : (Jvm.Cond.privateMethod ({ cls := "PlanLayers", name := "neededBy", desc := "(I)I" } : Jvm.MethodName)) ∈ lw_tbl := lw_at lw_m1 168 rfl
theorem q198 : (Jvm.Cond.instanceMethod ({ cls := "PlanLayers", name := "neededBy", desc := "(I)I" } : Jvm.MethodName)) ∈ lw_all := lw_g (lw_at lw_m1 169 rfl) rfl
theorem q199 : (Jvm.Cond.code ({ cls := "PlanLayers", name := "neededBy", desc := "(I)I" } : Jvm.MethodName) prog_1_method_32_code (4 : Nat) (Option.some Jvm.ClassFile.FieldType.int)) ∈ lw_all := lw_g (lw_at lw_m1 170 rfl) rfl
theorem q200 : (Jvm.Cond.methodLink "PlanLayers" (145 : Nat) ({ cls := "PlanLayers", name := "goBack", desc := "(II)I" } : Jvm.MethodName)) ∈ lw_all := lw_g (lw_at lw_m1 171 rfl) rfl
theorem q201 : (Jvm.Cond.privateMethod ({ cls := "PlanLayers", name := "goBack", desc := "(II)I" } : Jvm.MethodName)) ∈ lw_tbl := lw_at lw_m1 172 rfl
theorem q202 : (Jvm.Cond.instanceMethod ({ cls := "PlanLayers", name := "goBack", desc := "(II)I" } : Jvm.MethodName)) ∈ lw_all := lw_g (lw_at lw_m1 173 rfl) rfl
theorem q203 : (Jvm.Cond.code ({ cls := "PlanLayers", name := "goBack", desc := "(II)I" } : Jvm.MethodName) prog_1_method_35_code (7 : Nat) (Option.some Jvm.ClassFile.FieldType.int)) ∈ lw_all := lw_g (lw_at lw_m1 174 rfl) rfl
theorem q204 : (Jvm.Cond.methodLink "PlanLayers" (151 : Nat) ({ cls := "PlanLayers", name := "choose", desc := "(III)Z" } : Jvm.MethodName)) ∈ lw_all := lw_g (lw_at lw_m1 175 rfl) rfl
theorem q205 : (Jvm.Cond.privateMethod ({ cls := "PlanLayers", name := "choose", desc := "(III)Z" } : Jvm.MethodName)) ∈ lw_tbl := lw_at lw_m1 176 rfl
theorem q206 : (Jvm.Cond.instanceMethod ({ cls := "PlanLayers", name := "choose", desc := "(III)Z" } : Jvm.MethodName)) ∈ lw_all := lw_g (lw_at lw_m1 177 rfl) rfl
theorem q207 : (Jvm.Cond.code ({ cls := "PlanLayers", name := "choose", desc := "(III)Z" } : Jvm.MethodName) prog_1_method_34_code (6 : Nat) (Option.some Jvm.ClassFile.FieldType.boolean)) ∈ lw_all := lw_g (lw_at lw_m1 178 rfl) rfl
theorem q208 : (Jvm.Cond.methodLink "PlanLayers" (148 : Nat) ({ cls := "PlanLayers", name := "lowestOpen", desc := "(I)I" } : Jvm.MethodName)) ∈ lw_all := lw_g (lw_at lw_m1 179 rfl) rfl
theorem q209 : (Jvm.Cond.privateMethod ({ cls := "PlanLayers", name := "lowestOpen", desc := "(I)I" } : Jvm.MethodName)) ∈ lw_tbl := lw_at lw_m1 180 rfl
theorem q210 : (Jvm.Cond.instanceMethod ({ cls := "PlanLayers", name := "lowestOpen", desc := "(I)I" } : Jvm.MethodName)) ∈ lw_all := lw_g (lw_at lw_m1 181 rfl) rfl
theorem q211 : (Jvm.Cond.code ({ cls := "PlanLayers", name := "lowestOpen", desc := "(I)I" } : Jvm.MethodName) prog_1_method_33_code (3 : Nat) (Option.some Jvm.ClassFile.FieldType.int)) ∈ lw_all := lw_g (lw_at lw_m1 182 rfl) rfl
theorem q213 : (Jvm.Cond.instanceMethod ({ cls := "PlanLayers", name := "within", desc := "(I)I" } : Jvm.MethodName)) ∈ lw_all := lw_g (lw_at lw_m1 184 rfl) rfl
theorem q214 : (Jvm.Cond.selects "PlanLayers" ({ cls := "PlanLayers", name := "within", desc := "(I)I" } : Jvm.MethodName) ({ cls := "PlanLayers", name := "within", desc := "(I)I" } : Jvm.MethodName)) ∈ lw_all := lw_g (lw_at lw_m1 185 rfl) rfl
theorem q215 : (Jvm.Cond.code ({ cls := "PlanLayers", name := "within", desc := "(I)I" } : Jvm.MethodName) prog_1_method_9_code (4 : Nat) (Option.some Jvm.ClassFile.FieldType.int)) ∈ lw_all := lw_g (lw_at lw_m1 186 rfl) rfl
theorem q217 : (Jvm.Cond.instanceMethod ({ cls := "PlanLayers", name := "together", desc := "(III)Z" } : Jvm.MethodName)) ∈ lw_all := lw_g (lw_at lw_m1 188 rfl) rfl
theorem q218 : (Jvm.Cond.selects "PlanLayers" ({ cls := "PlanLayers", name := "together", desc := "(III)Z" } : Jvm.MethodName) ({ cls := "PlanLayers", name := "together", desc := "(III)Z" } : Jvm.MethodName)) ∈ lw_all := lw_g (lw_at lw_m1 189 rfl) rfl
theorem q219 : (Jvm.Cond.code ({ cls := "PlanLayers", name := "together", desc := "(III)Z" } : Jvm.MethodName) prog_1_method_10_code (4 : Nat) (Option.some Jvm.ClassFile.FieldType.boolean)) ∈ lw_all := lw_g (lw_at lw_m1 190 rfl) rfl
theorem q221 : (Jvm.Cond.instanceMethod ({ cls := "PlanLayers", name := "begins", desc := "(II)Z" } : Jvm.MethodName)) ∈ lw_all := lw_g (lw_at lw_m1 192 rfl) rfl
theorem q222 : (Jvm.Cond.selects "PlanLayers" ({ cls := "PlanLayers", name := "begins", desc := "(II)Z" } : Jvm.MethodName) ({ cls := "PlanLayers", name := "begins", desc := "(II)Z" } : Jvm.MethodName)) ∈ lw_all := lw_g (lw_at lw_m1 193 rfl) rfl
theorem q223 : (Jvm.Cond.code ({ cls := "PlanLayers", name := "begins", desc := "(II)Z" } : Jvm.MethodName) prog_1_method_11_code (7 : Nat) (Option.some Jvm.ClassFile.FieldType.boolean)) ∈ lw_all := lw_g (lw_at lw_m1 194 rfl) rfl
theorem q224 : (Jvm.Cond.methodLink "PlanLayers" (88 : Nat) ({ cls := "PlanLayers", name := "fewest", desc := "(I)I" } : Jvm.MethodName)) ∈ lw_all := lw_g (lw_at lw_m1 195 rfl) rfl
theorem q225 : (Jvm.Cond.methodLink "PlanLayers" (92 : Nat) ({ cls := "PlanLayers", name := "isLayer", desc := "(II)Z" } : Jvm.MethodName)) ∈ lw_all := lw_g (lw_at lw_m1 196 rfl) rfl
theorem q226 : (Jvm.Cond.privateMethod ({ cls := "PlanLayers", name := "isLayer", desc := "(II)Z" } : Jvm.MethodName)) ∈ lw_tbl := lw_at lw_m1 197 rfl
theorem q227 : (Jvm.Cond.instanceMethod ({ cls := "PlanLayers", name := "isLayer", desc := "(II)Z" } : Jvm.MethodName)) ∈ lw_all := lw_g (lw_at lw_m1 198 rfl) rfl
theorem q228 : (Jvm.Cond.code ({ cls := "PlanLayers", name := "isLayer", desc := "(II)Z" } : Jvm.MethodName) prog_1_method_14_code (5 : Nat) (Option.some Jvm.ClassFile.FieldType.boolean)) ∈ lw_all := lw_g (lw_at lw_m1 199 rfl) rfl
theorem q229 : (Jvm.Cond.methodLink "PlanLayers" (95 : Nat) ({ cls := "PlanLayers", name := "after", desc := "(II)I" } : Jvm.MethodName)) ∈ lw_all := lw_g (lw_at lw_m1 200 rfl) rfl
theorem q230 : (Jvm.Cond.privateMethod ({ cls := "PlanLayers", name := "after", desc := "(II)I" } : Jvm.MethodName)) ∈ lw_tbl := lw_at lw_m1 201 rfl
theorem q231 : (Jvm.Cond.instanceMethod ({ cls := "PlanLayers", name := "after", desc := "(II)I" } : Jvm.MethodName)) ∈ lw_all := lw_g (lw_at lw_m1 202 rfl) rfl
theorem q232 : (Jvm.Cond.code ({ cls := "PlanLayers", name := "after", desc := "(II)I" } : Jvm.MethodName) prog_1_method_15_code (5 : Nat) (Option.some Jvm.ClassFile.FieldType.int)) ∈ lw_all := lw_g (lw_at lw_m1 203 rfl) rfl
theorem q234 : (Jvm.Cond.instanceMethod ({ cls := "PlanLayers", name := "advance", desc := "(I)Z" } : Jvm.MethodName)) ∈ lw_all := lw_g (lw_at lw_m1 205 rfl) rfl
theorem q235 : (Jvm.Cond.selects "PlanLayers" ({ cls := "PlanLayers", name := "advance", desc := "(I)Z" } : Jvm.MethodName) ({ cls := "PlanLayers", name := "advance", desc := "(I)Z" } : Jvm.MethodName)) ∈ lw_all := lw_g (lw_at lw_m1 206 rfl) rfl
theorem q236 : (Jvm.Cond.code ({ cls := "PlanLayers", name := "advance", desc := "(I)Z" } : Jvm.MethodName) prog_1_method_12_code (2 : Nat) (Option.some Jvm.ClassFile.FieldType.boolean)) ∈ lw_all := lw_g (lw_at lw_m1 207 rfl) rfl
theorem q238 : (Jvm.Cond.instanceMethod ({ cls := "PlanLayers", name := "state", desc := "()I" } : Jvm.MethodName)) ∈ lw_all := lw_g (lw_at lw_m1 209 rfl) rfl
theorem q239 : (Jvm.Cond.selects "PlanLayers" ({ cls := "PlanLayers", name := "state", desc := "()I" } : Jvm.MethodName) ({ cls := "PlanLayers", name := "state", desc := "()I" } : Jvm.MethodName)) ∈ lw_all := lw_g (lw_at lw_m1 210 rfl) rfl
theorem q240 : (Jvm.Cond.code ({ cls := "PlanLayers", name := "state", desc := "()I" } : Jvm.MethodName) prog_1_method_13_code (1 : Nat) (Option.some Jvm.ClassFile.FieldType.int)) ∈ lw_all := lw_g (lw_at lw_m1 211 rfl) rfl
theorem in_X0 : ∀ w ∈ wsX00, w ∈ lw_all := lw_in wsX00 [60, 62, 64, 66, 68, 70, 72, 74, 76, 78, 80, 82, 84, 86, 88, 90, 92, 94, 96, 98] (by decide +kernel) (by decide +kernel)
/-! PlanLayersModel -/
def RX1 : String := "PlanLayersModel"
def TX1 : u_T := fun k => match k with
  | 0 => ("PlanLayersModel", "actions", "I", false)
  | 1 => ("PlanLayersModel", "needs", "[I", true)
  | 2 => ("PlanLayersModel", "gains", "[I", true)
  | 3 => ("PlanLayersModel", "losses", "[I", true)
  | 4 => ("PlanLayersModel", "start", "I", false)
  | _ => ("PlanLayersModel", "had", "[Z", true)
def tyX1 : Nat → FieldType := fun k => match k with
  | 0 => .int
  | 1 => .array .int
  | 2 => .array .int
  | 3 => .array .int
  | 4 => .int
  | _ => .array .boolean
abbrev wsX10 : List Cond := u_ws RX1 TX1 6
theorem nmX1 : ∀ a, a < 6 → ∀ b, b < 6 → a ≠ b → (TX1 a).2.1 ≠ (TX1 b).2.1 := by decide +kernel
theorem tyX1_ok : ∀ k, k < 6 → parseFieldDescriptor (TX1 k).2.2.1 = some (tyX1 k) := by decide +kernel
abbrev cX1_init : ByteArray := prog_3_method_1_code
def yX1_init : MethodName := ⟨RX1, "<init>", "()V"⟩
abbrev cX1_action : ByteArray := prog_3_method_4_code
def yX1_action : MethodName := ⟨RX1, "action", "(III)I"⟩
abbrev cX1_isSet : ByteArray := prog_3_method_2_code
def yX1_isSet : MethodName := ⟨RX1, "isSet", "(I)Z"⟩
abbrev cX1_drop : ByteArray := prog_3_method_5_code
def yX1_drop : MethodName := ⟨RX1, "drop", "(I)I"⟩
abbrev cX1_isAction : ByteArray := prog_3_method_3_code
def yX1_isAction : MethodName := ⟨RX1, "isAction", "(I)Z"⟩
abbrev cX1_start : ByteArray := prog_3_method_6_code
def yX1_start : MethodName := ⟨RX1, "start", "(I)Z"⟩
abbrev cX1_clash : ByteArray := prog_3_method_7_code
def yX1_clash : MethodName := ⟨RX1, "clash", "(II)Z"⟩
abbrev cX1_fewest : ByteArray := prog_3_method_11_code
def yX1_fewest : MethodName := ⟨RX1, "fewest", "(I)I"⟩
abbrev cX1_setOut : ByteArray := prog_3_method_9_code
def yX1_setOut : MethodName := ⟨RX1, "setOut", "(I)V"⟩
abbrev cX1_after : ByteArray := prog_3_method_8_code
def yX1_after : MethodName := ⟨RX1, "after", "(II)I"⟩
abbrev cX1_served : ByteArray := prog_3_method_10_code
def yX1_served : MethodName := ⟨RX1, "served", "(II)Z"⟩
abbrev cX1_within : ByteArray := prog_3_method_12_code
def yX1_within : MethodName := ⟨RX1, "within", "(I)I"⟩
abbrev cX1_together : ByteArray := prog_3_method_13_code
def yX1_together : MethodName := ⟨RX1, "together", "(III)Z"⟩
abbrev cX1_begins : ByteArray := prog_3_method_14_code
def yX1_begins : MethodName := ⟨RX1, "begins", "(II)Z"⟩
abbrev cX1_advance : ByteArray := prog_3_method_15_code
def yX1_advance : MethodName := ⟨RX1, "advance", "(I)Z"⟩
abbrev cX1_state : ByteArray := prog_3_method_16_code
def yX1_state : MethodName := ⟨RX1, "state", "()I"⟩
theorem q31 : (Jvm.Cond.initialized "PlanLayersModel") ∈ lw_all := lw_g (lw_at lw_m1 2 rfl) rfl
theorem q242 : (Jvm.Cond.instantiable "PlanLayersModel" (6 : Nat)) ∈ lw_all := lw_g (lw_at lw_m1 213 rfl) rfl
theorem q244 : (Jvm.Cond.instanceMethod ({ cls := "PlanLayersModel", name := "<init>", desc := "()V" } : Jvm.MethodName)) ∈ lw_all := lw_g (lw_at lw_m1 215 rfl) rfl
theorem q245 : (Jvm.Cond.code ({ cls := "PlanLayersModel", name := "<init>", desc := "()V" } : Jvm.MethodName) prog_3_method_1_code (1 : Nat) (Option.none : Option Jvm.ClassFile.FieldType)) ∈ lw_all := lw_g (lw_at lw_m1 216 rfl) rfl
theorem q246 : (Jvm.Cond.methodLink "PlanLayersModel" (1 : Nat) ({ cls := "java/lang/Object", name := "<init>", desc := "()V" } : Jvm.MethodName)) ∈ lw_all := lw_g (lw_at lw_m1 217 rfl) rfl
theorem q247 : (Jvm.Cond.fieldLink "PlanLayersModel" (23 : Nat) "PlanLayersModel" "actions" "I") ∈ lw_all := lw_g (lw_at lw_m1 218 rfl) rfl
theorem q248 : (Jvm.Cond.fieldLink "PlanLayersModel" (7 : Nat) "PlanLayersModel" "needs" "[I") ∈ lw_all := lw_g (lw_at lw_m1 219 rfl) rfl
theorem q249 : (Jvm.Cond.fieldLink "PlanLayersModel" (13 : Nat) "PlanLayersModel" "gains" "[I") ∈ lw_all := lw_g (lw_at lw_m1 220 rfl) rfl
theorem q250 : (Jvm.Cond.fieldLink "PlanLayersModel" (16 : Nat) "PlanLayersModel" "losses" "[I") ∈ lw_all := lw_g (lw_at lw_m1 221 rfl) rfl
theorem q251 : (Jvm.Cond.fieldLink "PlanLayersModel" (34 : Nat) "PlanLayersModel" "start" "I") ∈ lw_all := lw_g (lw_at lw_m1 222 rfl) rfl
theorem q252 : (Jvm.Cond.fieldLink "PlanLayersModel" (19 : Nat) "PlanLayersModel" "had" "[Z") ∈ lw_all := lw_g (lw_at lw_m1 223 rfl) rfl
theorem q253 : (Jvm.Cond.lays "PlanLayersModel" "PlanLayersModel" "actions" "I") ∈ lw_all := lw_g (lw_at lw_m1 224 rfl) rfl
theorem q254 : (Jvm.Cond.soleField "PlanLayersModel" "actions") ∈ lw_all := lw_g (lw_at lw_m1 225 rfl) rfl
theorem q255 : (Jvm.Cond.laysFinal "PlanLayersModel" "PlanLayersModel" "needs" "[I") ∈ lw_all := lw_g (lw_at lw_m1 226 rfl) rfl
theorem q256 : (Jvm.Cond.soleField "PlanLayersModel" "needs") ∈ lw_all := lw_g (lw_at lw_m1 227 rfl) rfl
theorem q257 : (Jvm.Cond.laysFinal "PlanLayersModel" "PlanLayersModel" "gains" "[I") ∈ lw_all := lw_g (lw_at lw_m1 228 rfl) rfl
theorem q258 : (Jvm.Cond.soleField "PlanLayersModel" "gains") ∈ lw_all := lw_g (lw_at lw_m1 229 rfl) rfl
theorem q259 : (Jvm.Cond.laysFinal "PlanLayersModel" "PlanLayersModel" "losses" "[I") ∈ lw_all := lw_g (lw_at lw_m1 230 rfl) rfl
theorem q260 : (Jvm.Cond.soleField "PlanLayersModel" "losses") ∈ lw_all := lw_g (lw_at lw_m1 231 rfl) rfl
theorem q261 : (Jvm.Cond.lays "PlanLayersModel" "PlanLayersModel" "start" "I") ∈ lw_all := lw_g (lw_at lw_m1 232 rfl) rfl
theorem q262 : (Jvm.Cond.soleField "PlanLayersModel" "start") ∈ lw_all := lw_g (lw_at lw_m1 233 rfl) rfl
theorem q263 : (Jvm.Cond.laysFinal "PlanLayersModel" "PlanLayersModel" "had" "[Z") ∈ lw_all := lw_g (lw_at lw_m1 234 rfl) rfl
theorem q264 : (Jvm.Cond.soleField "PlanLayersModel" "had") ∈ lw_all := lw_g (lw_at lw_m1 235 rfl) rfl
theorem q265 : (Jvm.Cond.superclass "PlanLayersModel" "java/lang/Object") ∈ lw_all := lw_g (lw_at lw_m1 236 rfl) rfl
theorem q268 : (Jvm.Cond.instanceMethod ({ cls := "PlanLayersModel", name := "action", desc := "(III)I" } : Jvm.MethodName)) ∈ lw_all := lw_g (lw_at lw_m1 239 rfl) rfl
theorem q269 : (Jvm.Cond.selects "PlanLayersModel" ({ cls := "PlanLayersModel", name := "action", desc := "(III)I" } : Jvm.MethodName) ({ cls := "PlanLayersModel", name := "action", desc := "(III)I" } : Jvm.MethodName)) ∈ lw_all := lw_g (lw_at lw_m2 0 rfl) rfl
theorem q270 : (Jvm.Cond.code ({ cls := "PlanLayersModel", name := "action", desc := "(III)I" } : Jvm.MethodName) prog_3_method_4_code (4 : Nat) (Option.some Jvm.ClassFile.FieldType.int)) ∈ lw_all := lw_g (lw_at lw_m2 1 rfl) rfl
theorem q271 : (Jvm.Cond.methodLink "PlanLayersModel" (27 : Nat) ({ cls := "PlanLayersModel", name := "isSet", desc := "(I)Z" } : Jvm.MethodName)) ∈ lw_all := lw_g (lw_at lw_m2 2 rfl) rfl
theorem q272 : (Jvm.Cond.privateMethod ({ cls := "PlanLayersModel", name := "isSet", desc := "(I)Z" } : Jvm.MethodName)) ∈ lw_tbl := lw_at lw_m2 3 rfl
theorem q273 : (Jvm.Cond.instanceMethod ({ cls := "PlanLayersModel", name := "isSet", desc := "(I)Z" } : Jvm.MethodName)) ∈ lw_all := lw_g (lw_at lw_m2 4 rfl) rfl
theorem q274 : (Jvm.Cond.code ({ cls := "PlanLayersModel", name := "isSet", desc := "(I)Z" } : Jvm.MethodName) prog_3_method_2_code (2 : Nat) (Option.some Jvm.ClassFile.FieldType.boolean)) ∈ lw_all := lw_g (lw_at lw_m2 5 rfl) rfl
theorem q276 : (Jvm.Cond.instanceMethod ({ cls := "PlanLayersModel", name := "drop", desc := "(I)I" } : Jvm.MethodName)) ∈ lw_all := lw_g (lw_at lw_m2 7 rfl) rfl
theorem q277 : (Jvm.Cond.selects "PlanLayersModel" ({ cls := "PlanLayersModel", name := "drop", desc := "(I)I" } : Jvm.MethodName) ({ cls := "PlanLayersModel", name := "drop", desc := "(I)I" } : Jvm.MethodName)) ∈ lw_all := lw_g (lw_at lw_m2 8 rfl) rfl
theorem q278 : (Jvm.Cond.code ({ cls := "PlanLayersModel", name := "drop", desc := "(I)I" } : Jvm.MethodName) prog_3_method_5_code (3 : Nat) (Option.some Jvm.ClassFile.FieldType.int)) ∈ lw_all := lw_g (lw_at lw_m2 9 rfl) rfl
theorem q279 : (Jvm.Cond.methodLink "PlanLayersModel" (31 : Nat) ({ cls := "PlanLayersModel", name := "isAction", desc := "(I)Z" } : Jvm.MethodName)) ∈ lw_all := lw_g (lw_at lw_m2 10 rfl) rfl
theorem q280 : (Jvm.Cond.privateMethod ({ cls := "PlanLayersModel", name := "isAction", desc := "(I)Z" } : Jvm.MethodName)) ∈ lw_tbl := lw_at lw_m2 11 rfl
theorem q281 : (Jvm.Cond.instanceMethod ({ cls := "PlanLayersModel", name := "isAction", desc := "(I)Z" } : Jvm.MethodName)) ∈ lw_all := lw_g (lw_at lw_m2 12 rfl) rfl
theorem q282 : (Jvm.Cond.code ({ cls := "PlanLayersModel", name := "isAction", desc := "(I)Z" } : Jvm.MethodName) prog_3_method_3_code (2 : Nat) (Option.some Jvm.ClassFile.FieldType.boolean)) ∈ lw_all := lw_g (lw_at lw_m2 13 rfl) rfl
theorem q284 : (Jvm.Cond.instanceMethod ({ cls := "PlanLayersModel", name := "start", desc := "(I)Z" } : Jvm.MethodName)) ∈ lw_all := lw_g (lw_at lw_m2 15 rfl) rfl
theorem q285 : (Jvm.Cond.selects "PlanLayersModel" ({ cls := "PlanLayersModel", name := "start", desc := "(I)Z" } : Jvm.MethodName) ({ cls := "PlanLayersModel", name := "start", desc := "(I)Z" } : Jvm.MethodName)) ∈ lw_all := lw_g (lw_at lw_m2 16 rfl) rfl
theorem q286 : (Jvm.Cond.code ({ cls := "PlanLayersModel", name := "start", desc := "(I)Z" } : Jvm.MethodName) prog_3_method_6_code (2 : Nat) (Option.some Jvm.ClassFile.FieldType.boolean)) ∈ lw_all := lw_g (lw_at lw_m2 17 rfl) rfl
theorem q288 : (Jvm.Cond.instanceMethod ({ cls := "PlanLayersModel", name := "clash", desc := "(II)Z" } : Jvm.MethodName)) ∈ lw_all := lw_g (lw_at lw_m2 19 rfl) rfl
theorem q289 : (Jvm.Cond.selects "PlanLayersModel" ({ cls := "PlanLayersModel", name := "clash", desc := "(II)Z" } : Jvm.MethodName) ({ cls := "PlanLayersModel", name := "clash", desc := "(II)Z" } : Jvm.MethodName)) ∈ lw_all := lw_g (lw_at lw_m2 20 rfl) rfl
theorem q290 : (Jvm.Cond.code ({ cls := "PlanLayersModel", name := "clash", desc := "(II)Z" } : Jvm.MethodName) prog_3_method_7_code (3 : Nat) (Option.some Jvm.ClassFile.FieldType.boolean)) ∈ lw_all := lw_g (lw_at lw_m2 21 rfl) rfl
theorem q292 : (Jvm.Cond.instanceMethod ({ cls := "PlanLayersModel", name := "fewest", desc := "(I)I" } : Jvm.MethodName)) ∈ lw_all := lw_g (lw_at lw_m2 23 rfl) rfl
theorem q293 : (Jvm.Cond.selects "PlanLayersModel" ({ cls := "PlanLayersModel", name := "fewest", desc := "(I)I" } : Jvm.MethodName) ({ cls := "PlanLayersModel", name := "fewest", desc := "(I)I" } : Jvm.MethodName)) ∈ lw_all := lw_g (lw_at lw_m2 24 rfl) rfl
theorem q294 : (Jvm.Cond.code ({ cls := "PlanLayersModel", name := "fewest", desc := "(I)I" } : Jvm.MethodName) prog_3_method_11_code (3 : Nat) (Option.some Jvm.ClassFile.FieldType.int)) ∈ lw_all := lw_g (lw_at lw_m2 25 rfl) rfl
theorem q295 : (Jvm.Cond.methodLink "PlanLayersModel" (45 : Nat) ({ cls := "PlanLayersModel", name := "setOut", desc := "(I)V" } : Jvm.MethodName)) ∈ lw_all := lw_g (lw_at lw_m2 26 rfl) rfl
theorem q296 : (Jvm.Cond.privateMethod ({ cls := "PlanLayersModel", name := "setOut", desc := "(I)V" } : Jvm.MethodName)) ∈ lw_tbl := lw_at lw_m2 27 rfl
theorem q297 : (Jvm.Cond.instanceMethod ({ cls := "PlanLayersModel", name := "setOut", desc := "(I)V" } : Jvm.MethodName)) ∈ lw_all := lw_g (lw_at lw_m2 28 rfl) rfl
theorem q298 : (Jvm.Cond.code ({ cls := "PlanLayersModel", name := "setOut", desc := "(I)V" } : Jvm.MethodName) prog_3_method_9_code (5 : Nat) (Option.none : Option Jvm.ClassFile.FieldType)) ∈ lw_all := lw_g (lw_at lw_m2 29 rfl) rfl
theorem q299 : (Jvm.Cond.methodLink "PlanLayersModel" (41 : Nat) ({ cls := "PlanLayersModel", name := "after", desc := "(II)I" } : Jvm.MethodName)) ∈ lw_all := lw_g (lw_at lw_m2 30 rfl) rfl
theorem q300 : (Jvm.Cond.privateMethod ({ cls := "PlanLayersModel", name := "after", desc := "(II)I" } : Jvm.MethodName)) ∈ lw_tbl := lw_at lw_m2 31 rfl
theorem q301 : (Jvm.Cond.instanceMethod ({ cls := "PlanLayersModel", name := "after", desc := "(II)I" } : Jvm.MethodName)) ∈ lw_all := lw_g (lw_at lw_m2 32 rfl) rfl
theorem q302 : (Jvm.Cond.code ({ cls := "PlanLayersModel", name := "after", desc := "(II)I" } : Jvm.MethodName) prog_3_method_8_code (7 : Nat) (Option.some Jvm.ClassFile.FieldType.int)) ∈ lw_all := lw_g (lw_at lw_m2 33 rfl) rfl
theorem q303 : (Jvm.Cond.methodLink "PlanLayersModel" (37 : Nat) ({ cls := "PlanLayersModel", name := "clash", desc := "(II)Z" } : Jvm.MethodName)) ∈ lw_all := lw_g (lw_at lw_m2 34 rfl) rfl
theorem q304 : (Jvm.Cond.methodLink "PlanLayersModel" (49 : Nat) ({ cls := "PlanLayersModel", name := "served", desc := "(II)Z" } : Jvm.MethodName)) ∈ lw_all := lw_g (lw_at lw_m2 35 rfl) rfl
theorem q305 : (Jvm.Cond.privateMethod ({ cls := "PlanLayersModel", name := "served", desc := "(II)Z" } : Jvm.MethodName)) ∈ lw_tbl := lw_at lw_m2 36 rfl
theorem q306 : (Jvm.Cond.instanceMethod ({ cls := "PlanLayersModel", name := "served", desc := "(II)Z" } : Jvm.MethodName)) ∈ lw_all := lw_g (lw_at lw_m2 37 rfl) rfl
theorem q307 : (Jvm.Cond.code ({ cls := "PlanLayersModel", name := "served", desc := "(II)Z" } : Jvm.MethodName) prog_3_method_10_code (4 : Nat) (Option.some Jvm.ClassFile.FieldType.boolean)) ∈ lw_all := lw_g (lw_at lw_m2 38 rfl) rfl
theorem q309 : (Jvm.Cond.instanceMethod ({ cls := "PlanLayersModel", name := "within", desc := "(I)I" } : Jvm.MethodName)) ∈ lw_all := lw_g (lw_at lw_m2 40 rfl) rfl
theorem q310 : (Jvm.Cond.selects "PlanLayersModel" ({ cls := "PlanLayersModel", name := "within", desc := "(I)I" } : Jvm.MethodName) ({ cls := "PlanLayersModel", name := "within", desc := "(I)I" } : Jvm.MethodName)) ∈ lw_all := lw_g (lw_at lw_m2 41 rfl) rfl
theorem q311 : (Jvm.Cond.code ({ cls := "PlanLayersModel", name := "within", desc := "(I)I" } : Jvm.MethodName) prog_3_method_12_code (4 : Nat) (Option.some Jvm.ClassFile.FieldType.int)) ∈ lw_all := lw_g (lw_at lw_m2 42 rfl) rfl
theorem q313 : (Jvm.Cond.instanceMethod ({ cls := "PlanLayersModel", name := "together", desc := "(III)Z" } : Jvm.MethodName)) ∈ lw_all := lw_g (lw_at lw_m2 44 rfl) rfl
theorem q314 : (Jvm.Cond.selects "PlanLayersModel" ({ cls := "PlanLayersModel", name := "together", desc := "(III)Z" } : Jvm.MethodName) ({ cls := "PlanLayersModel", name := "together", desc := "(III)Z" } : Jvm.MethodName)) ∈ lw_all := lw_g (lw_at lw_m2 45 rfl) rfl
theorem q315 : (Jvm.Cond.code ({ cls := "PlanLayersModel", name := "together", desc := "(III)Z" } : Jvm.MethodName) prog_3_method_13_code (4 : Nat) (Option.some Jvm.ClassFile.FieldType.boolean)) ∈ lw_all := lw_g (lw_at lw_m2 46 rfl) rfl
theorem q317 : (Jvm.Cond.instanceMethod ({ cls := "PlanLayersModel", name := "begins", desc := "(II)Z" } : Jvm.MethodName)) ∈ lw_all := lw_g (lw_at lw_m2 48 rfl) rfl
theorem q318 : (Jvm.Cond.selects "PlanLayersModel" ({ cls := "PlanLayersModel", name := "begins", desc := "(II)Z" } : Jvm.MethodName) ({ cls := "PlanLayersModel", name := "begins", desc := "(II)Z" } : Jvm.MethodName)) ∈ lw_all := lw_g (lw_at lw_m2 49 rfl) rfl
theorem q319 : (Jvm.Cond.code ({ cls := "PlanLayersModel", name := "begins", desc := "(II)Z" } : Jvm.MethodName) prog_3_method_14_code (6 : Nat) (Option.some Jvm.ClassFile.FieldType.boolean)) ∈ lw_all := lw_g (lw_at lw_m2 50 rfl) rfl
theorem q320 : (Jvm.Cond.methodLink "PlanLayersModel" (52 : Nat) ({ cls := "PlanLayersModel", name := "fewest", desc := "(I)I" } : Jvm.MethodName)) ∈ lw_all := lw_g (lw_at lw_m2 51 rfl) rfl
theorem q322 : (Jvm.Cond.instanceMethod ({ cls := "PlanLayersModel", name := "advance", desc := "(I)Z" } : Jvm.MethodName)) ∈ lw_all := lw_g (lw_at lw_m2 53 rfl) rfl
theorem q323 : (Jvm.Cond.selects "PlanLayersModel" ({ cls := "PlanLayersModel", name := "advance", desc := "(I)Z" } : Jvm.MethodName) ({ cls := "PlanLayersModel", name := "advance", desc := "(I)Z" } : Jvm.MethodName)) ∈ lw_all := lw_g (lw_at lw_m2 54 rfl) rfl
theorem q324 : (Jvm.Cond.code ({ cls := "PlanLayersModel", name := "advance", desc := "(I)Z" } : Jvm.MethodName) prog_3_method_15_code (3 : Nat) (Option.some Jvm.ClassFile.FieldType.boolean)) ∈ lw_all := lw_g (lw_at lw_m2 55 rfl) rfl
theorem q326 : (Jvm.Cond.instanceMethod ({ cls := "PlanLayersModel", name := "state", desc := "()I" } : Jvm.MethodName)) ∈ lw_all := lw_g (lw_at lw_m2 57 rfl) rfl
theorem q327 : (Jvm.Cond.selects "PlanLayersModel" ({ cls := "PlanLayersModel", name := "state", desc := "()I" } : Jvm.MethodName) ({ cls := "PlanLayersModel", name := "state", desc := "()I" } : Jvm.MethodName)) ∈ lw_all := lw_g (lw_at lw_m2 58 rfl) rfl
theorem q328 : (Jvm.Cond.code ({ cls := "PlanLayersModel", name := "state", desc := "()I" } : Jvm.MethodName) prog_3_method_16_code (1 : Nat) (Option.some Jvm.ClassFile.FieldType.int)) ∈ lw_all := lw_g (lw_at lw_m2 59 rfl) rfl
theorem in_X1 : ∀ w ∈ wsX10, w ∈ lw_all := lw_in wsX10 [253, 255, 257, 259, 261, 263] (by decide +kernel) (by decide +kernel)
theorem q101 : (Jvm.Cond.arrayClass Jvm.ClassFile.FieldType.int) ∈ lw_all := lw_g (lw_at lw_m1 72 rfl) rfl
theorem q102 : (Jvm.Cond.arrayClass Jvm.ClassFile.FieldType.long) ∈ lw_all := lw_g (lw_at lw_m1 73 rfl) rfl
theorem q103 : (Jvm.Cond.arrayClass Jvm.ClassFile.FieldType.byte) ∈ lw_all := lw_g (lw_at lw_m1 74 rfl) rfl
theorem q266 : (Jvm.Cond.arrayClass Jvm.ClassFile.FieldType.boolean) ∈ lw_all := lw_g (lw_at lw_m1 237 rfl) rfl
theorem q29 : (Jvm.Cond.initialized "PlanLayersLaw") ∈ lw_all := lw_g (lw_at lw_m1 0 rfl) rfl
theorem q32 : (Jvm.Cond.classLink "PlanLayersLaw" (7 : Nat) "PlanLayers") ∈ lw_all := lw_g (lw_at lw_m1 3 rfl) rfl
theorem q34 : (Jvm.Cond.methodLink "PlanLayersLaw" (9 : Nat) ({ cls := "PlanLayers", name := "<init>", desc := "()V" } : Jvm.MethodName)) ∈ lw_all := lw_g (lw_at lw_m1 5 rfl) rfl
theorem q104 : (Jvm.Cond.methodLink "PlanLayersLaw" (13 : Nat) ({ cls := "PlanLayers", name := "action", desc := "(III)I" } : Jvm.MethodName)) ∈ lw_all := lw_g (lw_at lw_m1 75 rfl) rfl
theorem q112 : (Jvm.Cond.methodLink "PlanLayersLaw" (18 : Nat) ({ cls := "PlanLayers", name := "drop", desc := "(I)I" } : Jvm.MethodName)) ∈ lw_all := lw_g (lw_at lw_m1 83 rfl) rfl
theorem q120 : (Jvm.Cond.methodLink "PlanLayersLaw" (23 : Nat) ({ cls := "PlanLayers", name := "start", desc := "(I)Z" } : Jvm.MethodName)) ∈ lw_all := lw_g (lw_at lw_m1 91 rfl) rfl
theorem q124 : (Jvm.Cond.methodLink "PlanLayersLaw" (28 : Nat) ({ cls := "PlanLayers", name := "clash", desc := "(II)Z" } : Jvm.MethodName)) ∈ lw_all := lw_g (lw_at lw_m1 95 rfl) rfl
theorem q144 : (Jvm.Cond.methodLink "PlanLayersLaw" (33 : Nat) ({ cls := "PlanLayers", name := "fewest", desc := "(I)I" } : Jvm.MethodName)) ∈ lw_all := lw_g (lw_at lw_m1 115 rfl) rfl
theorem q212 : (Jvm.Cond.methodLink "PlanLayersLaw" (37 : Nat) ({ cls := "PlanLayers", name := "within", desc := "(I)I" } : Jvm.MethodName)) ∈ lw_all := lw_g (lw_at lw_m1 183 rfl) rfl
theorem q216 : (Jvm.Cond.methodLink "PlanLayersLaw" (41 : Nat) ({ cls := "PlanLayers", name := "together", desc := "(III)Z" } : Jvm.MethodName)) ∈ lw_all := lw_g (lw_at lw_m1 187 rfl) rfl
theorem q220 : (Jvm.Cond.methodLink "PlanLayersLaw" (46 : Nat) ({ cls := "PlanLayers", name := "begins", desc := "(II)Z" } : Jvm.MethodName)) ∈ lw_all := lw_g (lw_at lw_m1 191 rfl) rfl
theorem q233 : (Jvm.Cond.methodLink "PlanLayersLaw" (50 : Nat) ({ cls := "PlanLayers", name := "advance", desc := "(I)Z" } : Jvm.MethodName)) ∈ lw_all := lw_g (lw_at lw_m1 204 rfl) rfl
theorem q237 : (Jvm.Cond.methodLink "PlanLayersLaw" (54 : Nat) ({ cls := "PlanLayers", name := "state", desc := "()I" } : Jvm.MethodName)) ∈ lw_all := lw_g (lw_at lw_m1 208 rfl) rfl
theorem q241 : (Jvm.Cond.classLink "PlanLayersLaw" (10 : Nat) "PlanLayersModel") ∈ lw_all := lw_g (lw_at lw_m1 212 rfl) rfl
theorem q243 : (Jvm.Cond.methodLink "PlanLayersLaw" (12 : Nat) ({ cls := "PlanLayersModel", name := "<init>", desc := "()V" } : Jvm.MethodName)) ∈ lw_all := lw_g (lw_at lw_m1 214 rfl) rfl
theorem q267 : (Jvm.Cond.methodLink "PlanLayersLaw" (17 : Nat) ({ cls := "PlanLayersModel", name := "action", desc := "(III)I" } : Jvm.MethodName)) ∈ lw_all := lw_g (lw_at lw_m1 238 rfl) rfl
theorem q275 : (Jvm.Cond.methodLink "PlanLayersLaw" (22 : Nat) ({ cls := "PlanLayersModel", name := "drop", desc := "(I)I" } : Jvm.MethodName)) ∈ lw_all := lw_g (lw_at lw_m2 6 rfl) rfl
theorem q283 : (Jvm.Cond.methodLink "PlanLayersLaw" (27 : Nat) ({ cls := "PlanLayersModel", name := "start", desc := "(I)Z" } : Jvm.MethodName)) ∈ lw_all := lw_g (lw_at lw_m2 14 rfl) rfl
theorem q287 : (Jvm.Cond.methodLink "PlanLayersLaw" (32 : Nat) ({ cls := "PlanLayersModel", name := "clash", desc := "(II)Z" } : Jvm.MethodName)) ∈ lw_all := lw_g (lw_at lw_m2 18 rfl) rfl
theorem q291 : (Jvm.Cond.methodLink "PlanLayersLaw" (36 : Nat) ({ cls := "PlanLayersModel", name := "fewest", desc := "(I)I" } : Jvm.MethodName)) ∈ lw_all := lw_g (lw_at lw_m2 22 rfl) rfl
theorem q308 : (Jvm.Cond.methodLink "PlanLayersLaw" (40 : Nat) ({ cls := "PlanLayersModel", name := "within", desc := "(I)I" } : Jvm.MethodName)) ∈ lw_all := lw_g (lw_at lw_m2 39 rfl) rfl
theorem q312 : (Jvm.Cond.methodLink "PlanLayersLaw" (45 : Nat) ({ cls := "PlanLayersModel", name := "together", desc := "(III)Z" } : Jvm.MethodName)) ∈ lw_all := lw_g (lw_at lw_m2 43 rfl) rfl
theorem q316 : (Jvm.Cond.methodLink "PlanLayersLaw" (49 : Nat) ({ cls := "PlanLayersModel", name := "begins", desc := "(II)Z" } : Jvm.MethodName)) ∈ lw_all := lw_g (lw_at lw_m2 47 rfl) rfl
theorem q321 : (Jvm.Cond.methodLink "PlanLayersLaw" (53 : Nat) ({ cls := "PlanLayersModel", name := "advance", desc := "(I)Z" } : Jvm.MethodName)) ∈ lw_all := lw_g (lw_at lw_m2 52 rfl) rfl
theorem q325 : (Jvm.Cond.methodLink "PlanLayersLaw" (58 : Nat) ({ cls := "PlanLayersModel", name := "state", desc := "()I" } : Jvm.MethodName)) ∈ lw_all := lw_g (lw_at lw_m2 56 rfl) rfl
/-! java/lang/Object -/
def RJ0 : String := "java/lang/Object"
abbrev cJ0_init : ByteArray := object_method_1_code
def yJ0_init : MethodName := ⟨RJ0, "<init>", "()V"⟩
theorem dJ0_init_0 : decode cJ0_init 0 = .ok (.return_, 1) := by decide +kernel
theorem q38 : (Jvm.Cond.instanceMethod ({ cls := "java/lang/Object", name := "<init>", desc := "()V" } : Jvm.MethodName)) ∈ lw_all := lw_g (lw_at lw_m1 9 rfl) rfl
theorem q39 : (Jvm.Cond.code ({ cls := "java/lang/Object", name := "<init>", desc := "()V" } : Jvm.MethodName) object_method_1_code (1 : Nat) (Option.none : Option Jvm.ClassFile.FieldType)) ∈ lw_all := lw_g (lw_at lw_m1 10 rfl) rfl
end
section
set_option maxRecDepth 100000
theorem dX0_init_0 : decode cX0_init 0 = .ok (.aload_n 0, 1) := by decide +kernel
theorem dX0_init_1 : decode cX0_init 1 = .ok (.invokespecial 1, 3) := by decide +kernel
theorem dX0_init_4 : decode cX0_init 4 = .ok (.aload_n 0, 1) := by decide +kernel
theorem dX0_init_5 : decode cX0_init 5 = .ok (.bipush 7, 2) := by decide +kernel
theorem dX0_init_7 : decode cX0_init 7 = .ok (.newarray .int, 2) := by decide +kernel
theorem dX0_init_9 : decode cX0_init 9 = .ok (.putfield 7, 3) := by decide +kernel
theorem dX0_init_12 : decode cX0_init 12 = .ok (.aload_n 0, 1) := by decide +kernel
theorem dX0_init_13 : decode cX0_init 13 = .ok (.bipush 7, 2) := by decide +kernel
theorem dX0_init_15 : decode cX0_init 15 = .ok (.newarray .int, 2) := by decide +kernel
theorem dX0_init_17 : decode cX0_init 17 = .ok (.putfield 13, 3) := by decide +kernel
theorem dX0_init_20 : decode cX0_init 20 = .ok (.aload_n 0, 1) := by decide +kernel
theorem dX0_init_21 : decode cX0_init 21 = .ok (.bipush 7, 2) := by decide +kernel
theorem dX0_init_23 : decode cX0_init 23 = .ok (.newarray .int, 2) := by decide +kernel
theorem dX0_init_25 : decode cX0_init 25 = .ok (.putfield 16, 3) := by decide +kernel
theorem dX0_init_28 : decode cX0_init 28 = .ok (.aload_n 0, 1) := by decide +kernel
theorem dX0_init_29 : decode cX0_init 29 = .ok (.bipush 9, 2) := by decide +kernel
theorem dX0_init_31 : decode cX0_init 31 = .ok (.newarray .int, 2) := by decide +kernel
theorem dX0_init_33 : decode cX0_init 33 = .ok (.putfield 19, 3) := by decide +kernel
theorem dX0_init_36 : decode cX0_init 36 = .ok (.aload_n 0, 1) := by decide +kernel
theorem dX0_init_37 : decode cX0_init 37 = .ok (.bipush 9, 2) := by decide +kernel
theorem dX0_init_39 : decode cX0_init 39 = .ok (.newarray .int, 2) := by decide +kernel
theorem dX0_init_41 : decode cX0_init 41 = .ok (.putfield 22, 3) := by decide +kernel
theorem dX0_init_44 : decode cX0_init 44 = .ok (.aload_n 0, 1) := by decide +kernel
theorem dX0_init_45 : decode cX0_init 45 = .ok (.bipush 72, 2) := by decide +kernel
theorem dX0_init_47 : decode cX0_init 47 = .ok (.newarray .int, 2) := by decide +kernel
theorem dX0_init_49 : decode cX0_init 49 = .ok (.putfield 25, 3) := by decide +kernel
theorem dX0_init_52 : decode cX0_init 52 = .ok (.aload_n 0, 1) := by decide +kernel
theorem dX0_init_53 : decode cX0_init 53 = .ok (.sipush 135, 3) := by decide +kernel
theorem dX0_init_56 : decode cX0_init 56 = .ok (.newarray .int, 2) := by decide +kernel
theorem dX0_init_58 : decode cX0_init 58 = .ok (.putfield 28, 3) := by decide +kernel
theorem dX0_init_61 : decode cX0_init 61 = .ok (.aload_n 0, 1) := by decide +kernel
theorem dX0_init_62 : decode cX0_init 62 = .ok (.bipush 15, 2) := by decide +kernel
theorem dX0_init_64 : decode cX0_init 64 = .ok (.newarray .int, 2) := by decide +kernel
theorem dX0_init_66 : decode cX0_init 66 = .ok (.putfield 31, 3) := by decide +kernel
theorem dX0_init_69 : decode cX0_init 69 = .ok (.aload_n 0, 1) := by decide +kernel
theorem dX0_init_70 : decode cX0_init 70 = .ok (.bipush 36, 2) := by decide +kernel
theorem dX0_init_72 : decode cX0_init 72 = .ok (.newarray .long, 2) := by decide +kernel
theorem dX0_init_74 : decode cX0_init 74 = .ok (.putfield 34, 3) := by decide +kernel
theorem dX0_init_77 : decode cX0_init 77 = .ok (.aload_n 0, 1) := by decide +kernel
theorem dX0_init_78 : decode cX0_init 78 = .ok (.bipush 36, 2) := by decide +kernel
theorem dX0_init_80 : decode cX0_init 80 = .ok (.newarray .long, 2) := by decide +kernel
theorem dX0_init_82 : decode cX0_init 82 = .ok (.putfield 38, 3) := by decide +kernel
theorem dX0_init_85 : decode cX0_init 85 = .ok (.aload_n 0, 1) := by decide +kernel
theorem dX0_init_86 : decode cX0_init 86 = .ok (.bipush 9, 2) := by decide +kernel
theorem dX0_init_88 : decode cX0_init 88 = .ok (.newarray .int, 2) := by decide +kernel
theorem dX0_init_90 : decode cX0_init 90 = .ok (.putfield 41, 3) := by decide +kernel
theorem dX0_init_93 : decode cX0_init 93 = .ok (.aload_n 0, 1) := by decide +kernel
theorem dX0_init_94 : decode cX0_init 94 = .ok (.bipush 9, 2) := by decide +kernel
theorem dX0_init_96 : decode cX0_init 96 = .ok (.newarray .int, 2) := by decide +kernel
theorem dX0_init_98 : decode cX0_init 98 = .ok (.putfield 44, 3) := by decide +kernel
theorem dX0_init_101 : decode cX0_init 101 = .ok (.aload_n 0, 1) := by decide +kernel
theorem dX0_init_102 : decode cX0_init 102 = .ok (.bipush 9, 2) := by decide +kernel
theorem dX0_init_104 : decode cX0_init 104 = .ok (.newarray .int, 2) := by decide +kernel
theorem dX0_init_106 : decode cX0_init 106 = .ok (.putfield 47, 3) := by decide +kernel
theorem dX0_init_109 : decode cX0_init 109 = .ok (.aload_n 0, 1) := by decide +kernel
theorem dX0_init_110 : decode cX0_init 110 = .ok (.bipush 72, 2) := by decide +kernel
theorem dX0_init_112 : decode cX0_init 112 = .ok (.newarray .byte, 2) := by decide +kernel
theorem dX0_init_114 : decode cX0_init 114 = .ok (.putfield 50, 3) := by decide +kernel
theorem dX0_init_117 : decode cX0_init 117 = .ok (.aload_n 0, 1) := by decide +kernel
theorem dX0_init_118 : decode cX0_init 118 = .ok (.bipush 72, 2) := by decide +kernel
theorem dX0_init_120 : decode cX0_init 120 = .ok (.newarray .byte, 2) := by decide +kernel
theorem dX0_init_122 : decode cX0_init 122 = .ok (.putfield 54, 3) := by decide +kernel
theorem dX0_init_125 : decode cX0_init 125 = .ok (.aload_n 0, 1) := by decide +kernel
theorem dX0_init_126 : decode cX0_init 126 = .ok (.bipush 72, 2) := by decide +kernel
theorem dX0_init_128 : decode cX0_init 128 = .ok (.newarray .int, 2) := by decide +kernel
theorem dX0_init_130 : decode cX0_init 130 = .ok (.putfield 57, 3) := by decide +kernel
theorem dX0_init_133 : decode cX0_init 133 = .ok (.return_, 1) := by decide +kernel
theorem dX0_action_0 : decode cX0_action 0 = .ok (.aload_n 0, 1) := by decide +kernel
theorem dX0_action_1 : decode cX0_action 1 = .ok (.getfield 60, 3) := by decide +kernel
theorem dX0_action_4 : decode cX0_action 4 = .ok (.bipush 7, 2) := by decide +kernel
theorem dX0_action_6 : decode cX0_action 6 = .ok (.if_icmp .lt 6, 3) := by decide +kernel
theorem dX0_action_9 : decode cX0_action 9 = .ok (.bipush (-2), 2) := by decide +kernel
theorem dX0_action_11 : decode cX0_action 11 = .ok (.ireturn, 1) := by decide +kernel
theorem dX0_action_12 : decode cX0_action 12 = .ok (.aload_n 0, 1) := by decide +kernel
theorem dX0_action_13 : decode cX0_action 13 = .ok (.iload_n 1, 1) := by decide +kernel
theorem dX0_action_14 : decode cX0_action 14 = .ok (.invokevirtual 64, 3) := by decide +kernel
theorem dX0_action_17 : decode cX0_action 17 = .ok (.ifCond .eq 19, 3) := by decide +kernel
theorem dX0_action_20 : decode cX0_action 20 = .ok (.aload_n 0, 1) := by decide +kernel
theorem dX0_action_21 : decode cX0_action 21 = .ok (.iload_n 2, 1) := by decide +kernel
theorem dX0_action_22 : decode cX0_action 22 = .ok (.invokevirtual 64, 3) := by decide +kernel
theorem dX0_action_25 : decode cX0_action 25 = .ok (.ifCond .eq 11, 3) := by decide +kernel
theorem dX0_action_28 : decode cX0_action 28 = .ok (.aload_n 0, 1) := by decide +kernel
theorem dX0_action_29 : decode cX0_action 29 = .ok (.iload_n 3, 1) := by decide +kernel
theorem dX0_action_30 : decode cX0_action 30 = .ok (.invokevirtual 64, 3) := by decide +kernel
theorem dX0_action_33 : decode cX0_action 33 = .ok (.ifCond .ne 5, 3) := by decide +kernel
theorem dX0_action_36 : decode cX0_action 36 = .ok (.iconst (-1), 1) := by decide +kernel
theorem dX0_action_37 : decode cX0_action 37 = .ok (.ireturn, 1) := by decide +kernel
theorem dX0_action_38 : decode cX0_action 38 = .ok (.aload_n 0, 1) := by decide +kernel
theorem dX0_action_39 : decode cX0_action 39 = .ok (.getfield 7, 3) := by decide +kernel
theorem dX0_action_42 : decode cX0_action 42 = .ok (.aload_n 0, 1) := by decide +kernel
theorem dX0_action_43 : decode cX0_action 43 = .ok (.getfield 60, 3) := by decide +kernel
theorem dX0_action_46 : decode cX0_action 46 = .ok (.iload_n 1, 1) := by decide +kernel
theorem dX0_action_47 : decode cX0_action 47 = .ok (.iastore, 1) := by decide +kernel
theorem dX0_action_48 : decode cX0_action 48 = .ok (.aload_n 0, 1) := by decide +kernel
theorem dX0_action_49 : decode cX0_action 49 = .ok (.getfield 13, 3) := by decide +kernel
theorem dX0_action_52 : decode cX0_action 52 = .ok (.aload_n 0, 1) := by decide +kernel
theorem dX0_action_53 : decode cX0_action 53 = .ok (.getfield 60, 3) := by decide +kernel
theorem dX0_action_56 : decode cX0_action 56 = .ok (.iload_n 2, 1) := by decide +kernel
theorem dX0_action_57 : decode cX0_action 57 = .ok (.iastore, 1) := by decide +kernel
theorem dX0_action_58 : decode cX0_action 58 = .ok (.aload_n 0, 1) := by decide +kernel
theorem dX0_action_59 : decode cX0_action 59 = .ok (.getfield 16, 3) := by decide +kernel
theorem dX0_action_62 : decode cX0_action 62 = .ok (.aload_n 0, 1) := by decide +kernel
theorem dX0_action_63 : decode cX0_action 63 = .ok (.getfield 60, 3) := by decide +kernel
theorem dX0_action_66 : decode cX0_action 66 = .ok (.iload_n 3, 1) := by decide +kernel
theorem dX0_action_67 : decode cX0_action 67 = .ok (.iastore, 1) := by decide +kernel
theorem dX0_action_68 : decode cX0_action 68 = .ok (.aload_n 0, 1) := by decide +kernel
theorem dX0_action_69 : decode cX0_action 69 = .ok (.dup, 1) := by decide +kernel
theorem dX0_action_70 : decode cX0_action 70 = .ok (.getfield 60, 3) := by decide +kernel
theorem dX0_action_73 : decode cX0_action 73 = .ok (.iconst 1, 1) := by decide +kernel
theorem dX0_action_74 : decode cX0_action 74 = .ok (.iadd, 1) := by decide +kernel
theorem dX0_action_75 : decode cX0_action 75 = .ok (.putfield 60, 3) := by decide +kernel
theorem dX0_action_78 : decode cX0_action 78 = .ok (.aload_n 0, 1) := by decide +kernel
theorem dX0_action_79 : decode cX0_action 79 = .ok (.iconst 0, 1) := by decide +kernel
theorem dX0_action_80 : decode cX0_action 80 = .ok (.putfield 68, 3) := by decide +kernel
theorem dX0_action_83 : decode cX0_action 83 = .ok (.aload_n 0, 1) := by decide +kernel
theorem dX0_action_84 : decode cX0_action 84 = .ok (.getfield 60, 3) := by decide +kernel
theorem dX0_action_87 : decode cX0_action 87 = .ok (.iconst 1, 1) := by decide +kernel
theorem dX0_action_88 : decode cX0_action 88 = .ok (.isub, 1) := by decide +kernel
theorem dX0_action_89 : decode cX0_action 89 = .ok (.ireturn, 1) := by decide +kernel
theorem dX0_isSet_0 : decode cX0_isSet 0 = .ok (.iload_n 1, 1) := by decide +kernel
theorem dX0_isSet_1 : decode cX0_isSet 1 = .ok (.ifCond .lt 14, 3) := by decide +kernel
theorem dX0_isSet_4 : decode cX0_isSet 4 = .ok (.iload_n 1, 1) := by decide +kernel
theorem dX0_isSet_5 : decode cX0_isSet 5 = .ok (.sipush 255, 3) := by decide +kernel
theorem dX0_isSet_8 : decode cX0_isSet 8 = .ok (.if_icmp .gt 7, 3) := by decide +kernel
theorem dX0_isSet_11 : decode cX0_isSet 11 = .ok (.iconst 1, 1) := by decide +kernel
theorem dX0_isSet_12 : decode cX0_isSet 12 = .ok (.goto 4, 3) := by decide +kernel
theorem dX0_isSet_15 : decode cX0_isSet 15 = .ok (.iconst 0, 1) := by decide +kernel
theorem dX0_isSet_16 : decode cX0_isSet 16 = .ok (.ireturn, 1) := by decide +kernel
theorem dX0_drop_0 : decode cX0_drop 0 = .ok (.aload_n 0, 1) := by decide +kernel
theorem dX0_drop_1 : decode cX0_drop 1 = .ok (.iload_n 1, 1) := by decide +kernel
theorem dX0_drop_2 : decode cX0_drop 2 = .ok (.invokevirtual 72, 3) := by decide +kernel
theorem dX0_drop_5 : decode cX0_drop 5 = .ok (.ifCond .ne 5, 3) := by decide +kernel
theorem dX0_drop_8 : decode cX0_drop 8 = .ok (.iconst (-1), 1) := by decide +kernel
theorem dX0_drop_9 : decode cX0_drop 9 = .ok (.ireturn, 1) := by decide +kernel
theorem dX0_drop_10 : decode cX0_drop 10 = .ok (.aload_n 0, 1) := by decide +kernel
theorem dX0_drop_11 : decode cX0_drop 11 = .ok (.dup, 1) := by decide +kernel
theorem dX0_drop_12 : decode cX0_drop 12 = .ok (.getfield 60, 3) := by decide +kernel
theorem dX0_drop_15 : decode cX0_drop 15 = .ok (.iconst 1, 1) := by decide +kernel
theorem dX0_drop_16 : decode cX0_drop 16 = .ok (.isub, 1) := by decide +kernel
theorem dX0_drop_17 : decode cX0_drop 17 = .ok (.putfield 60, 3) := by decide +kernel
theorem dX0_drop_20 : decode cX0_drop 20 = .ok (.iload_n 1, 1) := by decide +kernel
theorem dX0_drop_21 : decode cX0_drop 21 = .ok (.istore_n 2, 1) := by decide +kernel
theorem dX0_drop_22 : decode cX0_drop 22 = .ok (.iload_n 2, 1) := by decide +kernel
theorem dX0_drop_23 : decode cX0_drop 23 = .ok (.aload_n 0, 1) := by decide +kernel
theorem dX0_drop_24 : decode cX0_drop 24 = .ok (.getfield 60, 3) := by decide +kernel
theorem dX0_drop_27 : decode cX0_drop 27 = .ok (.if_icmp .ge 51, 3) := by decide +kernel
theorem dX0_drop_30 : decode cX0_drop 30 = .ok (.aload_n 0, 1) := by decide +kernel
theorem dX0_drop_31 : decode cX0_drop 31 = .ok (.getfield 7, 3) := by decide +kernel
theorem dX0_drop_34 : decode cX0_drop 34 = .ok (.iload_n 2, 1) := by decide +kernel
theorem dX0_drop_35 : decode cX0_drop 35 = .ok (.aload_n 0, 1) := by decide +kernel
theorem dX0_drop_36 : decode cX0_drop 36 = .ok (.getfield 7, 3) := by decide +kernel
theorem dX0_drop_39 : decode cX0_drop 39 = .ok (.iload_n 2, 1) := by decide +kernel
theorem dX0_drop_40 : decode cX0_drop 40 = .ok (.iconst 1, 1) := by decide +kernel
theorem dX0_drop_41 : decode cX0_drop 41 = .ok (.iadd, 1) := by decide +kernel
theorem dX0_drop_42 : decode cX0_drop 42 = .ok (.iaload, 1) := by decide +kernel
theorem dX0_drop_43 : decode cX0_drop 43 = .ok (.iastore, 1) := by decide +kernel
theorem dX0_drop_44 : decode cX0_drop 44 = .ok (.aload_n 0, 1) := by decide +kernel
theorem dX0_drop_45 : decode cX0_drop 45 = .ok (.getfield 13, 3) := by decide +kernel
theorem dX0_drop_48 : decode cX0_drop 48 = .ok (.iload_n 2, 1) := by decide +kernel
theorem dX0_drop_49 : decode cX0_drop 49 = .ok (.aload_n 0, 1) := by decide +kernel
theorem dX0_drop_50 : decode cX0_drop 50 = .ok (.getfield 13, 3) := by decide +kernel
theorem dX0_drop_53 : decode cX0_drop 53 = .ok (.iload_n 2, 1) := by decide +kernel
theorem dX0_drop_54 : decode cX0_drop 54 = .ok (.iconst 1, 1) := by decide +kernel
theorem dX0_drop_55 : decode cX0_drop 55 = .ok (.iadd, 1) := by decide +kernel
theorem dX0_drop_56 : decode cX0_drop 56 = .ok (.iaload, 1) := by decide +kernel
theorem dX0_drop_57 : decode cX0_drop 57 = .ok (.iastore, 1) := by decide +kernel
theorem dX0_drop_58 : decode cX0_drop 58 = .ok (.aload_n 0, 1) := by decide +kernel
theorem dX0_drop_59 : decode cX0_drop 59 = .ok (.getfield 16, 3) := by decide +kernel
theorem dX0_drop_62 : decode cX0_drop 62 = .ok (.iload_n 2, 1) := by decide +kernel
theorem dX0_drop_63 : decode cX0_drop 63 = .ok (.aload_n 0, 1) := by decide +kernel
theorem dX0_drop_64 : decode cX0_drop 64 = .ok (.getfield 16, 3) := by decide +kernel
theorem dX0_drop_67 : decode cX0_drop 67 = .ok (.iload_n 2, 1) := by decide +kernel
theorem dX0_drop_68 : decode cX0_drop 68 = .ok (.iconst 1, 1) := by decide +kernel
theorem dX0_drop_69 : decode cX0_drop 69 = .ok (.iadd, 1) := by decide +kernel
theorem dX0_drop_70 : decode cX0_drop 70 = .ok (.iaload, 1) := by decide +kernel
theorem dX0_drop_71 : decode cX0_drop 71 = .ok (.iastore, 1) := by decide +kernel
theorem dX0_drop_72 : decode cX0_drop 72 = .ok (.iinc 2 1, 3) := by decide +kernel
theorem dX0_drop_75 : decode cX0_drop 75 = .ok (.goto (-53), 3) := by decide +kernel
theorem dX0_drop_78 : decode cX0_drop 78 = .ok (.aload_n 0, 1) := by decide +kernel
theorem dX0_drop_79 : decode cX0_drop 79 = .ok (.iconst 0, 1) := by decide +kernel
theorem dX0_drop_80 : decode cX0_drop 80 = .ok (.putfield 68, 3) := by decide +kernel
theorem dX0_drop_83 : decode cX0_drop 83 = .ok (.aload_n 0, 1) := by decide +kernel
theorem dX0_drop_84 : decode cX0_drop 84 = .ok (.getfield 60, 3) := by decide +kernel
theorem dX0_drop_87 : decode cX0_drop 87 = .ok (.ireturn, 1) := by decide +kernel
theorem dX0_isAction_0 : decode cX0_isAction 0 = .ok (.iload_n 1, 1) := by decide +kernel
theorem dX0_isAction_1 : decode cX0_isAction 1 = .ok (.ifCond .lt 15, 3) := by decide +kernel
theorem dX0_isAction_4 : decode cX0_isAction 4 = .ok (.iload_n 1, 1) := by decide +kernel
theorem dX0_isAction_5 : decode cX0_isAction 5 = .ok (.aload_n 0, 1) := by decide +kernel
theorem dX0_isAction_6 : decode cX0_isAction 6 = .ok (.getfield 60, 3) := by decide +kernel
theorem dX0_isAction_9 : decode cX0_isAction 9 = .ok (.if_icmp .ge 7, 3) := by decide +kernel
theorem dX0_isAction_12 : decode cX0_isAction 12 = .ok (.iconst 1, 1) := by decide +kernel
theorem dX0_isAction_13 : decode cX0_isAction 13 = .ok (.goto 4, 3) := by decide +kernel
theorem dX0_isAction_16 : decode cX0_isAction 16 = .ok (.iconst 0, 1) := by decide +kernel
theorem dX0_isAction_17 : decode cX0_isAction 17 = .ok (.ireturn, 1) := by decide +kernel
theorem dX0_start_0 : decode cX0_start 0 = .ok (.aload_n 0, 1) := by decide +kernel
theorem dX0_start_1 : decode cX0_start 1 = .ok (.iload_n 1, 1) := by decide +kernel
theorem dX0_start_2 : decode cX0_start 2 = .ok (.invokevirtual 64, 3) := by decide +kernel
theorem dX0_start_5 : decode cX0_start 5 = .ok (.ifCond .ne 5, 3) := by decide +kernel
theorem dX0_start_8 : decode cX0_start 8 = .ok (.iconst 0, 1) := by decide +kernel
theorem dX0_start_9 : decode cX0_start 9 = .ok (.ireturn, 1) := by decide +kernel
theorem dX0_start_10 : decode cX0_start 10 = .ok (.aload_n 0, 1) := by decide +kernel
theorem dX0_start_11 : decode cX0_start 11 = .ok (.iload_n 1, 1) := by decide +kernel
theorem dX0_start_12 : decode cX0_start 12 = .ok (.putfield 75, 3) := by decide +kernel
theorem dX0_start_15 : decode cX0_start 15 = .ok (.aload_n 0, 1) := by decide +kernel
theorem dX0_start_16 : decode cX0_start 16 = .ok (.iconst 0, 1) := by decide +kernel
theorem dX0_start_17 : decode cX0_start 17 = .ok (.putfield 68, 3) := by decide +kernel
theorem dX0_start_20 : decode cX0_start 20 = .ok (.iconst 1, 1) := by decide +kernel
theorem dX0_start_21 : decode cX0_start 21 = .ok (.ireturn, 1) := by decide +kernel
theorem dX0_clash_0 : decode cX0_clash 0 = .ok (.aload_n 0, 1) := by decide +kernel
theorem dX0_clash_1 : decode cX0_clash 1 = .ok (.iload_n 1, 1) := by decide +kernel
theorem dX0_clash_2 : decode cX0_clash 2 = .ok (.invokevirtual 72, 3) := by decide +kernel
theorem dX0_clash_5 : decode cX0_clash 5 = .ok (.ifCond .eq 29, 3) := by decide +kernel
theorem dX0_clash_8 : decode cX0_clash 8 = .ok (.aload_n 0, 1) := by decide +kernel
theorem dX0_clash_9 : decode cX0_clash 9 = .ok (.iload_n 2, 1) := by decide +kernel
theorem dX0_clash_10 : decode cX0_clash 10 = .ok (.invokevirtual 72, 3) := by decide +kernel
theorem dX0_clash_13 : decode cX0_clash 13 = .ok (.ifCond .eq 21, 3) := by decide +kernel
theorem dX0_clash_16 : decode cX0_clash 16 = .ok (.iload_n 1, 1) := by decide +kernel
theorem dX0_clash_17 : decode cX0_clash 17 = .ok (.iload_n 2, 1) := by decide +kernel
theorem dX0_clash_18 : decode cX0_clash 18 = .ok (.if_icmp .eq 16, 3) := by decide +kernel
theorem dX0_clash_21 : decode cX0_clash 21 = .ok (.aload_n 0, 1) := by decide +kernel
theorem dX0_clash_22 : decode cX0_clash 22 = .ok (.iload_n 1, 1) := by decide +kernel
theorem dX0_clash_23 : decode cX0_clash 23 = .ok (.iload_n 2, 1) := by decide +kernel
theorem dX0_clash_24 : decode cX0_clash 24 = .ok (.invokevirtual 78, 3) := by decide +kernel
theorem dX0_clash_27 : decode cX0_clash 27 = .ok (.ifCond .eq 7, 3) := by decide +kernel
theorem dX0_clash_30 : decode cX0_clash 30 = .ok (.iconst 1, 1) := by decide +kernel
theorem dX0_clash_31 : decode cX0_clash 31 = .ok (.goto 4, 3) := by decide +kernel
theorem dX0_clash_34 : decode cX0_clash 34 = .ok (.iconst 0, 1) := by decide +kernel
theorem dX0_clash_35 : decode cX0_clash 35 = .ok (.ireturn, 1) := by decide +kernel
theorem dX0_deedsClash_0 : decode cX0_deedsClash 0 = .ok (.aload_n 0, 1) := by decide +kernel
theorem dX0_deedsClash_1 : decode cX0_deedsClash 1 = .ok (.iload_n 1, 1) := by decide +kernel
theorem dX0_deedsClash_2 : decode cX0_deedsClash 2 = .ok (.invokevirtual 99, 3) := by decide +kernel
theorem dX0_deedsClash_5 : decode cX0_deedsClash 5 = .ok (.aload_n 0, 1) := by decide +kernel
theorem dX0_deedsClash_6 : decode cX0_deedsClash 6 = .ok (.iload_n 1, 1) := by decide +kernel
theorem dX0_deedsClash_7 : decode cX0_deedsClash 7 = .ok (.invokevirtual 102, 3) := by decide +kernel
theorem dX0_deedsClash_10 : decode cX0_deedsClash 10 = .ok (.ior, 1) := by decide +kernel
theorem dX0_deedsClash_11 : decode cX0_deedsClash 11 = .ok (.istore_n 3, 1) := by decide +kernel
theorem dX0_deedsClash_12 : decode cX0_deedsClash 12 = .ok (.aload_n 0, 1) := by decide +kernel
theorem dX0_deedsClash_13 : decode cX0_deedsClash 13 = .ok (.iload_n 2, 1) := by decide +kernel
theorem dX0_deedsClash_14 : decode cX0_deedsClash 14 = .ok (.invokevirtual 99, 3) := by decide +kernel
theorem dX0_deedsClash_17 : decode cX0_deedsClash 17 = .ok (.aload_n 0, 1) := by decide +kernel
theorem dX0_deedsClash_18 : decode cX0_deedsClash 18 = .ok (.iload_n 2, 1) := by decide +kernel
theorem dX0_deedsClash_19 : decode cX0_deedsClash 19 = .ok (.invokevirtual 102, 3) := by decide +kernel
theorem dX0_deedsClash_22 : decode cX0_deedsClash 22 = .ok (.ior, 1) := by decide +kernel
theorem dX0_deedsClash_23 : decode cX0_deedsClash 23 = .ok (.istore 4, 2) := by decide +kernel
theorem dX0_deedsClash_25 : decode cX0_deedsClash 25 = .ok (.aload_n 0, 1) := by decide +kernel
theorem dX0_deedsClash_26 : decode cX0_deedsClash 26 = .ok (.iload_n 1, 1) := by decide +kernel
theorem dX0_deedsClash_27 : decode cX0_deedsClash 27 = .ok (.invokevirtual 105, 3) := by decide +kernel
theorem dX0_deedsClash_30 : decode cX0_deedsClash 30 = .ok (.iload 4, 2) := by decide +kernel
theorem dX0_deedsClash_32 : decode cX0_deedsClash 32 = .ok (.iand, 1) := by decide +kernel
theorem dX0_deedsClash_33 : decode cX0_deedsClash 33 = .ok (.ifCond .ne 13, 3) := by decide +kernel
theorem dX0_deedsClash_36 : decode cX0_deedsClash 36 = .ok (.aload_n 0, 1) := by decide +kernel
theorem dX0_deedsClash_37 : decode cX0_deedsClash 37 = .ok (.iload_n 2, 1) := by decide +kernel
theorem dX0_deedsClash_38 : decode cX0_deedsClash 38 = .ok (.invokevirtual 105, 3) := by decide +kernel
theorem dX0_deedsClash_41 : decode cX0_deedsClash 41 = .ok (.iload_n 3, 1) := by decide +kernel
theorem dX0_deedsClash_42 : decode cX0_deedsClash 42 = .ok (.iand, 1) := by decide +kernel
theorem dX0_deedsClash_43 : decode cX0_deedsClash 43 = .ok (.ifCond .eq 7, 3) := by decide +kernel
theorem dX0_deedsClash_46 : decode cX0_deedsClash 46 = .ok (.iconst 1, 1) := by decide +kernel
theorem dX0_deedsClash_47 : decode cX0_deedsClash 47 = .ok (.goto 4, 3) := by decide +kernel
theorem dX0_deedsClash_50 : decode cX0_deedsClash 50 = .ok (.iconst 0, 1) := by decide +kernel
theorem dX0_deedsClash_51 : decode cX0_deedsClash 51 = .ok (.ireturn, 1) := by decide +kernel
theorem dX0_needsOf_0 : decode cX0_needsOf 0 = .ok (.iload_n 1, 1) := by decide +kernel
theorem dX0_needsOf_1 : decode cX0_needsOf 1 = .ok (.bipush 7, 2) := by decide +kernel
theorem dX0_needsOf_3 : decode cX0_needsOf 3 = .ok (.if_icmp .ge 12, 3) := by decide +kernel
theorem dX0_needsOf_6 : decode cX0_needsOf 6 = .ok (.aload_n 0, 1) := by decide +kernel
theorem dX0_needsOf_7 : decode cX0_needsOf 7 = .ok (.getfield 7, 3) := by decide +kernel
theorem dX0_needsOf_10 : decode cX0_needsOf 10 = .ok (.iload_n 1, 1) := by decide +kernel
theorem dX0_needsOf_11 : decode cX0_needsOf 11 = .ok (.iaload, 1) := by decide +kernel
theorem dX0_needsOf_12 : decode cX0_needsOf 12 = .ok (.goto 9, 3) := by decide +kernel
theorem dX0_needsOf_15 : decode cX0_needsOf 15 = .ok (.iconst 1, 1) := by decide +kernel
theorem dX0_needsOf_16 : decode cX0_needsOf 16 = .ok (.iload_n 1, 1) := by decide +kernel
theorem dX0_needsOf_17 : decode cX0_needsOf 17 = .ok (.bipush 7, 2) := by decide +kernel
theorem dX0_needsOf_19 : decode cX0_needsOf 19 = .ok (.isub, 1) := by decide +kernel
theorem dX0_needsOf_20 : decode cX0_needsOf 20 = .ok (.ishl, 1) := by decide +kernel
theorem dX0_needsOf_21 : decode cX0_needsOf 21 = .ok (.ireturn, 1) := by decide +kernel
theorem dX0_gainsOf_0 : decode cX0_gainsOf 0 = .ok (.iload_n 1, 1) := by decide +kernel
theorem dX0_gainsOf_1 : decode cX0_gainsOf 1 = .ok (.bipush 7, 2) := by decide +kernel
theorem dX0_gainsOf_3 : decode cX0_gainsOf 3 = .ok (.if_icmp .ge 12, 3) := by decide +kernel
theorem dX0_gainsOf_6 : decode cX0_gainsOf 6 = .ok (.aload_n 0, 1) := by decide +kernel
theorem dX0_gainsOf_7 : decode cX0_gainsOf 7 = .ok (.getfield 13, 3) := by decide +kernel
theorem dX0_gainsOf_10 : decode cX0_gainsOf 10 = .ok (.iload_n 1, 1) := by decide +kernel
theorem dX0_gainsOf_11 : decode cX0_gainsOf 11 = .ok (.iaload, 1) := by decide +kernel
theorem dX0_gainsOf_12 : decode cX0_gainsOf 12 = .ok (.goto 9, 3) := by decide +kernel
theorem dX0_gainsOf_15 : decode cX0_gainsOf 15 = .ok (.iconst 1, 1) := by decide +kernel
theorem dX0_gainsOf_16 : decode cX0_gainsOf 16 = .ok (.iload_n 1, 1) := by decide +kernel
theorem dX0_gainsOf_17 : decode cX0_gainsOf 17 = .ok (.bipush 7, 2) := by decide +kernel
theorem dX0_gainsOf_19 : decode cX0_gainsOf 19 = .ok (.isub, 1) := by decide +kernel
theorem dX0_gainsOf_20 : decode cX0_gainsOf 20 = .ok (.ishl, 1) := by decide +kernel
theorem dX0_gainsOf_21 : decode cX0_gainsOf 21 = .ok (.ireturn, 1) := by decide +kernel
theorem dX0_lossesOf_0 : decode cX0_lossesOf 0 = .ok (.iload_n 1, 1) := by decide +kernel
theorem dX0_lossesOf_1 : decode cX0_lossesOf 1 = .ok (.bipush 7, 2) := by decide +kernel
theorem dX0_lossesOf_3 : decode cX0_lossesOf 3 = .ok (.if_icmp .ge 12, 3) := by decide +kernel
theorem dX0_lossesOf_6 : decode cX0_lossesOf 6 = .ok (.aload_n 0, 1) := by decide +kernel
theorem dX0_lossesOf_7 : decode cX0_lossesOf 7 = .ok (.getfield 16, 3) := by decide +kernel
theorem dX0_lossesOf_10 : decode cX0_lossesOf 10 = .ok (.iload_n 1, 1) := by decide +kernel
theorem dX0_lossesOf_11 : decode cX0_lossesOf 11 = .ok (.iaload, 1) := by decide +kernel
theorem dX0_lossesOf_12 : decode cX0_lossesOf 12 = .ok (.goto 4, 3) := by decide +kernel
theorem dX0_lossesOf_15 : decode cX0_lossesOf 15 = .ok (.iconst 0, 1) := by decide +kernel
theorem dX0_lossesOf_16 : decode cX0_lossesOf 16 = .ok (.ireturn, 1) := by decide +kernel
theorem dX0_fewest_0 : decode cX0_fewest 0 = .ok (.aload_n 0, 1) := by decide +kernel
theorem dX0_fewest_1 : decode cX0_fewest 1 = .ok (.iload_n 1, 1) := by decide +kernel
theorem dX0_fewest_2 : decode cX0_fewest 2 = .ok (.invokevirtual 64, 3) := by decide +kernel
theorem dX0_fewest_5 : decode cX0_fewest 5 = .ok (.ifCond .ne 5, 3) := by decide +kernel
theorem dX0_fewest_8 : decode cX0_fewest 8 = .ok (.iconst (-1), 1) := by decide +kernel
theorem dX0_fewest_9 : decode cX0_fewest 9 = .ok (.ireturn, 1) := by decide +kernel
theorem dX0_fewest_10 : decode cX0_fewest 10 = .ok (.aload_n 0, 1) := by decide +kernel
theorem dX0_fewest_11 : decode cX0_fewest 11 = .ok (.invokevirtual 82, 3) := by decide +kernel
theorem dX0_fewest_14 : decode cX0_fewest 14 = .ok (.iconst 0, 1) := by decide +kernel
theorem dX0_fewest_15 : decode cX0_fewest 15 = .ok (.istore_n 2, 1) := by decide +kernel
theorem dX0_fewest_16 : decode cX0_fewest 16 = .ok (.iload_n 2, 1) := by decide +kernel
theorem dX0_fewest_17 : decode cX0_fewest 17 = .ok (.bipush 8, 2) := by decide +kernel
theorem dX0_fewest_19 : decode cX0_fewest 19 = .ok (.if_icmp .gt 20, 3) := by decide +kernel
theorem dX0_fewest_22 : decode cX0_fewest 22 = .ok (.aload_n 0, 1) := by decide +kernel
theorem dX0_fewest_23 : decode cX0_fewest 23 = .ok (.iload_n 1, 1) := by decide +kernel
theorem dX0_fewest_24 : decode cX0_fewest 24 = .ok (.iload_n 2, 1) := by decide +kernel
theorem dX0_fewest_25 : decode cX0_fewest 25 = .ok (.invokevirtual 85, 3) := by decide +kernel
theorem dX0_fewest_28 : decode cX0_fewest 28 = .ok (.ifCond .eq 5, 3) := by decide +kernel
theorem dX0_fewest_31 : decode cX0_fewest 31 = .ok (.iload_n 2, 1) := by decide +kernel
theorem dX0_fewest_32 : decode cX0_fewest 32 = .ok (.ireturn, 1) := by decide +kernel
theorem dX0_fewest_33 : decode cX0_fewest 33 = .ok (.iinc 2 1, 3) := by decide +kernel
theorem dX0_fewest_36 : decode cX0_fewest 36 = .ok (.goto (-20), 3) := by decide +kernel
theorem dX0_fewest_39 : decode cX0_fewest 39 = .ok (.bipush (-3), 2) := by decide +kernel
theorem dX0_fewest_41 : decode cX0_fewest 41 = .ok (.ireturn, 1) := by decide +kernel
theorem dX0_build_0 : decode cX0_build 0 = .ok (.aload_n 0, 1) := by decide +kernel
theorem dX0_build_1 : decode cX0_build 1 = .ok (.getfield 68, 3) := by decide +kernel
theorem dX0_build_4 : decode cX0_build 4 = .ok (.ifCond .eq 4, 3) := by decide +kernel
theorem dX0_build_7 : decode cX0_build 7 = .ok (.return_, 1) := by decide +kernel
theorem dX0_build_8 : decode cX0_build 8 = .ok (.aload_n 0, 1) := by decide +kernel
theorem dX0_build_9 : decode cX0_build 9 = .ok (.iconst 1, 1) := by decide +kernel
theorem dX0_build_10 : decode cX0_build 10 = .ok (.putfield 68, 3) := by decide +kernel
theorem dX0_build_13 : decode cX0_build 13 = .ok (.iconst 0, 1) := by decide +kernel
theorem dX0_build_14 : decode cX0_build 14 = .ok (.istore_n 1, 1) := by decide +kernel
theorem dX0_build_15 : decode cX0_build 15 = .ok (.iload_n 1, 1) := by decide +kernel
theorem dX0_build_16 : decode cX0_build 16 = .ok (.bipush 15, 2) := by decide +kernel
theorem dX0_build_18 : decode cX0_build 18 = .ok (.if_icmp .ge 72, 3) := by decide +kernel
theorem dX0_build_21 : decode cX0_build 21 = .ok (.aload_n 0, 1) := by decide +kernel
theorem dX0_build_22 : decode cX0_build 22 = .ok (.getfield 31, 3) := by decide +kernel
theorem dX0_build_25 : decode cX0_build 25 = .ok (.iload_n 1, 1) := by decide +kernel
theorem dX0_build_26 : decode cX0_build 26 = .ok (.iconst 0, 1) := by decide +kernel
theorem dX0_build_27 : decode cX0_build 27 = .ok (.iastore, 1) := by decide +kernel
theorem dX0_build_28 : decode cX0_build 28 = .ok (.iconst 0, 1) := by decide +kernel
theorem dX0_build_29 : decode cX0_build 29 = .ok (.istore_n 2, 1) := by decide +kernel
theorem dX0_build_30 : decode cX0_build 30 = .ok (.iload_n 2, 1) := by decide +kernel
theorem dX0_build_31 : decode cX0_build 31 = .ok (.bipush 15, 2) := by decide +kernel
theorem dX0_build_33 : decode cX0_build 33 = .ok (.if_icmp .ge 51, 3) := by decide +kernel
theorem dX0_build_36 : decode cX0_build 36 = .ok (.iload_n 1, 1) := by decide +kernel
theorem dX0_build_37 : decode cX0_build 37 = .ok (.iload_n 2, 1) := by decide +kernel
theorem dX0_build_38 : decode cX0_build 38 = .ok (.if_icmp .eq 40, 3) := by decide +kernel
theorem dX0_build_41 : decode cX0_build 41 = .ok (.aload_n 0, 1) := by decide +kernel
theorem dX0_build_42 : decode cX0_build 42 = .ok (.iload_n 1, 1) := by decide +kernel
theorem dX0_build_43 : decode cX0_build 43 = .ok (.invokevirtual 108, 3) := by decide +kernel
theorem dX0_build_46 : decode cX0_build 46 = .ok (.ifCond .eq 32, 3) := by decide +kernel
theorem dX0_build_49 : decode cX0_build 49 = .ok (.aload_n 0, 1) := by decide +kernel
theorem dX0_build_50 : decode cX0_build 50 = .ok (.iload_n 2, 1) := by decide +kernel
theorem dX0_build_51 : decode cX0_build 51 = .ok (.invokevirtual 108, 3) := by decide +kernel
theorem dX0_build_54 : decode cX0_build 54 = .ok (.ifCond .eq 24, 3) := by decide +kernel
theorem dX0_build_57 : decode cX0_build 57 = .ok (.aload_n 0, 1) := by decide +kernel
theorem dX0_build_58 : decode cX0_build 58 = .ok (.iload_n 1, 1) := by decide +kernel
theorem dX0_build_59 : decode cX0_build 59 = .ok (.iload_n 2, 1) := by decide +kernel
theorem dX0_build_60 : decode cX0_build 60 = .ok (.invokevirtual 78, 3) := by decide +kernel
theorem dX0_build_63 : decode cX0_build 63 = .ok (.ifCond .eq 15, 3) := by decide +kernel
theorem dX0_build_66 : decode cX0_build 66 = .ok (.aload_n 0, 1) := by decide +kernel
theorem dX0_build_67 : decode cX0_build 67 = .ok (.getfield 31, 3) := by decide +kernel
theorem dX0_build_70 : decode cX0_build 70 = .ok (.iload_n 1, 1) := by decide +kernel
theorem dX0_build_71 : decode cX0_build 71 = .ok (.dup2, 1) := by decide +kernel
theorem dX0_build_72 : decode cX0_build 72 = .ok (.iaload, 1) := by decide +kernel
theorem dX0_build_73 : decode cX0_build 73 = .ok (.iconst 1, 1) := by decide +kernel
theorem dX0_build_74 : decode cX0_build 74 = .ok (.iload_n 2, 1) := by decide +kernel
theorem dX0_build_75 : decode cX0_build 75 = .ok (.ishl, 1) := by decide +kernel
theorem dX0_build_76 : decode cX0_build 76 = .ok (.ior, 1) := by decide +kernel
theorem dX0_build_77 : decode cX0_build 77 = .ok (.iastore, 1) := by decide +kernel
theorem dX0_build_78 : decode cX0_build 78 = .ok (.iinc 2 1, 3) := by decide +kernel
theorem dX0_build_81 : decode cX0_build 81 = .ok (.goto (-51), 3) := by decide +kernel
theorem dX0_build_84 : decode cX0_build 84 = .ok (.iinc 1 1, 3) := by decide +kernel
theorem dX0_build_87 : decode cX0_build 87 = .ok (.goto (-72), 3) := by decide +kernel
theorem dX0_build_90 : decode cX0_build 90 = .ok (.iconst 0, 1) := by decide +kernel
theorem dX0_build_91 : decode cX0_build 91 = .ok (.istore_n 1, 1) := by decide +kernel
theorem dX0_build_92 : decode cX0_build 92 = .ok (.iload_n 1, 1) := by decide +kernel
theorem dX0_build_93 : decode cX0_build 93 = .ok (.bipush 36, 2) := by decide +kernel
theorem dX0_build_95 : decode cX0_build 95 = .ok (.if_icmp .ge 23, 3) := by decide +kernel
theorem dX0_build_98 : decode cX0_build 98 = .ok (.aload_n 0, 1) := by decide +kernel
theorem dX0_build_99 : decode cX0_build 99 = .ok (.getfield 34, 3) := by decide +kernel
theorem dX0_build_102 : decode cX0_build 102 = .ok (.iload_n 1, 1) := by decide +kernel
theorem dX0_build_103 : decode cX0_build 103 = .ok (.lconst 0, 1) := by decide +kernel
theorem dX0_build_104 : decode cX0_build 104 = .ok (.lastore, 1) := by decide +kernel
theorem dX0_build_105 : decode cX0_build 105 = .ok (.aload_n 0, 1) := by decide +kernel
theorem dX0_build_106 : decode cX0_build 106 = .ok (.getfield 38, 3) := by decide +kernel
theorem dX0_build_109 : decode cX0_build 109 = .ok (.iload_n 1, 1) := by decide +kernel
theorem dX0_build_110 : decode cX0_build 110 = .ok (.lconst 0, 1) := by decide +kernel
theorem dX0_build_111 : decode cX0_build 111 = .ok (.lastore, 1) := by decide +kernel
theorem dX0_build_112 : decode cX0_build 112 = .ok (.iinc 1 1, 3) := by decide +kernel
theorem dX0_build_115 : decode cX0_build 115 = .ok (.goto (-23), 3) := by decide +kernel
theorem dX0_build_118 : decode cX0_build 118 = .ok (.aload_n 0, 1) := by decide +kernel
theorem dX0_build_119 : decode cX0_build 119 = .ok (.getfield 19, 3) := by decide +kernel
theorem dX0_build_122 : decode cX0_build 122 = .ok (.iconst 0, 1) := by decide +kernel
theorem dX0_build_123 : decode cX0_build 123 = .ok (.aload_n 0, 1) := by decide +kernel
theorem dX0_build_124 : decode cX0_build 124 = .ok (.getfield 75, 3) := by decide +kernel
theorem dX0_build_127 : decode cX0_build 127 = .ok (.iastore, 1) := by decide +kernel
theorem dX0_build_128 : decode cX0_build 128 = .ok (.iconst 0, 1) := by decide +kernel
theorem dX0_build_129 : decode cX0_build 129 = .ok (.istore_n 1, 1) := by decide +kernel
theorem dX0_build_130 : decode cX0_build 130 = .ok (.iload_n 1, 1) := by decide +kernel
theorem dX0_build_131 : decode cX0_build 131 = .ok (.bipush 8, 2) := by decide +kernel
theorem dX0_build_133 : decode cX0_build 133 = .ok (.if_icmp .ge 16, 3) := by decide +kernel
theorem dX0_build_136 : decode cX0_build 136 = .ok (.aload_n 0, 1) := by decide +kernel
theorem dX0_build_137 : decode cX0_build 137 = .ok (.getfield 25, 3) := by decide +kernel
theorem dX0_build_140 : decode cX0_build 140 = .ok (.iload_n 1, 1) := by decide +kernel
theorem dX0_build_141 : decode cX0_build 141 = .ok (.iconst 0, 1) := by decide +kernel
theorem dX0_build_142 : decode cX0_build 142 = .ok (.iastore, 1) := by decide +kernel
theorem dX0_build_143 : decode cX0_build 143 = .ok (.iinc 1 1, 3) := by decide +kernel
theorem dX0_build_146 : decode cX0_build 146 = .ok (.goto (-16), 3) := by decide +kernel
theorem dX0_build_149 : decode cX0_build 149 = .ok (.iconst 0, 1) := by decide +kernel
theorem dX0_build_150 : decode cX0_build 150 = .ok (.istore_n 1, 1) := by decide +kernel
theorem dX0_build_151 : decode cX0_build 151 = .ok (.iload_n 1, 1) := by decide +kernel
theorem dX0_build_152 : decode cX0_build 152 = .ok (.bipush 8, 2) := by decide +kernel
theorem dX0_build_154 : decode cX0_build 154 = .ok (.if_icmp .ge 19, 3) := by decide +kernel
theorem dX0_build_157 : decode cX0_build 157 = .ok (.aload_n 0, 1) := by decide +kernel
theorem dX0_build_158 : decode cX0_build 158 = .ok (.iload_n 1, 1) := by decide +kernel
theorem dX0_build_159 : decode cX0_build 159 = .ok (.invokevirtual 111, 3) := by decide +kernel
theorem dX0_build_162 : decode cX0_build 162 = .ok (.aload_n 0, 1) := by decide +kernel
theorem dX0_build_163 : decode cX0_build 163 = .ok (.iload_n 1, 1) := by decide +kernel
theorem dX0_build_164 : decode cX0_build 164 = .ok (.invokevirtual 115, 3) := by decide +kernel
theorem dX0_build_167 : decode cX0_build 167 = .ok (.iinc 1 1, 3) := by decide +kernel
theorem dX0_build_170 : decode cX0_build 170 = .ok (.goto (-19), 3) := by decide +kernel
theorem dX0_build_173 : decode cX0_build 173 = .ok (.return_, 1) := by decide +kernel
theorem dX0_exists_0 : decode cX0_exists 0 = .ok (.iload_n 1, 1) := by decide +kernel
theorem dX0_exists_1 : decode cX0_exists 1 = .ok (.bipush 7, 2) := by decide +kernel
theorem dX0_exists_3 : decode cX0_exists 3 = .ok (.if_icmp .ge 11, 3) := by decide +kernel
theorem dX0_exists_6 : decode cX0_exists 6 = .ok (.iload_n 1, 1) := by decide +kernel
theorem dX0_exists_7 : decode cX0_exists 7 = .ok (.aload_n 0, 1) := by decide +kernel
theorem dX0_exists_8 : decode cX0_exists 8 = .ok (.getfield 60, 3) := by decide +kernel
theorem dX0_exists_11 : decode cX0_exists 11 = .ok (.if_icmp .ge 7, 3) := by decide +kernel
theorem dX0_exists_14 : decode cX0_exists 14 = .ok (.iconst 1, 1) := by decide +kernel
theorem dX0_exists_15 : decode cX0_exists 15 = .ok (.goto 4, 3) := by decide +kernel
theorem dX0_exists_18 : decode cX0_exists 18 = .ok (.iconst 0, 1) := by decide +kernel
theorem dX0_exists_19 : decode cX0_exists 19 = .ok (.ireturn, 1) := by decide +kernel
theorem dX0_findDeeds_0 : decode cX0_findDeeds 0 = .ok (.aload_n 0, 1) := by decide +kernel
theorem dX0_findDeeds_1 : decode cX0_findDeeds 1 = .ok (.getfield 22, 3) := by decide +kernel
theorem dX0_findDeeds_4 : decode cX0_findDeeds 4 = .ok (.iload_n 1, 1) := by decide +kernel
theorem dX0_findDeeds_5 : decode cX0_findDeeds 5 = .ok (.iconst 0, 1) := by decide +kernel
theorem dX0_findDeeds_6 : decode cX0_findDeeds 6 = .ok (.iastore, 1) := by decide +kernel
theorem dX0_findDeeds_7 : decode cX0_findDeeds 7 = .ok (.iconst 0, 1) := by decide +kernel
theorem dX0_findDeeds_8 : decode cX0_findDeeds 8 = .ok (.istore_n 2, 1) := by decide +kernel
theorem dX0_findDeeds_9 : decode cX0_findDeeds 9 = .ok (.iload_n 2, 1) := by decide +kernel
theorem dX0_findDeeds_10 : decode cX0_findDeeds 10 = .ok (.bipush 15, 2) := by decide +kernel
theorem dX0_findDeeds_12 : decode cX0_findDeeds 12 = .ok (.if_icmp .ge 44, 3) := by decide +kernel
theorem dX0_findDeeds_15 : decode cX0_findDeeds 15 = .ok (.aload_n 0, 1) := by decide +kernel
theorem dX0_findDeeds_16 : decode cX0_findDeeds 16 = .ok (.iload_n 2, 1) := by decide +kernel
theorem dX0_findDeeds_17 : decode cX0_findDeeds 17 = .ok (.invokevirtual 99, 3) := by decide +kernel
theorem dX0_findDeeds_20 : decode cX0_findDeeds 20 = .ok (.istore_n 3, 1) := by decide +kernel
theorem dX0_findDeeds_21 : decode cX0_findDeeds 21 = .ok (.aload_n 0, 1) := by decide +kernel
theorem dX0_findDeeds_22 : decode cX0_findDeeds 22 = .ok (.iload_n 2, 1) := by decide +kernel
theorem dX0_findDeeds_23 : decode cX0_findDeeds 23 = .ok (.invokevirtual 108, 3) := by decide +kernel
theorem dX0_findDeeds_26 : decode cX0_findDeeds 26 = .ok (.ifCond .eq 24, 3) := by decide +kernel
theorem dX0_findDeeds_29 : decode cX0_findDeeds 29 = .ok (.aload_n 0, 1) := by decide +kernel
theorem dX0_findDeeds_30 : decode cX0_findDeeds 30 = .ok (.iload_n 3, 1) := by decide +kernel
theorem dX0_findDeeds_31 : decode cX0_findDeeds 31 = .ok (.iload_n 1, 1) := by decide +kernel
theorem dX0_findDeeds_32 : decode cX0_findDeeds 32 = .ok (.invokevirtual 118, 3) := by decide +kernel
theorem dX0_findDeeds_35 : decode cX0_findDeeds 35 = .ok (.ifCond .eq 15, 3) := by decide +kernel
theorem dX0_findDeeds_38 : decode cX0_findDeeds 38 = .ok (.aload_n 0, 1) := by decide +kernel
theorem dX0_findDeeds_39 : decode cX0_findDeeds 39 = .ok (.getfield 22, 3) := by decide +kernel
theorem dX0_findDeeds_42 : decode cX0_findDeeds 42 = .ok (.iload_n 1, 1) := by decide +kernel
theorem dX0_findDeeds_43 : decode cX0_findDeeds 43 = .ok (.dup2, 1) := by decide +kernel
theorem dX0_findDeeds_44 : decode cX0_findDeeds 44 = .ok (.iaload, 1) := by decide +kernel
theorem dX0_findDeeds_45 : decode cX0_findDeeds 45 = .ok (.iconst 1, 1) := by decide +kernel
theorem dX0_findDeeds_46 : decode cX0_findDeeds 46 = .ok (.iload_n 2, 1) := by decide +kernel
theorem dX0_findDeeds_47 : decode cX0_findDeeds 47 = .ok (.ishl, 1) := by decide +kernel
theorem dX0_findDeeds_48 : decode cX0_findDeeds 48 = .ok (.ior, 1) := by decide +kernel
theorem dX0_findDeeds_49 : decode cX0_findDeeds 49 = .ok (.iastore, 1) := by decide +kernel
theorem dX0_findDeeds_50 : decode cX0_findDeeds 50 = .ok (.iinc 2 1, 3) := by decide +kernel
theorem dX0_findDeeds_53 : decode cX0_findDeeds 53 = .ok (.goto (-44), 3) := by decide +kernel
theorem dX0_findDeeds_56 : decode cX0_findDeeds 56 = .ok (.iconst 0, 1) := by decide +kernel
theorem dX0_findDeeds_57 : decode cX0_findDeeds 57 = .ok (.istore_n 2, 1) := by decide +kernel
theorem dX0_findDeeds_58 : decode cX0_findDeeds 58 = .ok (.iload_n 2, 1) := by decide +kernel
theorem dX0_findDeeds_59 : decode cX0_findDeeds 59 = .ok (.bipush 15, 2) := by decide +kernel
theorem dX0_findDeeds_61 : decode cX0_findDeeds 61 = .ok (.if_icmp .ge 110, 3) := by decide +kernel
theorem dX0_findDeeds_64 : decode cX0_findDeeds 64 = .ok (.aload_n 0, 1) := by decide +kernel
theorem dX0_findDeeds_65 : decode cX0_findDeeds 65 = .ok (.getfield 28, 3) := by decide +kernel
theorem dX0_findDeeds_68 : decode cX0_findDeeds 68 = .ok (.bipush 15, 2) := by decide +kernel
theorem dX0_findDeeds_70 : decode cX0_findDeeds 70 = .ok (.iload_n 1, 1) := by decide +kernel
theorem dX0_findDeeds_71 : decode cX0_findDeeds 71 = .ok (.imul, 1) := by decide +kernel
theorem dX0_findDeeds_72 : decode cX0_findDeeds 72 = .ok (.iload_n 2, 1) := by decide +kernel
theorem dX0_findDeeds_73 : decode cX0_findDeeds 73 = .ok (.iadd, 1) := by decide +kernel
theorem dX0_findDeeds_74 : decode cX0_findDeeds 74 = .ok (.aload_n 0, 1) := by decide +kernel
theorem dX0_findDeeds_75 : decode cX0_findDeeds 75 = .ok (.getfield 31, 3) := by decide +kernel
end
section
set_option maxRecDepth 100000
theorem dX0_findDeeds_78 : decode cX0_findDeeds 78 = .ok (.iload_n 2, 1) := by decide +kernel
theorem dX0_findDeeds_79 : decode cX0_findDeeds 79 = .ok (.iaload, 1) := by decide +kernel
theorem dX0_findDeeds_80 : decode cX0_findDeeds 80 = .ok (.iastore, 1) := by decide +kernel
theorem dX0_findDeeds_81 : decode cX0_findDeeds 81 = .ok (.iconst 0, 1) := by decide +kernel
theorem dX0_findDeeds_82 : decode cX0_findDeeds 82 = .ok (.istore_n 3, 1) := by decide +kernel
theorem dX0_findDeeds_83 : decode cX0_findDeeds 83 = .ok (.iload_n 3, 1) := by decide +kernel
theorem dX0_findDeeds_84 : decode cX0_findDeeds 84 = .ok (.bipush 15, 2) := by decide +kernel
theorem dX0_findDeeds_86 : decode cX0_findDeeds 86 = .ok (.if_icmp .ge 79, 3) := by decide +kernel
theorem dX0_findDeeds_89 : decode cX0_findDeeds 89 = .ok (.iload_n 2, 1) := by decide +kernel
theorem dX0_findDeeds_90 : decode cX0_findDeeds 90 = .ok (.iload_n 3, 1) := by decide +kernel
theorem dX0_findDeeds_91 : decode cX0_findDeeds 91 = .ok (.if_icmp .eq 68, 3) := by decide +kernel
theorem dX0_findDeeds_94 : decode cX0_findDeeds 94 = .ok (.aload_n 0, 1) := by decide +kernel
theorem dX0_findDeeds_95 : decode cX0_findDeeds 95 = .ok (.getfield 22, 3) := by decide +kernel
theorem dX0_findDeeds_98 : decode cX0_findDeeds 98 = .ok (.iload_n 1, 1) := by decide +kernel
theorem dX0_findDeeds_99 : decode cX0_findDeeds 99 = .ok (.iaload, 1) := by decide +kernel
theorem dX0_findDeeds_100 : decode cX0_findDeeds 100 = .ok (.iload_n 2, 1) := by decide +kernel
theorem dX0_findDeeds_101 : decode cX0_findDeeds 101 = .ok (.ishr, 1) := by decide +kernel
theorem dX0_findDeeds_102 : decode cX0_findDeeds 102 = .ok (.aload_n 0, 1) := by decide +kernel
theorem dX0_findDeeds_103 : decode cX0_findDeeds 103 = .ok (.getfield 22, 3) := by decide +kernel
theorem dX0_findDeeds_106 : decode cX0_findDeeds 106 = .ok (.iload_n 1, 1) := by decide +kernel
theorem dX0_findDeeds_107 : decode cX0_findDeeds 107 = .ok (.iaload, 1) := by decide +kernel
theorem dX0_findDeeds_108 : decode cX0_findDeeds 108 = .ok (.iload_n 3, 1) := by decide +kernel
theorem dX0_findDeeds_109 : decode cX0_findDeeds 109 = .ok (.ishr, 1) := by decide +kernel
theorem dX0_findDeeds_110 : decode cX0_findDeeds 110 = .ok (.iand, 1) := by decide +kernel
theorem dX0_findDeeds_111 : decode cX0_findDeeds 111 = .ok (.iconst 1, 1) := by decide +kernel
theorem dX0_findDeeds_112 : decode cX0_findDeeds 112 = .ok (.iand, 1) := by decide +kernel
theorem dX0_findDeeds_113 : decode cX0_findDeeds 113 = .ok (.ifCond .ne 6, 3) := by decide +kernel
theorem dX0_findDeeds_116 : decode cX0_findDeeds 116 = .ok (.goto 43, 3) := by decide +kernel
theorem dX0_findDeeds_119 : decode cX0_findDeeds 119 = .ok (.aload_n 0, 1) := by decide +kernel
theorem dX0_findDeeds_120 : decode cX0_findDeeds 120 = .ok (.iload_n 2, 1) := by decide +kernel
theorem dX0_findDeeds_121 : decode cX0_findDeeds 121 = .ok (.invokevirtual 99, 3) := by decide +kernel
theorem dX0_findDeeds_124 : decode cX0_findDeeds 124 = .ok (.aload_n 0, 1) := by decide +kernel
theorem dX0_findDeeds_125 : decode cX0_findDeeds 125 = .ok (.iload_n 3, 1) := by decide +kernel
theorem dX0_findDeeds_126 : decode cX0_findDeeds 126 = .ok (.invokevirtual 99, 3) := by decide +kernel
theorem dX0_findDeeds_129 : decode cX0_findDeeds 129 = .ok (.ior, 1) := by decide +kernel
theorem dX0_findDeeds_130 : decode cX0_findDeeds 130 = .ok (.istore 4, 2) := by decide +kernel
theorem dX0_findDeeds_132 : decode cX0_findDeeds 132 = .ok (.aload_n 0, 1) := by decide +kernel
theorem dX0_findDeeds_133 : decode cX0_findDeeds 133 = .ok (.iload 4, 2) := by decide +kernel
theorem dX0_findDeeds_135 : decode cX0_findDeeds 135 = .ok (.iload_n 1, 1) := by decide +kernel
theorem dX0_findDeeds_136 : decode cX0_findDeeds 136 = .ok (.invokevirtual 118, 3) := by decide +kernel
theorem dX0_findDeeds_139 : decode cX0_findDeeds 139 = .ok (.ifCond .ne 20, 3) := by decide +kernel
theorem dX0_findDeeds_142 : decode cX0_findDeeds 142 = .ok (.aload_n 0, 1) := by decide +kernel
theorem dX0_findDeeds_143 : decode cX0_findDeeds 143 = .ok (.getfield 28, 3) := by decide +kernel
theorem dX0_findDeeds_146 : decode cX0_findDeeds 146 = .ok (.bipush 15, 2) := by decide +kernel
theorem dX0_findDeeds_148 : decode cX0_findDeeds 148 = .ok (.iload_n 1, 1) := by decide +kernel
theorem dX0_findDeeds_149 : decode cX0_findDeeds 149 = .ok (.imul, 1) := by decide +kernel
theorem dX0_findDeeds_150 : decode cX0_findDeeds 150 = .ok (.iload_n 2, 1) := by decide +kernel
theorem dX0_findDeeds_151 : decode cX0_findDeeds 151 = .ok (.iadd, 1) := by decide +kernel
theorem dX0_findDeeds_152 : decode cX0_findDeeds 152 = .ok (.dup2, 1) := by decide +kernel
theorem dX0_findDeeds_153 : decode cX0_findDeeds 153 = .ok (.iaload, 1) := by decide +kernel
theorem dX0_findDeeds_154 : decode cX0_findDeeds 154 = .ok (.iconst 1, 1) := by decide +kernel
theorem dX0_findDeeds_155 : decode cX0_findDeeds 155 = .ok (.iload_n 3, 1) := by decide +kernel
theorem dX0_findDeeds_156 : decode cX0_findDeeds 156 = .ok (.ishl, 1) := by decide +kernel
theorem dX0_findDeeds_157 : decode cX0_findDeeds 157 = .ok (.ior, 1) := by decide +kernel
theorem dX0_findDeeds_158 : decode cX0_findDeeds 158 = .ok (.iastore, 1) := by decide +kernel
theorem dX0_findDeeds_159 : decode cX0_findDeeds 159 = .ok (.iinc 3 1, 3) := by decide +kernel
theorem dX0_findDeeds_162 : decode cX0_findDeeds 162 = .ok (.goto (-79), 3) := by decide +kernel
theorem dX0_findDeeds_165 : decode cX0_findDeeds 165 = .ok (.iinc 2 1, 3) := by decide +kernel
theorem dX0_findDeeds_168 : decode cX0_findDeeds 168 = .ok (.goto (-110), 3) := by decide +kernel
theorem dX0_findDeeds_171 : decode cX0_findDeeds 171 = .ok (.return_, 1) := by decide +kernel
theorem dX0_canBeTogether_0 : decode cX0_canBeTogether 0 = .ok (.iload_n 1, 1) := by decide +kernel
theorem dX0_canBeTogether_1 : decode cX0_canBeTogether 1 = .ok (.aload_n 0, 1) := by decide +kernel
theorem dX0_canBeTogether_2 : decode cX0_canBeTogether 2 = .ok (.getfield 19, 3) := by decide +kernel
theorem dX0_canBeTogether_5 : decode cX0_canBeTogether 5 = .ok (.iload_n 2, 1) := by decide +kernel
theorem dX0_canBeTogether_6 : decode cX0_canBeTogether 6 = .ok (.iaload, 1) := by decide +kernel
theorem dX0_canBeTogether_7 : decode cX0_canBeTogether 7 = .ok (.iconst (-1), 1) := by decide +kernel
theorem dX0_canBeTogether_8 : decode cX0_canBeTogether 8 = .ok (.ixor, 1) := by decide +kernel
theorem dX0_canBeTogether_9 : decode cX0_canBeTogether 9 = .ok (.iand, 1) := by decide +kernel
theorem dX0_canBeTogether_10 : decode cX0_canBeTogether 10 = .ok (.ifCond .eq 5, 3) := by decide +kernel
theorem dX0_canBeTogether_13 : decode cX0_canBeTogether 13 = .ok (.iconst 0, 1) := by decide +kernel
theorem dX0_canBeTogether_14 : decode cX0_canBeTogether 14 = .ok (.ireturn, 1) := by decide +kernel
theorem dX0_canBeTogether_15 : decode cX0_canBeTogether 15 = .ok (.iconst 0, 1) := by decide +kernel
theorem dX0_canBeTogether_16 : decode cX0_canBeTogether 16 = .ok (.istore_n 3, 1) := by decide +kernel
theorem dX0_canBeTogether_17 : decode cX0_canBeTogether 17 = .ok (.iload_n 3, 1) := by decide +kernel
theorem dX0_canBeTogether_18 : decode cX0_canBeTogether 18 = .ok (.bipush 8, 2) := by decide +kernel
theorem dX0_canBeTogether_20 : decode cX0_canBeTogether 20 = .ok (.if_icmp .ge 35, 3) := by decide +kernel
theorem dX0_canBeTogether_23 : decode cX0_canBeTogether 23 = .ok (.iload_n 1, 1) := by decide +kernel
theorem dX0_canBeTogether_24 : decode cX0_canBeTogether 24 = .ok (.iload_n 3, 1) := by decide +kernel
theorem dX0_canBeTogether_25 : decode cX0_canBeTogether 25 = .ok (.ishr, 1) := by decide +kernel
theorem dX0_canBeTogether_26 : decode cX0_canBeTogether 26 = .ok (.iconst 1, 1) := by decide +kernel
theorem dX0_canBeTogether_27 : decode cX0_canBeTogether 27 = .ok (.iand, 1) := by decide +kernel
theorem dX0_canBeTogether_28 : decode cX0_canBeTogether 28 = .ok (.ifCond .eq 21, 3) := by decide +kernel
theorem dX0_canBeTogether_31 : decode cX0_canBeTogether 31 = .ok (.aload_n 0, 1) := by decide +kernel
theorem dX0_canBeTogether_32 : decode cX0_canBeTogether 32 = .ok (.getfield 25, 3) := by decide +kernel
theorem dX0_canBeTogether_35 : decode cX0_canBeTogether 35 = .ok (.bipush 8, 2) := by decide +kernel
theorem dX0_canBeTogether_37 : decode cX0_canBeTogether 37 = .ok (.iload_n 2, 1) := by decide +kernel
theorem dX0_canBeTogether_38 : decode cX0_canBeTogether 38 = .ok (.imul, 1) := by decide +kernel
theorem dX0_canBeTogether_39 : decode cX0_canBeTogether 39 = .ok (.iload_n 3, 1) := by decide +kernel
theorem dX0_canBeTogether_40 : decode cX0_canBeTogether 40 = .ok (.iadd, 1) := by decide +kernel
theorem dX0_canBeTogether_41 : decode cX0_canBeTogether 41 = .ok (.iaload, 1) := by decide +kernel
theorem dX0_canBeTogether_42 : decode cX0_canBeTogether 42 = .ok (.iload_n 1, 1) := by decide +kernel
theorem dX0_canBeTogether_43 : decode cX0_canBeTogether 43 = .ok (.iand, 1) := by decide +kernel
theorem dX0_canBeTogether_44 : decode cX0_canBeTogether 44 = .ok (.ifCond .eq 5, 3) := by decide +kernel
theorem dX0_canBeTogether_47 : decode cX0_canBeTogether 47 = .ok (.iconst 0, 1) := by decide +kernel
theorem dX0_canBeTogether_48 : decode cX0_canBeTogether 48 = .ok (.ireturn, 1) := by decide +kernel
theorem dX0_canBeTogether_49 : decode cX0_canBeTogether 49 = .ok (.iinc 3 1, 3) := by decide +kernel
theorem dX0_canBeTogether_52 : decode cX0_canBeTogether 52 = .ok (.goto (-35), 3) := by decide +kernel
theorem dX0_canBeTogether_55 : decode cX0_canBeTogether 55 = .ok (.iconst 1, 1) := by decide +kernel
theorem dX0_canBeTogether_56 : decode cX0_canBeTogether 56 = .ok (.ireturn, 1) := by decide +kernel
theorem dX0_findFacts_0 : decode cX0_findFacts 0 = .ok (.iconst 0, 1) := by decide +kernel
theorem dX0_findFacts_1 : decode cX0_findFacts 1 = .ok (.istore_n 2, 1) := by decide +kernel
theorem dX0_findFacts_2 : decode cX0_findFacts 2 = .ok (.iconst 0, 1) := by decide +kernel
theorem dX0_findFacts_3 : decode cX0_findFacts 3 = .ok (.istore_n 3, 1) := by decide +kernel
theorem dX0_findFacts_4 : decode cX0_findFacts 4 = .ok (.iload_n 3, 1) := by decide +kernel
theorem dX0_findFacts_5 : decode cX0_findFacts 5 = .ok (.bipush 8, 2) := by decide +kernel
theorem dX0_findFacts_7 : decode cX0_findFacts 7 = .ok (.if_icmp .ge 28, 3) := by decide +kernel
theorem dX0_findFacts_10 : decode cX0_findFacts 10 = .ok (.aload_n 0, 1) := by decide +kernel
theorem dX0_findFacts_11 : decode cX0_findFacts 11 = .ok (.iload_n 3, 1) := by decide +kernel
theorem dX0_findFacts_12 : decode cX0_findFacts 12 = .ok (.iload_n 1, 1) := by decide +kernel
theorem dX0_findFacts_13 : decode cX0_findFacts 13 = .ok (.invokevirtual 121, 3) := by decide +kernel
theorem dX0_findFacts_16 : decode cX0_findFacts 16 = .ok (.istore 4, 2) := by decide +kernel
theorem dX0_findFacts_18 : decode cX0_findFacts 18 = .ok (.iload 4, 2) := by decide +kernel
theorem dX0_findFacts_20 : decode cX0_findFacts 20 = .ok (.ifCond .eq 9, 3) := by decide +kernel
theorem dX0_findFacts_23 : decode cX0_findFacts 23 = .ok (.iload_n 2, 1) := by decide +kernel
theorem dX0_findFacts_24 : decode cX0_findFacts 24 = .ok (.iconst 1, 1) := by decide +kernel
theorem dX0_findFacts_25 : decode cX0_findFacts 25 = .ok (.iload_n 3, 1) := by decide +kernel
theorem dX0_findFacts_26 : decode cX0_findFacts 26 = .ok (.ishl, 1) := by decide +kernel
theorem dX0_findFacts_27 : decode cX0_findFacts 27 = .ok (.ior, 1) := by decide +kernel
theorem dX0_findFacts_28 : decode cX0_findFacts 28 = .ok (.istore_n 2, 1) := by decide +kernel
theorem dX0_findFacts_29 : decode cX0_findFacts 29 = .ok (.iinc 3 1, 3) := by decide +kernel
theorem dX0_findFacts_32 : decode cX0_findFacts 32 = .ok (.goto (-28), 3) := by decide +kernel
theorem dX0_findFacts_35 : decode cX0_findFacts 35 = .ok (.aload_n 0, 1) := by decide +kernel
theorem dX0_findFacts_36 : decode cX0_findFacts 36 = .ok (.getfield 19, 3) := by decide +kernel
theorem dX0_findFacts_39 : decode cX0_findFacts 39 = .ok (.iload_n 1, 1) := by decide +kernel
theorem dX0_findFacts_40 : decode cX0_findFacts 40 = .ok (.iconst 1, 1) := by decide +kernel
theorem dX0_findFacts_41 : decode cX0_findFacts 41 = .ok (.iadd, 1) := by decide +kernel
theorem dX0_findFacts_42 : decode cX0_findFacts 42 = .ok (.iload_n 2, 1) := by decide +kernel
theorem dX0_findFacts_43 : decode cX0_findFacts 43 = .ok (.iastore, 1) := by decide +kernel
theorem dX0_findFacts_44 : decode cX0_findFacts 44 = .ok (.iconst 0, 1) := by decide +kernel
theorem dX0_findFacts_45 : decode cX0_findFacts 45 = .ok (.istore_n 3, 1) := by decide +kernel
theorem dX0_findFacts_46 : decode cX0_findFacts 46 = .ok (.iload_n 3, 1) := by decide +kernel
theorem dX0_findFacts_47 : decode cX0_findFacts 47 = .ok (.bipush 8, 2) := by decide +kernel
theorem dX0_findFacts_49 : decode cX0_findFacts 49 = .ok (.if_icmp .ge 83, 3) := by decide +kernel
theorem dX0_findFacts_52 : decode cX0_findFacts 52 = .ok (.iconst 0, 1) := by decide +kernel
theorem dX0_findFacts_53 : decode cX0_findFacts 53 = .ok (.istore 4, 2) := by decide +kernel
theorem dX0_findFacts_55 : decode cX0_findFacts 55 = .ok (.iconst 0, 1) := by decide +kernel
theorem dX0_findFacts_56 : decode cX0_findFacts 56 = .ok (.istore 5, 2) := by decide +kernel
theorem dX0_findFacts_58 : decode cX0_findFacts 58 = .ok (.iload 5, 2) := by decide +kernel
theorem dX0_findFacts_60 : decode cX0_findFacts 60 = .ok (.bipush 8, 2) := by decide +kernel
theorem dX0_findFacts_62 : decode cX0_findFacts 62 = .ok (.if_icmp .ge 48, 3) := by decide +kernel
theorem dX0_findFacts_65 : decode cX0_findFacts 65 = .ok (.iload_n 3, 1) := by decide +kernel
theorem dX0_findFacts_66 : decode cX0_findFacts 66 = .ok (.iload 5, 2) := by decide +kernel
theorem dX0_findFacts_68 : decode cX0_findFacts 68 = .ok (.if_icmp .eq 36, 3) := by decide +kernel
theorem dX0_findFacts_71 : decode cX0_findFacts 71 = .ok (.iload_n 2, 1) := by decide +kernel
theorem dX0_findFacts_72 : decode cX0_findFacts 72 = .ok (.iload_n 3, 1) := by decide +kernel
theorem dX0_findFacts_73 : decode cX0_findFacts 73 = .ok (.ishr, 1) := by decide +kernel
theorem dX0_findFacts_74 : decode cX0_findFacts 74 = .ok (.iload_n 2, 1) := by decide +kernel
theorem dX0_findFacts_75 : decode cX0_findFacts 75 = .ok (.iload 5, 2) := by decide +kernel
theorem dX0_findFacts_77 : decode cX0_findFacts 77 = .ok (.ishr, 1) := by decide +kernel
theorem dX0_findFacts_78 : decode cX0_findFacts 78 = .ok (.iand, 1) := by decide +kernel
theorem dX0_findFacts_79 : decode cX0_findFacts 79 = .ok (.iconst 1, 1) := by decide +kernel
theorem dX0_findFacts_80 : decode cX0_findFacts 80 = .ok (.iand, 1) := by decide +kernel
theorem dX0_findFacts_81 : decode cX0_findFacts 81 = .ok (.ifCond .eq 23, 3) := by decide +kernel
theorem dX0_findFacts_84 : decode cX0_findFacts 84 = .ok (.aload_n 0, 1) := by decide +kernel
theorem dX0_findFacts_85 : decode cX0_findFacts 85 = .ok (.iload_n 3, 1) := by decide +kernel
theorem dX0_findFacts_86 : decode cX0_findFacts 86 = .ok (.iload 5, 2) := by decide +kernel
theorem dX0_findFacts_88 : decode cX0_findFacts 88 = .ok (.iload_n 1, 1) := by decide +kernel
theorem dX0_findFacts_89 : decode cX0_findFacts 89 = .ok (.invokevirtual 124, 3) := by decide +kernel
theorem dX0_findFacts_92 : decode cX0_findFacts 92 = .ok (.ifCond .eq 12, 3) := by decide +kernel
theorem dX0_findFacts_95 : decode cX0_findFacts 95 = .ok (.iload 4, 2) := by decide +kernel
theorem dX0_findFacts_97 : decode cX0_findFacts 97 = .ok (.iconst 1, 1) := by decide +kernel
theorem dX0_findFacts_98 : decode cX0_findFacts 98 = .ok (.iload 5, 2) := by decide +kernel
theorem dX0_findFacts_100 : decode cX0_findFacts 100 = .ok (.ishl, 1) := by decide +kernel
theorem dX0_findFacts_101 : decode cX0_findFacts 101 = .ok (.ior, 1) := by decide +kernel
theorem dX0_findFacts_102 : decode cX0_findFacts 102 = .ok (.istore 4, 2) := by decide +kernel
theorem dX0_findFacts_104 : decode cX0_findFacts 104 = .ok (.iinc 5 1, 3) := by decide +kernel
theorem dX0_findFacts_107 : decode cX0_findFacts 107 = .ok (.goto (-49), 3) := by decide +kernel
theorem dX0_findFacts_110 : decode cX0_findFacts 110 = .ok (.aload_n 0, 1) := by decide +kernel
theorem dX0_findFacts_111 : decode cX0_findFacts 111 = .ok (.getfield 25, 3) := by decide +kernel
theorem dX0_findFacts_114 : decode cX0_findFacts 114 = .ok (.bipush 8, 2) := by decide +kernel
theorem dX0_findFacts_116 : decode cX0_findFacts 116 = .ok (.iload_n 1, 1) := by decide +kernel
theorem dX0_findFacts_117 : decode cX0_findFacts 117 = .ok (.imul, 1) := by decide +kernel
theorem dX0_findFacts_118 : decode cX0_findFacts 118 = .ok (.bipush 8, 2) := by decide +kernel
theorem dX0_findFacts_120 : decode cX0_findFacts 120 = .ok (.iadd, 1) := by decide +kernel
theorem dX0_findFacts_121 : decode cX0_findFacts 121 = .ok (.iload_n 3, 1) := by decide +kernel
theorem dX0_findFacts_122 : decode cX0_findFacts 122 = .ok (.iadd, 1) := by decide +kernel
theorem dX0_findFacts_123 : decode cX0_findFacts 123 = .ok (.iload 4, 2) := by decide +kernel
theorem dX0_findFacts_125 : decode cX0_findFacts 125 = .ok (.iastore, 1) := by decide +kernel
theorem dX0_findFacts_126 : decode cX0_findFacts 126 = .ok (.iinc 3 1, 3) := by decide +kernel
theorem dX0_findFacts_129 : decode cX0_findFacts 129 = .ok (.goto (-83), 3) := by decide +kernel
theorem dX0_findFacts_132 : decode cX0_findFacts 132 = .ok (.return_, 1) := by decide +kernel
theorem dX0_makersOf_0 : decode cX0_makersOf 0 = .ok (.iconst 0, 1) := by decide +kernel
theorem dX0_makersOf_1 : decode cX0_makersOf 1 = .ok (.istore_n 3, 1) := by decide +kernel
theorem dX0_makersOf_2 : decode cX0_makersOf 2 = .ok (.iconst 0, 1) := by decide +kernel
theorem dX0_makersOf_3 : decode cX0_makersOf 3 = .ok (.istore 4, 2) := by decide +kernel
theorem dX0_makersOf_5 : decode cX0_makersOf 5 = .ok (.iload 4, 2) := by decide +kernel
theorem dX0_makersOf_7 : decode cX0_makersOf 7 = .ok (.bipush 15, 2) := by decide +kernel
theorem dX0_makersOf_9 : decode cX0_makersOf 9 = .ok (.if_icmp .ge 43, 3) := by decide +kernel
theorem dX0_makersOf_12 : decode cX0_makersOf 12 = .ok (.aload_n 0, 1) := by decide +kernel
theorem dX0_makersOf_13 : decode cX0_makersOf 13 = .ok (.getfield 22, 3) := by decide +kernel
theorem dX0_makersOf_16 : decode cX0_makersOf 16 = .ok (.iload_n 2, 1) := by decide +kernel
theorem dX0_makersOf_17 : decode cX0_makersOf 17 = .ok (.iaload, 1) := by decide +kernel
theorem dX0_makersOf_18 : decode cX0_makersOf 18 = .ok (.iload 4, 2) := by decide +kernel
theorem dX0_makersOf_20 : decode cX0_makersOf 20 = .ok (.ishr, 1) := by decide +kernel
theorem dX0_makersOf_21 : decode cX0_makersOf 21 = .ok (.iconst 1, 1) := by decide +kernel
theorem dX0_makersOf_22 : decode cX0_makersOf 22 = .ok (.iand, 1) := by decide +kernel
theorem dX0_makersOf_23 : decode cX0_makersOf 23 = .ok (.ifCond .eq 23, 3) := by decide +kernel
theorem dX0_makersOf_26 : decode cX0_makersOf 26 = .ok (.aload_n 0, 1) := by decide +kernel
theorem dX0_makersOf_27 : decode cX0_makersOf 27 = .ok (.iload 4, 2) := by decide +kernel
theorem dX0_makersOf_29 : decode cX0_makersOf 29 = .ok (.invokevirtual 102, 3) := by decide +kernel
theorem dX0_makersOf_32 : decode cX0_makersOf 32 = .ok (.iload_n 1, 1) := by decide +kernel
theorem dX0_makersOf_33 : decode cX0_makersOf 33 = .ok (.ishr, 1) := by decide +kernel
theorem dX0_makersOf_34 : decode cX0_makersOf 34 = .ok (.iconst 1, 1) := by decide +kernel
theorem dX0_makersOf_35 : decode cX0_makersOf 35 = .ok (.iand, 1) := by decide +kernel
theorem dX0_makersOf_36 : decode cX0_makersOf 36 = .ok (.ifCond .eq 10, 3) := by decide +kernel
theorem dX0_makersOf_39 : decode cX0_makersOf 39 = .ok (.iload_n 3, 1) := by decide +kernel
theorem dX0_makersOf_40 : decode cX0_makersOf 40 = .ok (.iconst 1, 1) := by decide +kernel
theorem dX0_makersOf_41 : decode cX0_makersOf 41 = .ok (.iload 4, 2) := by decide +kernel
theorem dX0_makersOf_43 : decode cX0_makersOf 43 = .ok (.ishl, 1) := by decide +kernel
theorem dX0_makersOf_44 : decode cX0_makersOf 44 = .ok (.ior, 1) := by decide +kernel
theorem dX0_makersOf_45 : decode cX0_makersOf 45 = .ok (.istore_n 3, 1) := by decide +kernel
theorem dX0_makersOf_46 : decode cX0_makersOf 46 = .ok (.iinc 4 1, 3) := by decide +kernel
theorem dX0_makersOf_49 : decode cX0_makersOf 49 = .ok (.goto (-44), 3) := by decide +kernel
theorem dX0_makersOf_52 : decode cX0_makersOf 52 = .ok (.iload_n 3, 1) := by decide +kernel
theorem dX0_makersOf_53 : decode cX0_makersOf 53 = .ok (.ireturn, 1) := by decide +kernel
theorem dX0_allBarred_0 : decode cX0_allBarred 0 = .ok (.aload_n 0, 1) := by decide +kernel
theorem dX0_allBarred_1 : decode cX0_allBarred 1 = .ok (.iload_n 1, 1) := by decide +kernel
theorem dX0_allBarred_2 : decode cX0_allBarred 2 = .ok (.iload_n 3, 1) := by decide +kernel
theorem dX0_allBarred_3 : decode cX0_allBarred 3 = .ok (.invokevirtual 121, 3) := by decide +kernel
theorem dX0_allBarred_6 : decode cX0_allBarred 6 = .ok (.istore 4, 2) := by decide +kernel
theorem dX0_allBarred_8 : decode cX0_allBarred 8 = .ok (.aload_n 0, 1) := by decide +kernel
theorem dX0_allBarred_9 : decode cX0_allBarred 9 = .ok (.iload_n 2, 1) := by decide +kernel
theorem dX0_allBarred_10 : decode cX0_allBarred 10 = .ok (.iload_n 3, 1) := by decide +kernel
theorem dX0_allBarred_11 : decode cX0_allBarred 11 = .ok (.invokevirtual 121, 3) := by decide +kernel
theorem dX0_allBarred_14 : decode cX0_allBarred 14 = .ok (.istore 5, 2) := by decide +kernel
theorem dX0_allBarred_16 : decode cX0_allBarred 16 = .ok (.iconst 0, 1) := by decide +kernel
theorem dX0_allBarred_17 : decode cX0_allBarred 17 = .ok (.istore 6, 2) := by decide +kernel
theorem dX0_allBarred_19 : decode cX0_allBarred 19 = .ok (.iload 6, 2) := by decide +kernel
theorem dX0_allBarred_21 : decode cX0_allBarred 21 = .ok (.bipush 15, 2) := by decide +kernel
theorem dX0_allBarred_23 : decode cX0_allBarred 23 = .ok (.if_icmp .ge 44, 3) := by decide +kernel
theorem dX0_allBarred_26 : decode cX0_allBarred 26 = .ok (.iload 4, 2) := by decide +kernel
theorem dX0_allBarred_28 : decode cX0_allBarred 28 = .ok (.iload 6, 2) := by decide +kernel
theorem dX0_allBarred_30 : decode cX0_allBarred 30 = .ok (.ishr, 1) := by decide +kernel
theorem dX0_allBarred_31 : decode cX0_allBarred 31 = .ok (.iconst 1, 1) := by decide +kernel
theorem dX0_allBarred_32 : decode cX0_allBarred 32 = .ok (.iand, 1) := by decide +kernel
theorem dX0_allBarred_33 : decode cX0_allBarred 33 = .ok (.ifCond .ne 6, 3) := by decide +kernel
theorem dX0_allBarred_36 : decode cX0_allBarred 36 = .ok (.goto 25, 3) := by decide +kernel
theorem dX0_allBarred_39 : decode cX0_allBarred 39 = .ok (.iload 5, 2) := by decide +kernel
theorem dX0_allBarred_41 : decode cX0_allBarred 41 = .ok (.aload_n 0, 1) := by decide +kernel
theorem dX0_allBarred_42 : decode cX0_allBarred 42 = .ok (.getfield 28, 3) := by decide +kernel
theorem dX0_allBarred_45 : decode cX0_allBarred 45 = .ok (.bipush 15, 2) := by decide +kernel
theorem dX0_allBarred_47 : decode cX0_allBarred 47 = .ok (.iload_n 3, 1) := by decide +kernel
theorem dX0_allBarred_48 : decode cX0_allBarred 48 = .ok (.imul, 1) := by decide +kernel
theorem dX0_allBarred_49 : decode cX0_allBarred 49 = .ok (.iload 6, 2) := by decide +kernel
theorem dX0_allBarred_51 : decode cX0_allBarred 51 = .ok (.iadd, 1) := by decide +kernel
theorem dX0_allBarred_52 : decode cX0_allBarred 52 = .ok (.iaload, 1) := by decide +kernel
theorem dX0_allBarred_53 : decode cX0_allBarred 53 = .ok (.iconst (-1), 1) := by decide +kernel
theorem dX0_allBarred_54 : decode cX0_allBarred 54 = .ok (.ixor, 1) := by decide +kernel
theorem dX0_allBarred_55 : decode cX0_allBarred 55 = .ok (.iand, 1) := by decide +kernel
theorem dX0_allBarred_56 : decode cX0_allBarred 56 = .ok (.ifCond .eq 5, 3) := by decide +kernel
theorem dX0_allBarred_59 : decode cX0_allBarred 59 = .ok (.iconst 0, 1) := by decide +kernel
theorem dX0_allBarred_60 : decode cX0_allBarred 60 = .ok (.ireturn, 1) := by decide +kernel
theorem dX0_allBarred_61 : decode cX0_allBarred 61 = .ok (.iinc 6 1, 3) := by decide +kernel
theorem dX0_allBarred_64 : decode cX0_allBarred 64 = .ok (.goto (-45), 3) := by decide +kernel
theorem dX0_allBarred_67 : decode cX0_allBarred 67 = .ok (.iconst 1, 1) := by decide +kernel
theorem dX0_allBarred_68 : decode cX0_allBarred 68 = .ok (.ireturn, 1) := by decide +kernel
theorem dX0_serves_0 : decode cX0_serves 0 = .ok (.aload_n 0, 1) := by decide +kernel
theorem dX0_serves_1 : decode cX0_serves 1 = .ok (.iload_n 1, 1) := by decide +kernel
theorem dX0_serves_2 : decode cX0_serves 2 = .ok (.iload_n 2, 1) := by decide +kernel
theorem dX0_serves_3 : decode cX0_serves 3 = .ok (.invokevirtual 118, 3) := by decide +kernel
theorem dX0_serves_6 : decode cX0_serves 6 = .ok (.ifCond .eq 13, 3) := by decide +kernel
theorem dX0_serves_9 : decode cX0_serves 9 = .ok (.aload_n 0, 1) := by decide +kernel
theorem dX0_serves_10 : decode cX0_serves 10 = .ok (.iconst 0, 1) := by decide +kernel
theorem dX0_serves_11 : decode cX0_serves 11 = .ok (.iload_n 2, 1) := by decide +kernel
theorem dX0_serves_12 : decode cX0_serves 12 = .ok (.iload_n 1, 1) := by decide +kernel
theorem dX0_serves_13 : decode cX0_serves 13 = .ok (.invokevirtual 128, 3) := by decide +kernel
theorem dX0_serves_16 : decode cX0_serves 16 = .ok (.ifCond .eq 5, 3) := by decide +kernel
theorem dX0_serves_19 : decode cX0_serves 19 = .ok (.iconst 0, 1) := by decide +kernel
theorem dX0_serves_20 : decode cX0_serves 20 = .ok (.ireturn, 1) := by decide +kernel
theorem dX0_serves_21 : decode cX0_serves 21 = .ok (.aload_n 0, 1) := by decide +kernel
theorem dX0_serves_22 : decode cX0_serves 22 = .ok (.iconst 1, 1) := by decide +kernel
theorem dX0_serves_23 : decode cX0_serves 23 = .ok (.iload_n 2, 1) := by decide +kernel
theorem dX0_serves_24 : decode cX0_serves 24 = .ok (.iload_n 1, 1) := by decide +kernel
theorem dX0_serves_25 : decode cX0_serves 25 = .ok (.invokevirtual 128, 3) := by decide +kernel
theorem dX0_serves_28 : decode cX0_serves 28 = .ok (.ifCond .eq 5, 3) := by decide +kernel
theorem dX0_serves_31 : decode cX0_serves 31 = .ok (.iconst 1, 1) := by decide +kernel
theorem dX0_serves_32 : decode cX0_serves 32 = .ok (.ireturn, 1) := by decide +kernel
theorem dX0_serves_33 : decode cX0_serves 33 = .ok (.aload_n 0, 1) := by decide +kernel
theorem dX0_serves_34 : decode cX0_serves 34 = .ok (.iconst 0, 1) := by decide +kernel
theorem dX0_serves_35 : decode cX0_serves 35 = .ok (.putfield 132, 3) := by decide +kernel
theorem dX0_serves_38 : decode cX0_serves 38 = .ok (.iload_n 2, 1) := by decide +kernel
theorem dX0_serves_39 : decode cX0_serves 39 = .ok (.istore_n 3, 1) := by decide +kernel
theorem dX0_serves_40 : decode cX0_serves 40 = .ok (.aload_n 0, 1) := by decide +kernel
theorem dX0_serves_41 : decode cX0_serves 41 = .ok (.iload_n 3, 1) := by decide +kernel
theorem dX0_serves_42 : decode cX0_serves 42 = .ok (.iload_n 1, 1) := by decide +kernel
theorem dX0_serves_43 : decode cX0_serves 43 = .ok (.invokevirtual 135, 3) := by decide +kernel
theorem dX0_serves_46 : decode cX0_serves 46 = .ok (.iload_n 3, 1) := by decide +kernel
theorem dX0_serves_47 : decode cX0_serves 47 = .ok (.iload_n 2, 1) := by decide +kernel
theorem dX0_serves_48 : decode cX0_serves 48 = .ok (.if_icmp .gt 134, 3) := by decide +kernel
theorem dX0_serves_51 : decode cX0_serves 51 = .ok (.iload_n 3, 1) := by decide +kernel
theorem dX0_serves_52 : decode cX0_serves 52 = .ok (.ifCond .eq 18, 3) := by decide +kernel
theorem dX0_serves_55 : decode cX0_serves 55 = .ok (.aload_n 0, 1) := by decide +kernel
theorem dX0_serves_56 : decode cX0_serves 56 = .ok (.iconst 1, 1) := by decide +kernel
theorem dX0_serves_57 : decode cX0_serves 57 = .ok (.iload_n 3, 1) := by decide +kernel
theorem dX0_serves_58 : decode cX0_serves 58 = .ok (.aload_n 0, 1) := by decide +kernel
theorem dX0_serves_59 : decode cX0_serves 59 = .ok (.getfield 41, 3) := by decide +kernel
theorem dX0_serves_62 : decode cX0_serves 62 = .ok (.iload_n 3, 1) := by decide +kernel
theorem dX0_serves_63 : decode cX0_serves 63 = .ok (.iaload, 1) := by decide +kernel
theorem dX0_serves_64 : decode cX0_serves 64 = .ok (.invokevirtual 128, 3) := by decide +kernel
theorem dX0_serves_67 : decode cX0_serves 67 = .ok (.ifCond .eq 11, 3) := by decide +kernel
theorem dX0_serves_70 : decode cX0_serves 70 = .ok (.aload_n 0, 1) := by decide +kernel
theorem dX0_serves_71 : decode cX0_serves 71 = .ok (.iload_n 3, 1) := by decide +kernel
theorem dX0_serves_72 : decode cX0_serves 72 = .ok (.iload_n 2, 1) := by decide +kernel
theorem dX0_serves_73 : decode cX0_serves 73 = .ok (.invokevirtual 139, 3) := by decide +kernel
theorem dX0_serves_76 : decode cX0_serves 76 = .ok (.iconst 1, 1) := by decide +kernel
theorem dX0_serves_77 : decode cX0_serves 77 = .ok (.ireturn, 1) := by decide +kernel
theorem dX0_serves_78 : decode cX0_serves 78 = .ok (.aload_n 0, 1) := by decide +kernel
theorem dX0_serves_79 : decode cX0_serves 79 = .ok (.getfield 44, 3) := by decide +kernel
theorem dX0_serves_82 : decode cX0_serves 82 = .ok (.iload_n 3, 1) := by decide +kernel
theorem dX0_serves_83 : decode cX0_serves 83 = .ok (.iaload, 1) := by decide +kernel
theorem dX0_serves_84 : decode cX0_serves 84 = .ok (.ifCond .ne 70, 3) := by decide +kernel
theorem dX0_serves_87 : decode cX0_serves 87 = .ok (.aload_n 0, 1) := by decide +kernel
theorem dX0_serves_88 : decode cX0_serves 88 = .ok (.iload_n 3, 1) := by decide +kernel
theorem dX0_serves_89 : decode cX0_serves 89 = .ok (.invokevirtual 142, 3) := by decide +kernel
theorem dX0_serves_92 : decode cX0_serves 92 = .ok (.istore 4, 2) := by decide +kernel
theorem dX0_serves_94 : decode cX0_serves 94 = .ok (.aload_n 0, 1) := by decide +kernel
theorem dX0_serves_95 : decode cX0_serves 95 = .ok (.iload 4, 2) := by decide +kernel
theorem dX0_serves_97 : decode cX0_serves 97 = .ok (.iload_n 3, 1) := by decide +kernel
theorem dX0_serves_98 : decode cX0_serves 98 = .ok (.iconst 1, 1) := by decide +kernel
theorem dX0_serves_99 : decode cX0_serves 99 = .ok (.isub, 1) := by decide +kernel
theorem dX0_serves_100 : decode cX0_serves 100 = .ok (.invokevirtual 118, 3) := by decide +kernel
theorem dX0_serves_103 : decode cX0_serves 103 = .ok (.ifCond .eq 20, 3) := by decide +kernel
theorem dX0_serves_106 : decode cX0_serves 106 = .ok (.aload_n 0, 1) := by decide +kernel
theorem dX0_serves_107 : decode cX0_serves 107 = .ok (.iconst 0, 1) := by decide +kernel
theorem dX0_serves_108 : decode cX0_serves 108 = .ok (.iload_n 3, 1) := by decide +kernel
theorem dX0_serves_109 : decode cX0_serves 109 = .ok (.iconst 1, 1) := by decide +kernel
theorem dX0_serves_110 : decode cX0_serves 110 = .ok (.isub, 1) := by decide +kernel
theorem dX0_serves_111 : decode cX0_serves 111 = .ok (.iload 4, 2) := by decide +kernel
theorem dX0_serves_113 : decode cX0_serves 113 = .ok (.invokevirtual 128, 3) := by decide +kernel
theorem dX0_serves_116 : decode cX0_serves 116 = .ok (.ifCond .ne 7, 3) := by decide +kernel
theorem dX0_serves_119 : decode cX0_serves 119 = .ok (.iconst 1, 1) := by decide +kernel
theorem dX0_serves_120 : decode cX0_serves 120 = .ok (.goto 4, 3) := by decide +kernel
theorem dX0_serves_123 : decode cX0_serves 123 = .ok (.iconst 0, 1) := by decide +kernel
theorem dX0_serves_124 : decode cX0_serves 124 = .ok (.istore 5, 2) := by decide +kernel
theorem dX0_serves_126 : decode cX0_serves 126 = .ok (.iload 5, 2) := by decide +kernel
theorem dX0_serves_128 : decode cX0_serves 128 = .ok (.ifCond .eq 16, 3) := by decide +kernel
theorem dX0_serves_131 : decode cX0_serves 131 = .ok (.iinc 3 (-1), 3) := by decide +kernel
theorem dX0_serves_134 : decode cX0_serves 134 = .ok (.aload_n 0, 1) := by decide +kernel
theorem dX0_serves_135 : decode cX0_serves 135 = .ok (.iload_n 3, 1) := by decide +kernel
theorem dX0_serves_136 : decode cX0_serves 136 = .ok (.iload 4, 2) := by decide +kernel
theorem dX0_serves_138 : decode cX0_serves 138 = .ok (.invokevirtual 135, 3) := by decide +kernel
theorem dX0_serves_141 : decode cX0_serves 141 = .ok (.goto (-95), 3) := by decide +kernel
theorem dX0_serves_144 : decode cX0_serves 144 = .ok (.aload_n 0, 1) := by decide +kernel
theorem dX0_serves_145 : decode cX0_serves 145 = .ok (.iload_n 3, 1) := by decide +kernel
theorem dX0_serves_146 : decode cX0_serves 146 = .ok (.iload_n 2, 1) := by decide +kernel
theorem dX0_serves_147 : decode cX0_serves 147 = .ok (.invokevirtual 145, 3) := by decide +kernel
theorem dX0_serves_150 : decode cX0_serves 150 = .ok (.istore_n 3, 1) := by decide +kernel
theorem dX0_serves_151 : decode cX0_serves 151 = .ok (.goto (-105), 3) := by decide +kernel
theorem dX0_serves_154 : decode cX0_serves 154 = .ok (.aload_n 0, 1) := by decide +kernel
theorem dX0_serves_155 : decode cX0_serves 155 = .ok (.iload_n 3, 1) := by decide +kernel
theorem dX0_serves_156 : decode cX0_serves 156 = .ok (.invokevirtual 148, 3) := by decide +kernel
theorem dX0_serves_159 : decode cX0_serves 159 = .ok (.istore 4, 2) := by decide +kernel
theorem dX0_serves_161 : decode cX0_serves 161 = .ok (.aload_n 0, 1) := by decide +kernel
theorem dX0_serves_162 : decode cX0_serves 162 = .ok (.iload_n 3, 1) := by decide +kernel
theorem dX0_serves_163 : decode cX0_serves 163 = .ok (.iload 4, 2) := by decide +kernel
theorem dX0_serves_165 : decode cX0_serves 165 = .ok (.iconst 0, 1) := by decide +kernel
theorem dX0_serves_166 : decode cX0_serves 166 = .ok (.invokevirtual 151, 3) := by decide +kernel
theorem dX0_serves_169 : decode cX0_serves 169 = .ok (.ifCond .ne 10, 3) := by decide +kernel
theorem dX0_serves_172 : decode cX0_serves 172 = .ok (.aload_n 0, 1) := by decide +kernel
theorem dX0_serves_173 : decode cX0_serves 173 = .ok (.iload_n 3, 1) := by decide +kernel
theorem dX0_serves_174 : decode cX0_serves 174 = .ok (.iload_n 2, 1) := by decide +kernel
theorem dX0_serves_175 : decode cX0_serves 175 = .ok (.invokevirtual 145, 3) := by decide +kernel
theorem dX0_serves_178 : decode cX0_serves 178 = .ok (.istore_n 3, 1) := by decide +kernel
theorem dX0_serves_179 : decode cX0_serves 179 = .ok (.goto (-133), 3) := by decide +kernel
theorem dX0_serves_182 : decode cX0_serves 182 = .ok (.iconst 0, 1) := by decide +kernel
theorem dX0_serves_183 : decode cX0_serves 183 = .ok (.ireturn, 1) := by decide +kernel
theorem dX0_isMarked_0 : decode cX0_isMarked 0 = .ok (.iconst 4, 1) := by decide +kernel
theorem dX0_isMarked_1 : decode cX0_isMarked 1 = .ok (.iload_n 2, 1) := by decide +kernel
theorem dX0_isMarked_2 : decode cX0_isMarked 2 = .ok (.imul, 1) := by decide +kernel
theorem dX0_isMarked_3 : decode cX0_isMarked 3 = .ok (.iload_n 3, 1) := by decide +kernel
theorem dX0_isMarked_4 : decode cX0_isMarked 4 = .ok (.bipush 6, 2) := by decide +kernel
theorem dX0_isMarked_6 : decode cX0_isMarked 6 = .ok (.ishr, 1) := by decide +kernel
theorem dX0_isMarked_7 : decode cX0_isMarked 7 = .ok (.iadd, 1) := by decide +kernel
theorem dX0_isMarked_8 : decode cX0_isMarked 8 = .ok (.istore 4, 2) := by decide +kernel
theorem dX0_isMarked_10 : decode cX0_isMarked 10 = .ok (.iload_n 1, 1) := by decide +kernel
theorem dX0_isMarked_11 : decode cX0_isMarked 11 = .ok (.ifCond .eq 13, 3) := by decide +kernel
theorem dX0_isMarked_14 : decode cX0_isMarked 14 = .ok (.aload_n 0, 1) := by decide +kernel
theorem dX0_isMarked_15 : decode cX0_isMarked 15 = .ok (.getfield 38, 3) := by decide +kernel
theorem dX0_isMarked_18 : decode cX0_isMarked 18 = .ok (.iload 4, 2) := by decide +kernel
theorem dX0_isMarked_20 : decode cX0_isMarked 20 = .ok (.laload, 1) := by decide +kernel
theorem dX0_isMarked_21 : decode cX0_isMarked 21 = .ok (.goto 10, 3) := by decide +kernel
theorem dX0_isMarked_24 : decode cX0_isMarked 24 = .ok (.aload_n 0, 1) := by decide +kernel
theorem dX0_isMarked_25 : decode cX0_isMarked 25 = .ok (.getfield 34, 3) := by decide +kernel
theorem dX0_isMarked_28 : decode cX0_isMarked 28 = .ok (.iload 4, 2) := by decide +kernel
theorem dX0_isMarked_30 : decode cX0_isMarked 30 = .ok (.laload, 1) := by decide +kernel
theorem dX0_isMarked_31 : decode cX0_isMarked 31 = .ok (.lstore 5, 2) := by decide +kernel
theorem dX0_isMarked_33 : decode cX0_isMarked 33 = .ok (.lload 5, 2) := by decide +kernel
theorem dX0_isMarked_35 : decode cX0_isMarked 35 = .ok (.iload_n 3, 1) := by decide +kernel
theorem dX0_isMarked_36 : decode cX0_isMarked 36 = .ok (.bipush 63, 2) := by decide +kernel
theorem dX0_isMarked_38 : decode cX0_isMarked 38 = .ok (.iand, 1) := by decide +kernel
theorem dX0_isMarked_39 : decode cX0_isMarked 39 = .ok (.lushr, 1) := by decide +kernel
theorem dX0_isMarked_40 : decode cX0_isMarked 40 = .ok (.lconst 1, 1) := by decide +kernel
theorem dX0_isMarked_41 : decode cX0_isMarked 41 = .ok (.land, 1) := by decide +kernel
theorem dX0_isMarked_42 : decode cX0_isMarked 42 = .ok (.lconst 0, 1) := by decide +kernel
theorem dX0_isMarked_43 : decode cX0_isMarked 43 = .ok (.lcmp, 1) := by decide +kernel
theorem dX0_isMarked_44 : decode cX0_isMarked 44 = .ok (.ifCond .eq 7, 3) := by decide +kernel
theorem dX0_isMarked_47 : decode cX0_isMarked 47 = .ok (.iconst 1, 1) := by decide +kernel
theorem dX0_isMarked_48 : decode cX0_isMarked 48 = .ok (.goto 4, 3) := by decide +kernel
theorem dX0_isMarked_51 : decode cX0_isMarked 51 = .ok (.iconst 0, 1) := by decide +kernel
theorem dX0_isMarked_52 : decode cX0_isMarked 52 = .ok (.ireturn, 1) := by decide +kernel
theorem dX0_enter_0 : decode cX0_enter 0 = .ok (.aload_n 0, 1) := by decide +kernel
theorem dX0_enter_1 : decode cX0_enter 1 = .ok (.getfield 41, 3) := by decide +kernel
theorem dX0_enter_4 : decode cX0_enter 4 = .ok (.iload_n 1, 1) := by decide +kernel
theorem dX0_enter_5 : decode cX0_enter 5 = .ok (.iload_n 2, 1) := by decide +kernel
theorem dX0_enter_6 : decode cX0_enter 6 = .ok (.iastore, 1) := by decide +kernel
theorem dX0_enter_7 : decode cX0_enter 7 = .ok (.aload_n 0, 1) := by decide +kernel
theorem dX0_enter_8 : decode cX0_enter 8 = .ok (.getfield 44, 3) := by decide +kernel
theorem dX0_enter_11 : decode cX0_enter 11 = .ok (.iload_n 1, 1) := by decide +kernel
theorem dX0_enter_12 : decode cX0_enter 12 = .ok (.iload_n 2, 1) := by decide +kernel
theorem dX0_enter_13 : decode cX0_enter 13 = .ok (.iastore, 1) := by decide +kernel
theorem dX0_enter_14 : decode cX0_enter 14 = .ok (.aload_n 0, 1) := by decide +kernel
theorem dX0_enter_15 : decode cX0_enter 15 = .ok (.getfield 47, 3) := by decide +kernel
theorem dX0_enter_18 : decode cX0_enter 18 = .ok (.iload_n 1, 1) := by decide +kernel
theorem dX0_enter_19 : decode cX0_enter 19 = .ok (.iconst 0, 1) := by decide +kernel
theorem dX0_enter_20 : decode cX0_enter 20 = .ok (.iastore, 1) := by decide +kernel
theorem dX0_enter_21 : decode cX0_enter 21 = .ok (.return_, 1) := by decide +kernel
theorem dX0_markAbove_0 : decode cX0_markAbove 0 = .ok (.iload_n 1, 1) := by decide +kernel
theorem dX0_markAbove_1 : decode cX0_markAbove 1 = .ok (.istore_n 3, 1) := by decide +kernel
theorem dX0_markAbove_2 : decode cX0_markAbove 2 = .ok (.iload_n 3, 1) := by decide +kernel
theorem dX0_markAbove_3 : decode cX0_markAbove 3 = .ok (.iload_n 2, 1) := by decide +kernel
theorem dX0_markAbove_4 : decode cX0_markAbove 4 = .ok (.if_icmp .gt 21, 3) := by decide +kernel
theorem dX0_markAbove_7 : decode cX0_markAbove 7 = .ok (.aload_n 0, 1) := by decide +kernel
theorem dX0_markAbove_8 : decode cX0_markAbove 8 = .ok (.iconst 1, 1) := by decide +kernel
theorem dX0_markAbove_9 : decode cX0_markAbove 9 = .ok (.iload_n 3, 1) := by decide +kernel
theorem dX0_markAbove_10 : decode cX0_markAbove 10 = .ok (.aload_n 0, 1) := by decide +kernel
theorem dX0_markAbove_11 : decode cX0_markAbove 11 = .ok (.getfield 41, 3) := by decide +kernel
theorem dX0_markAbove_14 : decode cX0_markAbove 14 = .ok (.iload_n 3, 1) := by decide +kernel
theorem dX0_markAbove_15 : decode cX0_markAbove 15 = .ok (.iaload, 1) := by decide +kernel
theorem dX0_markAbove_16 : decode cX0_markAbove 16 = .ok (.invokevirtual 154, 3) := by decide +kernel
theorem dX0_markAbove_19 : decode cX0_markAbove 19 = .ok (.iinc 3 1, 3) := by decide +kernel
theorem dX0_markAbove_22 : decode cX0_markAbove 22 = .ok (.goto (-20), 3) := by decide +kernel
theorem dX0_markAbove_25 : decode cX0_markAbove 25 = .ok (.return_, 1) := by decide +kernel
theorem dX0_markSet_0 : decode cX0_markSet 0 = .ok (.iconst 4, 1) := by decide +kernel
theorem dX0_markSet_1 : decode cX0_markSet 1 = .ok (.iload_n 2, 1) := by decide +kernel
theorem dX0_markSet_2 : decode cX0_markSet 2 = .ok (.imul, 1) := by decide +kernel
theorem dX0_markSet_3 : decode cX0_markSet 3 = .ok (.iload_n 3, 1) := by decide +kernel
theorem dX0_markSet_4 : decode cX0_markSet 4 = .ok (.bipush 6, 2) := by decide +kernel
theorem dX0_markSet_6 : decode cX0_markSet 6 = .ok (.ishr, 1) := by decide +kernel
theorem dX0_markSet_7 : decode cX0_markSet 7 = .ok (.iadd, 1) := by decide +kernel
theorem dX0_markSet_8 : decode cX0_markSet 8 = .ok (.istore 4, 2) := by decide +kernel
theorem dX0_markSet_10 : decode cX0_markSet 10 = .ok (.iload_n 1, 1) := by decide +kernel
theorem dX0_markSet_11 : decode cX0_markSet 11 = .ok (.ifCond .eq 22, 3) := by decide +kernel
theorem dX0_markSet_14 : decode cX0_markSet 14 = .ok (.aload_n 0, 1) := by decide +kernel
theorem dX0_markSet_15 : decode cX0_markSet 15 = .ok (.getfield 38, 3) := by decide +kernel
theorem dX0_markSet_18 : decode cX0_markSet 18 = .ok (.iload 4, 2) := by decide +kernel
theorem dX0_markSet_20 : decode cX0_markSet 20 = .ok (.dup2, 1) := by decide +kernel
theorem dX0_markSet_21 : decode cX0_markSet 21 = .ok (.laload, 1) := by decide +kernel
theorem dX0_markSet_22 : decode cX0_markSet 22 = .ok (.lconst 1, 1) := by decide +kernel
theorem dX0_markSet_23 : decode cX0_markSet 23 = .ok (.iload_n 3, 1) := by decide +kernel
theorem dX0_markSet_24 : decode cX0_markSet 24 = .ok (.bipush 63, 2) := by decide +kernel
theorem dX0_markSet_26 : decode cX0_markSet 26 = .ok (.iand, 1) := by decide +kernel
theorem dX0_markSet_27 : decode cX0_markSet 27 = .ok (.lshl, 1) := by decide +kernel
theorem dX0_markSet_28 : decode cX0_markSet 28 = .ok (.lor, 1) := by decide +kernel
theorem dX0_markSet_29 : decode cX0_markSet 29 = .ok (.lastore, 1) := by decide +kernel
theorem dX0_markSet_30 : decode cX0_markSet 30 = .ok (.goto 19, 3) := by decide +kernel
theorem dX0_markSet_33 : decode cX0_markSet 33 = .ok (.aload_n 0, 1) := by decide +kernel
theorem dX0_markSet_34 : decode cX0_markSet 34 = .ok (.getfield 34, 3) := by decide +kernel
theorem dX0_markSet_37 : decode cX0_markSet 37 = .ok (.iload 4, 2) := by decide +kernel
theorem dX0_markSet_39 : decode cX0_markSet 39 = .ok (.dup2, 1) := by decide +kernel
theorem dX0_markSet_40 : decode cX0_markSet 40 = .ok (.laload, 1) := by decide +kernel
theorem dX0_markSet_41 : decode cX0_markSet 41 = .ok (.lconst 1, 1) := by decide +kernel
theorem dX0_markSet_42 : decode cX0_markSet 42 = .ok (.iload_n 3, 1) := by decide +kernel
theorem dX0_markSet_43 : decode cX0_markSet 43 = .ok (.bipush 63, 2) := by decide +kernel
theorem dX0_markSet_45 : decode cX0_markSet 45 = .ok (.iand, 1) := by decide +kernel
theorem dX0_markSet_46 : decode cX0_markSet 46 = .ok (.lshl, 1) := by decide +kernel
theorem dX0_markSet_47 : decode cX0_markSet 47 = .ok (.lor, 1) := by decide +kernel
theorem dX0_markSet_48 : decode cX0_markSet 48 = .ok (.lastore, 1) := by decide +kernel
theorem dX0_markSet_49 : decode cX0_markSet 49 = .ok (.return_, 1) := by decide +kernel
theorem dX0_neededBy_0 : decode cX0_neededBy 0 = .ok (.iconst 0, 1) := by decide +kernel
theorem dX0_neededBy_1 : decode cX0_neededBy 1 = .ok (.istore_n 2, 1) := by decide +kernel
theorem dX0_neededBy_2 : decode cX0_neededBy 2 = .ok (.iconst 0, 1) := by decide +kernel
theorem dX0_neededBy_3 : decode cX0_neededBy 3 = .ok (.istore_n 3, 1) := by decide +kernel
theorem dX0_neededBy_4 : decode cX0_neededBy 4 = .ok (.iload_n 3, 1) := by decide +kernel
theorem dX0_neededBy_5 : decode cX0_neededBy 5 = .ok (.bipush 15, 2) := by decide +kernel
theorem dX0_neededBy_7 : decode cX0_neededBy 7 = .ok (.if_icmp .ge 30, 3) := by decide +kernel
theorem dX0_neededBy_10 : decode cX0_neededBy 10 = .ok (.aload_n 0, 1) := by decide +kernel
theorem dX0_neededBy_11 : decode cX0_neededBy 11 = .ok (.getfield 47, 3) := by decide +kernel
theorem dX0_neededBy_14 : decode cX0_neededBy 14 = .ok (.iload_n 1, 1) := by decide +kernel
theorem dX0_neededBy_15 : decode cX0_neededBy 15 = .ok (.iaload, 1) := by decide +kernel
theorem dX0_neededBy_16 : decode cX0_neededBy 16 = .ok (.iload_n 3, 1) := by decide +kernel
theorem dX0_neededBy_17 : decode cX0_neededBy 17 = .ok (.ishr, 1) := by decide +kernel
theorem dX0_neededBy_18 : decode cX0_neededBy 18 = .ok (.iconst 1, 1) := by decide +kernel
theorem dX0_neededBy_19 : decode cX0_neededBy 19 = .ok (.iand, 1) := by decide +kernel
end
section
set_option maxRecDepth 100000
theorem dX0_neededBy_20 : decode cX0_neededBy 20 = .ok (.ifCond .eq 11, 3) := by decide +kernel
theorem dX0_neededBy_23 : decode cX0_neededBy 23 = .ok (.iload_n 2, 1) := by decide +kernel
theorem dX0_neededBy_24 : decode cX0_neededBy 24 = .ok (.aload_n 0, 1) := by decide +kernel
theorem dX0_neededBy_25 : decode cX0_neededBy 25 = .ok (.iload_n 3, 1) := by decide +kernel
theorem dX0_neededBy_26 : decode cX0_neededBy 26 = .ok (.invokevirtual 99, 3) := by decide +kernel
theorem dX0_neededBy_29 : decode cX0_neededBy 29 = .ok (.ior, 1) := by decide +kernel
theorem dX0_neededBy_30 : decode cX0_neededBy 30 = .ok (.istore_n 2, 1) := by decide +kernel
theorem dX0_neededBy_31 : decode cX0_neededBy 31 = .ok (.iinc 3 1, 3) := by decide +kernel
theorem dX0_neededBy_34 : decode cX0_neededBy 34 = .ok (.goto (-30), 3) := by decide +kernel
theorem dX0_neededBy_37 : decode cX0_neededBy 37 = .ok (.iload_n 2, 1) := by decide +kernel
theorem dX0_neededBy_38 : decode cX0_neededBy 38 = .ok (.ireturn, 1) := by decide +kernel
theorem dX0_goBack_0 : decode cX0_goBack 0 = .ok (.iload_n 1, 1) := by decide +kernel
theorem dX0_goBack_1 : decode cX0_goBack 1 = .ok (.istore_n 3, 1) := by decide +kernel
theorem dX0_goBack_2 : decode cX0_goBack 2 = .ok (.iload_n 3, 1) := by decide +kernel
theorem dX0_goBack_3 : decode cX0_goBack 3 = .ok (.iload_n 2, 1) := by decide +kernel
theorem dX0_goBack_4 : decode cX0_goBack 4 = .ok (.if_icmp .gt 149, 3) := by decide +kernel
theorem dX0_goBack_7 : decode cX0_goBack 7 = .ok (.aload_n 0, 1) := by decide +kernel
theorem dX0_goBack_8 : decode cX0_goBack 8 = .ok (.getfield 132, 3) := by decide +kernel
theorem dX0_goBack_11 : decode cX0_goBack 11 = .ok (.ifCond .le 25, 3) := by decide +kernel
theorem dX0_goBack_14 : decode cX0_goBack 14 = .ok (.aload_n 0, 1) := by decide +kernel
theorem dX0_goBack_15 : decode cX0_goBack 15 = .ok (.getfield 54, 3) := by decide +kernel
theorem dX0_goBack_18 : decode cX0_goBack 18 = .ok (.aload_n 0, 1) := by decide +kernel
theorem dX0_goBack_19 : decode cX0_goBack 19 = .ok (.getfield 132, 3) := by decide +kernel
theorem dX0_goBack_22 : decode cX0_goBack 22 = .ok (.iconst 1, 1) := by decide +kernel
theorem dX0_goBack_23 : decode cX0_goBack 23 = .ok (.isub, 1) := by decide +kernel
theorem dX0_goBack_24 : decode cX0_goBack 24 = .ok (.baload, 1) := by decide +kernel
theorem dX0_goBack_25 : decode cX0_goBack 25 = .ok (.bipush 8, 2) := by decide +kernel
theorem dX0_goBack_27 : decode cX0_goBack 27 = .ok (.idiv, 1) := by decide +kernel
theorem dX0_goBack_28 : decode cX0_goBack 28 = .ok (.iload_n 3, 1) := by decide +kernel
theorem dX0_goBack_29 : decode cX0_goBack 29 = .ok (.if_icmp .ne 7, 3) := by decide +kernel
theorem dX0_goBack_32 : decode cX0_goBack 32 = .ok (.iconst 1, 1) := by decide +kernel
theorem dX0_goBack_33 : decode cX0_goBack 33 = .ok (.goto 4, 3) := by decide +kernel
theorem dX0_goBack_36 : decode cX0_goBack 36 = .ok (.iconst 0, 1) := by decide +kernel
theorem dX0_goBack_37 : decode cX0_goBack 37 = .ok (.istore 4, 2) := by decide +kernel
theorem dX0_goBack_39 : decode cX0_goBack 39 = .ok (.iload 4, 2) := by decide +kernel
theorem dX0_goBack_41 : decode cX0_goBack 41 = .ok (.ifCond .ne 21, 3) := by decide +kernel
theorem dX0_goBack_44 : decode cX0_goBack 44 = .ok (.aload_n 0, 1) := by decide +kernel
theorem dX0_goBack_45 : decode cX0_goBack 45 = .ok (.iconst 0, 1) := by decide +kernel
theorem dX0_goBack_46 : decode cX0_goBack 46 = .ok (.iload_n 3, 1) := by decide +kernel
theorem dX0_goBack_47 : decode cX0_goBack 47 = .ok (.aload_n 0, 1) := by decide +kernel
theorem dX0_goBack_48 : decode cX0_goBack 48 = .ok (.getfield 41, 3) := by decide +kernel
theorem dX0_goBack_51 : decode cX0_goBack 51 = .ok (.iload_n 3, 1) := by decide +kernel
theorem dX0_goBack_52 : decode cX0_goBack 52 = .ok (.iaload, 1) := by decide +kernel
theorem dX0_goBack_53 : decode cX0_goBack 53 = .ok (.invokevirtual 154, 3) := by decide +kernel
theorem dX0_goBack_56 : decode cX0_goBack 56 = .ok (.iinc 3 1, 3) := by decide +kernel
theorem dX0_goBack_59 : decode cX0_goBack 59 = .ok (.goto (-57), 3) := by decide +kernel
theorem dX0_goBack_62 : decode cX0_goBack 62 = .ok (.aload_n 0, 1) := by decide +kernel
theorem dX0_goBack_63 : decode cX0_goBack 63 = .ok (.dup, 1) := by decide +kernel
theorem dX0_goBack_64 : decode cX0_goBack 64 = .ok (.getfield 132, 3) := by decide +kernel
theorem dX0_goBack_67 : decode cX0_goBack 67 = .ok (.iconst 1, 1) := by decide +kernel
theorem dX0_goBack_68 : decode cX0_goBack 68 = .ok (.isub, 1) := by decide +kernel
theorem dX0_goBack_69 : decode cX0_goBack 69 = .ok (.putfield 132, 3) := by decide +kernel
theorem dX0_goBack_72 : decode cX0_goBack 72 = .ok (.aload_n 0, 1) := by decide +kernel
theorem dX0_goBack_73 : decode cX0_goBack 73 = .ok (.getfield 54, 3) := by decide +kernel
theorem dX0_goBack_76 : decode cX0_goBack 76 = .ok (.aload_n 0, 1) := by decide +kernel
theorem dX0_goBack_77 : decode cX0_goBack 77 = .ok (.getfield 132, 3) := by decide +kernel
theorem dX0_goBack_80 : decode cX0_goBack 80 = .ok (.baload, 1) := by decide +kernel
theorem dX0_goBack_81 : decode cX0_goBack 81 = .ok (.bipush 8, 2) := by decide +kernel
theorem dX0_goBack_83 : decode cX0_goBack 83 = .ok (.irem, 1) := by decide +kernel
theorem dX0_goBack_84 : decode cX0_goBack 84 = .ok (.istore 5, 2) := by decide +kernel
theorem dX0_goBack_86 : decode cX0_goBack 86 = .ok (.aload_n 0, 1) := by decide +kernel
theorem dX0_goBack_87 : decode cX0_goBack 87 = .ok (.getfield 50, 3) := by decide +kernel
theorem dX0_goBack_90 : decode cX0_goBack 90 = .ok (.aload_n 0, 1) := by decide +kernel
theorem dX0_goBack_91 : decode cX0_goBack 91 = .ok (.getfield 132, 3) := by decide +kernel
theorem dX0_goBack_94 : decode cX0_goBack 94 = .ok (.baload, 1) := by decide +kernel
theorem dX0_goBack_95 : decode cX0_goBack 95 = .ok (.istore 6, 2) := by decide +kernel
theorem dX0_goBack_97 : decode cX0_goBack 97 = .ok (.aload_n 0, 1) := by decide +kernel
theorem dX0_goBack_98 : decode cX0_goBack 98 = .ok (.getfield 44, 3) := by decide +kernel
theorem dX0_goBack_101 : decode cX0_goBack 101 = .ok (.iload_n 3, 1) := by decide +kernel
theorem dX0_goBack_102 : decode cX0_goBack 102 = .ok (.aload_n 0, 1) := by decide +kernel
theorem dX0_goBack_103 : decode cX0_goBack 103 = .ok (.getfield 57, 3) := by decide +kernel
theorem dX0_goBack_106 : decode cX0_goBack 106 = .ok (.aload_n 0, 1) := by decide +kernel
theorem dX0_goBack_107 : decode cX0_goBack 107 = .ok (.getfield 132, 3) := by decide +kernel
theorem dX0_goBack_110 : decode cX0_goBack 110 = .ok (.iaload, 1) := by decide +kernel
theorem dX0_goBack_111 : decode cX0_goBack 111 = .ok (.sipush 255, 3) := by decide +kernel
theorem dX0_goBack_114 : decode cX0_goBack 114 = .ok (.iand, 1) := by decide +kernel
theorem dX0_goBack_115 : decode cX0_goBack 115 = .ok (.iastore, 1) := by decide +kernel
theorem dX0_goBack_116 : decode cX0_goBack 116 = .ok (.aload_n 0, 1) := by decide +kernel
theorem dX0_goBack_117 : decode cX0_goBack 117 = .ok (.getfield 47, 3) := by decide +kernel
theorem dX0_goBack_120 : decode cX0_goBack 120 = .ok (.iload_n 3, 1) := by decide +kernel
theorem dX0_goBack_121 : decode cX0_goBack 121 = .ok (.aload_n 0, 1) := by decide +kernel
theorem dX0_goBack_122 : decode cX0_goBack 122 = .ok (.getfield 57, 3) := by decide +kernel
theorem dX0_goBack_125 : decode cX0_goBack 125 = .ok (.aload_n 0, 1) := by decide +kernel
theorem dX0_goBack_126 : decode cX0_goBack 126 = .ok (.getfield 132, 3) := by decide +kernel
theorem dX0_goBack_129 : decode cX0_goBack 129 = .ok (.iaload, 1) := by decide +kernel
theorem dX0_goBack_130 : decode cX0_goBack 130 = .ok (.bipush 8, 2) := by decide +kernel
theorem dX0_goBack_132 : decode cX0_goBack 132 = .ok (.ishr, 1) := by decide +kernel
theorem dX0_goBack_133 : decode cX0_goBack 133 = .ok (.iastore, 1) := by decide +kernel
theorem dX0_goBack_134 : decode cX0_goBack 134 = .ok (.aload_n 0, 1) := by decide +kernel
theorem dX0_goBack_135 : decode cX0_goBack 135 = .ok (.iload_n 3, 1) := by decide +kernel
theorem dX0_goBack_136 : decode cX0_goBack 136 = .ok (.iload 5, 2) := by decide +kernel
theorem dX0_goBack_138 : decode cX0_goBack 138 = .ok (.iload 6, 2) := by decide +kernel
theorem dX0_goBack_140 : decode cX0_goBack 140 = .ok (.iconst 1, 1) := by decide +kernel
theorem dX0_goBack_141 : decode cX0_goBack 141 = .ok (.iadd, 1) := by decide +kernel
theorem dX0_goBack_142 : decode cX0_goBack 142 = .ok (.invokevirtual 151, 3) := by decide +kernel
theorem dX0_goBack_145 : decode cX0_goBack 145 = .ok (.ifCond .eq 5, 3) := by decide +kernel
theorem dX0_goBack_148 : decode cX0_goBack 148 = .ok (.iload_n 3, 1) := by decide +kernel
theorem dX0_goBack_149 : decode cX0_goBack 149 = .ok (.ireturn, 1) := by decide +kernel
theorem dX0_goBack_150 : decode cX0_goBack 150 = .ok (.goto (-148), 3) := by decide +kernel
theorem dX0_goBack_153 : decode cX0_goBack 153 = .ok (.iload_n 3, 1) := by decide +kernel
theorem dX0_goBack_154 : decode cX0_goBack 154 = .ok (.ireturn, 1) := by decide +kernel
theorem dX0_choose_0 : decode cX0_choose 0 = .ok (.aload_n 0, 1) := by decide +kernel
theorem dX0_choose_1 : decode cX0_choose 1 = .ok (.iload_n 2, 1) := by decide +kernel
theorem dX0_choose_2 : decode cX0_choose 2 = .ok (.iload_n 1, 1) := by decide +kernel
theorem dX0_choose_3 : decode cX0_choose 3 = .ok (.iconst 1, 1) := by decide +kernel
theorem dX0_choose_4 : decode cX0_choose 4 = .ok (.isub, 1) := by decide +kernel
theorem dX0_choose_5 : decode cX0_choose 5 = .ok (.invokevirtual 121, 3) := by decide +kernel
theorem dX0_choose_8 : decode cX0_choose 8 = .ok (.istore 4, 2) := by decide +kernel
theorem dX0_choose_10 : decode cX0_choose 10 = .ok (.iload_n 3, 1) := by decide +kernel
theorem dX0_choose_11 : decode cX0_choose 11 = .ok (.istore 5, 2) := by decide +kernel
theorem dX0_choose_13 : decode cX0_choose 13 = .ok (.iload 5, 2) := by decide +kernel
theorem dX0_choose_15 : decode cX0_choose 15 = .ok (.bipush 15, 2) := by decide +kernel
theorem dX0_choose_17 : decode cX0_choose 17 = .ok (.if_icmp .ge 141, 3) := by decide +kernel
theorem dX0_choose_20 : decode cX0_choose 20 = .ok (.iload 4, 2) := by decide +kernel
theorem dX0_choose_22 : decode cX0_choose 22 = .ok (.iload 5, 2) := by decide +kernel
theorem dX0_choose_24 : decode cX0_choose 24 = .ok (.ishr, 1) := by decide +kernel
theorem dX0_choose_25 : decode cX0_choose 25 = .ok (.iconst 1, 1) := by decide +kernel
theorem dX0_choose_26 : decode cX0_choose 26 = .ok (.iand, 1) := by decide +kernel
theorem dX0_choose_27 : decode cX0_choose 27 = .ok (.ifCond .eq 125, 3) := by decide +kernel
theorem dX0_choose_30 : decode cX0_choose 30 = .ok (.aload_n 0, 1) := by decide +kernel
theorem dX0_choose_31 : decode cX0_choose 31 = .ok (.getfield 28, 3) := by decide +kernel
theorem dX0_choose_34 : decode cX0_choose 34 = .ok (.bipush 15, 2) := by decide +kernel
theorem dX0_choose_36 : decode cX0_choose 36 = .ok (.iload_n 1, 1) := by decide +kernel
theorem dX0_choose_37 : decode cX0_choose 37 = .ok (.iconst 1, 1) := by decide +kernel
theorem dX0_choose_38 : decode cX0_choose 38 = .ok (.isub, 1) := by decide +kernel
theorem dX0_choose_39 : decode cX0_choose 39 = .ok (.imul, 1) := by decide +kernel
theorem dX0_choose_40 : decode cX0_choose 40 = .ok (.iload 5, 2) := by decide +kernel
theorem dX0_choose_42 : decode cX0_choose 42 = .ok (.iadd, 1) := by decide +kernel
theorem dX0_choose_43 : decode cX0_choose 43 = .ok (.iaload, 1) := by decide +kernel
theorem dX0_choose_44 : decode cX0_choose 44 = .ok (.aload_n 0, 1) := by decide +kernel
theorem dX0_choose_45 : decode cX0_choose 45 = .ok (.getfield 47, 3) := by decide +kernel
theorem dX0_choose_48 : decode cX0_choose 48 = .ok (.iload_n 1, 1) := by decide +kernel
theorem dX0_choose_49 : decode cX0_choose 49 = .ok (.iaload, 1) := by decide +kernel
theorem dX0_choose_50 : decode cX0_choose 50 = .ok (.iand, 1) := by decide +kernel
theorem dX0_choose_51 : decode cX0_choose 51 = .ok (.ifCond .eq 6, 3) := by decide +kernel
theorem dX0_choose_54 : decode cX0_choose 54 = .ok (.goto 98, 3) := by decide +kernel
theorem dX0_choose_57 : decode cX0_choose 57 = .ok (.aload_n 0, 1) := by decide +kernel
theorem dX0_choose_58 : decode cX0_choose 58 = .ok (.getfield 50, 3) := by decide +kernel
theorem dX0_choose_61 : decode cX0_choose 61 = .ok (.aload_n 0, 1) := by decide +kernel
theorem dX0_choose_62 : decode cX0_choose 62 = .ok (.getfield 132, 3) := by decide +kernel
theorem dX0_choose_65 : decode cX0_choose 65 = .ok (.iload 5, 2) := by decide +kernel
theorem dX0_choose_67 : decode cX0_choose 67 = .ok (.i2b, 1) := by decide +kernel
theorem dX0_choose_68 : decode cX0_choose 68 = .ok (.bastore, 1) := by decide +kernel
theorem dX0_choose_69 : decode cX0_choose 69 = .ok (.aload_n 0, 1) := by decide +kernel
theorem dX0_choose_70 : decode cX0_choose 70 = .ok (.getfield 54, 3) := by decide +kernel
theorem dX0_choose_73 : decode cX0_choose 73 = .ok (.aload_n 0, 1) := by decide +kernel
theorem dX0_choose_74 : decode cX0_choose 74 = .ok (.getfield 132, 3) := by decide +kernel
theorem dX0_choose_77 : decode cX0_choose 77 = .ok (.iload_n 2, 1) := by decide +kernel
theorem dX0_choose_78 : decode cX0_choose 78 = .ok (.bipush 8, 2) := by decide +kernel
theorem dX0_choose_80 : decode cX0_choose 80 = .ok (.iload_n 1, 1) := by decide +kernel
theorem dX0_choose_81 : decode cX0_choose 81 = .ok (.imul, 1) := by decide +kernel
theorem dX0_choose_82 : decode cX0_choose 82 = .ok (.iadd, 1) := by decide +kernel
theorem dX0_choose_83 : decode cX0_choose 83 = .ok (.i2b, 1) := by decide +kernel
theorem dX0_choose_84 : decode cX0_choose 84 = .ok (.bastore, 1) := by decide +kernel
theorem dX0_choose_85 : decode cX0_choose 85 = .ok (.aload_n 0, 1) := by decide +kernel
theorem dX0_choose_86 : decode cX0_choose 86 = .ok (.getfield 57, 3) := by decide +kernel
theorem dX0_choose_89 : decode cX0_choose 89 = .ok (.aload_n 0, 1) := by decide +kernel
theorem dX0_choose_90 : decode cX0_choose 90 = .ok (.getfield 132, 3) := by decide +kernel
theorem dX0_choose_93 : decode cX0_choose 93 = .ok (.aload_n 0, 1) := by decide +kernel
theorem dX0_choose_94 : decode cX0_choose 94 = .ok (.getfield 44, 3) := by decide +kernel
theorem dX0_choose_97 : decode cX0_choose 97 = .ok (.iload_n 1, 1) := by decide +kernel
theorem dX0_choose_98 : decode cX0_choose 98 = .ok (.iaload, 1) := by decide +kernel
theorem dX0_choose_99 : decode cX0_choose 99 = .ok (.aload_n 0, 1) := by decide +kernel
theorem dX0_choose_100 : decode cX0_choose 100 = .ok (.getfield 47, 3) := by decide +kernel
theorem dX0_choose_103 : decode cX0_choose 103 = .ok (.iload_n 1, 1) := by decide +kernel
theorem dX0_choose_104 : decode cX0_choose 104 = .ok (.iaload, 1) := by decide +kernel
theorem dX0_choose_105 : decode cX0_choose 105 = .ok (.bipush 8, 2) := by decide +kernel
theorem dX0_choose_107 : decode cX0_choose 107 = .ok (.ishl, 1) := by decide +kernel
theorem dX0_choose_108 : decode cX0_choose 108 = .ok (.ior, 1) := by decide +kernel
theorem dX0_choose_109 : decode cX0_choose 109 = .ok (.iastore, 1) := by decide +kernel
theorem dX0_choose_110 : decode cX0_choose 110 = .ok (.aload_n 0, 1) := by decide +kernel
theorem dX0_choose_111 : decode cX0_choose 111 = .ok (.dup, 1) := by decide +kernel
theorem dX0_choose_112 : decode cX0_choose 112 = .ok (.getfield 132, 3) := by decide +kernel
theorem dX0_choose_115 : decode cX0_choose 115 = .ok (.iconst 1, 1) := by decide +kernel
theorem dX0_choose_116 : decode cX0_choose 116 = .ok (.iadd, 1) := by decide +kernel
theorem dX0_choose_117 : decode cX0_choose 117 = .ok (.putfield 132, 3) := by decide +kernel
theorem dX0_choose_120 : decode cX0_choose 120 = .ok (.aload_n 0, 1) := by decide +kernel
theorem dX0_choose_121 : decode cX0_choose 121 = .ok (.getfield 44, 3) := by decide +kernel
theorem dX0_choose_124 : decode cX0_choose 124 = .ok (.iload_n 1, 1) := by decide +kernel
theorem dX0_choose_125 : decode cX0_choose 125 = .ok (.dup2, 1) := by decide +kernel
theorem dX0_choose_126 : decode cX0_choose 126 = .ok (.iaload, 1) := by decide +kernel
theorem dX0_choose_127 : decode cX0_choose 127 = .ok (.aload_n 0, 1) := by decide +kernel
theorem dX0_choose_128 : decode cX0_choose 128 = .ok (.iload 5, 2) := by decide +kernel
theorem dX0_choose_130 : decode cX0_choose 130 = .ok (.invokevirtual 102, 3) := by decide +kernel
theorem dX0_choose_133 : decode cX0_choose 133 = .ok (.iconst (-1), 1) := by decide +kernel
theorem dX0_choose_134 : decode cX0_choose 134 = .ok (.ixor, 1) := by decide +kernel
theorem dX0_choose_135 : decode cX0_choose 135 = .ok (.iand, 1) := by decide +kernel
theorem dX0_choose_136 : decode cX0_choose 136 = .ok (.iastore, 1) := by decide +kernel
theorem dX0_choose_137 : decode cX0_choose 137 = .ok (.aload_n 0, 1) := by decide +kernel
theorem dX0_choose_138 : decode cX0_choose 138 = .ok (.getfield 47, 3) := by decide +kernel
theorem dX0_choose_141 : decode cX0_choose 141 = .ok (.iload_n 1, 1) := by decide +kernel
theorem dX0_choose_142 : decode cX0_choose 142 = .ok (.dup2, 1) := by decide +kernel
theorem dX0_choose_143 : decode cX0_choose 143 = .ok (.iaload, 1) := by decide +kernel
theorem dX0_choose_144 : decode cX0_choose 144 = .ok (.iconst 1, 1) := by decide +kernel
theorem dX0_choose_145 : decode cX0_choose 145 = .ok (.iload 5, 2) := by decide +kernel
theorem dX0_choose_147 : decode cX0_choose 147 = .ok (.ishl, 1) := by decide +kernel
theorem dX0_choose_148 : decode cX0_choose 148 = .ok (.ior, 1) := by decide +kernel
theorem dX0_choose_149 : decode cX0_choose 149 = .ok (.iastore, 1) := by decide +kernel
theorem dX0_choose_150 : decode cX0_choose 150 = .ok (.iconst 1, 1) := by decide +kernel
theorem dX0_choose_151 : decode cX0_choose 151 = .ok (.ireturn, 1) := by decide +kernel
theorem dX0_choose_152 : decode cX0_choose 152 = .ok (.iinc 5 1, 3) := by decide +kernel
theorem dX0_choose_155 : decode cX0_choose 155 = .ok (.goto (-142), 3) := by decide +kernel
theorem dX0_choose_158 : decode cX0_choose 158 = .ok (.iconst 0, 1) := by decide +kernel
theorem dX0_choose_159 : decode cX0_choose 159 = .ok (.ireturn, 1) := by decide +kernel
theorem dX0_lowestOpen_0 : decode cX0_lowestOpen 0 = .ok (.iconst 0, 1) := by decide +kernel
theorem dX0_lowestOpen_1 : decode cX0_lowestOpen 1 = .ok (.istore_n 2, 1) := by decide +kernel
theorem dX0_lowestOpen_2 : decode cX0_lowestOpen 2 = .ok (.aload_n 0, 1) := by decide +kernel
theorem dX0_lowestOpen_3 : decode cX0_lowestOpen 3 = .ok (.getfield 44, 3) := by decide +kernel
theorem dX0_lowestOpen_6 : decode cX0_lowestOpen 6 = .ok (.iload_n 1, 1) := by decide +kernel
theorem dX0_lowestOpen_7 : decode cX0_lowestOpen 7 = .ok (.iaload, 1) := by decide +kernel
theorem dX0_lowestOpen_8 : decode cX0_lowestOpen 8 = .ok (.iload_n 2, 1) := by decide +kernel
theorem dX0_lowestOpen_9 : decode cX0_lowestOpen 9 = .ok (.ishr, 1) := by decide +kernel
theorem dX0_lowestOpen_10 : decode cX0_lowestOpen 10 = .ok (.iconst 1, 1) := by decide +kernel
theorem dX0_lowestOpen_11 : decode cX0_lowestOpen 11 = .ok (.iand, 1) := by decide +kernel
theorem dX0_lowestOpen_12 : decode cX0_lowestOpen 12 = .ok (.ifCond .ne 9, 3) := by decide +kernel
theorem dX0_lowestOpen_15 : decode cX0_lowestOpen 15 = .ok (.iinc 2 1, 3) := by decide +kernel
theorem dX0_lowestOpen_18 : decode cX0_lowestOpen 18 = .ok (.goto (-16), 3) := by decide +kernel
theorem dX0_lowestOpen_21 : decode cX0_lowestOpen 21 = .ok (.iload_n 2, 1) := by decide +kernel
theorem dX0_lowestOpen_22 : decode cX0_lowestOpen 22 = .ok (.ireturn, 1) := by decide +kernel
theorem dX0_within_0 : decode cX0_within 0 = .ok (.iload_n 1, 1) := by decide +kernel
theorem dX0_within_1 : decode cX0_within 1 = .ok (.ifCond .lt 9, 3) := by decide +kernel
theorem dX0_within_4 : decode cX0_within 4 = .ok (.iload_n 1, 1) := by decide +kernel
theorem dX0_within_5 : decode cX0_within 5 = .ok (.bipush 8, 2) := by decide +kernel
theorem dX0_within_7 : decode cX0_within 7 = .ok (.if_icmp .le 5, 3) := by decide +kernel
theorem dX0_within_10 : decode cX0_within 10 = .ok (.iconst (-1), 1) := by decide +kernel
theorem dX0_within_11 : decode cX0_within 11 = .ok (.ireturn, 1) := by decide +kernel
theorem dX0_within_12 : decode cX0_within 12 = .ok (.aload_n 0, 1) := by decide +kernel
theorem dX0_within_13 : decode cX0_within 13 = .ok (.invokevirtual 82, 3) := by decide +kernel
theorem dX0_within_16 : decode cX0_within 16 = .ok (.iconst 0, 1) := by decide +kernel
theorem dX0_within_17 : decode cX0_within 17 = .ok (.istore_n 2, 1) := by decide +kernel
theorem dX0_within_18 : decode cX0_within 18 = .ok (.iconst 0, 1) := by decide +kernel
theorem dX0_within_19 : decode cX0_within 19 = .ok (.istore_n 3, 1) := by decide +kernel
theorem dX0_within_20 : decode cX0_within 20 = .ok (.iload_n 3, 1) := by decide +kernel
theorem dX0_within_21 : decode cX0_within 21 = .ok (.bipush 8, 2) := by decide +kernel
theorem dX0_within_23 : decode cX0_within 23 = .ok (.if_icmp .ge 26, 3) := by decide +kernel
theorem dX0_within_26 : decode cX0_within 26 = .ok (.aload_n 0, 1) := by decide +kernel
theorem dX0_within_27 : decode cX0_within 27 = .ok (.iconst 1, 1) := by decide +kernel
theorem dX0_within_28 : decode cX0_within 28 = .ok (.iload_n 3, 1) := by decide +kernel
theorem dX0_within_29 : decode cX0_within 29 = .ok (.ishl, 1) := by decide +kernel
theorem dX0_within_30 : decode cX0_within 30 = .ok (.iload_n 1, 1) := by decide +kernel
theorem dX0_within_31 : decode cX0_within 31 = .ok (.invokevirtual 85, 3) := by decide +kernel
theorem dX0_within_34 : decode cX0_within 34 = .ok (.ifCond .eq 9, 3) := by decide +kernel
theorem dX0_within_37 : decode cX0_within 37 = .ok (.iload_n 2, 1) := by decide +kernel
theorem dX0_within_38 : decode cX0_within 38 = .ok (.iconst 1, 1) := by decide +kernel
theorem dX0_within_39 : decode cX0_within 39 = .ok (.iload_n 3, 1) := by decide +kernel
theorem dX0_within_40 : decode cX0_within 40 = .ok (.ishl, 1) := by decide +kernel
theorem dX0_within_41 : decode cX0_within 41 = .ok (.ior, 1) := by decide +kernel
theorem dX0_within_42 : decode cX0_within 42 = .ok (.istore_n 2, 1) := by decide +kernel
theorem dX0_within_43 : decode cX0_within 43 = .ok (.iinc 3 1, 3) := by decide +kernel
theorem dX0_within_46 : decode cX0_within 46 = .ok (.goto (-26), 3) := by decide +kernel
theorem dX0_within_49 : decode cX0_within 49 = .ok (.iload_n 2, 1) := by decide +kernel
theorem dX0_within_50 : decode cX0_within 50 = .ok (.ireturn, 1) := by decide +kernel
theorem dX0_together_0 : decode cX0_together 0 = .ok (.iload_n 1, 1) := by decide +kernel
theorem dX0_together_1 : decode cX0_together 1 = .ok (.ifCond .lt 29, 3) := by decide +kernel
theorem dX0_together_4 : decode cX0_together 4 = .ok (.iload_n 1, 1) := by decide +kernel
theorem dX0_together_5 : decode cX0_together 5 = .ok (.bipush 8, 2) := by decide +kernel
theorem dX0_together_7 : decode cX0_together 7 = .ok (.if_icmp .ge 23, 3) := by decide +kernel
theorem dX0_together_10 : decode cX0_together 10 = .ok (.iload_n 2, 1) := by decide +kernel
theorem dX0_together_11 : decode cX0_together 11 = .ok (.ifCond .lt 19, 3) := by decide +kernel
theorem dX0_together_14 : decode cX0_together 14 = .ok (.iload_n 2, 1) := by decide +kernel
theorem dX0_together_15 : decode cX0_together 15 = .ok (.bipush 8, 2) := by decide +kernel
theorem dX0_together_17 : decode cX0_together 17 = .ok (.if_icmp .ge 13, 3) := by decide +kernel
theorem dX0_together_20 : decode cX0_together 20 = .ok (.iload_n 3, 1) := by decide +kernel
theorem dX0_together_21 : decode cX0_together 21 = .ok (.ifCond .lt 9, 3) := by decide +kernel
theorem dX0_together_24 : decode cX0_together 24 = .ok (.iload_n 3, 1) := by decide +kernel
theorem dX0_together_25 : decode cX0_together 25 = .ok (.bipush 8, 2) := by decide +kernel
theorem dX0_together_27 : decode cX0_together 27 = .ok (.if_icmp .le 5, 3) := by decide +kernel
theorem dX0_together_30 : decode cX0_together 30 = .ok (.iconst 0, 1) := by decide +kernel
theorem dX0_together_31 : decode cX0_together 31 = .ok (.ireturn, 1) := by decide +kernel
theorem dX0_together_32 : decode cX0_together 32 = .ok (.aload_n 0, 1) := by decide +kernel
theorem dX0_together_33 : decode cX0_together 33 = .ok (.invokevirtual 82, 3) := by decide +kernel
theorem dX0_together_36 : decode cX0_together 36 = .ok (.aload_n 0, 1) := by decide +kernel
theorem dX0_together_37 : decode cX0_together 37 = .ok (.iconst 1, 1) := by decide +kernel
theorem dX0_together_38 : decode cX0_together 38 = .ok (.iload_n 1, 1) := by decide +kernel
theorem dX0_together_39 : decode cX0_together 39 = .ok (.ishl, 1) := by decide +kernel
theorem dX0_together_40 : decode cX0_together 40 = .ok (.iconst 1, 1) := by decide +kernel
theorem dX0_together_41 : decode cX0_together 41 = .ok (.iload_n 2, 1) := by decide +kernel
theorem dX0_together_42 : decode cX0_together 42 = .ok (.ishl, 1) := by decide +kernel
theorem dX0_together_43 : decode cX0_together 43 = .ok (.ior, 1) := by decide +kernel
theorem dX0_together_44 : decode cX0_together 44 = .ok (.iload_n 3, 1) := by decide +kernel
theorem dX0_together_45 : decode cX0_together 45 = .ok (.invokevirtual 85, 3) := by decide +kernel
theorem dX0_together_48 : decode cX0_together 48 = .ok (.ireturn, 1) := by decide +kernel
theorem dX0_begins_0 : decode cX0_begins 0 = .ok (.aload_n 0, 1) := by decide +kernel
theorem dX0_begins_1 : decode cX0_begins 1 = .ok (.iload_n 1, 1) := by decide +kernel
theorem dX0_begins_2 : decode cX0_begins 2 = .ok (.invokevirtual 64, 3) := by decide +kernel
theorem dX0_begins_5 : decode cX0_begins 5 = .ok (.ifCond .eq 11, 3) := by decide +kernel
theorem dX0_begins_8 : decode cX0_begins 8 = .ok (.aload_n 0, 1) := by decide +kernel
theorem dX0_begins_9 : decode cX0_begins 9 = .ok (.iload_n 2, 1) := by decide +kernel
theorem dX0_begins_10 : decode cX0_begins 10 = .ok (.invokevirtual 72, 3) := by decide +kernel
theorem dX0_begins_13 : decode cX0_begins 13 = .ok (.ifCond .ne 5, 3) := by decide +kernel
theorem dX0_begins_16 : decode cX0_begins 16 = .ok (.iconst 0, 1) := by decide +kernel
theorem dX0_begins_17 : decode cX0_begins 17 = .ok (.ireturn, 1) := by decide +kernel
theorem dX0_begins_18 : decode cX0_begins 18 = .ok (.aload_n 0, 1) := by decide +kernel
theorem dX0_begins_19 : decode cX0_begins 19 = .ok (.iload_n 1, 1) := by decide +kernel
theorem dX0_begins_20 : decode cX0_begins 20 = .ok (.invokevirtual 88, 3) := by decide +kernel
theorem dX0_begins_23 : decode cX0_begins 23 = .ok (.istore_n 3, 1) := by decide +kernel
theorem dX0_begins_24 : decode cX0_begins 24 = .ok (.iload_n 3, 1) := by decide +kernel
theorem dX0_begins_25 : decode cX0_begins 25 = .ok (.ifCond .gt 5, 3) := by decide +kernel
theorem dX0_begins_28 : decode cX0_begins 28 = .ok (.iconst 0, 1) := by decide +kernel
theorem dX0_begins_29 : decode cX0_begins 29 = .ok (.ireturn, 1) := by decide +kernel
theorem dX0_begins_30 : decode cX0_begins 30 = .ok (.aload_n 0, 1) := by decide +kernel
theorem dX0_begins_31 : decode cX0_begins 31 = .ok (.getfield 75, 3) := by decide +kernel
theorem dX0_begins_34 : decode cX0_begins 34 = .ok (.istore 4, 2) := by decide +kernel
theorem dX0_begins_36 : decode cX0_begins 36 = .ok (.iconst 0, 1) := by decide +kernel
theorem dX0_begins_37 : decode cX0_begins 37 = .ok (.istore 5, 2) := by decide +kernel
theorem dX0_begins_39 : decode cX0_begins 39 = .ok (.iconst 0, 1) := by decide +kernel
theorem dX0_begins_40 : decode cX0_begins 40 = .ok (.istore 6, 2) := by decide +kernel
theorem dX0_begins_42 : decode cX0_begins 42 = .ok (.iload 6, 2) := by decide +kernel
theorem dX0_begins_44 : decode cX0_begins 44 = .ok (.iconst 1, 1) := by decide +kernel
theorem dX0_begins_45 : decode cX0_begins 45 = .ok (.aload_n 0, 1) := by decide +kernel
theorem dX0_begins_46 : decode cX0_begins 46 = .ok (.getfield 60, 3) := by decide +kernel
theorem dX0_begins_49 : decode cX0_begins 49 = .ok (.ishl, 1) := by decide +kernel
theorem dX0_begins_50 : decode cX0_begins 50 = .ok (.if_icmp .ge 68, 3) := by decide +kernel
theorem dX0_begins_53 : decode cX0_begins 53 = .ok (.iload 5, 2) := by decide +kernel
theorem dX0_begins_55 : decode cX0_begins 55 = .ok (.ifCond .ne 63, 3) := by decide +kernel
theorem dX0_begins_58 : decode cX0_begins 58 = .ok (.iload 6, 2) := by decide +kernel
theorem dX0_begins_60 : decode cX0_begins 60 = .ok (.iload_n 2, 1) := by decide +kernel
theorem dX0_begins_61 : decode cX0_begins 61 = .ok (.ishr, 1) := by decide +kernel
theorem dX0_begins_62 : decode cX0_begins 62 = .ok (.iconst 1, 1) := by decide +kernel
theorem dX0_begins_63 : decode cX0_begins 63 = .ok (.iand, 1) := by decide +kernel
theorem dX0_begins_64 : decode cX0_begins 64 = .ok (.ifCond .eq 48, 3) := by decide +kernel
theorem dX0_begins_67 : decode cX0_begins 67 = .ok (.aload_n 0, 1) := by decide +kernel
theorem dX0_begins_68 : decode cX0_begins 68 = .ok (.iload 6, 2) := by decide +kernel
theorem dX0_begins_70 : decode cX0_begins 70 = .ok (.iload 4, 2) := by decide +kernel
theorem dX0_begins_72 : decode cX0_begins 72 = .ok (.invokevirtual 92, 3) := by decide +kernel
theorem dX0_begins_75 : decode cX0_begins 75 = .ok (.ifCond .ne 6, 3) := by decide +kernel
theorem dX0_begins_78 : decode cX0_begins 78 = .ok (.goto 34, 3) := by decide +kernel
theorem dX0_begins_81 : decode cX0_begins 81 = .ok (.aload_n 0, 1) := by decide +kernel
theorem dX0_begins_82 : decode cX0_begins 82 = .ok (.aload_n 0, 1) := by decide +kernel
theorem dX0_begins_83 : decode cX0_begins 83 = .ok (.iload 6, 2) := by decide +kernel
theorem dX0_begins_85 : decode cX0_begins 85 = .ok (.iload 4, 2) := by decide +kernel
theorem dX0_begins_87 : decode cX0_begins 87 = .ok (.invokevirtual 95, 3) := by decide +kernel
theorem dX0_begins_90 : decode cX0_begins 90 = .ok (.putfield 75, 3) := by decide +kernel
theorem dX0_begins_93 : decode cX0_begins 93 = .ok (.aload_n 0, 1) := by decide +kernel
theorem dX0_begins_94 : decode cX0_begins 94 = .ok (.iconst 0, 1) := by decide +kernel
theorem dX0_begins_95 : decode cX0_begins 95 = .ok (.putfield 68, 3) := by decide +kernel
theorem dX0_begins_98 : decode cX0_begins 98 = .ok (.aload_n 0, 1) := by decide +kernel
theorem dX0_begins_99 : decode cX0_begins 99 = .ok (.invokevirtual 82, 3) := by decide +kernel
theorem dX0_begins_102 : decode cX0_begins 102 = .ok (.aload_n 0, 1) := by decide +kernel
theorem dX0_begins_103 : decode cX0_begins 103 = .ok (.iload_n 1, 1) := by decide +kernel
theorem dX0_begins_104 : decode cX0_begins 104 = .ok (.iload_n 3, 1) := by decide +kernel
theorem dX0_begins_105 : decode cX0_begins 105 = .ok (.iconst 1, 1) := by decide +kernel
theorem dX0_begins_106 : decode cX0_begins 106 = .ok (.isub, 1) := by decide +kernel
theorem dX0_begins_107 : decode cX0_begins 107 = .ok (.invokevirtual 85, 3) := by decide +kernel
theorem dX0_begins_110 : decode cX0_begins 110 = .ok (.istore 5, 2) := by decide +kernel
theorem dX0_begins_112 : decode cX0_begins 112 = .ok (.iinc 6 1, 3) := by decide +kernel
theorem dX0_begins_115 : decode cX0_begins 115 = .ok (.goto (-73), 3) := by decide +kernel
theorem dX0_begins_118 : decode cX0_begins 118 = .ok (.aload_n 0, 1) := by decide +kernel
theorem dX0_begins_119 : decode cX0_begins 119 = .ok (.iload 4, 2) := by decide +kernel
theorem dX0_begins_121 : decode cX0_begins 121 = .ok (.putfield 75, 3) := by decide +kernel
theorem dX0_begins_124 : decode cX0_begins 124 = .ok (.aload_n 0, 1) := by decide +kernel
theorem dX0_begins_125 : decode cX0_begins 125 = .ok (.iconst 0, 1) := by decide +kernel
theorem dX0_begins_126 : decode cX0_begins 126 = .ok (.putfield 68, 3) := by decide +kernel
theorem dX0_begins_129 : decode cX0_begins 129 = .ok (.iload 5, 2) := by decide +kernel
theorem dX0_begins_131 : decode cX0_begins 131 = .ok (.ireturn, 1) := by decide +kernel
theorem dX0_isLayer_0 : decode cX0_isLayer 0 = .ok (.iconst 0, 1) := by decide +kernel
theorem dX0_isLayer_1 : decode cX0_isLayer 1 = .ok (.istore_n 3, 1) := by decide +kernel
theorem dX0_isLayer_2 : decode cX0_isLayer 2 = .ok (.iload_n 3, 1) := by decide +kernel
theorem dX0_isLayer_3 : decode cX0_isLayer 3 = .ok (.aload_n 0, 1) := by decide +kernel
theorem dX0_isLayer_4 : decode cX0_isLayer 4 = .ok (.getfield 60, 3) := by decide +kernel
theorem dX0_isLayer_7 : decode cX0_isLayer 7 = .ok (.if_icmp .ge 71, 3) := by decide +kernel
theorem dX0_isLayer_10 : decode cX0_isLayer 10 = .ok (.iload_n 1, 1) := by decide +kernel
theorem dX0_isLayer_11 : decode cX0_isLayer 11 = .ok (.iload_n 3, 1) := by decide +kernel
theorem dX0_isLayer_12 : decode cX0_isLayer 12 = .ok (.ishr, 1) := by decide +kernel
theorem dX0_isLayer_13 : decode cX0_isLayer 13 = .ok (.iconst 1, 1) := by decide +kernel
theorem dX0_isLayer_14 : decode cX0_isLayer 14 = .ok (.iand, 1) := by decide +kernel
theorem dX0_isLayer_15 : decode cX0_isLayer 15 = .ok (.ifCond .ne 6, 3) := by decide +kernel
theorem dX0_isLayer_18 : decode cX0_isLayer 18 = .ok (.goto 54, 3) := by decide +kernel
theorem dX0_isLayer_21 : decode cX0_isLayer 21 = .ok (.aload_n 0, 1) := by decide +kernel
theorem dX0_isLayer_22 : decode cX0_isLayer 22 = .ok (.getfield 7, 3) := by decide +kernel
theorem dX0_isLayer_25 : decode cX0_isLayer 25 = .ok (.iload_n 3, 1) := by decide +kernel
theorem dX0_isLayer_26 : decode cX0_isLayer 26 = .ok (.iaload, 1) := by decide +kernel
theorem dX0_isLayer_27 : decode cX0_isLayer 27 = .ok (.iload_n 2, 1) := by decide +kernel
theorem dX0_isLayer_28 : decode cX0_isLayer 28 = .ok (.iconst (-1), 1) := by decide +kernel
theorem dX0_isLayer_29 : decode cX0_isLayer 29 = .ok (.ixor, 1) := by decide +kernel
theorem dX0_isLayer_30 : decode cX0_isLayer 30 = .ok (.iand, 1) := by decide +kernel
theorem dX0_isLayer_31 : decode cX0_isLayer 31 = .ok (.ifCond .eq 5, 3) := by decide +kernel
theorem dX0_isLayer_34 : decode cX0_isLayer 34 = .ok (.iconst 0, 1) := by decide +kernel
theorem dX0_isLayer_35 : decode cX0_isLayer 35 = .ok (.ireturn, 1) := by decide +kernel
theorem dX0_isLayer_36 : decode cX0_isLayer 36 = .ok (.iconst 0, 1) := by decide +kernel
theorem dX0_isLayer_37 : decode cX0_isLayer 37 = .ok (.istore 4, 2) := by decide +kernel
theorem dX0_isLayer_39 : decode cX0_isLayer 39 = .ok (.iload 4, 2) := by decide +kernel
theorem dX0_isLayer_41 : decode cX0_isLayer 41 = .ok (.iload_n 3, 1) := by decide +kernel
theorem dX0_isLayer_42 : decode cX0_isLayer 42 = .ok (.if_icmp .ge 30, 3) := by decide +kernel
theorem dX0_isLayer_45 : decode cX0_isLayer 45 = .ok (.iload_n 1, 1) := by decide +kernel
theorem dX0_isLayer_46 : decode cX0_isLayer 46 = .ok (.iload 4, 2) := by decide +kernel
theorem dX0_isLayer_48 : decode cX0_isLayer 48 = .ok (.ishr, 1) := by decide +kernel
theorem dX0_isLayer_49 : decode cX0_isLayer 49 = .ok (.iconst 1, 1) := by decide +kernel
theorem dX0_isLayer_50 : decode cX0_isLayer 50 = .ok (.iand, 1) := by decide +kernel
theorem dX0_isLayer_51 : decode cX0_isLayer 51 = .ok (.ifCond .eq 15, 3) := by decide +kernel
theorem dX0_isLayer_54 : decode cX0_isLayer 54 = .ok (.aload_n 0, 1) := by decide +kernel
theorem dX0_isLayer_55 : decode cX0_isLayer 55 = .ok (.iload_n 3, 1) := by decide +kernel
theorem dX0_isLayer_56 : decode cX0_isLayer 56 = .ok (.iload 4, 2) := by decide +kernel
theorem dX0_isLayer_58 : decode cX0_isLayer 58 = .ok (.invokevirtual 78, 3) := by decide +kernel
theorem dX0_isLayer_61 : decode cX0_isLayer 61 = .ok (.ifCond .eq 5, 3) := by decide +kernel
theorem dX0_isLayer_64 : decode cX0_isLayer 64 = .ok (.iconst 0, 1) := by decide +kernel
theorem dX0_isLayer_65 : decode cX0_isLayer 65 = .ok (.ireturn, 1) := by decide +kernel
theorem dX0_isLayer_66 : decode cX0_isLayer 66 = .ok (.iinc 4 1, 3) := by decide +kernel
theorem dX0_isLayer_69 : decode cX0_isLayer 69 = .ok (.goto (-30), 3) := by decide +kernel
theorem dX0_isLayer_72 : decode cX0_isLayer 72 = .ok (.iinc 3 1, 3) := by decide +kernel
theorem dX0_isLayer_75 : decode cX0_isLayer 75 = .ok (.goto (-73), 3) := by decide +kernel
theorem dX0_isLayer_78 : decode cX0_isLayer 78 = .ok (.iconst 1, 1) := by decide +kernel
theorem dX0_isLayer_79 : decode cX0_isLayer 79 = .ok (.ireturn, 1) := by decide +kernel
theorem dX0_after_0 : decode cX0_after 0 = .ok (.iload_n 2, 1) := by decide +kernel
theorem dX0_after_1 : decode cX0_after 1 = .ok (.istore_n 3, 1) := by decide +kernel
theorem dX0_after_2 : decode cX0_after 2 = .ok (.iconst 0, 1) := by decide +kernel
theorem dX0_after_3 : decode cX0_after 3 = .ok (.istore 4, 2) := by decide +kernel
theorem dX0_after_5 : decode cX0_after 5 = .ok (.iload 4, 2) := by decide +kernel
theorem dX0_after_7 : decode cX0_after 7 = .ok (.aload_n 0, 1) := by decide +kernel
theorem dX0_after_8 : decode cX0_after 8 = .ok (.getfield 60, 3) := by decide +kernel
theorem dX0_after_11 : decode cX0_after 11 = .ok (.if_icmp .ge 30, 3) := by decide +kernel
theorem dX0_after_14 : decode cX0_after 14 = .ok (.iload_n 1, 1) := by decide +kernel
theorem dX0_after_15 : decode cX0_after 15 = .ok (.iload 4, 2) := by decide +kernel
theorem dX0_after_17 : decode cX0_after 17 = .ok (.ishr, 1) := by decide +kernel
theorem dX0_after_18 : decode cX0_after 18 = .ok (.iconst 1, 1) := by decide +kernel
theorem dX0_after_19 : decode cX0_after 19 = .ok (.iand, 1) := by decide +kernel
theorem dX0_after_20 : decode cX0_after 20 = .ok (.ifCond .eq 15, 3) := by decide +kernel
theorem dX0_after_23 : decode cX0_after 23 = .ok (.iload_n 3, 1) := by decide +kernel
theorem dX0_after_24 : decode cX0_after 24 = .ok (.aload_n 0, 1) := by decide +kernel
theorem dX0_after_25 : decode cX0_after 25 = .ok (.getfield 16, 3) := by decide +kernel
theorem dX0_after_28 : decode cX0_after 28 = .ok (.iload 4, 2) := by decide +kernel
theorem dX0_after_30 : decode cX0_after 30 = .ok (.iaload, 1) := by decide +kernel
theorem dX0_after_31 : decode cX0_after 31 = .ok (.iconst (-1), 1) := by decide +kernel
theorem dX0_after_32 : decode cX0_after 32 = .ok (.ixor, 1) := by decide +kernel
theorem dX0_after_33 : decode cX0_after 33 = .ok (.iand, 1) := by decide +kernel
theorem dX0_after_34 : decode cX0_after 34 = .ok (.istore_n 3, 1) := by decide +kernel
theorem dX0_after_35 : decode cX0_after 35 = .ok (.iinc 4 1, 3) := by decide +kernel
theorem dX0_after_38 : decode cX0_after 38 = .ok (.goto (-33), 3) := by decide +kernel
theorem dX0_after_41 : decode cX0_after 41 = .ok (.iconst 0, 1) := by decide +kernel
theorem dX0_after_42 : decode cX0_after 42 = .ok (.istore 4, 2) := by decide +kernel
theorem dX0_after_44 : decode cX0_after 44 = .ok (.iload 4, 2) := by decide +kernel
theorem dX0_after_46 : decode cX0_after 46 = .ok (.aload_n 0, 1) := by decide +kernel
theorem dX0_after_47 : decode cX0_after 47 = .ok (.getfield 60, 3) := by decide +kernel
theorem dX0_after_50 : decode cX0_after 50 = .ok (.if_icmp .ge 28, 3) := by decide +kernel
theorem dX0_after_53 : decode cX0_after 53 = .ok (.iload_n 1, 1) := by decide +kernel
theorem dX0_after_54 : decode cX0_after 54 = .ok (.iload 4, 2) := by decide +kernel
theorem dX0_after_56 : decode cX0_after 56 = .ok (.ishr, 1) := by decide +kernel
theorem dX0_after_57 : decode cX0_after 57 = .ok (.iconst 1, 1) := by decide +kernel
theorem dX0_after_58 : decode cX0_after 58 = .ok (.iand, 1) := by decide +kernel
theorem dX0_after_59 : decode cX0_after 59 = .ok (.ifCond .eq 13, 3) := by decide +kernel
theorem dX0_after_62 : decode cX0_after 62 = .ok (.iload_n 3, 1) := by decide +kernel
theorem dX0_after_63 : decode cX0_after 63 = .ok (.aload_n 0, 1) := by decide +kernel
theorem dX0_after_64 : decode cX0_after 64 = .ok (.getfield 13, 3) := by decide +kernel
theorem dX0_after_67 : decode cX0_after 67 = .ok (.iload 4, 2) := by decide +kernel
theorem dX0_after_69 : decode cX0_after 69 = .ok (.iaload, 1) := by decide +kernel
theorem dX0_after_70 : decode cX0_after 70 = .ok (.ior, 1) := by decide +kernel
theorem dX0_after_71 : decode cX0_after 71 = .ok (.istore_n 3, 1) := by decide +kernel
theorem dX0_after_72 : decode cX0_after 72 = .ok (.iinc 4 1, 3) := by decide +kernel
theorem dX0_after_75 : decode cX0_after 75 = .ok (.goto (-31), 3) := by decide +kernel
theorem dX0_after_78 : decode cX0_after 78 = .ok (.iload_n 3, 1) := by decide +kernel
theorem dX0_after_79 : decode cX0_after 79 = .ok (.ireturn, 1) := by decide +kernel
theorem dX0_advance_0 : decode cX0_advance 0 = .ok (.iload_n 1, 1) := by decide +kernel
theorem dX0_advance_1 : decode cX0_advance 1 = .ok (.ifCond .lt 25, 3) := by decide +kernel
theorem dX0_advance_4 : decode cX0_advance 4 = .ok (.iload_n 1, 1) := by decide +kernel
theorem dX0_advance_5 : decode cX0_advance 5 = .ok (.iconst 1, 1) := by decide +kernel
theorem dX0_advance_6 : decode cX0_advance 6 = .ok (.aload_n 0, 1) := by decide +kernel
theorem dX0_advance_7 : decode cX0_advance 7 = .ok (.getfield 60, 3) := by decide +kernel
theorem dX0_advance_10 : decode cX0_advance 10 = .ok (.ishl, 1) := by decide +kernel
theorem dX0_advance_11 : decode cX0_advance 11 = .ok (.if_icmp .ge 15, 3) := by decide +kernel
theorem dX0_advance_14 : decode cX0_advance 14 = .ok (.aload_n 0, 1) := by decide +kernel
theorem dX0_advance_15 : decode cX0_advance 15 = .ok (.iload_n 1, 1) := by decide +kernel
theorem dX0_advance_16 : decode cX0_advance 16 = .ok (.aload_n 0, 1) := by decide +kernel
theorem dX0_advance_17 : decode cX0_advance 17 = .ok (.getfield 75, 3) := by decide +kernel
theorem dX0_advance_20 : decode cX0_advance 20 = .ok (.invokevirtual 92, 3) := by decide +kernel
theorem dX0_advance_23 : decode cX0_advance 23 = .ok (.ifCond .ne 5, 3) := by decide +kernel
theorem dX0_advance_26 : decode cX0_advance 26 = .ok (.iconst 0, 1) := by decide +kernel
theorem dX0_advance_27 : decode cX0_advance 27 = .ok (.ireturn, 1) := by decide +kernel
theorem dX0_advance_28 : decode cX0_advance 28 = .ok (.aload_n 0, 1) := by decide +kernel
theorem dX0_advance_29 : decode cX0_advance 29 = .ok (.aload_n 0, 1) := by decide +kernel
theorem dX0_advance_30 : decode cX0_advance 30 = .ok (.iload_n 1, 1) := by decide +kernel
theorem dX0_advance_31 : decode cX0_advance 31 = .ok (.aload_n 0, 1) := by decide +kernel
theorem dX0_advance_32 : decode cX0_advance 32 = .ok (.getfield 75, 3) := by decide +kernel
theorem dX0_advance_35 : decode cX0_advance 35 = .ok (.invokevirtual 95, 3) := by decide +kernel
theorem dX0_advance_38 : decode cX0_advance 38 = .ok (.putfield 75, 3) := by decide +kernel
theorem dX0_advance_41 : decode cX0_advance 41 = .ok (.aload_n 0, 1) := by decide +kernel
theorem dX0_advance_42 : decode cX0_advance 42 = .ok (.iconst 0, 1) := by decide +kernel
theorem dX0_advance_43 : decode cX0_advance 43 = .ok (.putfield 68, 3) := by decide +kernel
theorem dX0_advance_46 : decode cX0_advance 46 = .ok (.iconst 1, 1) := by decide +kernel
theorem dX0_advance_47 : decode cX0_advance 47 = .ok (.ireturn, 1) := by decide +kernel
theorem dX0_state_0 : decode cX0_state 0 = .ok (.aload_n 0, 1) := by decide +kernel
theorem dX0_state_1 : decode cX0_state 1 = .ok (.getfield 75, 3) := by decide +kernel
theorem dX0_state_4 : decode cX0_state 4 = .ok (.ireturn, 1) := by decide +kernel
end
section
set_option maxRecDepth 100000
theorem dX1_init_0 : decode cX1_init 0 = .ok (.aload_n 0, 1) := by decide +kernel
theorem dX1_init_1 : decode cX1_init 1 = .ok (.invokespecial 1, 3) := by decide +kernel
theorem dX1_init_4 : decode cX1_init 4 = .ok (.aload_n 0, 1) := by decide +kernel
theorem dX1_init_5 : decode cX1_init 5 = .ok (.bipush 7, 2) := by decide +kernel
theorem dX1_init_7 : decode cX1_init 7 = .ok (.newarray .int, 2) := by decide +kernel
theorem dX1_init_9 : decode cX1_init 9 = .ok (.putfield 7, 3) := by decide +kernel
theorem dX1_init_12 : decode cX1_init 12 = .ok (.aload_n 0, 1) := by decide +kernel
theorem dX1_init_13 : decode cX1_init 13 = .ok (.bipush 7, 2) := by decide +kernel
theorem dX1_init_15 : decode cX1_init 15 = .ok (.newarray .int, 2) := by decide +kernel
theorem dX1_init_17 : decode cX1_init 17 = .ok (.putfield 13, 3) := by decide +kernel
theorem dX1_init_20 : decode cX1_init 20 = .ok (.aload_n 0, 1) := by decide +kernel
theorem dX1_init_21 : decode cX1_init 21 = .ok (.bipush 7, 2) := by decide +kernel
theorem dX1_init_23 : decode cX1_init 23 = .ok (.newarray .int, 2) := by decide +kernel
theorem dX1_init_25 : decode cX1_init 25 = .ok (.putfield 16, 3) := by decide +kernel
theorem dX1_init_28 : decode cX1_init 28 = .ok (.aload_n 0, 1) := by decide +kernel
theorem dX1_init_29 : decode cX1_init 29 = .ok (.sipush 2304, 3) := by decide +kernel
theorem dX1_init_32 : decode cX1_init 32 = .ok (.newarray .boolean, 2) := by decide +kernel
theorem dX1_init_34 : decode cX1_init 34 = .ok (.putfield 19, 3) := by decide +kernel
theorem dX1_init_37 : decode cX1_init 37 = .ok (.return_, 1) := by decide +kernel
theorem dX1_action_0 : decode cX1_action 0 = .ok (.aload_n 0, 1) := by decide +kernel
theorem dX1_action_1 : decode cX1_action 1 = .ok (.getfield 23, 3) := by decide +kernel
theorem dX1_action_4 : decode cX1_action 4 = .ok (.bipush 7, 2) := by decide +kernel
theorem dX1_action_6 : decode cX1_action 6 = .ok (.if_icmp .ne 6, 3) := by decide +kernel
theorem dX1_action_9 : decode cX1_action 9 = .ok (.bipush (-2), 2) := by decide +kernel
theorem dX1_action_11 : decode cX1_action 11 = .ok (.ireturn, 1) := by decide +kernel
theorem dX1_action_12 : decode cX1_action 12 = .ok (.aload_n 0, 1) := by decide +kernel
theorem dX1_action_13 : decode cX1_action 13 = .ok (.iload_n 1, 1) := by decide +kernel
theorem dX1_action_14 : decode cX1_action 14 = .ok (.invokevirtual 27, 3) := by decide +kernel
theorem dX1_action_17 : decode cX1_action 17 = .ok (.ifCond .eq 19, 3) := by decide +kernel
theorem dX1_action_20 : decode cX1_action 20 = .ok (.aload_n 0, 1) := by decide +kernel
theorem dX1_action_21 : decode cX1_action 21 = .ok (.iload_n 2, 1) := by decide +kernel
theorem dX1_action_22 : decode cX1_action 22 = .ok (.invokevirtual 27, 3) := by decide +kernel
theorem dX1_action_25 : decode cX1_action 25 = .ok (.ifCond .eq 11, 3) := by decide +kernel
theorem dX1_action_28 : decode cX1_action 28 = .ok (.aload_n 0, 1) := by decide +kernel
theorem dX1_action_29 : decode cX1_action 29 = .ok (.iload_n 3, 1) := by decide +kernel
theorem dX1_action_30 : decode cX1_action 30 = .ok (.invokevirtual 27, 3) := by decide +kernel
theorem dX1_action_33 : decode cX1_action 33 = .ok (.ifCond .ne 5, 3) := by decide +kernel
theorem dX1_action_36 : decode cX1_action 36 = .ok (.iconst (-1), 1) := by decide +kernel
theorem dX1_action_37 : decode cX1_action 37 = .ok (.ireturn, 1) := by decide +kernel
theorem dX1_action_38 : decode cX1_action 38 = .ok (.aload_n 0, 1) := by decide +kernel
theorem dX1_action_39 : decode cX1_action 39 = .ok (.getfield 7, 3) := by decide +kernel
theorem dX1_action_42 : decode cX1_action 42 = .ok (.aload_n 0, 1) := by decide +kernel
theorem dX1_action_43 : decode cX1_action 43 = .ok (.getfield 23, 3) := by decide +kernel
theorem dX1_action_46 : decode cX1_action 46 = .ok (.iload_n 1, 1) := by decide +kernel
theorem dX1_action_47 : decode cX1_action 47 = .ok (.iastore, 1) := by decide +kernel
theorem dX1_action_48 : decode cX1_action 48 = .ok (.aload_n 0, 1) := by decide +kernel
theorem dX1_action_49 : decode cX1_action 49 = .ok (.getfield 13, 3) := by decide +kernel
theorem dX1_action_52 : decode cX1_action 52 = .ok (.aload_n 0, 1) := by decide +kernel
theorem dX1_action_53 : decode cX1_action 53 = .ok (.getfield 23, 3) := by decide +kernel
theorem dX1_action_56 : decode cX1_action 56 = .ok (.iload_n 2, 1) := by decide +kernel
theorem dX1_action_57 : decode cX1_action 57 = .ok (.iastore, 1) := by decide +kernel
theorem dX1_action_58 : decode cX1_action 58 = .ok (.aload_n 0, 1) := by decide +kernel
theorem dX1_action_59 : decode cX1_action 59 = .ok (.getfield 16, 3) := by decide +kernel
theorem dX1_action_62 : decode cX1_action 62 = .ok (.aload_n 0, 1) := by decide +kernel
theorem dX1_action_63 : decode cX1_action 63 = .ok (.getfield 23, 3) := by decide +kernel
theorem dX1_action_66 : decode cX1_action 66 = .ok (.iload_n 3, 1) := by decide +kernel
theorem dX1_action_67 : decode cX1_action 67 = .ok (.iastore, 1) := by decide +kernel
theorem dX1_action_68 : decode cX1_action 68 = .ok (.aload_n 0, 1) := by decide +kernel
theorem dX1_action_69 : decode cX1_action 69 = .ok (.dup, 1) := by decide +kernel
theorem dX1_action_70 : decode cX1_action 70 = .ok (.getfield 23, 3) := by decide +kernel
theorem dX1_action_73 : decode cX1_action 73 = .ok (.iconst 1, 1) := by decide +kernel
theorem dX1_action_74 : decode cX1_action 74 = .ok (.iadd, 1) := by decide +kernel
theorem dX1_action_75 : decode cX1_action 75 = .ok (.putfield 23, 3) := by decide +kernel
theorem dX1_action_78 : decode cX1_action 78 = .ok (.aload_n 0, 1) := by decide +kernel
theorem dX1_action_79 : decode cX1_action 79 = .ok (.getfield 23, 3) := by decide +kernel
theorem dX1_action_82 : decode cX1_action 82 = .ok (.iconst 1, 1) := by decide +kernel
theorem dX1_action_83 : decode cX1_action 83 = .ok (.isub, 1) := by decide +kernel
theorem dX1_action_84 : decode cX1_action 84 = .ok (.ireturn, 1) := by decide +kernel
theorem dX1_isSet_0 : decode cX1_isSet 0 = .ok (.iload_n 1, 1) := by decide +kernel
theorem dX1_isSet_1 : decode cX1_isSet 1 = .ok (.ifCond .lt 14, 3) := by decide +kernel
theorem dX1_isSet_4 : decode cX1_isSet 4 = .ok (.iload_n 1, 1) := by decide +kernel
theorem dX1_isSet_5 : decode cX1_isSet 5 = .ok (.sipush 255, 3) := by decide +kernel
theorem dX1_isSet_8 : decode cX1_isSet 8 = .ok (.if_icmp .gt 7, 3) := by decide +kernel
theorem dX1_isSet_11 : decode cX1_isSet 11 = .ok (.iconst 1, 1) := by decide +kernel
theorem dX1_isSet_12 : decode cX1_isSet 12 = .ok (.goto 4, 3) := by decide +kernel
theorem dX1_isSet_15 : decode cX1_isSet 15 = .ok (.iconst 0, 1) := by decide +kernel
theorem dX1_isSet_16 : decode cX1_isSet 16 = .ok (.ireturn, 1) := by decide +kernel
theorem dX1_drop_0 : decode cX1_drop 0 = .ok (.aload_n 0, 1) := by decide +kernel
theorem dX1_drop_1 : decode cX1_drop 1 = .ok (.iload_n 1, 1) := by decide +kernel
theorem dX1_drop_2 : decode cX1_drop 2 = .ok (.invokevirtual 31, 3) := by decide +kernel
theorem dX1_drop_5 : decode cX1_drop 5 = .ok (.ifCond .ne 5, 3) := by decide +kernel
theorem dX1_drop_8 : decode cX1_drop 8 = .ok (.iconst (-1), 1) := by decide +kernel
theorem dX1_drop_9 : decode cX1_drop 9 = .ok (.ireturn, 1) := by decide +kernel
theorem dX1_drop_10 : decode cX1_drop 10 = .ok (.aload_n 0, 1) := by decide +kernel
theorem dX1_drop_11 : decode cX1_drop 11 = .ok (.dup, 1) := by decide +kernel
theorem dX1_drop_12 : decode cX1_drop 12 = .ok (.getfield 23, 3) := by decide +kernel
theorem dX1_drop_15 : decode cX1_drop 15 = .ok (.iconst 1, 1) := by decide +kernel
theorem dX1_drop_16 : decode cX1_drop 16 = .ok (.isub, 1) := by decide +kernel
theorem dX1_drop_17 : decode cX1_drop 17 = .ok (.putfield 23, 3) := by decide +kernel
theorem dX1_drop_20 : decode cX1_drop 20 = .ok (.iload_n 1, 1) := by decide +kernel
theorem dX1_drop_21 : decode cX1_drop 21 = .ok (.istore_n 2, 1) := by decide +kernel
theorem dX1_drop_22 : decode cX1_drop 22 = .ok (.iload_n 2, 1) := by decide +kernel
theorem dX1_drop_23 : decode cX1_drop 23 = .ok (.aload_n 0, 1) := by decide +kernel
theorem dX1_drop_24 : decode cX1_drop 24 = .ok (.getfield 23, 3) := by decide +kernel
theorem dX1_drop_27 : decode cX1_drop 27 = .ok (.if_icmp .ge 51, 3) := by decide +kernel
theorem dX1_drop_30 : decode cX1_drop 30 = .ok (.aload_n 0, 1) := by decide +kernel
theorem dX1_drop_31 : decode cX1_drop 31 = .ok (.getfield 7, 3) := by decide +kernel
theorem dX1_drop_34 : decode cX1_drop 34 = .ok (.iload_n 2, 1) := by decide +kernel
theorem dX1_drop_35 : decode cX1_drop 35 = .ok (.aload_n 0, 1) := by decide +kernel
theorem dX1_drop_36 : decode cX1_drop 36 = .ok (.getfield 7, 3) := by decide +kernel
theorem dX1_drop_39 : decode cX1_drop 39 = .ok (.iload_n 2, 1) := by decide +kernel
theorem dX1_drop_40 : decode cX1_drop 40 = .ok (.iconst 1, 1) := by decide +kernel
theorem dX1_drop_41 : decode cX1_drop 41 = .ok (.iadd, 1) := by decide +kernel
theorem dX1_drop_42 : decode cX1_drop 42 = .ok (.iaload, 1) := by decide +kernel
theorem dX1_drop_43 : decode cX1_drop 43 = .ok (.iastore, 1) := by decide +kernel
theorem dX1_drop_44 : decode cX1_drop 44 = .ok (.aload_n 0, 1) := by decide +kernel
theorem dX1_drop_45 : decode cX1_drop 45 = .ok (.getfield 13, 3) := by decide +kernel
theorem dX1_drop_48 : decode cX1_drop 48 = .ok (.iload_n 2, 1) := by decide +kernel
theorem dX1_drop_49 : decode cX1_drop 49 = .ok (.aload_n 0, 1) := by decide +kernel
theorem dX1_drop_50 : decode cX1_drop 50 = .ok (.getfield 13, 3) := by decide +kernel
theorem dX1_drop_53 : decode cX1_drop 53 = .ok (.iload_n 2, 1) := by decide +kernel
theorem dX1_drop_54 : decode cX1_drop 54 = .ok (.iconst 1, 1) := by decide +kernel
theorem dX1_drop_55 : decode cX1_drop 55 = .ok (.iadd, 1) := by decide +kernel
theorem dX1_drop_56 : decode cX1_drop 56 = .ok (.iaload, 1) := by decide +kernel
theorem dX1_drop_57 : decode cX1_drop 57 = .ok (.iastore, 1) := by decide +kernel
theorem dX1_drop_58 : decode cX1_drop 58 = .ok (.aload_n 0, 1) := by decide +kernel
theorem dX1_drop_59 : decode cX1_drop 59 = .ok (.getfield 16, 3) := by decide +kernel
theorem dX1_drop_62 : decode cX1_drop 62 = .ok (.iload_n 2, 1) := by decide +kernel
theorem dX1_drop_63 : decode cX1_drop 63 = .ok (.aload_n 0, 1) := by decide +kernel
theorem dX1_drop_64 : decode cX1_drop 64 = .ok (.getfield 16, 3) := by decide +kernel
theorem dX1_drop_67 : decode cX1_drop 67 = .ok (.iload_n 2, 1) := by decide +kernel
theorem dX1_drop_68 : decode cX1_drop 68 = .ok (.iconst 1, 1) := by decide +kernel
theorem dX1_drop_69 : decode cX1_drop 69 = .ok (.iadd, 1) := by decide +kernel
theorem dX1_drop_70 : decode cX1_drop 70 = .ok (.iaload, 1) := by decide +kernel
theorem dX1_drop_71 : decode cX1_drop 71 = .ok (.iastore, 1) := by decide +kernel
theorem dX1_drop_72 : decode cX1_drop 72 = .ok (.iinc 2 1, 3) := by decide +kernel
theorem dX1_drop_75 : decode cX1_drop 75 = .ok (.goto (-53), 3) := by decide +kernel
theorem dX1_drop_78 : decode cX1_drop 78 = .ok (.aload_n 0, 1) := by decide +kernel
theorem dX1_drop_79 : decode cX1_drop 79 = .ok (.getfield 23, 3) := by decide +kernel
theorem dX1_drop_82 : decode cX1_drop 82 = .ok (.ireturn, 1) := by decide +kernel
theorem dX1_isAction_0 : decode cX1_isAction 0 = .ok (.iload_n 1, 1) := by decide +kernel
theorem dX1_isAction_1 : decode cX1_isAction 1 = .ok (.ifCond .lt 15, 3) := by decide +kernel
theorem dX1_isAction_4 : decode cX1_isAction 4 = .ok (.iload_n 1, 1) := by decide +kernel
theorem dX1_isAction_5 : decode cX1_isAction 5 = .ok (.aload_n 0, 1) := by decide +kernel
theorem dX1_isAction_6 : decode cX1_isAction 6 = .ok (.getfield 23, 3) := by decide +kernel
theorem dX1_isAction_9 : decode cX1_isAction 9 = .ok (.if_icmp .ge 7, 3) := by decide +kernel
theorem dX1_isAction_12 : decode cX1_isAction 12 = .ok (.iconst 1, 1) := by decide +kernel
theorem dX1_isAction_13 : decode cX1_isAction 13 = .ok (.goto 4, 3) := by decide +kernel
theorem dX1_isAction_16 : decode cX1_isAction 16 = .ok (.iconst 0, 1) := by decide +kernel
theorem dX1_isAction_17 : decode cX1_isAction 17 = .ok (.ireturn, 1) := by decide +kernel
theorem dX1_start_0 : decode cX1_start 0 = .ok (.aload_n 0, 1) := by decide +kernel
theorem dX1_start_1 : decode cX1_start 1 = .ok (.iload_n 1, 1) := by decide +kernel
theorem dX1_start_2 : decode cX1_start 2 = .ok (.invokevirtual 27, 3) := by decide +kernel
theorem dX1_start_5 : decode cX1_start 5 = .ok (.ifCond .ne 5, 3) := by decide +kernel
theorem dX1_start_8 : decode cX1_start 8 = .ok (.iconst 0, 1) := by decide +kernel
theorem dX1_start_9 : decode cX1_start 9 = .ok (.ireturn, 1) := by decide +kernel
theorem dX1_start_10 : decode cX1_start 10 = .ok (.aload_n 0, 1) := by decide +kernel
theorem dX1_start_11 : decode cX1_start 11 = .ok (.iload_n 1, 1) := by decide +kernel
theorem dX1_start_12 : decode cX1_start 12 = .ok (.putfield 34, 3) := by decide +kernel
theorem dX1_start_15 : decode cX1_start 15 = .ok (.iconst 1, 1) := by decide +kernel
theorem dX1_start_16 : decode cX1_start 16 = .ok (.ireturn, 1) := by decide +kernel
theorem dX1_clash_0 : decode cX1_clash 0 = .ok (.aload_n 0, 1) := by decide +kernel
theorem dX1_clash_1 : decode cX1_clash 1 = .ok (.iload_n 1, 1) := by decide +kernel
theorem dX1_clash_2 : decode cX1_clash 2 = .ok (.invokevirtual 31, 3) := by decide +kernel
theorem dX1_clash_5 : decode cX1_clash 5 = .ok (.ifCond .eq 16, 3) := by decide +kernel
theorem dX1_clash_8 : decode cX1_clash 8 = .ok (.aload_n 0, 1) := by decide +kernel
theorem dX1_clash_9 : decode cX1_clash 9 = .ok (.iload_n 2, 1) := by decide +kernel
theorem dX1_clash_10 : decode cX1_clash 10 = .ok (.invokevirtual 31, 3) := by decide +kernel
theorem dX1_clash_13 : decode cX1_clash 13 = .ok (.ifCond .eq 8, 3) := by decide +kernel
theorem dX1_clash_16 : decode cX1_clash 16 = .ok (.iload_n 1, 1) := by decide +kernel
theorem dX1_clash_17 : decode cX1_clash 17 = .ok (.iload_n 2, 1) := by decide +kernel
theorem dX1_clash_18 : decode cX1_clash 18 = .ok (.if_icmp .ne 5, 3) := by decide +kernel
theorem dX1_clash_21 : decode cX1_clash 21 = .ok (.iconst 0, 1) := by decide +kernel
theorem dX1_clash_22 : decode cX1_clash 22 = .ok (.ireturn, 1) := by decide +kernel
theorem dX1_clash_23 : decode cX1_clash 23 = .ok (.aload_n 0, 1) := by decide +kernel
theorem dX1_clash_24 : decode cX1_clash 24 = .ok (.getfield 16, 3) := by decide +kernel
theorem dX1_clash_27 : decode cX1_clash 27 = .ok (.iload_n 1, 1) := by decide +kernel
theorem dX1_clash_28 : decode cX1_clash 28 = .ok (.iaload, 1) := by decide +kernel
theorem dX1_clash_29 : decode cX1_clash 29 = .ok (.aload_n 0, 1) := by decide +kernel
theorem dX1_clash_30 : decode cX1_clash 30 = .ok (.getfield 7, 3) := by decide +kernel
theorem dX1_clash_33 : decode cX1_clash 33 = .ok (.iload_n 2, 1) := by decide +kernel
theorem dX1_clash_34 : decode cX1_clash 34 = .ok (.iaload, 1) := by decide +kernel
theorem dX1_clash_35 : decode cX1_clash 35 = .ok (.aload_n 0, 1) := by decide +kernel
theorem dX1_clash_36 : decode cX1_clash 36 = .ok (.getfield 13, 3) := by decide +kernel
theorem dX1_clash_39 : decode cX1_clash 39 = .ok (.iload_n 2, 1) := by decide +kernel
theorem dX1_clash_40 : decode cX1_clash 40 = .ok (.iaload, 1) := by decide +kernel
theorem dX1_clash_41 : decode cX1_clash 41 = .ok (.ior, 1) := by decide +kernel
theorem dX1_clash_42 : decode cX1_clash 42 = .ok (.iand, 1) := by decide +kernel
theorem dX1_clash_43 : decode cX1_clash 43 = .ok (.ifCond .ne 26, 3) := by decide +kernel
theorem dX1_clash_46 : decode cX1_clash 46 = .ok (.aload_n 0, 1) := by decide +kernel
theorem dX1_clash_47 : decode cX1_clash 47 = .ok (.getfield 16, 3) := by decide +kernel
theorem dX1_clash_50 : decode cX1_clash 50 = .ok (.iload_n 2, 1) := by decide +kernel
theorem dX1_clash_51 : decode cX1_clash 51 = .ok (.iaload, 1) := by decide +kernel
theorem dX1_clash_52 : decode cX1_clash 52 = .ok (.aload_n 0, 1) := by decide +kernel
theorem dX1_clash_53 : decode cX1_clash 53 = .ok (.getfield 7, 3) := by decide +kernel
theorem dX1_clash_56 : decode cX1_clash 56 = .ok (.iload_n 1, 1) := by decide +kernel
theorem dX1_clash_57 : decode cX1_clash 57 = .ok (.iaload, 1) := by decide +kernel
theorem dX1_clash_58 : decode cX1_clash 58 = .ok (.aload_n 0, 1) := by decide +kernel
theorem dX1_clash_59 : decode cX1_clash 59 = .ok (.getfield 13, 3) := by decide +kernel
theorem dX1_clash_62 : decode cX1_clash 62 = .ok (.iload_n 1, 1) := by decide +kernel
theorem dX1_clash_63 : decode cX1_clash 63 = .ok (.iaload, 1) := by decide +kernel
theorem dX1_clash_64 : decode cX1_clash 64 = .ok (.ior, 1) := by decide +kernel
theorem dX1_clash_65 : decode cX1_clash 65 = .ok (.iand, 1) := by decide +kernel
theorem dX1_clash_66 : decode cX1_clash 66 = .ok (.ifCond .eq 7, 3) := by decide +kernel
theorem dX1_clash_69 : decode cX1_clash 69 = .ok (.iconst 1, 1) := by decide +kernel
theorem dX1_clash_70 : decode cX1_clash 70 = .ok (.goto 4, 3) := by decide +kernel
theorem dX1_clash_73 : decode cX1_clash 73 = .ok (.iconst 0, 1) := by decide +kernel
theorem dX1_clash_74 : decode cX1_clash 74 = .ok (.ireturn, 1) := by decide +kernel
theorem dX1_fewest_0 : decode cX1_fewest 0 = .ok (.aload_n 0, 1) := by decide +kernel
theorem dX1_fewest_1 : decode cX1_fewest 1 = .ok (.iload_n 1, 1) := by decide +kernel
theorem dX1_fewest_2 : decode cX1_fewest 2 = .ok (.invokevirtual 27, 3) := by decide +kernel
theorem dX1_fewest_5 : decode cX1_fewest 5 = .ok (.ifCond .ne 5, 3) := by decide +kernel
theorem dX1_fewest_8 : decode cX1_fewest 8 = .ok (.iconst (-1), 1) := by decide +kernel
theorem dX1_fewest_9 : decode cX1_fewest 9 = .ok (.ireturn, 1) := by decide +kernel
theorem dX1_fewest_10 : decode cX1_fewest 10 = .ok (.aload_n 0, 1) := by decide +kernel
theorem dX1_fewest_11 : decode cX1_fewest 11 = .ok (.aload_n 0, 1) := by decide +kernel
theorem dX1_fewest_12 : decode cX1_fewest 12 = .ok (.getfield 34, 3) := by decide +kernel
theorem dX1_fewest_15 : decode cX1_fewest 15 = .ok (.invokevirtual 45, 3) := by decide +kernel
theorem dX1_fewest_18 : decode cX1_fewest 18 = .ok (.iconst 0, 1) := by decide +kernel
theorem dX1_fewest_19 : decode cX1_fewest 19 = .ok (.istore_n 2, 1) := by decide +kernel
theorem dX1_fewest_20 : decode cX1_fewest 20 = .ok (.iload_n 2, 1) := by decide +kernel
theorem dX1_fewest_21 : decode cX1_fewest 21 = .ok (.bipush 8, 2) := by decide +kernel
theorem dX1_fewest_23 : decode cX1_fewest 23 = .ok (.if_icmp .gt 20, 3) := by decide +kernel
theorem dX1_fewest_26 : decode cX1_fewest 26 = .ok (.aload_n 0, 1) := by decide +kernel
theorem dX1_fewest_27 : decode cX1_fewest 27 = .ok (.iload_n 1, 1) := by decide +kernel
theorem dX1_fewest_28 : decode cX1_fewest 28 = .ok (.iload_n 2, 1) := by decide +kernel
theorem dX1_fewest_29 : decode cX1_fewest 29 = .ok (.invokevirtual 49, 3) := by decide +kernel
theorem dX1_fewest_32 : decode cX1_fewest 32 = .ok (.ifCond .eq 5, 3) := by decide +kernel
theorem dX1_fewest_35 : decode cX1_fewest 35 = .ok (.iload_n 2, 1) := by decide +kernel
theorem dX1_fewest_36 : decode cX1_fewest 36 = .ok (.ireturn, 1) := by decide +kernel
theorem dX1_fewest_37 : decode cX1_fewest 37 = .ok (.iinc 2 1, 3) := by decide +kernel
theorem dX1_fewest_40 : decode cX1_fewest 40 = .ok (.goto (-20), 3) := by decide +kernel
theorem dX1_fewest_43 : decode cX1_fewest 43 = .ok (.bipush (-3), 2) := by decide +kernel
theorem dX1_fewest_45 : decode cX1_fewest 45 = .ok (.ireturn, 1) := by decide +kernel
theorem dX1_setOut_0 : decode cX1_setOut 0 = .ok (.iconst 0, 1) := by decide +kernel
theorem dX1_setOut_1 : decode cX1_setOut 1 = .ok (.istore_n 2, 1) := by decide +kernel
theorem dX1_setOut_2 : decode cX1_setOut 2 = .ok (.iload_n 2, 1) := by decide +kernel
theorem dX1_setOut_3 : decode cX1_setOut 3 = .ok (.sipush 2304, 3) := by decide +kernel
theorem dX1_setOut_6 : decode cX1_setOut 6 = .ok (.if_icmp .ge 25, 3) := by decide +kernel
theorem dX1_setOut_9 : decode cX1_setOut 9 = .ok (.aload_n 0, 1) := by decide +kernel
theorem dX1_setOut_10 : decode cX1_setOut 10 = .ok (.getfield 19, 3) := by decide +kernel
theorem dX1_setOut_13 : decode cX1_setOut 13 = .ok (.iload_n 2, 1) := by decide +kernel
theorem dX1_setOut_14 : decode cX1_setOut 14 = .ok (.iload_n 2, 1) := by decide +kernel
theorem dX1_setOut_15 : decode cX1_setOut 15 = .ok (.iload_n 1, 1) := by decide +kernel
theorem dX1_setOut_16 : decode cX1_setOut 16 = .ok (.if_icmp .ne 7, 3) := by decide +kernel
theorem dX1_setOut_19 : decode cX1_setOut 19 = .ok (.iconst 1, 1) := by decide +kernel
theorem dX1_setOut_20 : decode cX1_setOut 20 = .ok (.goto 4, 3) := by decide +kernel
theorem dX1_setOut_23 : decode cX1_setOut 23 = .ok (.iconst 0, 1) := by decide +kernel
theorem dX1_setOut_24 : decode cX1_setOut 24 = .ok (.bastore, 1) := by decide +kernel
theorem dX1_setOut_25 : decode cX1_setOut 25 = .ok (.iinc 2 1, 3) := by decide +kernel
theorem dX1_setOut_28 : decode cX1_setOut 28 = .ok (.goto (-26), 3) := by decide +kernel
theorem dX1_setOut_31 : decode cX1_setOut 31 = .ok (.iconst 0, 1) := by decide +kernel
theorem dX1_setOut_32 : decode cX1_setOut 32 = .ok (.istore_n 2, 1) := by decide +kernel
theorem dX1_setOut_33 : decode cX1_setOut 33 = .ok (.iload_n 2, 1) := by decide +kernel
theorem dX1_setOut_34 : decode cX1_setOut 34 = .ok (.sipush 2048, 3) := by decide +kernel
theorem dX1_setOut_37 : decode cX1_setOut 37 = .ok (.if_icmp .ge 75, 3) := by decide +kernel
theorem dX1_setOut_40 : decode cX1_setOut 40 = .ok (.iconst 0, 1) := by decide +kernel
theorem dX1_setOut_41 : decode cX1_setOut 41 = .ok (.istore_n 3, 1) := by decide +kernel
theorem dX1_setOut_42 : decode cX1_setOut 42 = .ok (.aload_n 0, 1) := by decide +kernel
theorem dX1_setOut_43 : decode cX1_setOut 43 = .ok (.getfield 19, 3) := by decide +kernel
theorem dX1_setOut_46 : decode cX1_setOut 46 = .ok (.iload_n 2, 1) := by decide +kernel
theorem dX1_setOut_47 : decode cX1_setOut 47 = .ok (.baload, 1) := by decide +kernel
theorem dX1_setOut_48 : decode cX1_setOut 48 = .ok (.ifCond .eq 58, 3) := by decide +kernel
theorem dX1_setOut_51 : decode cX1_setOut 51 = .ok (.iload_n 3, 1) := by decide +kernel
theorem dX1_setOut_52 : decode cX1_setOut 52 = .ok (.iconst 1, 1) := by decide +kernel
theorem dX1_setOut_53 : decode cX1_setOut 53 = .ok (.aload_n 0, 1) := by decide +kernel
theorem dX1_setOut_54 : decode cX1_setOut 54 = .ok (.getfield 23, 3) := by decide +kernel
theorem dX1_setOut_57 : decode cX1_setOut 57 = .ok (.ishl, 1) := by decide +kernel
theorem dX1_setOut_58 : decode cX1_setOut 58 = .ok (.if_icmp .ge 48, 3) := by decide +kernel
theorem dX1_setOut_61 : decode cX1_setOut 61 = .ok (.aload_n 0, 1) := by decide +kernel
theorem dX1_setOut_62 : decode cX1_setOut 62 = .ok (.iload_n 2, 1) := by decide +kernel
theorem dX1_setOut_63 : decode cX1_setOut 63 = .ok (.sipush 256, 3) := by decide +kernel
theorem dX1_setOut_66 : decode cX1_setOut 66 = .ok (.irem, 1) := by decide +kernel
theorem dX1_setOut_67 : decode cX1_setOut 67 = .ok (.iload_n 3, 1) := by decide +kernel
theorem dX1_setOut_68 : decode cX1_setOut 68 = .ok (.invokevirtual 41, 3) := by decide +kernel
theorem dX1_setOut_71 : decode cX1_setOut 71 = .ok (.istore 4, 2) := by decide +kernel
theorem dX1_setOut_73 : decode cX1_setOut 73 = .ok (.iload 4, 2) := by decide +kernel
theorem dX1_setOut_75 : decode cX1_setOut 75 = .ok (.ifCond .lt 25, 3) := by decide +kernel
theorem dX1_setOut_78 : decode cX1_setOut 78 = .ok (.aload_n 0, 1) := by decide +kernel
theorem dX1_setOut_79 : decode cX1_setOut 79 = .ok (.getfield 19, 3) := by decide +kernel
theorem dX1_setOut_82 : decode cX1_setOut 82 = .ok (.iload_n 2, 1) := by decide +kernel
theorem dX1_setOut_83 : decode cX1_setOut 83 = .ok (.sipush 256, 3) := by decide +kernel
theorem dX1_setOut_86 : decode cX1_setOut 86 = .ok (.idiv, 1) := by decide +kernel
theorem dX1_setOut_87 : decode cX1_setOut 87 = .ok (.sipush 256, 3) := by decide +kernel
theorem dX1_setOut_90 : decode cX1_setOut 90 = .ok (.imul, 1) := by decide +kernel
theorem dX1_setOut_91 : decode cX1_setOut 91 = .ok (.sipush 256, 3) := by decide +kernel
theorem dX1_setOut_94 : decode cX1_setOut 94 = .ok (.iadd, 1) := by decide +kernel
theorem dX1_setOut_95 : decode cX1_setOut 95 = .ok (.iload 4, 2) := by decide +kernel
theorem dX1_setOut_97 : decode cX1_setOut 97 = .ok (.iadd, 1) := by decide +kernel
theorem dX1_setOut_98 : decode cX1_setOut 98 = .ok (.iconst 1, 1) := by decide +kernel
theorem dX1_setOut_99 : decode cX1_setOut 99 = .ok (.bastore, 1) := by decide +kernel
theorem dX1_setOut_100 : decode cX1_setOut 100 = .ok (.iinc 3 1, 3) := by decide +kernel
theorem dX1_setOut_103 : decode cX1_setOut 103 = .ok (.goto (-61), 3) := by decide +kernel
theorem dX1_setOut_106 : decode cX1_setOut 106 = .ok (.iinc 2 1, 3) := by decide +kernel
theorem dX1_setOut_109 : decode cX1_setOut 109 = .ok (.goto (-76), 3) := by decide +kernel
theorem dX1_setOut_112 : decode cX1_setOut 112 = .ok (.return_, 1) := by decide +kernel
theorem dX1_after_0 : decode cX1_after 0 = .ok (.iconst 0, 1) := by decide +kernel
theorem dX1_after_1 : decode cX1_after 1 = .ok (.istore_n 3, 1) := by decide +kernel
theorem dX1_after_2 : decode cX1_after 2 = .ok (.iconst 0, 1) := by decide +kernel
theorem dX1_after_3 : decode cX1_after 3 = .ok (.istore 4, 2) := by decide +kernel
theorem dX1_after_5 : decode cX1_after 5 = .ok (.iconst 0, 1) := by decide +kernel
theorem dX1_after_6 : decode cX1_after 6 = .ok (.istore 5, 2) := by decide +kernel
theorem dX1_after_8 : decode cX1_after 8 = .ok (.iload 5, 2) := by decide +kernel
theorem dX1_after_10 : decode cX1_after 10 = .ok (.aload_n 0, 1) := by decide +kernel
theorem dX1_after_11 : decode cX1_after 11 = .ok (.getfield 23, 3) := by decide +kernel
theorem dX1_after_14 : decode cX1_after 14 = .ok (.if_icmp .ge 94, 3) := by decide +kernel
theorem dX1_after_17 : decode cX1_after 17 = .ok (.iload_n 2, 1) := by decide +kernel
theorem dX1_after_18 : decode cX1_after 18 = .ok (.iload 5, 2) := by decide +kernel
theorem dX1_after_20 : decode cX1_after 20 = .ok (.ishr, 1) := by decide +kernel
theorem dX1_after_21 : decode cX1_after 21 = .ok (.iconst 1, 1) := by decide +kernel
theorem dX1_after_22 : decode cX1_after 22 = .ok (.iand, 1) := by decide +kernel
theorem dX1_after_23 : decode cX1_after 23 = .ok (.ifCond .eq 79, 3) := by decide +kernel
theorem dX1_after_26 : decode cX1_after 26 = .ok (.aload_n 0, 1) := by decide +kernel
theorem dX1_after_27 : decode cX1_after 27 = .ok (.getfield 7, 3) := by decide +kernel
theorem dX1_after_30 : decode cX1_after 30 = .ok (.iload 5, 2) := by decide +kernel
theorem dX1_after_32 : decode cX1_after 32 = .ok (.iaload, 1) := by decide +kernel
theorem dX1_after_33 : decode cX1_after 33 = .ok (.iload_n 1, 1) := by decide +kernel
theorem dX1_after_34 : decode cX1_after 34 = .ok (.iconst (-1), 1) := by decide +kernel
theorem dX1_after_35 : decode cX1_after 35 = .ok (.ixor, 1) := by decide +kernel
theorem dX1_after_36 : decode cX1_after 36 = .ok (.iand, 1) := by decide +kernel
theorem dX1_after_37 : decode cX1_after 37 = .ok (.ifCond .eq 5, 3) := by decide +kernel
theorem dX1_after_40 : decode cX1_after 40 = .ok (.iconst (-1), 1) := by decide +kernel
theorem dX1_after_41 : decode cX1_after 41 = .ok (.ireturn, 1) := by decide +kernel
theorem dX1_after_42 : decode cX1_after 42 = .ok (.iconst 0, 1) := by decide +kernel
theorem dX1_after_43 : decode cX1_after 43 = .ok (.istore 6, 2) := by decide +kernel
theorem dX1_after_45 : decode cX1_after 45 = .ok (.iload 6, 2) := by decide +kernel
theorem dX1_after_47 : decode cX1_after 47 = .ok (.iload 5, 2) := by decide +kernel
theorem dX1_after_49 : decode cX1_after 49 = .ok (.if_icmp .ge 31, 3) := by decide +kernel
theorem dX1_after_52 : decode cX1_after 52 = .ok (.iload_n 2, 1) := by decide +kernel
theorem dX1_after_53 : decode cX1_after 53 = .ok (.iload 6, 2) := by decide +kernel
theorem dX1_after_55 : decode cX1_after 55 = .ok (.ishr, 1) := by decide +kernel
theorem dX1_after_56 : decode cX1_after 56 = .ok (.iconst 1, 1) := by decide +kernel
theorem dX1_after_57 : decode cX1_after 57 = .ok (.iand, 1) := by decide +kernel
theorem dX1_after_58 : decode cX1_after 58 = .ok (.ifCond .eq 16, 3) := by decide +kernel
theorem dX1_after_61 : decode cX1_after 61 = .ok (.aload_n 0, 1) := by decide +kernel
theorem dX1_after_62 : decode cX1_after 62 = .ok (.iload 5, 2) := by decide +kernel
theorem dX1_after_64 : decode cX1_after 64 = .ok (.iload 6, 2) := by decide +kernel
theorem dX1_after_66 : decode cX1_after 66 = .ok (.invokevirtual 37, 3) := by decide +kernel
theorem dX1_after_69 : decode cX1_after 69 = .ok (.ifCond .eq 5, 3) := by decide +kernel
theorem dX1_after_72 : decode cX1_after 72 = .ok (.iconst (-1), 1) := by decide +kernel
theorem dX1_after_73 : decode cX1_after 73 = .ok (.ireturn, 1) := by decide +kernel
theorem dX1_after_74 : decode cX1_after 74 = .ok (.iinc 6 1, 3) := by decide +kernel
theorem dX1_after_77 : decode cX1_after 77 = .ok (.goto (-32), 3) := by decide +kernel
theorem dX1_after_80 : decode cX1_after 80 = .ok (.iload_n 3, 1) := by decide +kernel
theorem dX1_after_81 : decode cX1_after 81 = .ok (.aload_n 0, 1) := by decide +kernel
theorem dX1_after_82 : decode cX1_after 82 = .ok (.getfield 16, 3) := by decide +kernel
theorem dX1_after_85 : decode cX1_after 85 = .ok (.iload 5, 2) := by decide +kernel
theorem dX1_after_87 : decode cX1_after 87 = .ok (.iaload, 1) := by decide +kernel
theorem dX1_after_88 : decode cX1_after 88 = .ok (.ior, 1) := by decide +kernel
theorem dX1_after_89 : decode cX1_after 89 = .ok (.istore_n 3, 1) := by decide +kernel
theorem dX1_after_90 : decode cX1_after 90 = .ok (.iload 4, 2) := by decide +kernel
theorem dX1_after_92 : decode cX1_after 92 = .ok (.aload_n 0, 1) := by decide +kernel
theorem dX1_after_93 : decode cX1_after 93 = .ok (.getfield 13, 3) := by decide +kernel
theorem dX1_after_96 : decode cX1_after 96 = .ok (.iload 5, 2) := by decide +kernel
theorem dX1_after_98 : decode cX1_after 98 = .ok (.iaload, 1) := by decide +kernel
theorem dX1_after_99 : decode cX1_after 99 = .ok (.ior, 1) := by decide +kernel
theorem dX1_after_100 : decode cX1_after 100 = .ok (.istore 4, 2) := by decide +kernel
theorem dX1_after_102 : decode cX1_after 102 = .ok (.iinc 5 1, 3) := by decide +kernel
theorem dX1_after_105 : decode cX1_after 105 = .ok (.goto (-97), 3) := by decide +kernel
theorem dX1_after_108 : decode cX1_after 108 = .ok (.iload_n 1, 1) := by decide +kernel
theorem dX1_after_109 : decode cX1_after 109 = .ok (.iload_n 3, 1) := by decide +kernel
theorem dX1_after_110 : decode cX1_after 110 = .ok (.iconst (-1), 1) := by decide +kernel
theorem dX1_after_111 : decode cX1_after 111 = .ok (.ixor, 1) := by decide +kernel
theorem dX1_after_112 : decode cX1_after 112 = .ok (.iand, 1) := by decide +kernel
theorem dX1_after_113 : decode cX1_after 113 = .ok (.iload 4, 2) := by decide +kernel
theorem dX1_after_115 : decode cX1_after 115 = .ok (.ior, 1) := by decide +kernel
theorem dX1_after_116 : decode cX1_after 116 = .ok (.ireturn, 1) := by decide +kernel
theorem dX1_served_0 : decode cX1_served 0 = .ok (.iconst 0, 1) := by decide +kernel
theorem dX1_served_1 : decode cX1_served 1 = .ok (.istore_n 3, 1) := by decide +kernel
theorem dX1_served_2 : decode cX1_served 2 = .ok (.iload_n 3, 1) := by decide +kernel
theorem dX1_served_3 : decode cX1_served 3 = .ok (.sipush 256, 3) := by decide +kernel
theorem dX1_served_6 : decode cX1_served 6 = .ok (.if_icmp .ge 34, 3) := by decide +kernel
theorem dX1_served_9 : decode cX1_served 9 = .ok (.aload_n 0, 1) := by decide +kernel
theorem dX1_served_10 : decode cX1_served 10 = .ok (.getfield 19, 3) := by decide +kernel
theorem dX1_served_13 : decode cX1_served 13 = .ok (.iload_n 2, 1) := by decide +kernel
theorem dX1_served_14 : decode cX1_served 14 = .ok (.sipush 256, 3) := by decide +kernel
theorem dX1_served_17 : decode cX1_served 17 = .ok (.imul, 1) := by decide +kernel
theorem dX1_served_18 : decode cX1_served 18 = .ok (.iload_n 3, 1) := by decide +kernel
theorem dX1_served_19 : decode cX1_served 19 = .ok (.iadd, 1) := by decide +kernel
theorem dX1_served_20 : decode cX1_served 20 = .ok (.baload, 1) := by decide +kernel
theorem dX1_served_21 : decode cX1_served 21 = .ok (.ifCond .eq 13, 3) := by decide +kernel
theorem dX1_served_24 : decode cX1_served 24 = .ok (.iload_n 1, 1) := by decide +kernel
theorem dX1_served_25 : decode cX1_served 25 = .ok (.iload_n 3, 1) := by decide +kernel
theorem dX1_served_26 : decode cX1_served 26 = .ok (.iconst (-1), 1) := by decide +kernel
theorem dX1_served_27 : decode cX1_served 27 = .ok (.ixor, 1) := by decide +kernel
theorem dX1_served_28 : decode cX1_served 28 = .ok (.iand, 1) := by decide +kernel
theorem dX1_served_29 : decode cX1_served 29 = .ok (.ifCond .ne 5, 3) := by decide +kernel
theorem dX1_served_32 : decode cX1_served 32 = .ok (.iconst 1, 1) := by decide +kernel
theorem dX1_served_33 : decode cX1_served 33 = .ok (.ireturn, 1) := by decide +kernel
theorem dX1_served_34 : decode cX1_served 34 = .ok (.iinc 3 1, 3) := by decide +kernel
theorem dX1_served_37 : decode cX1_served 37 = .ok (.goto (-35), 3) := by decide +kernel
theorem dX1_served_40 : decode cX1_served 40 = .ok (.iconst 0, 1) := by decide +kernel
theorem dX1_served_41 : decode cX1_served 41 = .ok (.ireturn, 1) := by decide +kernel
theorem dX1_within_0 : decode cX1_within 0 = .ok (.iload_n 1, 1) := by decide +kernel
theorem dX1_within_1 : decode cX1_within 1 = .ok (.ifCond .lt 9, 3) := by decide +kernel
theorem dX1_within_4 : decode cX1_within 4 = .ok (.iload_n 1, 1) := by decide +kernel
theorem dX1_within_5 : decode cX1_within 5 = .ok (.bipush 8, 2) := by decide +kernel
theorem dX1_within_7 : decode cX1_within 7 = .ok (.if_icmp .le 5, 3) := by decide +kernel
theorem dX1_within_10 : decode cX1_within 10 = .ok (.iconst (-1), 1) := by decide +kernel
theorem dX1_within_11 : decode cX1_within 11 = .ok (.ireturn, 1) := by decide +kernel
theorem dX1_within_12 : decode cX1_within 12 = .ok (.iconst 0, 1) := by decide +kernel
theorem dX1_within_13 : decode cX1_within 13 = .ok (.istore_n 2, 1) := by decide +kernel
theorem dX1_within_14 : decode cX1_within 14 = .ok (.aload_n 0, 1) := by decide +kernel
theorem dX1_within_15 : decode cX1_within 15 = .ok (.aload_n 0, 1) := by decide +kernel
theorem dX1_within_16 : decode cX1_within 16 = .ok (.getfield 34, 3) := by decide +kernel
theorem dX1_within_19 : decode cX1_within 19 = .ok (.invokevirtual 45, 3) := by decide +kernel
theorem dX1_within_22 : decode cX1_within 22 = .ok (.iconst 0, 1) := by decide +kernel
theorem dX1_within_23 : decode cX1_within 23 = .ok (.istore_n 3, 1) := by decide +kernel
theorem dX1_within_24 : decode cX1_within 24 = .ok (.iload_n 3, 1) := by decide +kernel
theorem dX1_within_25 : decode cX1_within 25 = .ok (.sipush 256, 3) := by decide +kernel
theorem dX1_within_28 : decode cX1_within 28 = .ok (.iload_n 1, 1) := by decide +kernel
theorem dX1_within_29 : decode cX1_within 29 = .ok (.iconst 1, 1) := by decide +kernel
theorem dX1_within_30 : decode cX1_within 30 = .ok (.iadd, 1) := by decide +kernel
theorem dX1_within_31 : decode cX1_within 31 = .ok (.imul, 1) := by decide +kernel
theorem dX1_within_32 : decode cX1_within 32 = .ok (.if_icmp .ge 26, 3) := by decide +kernel
theorem dX1_within_35 : decode cX1_within 35 = .ok (.aload_n 0, 1) := by decide +kernel
theorem dX1_within_36 : decode cX1_within 36 = .ok (.getfield 19, 3) := by decide +kernel
theorem dX1_within_39 : decode cX1_within 39 = .ok (.iload_n 3, 1) := by decide +kernel
theorem dX1_within_40 : decode cX1_within 40 = .ok (.baload, 1) := by decide +kernel
theorem dX1_within_41 : decode cX1_within 41 = .ok (.ifCond .eq 11, 3) := by decide +kernel
theorem dX1_within_44 : decode cX1_within 44 = .ok (.iload_n 2, 1) := by decide +kernel
theorem dX1_within_45 : decode cX1_within 45 = .ok (.iload_n 3, 1) := by decide +kernel
theorem dX1_within_46 : decode cX1_within 46 = .ok (.sipush 256, 3) := by decide +kernel
theorem dX1_within_49 : decode cX1_within 49 = .ok (.irem, 1) := by decide +kernel
theorem dX1_within_50 : decode cX1_within 50 = .ok (.ior, 1) := by decide +kernel
theorem dX1_within_51 : decode cX1_within 51 = .ok (.istore_n 2, 1) := by decide +kernel
theorem dX1_within_52 : decode cX1_within 52 = .ok (.iinc 3 1, 3) := by decide +kernel
theorem dX1_within_55 : decode cX1_within 55 = .ok (.goto (-31), 3) := by decide +kernel
theorem dX1_within_58 : decode cX1_within 58 = .ok (.iload_n 2, 1) := by decide +kernel
theorem dX1_within_59 : decode cX1_within 59 = .ok (.ireturn, 1) := by decide +kernel
theorem dX1_together_0 : decode cX1_together 0 = .ok (.iload_n 1, 1) := by decide +kernel
theorem dX1_together_1 : decode cX1_together 1 = .ok (.ifCond .lt 29, 3) := by decide +kernel
theorem dX1_together_4 : decode cX1_together 4 = .ok (.iload_n 1, 1) := by decide +kernel
theorem dX1_together_5 : decode cX1_together 5 = .ok (.bipush 7, 2) := by decide +kernel
theorem dX1_together_7 : decode cX1_together 7 = .ok (.if_icmp .gt 23, 3) := by decide +kernel
theorem dX1_together_10 : decode cX1_together 10 = .ok (.iload_n 2, 1) := by decide +kernel
theorem dX1_together_11 : decode cX1_together 11 = .ok (.ifCond .lt 19, 3) := by decide +kernel
theorem dX1_together_14 : decode cX1_together 14 = .ok (.iload_n 2, 1) := by decide +kernel
theorem dX1_together_15 : decode cX1_together 15 = .ok (.bipush 7, 2) := by decide +kernel
theorem dX1_together_17 : decode cX1_together 17 = .ok (.if_icmp .gt 13, 3) := by decide +kernel
theorem dX1_together_20 : decode cX1_together 20 = .ok (.iload_n 3, 1) := by decide +kernel
theorem dX1_together_21 : decode cX1_together 21 = .ok (.ifCond .lt 9, 3) := by decide +kernel
theorem dX1_together_24 : decode cX1_together 24 = .ok (.iload_n 3, 1) := by decide +kernel
theorem dX1_together_25 : decode cX1_together 25 = .ok (.bipush 8, 2) := by decide +kernel
theorem dX1_together_27 : decode cX1_together 27 = .ok (.if_icmp .le 5, 3) := by decide +kernel
theorem dX1_together_30 : decode cX1_together 30 = .ok (.iconst 0, 1) := by decide +kernel
theorem dX1_together_31 : decode cX1_together 31 = .ok (.ireturn, 1) := by decide +kernel
theorem dX1_together_32 : decode cX1_together 32 = .ok (.aload_n 0, 1) := by decide +kernel
theorem dX1_together_33 : decode cX1_together 33 = .ok (.aload_n 0, 1) := by decide +kernel
theorem dX1_together_34 : decode cX1_together 34 = .ok (.getfield 34, 3) := by decide +kernel
theorem dX1_together_37 : decode cX1_together 37 = .ok (.invokevirtual 45, 3) := by decide +kernel
theorem dX1_together_40 : decode cX1_together 40 = .ok (.aload_n 0, 1) := by decide +kernel
theorem dX1_together_41 : decode cX1_together 41 = .ok (.iconst 1, 1) := by decide +kernel
theorem dX1_together_42 : decode cX1_together 42 = .ok (.iload_n 1, 1) := by decide +kernel
theorem dX1_together_43 : decode cX1_together 43 = .ok (.ishl, 1) := by decide +kernel
theorem dX1_together_44 : decode cX1_together 44 = .ok (.iconst 1, 1) := by decide +kernel
theorem dX1_together_45 : decode cX1_together 45 = .ok (.iload_n 2, 1) := by decide +kernel
theorem dX1_together_46 : decode cX1_together 46 = .ok (.ishl, 1) := by decide +kernel
theorem dX1_together_47 : decode cX1_together 47 = .ok (.ior, 1) := by decide +kernel
theorem dX1_together_48 : decode cX1_together 48 = .ok (.iload_n 3, 1) := by decide +kernel
theorem dX1_together_49 : decode cX1_together 49 = .ok (.invokevirtual 49, 3) := by decide +kernel
theorem dX1_together_52 : decode cX1_together 52 = .ok (.ireturn, 1) := by decide +kernel
theorem dX1_begins_0 : decode cX1_begins 0 = .ok (.aload_n 0, 1) := by decide +kernel
theorem dX1_begins_1 : decode cX1_begins 1 = .ok (.iload_n 1, 1) := by decide +kernel
theorem dX1_begins_2 : decode cX1_begins 2 = .ok (.invokevirtual 52, 3) := by decide +kernel
theorem dX1_begins_5 : decode cX1_begins 5 = .ok (.istore_n 3, 1) := by decide +kernel
theorem dX1_begins_6 : decode cX1_begins 6 = .ok (.iload_n 3, 1) := by decide +kernel
theorem dX1_begins_7 : decode cX1_begins 7 = .ok (.iconst 1, 1) := by decide +kernel
theorem dX1_begins_8 : decode cX1_begins 8 = .ok (.if_icmp .lt 11, 3) := by decide +kernel
theorem dX1_begins_11 : decode cX1_begins 11 = .ok (.aload_n 0, 1) := by decide +kernel
theorem dX1_begins_12 : decode cX1_begins 12 = .ok (.iload_n 2, 1) := by decide +kernel
theorem dX1_begins_13 : decode cX1_begins 13 = .ok (.invokevirtual 31, 3) := by decide +kernel
theorem dX1_begins_16 : decode cX1_begins 16 = .ok (.ifCond .ne 5, 3) := by decide +kernel
theorem dX1_begins_19 : decode cX1_begins 19 = .ok (.iconst 0, 1) := by decide +kernel
theorem dX1_begins_20 : decode cX1_begins 20 = .ok (.ireturn, 1) := by decide +kernel
theorem dX1_begins_21 : decode cX1_begins 21 = .ok (.iconst 0, 1) := by decide +kernel
theorem dX1_begins_22 : decode cX1_begins 22 = .ok (.istore 4, 2) := by decide +kernel
theorem dX1_begins_24 : decode cX1_begins 24 = .ok (.iload 4, 2) := by decide +kernel
theorem dX1_begins_26 : decode cX1_begins 26 = .ok (.iconst 1, 1) := by decide +kernel
theorem dX1_begins_27 : decode cX1_begins 27 = .ok (.aload_n 0, 1) := by decide +kernel
theorem dX1_begins_28 : decode cX1_begins 28 = .ok (.getfield 23, 3) := by decide +kernel
theorem dX1_begins_31 : decode cX1_begins 31 = .ok (.ishl, 1) := by decide +kernel
theorem dX1_begins_32 : decode cX1_begins 32 = .ok (.if_icmp .ge 58, 3) := by decide +kernel
theorem dX1_begins_35 : decode cX1_begins 35 = .ok (.iload 4, 2) := by decide +kernel
theorem dX1_begins_37 : decode cX1_begins 37 = .ok (.iload_n 2, 1) := by decide +kernel
theorem dX1_begins_38 : decode cX1_begins 38 = .ok (.ishr, 1) := by decide +kernel
theorem dX1_begins_39 : decode cX1_begins 39 = .ok (.iconst 1, 1) := by decide +kernel
theorem dX1_begins_40 : decode cX1_begins 40 = .ok (.iand, 1) := by decide +kernel
theorem dX1_begins_41 : decode cX1_begins 41 = .ok (.ifCond .ne 7, 3) := by decide +kernel
theorem dX1_begins_44 : decode cX1_begins 44 = .ok (.iconst (-1), 1) := by decide +kernel
theorem dX1_begins_45 : decode cX1_begins 45 = .ok (.goto 13, 3) := by decide +kernel
theorem dX1_begins_48 : decode cX1_begins 48 = .ok (.aload_n 0, 1) := by decide +kernel
theorem dX1_begins_49 : decode cX1_begins 49 = .ok (.aload_n 0, 1) := by decide +kernel
theorem dX1_begins_50 : decode cX1_begins 50 = .ok (.getfield 34, 3) := by decide +kernel
theorem dX1_begins_53 : decode cX1_begins 53 = .ok (.iload 4, 2) := by decide +kernel
theorem dX1_begins_55 : decode cX1_begins 55 = .ok (.invokevirtual 41, 3) := by decide +kernel
theorem dX1_begins_58 : decode cX1_begins 58 = .ok (.istore 5, 2) := by decide +kernel
theorem dX1_begins_60 : decode cX1_begins 60 = .ok (.iload 5, 2) := by decide +kernel
theorem dX1_begins_62 : decode cX1_begins 62 = .ok (.ifCond .lt 22, 3) := by decide +kernel
theorem dX1_begins_65 : decode cX1_begins 65 = .ok (.aload_n 0, 1) := by decide +kernel
theorem dX1_begins_66 : decode cX1_begins 66 = .ok (.iload 5, 2) := by decide +kernel
theorem dX1_begins_68 : decode cX1_begins 68 = .ok (.invokevirtual 45, 3) := by decide +kernel
theorem dX1_begins_71 : decode cX1_begins 71 = .ok (.aload_n 0, 1) := by decide +kernel
theorem dX1_begins_72 : decode cX1_begins 72 = .ok (.iload_n 1, 1) := by decide +kernel
theorem dX1_begins_73 : decode cX1_begins 73 = .ok (.iload_n 3, 1) := by decide +kernel
theorem dX1_begins_74 : decode cX1_begins 74 = .ok (.iconst 1, 1) := by decide +kernel
theorem dX1_begins_75 : decode cX1_begins 75 = .ok (.isub, 1) := by decide +kernel
theorem dX1_begins_76 : decode cX1_begins 76 = .ok (.invokevirtual 49, 3) := by decide +kernel
theorem dX1_begins_79 : decode cX1_begins 79 = .ok (.ifCond .eq 5, 3) := by decide +kernel
theorem dX1_begins_82 : decode cX1_begins 82 = .ok (.iconst 1, 1) := by decide +kernel
theorem dX1_begins_83 : decode cX1_begins 83 = .ok (.ireturn, 1) := by decide +kernel
theorem dX1_begins_84 : decode cX1_begins 84 = .ok (.iinc 4 1, 3) := by decide +kernel
theorem dX1_begins_87 : decode cX1_begins 87 = .ok (.goto (-63), 3) := by decide +kernel
theorem dX1_begins_90 : decode cX1_begins 90 = .ok (.iconst 0, 1) := by decide +kernel
theorem dX1_begins_91 : decode cX1_begins 91 = .ok (.ireturn, 1) := by decide +kernel
theorem dX1_advance_0 : decode cX1_advance 0 = .ok (.iload_n 1, 1) := by decide +kernel
theorem dX1_advance_1 : decode cX1_advance 1 = .ok (.ifCond .lt 13, 3) := by decide +kernel
theorem dX1_advance_4 : decode cX1_advance 4 = .ok (.iload_n 1, 1) := by decide +kernel
theorem dX1_advance_5 : decode cX1_advance 5 = .ok (.iconst 1, 1) := by decide +kernel
theorem dX1_advance_6 : decode cX1_advance 6 = .ok (.aload_n 0, 1) := by decide +kernel
theorem dX1_advance_7 : decode cX1_advance 7 = .ok (.getfield 23, 3) := by decide +kernel
theorem dX1_advance_10 : decode cX1_advance 10 = .ok (.ishl, 1) := by decide +kernel
theorem dX1_advance_11 : decode cX1_advance 11 = .ok (.if_icmp .lt 5, 3) := by decide +kernel
theorem dX1_advance_14 : decode cX1_advance 14 = .ok (.iconst 0, 1) := by decide +kernel
theorem dX1_advance_15 : decode cX1_advance 15 = .ok (.ireturn, 1) := by decide +kernel
theorem dX1_advance_16 : decode cX1_advance 16 = .ok (.aload_n 0, 1) := by decide +kernel
theorem dX1_advance_17 : decode cX1_advance 17 = .ok (.aload_n 0, 1) := by decide +kernel
theorem dX1_advance_18 : decode cX1_advance 18 = .ok (.getfield 34, 3) := by decide +kernel
theorem dX1_advance_21 : decode cX1_advance 21 = .ok (.iload_n 1, 1) := by decide +kernel
theorem dX1_advance_22 : decode cX1_advance 22 = .ok (.invokevirtual 41, 3) := by decide +kernel
theorem dX1_advance_25 : decode cX1_advance 25 = .ok (.istore_n 2, 1) := by decide +kernel
theorem dX1_advance_26 : decode cX1_advance 26 = .ok (.iload_n 2, 1) := by decide +kernel
theorem dX1_advance_27 : decode cX1_advance 27 = .ok (.ifCond .ge 5, 3) := by decide +kernel
theorem dX1_advance_30 : decode cX1_advance 30 = .ok (.iconst 0, 1) := by decide +kernel
theorem dX1_advance_31 : decode cX1_advance 31 = .ok (.ireturn, 1) := by decide +kernel
theorem dX1_advance_32 : decode cX1_advance 32 = .ok (.aload_n 0, 1) := by decide +kernel
theorem dX1_advance_33 : decode cX1_advance 33 = .ok (.iload_n 2, 1) := by decide +kernel
theorem dX1_advance_34 : decode cX1_advance 34 = .ok (.putfield 34, 3) := by decide +kernel
theorem dX1_advance_37 : decode cX1_advance 37 = .ok (.iconst 1, 1) := by decide +kernel
theorem dX1_advance_38 : decode cX1_advance 38 = .ok (.ireturn, 1) := by decide +kernel
theorem dX1_state_0 : decode cX1_state 0 = .ok (.aload_n 0, 1) := by decide +kernel
theorem dX1_state_1 : decode cX1_state 1 = .ok (.getfield 34, 3) := by decide +kernel
theorem dX1_state_4 : decode cX1_state 4 = .ok (.ireturn, 1) := by decide +kernel
end
section
set_option maxRecDepth 100000
/-! the law's own entry -/
abbrev cL_law : ByteArray := code
theorem dL_law_0 : decode cL_law 0 = .ok (.new 7, 3) := by decide +kernel
theorem dL_law_3 : decode cL_law 3 = .ok (.dup, 1) := by decide +kernel
theorem dL_law_4 : decode cL_law 4 = .ok (.invokespecial 9, 3) := by decide +kernel
theorem dL_law_7 : decode cL_law 7 = .ok (.astore_n 1, 1) := by decide +kernel
theorem dL_law_8 : decode cL_law 8 = .ok (.new 10, 3) := by decide +kernel
theorem dL_law_11 : decode cL_law 11 = .ok (.dup, 1) := by decide +kernel
theorem dL_law_12 : decode cL_law 12 = .ok (.invokespecial 12, 3) := by decide +kernel
theorem dL_law_15 : decode cL_law 15 = .ok (.astore_n 2, 1) := by decide +kernel
theorem dL_law_16 : decode cL_law 16 = .ok (.iconst 0, 1) := by decide +kernel
theorem dL_law_17 : decode cL_law 17 = .ok (.istore_n 3, 1) := by decide +kernel
theorem dL_law_18 : decode cL_law 18 = .ok (.iload_n 3, 1) := by decide +kernel
theorem dL_law_19 : decode cL_law 19 = .ok (.aload_n 0, 1) := by decide +kernel
theorem dL_law_20 : decode cL_law 20 = .ok (.arraylength, 1) := by decide +kernel
theorem dL_law_21 : decode cL_law 21 = .ok (.iconst 4, 1) := by decide +kernel
theorem dL_law_22 : decode cL_law 22 = .ok (.isub, 1) := by decide +kernel
theorem dL_law_23 : decode cL_law 23 = .ok (.if_icmp .gt 351, 3) := by decide +kernel
theorem dL_law_26 : decode cL_law 26 = .ok (.aload_n 0, 1) := by decide +kernel
theorem dL_law_27 : decode cL_law 27 = .ok (.iload_n 3, 1) := by decide +kernel
theorem dL_law_28 : decode cL_law 28 = .ok (.iaload, 1) := by decide +kernel
theorem dL_law_29 : decode cL_law 29 = .ok (.bipush 15, 2) := by decide +kernel
theorem dL_law_31 : decode cL_law 31 = .ok (.iand, 1) := by decide +kernel
theorem dL_law_32 : decode cL_law 32 = .ok (.tableswitch 336 0 9 #[56, 99, 122, 145, 178, 201, 224, 267, 300, 323], 56) := by decide +kernel
theorem dL_law_88 : decode cL_law 88 = .ok (.aload_n 1, 1) := by decide +kernel
theorem dL_law_89 : decode cL_law 89 = .ok (.aload_n 0, 1) := by decide +kernel
theorem dL_law_90 : decode cL_law 90 = .ok (.iload_n 3, 1) := by decide +kernel
theorem dL_law_91 : decode cL_law 91 = .ok (.iconst 1, 1) := by decide +kernel
theorem dL_law_92 : decode cL_law 92 = .ok (.iadd, 1) := by decide +kernel
theorem dL_law_93 : decode cL_law 93 = .ok (.iaload, 1) := by decide +kernel
theorem dL_law_94 : decode cL_law 94 = .ok (.aload_n 0, 1) := by decide +kernel
theorem dL_law_95 : decode cL_law 95 = .ok (.iload_n 3, 1) := by decide +kernel
theorem dL_law_96 : decode cL_law 96 = .ok (.iconst 2, 1) := by decide +kernel
theorem dL_law_97 : decode cL_law 97 = .ok (.iadd, 1) := by decide +kernel
theorem dL_law_98 : decode cL_law 98 = .ok (.iaload, 1) := by decide +kernel
theorem dL_law_99 : decode cL_law 99 = .ok (.aload_n 0, 1) := by decide +kernel
theorem dL_law_100 : decode cL_law 100 = .ok (.iload_n 3, 1) := by decide +kernel
theorem dL_law_101 : decode cL_law 101 = .ok (.iconst 3, 1) := by decide +kernel
theorem dL_law_102 : decode cL_law 102 = .ok (.iadd, 1) := by decide +kernel
theorem dL_law_103 : decode cL_law 103 = .ok (.iaload, 1) := by decide +kernel
theorem dL_law_104 : decode cL_law 104 = .ok (.invokevirtual 13, 3) := by decide +kernel
theorem dL_law_107 : decode cL_law 107 = .ok (.aload_n 2, 1) := by decide +kernel
theorem dL_law_108 : decode cL_law 108 = .ok (.aload_n 0, 1) := by decide +kernel
theorem dL_law_109 : decode cL_law 109 = .ok (.iload_n 3, 1) := by decide +kernel
theorem dL_law_110 : decode cL_law 110 = .ok (.iconst 1, 1) := by decide +kernel
theorem dL_law_111 : decode cL_law 111 = .ok (.iadd, 1) := by decide +kernel
theorem dL_law_112 : decode cL_law 112 = .ok (.iaload, 1) := by decide +kernel
theorem dL_law_113 : decode cL_law 113 = .ok (.aload_n 0, 1) := by decide +kernel
theorem dL_law_114 : decode cL_law 114 = .ok (.iload_n 3, 1) := by decide +kernel
theorem dL_law_115 : decode cL_law 115 = .ok (.iconst 2, 1) := by decide +kernel
theorem dL_law_116 : decode cL_law 116 = .ok (.iadd, 1) := by decide +kernel
theorem dL_law_117 : decode cL_law 117 = .ok (.iaload, 1) := by decide +kernel
theorem dL_law_118 : decode cL_law 118 = .ok (.aload_n 0, 1) := by decide +kernel
theorem dL_law_119 : decode cL_law 119 = .ok (.iload_n 3, 1) := by decide +kernel
theorem dL_law_120 : decode cL_law 120 = .ok (.iconst 3, 1) := by decide +kernel
theorem dL_law_121 : decode cL_law 121 = .ok (.iadd, 1) := by decide +kernel
theorem dL_law_122 : decode cL_law 122 = .ok (.iaload, 1) := by decide +kernel
theorem dL_law_123 : decode cL_law 123 = .ok (.invokevirtual 17, 3) := by decide +kernel
theorem dL_law_126 : decode cL_law 126 = .ok (.if_icmp .eq 242, 3) := by decide +kernel
theorem dL_law_129 : decode cL_law 129 = .ok (.iconst 0, 1) := by decide +kernel
theorem dL_law_130 : decode cL_law 130 = .ok (.ireturn, 1) := by decide +kernel
theorem dL_law_131 : decode cL_law 131 = .ok (.aload_n 1, 1) := by decide +kernel
theorem dL_law_132 : decode cL_law 132 = .ok (.aload_n 0, 1) := by decide +kernel
theorem dL_law_133 : decode cL_law 133 = .ok (.iload_n 3, 1) := by decide +kernel
theorem dL_law_134 : decode cL_law 134 = .ok (.iconst 1, 1) := by decide +kernel
theorem dL_law_135 : decode cL_law 135 = .ok (.iadd, 1) := by decide +kernel
theorem dL_law_136 : decode cL_law 136 = .ok (.iaload, 1) := by decide +kernel
theorem dL_law_137 : decode cL_law 137 = .ok (.invokevirtual 18, 3) := by decide +kernel
theorem dL_law_140 : decode cL_law 140 = .ok (.aload_n 2, 1) := by decide +kernel
theorem dL_law_141 : decode cL_law 141 = .ok (.aload_n 0, 1) := by decide +kernel
theorem dL_law_142 : decode cL_law 142 = .ok (.iload_n 3, 1) := by decide +kernel
theorem dL_law_143 : decode cL_law 143 = .ok (.iconst 1, 1) := by decide +kernel
theorem dL_law_144 : decode cL_law 144 = .ok (.iadd, 1) := by decide +kernel
theorem dL_law_145 : decode cL_law 145 = .ok (.iaload, 1) := by decide +kernel
theorem dL_law_146 : decode cL_law 146 = .ok (.invokevirtual 22, 3) := by decide +kernel
theorem dL_law_149 : decode cL_law 149 = .ok (.if_icmp .eq 219, 3) := by decide +kernel
theorem dL_law_152 : decode cL_law 152 = .ok (.iconst 0, 1) := by decide +kernel
theorem dL_law_153 : decode cL_law 153 = .ok (.ireturn, 1) := by decide +kernel
theorem dL_law_154 : decode cL_law 154 = .ok (.aload_n 1, 1) := by decide +kernel
theorem dL_law_155 : decode cL_law 155 = .ok (.aload_n 0, 1) := by decide +kernel
theorem dL_law_156 : decode cL_law 156 = .ok (.iload_n 3, 1) := by decide +kernel
theorem dL_law_157 : decode cL_law 157 = .ok (.iconst 1, 1) := by decide +kernel
theorem dL_law_158 : decode cL_law 158 = .ok (.iadd, 1) := by decide +kernel
theorem dL_law_159 : decode cL_law 159 = .ok (.iaload, 1) := by decide +kernel
theorem dL_law_160 : decode cL_law 160 = .ok (.invokevirtual 23, 3) := by decide +kernel
theorem dL_law_163 : decode cL_law 163 = .ok (.aload_n 2, 1) := by decide +kernel
theorem dL_law_164 : decode cL_law 164 = .ok (.aload_n 0, 1) := by decide +kernel
theorem dL_law_165 : decode cL_law 165 = .ok (.iload_n 3, 1) := by decide +kernel
theorem dL_law_166 : decode cL_law 166 = .ok (.iconst 1, 1) := by decide +kernel
theorem dL_law_167 : decode cL_law 167 = .ok (.iadd, 1) := by decide +kernel
theorem dL_law_168 : decode cL_law 168 = .ok (.iaload, 1) := by decide +kernel
theorem dL_law_169 : decode cL_law 169 = .ok (.invokevirtual 27, 3) := by decide +kernel
theorem dL_law_172 : decode cL_law 172 = .ok (.if_icmp .eq 196, 3) := by decide +kernel
theorem dL_law_175 : decode cL_law 175 = .ok (.iconst 0, 1) := by decide +kernel
theorem dL_law_176 : decode cL_law 176 = .ok (.ireturn, 1) := by decide +kernel
theorem dL_law_177 : decode cL_law 177 = .ok (.aload_n 1, 1) := by decide +kernel
theorem dL_law_178 : decode cL_law 178 = .ok (.aload_n 0, 1) := by decide +kernel
theorem dL_law_179 : decode cL_law 179 = .ok (.iload_n 3, 1) := by decide +kernel
theorem dL_law_180 : decode cL_law 180 = .ok (.iconst 1, 1) := by decide +kernel
theorem dL_law_181 : decode cL_law 181 = .ok (.iadd, 1) := by decide +kernel
theorem dL_law_182 : decode cL_law 182 = .ok (.iaload, 1) := by decide +kernel
theorem dL_law_183 : decode cL_law 183 = .ok (.aload_n 0, 1) := by decide +kernel
theorem dL_law_184 : decode cL_law 184 = .ok (.iload_n 3, 1) := by decide +kernel
theorem dL_law_185 : decode cL_law 185 = .ok (.iconst 2, 1) := by decide +kernel
theorem dL_law_186 : decode cL_law 186 = .ok (.iadd, 1) := by decide +kernel
theorem dL_law_187 : decode cL_law 187 = .ok (.iaload, 1) := by decide +kernel
theorem dL_law_188 : decode cL_law 188 = .ok (.invokevirtual 28, 3) := by decide +kernel
theorem dL_law_191 : decode cL_law 191 = .ok (.aload_n 2, 1) := by decide +kernel
theorem dL_law_192 : decode cL_law 192 = .ok (.aload_n 0, 1) := by decide +kernel
theorem dL_law_193 : decode cL_law 193 = .ok (.iload_n 3, 1) := by decide +kernel
theorem dL_law_194 : decode cL_law 194 = .ok (.iconst 1, 1) := by decide +kernel
theorem dL_law_195 : decode cL_law 195 = .ok (.iadd, 1) := by decide +kernel
theorem dL_law_196 : decode cL_law 196 = .ok (.iaload, 1) := by decide +kernel
theorem dL_law_197 : decode cL_law 197 = .ok (.aload_n 0, 1) := by decide +kernel
theorem dL_law_198 : decode cL_law 198 = .ok (.iload_n 3, 1) := by decide +kernel
theorem dL_law_199 : decode cL_law 199 = .ok (.iconst 2, 1) := by decide +kernel
theorem dL_law_200 : decode cL_law 200 = .ok (.iadd, 1) := by decide +kernel
theorem dL_law_201 : decode cL_law 201 = .ok (.iaload, 1) := by decide +kernel
theorem dL_law_202 : decode cL_law 202 = .ok (.invokevirtual 32, 3) := by decide +kernel
theorem dL_law_205 : decode cL_law 205 = .ok (.if_icmp .eq 163, 3) := by decide +kernel
theorem dL_law_208 : decode cL_law 208 = .ok (.iconst 0, 1) := by decide +kernel
theorem dL_law_209 : decode cL_law 209 = .ok (.ireturn, 1) := by decide +kernel
theorem dL_law_210 : decode cL_law 210 = .ok (.aload_n 1, 1) := by decide +kernel
theorem dL_law_211 : decode cL_law 211 = .ok (.aload_n 0, 1) := by decide +kernel
theorem dL_law_212 : decode cL_law 212 = .ok (.iload_n 3, 1) := by decide +kernel
theorem dL_law_213 : decode cL_law 213 = .ok (.iconst 1, 1) := by decide +kernel
theorem dL_law_214 : decode cL_law 214 = .ok (.iadd, 1) := by decide +kernel
theorem dL_law_215 : decode cL_law 215 = .ok (.iaload, 1) := by decide +kernel
theorem dL_law_216 : decode cL_law 216 = .ok (.invokevirtual 33, 3) := by decide +kernel
theorem dL_law_219 : decode cL_law 219 = .ok (.aload_n 2, 1) := by decide +kernel
theorem dL_law_220 : decode cL_law 220 = .ok (.aload_n 0, 1) := by decide +kernel
theorem dL_law_221 : decode cL_law 221 = .ok (.iload_n 3, 1) := by decide +kernel
theorem dL_law_222 : decode cL_law 222 = .ok (.iconst 1, 1) := by decide +kernel
theorem dL_law_223 : decode cL_law 223 = .ok (.iadd, 1) := by decide +kernel
theorem dL_law_224 : decode cL_law 224 = .ok (.iaload, 1) := by decide +kernel
theorem dL_law_225 : decode cL_law 225 = .ok (.invokevirtual 36, 3) := by decide +kernel
theorem dL_law_228 : decode cL_law 228 = .ok (.if_icmp .eq 140, 3) := by decide +kernel
theorem dL_law_231 : decode cL_law 231 = .ok (.iconst 0, 1) := by decide +kernel
theorem dL_law_232 : decode cL_law 232 = .ok (.ireturn, 1) := by decide +kernel
theorem dL_law_233 : decode cL_law 233 = .ok (.aload_n 1, 1) := by decide +kernel
theorem dL_law_234 : decode cL_law 234 = .ok (.aload_n 0, 1) := by decide +kernel
theorem dL_law_235 : decode cL_law 235 = .ok (.iload_n 3, 1) := by decide +kernel
theorem dL_law_236 : decode cL_law 236 = .ok (.iconst 1, 1) := by decide +kernel
theorem dL_law_237 : decode cL_law 237 = .ok (.iadd, 1) := by decide +kernel
theorem dL_law_238 : decode cL_law 238 = .ok (.iaload, 1) := by decide +kernel
theorem dL_law_239 : decode cL_law 239 = .ok (.invokevirtual 37, 3) := by decide +kernel
theorem dL_law_242 : decode cL_law 242 = .ok (.aload_n 2, 1) := by decide +kernel
theorem dL_law_243 : decode cL_law 243 = .ok (.aload_n 0, 1) := by decide +kernel
theorem dL_law_244 : decode cL_law 244 = .ok (.iload_n 3, 1) := by decide +kernel
theorem dL_law_245 : decode cL_law 245 = .ok (.iconst 1, 1) := by decide +kernel
theorem dL_law_246 : decode cL_law 246 = .ok (.iadd, 1) := by decide +kernel
theorem dL_law_247 : decode cL_law 247 = .ok (.iaload, 1) := by decide +kernel
theorem dL_law_248 : decode cL_law 248 = .ok (.invokevirtual 40, 3) := by decide +kernel
theorem dL_law_251 : decode cL_law 251 = .ok (.if_icmp .eq 117, 3) := by decide +kernel
theorem dL_law_254 : decode cL_law 254 = .ok (.iconst 0, 1) := by decide +kernel
theorem dL_law_255 : decode cL_law 255 = .ok (.ireturn, 1) := by decide +kernel
theorem dL_law_256 : decode cL_law 256 = .ok (.aload_n 1, 1) := by decide +kernel
theorem dL_law_257 : decode cL_law 257 = .ok (.aload_n 0, 1) := by decide +kernel
theorem dL_law_258 : decode cL_law 258 = .ok (.iload_n 3, 1) := by decide +kernel
theorem dL_law_259 : decode cL_law 259 = .ok (.iconst 1, 1) := by decide +kernel
theorem dL_law_260 : decode cL_law 260 = .ok (.iadd, 1) := by decide +kernel
theorem dL_law_261 : decode cL_law 261 = .ok (.iaload, 1) := by decide +kernel
theorem dL_law_262 : decode cL_law 262 = .ok (.aload_n 0, 1) := by decide +kernel
theorem dL_law_263 : decode cL_law 263 = .ok (.iload_n 3, 1) := by decide +kernel
theorem dL_law_264 : decode cL_law 264 = .ok (.iconst 2, 1) := by decide +kernel
theorem dL_law_265 : decode cL_law 265 = .ok (.iadd, 1) := by decide +kernel
theorem dL_law_266 : decode cL_law 266 = .ok (.iaload, 1) := by decide +kernel
theorem dL_law_267 : decode cL_law 267 = .ok (.aload_n 0, 1) := by decide +kernel
theorem dL_law_268 : decode cL_law 268 = .ok (.iload_n 3, 1) := by decide +kernel
theorem dL_law_269 : decode cL_law 269 = .ok (.iconst 3, 1) := by decide +kernel
theorem dL_law_270 : decode cL_law 270 = .ok (.iadd, 1) := by decide +kernel
theorem dL_law_271 : decode cL_law 271 = .ok (.iaload, 1) := by decide +kernel
theorem dL_law_272 : decode cL_law 272 = .ok (.invokevirtual 41, 3) := by decide +kernel
theorem dL_law_275 : decode cL_law 275 = .ok (.aload_n 2, 1) := by decide +kernel
theorem dL_law_276 : decode cL_law 276 = .ok (.aload_n 0, 1) := by decide +kernel
theorem dL_law_277 : decode cL_law 277 = .ok (.iload_n 3, 1) := by decide +kernel
theorem dL_law_278 : decode cL_law 278 = .ok (.iconst 1, 1) := by decide +kernel
theorem dL_law_279 : decode cL_law 279 = .ok (.iadd, 1) := by decide +kernel
theorem dL_law_280 : decode cL_law 280 = .ok (.iaload, 1) := by decide +kernel
theorem dL_law_281 : decode cL_law 281 = .ok (.aload_n 0, 1) := by decide +kernel
theorem dL_law_282 : decode cL_law 282 = .ok (.iload_n 3, 1) := by decide +kernel
theorem dL_law_283 : decode cL_law 283 = .ok (.iconst 2, 1) := by decide +kernel
theorem dL_law_284 : decode cL_law 284 = .ok (.iadd, 1) := by decide +kernel
theorem dL_law_285 : decode cL_law 285 = .ok (.iaload, 1) := by decide +kernel
theorem dL_law_286 : decode cL_law 286 = .ok (.aload_n 0, 1) := by decide +kernel
theorem dL_law_287 : decode cL_law 287 = .ok (.iload_n 3, 1) := by decide +kernel
theorem dL_law_288 : decode cL_law 288 = .ok (.iconst 3, 1) := by decide +kernel
theorem dL_law_289 : decode cL_law 289 = .ok (.iadd, 1) := by decide +kernel
theorem dL_law_290 : decode cL_law 290 = .ok (.iaload, 1) := by decide +kernel
theorem dL_law_291 : decode cL_law 291 = .ok (.invokevirtual 45, 3) := by decide +kernel
theorem dL_law_294 : decode cL_law 294 = .ok (.if_icmp .eq 74, 3) := by decide +kernel
theorem dL_law_297 : decode cL_law 297 = .ok (.iconst 0, 1) := by decide +kernel
theorem dL_law_298 : decode cL_law 298 = .ok (.ireturn, 1) := by decide +kernel
theorem dL_law_299 : decode cL_law 299 = .ok (.aload_n 1, 1) := by decide +kernel
theorem dL_law_300 : decode cL_law 300 = .ok (.aload_n 0, 1) := by decide +kernel
theorem dL_law_301 : decode cL_law 301 = .ok (.iload_n 3, 1) := by decide +kernel
theorem dL_law_302 : decode cL_law 302 = .ok (.iconst 1, 1) := by decide +kernel
theorem dL_law_303 : decode cL_law 303 = .ok (.iadd, 1) := by decide +kernel
theorem dL_law_304 : decode cL_law 304 = .ok (.iaload, 1) := by decide +kernel
theorem dL_law_305 : decode cL_law 305 = .ok (.aload_n 0, 1) := by decide +kernel
theorem dL_law_306 : decode cL_law 306 = .ok (.iload_n 3, 1) := by decide +kernel
theorem dL_law_307 : decode cL_law 307 = .ok (.iconst 2, 1) := by decide +kernel
theorem dL_law_308 : decode cL_law 308 = .ok (.iadd, 1) := by decide +kernel
theorem dL_law_309 : decode cL_law 309 = .ok (.iaload, 1) := by decide +kernel
theorem dL_law_310 : decode cL_law 310 = .ok (.invokevirtual 46, 3) := by decide +kernel
theorem dL_law_313 : decode cL_law 313 = .ok (.aload_n 2, 1) := by decide +kernel
theorem dL_law_314 : decode cL_law 314 = .ok (.aload_n 0, 1) := by decide +kernel
theorem dL_law_315 : decode cL_law 315 = .ok (.iload_n 3, 1) := by decide +kernel
theorem dL_law_316 : decode cL_law 316 = .ok (.iconst 1, 1) := by decide +kernel
theorem dL_law_317 : decode cL_law 317 = .ok (.iadd, 1) := by decide +kernel
theorem dL_law_318 : decode cL_law 318 = .ok (.iaload, 1) := by decide +kernel
theorem dL_law_319 : decode cL_law 319 = .ok (.aload_n 0, 1) := by decide +kernel
theorem dL_law_320 : decode cL_law 320 = .ok (.iload_n 3, 1) := by decide +kernel
theorem dL_law_321 : decode cL_law 321 = .ok (.iconst 2, 1) := by decide +kernel
theorem dL_law_322 : decode cL_law 322 = .ok (.iadd, 1) := by decide +kernel
theorem dL_law_323 : decode cL_law 323 = .ok (.iaload, 1) := by decide +kernel
theorem dL_law_324 : decode cL_law 324 = .ok (.invokevirtual 49, 3) := by decide +kernel
theorem dL_law_327 : decode cL_law 327 = .ok (.if_icmp .eq 41, 3) := by decide +kernel
theorem dL_law_330 : decode cL_law 330 = .ok (.iconst 0, 1) := by decide +kernel
theorem dL_law_331 : decode cL_law 331 = .ok (.ireturn, 1) := by decide +kernel
theorem dL_law_332 : decode cL_law 332 = .ok (.aload_n 1, 1) := by decide +kernel
theorem dL_law_333 : decode cL_law 333 = .ok (.aload_n 0, 1) := by decide +kernel
theorem dL_law_334 : decode cL_law 334 = .ok (.iload_n 3, 1) := by decide +kernel
theorem dL_law_335 : decode cL_law 335 = .ok (.iconst 1, 1) := by decide +kernel
theorem dL_law_336 : decode cL_law 336 = .ok (.iadd, 1) := by decide +kernel
theorem dL_law_337 : decode cL_law 337 = .ok (.iaload, 1) := by decide +kernel
theorem dL_law_338 : decode cL_law 338 = .ok (.invokevirtual 50, 3) := by decide +kernel
theorem dL_law_341 : decode cL_law 341 = .ok (.aload_n 2, 1) := by decide +kernel
theorem dL_law_342 : decode cL_law 342 = .ok (.aload_n 0, 1) := by decide +kernel
theorem dL_law_343 : decode cL_law 343 = .ok (.iload_n 3, 1) := by decide +kernel
theorem dL_law_344 : decode cL_law 344 = .ok (.iconst 1, 1) := by decide +kernel
theorem dL_law_345 : decode cL_law 345 = .ok (.iadd, 1) := by decide +kernel
theorem dL_law_346 : decode cL_law 346 = .ok (.iaload, 1) := by decide +kernel
theorem dL_law_347 : decode cL_law 347 = .ok (.invokevirtual 53, 3) := by decide +kernel
theorem dL_law_350 : decode cL_law 350 = .ok (.if_icmp .eq 18, 3) := by decide +kernel
theorem dL_law_353 : decode cL_law 353 = .ok (.iconst 0, 1) := by decide +kernel
theorem dL_law_354 : decode cL_law 354 = .ok (.ireturn, 1) := by decide +kernel
theorem dL_law_355 : decode cL_law 355 = .ok (.aload_n 1, 1) := by decide +kernel
theorem dL_law_356 : decode cL_law 356 = .ok (.invokevirtual 54, 3) := by decide +kernel
theorem dL_law_359 : decode cL_law 359 = .ok (.aload_n 2, 1) := by decide +kernel
theorem dL_law_360 : decode cL_law 360 = .ok (.invokevirtual 58, 3) := by decide +kernel
theorem dL_law_363 : decode cL_law 363 = .ok (.if_icmp .eq 5, 3) := by decide +kernel
theorem dL_law_366 : decode cL_law 366 = .ok (.iconst 0, 1) := by decide +kernel
theorem dL_law_367 : decode cL_law 367 = .ok (.ireturn, 1) := by decide +kernel
theorem dL_law_368 : decode cL_law 368 = .ok (.iinc 3 4, 3) := by decide +kernel
theorem dL_law_371 : decode cL_law 371 = .ok (.goto (-353), 3) := by decide +kernel
theorem dL_law_374 : decode cL_law 374 = .ok (.iconst 1, 1) := by decide +kernel
theorem dL_law_375 : decode cL_law 375 = .ok (.ireturn, 1) := by decide +kernel
end
section
/-! THE LAYER: one judgement gx_G (a world of cells, a pc, the locals by place, the stack), contracts gx_CI (an int or boolean answer), gx_CV (void); a rule an instruction -/
set_option maxRecDepth 100000
abbrev gx_C : Type := ClassId × ClassId × ClassId × ClassId
abbrev gx_T : Type := Program × Launch × Env × Room × State × MethodId × Array Value × List Frame × Method × Code × Nat × Nat × (State → Prop) × (Nat → Prop) × va_G × Nat
abbrev vwCl : List vw_C := [(RX0, TX0, 20), (RX1, TX1, 6)]
abbrev gx_ty (k : gx_C) : List (ClassId × FieldType) := [(k.1, .int), (k.2.1, .long), (k.2.2.1, .byte), (k.2.2.2, .boolean)]
def gx_L (ls : Array Slot) (nL : Nat) (lv : List (Option Value)) : Prop := ls.size = nL ∧ lv.length = nL ∧ lv_wf ls ∧ ∀ (i : Nat) (v : Value), lv[i]? = some (some v) → ls[i]? = some (.val v)
/-- from this place, with any heap that holds the cells ws, the machine comes to its end -/
def gx_G (X : gx_T) (ws : va_W) (pc : Nat) (lv : List (Option Value)) (st : List Value) : Prop :=
  match X with
  | (p, l, e, R, s, m, args, below, meth, c, cells, slots, Q, A, D, nL) =>
    ∀ (H : Heap) (locs : List Loc) (ls : Array Slot), va_P D vwCl ws H → va_D A ws → va_S A s.heap H locs → gx_L ls nL lv → W p l e R s m args below meth c H locs cells slots Q (F0 m pc ls st)
def gx_Ok (X : gx_T) (cc : ByteArray) (own : String) (k : gx_C) (rm : Nat × Nat) : Prop :=
  match X with
  | (p, l, e, R, s, m, args, below, meth, c, cells, slots, Q, A, D, nL) =>
    p.tables.exec = Jvm.exec ∧ c.code = cc ∧ c.maxLocals = nL ∧ s.vm.findClass own = some m.cls ∧ (∀ w ∈ lw_all, w.before args s = true) ∧ va_K D vwCl (gx_ty k) s ∧ (∀ q : Nat, s.heap.size ≤ q → A q) ∧ (R.frames = rm.1 ∧ R.locals = rm.2 ∧ cells ≤ R.cells ∧ slots ≤ R.slots)
def gx_c1 (lv : List (Option Value)) : Bool := lv.all (fun o => match o with | some v => v.category == 1 | none => true)
def gx_as (lv : List (Option Value)) : List (Nat × Value) := (List.range lv.length).filterMap (fun i => match lv[i]? with | some (some v) => some (i, v) | _ => none)
theorem gx_as_mem {lv : List (Option Value)} {i : Nat} {v : Value} : (i, v) ∈ gx_as lv ↔ lv[i]? = some (some v) := by
  unfold gx_as
  rw [List.mem_filterMap]
  constructor
  · rintro ⟨j, -, hj⟩
    split at hj
    · rename_i w hw
      cases hj
      exact hw
    · cases hj
  · intro h
    refine ⟨i, ?_, by rw [h]⟩
    rw [List.mem_range]
    exact (List.getElem?_eq_some_iff.mp h).1
theorem gx_L.has {ls : Array Slot} {nL : Nat} {lv : List (Option Value)} (h : gx_L ls nL lv) : lv_has ls nL (gx_as lv) := ⟨h.1, h.2.2.1, fun q hq => h.2.2.2 q.1 q.2 (gx_as_mem.mp hq)⟩
theorem gx_c1_at {lv : List (Option Value)} (h : gx_c1 lv = true) {i : Nat} {v : Value} (hi : lv[i]? = some (some v)) : v.category = 1 := by
  have := List.all_eq_true.mp h _ (List.mem_of_getElem? hi)
  simpa using this
theorem gx_L.set1 {ls : Array Slot} {nL : Nat} {lv : List (Option Value)} {i : Nat} {v : Value} (h : lv.length = nL) (hc : gx_c1 lv = true) (hs : lv_has ls nL ((i, v) :: (gx_as lv).filter (fun q => !(q.1 == i) && !(q.1 + 1 == i && q.2.category == 2)))) : gx_L ls nL (lv.set i (some v)) := by
  refine ⟨hs.1, by rw [List.length_set]; exact h, hs.2.1, fun j w hj => ?_⟩
  rw [List.getElem?_set] at hj
  by_cases hij : i = j
  · subst hij
    rw [if_pos rfl] at hj
    split at hj
    · cases hj
      exact hs.2.2 (i, v) List.mem_cons_self
    · cases hj
  · rw [if_neg hij] at hj
    refine hs.2.2 (j, w) (List.mem_cons_of_mem _ (List.mem_filter.mpr ⟨gx_as_mem.mpr hj, ?_⟩))
    have hc2 := gx_c1_at hc hj
    have : ¬ j = i := fun e => hij e.symm
    simp [this, hc2]
theorem gx_L.set2 {ls : Array Slot} {nL : Nat} {lv : List (Option Value)} {i : Nat} {v : Value} (h : lv.length = nL) (hc : gx_c1 lv = true) (hs : lv_has ls nL ((i, v) :: (gx_as lv).filter (fun q => !(q.1 == i) && (!(q.1 == i + 1) && !(q.1 + 1 == i && q.2.category == 2))))) : gx_L ls nL ((lv.set i (some v)).set (i + 1) none) := by
  refine ⟨hs.1, by rw [List.length_set, List.length_set]; exact h, hs.2.1, fun j w hj => ?_⟩
  rw [List.getElem?_set] at hj
  by_cases hij1 : i + 1 = j
  · subst hij1
    rw [if_pos rfl] at hj
    split at hj
    · cases hj
    · cases hj
  · rw [if_neg hij1, List.getElem?_set] at hj
    by_cases hij : i = j
    · subst hij
      rw [if_pos rfl] at hj
      split at hj
      · cases hj
        exact hs.2.2 (i, v) List.mem_cons_self
      · cases hj
    · rw [if_neg hij] at hj
      refine hs.2.2 (j, w) (List.mem_cons_of_mem _ (List.mem_filter.mpr ⟨gx_as_mem.mpr hj, ?_⟩))
      have hc2 := gx_c1_at hc hj
      have h1 : ¬ j = i := fun e => hij e.symm
      have h2 : ¬ j = i + 1 := fun e => hij1 e.symm
      simp [h1, h2, hc2]
section GI
variable {X : gx_T} {cc : ByteArray} {own : String} {k : gx_C} {rm : Nat × Nat} {ws : va_W} {pc : Nat} {lv : List (Option Value)} {st : List Value}
theorem gi_iadd {x y : Int32} (hX : gx_Ok X cc own k rm) (hdg : decode cc pc = .ok (.iadd, 1)) (kk : gx_G X ws (pc + 1) lv (.int (x + y) :: st)) : gx_G X ws pc lv (.int y :: .int x :: st) := by
  obtain ⟨p, l, e, R, s, m, args, below, meth, c, cells, slots, Q, A, D, nL⟩ := X
  obtain ⟨hx, hb, hml, hown, hts, hK, hA, hR⟩ := hX
  intro H locs ls hP hD hS hl
  exact lv_iadd hx hb hdg (kk H locs ls hP hD hS hl)
theorem gi_isub {x y : Int32} (hX : gx_Ok X cc own k rm) (hdg : decode cc pc = .ok (.isub, 1)) (kk : gx_G X ws (pc + 1) lv (.int (x - y) :: st)) : gx_G X ws pc lv (.int y :: .int x :: st) := by
  obtain ⟨p, l, e, R, s, m, args, below, meth, c, cells, slots, Q, A, D, nL⟩ := X
  obtain ⟨hx, hb, hml, hown, hts, hK, hA, hR⟩ := hX
  intro H locs ls hP hD hS hl
  exact lv_isub hx hb hdg (kk H locs ls hP hD hS hl)
theorem gi_imul {x y : Int32} (hX : gx_Ok X cc own k rm) (hdg : decode cc pc = .ok (.imul, 1)) (kk : gx_G X ws (pc + 1) lv (.int (x * y) :: st)) : gx_G X ws pc lv (.int y :: .int x :: st) := by
  obtain ⟨p, l, e, R, s, m, args, below, meth, c, cells, slots, Q, A, D, nL⟩ := X
  obtain ⟨hx, hb, hml, hown, hts, hK, hA, hR⟩ := hX
  intro H locs ls hP hD hS hl
  exact lv_imul hx hb hdg (kk H locs ls hP hD hS hl)
theorem gi_iand {x y : Int32} (hX : gx_Ok X cc own k rm) (hdg : decode cc pc = .ok (.iand, 1)) (kk : gx_G X ws (pc + 1) lv (.int (x &&& y) :: st)) : gx_G X ws pc lv (.int y :: .int x :: st) := by
  obtain ⟨p, l, e, R, s, m, args, below, meth, c, cells, slots, Q, A, D, nL⟩ := X
  obtain ⟨hx, hb, hml, hown, hts, hK, hA, hR⟩ := hX
  intro H locs ls hP hD hS hl
  exact lv_iand hx hb hdg (kk H locs ls hP hD hS hl)
theorem gi_ior {x y : Int32} (hX : gx_Ok X cc own k rm) (hdg : decode cc pc = .ok (.ior, 1)) (kk : gx_G X ws (pc + 1) lv (.int (x ||| y) :: st)) : gx_G X ws pc lv (.int y :: .int x :: st) := by
  obtain ⟨p, l, e, R, s, m, args, below, meth, c, cells, slots, Q, A, D, nL⟩ := X
  obtain ⟨hx, hb, hml, hown, hts, hK, hA, hR⟩ := hX
  intro H locs ls hP hD hS hl
  exact lv_ior hx hb hdg (kk H locs ls hP hD hS hl)
theorem gi_ixor {x y : Int32} (hX : gx_Ok X cc own k rm) (hdg : decode cc pc = .ok (.ixor, 1)) (kk : gx_G X ws (pc + 1) lv (.int (x ^^^ y) :: st)) : gx_G X ws pc lv (.int y :: .int x :: st) := by
  obtain ⟨p, l, e, R, s, m, args, below, meth, c, cells, slots, Q, A, D, nL⟩ := X
  obtain ⟨hx, hb, hml, hown, hts, hK, hA, hR⟩ := hX
  intro H locs ls hP hD hS hl
  exact lv_ixor hx hb hdg (kk H locs ls hP hD hS hl)
theorem gi_ishl {x y : Int32} (hX : gx_Ok X cc own k rm) (hdg : decode cc pc = .ok (.ishl, 1)) (kk : gx_G X ws (pc + 1) lv (.int (x <<< (y &&& 31)) :: st)) : gx_G X ws pc lv (.int y :: .int x :: st) := by
  obtain ⟨p, l, e, R, s, m, args, below, meth, c, cells, slots, Q, A, D, nL⟩ := X
  obtain ⟨hx, hb, hml, hown, hts, hK, hA, hR⟩ := hX
  intro H locs ls hP hD hS hl
  exact lv_ishl hx hb hdg (kk H locs ls hP hD hS hl)
theorem gi_ishr {x y : Int32} (hX : gx_Ok X cc own k rm) (hdg : decode cc pc = .ok (.ishr, 1)) (kk : gx_G X ws (pc + 1) lv (.int (x >>> (y &&& 31)) :: st)) : gx_G X ws pc lv (.int y :: .int x :: st) := by
  obtain ⟨p, l, e, R, s, m, args, below, meth, c, cells, slots, Q, A, D, nL⟩ := X
  obtain ⟨hx, hb, hml, hown, hts, hK, hA, hR⟩ := hX
  intro H locs ls hP hD hS hl
  exact lv_ishr hx hb hdg (kk H locs ls hP hD hS hl)
theorem gi_idiv {x y : Int32} (hX : gx_Ok X cc own k rm) (hdg : decode cc pc = .ok (.idiv, 1)) (hne : ¬ y = 0) (kk : gx_G X ws (pc + 1) lv (.int (x / y) :: st)) : gx_G X ws pc lv (.int y :: .int x :: st) := by
  obtain ⟨p, l, e, R, s, m, args, below, meth, c, cells, slots, Q, A, D, nL⟩ := X
  obtain ⟨hx, hb, hml, hown, hts, hK, hA, hR⟩ := hX
  intro H locs ls hP hD hS hl
  exact lv_idiv hx hb hdg hne (kk H locs ls hP hD hS hl)
theorem gi_irem {x y : Int32} (hX : gx_Ok X cc own k rm) (hdg : decode cc pc = .ok (.irem, 1)) (hne : ¬ y = 0) (kk : gx_G X ws (pc + 1) lv (.int (x - x / y * y) :: st)) : gx_G X ws pc lv (.int y :: .int x :: st) := by
  obtain ⟨p, l, e, R, s, m, args, below, meth, c, cells, slots, Q, A, D, nL⟩ := X
  obtain ⟨hx, hb, hml, hown, hts, hK, hA, hR⟩ := hX
  intro H locs ls hP hD hS hl
  exact lv_irem hx hb hdg hne (kk H locs ls hP hD hS hl)
theorem gi_i2b {x : Int32} (hX : gx_Ok X cc own k rm) (hdg : decode cc pc = .ok (.i2b, 1)) (kk : gx_G X ws (pc + 1) lv (.int x.toInt8.toInt32 :: st)) : gx_G X ws pc lv (.int x :: st) := by
  obtain ⟨p, l, e, R, s, m, args, below, meth, c, cells, slots, Q, A, D, nL⟩ := X
  obtain ⟨hx, hb, hml, hown, hts, hK, hA, hR⟩ := hX
  intro H locs ls hP hD hS hl
  exact lv_i2b hx hb hdg rfl (kk H locs ls hP hD hS hl)
theorem gi_land {x y : Int64} (hX : gx_Ok X cc own k rm) (hdg : decode cc pc = .ok (.land, 1)) (kk : gx_G X ws (pc + 1) lv (.long (x &&& y) :: st)) : gx_G X ws pc lv (.long y :: .long x :: st) := by
  obtain ⟨p, l, e, R, s, m, args, below, meth, c, cells, slots, Q, A, D, nL⟩ := X
  obtain ⟨hx, hb, hml, hown, hts, hK, hA, hR⟩ := hX
  intro H locs ls hP hD hS hl
  exact lv_land hx hb hdg (kk H locs ls hP hD hS hl)
theorem gi_lor {x y : Int64} (hX : gx_Ok X cc own k rm) (hdg : decode cc pc = .ok (.lor, 1)) (kk : gx_G X ws (pc + 1) lv (.long (x ||| y) :: st)) : gx_G X ws pc lv (.long y :: .long x :: st) := by
  obtain ⟨p, l, e, R, s, m, args, below, meth, c, cells, slots, Q, A, D, nL⟩ := X
  obtain ⟨hx, hb, hml, hown, hts, hK, hA, hR⟩ := hX
  intro H locs ls hP hD hS hl
  exact lv_lor hx hb hdg (kk H locs ls hP hD hS hl)
theorem gi_lushr {x : Int64} {y : Int32} (hX : gx_Ok X cc own k rm) (hdg : decode cc pc = .ok (.lushr, 1)) (kk : gx_G X ws (pc + 1) lv (.long (x.toUInt64 >>> (y.toInt64.toUInt64 &&& Int64.toUInt64 63)).toInt64 :: st)) : gx_G X ws pc lv (.int y :: .long x :: st) := by
  obtain ⟨p, l, e, R, s, m, args, below, meth, c, cells, slots, Q, A, D, nL⟩ := X
  obtain ⟨hx, hb, hml, hown, hts, hK, hA, hR⟩ := hX
  intro H locs ls hP hD hS hl
  exact lv_lushr hx hb hdg rfl (kk H locs ls hP hD hS hl)
theorem gi_lshl {x : Int64} {y : Int32} (hX : gx_Ok X cc own k rm) (hdg : decode cc pc = .ok (.lshl, 1)) (kk : gx_G X ws (pc + 1) lv (.long (x <<< (y.toInt64 &&& 63)) :: st)) : gx_G X ws pc lv (.int y :: .long x :: st) := by
  obtain ⟨p, l, e, R, s, m, args, below, meth, c, cells, slots, Q, A, D, nL⟩ := X
  obtain ⟨hx, hb, hml, hown, hts, hK, hA, hR⟩ := hX
  intro H locs ls hP hD hS hl
  exact lv_lshl hx hb hdg rfl (kk H locs ls hP hD hS hl)
theorem gi_lcmp {x y : Int64} (hX : gx_Ok X cc own k rm) (hdg : decode cc pc = .ok (.lcmp, 1)) (kk : gx_G X ws (pc + 1) lv (.int (lg_cmp x y) :: st)) : gx_G X ws pc lv (.long y :: .long x :: st) := by
  obtain ⟨p, l, e, R, s, m, args, below, meth, c, cells, slots, Q, A, D, nL⟩ := X
  obtain ⟨hx, hb, hml, hown, hts, hK, hA, hR⟩ := hX
  intro H locs ls hP hD hS hl
  exact W.lcmp hx hb hdg (kk H locs ls hP hD hS hl)
theorem gi_iconst {n : Int} (v : Int32) (hX : gx_Ok X cc own k rm) (hdg : decode cc pc = .ok (.iconst n, 1)) (hv : Int32.ofInt n = v) (kk : gx_G X ws (pc + 1) lv (.int v :: st)) : gx_G X ws pc lv (st) := by
  obtain ⟨p, l, e, R, s, m, args, below, meth, c, cells, slots, Q, A, D, nL⟩ := X
  obtain ⟨hx, hb, hml, hown, hts, hK, hA, hR⟩ := hX
  intro H locs ls hP hD hS hl
  exact lv_iconst hx hb hdg hv (kk H locs ls hP hD hS hl)
theorem gi_bipush {n : Int} (v : Int32) (hX : gx_Ok X cc own k rm) (hdg : decode cc pc = .ok (.bipush n, 2)) (hv : (Int8.ofInt n).toInt32 = v) (kk : gx_G X ws (pc + 2) lv (.int v :: st)) : gx_G X ws pc lv (st) := by
  obtain ⟨p, l, e, R, s, m, args, below, meth, c, cells, slots, Q, A, D, nL⟩ := X
  obtain ⟨hx, hb, hml, hown, hts, hK, hA, hR⟩ := hX
  intro H locs ls hP hD hS hl
  exact lv_bipush hx hb hdg hv (kk H locs ls hP hD hS hl)
theorem gi_sipush {n : Int} (v : Int32) (hX : gx_Ok X cc own k rm) (hdg : decode cc pc = .ok (.sipush n, 3)) (hv : (Int16.ofInt n).toInt32 = v) (kk : gx_G X ws (pc + 3) lv (.int v :: st)) : gx_G X ws pc lv (st) := by
  obtain ⟨p, l, e, R, s, m, args, below, meth, c, cells, slots, Q, A, D, nL⟩ := X
  obtain ⟨hx, hb, hml, hown, hts, hK, hA, hR⟩ := hX
  intro H locs ls hP hD hS hl
  exact lv_sipush hx hb hdg hv (kk H locs ls hP hD hS hl)
theorem gi_lconst {n : Fin 2} (v : Int64) (hX : gx_Ok X cc own k rm) (hdg : decode cc pc = .ok (.lconst n, 1)) (hv : Int64.ofNat (n : Nat) = v) (kk : gx_G X ws (pc + 1) lv (.long v :: st)) : gx_G X ws pc lv (st) := by
  obtain ⟨p, l, e, R, s, m, args, below, meth, c, cells, slots, Q, A, D, nL⟩ := X
  obtain ⟨hx, hb, hml, hown, hts, hK, hA, hR⟩ := hX
  intro H locs ls hP hD hS hl
  exact lv_lconst hx hb hdg hv (kk H locs ls hP hD hS hl)
theorem gi_dup {a : Value} (hX : gx_Ok X cc own k rm) (hdg : decode cc pc = .ok (.dup, 1)) (hc : a.category = 1) (kk : gx_G X ws (pc + 1) lv (a :: a :: st)) : gx_G X ws pc lv (a :: st) := by
  obtain ⟨p, l, e, R, s, m, args, below, meth, c, cells, slots, Q, A, D, nL⟩ := X
  obtain ⟨hx, hb, hml, hown, hts, hK, hA, hR⟩ := hX
  intro H locs ls hP hD hS hl
  exact lv_dup hx hb hdg hc (kk H locs ls hP hD hS hl)
theorem gi_dup2 {a b : Value} (hX : gx_Ok X cc own k rm) (hdg : decode cc pc = .ok (.dup2, 1)) (hc : a.category = 1) (hc2 : b.category = 1) (kk : gx_G X ws (pc + 1) lv (a :: b :: a :: b :: st)) : gx_G X ws pc lv (a :: b :: st) := by
  obtain ⟨p, l, e, R, s, m, args, below, meth, c, cells, slots, Q, A, D, nL⟩ := X
  obtain ⟨hx, hb, hml, hown, hts, hK, hA, hR⟩ := hX
  intro H locs ls hP hD hS hl
  exact lv_dup2_11 hx hb hdg hc hc2 (kk H locs ls hP hD hS hl)
theorem gi_iload_n {i : Fin 4} {x : Int32} (hX : gx_Ok X cc own k rm) (hdg : decode cc pc = .ok (.iload_n i, 1)) (hv : lv[(i : Nat)]? = some (some (.int x))) (kk : gx_G X ws (pc + 1) lv (.int x :: st)) : gx_G X ws pc lv (st) := by
  obtain ⟨p, l, e, R, s, m, args, below, meth, c, cells, slots, Q, A, D, nL⟩ := X
  obtain ⟨hx, hb, hml, hown, hts, hK, hA, hR⟩ := hX
  intro H locs ls hP hD hS hl
  exact lv_iload_n hx hb hdg rfl (hl.2.2.2 _ _ hv) (kk H locs ls hP hD hS hl)
theorem gi_iload {i : Nat} {x : Int32} (hX : gx_Ok X cc own k rm) (hdg : decode cc pc = .ok (.iload i, 2)) (hv : lv[i]? = some (some (.int x))) (kk : gx_G X ws (pc + 2) lv (.int x :: st)) : gx_G X ws pc lv (st) := by
  obtain ⟨p, l, e, R, s, m, args, below, meth, c, cells, slots, Q, A, D, nL⟩ := X
  obtain ⟨hx, hb, hml, hown, hts, hK, hA, hR⟩ := hX
  intro H locs ls hP hD hS hl
  exact lv_iload hx hb hdg (hl.2.2.2 _ _ hv) (kk H locs ls hP hD hS hl)
theorem gi_lload {i : Nat} {x : Int64} (hX : gx_Ok X cc own k rm) (hdg : decode cc pc = .ok (.lload i, 2)) (hv : lv[i]? = some (some (.long x))) (kk : gx_G X ws (pc + 2) lv (.long x :: st)) : gx_G X ws pc lv (st) := by
  obtain ⟨p, l, e, R, s, m, args, below, meth, c, cells, slots, Q, A, D, nL⟩ := X
  obtain ⟨hx, hb, hml, hown, hts, hK, hA, hR⟩ := hX
  intro H locs ls hP hD hS hl
  exact lv_lload hx hb hdg (hl.2.2.2 _ _ hv) (kk H locs ls hP hD hS hl)
theorem gi_aload_n {i : Fin 4} {x : Nat} (hX : gx_Ok X cc own k rm) (hdg : decode cc pc = .ok (.aload_n i, 1)) (hv : lv[(i : Nat)]? = some (some (.ref x))) (kk : gx_G X ws (pc + 1) lv (.ref x :: st)) : gx_G X ws pc lv (st) := by
  obtain ⟨p, l, e, R, s, m, args, below, meth, c, cells, slots, Q, A, D, nL⟩ := X
  obtain ⟨hx, hb, hml, hown, hts, hK, hA, hR⟩ := hX
  intro H locs ls hP hD hS hl
  exact lv_aload_n hx hb hdg rfl (hl.2.2.2 _ _ hv) (kk H locs ls hP hD hS hl)
theorem gi_istore_n (i : Nat) {i4 : Fin 4} (hi : (i4 : Nat) = i) {x : Int32} (hX : gx_Ok X cc own k rm) (hdg : decode cc pc = .ok (.istore_n i4, 1)) (hn : Nat.ble (i + 1) lv.length = true) (hc : gx_c1 lv = true) (kk : gx_G X ws (pc + 1) (lv.set i (some (.int x))) st) : gx_G X ws pc lv (.int x :: st) := by
  obtain ⟨p, l, e, R, s, m, args, below, meth, c, cells, slots, Q, A, D, nL⟩ := X
  obtain ⟨hx, hb, hml, hown, hts, hK, hA, hR⟩ := hX
  intro H locs ls hP hD hS hl
  exact lv_istore_n hx hb hdg hi hl.has (by rw [← hl.2.1]; exact Nat.le_of_ble_eq_true hn) rfl (fun ls2 h2 => kk H locs ls2 hP hD hS (gx_L.set1 hl.2.1 hc h2))
theorem gi_astore_n (i : Nat) {i4 : Fin 4} (hi : (i4 : Nat) = i) {x : Nat} (hX : gx_Ok X cc own k rm) (hdg : decode cc pc = .ok (.astore_n i4, 1)) (hn : Nat.ble (i + 1) lv.length = true) (hc : gx_c1 lv = true) (kk : gx_G X ws (pc + 1) (lv.set i (some (.ref x))) st) : gx_G X ws pc lv (.ref x :: st) := by
  obtain ⟨p, l, e, R, s, m, args, below, meth, c, cells, slots, Q, A, D, nL⟩ := X
  obtain ⟨hx, hb, hml, hown, hts, hK, hA, hR⟩ := hX
  intro H locs ls hP hD hS hl
  exact lv_astore_n hx hb hdg hi hl.has (by rw [← hl.2.1]; exact Nat.le_of_ble_eq_true hn) rfl (fun ls2 h2 => kk H locs ls2 hP hD hS (gx_L.set1 hl.2.1 hc h2))
theorem gi_istore (i : Nat) {x : Int32} (hX : gx_Ok X cc own k rm) (hdg : decode cc pc = .ok (.istore i, 2)) (hn : Nat.ble (i + 1) lv.length = true) (hc : gx_c1 lv = true) (kk : gx_G X ws (pc + 2) (lv.set i (some (.int x))) st) : gx_G X ws pc lv (.int x :: st) := by
  obtain ⟨p, l, e, R, s, m, args, below, meth, c, cells, slots, Q, A, D, nL⟩ := X
  obtain ⟨hx, hb, hml, hown, hts, hK, hA, hR⟩ := hX
  intro H locs ls hP hD hS hl
  exact lv_istore hx hb hdg hl.has (by rw [← hl.2.1]; exact Nat.le_of_ble_eq_true hn) rfl (fun ls2 h2 => kk H locs ls2 hP hD hS (gx_L.set1 hl.2.1 hc h2))
theorem gi_lstore (i : Nat) {x : Int64} (hX : gx_Ok X cc own k rm) (hdg : decode cc pc = .ok (.lstore i, 2)) (hn : Nat.ble (i + 2) lv.length = true) (hc : gx_c1 lv = true) (kk : gx_G X ws (pc + 2) ((lv.set i (some (.long x))).set (i + 1) none) st) : gx_G X ws pc lv (.long x :: st) := by
  obtain ⟨p, l, e, R, s, m, args, below, meth, c, cells, slots, Q, A, D, nL⟩ := X
  obtain ⟨hx, hb, hml, hown, hts, hK, hA, hR⟩ := hX
  intro H locs ls hP hD hS hl
  exact lv_lstore hx hb hdg hl.has (by rw [← hl.2.1]; exact Nat.le_of_ble_eq_true hn) rfl (fun ls2 h2 => kk H locs ls2 hP hD hS (gx_L.set2 hl.2.1 hc h2))
theorem gi_iinc (i : Nat) (v : Int32) {n : Int} {x : Int32} (hX : gx_Ok X cc own k rm) (hdg : decode cc pc = .ok (.iinc i n, 3)) (hv : lv[i]? = some (some (.int x))) (he : x + Int32.ofInt n = v) (hn : Nat.ble (i + 1) lv.length = true) (hc : gx_c1 lv = true) (kk : gx_G X ws (pc + 3) (lv.set i (some (.int v))) st) : gx_G X ws pc lv st := by
  obtain ⟨p, l, e, R, s, m, args, below, meth, c, cells, slots, Q, A, D, nL⟩ := X
  obtain ⟨hx, hb, hml, hown, hts, hK, hA, hR⟩ := hX
  intro H locs ls hP hD hS hl
  obtain ⟨j, hj⟩ := List.mem_iff_getElem?.mp (gx_as_mem.mpr hv)
  exact lv_iinc hx hb hdg hl.has hj he (by rw [← hl.2.1]; exact Nat.le_of_ble_eq_true hn) rfl (fun ls2 h2 => kk H locs ls2 hP hD hS (gx_L.set1 hl.2.1 hc h2))
/-- forget a local -/
theorem gi_drop (i : Nat) (kk : gx_G X ws pc (lv.set i none) st) : gx_G X ws pc lv st := by
  obtain ⟨p, l, e, R, s, m, args, below, meth, c, cells, slots, Q, A, D, nL⟩ := X
  intro H locs ls hP hD hS hl
  refine kk H locs ls hP hD hS ⟨hl.1, by rw [List.length_set]; exact hl.2.1, hl.2.2.1, fun j w hj => ?_⟩
  rw [List.getElem?_set] at hj
  by_cases hij : i = j
  · rw [if_pos hij] at hj
    split at hj <;> cases hj
  · rw [if_neg hij] at hj
    exact hl.2.2.2 j w hj
theorem gi_goto {off : Int} (tgt : Nat) (hX : gx_Ok X cc own k rm) (hdg : decode cc pc = .ok (.goto off, 3)) (ht : (pc : Int) + off = (tgt : Int)) (kk : gx_G X ws tgt lv st) : gx_G X ws pc lv st := by
  obtain ⟨p, l, e, R, s, m, args, below, meth, c, cells, slots, Q, A, D, nL⟩ := X
  obtain ⟨hx, hb, hml, hown, hts, hK, hA, hR⟩ := hX
  intro H locs ls hP hD hS hl
  exact lv_goto hx hb hdg ht (kk H locs ls hP hD hS hl)
theorem gi_if_eq {x : Int32} {off : Int} (tgt : Nat) (hX : gx_Ok X cc own k rm) (hdg : decode cc pc = .ok (.ifCond .eq off, 3)) (ht : (pc : Int) + off = (tgt : Int)) (kt : x = 0 → gx_G X ws tgt lv st) (kf : ¬ (x = 0) → gx_G X ws (pc + 3) lv st) : gx_G X ws pc lv (.int x :: st) := by
  obtain ⟨p, l, e, R, s, m, args, below, meth, c, cells, slots, Q, A, D, nL⟩ := X
  obtain ⟨hx, hb, hml, hown, hts, hK, hA, hR⟩ := hX
  intro H locs ls hP hD hS hl
  exact lv_if_eq hx hb hdg ht (fun h => kt h H locs ls hP hD hS hl) (fun h => kf h H locs ls hP hD hS hl)
theorem gi_if_ne {x : Int32} {off : Int} (tgt : Nat) (hX : gx_Ok X cc own k rm) (hdg : decode cc pc = .ok (.ifCond .ne off, 3)) (ht : (pc : Int) + off = (tgt : Int)) (kt : ¬ x = 0 → gx_G X ws tgt lv st) (kf : x = 0 → gx_G X ws (pc + 3) lv st) : gx_G X ws pc lv (.int x :: st) := by
  obtain ⟨p, l, e, R, s, m, args, below, meth, c, cells, slots, Q, A, D, nL⟩ := X
  obtain ⟨hx, hb, hml, hown, hts, hK, hA, hR⟩ := hX
  intro H locs ls hP hD hS hl
  exact lv_if_ne hx hb hdg ht (fun h => kt h H locs ls hP hD hS hl) (fun h => kf h H locs ls hP hD hS hl)
theorem gi_if_lt {x : Int32} {off : Int} (tgt : Nat) (hX : gx_Ok X cc own k rm) (hdg : decode cc pc = .ok (.ifCond .lt off, 3)) (ht : (pc : Int) + off = (tgt : Int)) (kt : x < 0 → gx_G X ws tgt lv st) (kf : ¬ (x < 0) → gx_G X ws (pc + 3) lv st) : gx_G X ws pc lv (.int x :: st) := by
  obtain ⟨p, l, e, R, s, m, args, below, meth, c, cells, slots, Q, A, D, nL⟩ := X
  obtain ⟨hx, hb, hml, hown, hts, hK, hA, hR⟩ := hX
  intro H locs ls hP hD hS hl
  exact lv_if_lt hx hb hdg ht (fun h => kt h H locs ls hP hD hS hl) (fun h => kf h H locs ls hP hD hS hl)
theorem gi_if_ge {x : Int32} {off : Int} (tgt : Nat) (hX : gx_Ok X cc own k rm) (hdg : decode cc pc = .ok (.ifCond .ge off, 3)) (ht : (pc : Int) + off = (tgt : Int)) (kt : 0 ≤ x → gx_G X ws tgt lv st) (kf : ¬ (0 ≤ x) → gx_G X ws (pc + 3) lv st) : gx_G X ws pc lv (.int x :: st) := by
  obtain ⟨p, l, e, R, s, m, args, below, meth, c, cells, slots, Q, A, D, nL⟩ := X
  obtain ⟨hx, hb, hml, hown, hts, hK, hA, hR⟩ := hX
  intro H locs ls hP hD hS hl
  exact lv_if_ge hx hb hdg ht (fun h => kt h H locs ls hP hD hS hl) (fun h => kf h H locs ls hP hD hS hl)
theorem gi_if_gt {x : Int32} {off : Int} (tgt : Nat) (hX : gx_Ok X cc own k rm) (hdg : decode cc pc = .ok (.ifCond .gt off, 3)) (ht : (pc : Int) + off = (tgt : Int)) (kt : 0 < x → gx_G X ws tgt lv st) (kf : ¬ (0 < x) → gx_G X ws (pc + 3) lv st) : gx_G X ws pc lv (.int x :: st) := by
  obtain ⟨p, l, e, R, s, m, args, below, meth, c, cells, slots, Q, A, D, nL⟩ := X
  obtain ⟨hx, hb, hml, hown, hts, hK, hA, hR⟩ := hX
  intro H locs ls hP hD hS hl
  exact lv_if_gt hx hb hdg ht (fun h => kt h H locs ls hP hD hS hl) (fun h => kf h H locs ls hP hD hS hl)
theorem gi_if_le {x : Int32} {off : Int} (tgt : Nat) (hX : gx_Ok X cc own k rm) (hdg : decode cc pc = .ok (.ifCond .le off, 3)) (ht : (pc : Int) + off = (tgt : Int)) (kt : x ≤ 0 → gx_G X ws tgt lv st) (kf : ¬ (x ≤ 0) → gx_G X ws (pc + 3) lv st) : gx_G X ws pc lv (.int x :: st) := by
  obtain ⟨p, l, e, R, s, m, args, below, meth, c, cells, slots, Q, A, D, nL⟩ := X
  obtain ⟨hx, hb, hml, hown, hts, hK, hA, hR⟩ := hX
  intro H locs ls hP hD hS hl
  exact lv_if_le hx hb hdg ht (fun h => kt h H locs ls hP hD hS hl) (fun h => kf h H locs ls hP hD hS hl)
theorem gi_icmp_eq {x y : Int32} {off : Int} (tgt : Nat) (hX : gx_Ok X cc own k rm) (hdg : decode cc pc = .ok (.if_icmp .eq off, 3)) (ht : (pc : Int) + off = (tgt : Int)) (kt : x = y → gx_G X ws tgt lv st) (kf : ¬ (x = y) → gx_G X ws (pc + 3) lv st) : gx_G X ws pc lv (.int y :: .int x :: st) := by
  obtain ⟨p, l, e, R, s, m, args, below, meth, c, cells, slots, Q, A, D, nL⟩ := X
  obtain ⟨hx, hb, hml, hown, hts, hK, hA, hR⟩ := hX
  intro H locs ls hP hD hS hl
  exact lv_icmp_eq hx hb hdg ht (fun h => kt h H locs ls hP hD hS hl) (fun h => kf h H locs ls hP hD hS hl)
theorem gi_icmp_ne {x y : Int32} {off : Int} (tgt : Nat) (hX : gx_Ok X cc own k rm) (hdg : decode cc pc = .ok (.if_icmp .ne off, 3)) (ht : (pc : Int) + off = (tgt : Int)) (kt : ¬ x = y → gx_G X ws tgt lv st) (kf : x = y → gx_G X ws (pc + 3) lv st) : gx_G X ws pc lv (.int y :: .int x :: st) := by
  obtain ⟨p, l, e, R, s, m, args, below, meth, c, cells, slots, Q, A, D, nL⟩ := X
  obtain ⟨hx, hb, hml, hown, hts, hK, hA, hR⟩ := hX
  intro H locs ls hP hD hS hl
  exact lv_icmp_ne hx hb hdg ht (fun h => kt h H locs ls hP hD hS hl) (fun h => kf h H locs ls hP hD hS hl)
theorem gi_icmp_lt {x y : Int32} {off : Int} (tgt : Nat) (hX : gx_Ok X cc own k rm) (hdg : decode cc pc = .ok (.if_icmp .lt off, 3)) (ht : (pc : Int) + off = (tgt : Int)) (kt : x < y → gx_G X ws tgt lv st) (kf : ¬ (x < y) → gx_G X ws (pc + 3) lv st) : gx_G X ws pc lv (.int y :: .int x :: st) := by
  obtain ⟨p, l, e, R, s, m, args, below, meth, c, cells, slots, Q, A, D, nL⟩ := X
  obtain ⟨hx, hb, hml, hown, hts, hK, hA, hR⟩ := hX
  intro H locs ls hP hD hS hl
  exact lv_icmp_lt hx hb hdg ht (fun h => kt h H locs ls hP hD hS hl) (fun h => kf h H locs ls hP hD hS hl)
theorem gi_icmp_ge {x y : Int32} {off : Int} (tgt : Nat) (hX : gx_Ok X cc own k rm) (hdg : decode cc pc = .ok (.if_icmp .ge off, 3)) (ht : (pc : Int) + off = (tgt : Int)) (kt : y ≤ x → gx_G X ws tgt lv st) (kf : ¬ (y ≤ x) → gx_G X ws (pc + 3) lv st) : gx_G X ws pc lv (.int y :: .int x :: st) := by
  obtain ⟨p, l, e, R, s, m, args, below, meth, c, cells, slots, Q, A, D, nL⟩ := X
  obtain ⟨hx, hb, hml, hown, hts, hK, hA, hR⟩ := hX
  intro H locs ls hP hD hS hl
  exact lv_icmp_ge hx hb hdg ht (fun h => kt h H locs ls hP hD hS hl) (fun h => kf h H locs ls hP hD hS hl)
theorem gi_icmp_gt {x y : Int32} {off : Int} (tgt : Nat) (hX : gx_Ok X cc own k rm) (hdg : decode cc pc = .ok (.if_icmp .gt off, 3)) (ht : (pc : Int) + off = (tgt : Int)) (kt : y < x → gx_G X ws tgt lv st) (kf : ¬ (y < x) → gx_G X ws (pc + 3) lv st) : gx_G X ws pc lv (.int y :: .int x :: st) := by
  obtain ⟨p, l, e, R, s, m, args, below, meth, c, cells, slots, Q, A, D, nL⟩ := X
  obtain ⟨hx, hb, hml, hown, hts, hK, hA, hR⟩ := hX
  intro H locs ls hP hD hS hl
  exact lv_icmp_gt hx hb hdg ht (fun h => kt h H locs ls hP hD hS hl) (fun h => kf h H locs ls hP hD hS hl)
theorem gi_icmp_le {x y : Int32} {off : Int} (tgt : Nat) (hX : gx_Ok X cc own k rm) (hdg : decode cc pc = .ok (.if_icmp .le off, 3)) (ht : (pc : Int) + off = (tgt : Int)) (kt : x ≤ y → gx_G X ws tgt lv st) (kf : ¬ (x ≤ y) → gx_G X ws (pc + 3) lv st) : gx_G X ws pc lv (.int y :: .int x :: st) := by
  obtain ⟨p, l, e, R, s, m, args, below, meth, c, cells, slots, Q, A, D, nL⟩ := X
  obtain ⟨hx, hb, hml, hown, hts, hK, hA, hR⟩ := hX
  intro H locs ls hP hD hS hl
  exact lv_icmp_le hx hb hdg ht (fun h => kt h H locs ls hP hD hS hl) (fun h => kf h H locs ls hP hD hS hl)
theorem gi_get {a : Nat} {C : String} {T : u_T} {N ci index : Nat} (hX : gx_Ok X cc own k rm) (hin : ∀ w ∈ u_ws C T N, w ∈ lw_all) (q0 : Nat) {fs : List Value} (he : ws[q0]? = some (a, .inr (ci, fs))) (hc : vwCl[ci]? = some (C, T, N)) (j : Nat) (hj : j < N) (hlink : (Cond.fieldLink own index (T j).1 (T j).2.1 (T j).2.2.1) ∈ lw_all) {v : Value} (hv : fs[j]? = some v) (hdg : decode cc pc = .ok (.getfield index, 3)) (kk : gx_G X ws (pc + 3) lv (v :: st)) : gx_G X ws pc lv (.ref a :: st) := by
  obtain ⟨p, l, e, R, s, m, args, below, meth, c, cells, slots, Q, A, D, nL⟩ := X
  obtain ⟨hx, hb, hml, hown, hts, hK, hA, hR⟩ := hX
  intro H locs ls hP hD hS hl
  exact va_get hx hb hts hin hown hK hP q0 he hc j hj (hts _ hlink) (fun _ h9 => h9) hv hdg (kk H locs ls hP hD hS hl)
theorem gi_put {a : Nat} {C : String} {T : u_T} {N ci index : Nat} (hX : gx_Ok X cc own k rm) (hin : ∀ w ∈ u_ws C T N, w ∈ lw_all) (ty0 : Nat → FieldType) (hty : ∀ k, k < N → parseFieldDescriptor (T k).2.2.1 = some (ty0 k)) (hnm : ∀ a, a < N → ∀ b, b < N → a ≠ b → (T a).2.1 ≠ (T b).2.1) (q0 : Nat) {fs : List Value} (he : ws[q0]? = some (a, .inr (ci, fs))) (hc : vwCl[ci]? = some (C, T, N)) (j : Nat) (hj : j < N) (hlink : (Cond.fieldLink own index (T j).1 (T j).2.1 (T j).2.2.1) ∈ lw_all) (hfin : (T j).2.2.2 = false) {ty : FieldType} {v : Value} (hd : parseFieldDescriptor (T j).2.2.1 = some ty) (hn : narrow ty v = v) (hfit : fits ty v = true) (hl2 : j < fs.length) (hdg : decode cc pc = .ok (.putfield index, 3)) (kk : gx_G X (ws.set q0 (a, .inr (ci, fs.set j v))) (pc + 3) lv st) : gx_G X ws pc lv (v :: .ref a :: st) := by
  obtain ⟨p, l, e, R, s, m, args, below, meth, c, cells, slots, Q, A, D, nL⟩ := X
  obtain ⟨hx, hb, hml, hown, hts, hK, hA, hR⟩ := hX
  intro H locs ls hP hD hS hl
  exact va_put hx hb hts hin ty0 hty hnm hown hK hP hD hS q0 he hc j hj (hts _ hlink) (fun _ h9 => h9) hfin hd hn hfit hl2 hdg (fun H1 locs1 hP1 hD1 hS1 => kk H1 locs1 ls hP1 hD1 hS1 hl)
theorem gi_ix {n j : Nat} (hj : j < n) (hb : Nat.ble n 5000 = true) : vp_in (nI j) n := vp_in_nI hj (Nat.lt_of_le_of_lt (Nat.le_of_ble_eq_true hb) (by decide))
theorem gi_cl {n j : Nat} (hj : j < n) (hb : Nat.ble n 5000 = true) : (nI j).toNatClampNeg = j := nI_clamp (Nat.lt_trans hj (Nat.lt_of_le_of_lt (Nat.le_of_ble_eq_true hb) (by decide)))
theorem gi_iald {a n : Nat} {f : Nat → Int32} {i : Int32} (hX : gx_Ok X cc own k rm) (q0 : Nat) (ha : ws[q0]? = some (a, .inl (k.1, n, .inl f))) (hb : Nat.ble n 5000 = true) (j : Nat) (hi : i = nI j) (hj : j < n) (hdg : decode cc pc = .ok (.iaload, 1)) (kk : gx_G X ws (pc + 1) lv (.int (f j) :: st)) : gx_G X ws pc lv (.int i :: .ref a :: st) := by
  subst hi
  have h1 := gi_ix hj hb
  have h2 := gi_cl hj hb
  obtain ⟨p, l, e, R, s, m, args, below, meth, c, cells, slots, Q, A, D, nL⟩ := X
  obtain ⟨hx, hb2, hml, hown, hts, hK, hA, hR⟩ := hX
  intro H locs ls hP hD hS hl
  refine va_iald hx hb2 hK hP q0 0 ha rfl h1 hdg ?_
  rw [h2]
  exact kk H locs ls hP hD hS hl
theorem gi_bald {a n : Nat} {f : Nat → Int32} {i : Int32} (hX : gx_Ok X cc own k rm) (q0 : Nat) (ha : ws[q0]? = some (a, .inl (k.2.2.1, n, .inl f))) (hb : Nat.ble n 5000 = true) (j : Nat) (hi : i = nI j) (hj : j < n) (hdg : decode cc pc = .ok (.baload, 1)) (kk : gx_G X ws (pc + 1) lv (.int (f j) :: st)) : gx_G X ws pc lv (.int i :: .ref a :: st) := by
  subst hi
  have h1 := gi_ix hj hb
  have h2 := gi_cl hj hb
  obtain ⟨p, l, e, R, s, m, args, below, meth, c, cells, slots, Q, A, D, nL⟩ := X
  obtain ⟨hx, hb2, hml, hown, hts, hK, hA, hR⟩ := hX
  intro H locs ls hP hD hS hl
  refine va_bald hx hb2 hK hP q0 2 ha rfl h1 hdg ?_
  rw [h2]
  exact kk H locs ls hP hD hS hl
theorem gi_zald {a n : Nat} {f : Nat → Int32} {i : Int32} (hX : gx_Ok X cc own k rm) (q0 : Nat) (ha : ws[q0]? = some (a, .inl (k.2.2.2, n, .inl f))) (hb : Nat.ble n 5000 = true) (j : Nat) (hi : i = nI j) (hj : j < n) (hdg : decode cc pc = .ok (.baload, 1)) (kk : gx_G X ws (pc + 1) lv (.int (f j) :: st)) : gx_G X ws pc lv (.int i :: .ref a :: st) := by
  subst hi
  have h1 := gi_ix hj hb
  have h2 := gi_cl hj hb
  obtain ⟨p, l, e, R, s, m, args, below, meth, c, cells, slots, Q, A, D, nL⟩ := X
  obtain ⟨hx, hb2, hml, hown, hts, hK, hA, hR⟩ := hX
  intro H locs ls hP hD hS hl
  refine va_zald hx hb2 hK hP q0 3 ha rfl h1 hdg ?_
  rw [h2]
  exact kk H locs ls hP hD hS hl
theorem gi_lald {a n : Nat} {f : Nat → Int64} {i : Int32} (hX : gx_Ok X cc own k rm) (q0 : Nat) (ha : ws[q0]? = some (a, .inl (k.2.1, n, .inr (.inl f)))) (hb : Nat.ble n 5000 = true) (j : Nat) (hi : i = nI j) (hj : j < n) (hdg : decode cc pc = .ok (.laload, 1)) (kk : gx_G X ws (pc + 1) lv (.long (f j) :: st)) : gx_G X ws pc lv (.int i :: .ref a :: st) := by
  subst hi
  have h1 := gi_ix hj hb
  have h2 := gi_cl hj hb
  obtain ⟨p, l, e, R, s, m, args, below, meth, c, cells, slots, Q, A, D, nL⟩ := X
  obtain ⟨hx, hb2, hml, hown, hts, hK, hA, hR⟩ := hX
  intro H locs ls hP hD hS hl
  refine va_lald hx hb2 hK hP q0 1 ha rfl h1 hdg ?_
  rw [h2]
  exact kk H locs ls hP hD hS hl
theorem gi_iast {a n : Nat} {f : Nat → Int32} {i : Int32} {x : Int32} (hX : gx_Ok X cc own k rm) (q0 : Nat) (ha : ws[q0]? = some (a, .inl (k.1, n, .inl f))) (hb : Nat.ble n 5000 = true) (j : Nat) (hi : i = nI j) (hj : j < n) (hdg : decode cc pc = .ok (.iastore, 1)) (kk : gx_G X (ws.set q0 (a, .inl (k.1, n, .inl (upd f j x)))) (pc + 1) lv st) : gx_G X ws pc lv (.int x :: .int i :: .ref a :: st) := by
  subst hi
  have h1 := gi_ix hj hb
  have h2 := gi_cl hj hb
  obtain ⟨p, l, e, R, s, m, args, below, meth, c, cells, slots, Q, A, D, nL⟩ := X
  obtain ⟨hx, hb2, hml, hown, hts, hK, hA, hR⟩ := hX
  intro H locs ls hP hD hS hl
  refine va_iast hx hb2 hK hP hD hS q0 0 ha rfl h1 hdg (fun H1 locs1 hP1 hD1 hS1 => ?_)
  rw [h2] at hP1 hD1
  exact kk H1 locs1 ls hP1 hD1 hS1 hl
theorem gi_bast {a n : Nat} {f : Nat → Int32} {i : Int32} {x : Int32} (hX : gx_Ok X cc own k rm) (q0 : Nat) (ha : ws[q0]? = some (a, .inl (k.2.2.1, n, .inl f))) (hb : Nat.ble n 5000 = true) (j : Nat) (hi : i = nI j) (hj : j < n) (hx2 : vp_nar .byte x = x) (hdg : decode cc pc = .ok (.bastore, 1)) (kk : gx_G X (ws.set q0 (a, .inl (k.2.2.1, n, .inl (upd f j x)))) (pc + 1) lv st) : gx_G X ws pc lv (.int x :: .int i :: .ref a :: st) := by
  subst hi
  have h1 := gi_ix hj hb
  have h2 := gi_cl hj hb
  obtain ⟨p, l, e, R, s, m, args, below, meth, c, cells, slots, Q, A, D, nL⟩ := X
  obtain ⟨hx, hb2, hml, hown, hts, hK, hA, hR⟩ := hX
  intro H locs ls hP hD hS hl
  refine va_bast hx hb2 hK hP hD hS q0 2 ha rfl h1 hdg (fun H1 locs1 hP1 hD1 hS1 => ?_)
  rw [h2] at hP1 hD1
  rw [hx2] at hP1 hD1
  exact kk H1 locs1 ls hP1 hD1 hS1 hl
theorem gi_zast {a n : Nat} {f : Nat → Int32} {i : Int32} {x : Int32} (hX : gx_Ok X cc own k rm) (q0 : Nat) (ha : ws[q0]? = some (a, .inl (k.2.2.2, n, .inl f))) (hb : Nat.ble n 5000 = true) (j : Nat) (hi : i = nI j) (hj : j < n) (hx2 : vp_nar .boolean x = x) (hdg : decode cc pc = .ok (.bastore, 1)) (kk : gx_G X (ws.set q0 (a, .inl (k.2.2.2, n, .inl (upd f j x)))) (pc + 1) lv st) : gx_G X ws pc lv (.int x :: .int i :: .ref a :: st) := by
  subst hi
  have h1 := gi_ix hj hb
  have h2 := gi_cl hj hb
  obtain ⟨p, l, e, R, s, m, args, below, meth, c, cells, slots, Q, A, D, nL⟩ := X
  obtain ⟨hx, hb2, hml, hown, hts, hK, hA, hR⟩ := hX
  intro H locs ls hP hD hS hl
  refine va_zast hx hb2 hK hP hD hS q0 3 ha rfl h1 hdg (fun H1 locs1 hP1 hD1 hS1 => ?_)
  rw [h2] at hP1 hD1
  rw [hx2] at hP1 hD1
  exact kk H1 locs1 ls hP1 hD1 hS1 hl
theorem gi_last {a n : Nat} {f : Nat → Int64} {i : Int32} {x : Int64} (hX : gx_Ok X cc own k rm) (q0 : Nat) (ha : ws[q0]? = some (a, .inl (k.2.1, n, .inr (.inl f)))) (hb : Nat.ble n 5000 = true) (j : Nat) (hi : i = nI j) (hj : j < n) (hdg : decode cc pc = .ok (.lastore, 1)) (kk : gx_G X (ws.set q0 (a, .inl (k.2.1, n, .inr (.inl (vp_updL f j x))))) (pc + 1) lv st) : gx_G X ws pc lv (.long x :: .int i :: .ref a :: st) := by
  subst hi
  have h1 := gi_ix hj hb
  have h2 := gi_cl hj hb
  obtain ⟨p, l, e, R, s, m, args, below, meth, c, cells, slots, Q, A, D, nL⟩ := X
  obtain ⟨hx, hb2, hml, hown, hts, hK, hA, hR⟩ := hX
  intro H locs ls hP hD hS hl
  refine va_last hx hb2 hK hP hD hS q0 1 ha rfl h1 hdg (fun H1 locs1 hP1 hD1 hS1 => ?_)
  rw [h2] at hP1 hD1
  exact kk H1 locs1 ls hP1 hD1 hS1 hl
end GI
/-! contracts -/
def gx_Pre (D : va_G) (k : gx_C) (ws : va_W) (sz : Nat) (U : State) : Prop := U.heap.size = sz ∧ va_P D vwCl ws U.heap ∧ va_K D vwCl (gx_ty k) U ∧ va_D (fun _ => True) ws
def gx_Wd (D : va_G) (k : gx_C) (A : Nat → Prop) (ws : va_W) (t : State) : Prop := va_P D vwCl ws t.heap ∧ va_K D vwCl (gx_ty k) t ∧ va_D A ws
/-- a contract with an int (or boolean) answer: rm = (frames, locals) -/
def gx_CI {S : Type} (k : gx_C) (y : MethodName) (cc : ByteArray) (L : Nat) (ty : FieldType) (rm : Nat × Nat) (av : List Value) (Wd : S → va_W) (s0 : S) (post : Int32 → S → Prop) : Prop :=
  ∀ (l : Launch) (D : va_G) (sz : Nat), Met l y (ws_ y cc L (some ty)) ({ frames := rm.1, cells := 0, slots := 0, locals := rm.2 }) (va_Pc av (gx_Pre D k (Wd s0) sz)) (va_Qi post (fun u t => gx_Wd D k (va_A (Wd s0) sz) (Wd u) t) (va_A (Wd s0) sz)) 0 0 (va_A (Wd s0) sz)
def gx_CV {S : Type} (k : gx_C) (y : MethodName) (cc : ByteArray) (L : Nat) (rm : Nat × Nat) (av : List Value) (Wd : S → va_W) (s0 : S) (post : S → Prop) : Prop :=
  ∀ (l : Launch) (D : va_G) (sz : Nat), Met l y (ws_ y cc L none) ({ frames := rm.1, cells := 0, slots := 0, locals := rm.2 }) (va_Pc av (gx_Pre D k (Wd s0) sz)) (va_Qv post (fun u t => gx_Wd D k (va_A (Wd s0) sz) (Wd u) t) (va_A (Wd s0) sz)) 0 0 (va_A (Wd s0) sz)
/-- the locals at a method's entry -/
def gx_en (L : Nat) (av : List Value) : List (Option Value) := av.map some ++ List.replicate (L - av.length) none
theorem gx_lv1 : ∀ (av : List Value) (i0 j : Nat) (v : Value), (∀ x ∈ av, x.category = 1) → av[j]? = some v → (i0 + j, v) ∈ lv_args i0 av := by
  intro av
  induction av with
  | nil => intro i0 j v _ h; cases h
  | cons x xs ih =>
    intro i0 j v hc h
    unfold lv_args
    cases j with
    | zero => cases h; exact List.mem_cons_self
    | succ j =>
      refine List.mem_cons_of_mem _ ?_
      have h1 : x.category = 1 := hc x List.mem_cons_self
      rw [if_neg (by omega), show i0 + (j + 1) = i0 + 1 + j by omega]
      exact ih (i0 + 1) j v (fun y hy => hc y (List.mem_cons_of_mem _ hy)) h
theorem gx_sl1 : ∀ (av : List Value), (∀ x ∈ av, x.category = 1) → (lg_sl av).length = av.length := by
  intro av
  induction av with
  | nil => intro _; rfl
  | cons x xs ih =>
    intro hc
    have h1 : x.category = 1 := hc x List.mem_cons_self
    have h2 := ih (fun y hy => hc y (List.mem_cons_of_mem _ hy))
    unfold lg_sl at h2 ⊢
    rw [List.flatMap_cons, List.length_append, h2, if_neg (by omega)]
    simp
    omega
theorem gx_L.entry {av : List Value} {n : Nat} (hc : av.all (fun v => v.category == 1) = true) (hn : Nat.ble av.length n = true) : gx_L ((lg_sl av ++ List.replicate (n - (lg_sl av).length) Slot.unset).toArray) n (gx_en n av) := by
  have hc1 : ∀ x ∈ av, x.category = 1 := fun x hx => by simpa using List.all_eq_true.mp hc x hx
  have hl1 := gx_sl1 av hc1
  have hn1 := Nat.le_of_ble_eq_true hn
  have h := lv_entry av (n := n) (by rw [hl1]; exact hn1)
  refine ⟨h.1, by simp [gx_en]; omega, h.2.1, fun i v hi => ?_⟩
  unfold gx_en at hi
  rcases Nat.lt_or_ge i av.length with hlt | hge
  · rw [List.getElem?_append_left (by simpa using hlt), List.getElem?_map] at hi
    cases ha : av[i]? with
    | none => rw [ha] at hi; cases hi
    | some w =>
      rw [ha] at hi
      cases hi
      have := gx_lv1 av 0 i v hc1 ha
      rw [Nat.zero_add] at this
      exact h.2.2 (i, v) this
  · rw [List.getElem?_append_right (by simpa using hge), List.getElem?_replicate] at hi
    split at hi <;> cases hi
theorem gx_CI.of {S : Type} {k : gx_C} {y : MethodName} {cc : ByteArray} {L : Nat} {ty : FieldType} {rm : Nat × Nat} {av : List Value} {Wd : S → va_W} {s0 : S} {post : Int32 → S → Prop} (hy : plainName y.cls = true) (hc : av.all (fun v => v.category == 1) = true) (hn : Nat.ble av.length L = true)
    (body : ∀ X : gx_T, gx_Ok X cc y.cls k rm → (∀ (pc : Nat) (lv : List (Option Value)) (r : Int32) (u : S), decode cc pc = .ok (.ireturn, 1) → narrow ty (.int r) = .int r → post r u → gx_G X (Wd u) pc lv [.int r]) → gx_G X (Wd s0) 0 (gx_en L av) []) : gx_CI k y cc L ty rm av Wd s0 post := by
  intro l D sz
  refine Met.ofW (cc := cc) (maxL := L) (ret := some ty) hy rfl ?_
  intro p e s m args below meth c s₁ B hml hv
  obtain ⟨rfl, hsz, hP, hK, hD0⟩ := hv
  have hx := B.exec
  have hb := B.bytes
  have hr := B.returns
  have hts := atoms_spec (ws := ws_ y cc L (some ty)) B.pre
  have hts : ∀ w ∈ lw_all, w.before _ s = true := fun w h => hts w (List.mem_cons_of_mem _ h)
  have hown : s.vm.findClass y.cls = some m.cls := findClass_of_methodNamed B.named
  have hlocks := B.notSynchronized
  subst hsz
  have hD := hD0.self (sz := s.heap.size)
  have hA : ∀ q : Nat, s.heap.size ≤ q → va_A (Wd s0) s.heap.size q := fun q h => Or.inr h
  rw [lg_entry_eq]
  refine body (p, l, e, (headSpec (ws_ y cc L (some ty)) ({ frames := rm.1, cells := 0, slots := 0, locals := rm.2 })).room, s, m, av.toArray, below, meth, c, 0, 0, _, va_A (Wd s0) s.heap.size, D, L) ⟨hx, hb, hml, hown, hts, hK, hA, rfl, rfl, Nat.le_refl _, Nat.le_refl _⟩ ?_ s.heap [] _ hP hD va_S.rf (gx_L.entry hc hn)
  intro pc lv r u hdg hnar hpost H locs ls hP1 hD1 hS1 hl1
  exact W.zret (v := r) hx hb hr hnar (fun t ht hW => ⟨⟨r, u, rfl, hpost, by rw [ht]; exact hP1, va_K.moved hW.alike hK, hD1⟩, hS1.F ht⟩) hS1.2.2 hdg
theorem gx_CV.of {S : Type} {k : gx_C} {y : MethodName} {cc : ByteArray} {L : Nat} {rm : Nat × Nat} {av : List Value} {Wd : S → va_W} {s0 : S} {post : S → Prop} (hy : plainName y.cls = true) (hc : av.all (fun v => v.category == 1) = true) (hn : Nat.ble av.length L = true)
    (body : ∀ X : gx_T, gx_Ok X cc y.cls k rm → (∀ (pc : Nat) (lv : List (Option Value)) (u : S), decode cc pc = .ok (.return_, 1) → post u → gx_G X (Wd u) pc lv []) → gx_G X (Wd s0) 0 (gx_en L av) []) : gx_CV k y cc L rm av Wd s0 post := by
  intro l D sz
  refine Met.ofW (cc := cc) (maxL := L) (ret := none) hy rfl ?_
  intro p e s m args below meth c s₁ B hml hv
  obtain ⟨rfl, hsz, hP, hK, hD0⟩ := hv
  have hx := B.exec
  have hb := B.bytes
  have hr := B.returns
  have hts := atoms_spec (ws := ws_ y cc L none) B.pre
  have hts : ∀ w ∈ lw_all, w.before _ s = true := fun w h => hts w (List.mem_cons_of_mem _ h)
  have hown : s.vm.findClass y.cls = some m.cls := findClass_of_methodNamed B.named
  have hlocks := B.notSynchronized
  subst hsz
  have hD := hD0.self (sz := s.heap.size)
  have hA : ∀ q : Nat, s.heap.size ≤ q → va_A (Wd s0) s.heap.size q := fun q h => Or.inr h
  rw [lg_entry_eq]
  refine body (p, l, e, (headSpec (ws_ y cc L none) ({ frames := rm.1, cells := 0, slots := 0, locals := rm.2 })).room, s, m, av.toArray, below, meth, c, 0, 0, _, va_A (Wd s0) s.heap.size, D, L) ⟨hx, hb, hml, hown, hts, hK, hA, rfl, rfl, Nat.le_refl _, Nat.le_refl _⟩ ?_ s.heap [] _ hP hD va_S.rf (gx_L.entry hc hn)
  intro pc lv u hdg hpost H locs ls hP1 hD1 hS1 hl1
  exact W.vret hx hb hr (fun t ht hW => ⟨⟨u, rfl, hpost, by rw [ht]; exact hP1, va_K.moved hW.alike hK, hD1⟩, hS1.F ht⟩) hS1.2.2 hdg
/-- what a call's words are -/
def gx_cw (own : String) (idx : Nat) (C : String) (y : MethodName) (bytes : ByteArray) (L : Nat) (ret : Option FieldType) (n : Nat) : Prop :=
  GoodIn lw_all (wsV own idx C y (ws_ y bytes L ret)) ∧ (y.cls = C ∧ y.cls ≠ "java/lang/invoke/MethodHandle" ∧ y.cls ≠ "java/lang/invoke/VarHandle" ∧ (parseMethodDescriptor y.desc).map (fun d => d.parameters.length) = some n)
def gx_fit (rm rc : Nat × Nat) (L : Nat) : Bool := Nat.ble (rc.1 + 1) rm.1 && Nat.ble (8 + (L + 11) + rc.2) rm.2
theorem gx_fit_1 {rm rc : Nat × Nat} {L : Nat} (h : gx_fit rm rc L = true) : rc.1 + 1 ≤ rm.1 ∧ 8 + (L + 11) + rc.2 ≤ rm.2 := by
  unfold gx_fit at h
  rw [Bool.and_eq_true] at h
  exact ⟨Nat.le_of_ble_eq_true h.1, Nat.le_of_ble_eq_true h.2⟩
section GC
variable {X : gx_T} {cc : ByteArray} {own : String} {k : gx_C} {rm rc : Nat × Nat} {pc : Nat} {lv : List (Option Value)} {st : List Value} {S : Type} {Wd : S → va_W} {s0 : S} {y : MethodName} {bytes : ByteArray} {L idx ci n : Nat} {ty : FieldType} {C : String} {T : u_T} {N : Nat} {a0 : Nat} {As rest : List Value} {fs : List Value}
theorem gi_callI {post : Int32 → S → Prop} (hX : gx_Ok X cc own k rm) (hC : gx_CI k y bytes L ty rc (.ref a0 :: As) Wd s0 post) (hw : gx_cw own idx C y bytes L (some ty) n) (hf : gx_fit rm rc L = true) (he : (Wd s0)[0]? = some (a0, .inr (ci, fs))) (hc : vwCl[ci]? = some (C, T, N)) (hn : As.length = n) (hst : st = As.reverse ++ .ref a0 :: rest) (hr : Nat.ble ((rest.map fun v => v.category).sum) 8 = true) (hdg : decode cc pc = .ok (.invokevirtual idx, 3))
    (kk : ∀ (r : Int32) (u : S), post r u → gx_G X (Wd u) (pc + 3) lv (.int r :: rest)) : gx_G X (Wd s0) pc lv st := by
  obtain ⟨p, l, e, R, s, m, args, below, meth, c, cells, slots, Q, A, D, nL⟩ := X
  obtain ⟨hx, hb, hml, hown, hts, hK, hA, hR1, hR2, hR3, hR4⟩ := hX
  intro H locs ls hP hD hS hl
  subst hst
  obtain ⟨hf1, hf2⟩ := gx_fit_1 hf
  have hFc : ∀ q, va_A (Wd s0) H.size q → A q := by
    rintro q (⟨j, ee, h⟩ | h)
    · exact hD.2 j (q, ee) h
    · exact hA q (Nat.le_trans hS.1 h)
  refine va_calli (va_runV (As := As) (rest := rest) ⟨hx, hb, hml, hown, hts⟩ (hC l D H.size) (cwV n hts hw.1 rfl rfl rfl hw.2 ⟨by rw [hR1]; exact hf1, by rw [hR2]; exact hf2⟩) ⟨fun a U g mk q => by obtain ⟨q0, q1, qP, qK, qD⟩ := q; exact ⟨q0, q1, qP, va_K.moved (u := U) (U := U.calling g mk a) (Vm.Alike.refl U.vm) qK, qD⟩, va_recv hK hP hc he, fun U hU hW => ⟨rfl, by rw [hU], by rw [hU]; exact hP, va_K.moved hW.alike hK, hD.weaken (fun _ _ _ _ => trivial)⟩⟩ rfl hn hl.1 rfl (lv_room (Nat.le_of_ble_eq_true hr)) hdg ⟨by simpa using hR3, by simpa using hR4⟩) hS (fun q _ h => hFc q h) hFc (fun r u t H1 locs1 ht hvm hp hB hz1 hk1 hS1 => ?_)
  obtain ⟨hP1, hK1, hD1⟩ := hB
  rw [ht] at hP1
  exact kk r u hp H1 locs1 ls hP1 (hD1.weaken (fun _ q _ h => hFc q.1 h)) hS1 hl
theorem gi_callV {post : S → Prop} (hX : gx_Ok X cc own k rm) (hC : gx_CV k y bytes L rc (.ref a0 :: As) Wd s0 post) (hw : gx_cw own idx C y bytes L none n) (hf : gx_fit rm rc L = true) (he : (Wd s0)[0]? = some (a0, .inr (ci, fs))) (hc : vwCl[ci]? = some (C, T, N)) (hn : As.length = n) (hst : st = As.reverse ++ .ref a0 :: rest) (hr : Nat.ble ((rest.map fun v => v.category).sum) 8 = true) (hdg : decode cc pc = .ok (.invokevirtual idx, 3))
    (kk : ∀ (u : S), post u → gx_G X (Wd u) (pc + 3) lv rest) : gx_G X (Wd s0) pc lv st := by
  obtain ⟨p, l, e, R, s, m, args, below, meth, c, cells, slots, Q, A, D, nL⟩ := X
  obtain ⟨hx, hb, hml, hown, hts, hK, hA, hR1, hR2, hR3, hR4⟩ := hX
  intro H locs ls hP hD hS hl
  subst hst
  obtain ⟨hf1, hf2⟩ := gx_fit_1 hf
  have hFc : ∀ q, va_A (Wd s0) H.size q → A q := by
    rintro q (⟨j, ee, h⟩ | h)
    · exact hD.2 j (q, ee) h
    · exact hA q (Nat.le_trans hS.1 h)
  refine va_callv (va_runV (As := As) (rest := rest) ⟨hx, hb, hml, hown, hts⟩ (hC l D H.size) (cwV n hts hw.1 rfl rfl rfl hw.2 ⟨by rw [hR1]; exact hf1, by rw [hR2]; exact hf2⟩) ⟨fun a U g mk q => by obtain ⟨q0, q1, qP, qK, qD⟩ := q; exact ⟨q0, q1, qP, va_K.moved (u := U) (U := U.calling g mk a) (Vm.Alike.refl U.vm) qK, qD⟩, va_recv hK hP hc he, fun U hU hW => ⟨rfl, by rw [hU], by rw [hU]; exact hP, va_K.moved hW.alike hK, hD.weaken (fun _ _ _ _ => trivial)⟩⟩ rfl hn hl.1 rfl (lv_room (Nat.le_of_ble_eq_true hr)) hdg ⟨by simpa using hR3, by simpa using hR4⟩) hS (fun q _ h => hFc q h) hFc (fun u t H1 locs1 ht hvm hp hB hz1 hk1 hS1 => ?_)
  obtain ⟨hP1, hK1, hD1⟩ := hB
  rw [ht] at hP1
  exact kk u hp H1 locs1 ls hP1 (hD1.weaken (fun _ q _ h => hFc q.1 h)) hS1 hl
end GC
end
section
/-! THE WORLDS: PlanLayers (pw_W), PlanLayersModel (mw_W); rules for their fields and arrays; words of the calls -/
set_option maxRecDepth 100000
abbrev pw_F : Type := Nat → Int32
abbrev pw_J : Type := Nat → Int64
abbrev pw_P : Type := Nat × pw_F × pw_F × pw_F × Int32
abbrev pw_G : Type := pw_F × pw_F × pw_F × pw_F × pw_F
abbrev pw_M : Type := pw_J × pw_J
abbrev pw_T : Type := pw_F × pw_F × pw_F × Nat × pw_F × pw_F × pw_F
abbrev pw_S : Type := pw_P × Nat × pw_G × pw_M × pw_T
abbrev mw_S : Type := Nat × pw_F × pw_F × pw_F × Int32 × pw_F
def pw_W (a : Nat → Nat) (k : gx_C) (S : pw_S) : va_W := [(a 0, .inr (0, [.int (nI S.1.1), .ref (a 1), .ref (a 2), .ref (a 3), .int S.1.2.2.2.2, .int (nI S.2.1), .ref (a 6), .ref (a 7), .ref (a 8), .ref (a 9), .ref (a 10), .ref (a 11), .ref (a 12), .ref (a 13), .ref (a 14), .ref (a 15), .int (nI S.2.2.2.2.2.2.2.1), .ref (a 17), .ref (a 18), .ref (a 19)])), (a 1, .inl (k.1, 7, .inl S.1.2.1)), (a 2, .inl (k.1, 7, .inl S.1.2.2.1)), (a 3, .inl (k.1, 7, .inl S.1.2.2.2.1)), (a 6, .inl (k.1, 9, .inl S.2.2.1.1)), (a 7, .inl (k.1, 9, .inl S.2.2.1.2.1)), (a 8, .inl (k.1, 72, .inl S.2.2.1.2.2.1)), (a 9, .inl (k.1, 135, .inl S.2.2.1.2.2.2.1)), (a 10, .inl (k.1, 15, .inl S.2.2.1.2.2.2.2)), (a 11, .inl (k.2.1, 36, .inr (.inl S.2.2.2.1.1))), (a 12, .inl (k.2.1, 36, .inr (.inl S.2.2.2.1.2))), (a 13, .inl (k.1, 9, .inl S.2.2.2.2.1)), (a 14, .inl (k.1, 9, .inl S.2.2.2.2.2.1)), (a 15, .inl (k.1, 9, .inl S.2.2.2.2.2.2.1)), (a 17, .inl (k.2.2.1, 72, .inl S.2.2.2.2.2.2.2.2.1)), (a 18, .inl (k.2.2.1, 72, .inl S.2.2.2.2.2.2.2.2.2.1)), (a 19, .inl (k.1, 72, .inl S.2.2.2.2.2.2.2.2.2.2))]
def mw_W (a : Nat → Nat) (k : gx_C) (S : mw_S) : va_W := [(a 0, .inr (1, [.int (nI S.1), .ref (a 1), .ref (a 2), .ref (a 3), .int S.2.2.2.2.1, .ref (a 5)])), (a 1, .inl (k.1, 7, .inl S.2.1)), (a 2, .inl (k.1, 7, .inl S.2.2.1)), (a 3, .inl (k.1, 7, .inl S.2.2.2.1)), (a 5, .inl (k.2.2.2, 2304, .inl S.2.2.2.2.2))]
section PW
variable {X : gx_T} {cc : ByteArray} {k : gx_C} {rm : Nat × Nat} {pc : Nat} {lv : List (Option Value)} {st : List Value} {a : Nat → Nat} {P : pw_P} {B : Nat} {Gr : pw_G} {M : pw_M} {T : pw_T} {i : Int32} {x : Int32} {y : Int64}
theorem pg_n (hX : gx_Ok X cc RX0 k rm) (hdg : decode cc pc = .ok (.getfield 60, 3)) (kk : gx_G X (pw_W a k (P, B, Gr, M, T)) (pc + 3) lv (.int (nI P.1) :: st)) : gx_G X (pw_W a k (P, B, Gr, M, T)) pc lv (.ref (a 0) :: st) := gi_get hX in_X0 0 rfl rfl 0 (by decide) q40 rfl hdg kk
theorem ps_n (v : Nat) (hX : gx_Ok X cc RX0 k rm) (hdg : decode cc pc = .ok (.putfield 60, 3)) (hv : x = nI v) (kk : gx_G X (pw_W a k ((v, P.2.1, P.2.2.1, P.2.2.2.1, P.2.2.2.2), B, Gr, M, T)) (pc + 3) lv st) : gx_G X (pw_W a k (P, B, Gr, M, T)) pc lv (.int x :: .ref (a 0) :: st) := by
  subst hv
  refine gi_put (ty := .int) (v := .int (nI v)) hX in_X0 tyX0 tyX0_ok nmX0 0 rfl rfl 0 (by decide) q40 rfl (by decide +kernel) rfl rfl (Nat.le_of_ble_eq_true rfl) hdg ?_
  exact kk
theorem pg_nd (hX : gx_Ok X cc RX0 k rm) (hdg : decode cc pc = .ok (.getfield 7, 3)) (kk : gx_G X (pw_W a k (P, B, Gr, M, T)) (pc + 3) lv (.ref (a 1) :: st)) : gx_G X (pw_W a k (P, B, Gr, M, T)) pc lv (.ref (a 0) :: st) := gi_get hX in_X0 0 rfl rfl 1 (by decide) q41 rfl hdg kk
theorem pl_nd (j : Nat) (hX : gx_Ok X cc RX0 k rm) (hdg : decode cc pc = .ok (.iaload, 1)) (hi : i = nI j) (hj : j < 7) (kk : gx_G X (pw_W a k (P, B, Gr, M, T)) (pc + 1) lv (.int (P.2.1 j) :: st)) : gx_G X (pw_W a k (P, B, Gr, M, T)) pc lv (.int i :: .ref (a 1) :: st) := gi_iald hX 1 rfl rfl j hi hj hdg kk
theorem ps_nd (j : Nat) (hX : gx_Ok X cc RX0 k rm) (hdg : decode cc pc = .ok (.iastore, 1)) (hi : i = nI j) (hj : j < 7) (kk : gx_G X (pw_W a k ((P.1, upd P.2.1 j x, P.2.2.1, P.2.2.2.1, P.2.2.2.2), B, Gr, M, T)) (pc + 1) lv st) : gx_G X (pw_W a k (P, B, Gr, M, T)) pc lv (.int x :: .int i :: .ref (a 1) :: st) := gi_iast hX 1 rfl rfl j hi hj hdg kk
theorem pg_gn (hX : gx_Ok X cc RX0 k rm) (hdg : decode cc pc = .ok (.getfield 13, 3)) (kk : gx_G X (pw_W a k (P, B, Gr, M, T)) (pc + 3) lv (.ref (a 2) :: st)) : gx_G X (pw_W a k (P, B, Gr, M, T)) pc lv (.ref (a 0) :: st) := gi_get hX in_X0 0 rfl rfl 2 (by decide) q42 rfl hdg kk
theorem pl_gn (j : Nat) (hX : gx_Ok X cc RX0 k rm) (hdg : decode cc pc = .ok (.iaload, 1)) (hi : i = nI j) (hj : j < 7) (kk : gx_G X (pw_W a k (P, B, Gr, M, T)) (pc + 1) lv (.int (P.2.2.1 j) :: st)) : gx_G X (pw_W a k (P, B, Gr, M, T)) pc lv (.int i :: .ref (a 2) :: st) := gi_iald hX 2 rfl rfl j hi hj hdg kk
theorem ps_gn (j : Nat) (hX : gx_Ok X cc RX0 k rm) (hdg : decode cc pc = .ok (.iastore, 1)) (hi : i = nI j) (hj : j < 7) (kk : gx_G X (pw_W a k ((P.1, P.2.1, upd P.2.2.1 j x, P.2.2.2.1, P.2.2.2.2), B, Gr, M, T)) (pc + 1) lv st) : gx_G X (pw_W a k (P, B, Gr, M, T)) pc lv (.int x :: .int i :: .ref (a 2) :: st) := gi_iast hX 2 rfl rfl j hi hj hdg kk
theorem pg_ls (hX : gx_Ok X cc RX0 k rm) (hdg : decode cc pc = .ok (.getfield 16, 3)) (kk : gx_G X (pw_W a k (P, B, Gr, M, T)) (pc + 3) lv (.ref (a 3) :: st)) : gx_G X (pw_W a k (P, B, Gr, M, T)) pc lv (.ref (a 0) :: st) := gi_get hX in_X0 0 rfl rfl 3 (by decide) q43 rfl hdg kk
theorem pl_ls (j : Nat) (hX : gx_Ok X cc RX0 k rm) (hdg : decode cc pc = .ok (.iaload, 1)) (hi : i = nI j) (hj : j < 7) (kk : gx_G X (pw_W a k (P, B, Gr, M, T)) (pc + 1) lv (.int (P.2.2.2.1 j) :: st)) : gx_G X (pw_W a k (P, B, Gr, M, T)) pc lv (.int i :: .ref (a 3) :: st) := gi_iald hX 3 rfl rfl j hi hj hdg kk
theorem ps_ls (j : Nat) (hX : gx_Ok X cc RX0 k rm) (hdg : decode cc pc = .ok (.iastore, 1)) (hi : i = nI j) (hj : j < 7) (kk : gx_G X (pw_W a k ((P.1, P.2.1, P.2.2.1, upd P.2.2.2.1 j x, P.2.2.2.2), B, Gr, M, T)) (pc + 1) lv st) : gx_G X (pw_W a k (P, B, Gr, M, T)) pc lv (.int x :: .int i :: .ref (a 3) :: st) := gi_iast hX 3 rfl rfl j hi hj hdg kk
theorem pg_ss (hX : gx_Ok X cc RX0 k rm) (hdg : decode cc pc = .ok (.getfield 75, 3)) (kk : gx_G X (pw_W a k (P, B, Gr, M, T)) (pc + 3) lv (.int P.2.2.2.2 :: st)) : gx_G X (pw_W a k (P, B, Gr, M, T)) pc lv (.ref (a 0) :: st) := gi_get hX in_X0 0 rfl rfl 4 (by decide) q44 rfl hdg kk
theorem ps_ss (hX : gx_Ok X cc RX0 k rm) (hdg : decode cc pc = .ok (.putfield 75, 3)) (kk : gx_G X (pw_W a k ((P.1, P.2.1, P.2.2.1, P.2.2.2.1, x), B, Gr, M, T)) (pc + 3) lv st) : gx_G X (pw_W a k (P, B, Gr, M, T)) pc lv (.int x :: .ref (a 0) :: st) := by
  refine gi_put (ty := .int) (v := .int x) hX in_X0 tyX0 tyX0_ok nmX0 0 rfl rfl 4 (by decide) q44 rfl (by decide +kernel) rfl rfl (Nat.le_of_ble_eq_true rfl) hdg ?_
  exact kk
theorem pg_b (hX : gx_Ok X cc RX0 k rm) (hdg : decode cc pc = .ok (.getfield 68, 3)) (kk : gx_G X (pw_W a k (P, B, Gr, M, T)) (pc + 3) lv (.int (nI B) :: st)) : gx_G X (pw_W a k (P, B, Gr, M, T)) pc lv (.ref (a 0) :: st) := gi_get hX in_X0 0 rfl rfl 5 (by decide) q45 rfl hdg kk
theorem ps_b (v : Nat) (hX : gx_Ok X cc RX0 k rm) (hdg : decode cc pc = .ok (.putfield 68, 3)) (hv : x = nI v) (hn : narrow .boolean (.int (nI v)) = .int (nI v)) (hfit : fits .boolean (.int (nI v)) = true) (kk : gx_G X (pw_W a k (P, v, Gr, M, T)) (pc + 3) lv st) : gx_G X (pw_W a k (P, B, Gr, M, T)) pc lv (.int x :: .ref (a 0) :: st) := by
  subst hv
  refine gi_put (ty := .boolean) (v := .int (nI v)) hX in_X0 tyX0 tyX0_ok nmX0 0 rfl rfl 5 (by decide) q45 rfl (by decide +kernel) hn hfit (Nat.le_of_ble_eq_true rfl) hdg ?_
  exact kk
theorem pg_fa (hX : gx_Ok X cc RX0 k rm) (hdg : decode cc pc = .ok (.getfield 19, 3)) (kk : gx_G X (pw_W a k (P, B, Gr, M, T)) (pc + 3) lv (.ref (a 6) :: st)) : gx_G X (pw_W a k (P, B, Gr, M, T)) pc lv (.ref (a 0) :: st) := gi_get hX in_X0 0 rfl rfl 6 (by decide) q46 rfl hdg kk
theorem pl_fa (j : Nat) (hX : gx_Ok X cc RX0 k rm) (hdg : decode cc pc = .ok (.iaload, 1)) (hi : i = nI j) (hj : j < 9) (kk : gx_G X (pw_W a k (P, B, Gr, M, T)) (pc + 1) lv (.int (Gr.1 j) :: st)) : gx_G X (pw_W a k (P, B, Gr, M, T)) pc lv (.int i :: .ref (a 6) :: st) := gi_iald hX 4 rfl rfl j hi hj hdg kk
theorem ps_fa (j : Nat) (hX : gx_Ok X cc RX0 k rm) (hdg : decode cc pc = .ok (.iastore, 1)) (hi : i = nI j) (hj : j < 9) (kk : gx_G X (pw_W a k (P, B, (upd Gr.1 j x, Gr.2.1, Gr.2.2.1, Gr.2.2.2.1, Gr.2.2.2.2), M, T)) (pc + 1) lv st) : gx_G X (pw_W a k (P, B, Gr, M, T)) pc lv (.int x :: .int i :: .ref (a 6) :: st) := gi_iast hX 4 rfl rfl j hi hj hdg kk
theorem pg_da (hX : gx_Ok X cc RX0 k rm) (hdg : decode cc pc = .ok (.getfield 22, 3)) (kk : gx_G X (pw_W a k (P, B, Gr, M, T)) (pc + 3) lv (.ref (a 7) :: st)) : gx_G X (pw_W a k (P, B, Gr, M, T)) pc lv (.ref (a 0) :: st) := gi_get hX in_X0 0 rfl rfl 7 (by decide) q47 rfl hdg kk
theorem pl_da (j : Nat) (hX : gx_Ok X cc RX0 k rm) (hdg : decode cc pc = .ok (.iaload, 1)) (hi : i = nI j) (hj : j < 9) (kk : gx_G X (pw_W a k (P, B, Gr, M, T)) (pc + 1) lv (.int (Gr.2.1 j) :: st)) : gx_G X (pw_W a k (P, B, Gr, M, T)) pc lv (.int i :: .ref (a 7) :: st) := gi_iald hX 5 rfl rfl j hi hj hdg kk
theorem ps_da (j : Nat) (hX : gx_Ok X cc RX0 k rm) (hdg : decode cc pc = .ok (.iastore, 1)) (hi : i = nI j) (hj : j < 9) (kk : gx_G X (pw_W a k (P, B, (Gr.1, upd Gr.2.1 j x, Gr.2.2.1, Gr.2.2.2.1, Gr.2.2.2.2), M, T)) (pc + 1) lv st) : gx_G X (pw_W a k (P, B, Gr, M, T)) pc lv (.int x :: .int i :: .ref (a 7) :: st) := gi_iast hX 5 rfl rfl j hi hj hdg kk
theorem pg_fb (hX : gx_Ok X cc RX0 k rm) (hdg : decode cc pc = .ok (.getfield 25, 3)) (kk : gx_G X (pw_W a k (P, B, Gr, M, T)) (pc + 3) lv (.ref (a 8) :: st)) : gx_G X (pw_W a k (P, B, Gr, M, T)) pc lv (.ref (a 0) :: st) := gi_get hX in_X0 0 rfl rfl 8 (by decide) q48 rfl hdg kk
theorem pl_fb (j : Nat) (hX : gx_Ok X cc RX0 k rm) (hdg : decode cc pc = .ok (.iaload, 1)) (hi : i = nI j) (hj : j < 72) (kk : gx_G X (pw_W a k (P, B, Gr, M, T)) (pc + 1) lv (.int (Gr.2.2.1 j) :: st)) : gx_G X (pw_W a k (P, B, Gr, M, T)) pc lv (.int i :: .ref (a 8) :: st) := gi_iald hX 6 rfl rfl j hi hj hdg kk
theorem ps_fb (j : Nat) (hX : gx_Ok X cc RX0 k rm) (hdg : decode cc pc = .ok (.iastore, 1)) (hi : i = nI j) (hj : j < 72) (kk : gx_G X (pw_W a k (P, B, (Gr.1, Gr.2.1, upd Gr.2.2.1 j x, Gr.2.2.2.1, Gr.2.2.2.2), M, T)) (pc + 1) lv st) : gx_G X (pw_W a k (P, B, Gr, M, T)) pc lv (.int x :: .int i :: .ref (a 8) :: st) := gi_iast hX 6 rfl rfl j hi hj hdg kk
theorem pg_db (hX : gx_Ok X cc RX0 k rm) (hdg : decode cc pc = .ok (.getfield 28, 3)) (kk : gx_G X (pw_W a k (P, B, Gr, M, T)) (pc + 3) lv (.ref (a 9) :: st)) : gx_G X (pw_W a k (P, B, Gr, M, T)) pc lv (.ref (a 0) :: st) := gi_get hX in_X0 0 rfl rfl 9 (by decide) q49 rfl hdg kk
theorem pl_db (j : Nat) (hX : gx_Ok X cc RX0 k rm) (hdg : decode cc pc = .ok (.iaload, 1)) (hi : i = nI j) (hj : j < 135) (kk : gx_G X (pw_W a k (P, B, Gr, M, T)) (pc + 1) lv (.int (Gr.2.2.2.1 j) :: st)) : gx_G X (pw_W a k (P, B, Gr, M, T)) pc lv (.int i :: .ref (a 9) :: st) := gi_iald hX 7 rfl rfl j hi hj hdg kk
theorem ps_db (j : Nat) (hX : gx_Ok X cc RX0 k rm) (hdg : decode cc pc = .ok (.iastore, 1)) (hi : i = nI j) (hj : j < 135) (kk : gx_G X (pw_W a k (P, B, (Gr.1, Gr.2.1, Gr.2.2.1, upd Gr.2.2.2.1 j x, Gr.2.2.2.2), M, T)) (pc + 1) lv st) : gx_G X (pw_W a k (P, B, Gr, M, T)) pc lv (.int x :: .int i :: .ref (a 9) :: st) := gi_iast hX 7 rfl rfl j hi hj hdg kk
theorem pg_cl (hX : gx_Ok X cc RX0 k rm) (hdg : decode cc pc = .ok (.getfield 31, 3)) (kk : gx_G X (pw_W a k (P, B, Gr, M, T)) (pc + 3) lv (.ref (a 10) :: st)) : gx_G X (pw_W a k (P, B, Gr, M, T)) pc lv (.ref (a 0) :: st) := gi_get hX in_X0 0 rfl rfl 10 (by decide) q50 rfl hdg kk
theorem pl_cl (j : Nat) (hX : gx_Ok X cc RX0 k rm) (hdg : decode cc pc = .ok (.iaload, 1)) (hi : i = nI j) (hj : j < 15) (kk : gx_G X (pw_W a k (P, B, Gr, M, T)) (pc + 1) lv (.int (Gr.2.2.2.2 j) :: st)) : gx_G X (pw_W a k (P, B, Gr, M, T)) pc lv (.int i :: .ref (a 10) :: st) := gi_iald hX 8 rfl rfl j hi hj hdg kk
theorem ps_cl (j : Nat) (hX : gx_Ok X cc RX0 k rm) (hdg : decode cc pc = .ok (.iastore, 1)) (hi : i = nI j) (hj : j < 15) (kk : gx_G X (pw_W a k (P, B, (Gr.1, Gr.2.1, Gr.2.2.1, Gr.2.2.2.1, upd Gr.2.2.2.2 j x), M, T)) (pc + 1) lv st) : gx_G X (pw_W a k (P, B, Gr, M, T)) pc lv (.int x :: .int i :: .ref (a 10) :: st) := gi_iast hX 8 rfl rfl j hi hj hdg kk
theorem pg_fl (hX : gx_Ok X cc RX0 k rm) (hdg : decode cc pc = .ok (.getfield 34, 3)) (kk : gx_G X (pw_W a k (P, B, Gr, M, T)) (pc + 3) lv (.ref (a 11) :: st)) : gx_G X (pw_W a k (P, B, Gr, M, T)) pc lv (.ref (a 0) :: st) := gi_get hX in_X0 0 rfl rfl 11 (by decide) q51 rfl hdg kk
theorem pl_fl (j : Nat) (hX : gx_Ok X cc RX0 k rm) (hdg : decode cc pc = .ok (.laload, 1)) (hi : i = nI j) (hj : j < 36) (kk : gx_G X (pw_W a k (P, B, Gr, M, T)) (pc + 1) lv (.long (M.1 j) :: st)) : gx_G X (pw_W a k (P, B, Gr, M, T)) pc lv (.int i :: .ref (a 11) :: st) := gi_lald hX 9 rfl rfl j hi hj hdg kk
theorem ps_fl (j : Nat) (hX : gx_Ok X cc RX0 k rm) (hdg : decode cc pc = .ok (.lastore, 1)) (hi : i = nI j) (hj : j < 36) (kk : gx_G X (pw_W a k (P, B, Gr, (vp_updL M.1 j y, M.2), T)) (pc + 1) lv st) : gx_G X (pw_W a k (P, B, Gr, M, T)) pc lv (.long y :: .int i :: .ref (a 11) :: st) := gi_last hX 9 rfl rfl j hi hj hdg kk
theorem pg_sv (hX : gx_Ok X cc RX0 k rm) (hdg : decode cc pc = .ok (.getfield 38, 3)) (kk : gx_G X (pw_W a k (P, B, Gr, M, T)) (pc + 3) lv (.ref (a 12) :: st)) : gx_G X (pw_W a k (P, B, Gr, M, T)) pc lv (.ref (a 0) :: st) := gi_get hX in_X0 0 rfl rfl 12 (by decide) q52 rfl hdg kk
theorem pl_sv (j : Nat) (hX : gx_Ok X cc RX0 k rm) (hdg : decode cc pc = .ok (.laload, 1)) (hi : i = nI j) (hj : j < 36) (kk : gx_G X (pw_W a k (P, B, Gr, M, T)) (pc + 1) lv (.long (M.2 j) :: st)) : gx_G X (pw_W a k (P, B, Gr, M, T)) pc lv (.int i :: .ref (a 12) :: st) := gi_lald hX 10 rfl rfl j hi hj hdg kk
theorem ps_sv (j : Nat) (hX : gx_Ok X cc RX0 k rm) (hdg : decode cc pc = .ok (.lastore, 1)) (hi : i = nI j) (hj : j < 36) (kk : gx_G X (pw_W a k (P, B, Gr, (M.1, vp_updL M.2 j y), T)) (pc + 1) lv st) : gx_G X (pw_W a k (P, B, Gr, M, T)) pc lv (.long y :: .int i :: .ref (a 12) :: st) := gi_last hX 10 rfl rfl j hi hj hdg kk
theorem pg_wa (hX : gx_Ok X cc RX0 k rm) (hdg : decode cc pc = .ok (.getfield 41, 3)) (kk : gx_G X (pw_W a k (P, B, Gr, M, T)) (pc + 3) lv (.ref (a 13) :: st)) : gx_G X (pw_W a k (P, B, Gr, M, T)) pc lv (.ref (a 0) :: st) := gi_get hX in_X0 0 rfl rfl 13 (by decide) q53 rfl hdg kk
theorem pl_wa (j : Nat) (hX : gx_Ok X cc RX0 k rm) (hdg : decode cc pc = .ok (.iaload, 1)) (hi : i = nI j) (hj : j < 9) (kk : gx_G X (pw_W a k (P, B, Gr, M, T)) (pc + 1) lv (.int (T.1 j) :: st)) : gx_G X (pw_W a k (P, B, Gr, M, T)) pc lv (.int i :: .ref (a 13) :: st) := gi_iald hX 11 rfl rfl j hi hj hdg kk
theorem ps_wa (j : Nat) (hX : gx_Ok X cc RX0 k rm) (hdg : decode cc pc = .ok (.iastore, 1)) (hi : i = nI j) (hj : j < 9) (kk : gx_G X (pw_W a k (P, B, Gr, M, (upd T.1 j x, T.2.1, T.2.2.1, T.2.2.2.1, T.2.2.2.2.1, T.2.2.2.2.2.1, T.2.2.2.2.2.2))) (pc + 1) lv st) : gx_G X (pw_W a k (P, B, Gr, M, T)) pc lv (.int x :: .int i :: .ref (a 13) :: st) := gi_iast hX 11 rfl rfl j hi hj hdg kk
theorem pg_op (hX : gx_Ok X cc RX0 k rm) (hdg : decode cc pc = .ok (.getfield 44, 3)) (kk : gx_G X (pw_W a k (P, B, Gr, M, T)) (pc + 3) lv (.ref (a 14) :: st)) : gx_G X (pw_W a k (P, B, Gr, M, T)) pc lv (.ref (a 0) :: st) := gi_get hX in_X0 0 rfl rfl 14 (by decide) q54 rfl hdg kk
theorem pl_op (j : Nat) (hX : gx_Ok X cc RX0 k rm) (hdg : decode cc pc = .ok (.iaload, 1)) (hi : i = nI j) (hj : j < 9) (kk : gx_G X (pw_W a k (P, B, Gr, M, T)) (pc + 1) lv (.int (T.2.1 j) :: st)) : gx_G X (pw_W a k (P, B, Gr, M, T)) pc lv (.int i :: .ref (a 14) :: st) := gi_iald hX 12 rfl rfl j hi hj hdg kk
theorem ps_op (j : Nat) (hX : gx_Ok X cc RX0 k rm) (hdg : decode cc pc = .ok (.iastore, 1)) (hi : i = nI j) (hj : j < 9) (kk : gx_G X (pw_W a k (P, B, Gr, M, (T.1, upd T.2.1 j x, T.2.2.1, T.2.2.2.1, T.2.2.2.2.1, T.2.2.2.2.2.1, T.2.2.2.2.2.2))) (pc + 1) lv st) : gx_G X (pw_W a k (P, B, Gr, M, T)) pc lv (.int x :: .int i :: .ref (a 14) :: st) := gi_iast hX 12 rfl rfl j hi hj hdg kk
theorem pg_ch (hX : gx_Ok X cc RX0 k rm) (hdg : decode cc pc = .ok (.getfield 47, 3)) (kk : gx_G X (pw_W a k (P, B, Gr, M, T)) (pc + 3) lv (.ref (a 15) :: st)) : gx_G X (pw_W a k (P, B, Gr, M, T)) pc lv (.ref (a 0) :: st) := gi_get hX in_X0 0 rfl rfl 15 (by decide) q55 rfl hdg kk
theorem pl_ch (j : Nat) (hX : gx_Ok X cc RX0 k rm) (hdg : decode cc pc = .ok (.iaload, 1)) (hi : i = nI j) (hj : j < 9) (kk : gx_G X (pw_W a k (P, B, Gr, M, T)) (pc + 1) lv (.int (T.2.2.1 j) :: st)) : gx_G X (pw_W a k (P, B, Gr, M, T)) pc lv (.int i :: .ref (a 15) :: st) := gi_iald hX 13 rfl rfl j hi hj hdg kk
theorem ps_ch (j : Nat) (hX : gx_Ok X cc RX0 k rm) (hdg : decode cc pc = .ok (.iastore, 1)) (hi : i = nI j) (hj : j < 9) (kk : gx_G X (pw_W a k (P, B, Gr, M, (T.1, T.2.1, upd T.2.2.1 j x, T.2.2.2.1, T.2.2.2.2.1, T.2.2.2.2.2.1, T.2.2.2.2.2.2))) (pc + 1) lv st) : gx_G X (pw_W a k (P, B, Gr, M, T)) pc lv (.int x :: .int i :: .ref (a 15) :: st) := gi_iast hX 13 rfl rfl j hi hj hdg kk
theorem pg_ct (hX : gx_Ok X cc RX0 k rm) (hdg : decode cc pc = .ok (.getfield 132, 3)) (kk : gx_G X (pw_W a k (P, B, Gr, M, T)) (pc + 3) lv (.int (nI T.2.2.2.1) :: st)) : gx_G X (pw_W a k (P, B, Gr, M, T)) pc lv (.ref (a 0) :: st) := gi_get hX in_X0 0 rfl rfl 16 (by decide) q56 rfl hdg kk
theorem ps_ct (v : Nat) (hX : gx_Ok X cc RX0 k rm) (hdg : decode cc pc = .ok (.putfield 132, 3)) (hv : x = nI v) (kk : gx_G X (pw_W a k (P, B, Gr, M, (T.1, T.2.1, T.2.2.1, v, T.2.2.2.2.1, T.2.2.2.2.2.1, T.2.2.2.2.2.2))) (pc + 3) lv st) : gx_G X (pw_W a k (P, B, Gr, M, T)) pc lv (.int x :: .ref (a 0) :: st) := by
  subst hv
  refine gi_put (ty := .int) (v := .int (nI v)) hX in_X0 tyX0 tyX0_ok nmX0 0 rfl rfl 16 (by decide) q56 rfl (by decide +kernel) rfl rfl (Nat.le_of_ble_eq_true rfl) hdg ?_
  exact kk
theorem pg_cd (hX : gx_Ok X cc RX0 k rm) (hdg : decode cc pc = .ok (.getfield 50, 3)) (kk : gx_G X (pw_W a k (P, B, Gr, M, T)) (pc + 3) lv (.ref (a 17) :: st)) : gx_G X (pw_W a k (P, B, Gr, M, T)) pc lv (.ref (a 0) :: st) := gi_get hX in_X0 0 rfl rfl 17 (by decide) q57 rfl hdg kk
theorem pl_cd (j : Nat) (hX : gx_Ok X cc RX0 k rm) (hdg : decode cc pc = .ok (.baload, 1)) (hi : i = nI j) (hj : j < 72) (kk : gx_G X (pw_W a k (P, B, Gr, M, T)) (pc + 1) lv (.int (T.2.2.2.2.1 j) :: st)) : gx_G X (pw_W a k (P, B, Gr, M, T)) pc lv (.int i :: .ref (a 17) :: st) := gi_bald hX 14 rfl rfl j hi hj hdg kk
theorem ps_cd (j : Nat) (hX : gx_Ok X cc RX0 k rm) (hdg : decode cc pc = .ok (.bastore, 1)) (hi : i = nI j) (hj : j < 72) (hx2 : vp_nar .byte x = x) (kk : gx_G X (pw_W a k (P, B, Gr, M, (T.1, T.2.1, T.2.2.1, T.2.2.2.1, upd T.2.2.2.2.1 j x, T.2.2.2.2.2.1, T.2.2.2.2.2.2))) (pc + 1) lv st) : gx_G X (pw_W a k (P, B, Gr, M, T)) pc lv (.int x :: .int i :: .ref (a 17) :: st) := gi_bast hX 14 rfl rfl j hi hj hx2 hdg kk
theorem pg_cf (hX : gx_Ok X cc RX0 k rm) (hdg : decode cc pc = .ok (.getfield 54, 3)) (kk : gx_G X (pw_W a k (P, B, Gr, M, T)) (pc + 3) lv (.ref (a 18) :: st)) : gx_G X (pw_W a k (P, B, Gr, M, T)) pc lv (.ref (a 0) :: st) := gi_get hX in_X0 0 rfl rfl 18 (by decide) q58 rfl hdg kk
theorem pl_cf (j : Nat) (hX : gx_Ok X cc RX0 k rm) (hdg : decode cc pc = .ok (.baload, 1)) (hi : i = nI j) (hj : j < 72) (kk : gx_G X (pw_W a k (P, B, Gr, M, T)) (pc + 1) lv (.int (T.2.2.2.2.2.1 j) :: st)) : gx_G X (pw_W a k (P, B, Gr, M, T)) pc lv (.int i :: .ref (a 18) :: st) := gi_bald hX 15 rfl rfl j hi hj hdg kk
theorem ps_cf (j : Nat) (hX : gx_Ok X cc RX0 k rm) (hdg : decode cc pc = .ok (.bastore, 1)) (hi : i = nI j) (hj : j < 72) (hx2 : vp_nar .byte x = x) (kk : gx_G X (pw_W a k (P, B, Gr, M, (T.1, T.2.1, T.2.2.1, T.2.2.2.1, T.2.2.2.2.1, upd T.2.2.2.2.2.1 j x, T.2.2.2.2.2.2))) (pc + 1) lv st) : gx_G X (pw_W a k (P, B, Gr, M, T)) pc lv (.int x :: .int i :: .ref (a 18) :: st) := gi_bast hX 15 rfl rfl j hi hj hx2 hdg kk
theorem pg_co (hX : gx_Ok X cc RX0 k rm) (hdg : decode cc pc = .ok (.getfield 57, 3)) (kk : gx_G X (pw_W a k (P, B, Gr, M, T)) (pc + 3) lv (.ref (a 19) :: st)) : gx_G X (pw_W a k (P, B, Gr, M, T)) pc lv (.ref (a 0) :: st) := gi_get hX in_X0 0 rfl rfl 19 (by decide) q59 rfl hdg kk
theorem pl_co (j : Nat) (hX : gx_Ok X cc RX0 k rm) (hdg : decode cc pc = .ok (.iaload, 1)) (hi : i = nI j) (hj : j < 72) (kk : gx_G X (pw_W a k (P, B, Gr, M, T)) (pc + 1) lv (.int (T.2.2.2.2.2.2 j) :: st)) : gx_G X (pw_W a k (P, B, Gr, M, T)) pc lv (.int i :: .ref (a 19) :: st) := gi_iald hX 16 rfl rfl j hi hj hdg kk
theorem ps_co (j : Nat) (hX : gx_Ok X cc RX0 k rm) (hdg : decode cc pc = .ok (.iastore, 1)) (hi : i = nI j) (hj : j < 72) (kk : gx_G X (pw_W a k (P, B, Gr, M, (T.1, T.2.1, T.2.2.1, T.2.2.2.1, T.2.2.2.2.1, T.2.2.2.2.2.1, upd T.2.2.2.2.2.2 j x))) (pc + 1) lv st) : gx_G X (pw_W a k (P, B, Gr, M, T)) pc lv (.int x :: .int i :: .ref (a 19) :: st) := gi_iast hX 16 rfl rfl j hi hj hdg kk
end PW
section MW
variable {X : gx_T} {cc : ByteArray} {k : gx_C} {rm : Nat × Nat} {pc : Nat} {lv : List (Option Value)} {st : List Value} {a : Nat → Nat} {n : Nat} {nd gn ls hd : pw_F} {ss : Int32} {i : Int32} {x : Int32}
theorem mg_n (hX : gx_Ok X cc RX1 k rm) (hdg : decode cc pc = .ok (.getfield 23, 3)) (kk : gx_G X (mw_W a k (n, nd, gn, ls, ss, hd)) (pc + 3) lv (.int (nI n) :: st)) : gx_G X (mw_W a k (n, nd, gn, ls, ss, hd)) pc lv (.ref (a 0) :: st) := gi_get hX in_X1 0 rfl rfl 0 (by decide) q247 rfl hdg kk
theorem ms_n (v : Nat) (hX : gx_Ok X cc RX1 k rm) (hdg : decode cc pc = .ok (.putfield 23, 3)) (hv : x = nI v) (kk : gx_G X (mw_W a k (v, nd, gn, ls, ss, hd)) (pc + 3) lv st) : gx_G X (mw_W a k (n, nd, gn, ls, ss, hd)) pc lv (.int x :: .ref (a 0) :: st) := by
  subst hv
  refine gi_put (ty := .int) (v := .int (nI v)) hX in_X1 tyX1 tyX1_ok nmX1 0 rfl rfl 0 (by decide) q247 rfl (by decide +kernel) rfl rfl (Nat.le_of_ble_eq_true rfl) hdg ?_
  exact kk
theorem mg_nd (hX : gx_Ok X cc RX1 k rm) (hdg : decode cc pc = .ok (.getfield 7, 3)) (kk : gx_G X (mw_W a k (n, nd, gn, ls, ss, hd)) (pc + 3) lv (.ref (a 1) :: st)) : gx_G X (mw_W a k (n, nd, gn, ls, ss, hd)) pc lv (.ref (a 0) :: st) := gi_get hX in_X1 0 rfl rfl 1 (by decide) q248 rfl hdg kk
theorem ml_nd (j : Nat) (hX : gx_Ok X cc RX1 k rm) (hdg : decode cc pc = .ok (.iaload, 1)) (hi : i = nI j) (hj : j < 7) (kk : gx_G X (mw_W a k (n, nd, gn, ls, ss, hd)) (pc + 1) lv (.int (nd j) :: st)) : gx_G X (mw_W a k (n, nd, gn, ls, ss, hd)) pc lv (.int i :: .ref (a 1) :: st) := gi_iald hX 1 rfl rfl j hi hj hdg kk
theorem ms_nd (j : Nat) (hX : gx_Ok X cc RX1 k rm) (hdg : decode cc pc = .ok (.iastore, 1)) (hi : i = nI j) (hj : j < 7) (kk : gx_G X (mw_W a k (n, upd nd j x, gn, ls, ss, hd)) (pc + 1) lv st) : gx_G X (mw_W a k (n, nd, gn, ls, ss, hd)) pc lv (.int x :: .int i :: .ref (a 1) :: st) := gi_iast hX 1 rfl rfl j hi hj hdg kk
theorem mg_gn (hX : gx_Ok X cc RX1 k rm) (hdg : decode cc pc = .ok (.getfield 13, 3)) (kk : gx_G X (mw_W a k (n, nd, gn, ls, ss, hd)) (pc + 3) lv (.ref (a 2) :: st)) : gx_G X (mw_W a k (n, nd, gn, ls, ss, hd)) pc lv (.ref (a 0) :: st) := gi_get hX in_X1 0 rfl rfl 2 (by decide) q249 rfl hdg kk
theorem ml_gn (j : Nat) (hX : gx_Ok X cc RX1 k rm) (hdg : decode cc pc = .ok (.iaload, 1)) (hi : i = nI j) (hj : j < 7) (kk : gx_G X (mw_W a k (n, nd, gn, ls, ss, hd)) (pc + 1) lv (.int (gn j) :: st)) : gx_G X (mw_W a k (n, nd, gn, ls, ss, hd)) pc lv (.int i :: .ref (a 2) :: st) := gi_iald hX 2 rfl rfl j hi hj hdg kk
theorem ms_gn (j : Nat) (hX : gx_Ok X cc RX1 k rm) (hdg : decode cc pc = .ok (.iastore, 1)) (hi : i = nI j) (hj : j < 7) (kk : gx_G X (mw_W a k (n, nd, upd gn j x, ls, ss, hd)) (pc + 1) lv st) : gx_G X (mw_W a k (n, nd, gn, ls, ss, hd)) pc lv (.int x :: .int i :: .ref (a 2) :: st) := gi_iast hX 2 rfl rfl j hi hj hdg kk
theorem mg_ls (hX : gx_Ok X cc RX1 k rm) (hdg : decode cc pc = .ok (.getfield 16, 3)) (kk : gx_G X (mw_W a k (n, nd, gn, ls, ss, hd)) (pc + 3) lv (.ref (a 3) :: st)) : gx_G X (mw_W a k (n, nd, gn, ls, ss, hd)) pc lv (.ref (a 0) :: st) := gi_get hX in_X1 0 rfl rfl 3 (by decide) q250 rfl hdg kk
theorem ml_ls (j : Nat) (hX : gx_Ok X cc RX1 k rm) (hdg : decode cc pc = .ok (.iaload, 1)) (hi : i = nI j) (hj : j < 7) (kk : gx_G X (mw_W a k (n, nd, gn, ls, ss, hd)) (pc + 1) lv (.int (ls j) :: st)) : gx_G X (mw_W a k (n, nd, gn, ls, ss, hd)) pc lv (.int i :: .ref (a 3) :: st) := gi_iald hX 3 rfl rfl j hi hj hdg kk
theorem ms_ls (j : Nat) (hX : gx_Ok X cc RX1 k rm) (hdg : decode cc pc = .ok (.iastore, 1)) (hi : i = nI j) (hj : j < 7) (kk : gx_G X (mw_W a k (n, nd, gn, upd ls j x, ss, hd)) (pc + 1) lv st) : gx_G X (mw_W a k (n, nd, gn, ls, ss, hd)) pc lv (.int x :: .int i :: .ref (a 3) :: st) := gi_iast hX 3 rfl rfl j hi hj hdg kk
theorem mg_ss (hX : gx_Ok X cc RX1 k rm) (hdg : decode cc pc = .ok (.getfield 34, 3)) (kk : gx_G X (mw_W a k (n, nd, gn, ls, ss, hd)) (pc + 3) lv (.int ss :: st)) : gx_G X (mw_W a k (n, nd, gn, ls, ss, hd)) pc lv (.ref (a 0) :: st) := gi_get hX in_X1 0 rfl rfl 4 (by decide) q251 rfl hdg kk
theorem ms_ss (hX : gx_Ok X cc RX1 k rm) (hdg : decode cc pc = .ok (.putfield 34, 3)) (kk : gx_G X (mw_W a k (n, nd, gn, ls, x, hd)) (pc + 3) lv st) : gx_G X (mw_W a k (n, nd, gn, ls, ss, hd)) pc lv (.int x :: .ref (a 0) :: st) := by
  refine gi_put (ty := .int) (v := .int x) hX in_X1 tyX1 tyX1_ok nmX1 0 rfl rfl 4 (by decide) q251 rfl (by decide +kernel) rfl rfl (Nat.le_of_ble_eq_true rfl) hdg ?_
  exact kk
theorem mg_hd (hX : gx_Ok X cc RX1 k rm) (hdg : decode cc pc = .ok (.getfield 19, 3)) (kk : gx_G X (mw_W a k (n, nd, gn, ls, ss, hd)) (pc + 3) lv (.ref (a 5) :: st)) : gx_G X (mw_W a k (n, nd, gn, ls, ss, hd)) pc lv (.ref (a 0) :: st) := gi_get hX in_X1 0 rfl rfl 5 (by decide) q252 rfl hdg kk
theorem ml_hd (j : Nat) (hX : gx_Ok X cc RX1 k rm) (hdg : decode cc pc = .ok (.baload, 1)) (hi : i = nI j) (hj : j < 2304) (kk : gx_G X (mw_W a k (n, nd, gn, ls, ss, hd)) (pc + 1) lv (.int (hd j) :: st)) : gx_G X (mw_W a k (n, nd, gn, ls, ss, hd)) pc lv (.int i :: .ref (a 5) :: st) := gi_zald hX 4 rfl rfl j hi hj hdg kk
theorem ms_hd (j : Nat) (hX : gx_Ok X cc RX1 k rm) (hdg : decode cc pc = .ok (.bastore, 1)) (hi : i = nI j) (hj : j < 2304) (hx2 : vp_nar .boolean x = x) (kk : gx_G X (mw_W a k (n, nd, gn, ls, ss, upd hd j x)) (pc + 1) lv st) : gx_G X (mw_W a k (n, nd, gn, ls, ss, hd)) pc lv (.int x :: .int i :: .ref (a 5) :: st) := gi_zast hX 4 rfl rfl j hi hj hx2 hdg kk
end MW
theorem cw_p_isSet : gx_cw RX0 64 RX0 yX0_isSet cX0_isSet 2 (some .boolean) 1 := ⟨lw_V q108 q110 qs0 q30 q111, by decide +kernel⟩
theorem cw_p_isAction : gx_cw RX0 72 RX0 yX0_isAction cX0_isAction 2 (some .boolean) 1 := ⟨lw_V q116 q118 qs1 q30 q119, by decide +kernel⟩
theorem cw_p_deedsClash : gx_cw RX0 78 RX0 yX0_deedsClash cX0_deedsClash 5 (some .boolean) 2 := ⟨lw_V q128 q130 qs2 q30 q131, by decide +kernel⟩
theorem cw_p_build : gx_cw RX0 82 RX0 yX0_build cX0_build 3 none 0 := ⟨lw_V q148 q150 qs6 q30 q151, by decide +kernel⟩
theorem cw_p_serves : gx_cw RX0 85 RX0 yX0_serves cX0_serves 6 (some .boolean) 2 := ⟨lw_V q176 q178 qs13 q30 q179, by decide +kernel⟩
theorem cw_p_fewest : gx_cw RX0 88 RX0 yX0_fewest cX0_fewest 3 (some .int) 1 := ⟨lw_V q224 q145 q146 q30 q147, by decide +kernel⟩
theorem cw_p_isLayer : gx_cw RX0 92 RX0 yX0_isLayer cX0_isLayer 5 (some .boolean) 2 := ⟨lw_V q225 q227 qs22 q30 q228, by decide +kernel⟩
theorem cw_p_after : gx_cw RX0 95 RX0 yX0_after cX0_after 5 (some .int) 2 := ⟨lw_V q229 q231 qs23 q30 q232, by decide +kernel⟩
theorem cw_p_needsOf : gx_cw RX0 99 RX0 yX0_needsOf cX0_needsOf 2 (some .int) 1 := ⟨lw_V q132 q134 qs3 q30 q135, by decide +kernel⟩
theorem cw_p_gainsOf : gx_cw RX0 102 RX0 yX0_gainsOf cX0_gainsOf 2 (some .int) 1 := ⟨lw_V q136 q138 qs4 q30 q139, by decide +kernel⟩
theorem cw_p_lossesOf : gx_cw RX0 105 RX0 yX0_lossesOf cX0_lossesOf 2 (some .int) 1 := ⟨lw_V q140 q142 qs5 q30 q143, by decide +kernel⟩
theorem cw_p_exists : gx_cw RX0 108 RX0 yX0_exists cX0_exists 2 (some .boolean) 1 := ⟨lw_V q152 q154 qs7 q30 q155, by decide +kernel⟩
theorem cw_p_findDeeds : gx_cw RX0 111 RX0 yX0_findDeeds cX0_findDeeds 5 none 1 := ⟨lw_V q156 q158 qs8 q30 q159, by decide +kernel⟩
theorem cw_p_findFacts : gx_cw RX0 115 RX0 yX0_findFacts cX0_findFacts 6 none 1 := ⟨lw_V q164 q166 qs10 q30 q167, by decide +kernel⟩
theorem cw_p_canBeTogether : gx_cw RX0 118 RX0 yX0_canBeTogether cX0_canBeTogether 4 (some .boolean) 2 := ⟨lw_V q160 q162 qs9 q30 q163, by decide +kernel⟩
theorem cw_p_makersOf : gx_cw RX0 121 RX0 yX0_makersOf cX0_makersOf 5 (some .int) 2 := ⟨lw_V q168 q170 qs11 q30 q171, by decide +kernel⟩
theorem cw_p_allBarred : gx_cw RX0 124 RX0 yX0_allBarred cX0_allBarred 7 (some .boolean) 3 := ⟨lw_V q172 q174 qs12 q30 q175, by decide +kernel⟩
theorem cw_p_isMarked : gx_cw RX0 128 RX0 yX0_isMarked cX0_isMarked 7 (some .boolean) 3 := ⟨lw_V q180 q182 qs14 q30 q183, by decide +kernel⟩
theorem cw_p_enter : gx_cw RX0 135 RX0 yX0_enter cX0_enter 3 none 2 := ⟨lw_V q184 q186 qs15 q30 q187, by decide +kernel⟩
theorem cw_p_markAbove : gx_cw RX0 139 RX0 yX0_markAbove cX0_markAbove 4 none 2 := ⟨lw_V q188 q190 qs16 q30 q191, by decide +kernel⟩
theorem cw_p_neededBy : gx_cw RX0 142 RX0 yX0_neededBy cX0_neededBy 4 (some .int) 1 := ⟨lw_V q196 q198 qs18 q30 q199, by decide +kernel⟩
theorem cw_p_goBack : gx_cw RX0 145 RX0 yX0_goBack cX0_goBack 7 (some .int) 2 := ⟨lw_V q200 q202 qs19 q30 q203, by decide +kernel⟩
theorem cw_p_lowestOpen : gx_cw RX0 148 RX0 yX0_lowestOpen cX0_lowestOpen 3 (some .int) 1 := ⟨lw_V q208 q210 qs21 q30 q211, by decide +kernel⟩
theorem cw_p_choose : gx_cw RX0 151 RX0 yX0_choose cX0_choose 6 (some .boolean) 3 := ⟨lw_V q204 q206 qs20 q30 q207, by decide +kernel⟩
theorem cw_p_markSet : gx_cw RX0 154 RX0 yX0_markSet cX0_markSet 5 none 3 := ⟨lw_V q192 q194 qs17 q30 q195, by decide +kernel⟩
theorem cw_l_p_action : gx_cw "PlanLayersLaw" 13 RX0 yX0_action cX0_action 4 (some .int) 3 := ⟨lw_V q104 q105 q106 q30 q107, by decide +kernel⟩
theorem cw_l_m_action : gx_cw "PlanLayersLaw" 17 RX1 yX1_action cX1_action 4 (some .int) 3 := ⟨lw_V q267 q268 q269 q31 q270, by decide +kernel⟩
theorem cw_l_p_drop : gx_cw "PlanLayersLaw" 18 RX0 yX0_drop cX0_drop 3 (some .int) 1 := ⟨lw_V q112 q113 q114 q30 q115, by decide +kernel⟩
theorem cw_l_m_drop : gx_cw "PlanLayersLaw" 22 RX1 yX1_drop cX1_drop 3 (some .int) 1 := ⟨lw_V q275 q276 q277 q31 q278, by decide +kernel⟩
theorem cw_l_p_start : gx_cw "PlanLayersLaw" 23 RX0 yX0_start cX0_start 2 (some .boolean) 1 := ⟨lw_V q120 q121 q122 q30 q123, by decide +kernel⟩
theorem cw_l_m_start : gx_cw "PlanLayersLaw" 27 RX1 yX1_start cX1_start 2 (some .boolean) 1 := ⟨lw_V q283 q284 q285 q31 q286, by decide +kernel⟩
theorem cw_l_p_clash : gx_cw "PlanLayersLaw" 28 RX0 yX0_clash cX0_clash 3 (some .boolean) 2 := ⟨lw_V q124 q125 q126 q30 q127, by decide +kernel⟩
theorem cw_l_m_clash : gx_cw "PlanLayersLaw" 32 RX1 yX1_clash cX1_clash 3 (some .boolean) 2 := ⟨lw_V q287 q288 q289 q31 q290, by decide +kernel⟩
theorem cw_l_p_fewest : gx_cw "PlanLayersLaw" 33 RX0 yX0_fewest cX0_fewest 3 (some .int) 1 := ⟨lw_V q144 q145 q146 q30 q147, by decide +kernel⟩
theorem cw_l_m_fewest : gx_cw "PlanLayersLaw" 36 RX1 yX1_fewest cX1_fewest 3 (some .int) 1 := ⟨lw_V q291 q292 q293 q31 q294, by decide +kernel⟩
theorem cw_l_p_within : gx_cw "PlanLayersLaw" 37 RX0 yX0_within cX0_within 4 (some .int) 1 := ⟨lw_V q212 q213 q214 q30 q215, by decide +kernel⟩
theorem cw_l_m_within : gx_cw "PlanLayersLaw" 40 RX1 yX1_within cX1_within 4 (some .int) 1 := ⟨lw_V q308 q309 q310 q31 q311, by decide +kernel⟩
theorem cw_l_p_together : gx_cw "PlanLayersLaw" 41 RX0 yX0_together cX0_together 4 (some .boolean) 3 := ⟨lw_V q216 q217 q218 q30 q219, by decide +kernel⟩
theorem cw_l_m_together : gx_cw "PlanLayersLaw" 45 RX1 yX1_together cX1_together 4 (some .boolean) 3 := ⟨lw_V q312 q313 q314 q31 q315, by decide +kernel⟩
theorem cw_l_p_begins : gx_cw "PlanLayersLaw" 46 RX0 yX0_begins cX0_begins 7 (some .boolean) 2 := ⟨lw_V q220 q221 q222 q30 q223, by decide +kernel⟩
theorem cw_l_m_begins : gx_cw "PlanLayersLaw" 49 RX1 yX1_begins cX1_begins 6 (some .boolean) 2 := ⟨lw_V q316 q317 q318 q31 q319, by decide +kernel⟩
theorem cw_l_p_advance : gx_cw "PlanLayersLaw" 50 RX0 yX0_advance cX0_advance 2 (some .boolean) 1 := ⟨lw_V q233 q234 q235 q30 q236, by decide +kernel⟩
theorem cw_l_m_advance : gx_cw "PlanLayersLaw" 53 RX1 yX1_advance cX1_advance 3 (some .boolean) 1 := ⟨lw_V q321 q322 q323 q31 q324, by decide +kernel⟩
theorem cw_l_p_state : gx_cw "PlanLayersLaw" 54 RX0 yX0_state cX0_state 1 (some .int) 0 := ⟨lw_V q237 q238 q239 q30 q240, by decide +kernel⟩
theorem cw_l_m_state : gx_cw "PlanLayersLaw" 58 RX1 yX1_state cX1_state 1 (some .int) 0 := ⟨lw_V q325 q326 q327 q31 q328, by decide +kernel⟩
theorem cw_m_isSet : gx_cw RX1 27 RX1 yX1_isSet cX1_isSet 2 (some .boolean) 1 := ⟨lw_V q271 q273 qs24 q31 q274, by decide +kernel⟩
theorem cw_m_isAction : gx_cw RX1 31 RX1 yX1_isAction cX1_isAction 2 (some .boolean) 1 := ⟨lw_V q279 q281 qs25 q31 q282, by decide +kernel⟩
theorem cw_m_clash : gx_cw RX1 37 RX1 yX1_clash cX1_clash 3 (some .boolean) 2 := ⟨lw_V q303 q288 q289 q31 q290, by decide +kernel⟩
theorem cw_m_after : gx_cw RX1 41 RX1 yX1_after cX1_after 7 (some .int) 2 := ⟨lw_V q299 q301 qs27 q31 q302, by decide +kernel⟩
theorem cw_m_setOut : gx_cw RX1 45 RX1 yX1_setOut cX1_setOut 5 none 1 := ⟨lw_V q295 q297 qs26 q31 q298, by decide +kernel⟩
theorem cw_m_served : gx_cw RX1 49 RX1 yX1_served cX1_served 4 (some .boolean) 2 := ⟨lw_V q304 q306 qs28 q31 q307, by decide +kernel⟩
theorem cw_m_fewest : gx_cw RX1 52 RX1 yX1_fewest cX1_fewest 3 (some .int) 1 := ⟨lw_V q320 q292 q293 q31 q294, by decide +kernel⟩
end
section
/-! BITS: Int32 by its bits (began as rows of laws/BITS.to-paste, first family, and ts_bit) -/
set_option maxRecDepth 100000
def bt (x : Int32) (i : Nat) : Bool := x.toBitVec.getLsbD i
theorem b_ext {x y : Int32} (h : ∀ i, i < 32 → bt x i = bt y i) : x = y := Int32.toBitVec_inj.mp (BitVec.eq_of_getLsbD_eq (fun i hi => h i hi))
theorem b_or (x y : Int32) (i : Nat) : bt (x ||| y) i = (bt x i || bt y i) := by unfold bt; rw [Int32.toBitVec_or, BitVec.getLsbD_or]
theorem b_and (x y : Int32) (i : Nat) : bt (x &&& y) i = (bt x i && bt y i) := by unfold bt; rw [Int32.toBitVec_and, BitVec.getLsbD_and]
theorem b_xor (x y : Int32) (i : Nat) : bt (x ^^^ y) i = (bt x i ^^ bt y i) := by unfold bt; rw [Int32.toBitVec_xor, BitVec.getLsbD_xor]
theorem b_big {x : Int32} {i : Nat} (h : 32 ≤ i) : bt x i = false := BitVec.getLsbD_of_ge _ _ h
theorem b_lt {x : Int32} {i : Nat} (h : bt x i = true) : i < 32 := by
  rcases Nat.lt_or_ge i 32 with q | q
  · exact q
  · rw [b_big q] at h; cases h
theorem b_255 (i : Nat) : bt 255 i = decide (i < 8) := by
  rcases Nat.lt_or_ge i 32 with h | h
  · exact (by decide +kernel : ∀ i, i < 32 → bt 255 i = decide (i < 8)) i h
  · rw [b_big h, decide_eq_false (by omega)]
theorem b_m1 : ∀ i, i < 32 → bt (-1) i = true := by decide +kernel
theorem b_0 (i : Nat) : bt 0 i = false := BitVec.getLsbD_zero
theorem b_n0 (i : Nat) : bt (nI 0) i = false := by rw [nI_0]; exact b_0 i
theorem s_l : ∀ n, n < 32 → ((nI n &&& 31).toBitVec.smod 32).toNat = n := by decide +kernel
theorem b_shl (n : Nat) (hn : n < 32) (x : Int32) {i : Nat} (hi : i < 32) : bt (x <<< (nI n &&& 31)) i = (decide (n ≤ i) && bt x (i - n)) := by
  unfold bt
  rw [Int32.toBitVec_shiftLeft]
  show (x.toBitVec <<< ((nI n &&& 31).toBitVec.smod 32).toNat).getLsbD i = _
  rw [s_l n hn, BitVec.getLsbD_shiftLeft]
  rcases Nat.lt_or_ge i n with h | h
  · simp [h, Nat.not_le.mpr h]
  · simp [hi, h, Nat.not_lt.mpr h]
theorem b_sshr (n : Nat) (hn : n < 32) (x : Int32) {i : Nat} (hi : i < 32) : bt (x >>> (nI n &&& 31)) i = if n + i < 32 then bt x (n + i) else bt x 31 := by
  unfold bt
  rw [Int32.toBitVec_shiftRight]
  show (x.toBitVec.sshiftRight ((nI n &&& 31).toBitVec.smod 32).toNat).getLsbD i = _
  rw [s_l n hn, BitVec.getLsbD_sshiftRight, BitVec.msb_eq_getLsbD_last]
  simp [hi]
theorem b_n1 (i : Nat) : bt (nI 1) i = decide (i = 0) := by
  rcases Nat.lt_or_ge i 32 with h | h
  · exact (by decide +kernel : ∀ i, i < 32 → bt (nI 1) i = decide (i = 0)) i h
  · rw [b_big h, decide_eq_false (by omega)]
/-- one bit -/
def b_sh (n : Nat) : Int32 := nI 1 <<< (nI n &&& 31)
theorem b_shi {n : Nat} (hn : n < 32) (i : Nat) : bt (b_sh n) i = decide (i = n) := by
  rcases Nat.lt_or_ge i 32 with hi | hi
  · unfold b_sh
    rw [b_shl n hn _ hi, b_n1]
    by_cases e : i = n
    · subst e; simp
    · rw [decide_eq_false e]
      rcases Nat.lt_or_ge i n with h | h
      · rw [decide_eq_false (by omega)]; rfl
      · rw [decide_eq_true h, decide_eq_false (by omega)]; rfl
  · rw [b_big hi, decide_eq_false (by omega)]
theorem b_z {x : Int32} : x = 0 ↔ ∀ i, bt x i = false := ⟨fun h i => by rw [h]; exact b_0 i, fun h => b_ext (fun i _ => by rw [h i, b_0])⟩
/-- the test of one bit, as Java writes it: (x >> n & 1) == 0 -/
theorem b_tst {x : Int32} {n : Nat} (hn : n < 32) : (x >>> (nI n &&& 31)) &&& nI 1 = 0 ↔ bt x n = false := by
  rw [b_z]
  constructor
  · intro h
    have := h 0
    rw [b_and, b_sshr n hn x (by omega), b_n1] at this
    simpa [hn] using this
  · intro h i
    rw [b_and, b_n1]
    by_cases e : i = 0
    · subst e
      rw [b_sshr n hn x (by omega)]
      simp [hn, h]
    · rw [decide_eq_false e, Bool.and_false]
theorem b_tst1 {x : Int32} {n : Nat} (hn : n < 32) : ¬ ((x >>> (nI n &&& 31)) &&& nI 1 = 0) ↔ bt x n = true := by
  rw [b_tst hn]
  cases bt x n <;> simp
theorem b_not (x : Int32) {i : Nat} (hi : i < 32) : bt (x ^^^ (-1)) i = !bt x i := by
  rw [b_xor, b_m1 i hi]; simp
/-- sets: x within y -/
def b_sub (x y : Int32) : Prop := ∀ i, bt x i = true → bt y i = true
theorem b_an {x y : Int32} : x &&& (y ^^^ (-1)) = 0 ↔ b_sub x y := by
  rw [b_z]
  constructor
  · intro h i hi
    have := h i
    rw [b_and, b_not y (b_lt hi), hi] at this
    simpa using this
  · intro h i
    rcases Nat.lt_or_ge i 32 with q | q
    · rw [b_and, b_not y q]
      cases hx : bt x i with
      | false => rfl
      | true => rw [h i hx]; rfl
    · exact b_big q
theorem b_adz {x y : Int32} : x &&& y = 0 ↔ ∀ i, bt x i = true → bt y i = false := by
  rw [b_z]
  constructor
  · intro h i hi
    have := h i
    rw [b_and, hi] at this
    simpa using this
  · intro h i
    rw [b_and]
    cases hx : bt x i with
    | false => rfl
    | true => rw [h i hx]; rfl
theorem b_sub_rf (x : Int32) : b_sub x x := fun _ h => h
theorem b_sub_tr {x y z : Int32} (h : b_sub x y) (g : b_sub y z) : b_sub x z := fun i q => g i (h i q)
theorem b_sub_0 (x : Int32) : b_sub 0 x := fun i h => by rw [b_0] at h; cases h
theorem b_sub_or {x y z : Int32} : b_sub (x ||| y) z ↔ b_sub x z ∧ b_sub y z := by
  constructor
  · intro h
    exact ⟨fun i q => h i (by rw [b_or, q]; rfl), fun i q => h i (by rw [b_or, q, Bool.or_true])⟩
  · rintro ⟨h, g⟩ i q
    rw [b_or, Bool.or_eq_true] at q
    exact q.elim (h i) (g i)
/-- a number of 0 to 255, by its bits -/
theorem b_byte {x : Int32} : (¬ x < 0 ∧ ¬ nI 255 < x) ↔ ∀ i, 8 ≤ i → bt x i = false := by
  constructor
  · rintro ⟨h1, h2⟩ i hi
    obtain ⟨j, hj, rfl⟩ := nI_of2 (M := nI 255) (n := 255) (by decide) h1 (by
      rw [Int32.le_iff_toInt_le]
      rw [Int32.lt_iff_toInt_lt] at h2
      omega)
    rcases Nat.lt_or_ge i 32 with q | q
    · show (BitVec.ofNat 32 j).getLsbD i = false
      rw [BitVec.getLsbD_ofNat]
      have : j.testBit i = false := Nat.testBit_lt_two_pow (Nat.lt_of_lt_of_le (show j < 2 ^ 8 by omega) (Nat.pow_le_pow_right (by omega) hi))
      rw [this, Bool.and_false]
    · exact b_big q
  · intro h
    have e : x &&& 255 = x := b_ext (fun i _ => by
      rw [b_and, b_255]
      rcases Nat.lt_or_ge i 8 with q | q
      · rw [decide_eq_true q, Bool.and_true]
      · rw [h i q]; rfl)
    obtain ⟨j, hj, he⟩ := pk_andE x (m := 255) 8 (by decide)
    rw [e] at he
    subst he
    exact ⟨nI_pos (by omega), nI_nlt (by omega) (by omega)⟩
theorem b_nI {j i : Nat} (hi : i < 32) : bt (nI j) i = j.testBit i := by
  show (BitVec.ofNat 32 j).getLsbD i = _
  rw [BitVec.getLsbD_ofNat]; simp [hi]
/-- a truth as an int -/
def b_tf (r : Int32) (p : Prop) : Prop := (r = nI 1 ∧ p) ∨ (r = nI 0 ∧ ¬ p)
theorem b_tf1 {p : Prop} (h : p) : b_tf (nI 1) p := Or.inl ⟨rfl, h⟩
theorem b_tf0 {p : Prop} (h : ¬ p) : b_tf (nI 0) p := Or.inr ⟨rfl, h⟩
theorem b_tf.z {r : Int32} {p : Prop} (h : b_tf r p) : r = 0 ↔ ¬ p := by
  rcases h with ⟨rfl, h⟩ | ⟨rfl, h⟩
  · exact ⟨fun q => absurd q (by decide), fun q => absurd h q⟩
  · exact ⟨fun _ => h, fun _ => nI_0⟩
theorem b_tf.nz {r : Int32} {p : Prop} (h : b_tf r p) : ¬ r = 0 ↔ p := by
  rcases h with ⟨rfl, h⟩ | ⟨rfl, h⟩
  · exact ⟨fun _ => h, fun _ => by decide⟩
  · exact ⟨fun q => absurd nI_0 q, fun q => absurd q h⟩
theorem b_tf.nar {r : Int32} {p : Prop} (h : b_tf r p) : narrow .boolean (.int r) = .int r := by
  rcases h with ⟨rfl, h⟩ | ⟨rfl, h⟩ <;> rfl
theorem b_tf.iff {r : Int32} {p q : Prop} (h : b_tf r p) (e : p ↔ q) : b_tf r q := by
  rcases h with ⟨rfl, h⟩ | ⟨rfl, h⟩
  · exact Or.inl ⟨rfl, e.mp h⟩
  · exact Or.inr ⟨rfl, fun g => h (e.mpr g)⟩
theorem b_tf.eq {r r2 : Int32} {p : Prop} (h : b_tf r p) (g : b_tf r2 p) : r = r2 := by
  rcases h with ⟨rfl, h⟩ | ⟨rfl, h⟩ <;> rcases g with ⟨rfl, g⟩ | ⟨rfl, g⟩
  · rfl
  · exact absurd h g
  · exact absurd g h
  · rfl
theorem gi_inc1 (a : Nat) : nI a + Int32.ofInt 1 = nI (a + 1) := nI_1 a
theorem gi_by8 : ∀ n, n < 128 → (nI n).toInt8.toInt32 = nI n := by decide +kernel
theorem gi_nar8 {n : Nat} (h : n < 128) : vp_nar .byte (nI n) = nI n := by rw [vp_nar_byte]; exact gi_by8 n h
end
section
/-! WORDS of the system's sets: what each small method of PlanLayers answers -/
def sp_set (x : Int32) : Prop := ¬ x < 0 ∧ ¬ nI 255 < x
def sp_act (n : Nat) (x : Int32) : Prop := ¬ x < 0 ∧ ¬ nI n ≤ x
def sp_nd (P : pw_P) (d : Nat) : Int32 := if d < 7 then P.2.1 d else b_sh (d - 7)
def sp_gn (P : pw_P) (d : Nat) : Int32 := if d < 7 then P.2.2.1 d else b_sh (d - 7)
def sp_ls (P : pw_P) (d : Nat) : Int32 := if d < 7 then P.2.2.2.1 d else nI 0
def sp_ex (P : pw_P) (d : Nat) : Prop := 7 ≤ d ∨ d < P.1
def sp_cl (P : pw_P) (d e : Nat) : Prop := ¬ (sp_ls P d &&& (sp_nd P e ||| sp_gn P e) = 0 ∧ sp_ls P e &&& (sp_nd P d ||| sp_gn P d) = 0)
/-- a set of facts can be together at layer l -/
def sp_cbt (Gr : pw_G) (set : Int32) (l : Nat) : Prop := b_sub set (Gr.1 l) ∧ ∀ f, f < 8 → bt set f = true → Gr.2.2.1 (8 * l + f) &&& set = 0
/-- d is a deed of layer l that makes f -/
def sp_mk (P : pw_P) (Gr : pw_G) (f l d : Nat) : Prop := d < 15 ∧ bt (Gr.2.1 l) d = true ∧ bt (sp_gn P d) f = true
def sp_isM (P : pw_P) (Gr : pw_G) (f l : Nat) (r : Int32) : Prop := ∀ d, bt r d = true ↔ sp_mk P Gr f l d
/-- every deed that makes f bars every deed that makes g -/
def sp_ab (P : pw_P) (Gr : pw_G) (f g l : Nat) : Prop := ∀ d, sp_mk P Gr f l d → ∀ e, sp_mk P Gr g l e → bt (Gr.2.2.2.1 (15 * l + d)) e = true
/-- a layer of actions in a state -/
def sp_lay (P : pw_P) (layer st : Int32) : Prop := ∀ i, i < P.1 → bt layer i = true → b_sub (P.2.1 i) st ∧ ∀ j, j < i → bt layer j = true → ¬ sp_cl P i j
/-- the state behind a layer, by its bits -/
def sp_nx (P : pw_P) (layer st r : Int32) : Prop := ∀ f, bt r f = true ↔ ((bt st f = true ∧ ∀ i, i < P.1 → bt layer i = true → bt (P.2.2.2.1 i) f = false) ∨ ∃ i, i < P.1 ∧ bt layer i = true ∧ bt (P.2.2.1 i) f = true)
theorem gx_up {N : Nat} {Q : Nat → Prop} (h : ∀ f, f ≤ N → (∀ g, f < g → g ≤ N → Q g) → Q f) : ∀ f, f ≤ N → Q f := by
  have key : ∀ n f, f ≤ N → N ≤ f + n → Q f := by
    intro n
    induction n with
    | zero => intro f hf hn; exact h f hf (fun g h1 h2 => absurd h2 (by omega))
    | succ n ih => intro f hf hn; exact h f hf (fun g h1 h2 => ih g h2 (by omega))
  intro f hf
  exact key N f hf (by omega)
theorem sp_lt {a b : Nat} (ha : a < 2 ^ 31) (hb : b < 2 ^ 31) (h : ¬ nI b ≤ nI a) : a < b := Nat.lt_of_not_le (fun q => h ((nI_leI hb ha).mpr q))
theorem sp_ge {a b : Nat} (ha : a < 2 ^ 31) (hb : b < 2 ^ 31) (h : nI b ≤ nI a) : b ≤ a := (nI_leI hb ha).mp h
end
section
/-! CONTRACTS of the small methods of PlanLayers -/
set_option maxRecDepth 100000
set_option maxHeartbeats 4000000 in
theorem m_isSet {a : Nat → Nat} {k : gx_C} {P : pw_P} {B : Nat} {Gr : pw_G} {M : pw_M} {T : pw_T} (x : Int32) : gx_CI k yX0_isSet cX0_isSet 2 .boolean (0, 0) [.ref (a 0), .int x] (pw_W a k) (P, B, Gr, M, T) (fun r u => u = (P, B, Gr, M, T) ∧ b_tf r (sp_set x)) := by
  refine gx_CI.of (by decide) rfl rfl (fun X hX hR => ?_)
  have hX : gx_Ok X cX0_isSet RX0 k (0, 0) := hX
  show gx_G X (pw_W a k (P, B, Gr, M, T)) 0 [some (.ref (a 0)), some (.int x)] []
  refine gi_iload_n (pc := 0) hX dX0_isSet_0 rfl ?_
  refine gi_if_lt (pc := 1) 15 hX dX0_isSet_1 (by decide) (fun c1 => ?_) (fun c1 => ?_)
  · have q : ¬ sp_set x := fun h => h.1 c1
    refine gi_iconst (pc := 15) (nI 0) hX dX0_isSet_15 (by decide) ?_
    exact hR 16 _ _ _ dX0_isSet_16 rfl ⟨rfl, by first | exact b_tf1 q | exact b_tf0 q⟩
  · refine gi_iload_n (pc := 4) hX dX0_isSet_4 rfl ?_
    refine gi_sipush (pc := 5) (nI 255) hX dX0_isSet_5 (by decide) ?_
    refine gi_icmp_gt (pc := 8) 15 hX dX0_isSet_8 (by decide) (fun c8 => ?_) (fun c8 => ?_)
    · have q : ¬ sp_set x := fun h => h.2 c8
      refine gi_iconst (pc := 15) (nI 0) hX dX0_isSet_15 (by decide) ?_
      exact hR 16 _ _ _ dX0_isSet_16 rfl ⟨rfl, by first | exact b_tf1 q | exact b_tf0 q⟩
    · have q : sp_set x := ⟨c1, c8⟩
      refine gi_iconst (pc := 11) (nI 1) hX dX0_isSet_11 (by decide) ?_
      refine gi_goto (pc := 12) 16 hX dX0_isSet_12 (by decide) ?_
      exact hR 16 _ _ _ dX0_isSet_16 rfl ⟨rfl, by first | exact b_tf1 q | exact b_tf0 q⟩
set_option maxHeartbeats 4000000 in
theorem m_isAction {a : Nat → Nat} {k : gx_C} {P : pw_P} {B : Nat} {Gr : pw_G} {M : pw_M} {T : pw_T} (x : Int32) : gx_CI k yX0_isAction cX0_isAction 2 .boolean (0, 0) [.ref (a 0), .int x] (pw_W a k) (P, B, Gr, M, T) (fun r u => u = (P, B, Gr, M, T) ∧ b_tf r (sp_act P.1 x)) := by
  refine gx_CI.of (by decide) rfl rfl (fun X hX hR => ?_)
  have hX : gx_Ok X cX0_isAction RX0 k (0, 0) := hX
  show gx_G X (pw_W a k (P, B, Gr, M, T)) 0 [some (.ref (a 0)), some (.int x)] []
  refine gi_iload_n (pc := 0) hX dX0_isAction_0 rfl ?_
  refine gi_if_lt (pc := 1) 16 hX dX0_isAction_1 (by decide) (fun c1 => ?_) (fun c1 => ?_)
  · have q : ¬ sp_act P.1 x := fun h => h.1 c1
    refine gi_iconst (pc := 16) (nI 0) hX dX0_isAction_16 (by decide) ?_
    exact hR 17 _ _ _ dX0_isAction_17 rfl ⟨rfl, by first | exact b_tf1 q | exact b_tf0 q⟩
  · refine gi_iload_n (pc := 4) hX dX0_isAction_4 rfl ?_
    refine gi_aload_n (pc := 5) hX dX0_isAction_5 rfl ?_
    refine pg_n (pc := 6) hX dX0_isAction_6 ?_
    refine gi_icmp_ge (pc := 9) 16 hX dX0_isAction_9 (by decide) (fun c9 => ?_) (fun c9 => ?_)
    · have q : ¬ sp_act P.1 x := fun h => h.2 c9
      refine gi_iconst (pc := 16) (nI 0) hX dX0_isAction_16 (by decide) ?_
      exact hR 17 _ _ _ dX0_isAction_17 rfl ⟨rfl, by first | exact b_tf1 q | exact b_tf0 q⟩
    · have q : sp_act P.1 x := ⟨c1, c9⟩
      refine gi_iconst (pc := 12) (nI 1) hX dX0_isAction_12 (by decide) ?_
      refine gi_goto (pc := 13) 17 hX dX0_isAction_13 (by decide) ?_
      exact hR 17 _ _ _ dX0_isAction_17 rfl ⟨rfl, by first | exact b_tf1 q | exact b_tf0 q⟩
set_option maxHeartbeats 4000000 in
theorem m_needsOf {a : Nat → Nat} {k : gx_C} {P : pw_P} {B : Nat} {Gr : pw_G} {M : pw_M} {T : pw_T} (d : Nat) (hd : d < 15) : gx_CI k yX0_needsOf cX0_needsOf 2 .int (0, 0) [.ref (a 0), .int (nI d)] (pw_W a k) (P, B, Gr, M, T) (fun r u => u = (P, B, Gr, M, T) ∧ r = sp_nd P d) := by
  refine gx_CI.of (by decide) rfl rfl (fun X hX hR => ?_)
  have hX : gx_Ok X cX0_needsOf RX0 k (0, 0) := hX
  show gx_G X (pw_W a k (P, B, Gr, M, T)) 0 [some (.ref (a 0)), some (.int (nI d))] []
  refine gi_iload_n (pc := 0) hX dX0_needsOf_0 rfl ?_
  refine gi_bipush (pc := 1) (nI 7) hX dX0_needsOf_1 (by decide) ?_
  refine gi_icmp_ge (pc := 3) 15 hX dX0_needsOf_3 (by decide) (fun c3 => ?_) (fun c3 => ?_)
  · have q := sp_ge (by omega) (by omega) c3
    refine gi_iconst (pc := 15) (nI 1) hX dX0_needsOf_15 (by decide) ?_
    refine gi_iload_n (pc := 16) hX dX0_needsOf_16 rfl ?_
    refine gi_bipush (pc := 17) (nI 7) hX dX0_needsOf_17 (by decide) ?_
    refine gi_isub (pc := 19) hX dX0_needsOf_19 ?_
    rw [pk_sub q]
    refine gi_ishl (pc := 20) hX dX0_needsOf_20 ?_
    exact hR 21 _ _ _ dX0_needsOf_21 rfl ⟨rfl, by unfold sp_nd; first | rw [if_pos q] | rw [if_neg (Nat.not_lt.mpr q)]; rfl⟩
  · have q := sp_lt (by omega) (by omega) c3
    refine gi_aload_n (pc := 6) hX dX0_needsOf_6 rfl ?_
    refine pg_nd (pc := 7) hX dX0_needsOf_7 ?_
    refine gi_iload_n (pc := 10) hX dX0_needsOf_10 rfl ?_
    refine pl_nd (pc := 11) _ hX dX0_needsOf_11 rfl (by omega) ?_
    refine gi_goto (pc := 12) 21 hX dX0_needsOf_12 (by decide) ?_
    exact hR 21 _ _ _ dX0_needsOf_21 rfl ⟨rfl, by unfold sp_nd; first | rw [if_pos q] | rw [if_neg (Nat.not_lt.mpr q)]; rfl⟩
set_option maxHeartbeats 4000000 in
theorem m_gainsOf {a : Nat → Nat} {k : gx_C} {P : pw_P} {B : Nat} {Gr : pw_G} {M : pw_M} {T : pw_T} (d : Nat) (hd : d < 15) : gx_CI k yX0_gainsOf cX0_gainsOf 2 .int (0, 0) [.ref (a 0), .int (nI d)] (pw_W a k) (P, B, Gr, M, T) (fun r u => u = (P, B, Gr, M, T) ∧ r = sp_gn P d) := by
  refine gx_CI.of (by decide) rfl rfl (fun X hX hR => ?_)
  have hX : gx_Ok X cX0_gainsOf RX0 k (0, 0) := hX
  show gx_G X (pw_W a k (P, B, Gr, M, T)) 0 [some (.ref (a 0)), some (.int (nI d))] []
  refine gi_iload_n (pc := 0) hX dX0_gainsOf_0 rfl ?_
  refine gi_bipush (pc := 1) (nI 7) hX dX0_gainsOf_1 (by decide) ?_
  refine gi_icmp_ge (pc := 3) 15 hX dX0_gainsOf_3 (by decide) (fun c3 => ?_) (fun c3 => ?_)
  · have q := sp_ge (by omega) (by omega) c3
    refine gi_iconst (pc := 15) (nI 1) hX dX0_gainsOf_15 (by decide) ?_
    refine gi_iload_n (pc := 16) hX dX0_gainsOf_16 rfl ?_
    refine gi_bipush (pc := 17) (nI 7) hX dX0_gainsOf_17 (by decide) ?_
    refine gi_isub (pc := 19) hX dX0_gainsOf_19 ?_
    rw [pk_sub q]
    refine gi_ishl (pc := 20) hX dX0_gainsOf_20 ?_
    exact hR 21 _ _ _ dX0_gainsOf_21 rfl ⟨rfl, by unfold sp_gn; first | rw [if_pos q] | rw [if_neg (Nat.not_lt.mpr q)]; rfl⟩
  · have q := sp_lt (by omega) (by omega) c3
    refine gi_aload_n (pc := 6) hX dX0_gainsOf_6 rfl ?_
    refine pg_gn (pc := 7) hX dX0_gainsOf_7 ?_
    refine gi_iload_n (pc := 10) hX dX0_gainsOf_10 rfl ?_
    refine pl_gn (pc := 11) _ hX dX0_gainsOf_11 rfl (by omega) ?_
    refine gi_goto (pc := 12) 21 hX dX0_gainsOf_12 (by decide) ?_
    exact hR 21 _ _ _ dX0_gainsOf_21 rfl ⟨rfl, by unfold sp_gn; first | rw [if_pos q] | rw [if_neg (Nat.not_lt.mpr q)]; rfl⟩
set_option maxHeartbeats 4000000 in
theorem m_lossesOf {a : Nat → Nat} {k : gx_C} {P : pw_P} {B : Nat} {Gr : pw_G} {M : pw_M} {T : pw_T} (d : Nat) (hd : d < 15) : gx_CI k yX0_lossesOf cX0_lossesOf 2 .int (0, 0) [.ref (a 0), .int (nI d)] (pw_W a k) (P, B, Gr, M, T) (fun r u => u = (P, B, Gr, M, T) ∧ r = sp_ls P d) := by
  refine gx_CI.of (by decide) rfl rfl (fun X hX hR => ?_)
  have hX : gx_Ok X cX0_lossesOf RX0 k (0, 0) := hX
  show gx_G X (pw_W a k (P, B, Gr, M, T)) 0 [some (.ref (a 0)), some (.int (nI d))] []
  refine gi_iload_n (pc := 0) hX dX0_lossesOf_0 rfl ?_
  refine gi_bipush (pc := 1) (nI 7) hX dX0_lossesOf_1 (by decide) ?_
  refine gi_icmp_ge (pc := 3) 15 hX dX0_lossesOf_3 (by decide) (fun c3 => ?_) (fun c3 => ?_)
  · have q := sp_ge (by omega) (by omega) c3
    refine gi_iconst (pc := 15) (nI 0) hX dX0_lossesOf_15 (by decide) ?_
    exact hR 16 _ _ _ dX0_lossesOf_16 rfl ⟨rfl, by unfold sp_ls; first | rw [if_pos q] | rw [if_neg (Nat.not_lt.mpr q)]⟩
  · have q := sp_lt (by omega) (by omega) c3
    refine gi_aload_n (pc := 6) hX dX0_lossesOf_6 rfl ?_
    refine pg_ls (pc := 7) hX dX0_lossesOf_7 ?_
    refine gi_iload_n (pc := 10) hX dX0_lossesOf_10 rfl ?_
    refine pl_ls (pc := 11) _ hX dX0_lossesOf_11 rfl (by omega) ?_
    refine gi_goto (pc := 12) 16 hX dX0_lossesOf_12 (by decide) ?_
    exact hR 16 _ _ _ dX0_lossesOf_16 rfl ⟨rfl, by unfold sp_ls; first | rw [if_pos q] | rw [if_neg (Nat.not_lt.mpr q)]⟩
set_option maxHeartbeats 4000000 in
theorem m_exists {a : Nat → Nat} {k : gx_C} {P : pw_P} {B : Nat} {Gr : pw_G} {M : pw_M} {T : pw_T} (d : Nat) (hd : d < 15) (hn : P.1 ≤ 7) : gx_CI k yX0_exists cX0_exists 2 .boolean (0, 0) [.ref (a 0), .int (nI d)] (pw_W a k) (P, B, Gr, M, T) (fun r u => u = (P, B, Gr, M, T) ∧ b_tf r (sp_ex P d)) := by
  refine gx_CI.of (by decide) rfl rfl (fun X hX hR => ?_)
  have hX : gx_Ok X cX0_exists RX0 k (0, 0) := hX
  show gx_G X (pw_W a k (P, B, Gr, M, T)) 0 [some (.ref (a 0)), some (.int (nI d))] []
  refine gi_iload_n (pc := 0) hX dX0_exists_0 rfl ?_
  refine gi_bipush (pc := 1) (nI 7) hX dX0_exists_1 (by decide) ?_
  refine gi_icmp_ge (pc := 3) 14 hX dX0_exists_3 (by decide) (fun c3 => ?_) (fun c3 => ?_)
  · have q : sp_ex P d := Or.inl (sp_ge (by omega) (by omega) c3)
    refine gi_iconst (pc := 14) (nI 1) hX dX0_exists_14 (by decide) ?_
    refine gi_goto (pc := 15) 19 hX dX0_exists_15 (by decide) ?_
    exact hR 19 _ _ _ dX0_exists_19 rfl ⟨rfl, by first | exact b_tf1 q | exact b_tf0 q⟩
  · have q1 := sp_lt (by omega) (by omega) c3
    refine gi_iload_n (pc := 6) hX dX0_exists_6 rfl ?_
    refine gi_aload_n (pc := 7) hX dX0_exists_7 rfl ?_
    refine pg_n (pc := 8) hX dX0_exists_8 ?_
    refine gi_icmp_ge (pc := 11) 18 hX dX0_exists_11 (by decide) (fun c11 => ?_) (fun c11 => ?_)
    · have q2 := sp_ge (by omega) (by omega) c11
      have q : ¬ sp_ex P d := fun h => by unfold sp_ex at h; omega
      refine gi_iconst (pc := 18) (nI 0) hX dX0_exists_18 (by decide) ?_
      exact hR 19 _ _ _ dX0_exists_19 rfl ⟨rfl, by first | exact b_tf1 q | exact b_tf0 q⟩
    · have q : sp_ex P d := Or.inr (sp_lt (by omega) (by omega) c11)
      refine gi_iconst (pc := 14) (nI 1) hX dX0_exists_14 (by decide) ?_
      refine gi_goto (pc := 15) 19 hX dX0_exists_15 (by decide) ?_
      exact hR 19 _ _ _ dX0_exists_19 rfl ⟨rfl, by first | exact b_tf1 q | exact b_tf0 q⟩
set_option maxHeartbeats 4000000 in
theorem m_deedsClash {a : Nat → Nat} {k : gx_C} {P : pw_P} {B : Nat} {Gr : pw_G} {M : pw_M} {T : pw_T} (d e : Nat) (hd : d < 15) (he : e < 15) : gx_CI k yX0_deedsClash cX0_deedsClash 5 .boolean (1, 26) [.ref (a 0), .int (nI d), .int (nI e)] (pw_W a k) (P, B, Gr, M, T) (fun r u => u = (P, B, Gr, M, T) ∧ b_tf r (sp_cl P d e)) := by
  refine gx_CI.of (by decide) rfl rfl (fun X hX hR => ?_)
  have hX : gx_Ok X cX0_deedsClash RX0 k (1, 26) := hX
  show gx_G X (pw_W a k (P, B, Gr, M, T)) 0 [some (.ref (a 0)), some (.int (nI d)), some (.int (nI e)), none, none] []
  refine gi_aload_n (pc := 0) hX dX0_deedsClash_0 rfl ?_
  refine gi_iload_n (pc := 1) hX dX0_deedsClash_1 rfl ?_
  refine gi_callI (pc := 2) hX (m_needsOf d hd) cw_p_needsOf rfl rfl rfl rfl rfl rfl dX0_deedsClash_2 (fun r u hp => ?_)
  obtain ⟨rfl, rfl⟩ := hp
  refine gi_aload_n (pc := 5) hX dX0_deedsClash_5 rfl ?_
  refine gi_iload_n (pc := 6) hX dX0_deedsClash_6 rfl ?_
  refine gi_callI (pc := 7) hX (m_gainsOf d hd) cw_p_gainsOf rfl rfl rfl rfl rfl rfl dX0_deedsClash_7 (fun r u hp => ?_)
  obtain ⟨rfl, rfl⟩ := hp
  refine gi_ior (pc := 10) hX dX0_deedsClash_10 ?_
  refine gi_istore_n (pc := 11) 3 rfl hX dX0_deedsClash_11 rfl rfl ?_
  dsimp only [List.set]
  refine gi_aload_n (pc := 12) hX dX0_deedsClash_12 rfl ?_
  refine gi_iload_n (pc := 13) hX dX0_deedsClash_13 rfl ?_
  refine gi_callI (pc := 14) hX (m_needsOf e he) cw_p_needsOf rfl rfl rfl rfl rfl rfl dX0_deedsClash_14 (fun r u hp => ?_)
  obtain ⟨rfl, rfl⟩ := hp
  refine gi_aload_n (pc := 17) hX dX0_deedsClash_17 rfl ?_
  refine gi_iload_n (pc := 18) hX dX0_deedsClash_18 rfl ?_
  refine gi_callI (pc := 19) hX (m_gainsOf e he) cw_p_gainsOf rfl rfl rfl rfl rfl rfl dX0_deedsClash_19 (fun r u hp => ?_)
  obtain ⟨rfl, rfl⟩ := hp
  refine gi_ior (pc := 22) hX dX0_deedsClash_22 ?_
  refine gi_istore (pc := 23) 4 hX dX0_deedsClash_23 rfl rfl ?_
  dsimp only [List.set]
  refine gi_aload_n (pc := 25) hX dX0_deedsClash_25 rfl ?_
  refine gi_iload_n (pc := 26) hX dX0_deedsClash_26 rfl ?_
  refine gi_callI (pc := 27) hX (m_lossesOf d hd) cw_p_lossesOf rfl rfl rfl rfl rfl rfl dX0_deedsClash_27 (fun r u hp => ?_)
  obtain ⟨rfl, rfl⟩ := hp
  refine gi_iload (pc := 30) hX dX0_deedsClash_30 rfl ?_
  refine gi_iand (pc := 32) hX dX0_deedsClash_32 ?_
  refine gi_if_ne (pc := 33) 46 hX dX0_deedsClash_33 (by decide) (fun c33 => ?_) (fun c33 => ?_)
  · have q : sp_cl P d e := fun h => c33 h.1
    refine gi_iconst (pc := 46) (nI 1) hX dX0_deedsClash_46 (by decide) ?_
    refine gi_goto (pc := 47) 51 hX dX0_deedsClash_47 (by decide) ?_
    exact hR 51 _ _ _ dX0_deedsClash_51 rfl ⟨rfl, by first | exact b_tf1 q | exact b_tf0 q⟩
  · refine gi_aload_n (pc := 36) hX dX0_deedsClash_36 rfl ?_
    refine gi_iload_n (pc := 37) hX dX0_deedsClash_37 rfl ?_
    refine gi_callI (pc := 38) hX (m_lossesOf e he) cw_p_lossesOf rfl rfl rfl rfl rfl rfl dX0_deedsClash_38 (fun r u hp => ?_)
    obtain ⟨rfl, rfl⟩ := hp
    refine gi_iload_n (pc := 41) hX dX0_deedsClash_41 rfl ?_
    refine gi_iand (pc := 42) hX dX0_deedsClash_42 ?_
    refine gi_if_eq (pc := 43) 50 hX dX0_deedsClash_43 (by decide) (fun c43 => ?_) (fun c43 => ?_)
    · have q : ¬ sp_cl P d e := fun h => h ⟨c33, c43⟩
      refine gi_iconst (pc := 50) (nI 0) hX dX0_deedsClash_50 (by decide) ?_
      exact hR 51 _ _ _ dX0_deedsClash_51 rfl ⟨rfl, by first | exact b_tf1 q | exact b_tf0 q⟩
    · have q : sp_cl P d e := fun h => c43 h.2
      refine gi_iconst (pc := 46) (nI 1) hX dX0_deedsClash_46 (by decide) ?_
      refine gi_goto (pc := 47) 51 hX dX0_deedsClash_47 (by decide) ?_
      exact hR 51 _ _ _ dX0_deedsClash_51 rfl ⟨rfl, by first | exact b_tf1 q | exact b_tf0 q⟩
set_option maxHeartbeats 4000000 in
theorem m_canBeTogether {a : Nat → Nat} {k : gx_C} {P : pw_P} {B : Nat} {Gr : pw_G} {M : pw_M} {T : pw_T} (set : Int32) (l : Nat) (hl : l < 9) : gx_CI k yX0_canBeTogether cX0_canBeTogether 4 .boolean (0, 0) [.ref (a 0), .int set, .int (nI l)] (pw_W a k) (P, B, Gr, M, T) (fun r u => u = (P, B, Gr, M, T) ∧ b_tf r (sp_cbt Gr set l)) := by
  refine gx_CI.of (by decide) rfl rfl (fun X hX hR => ?_)
  have hX : gx_Ok X cX0_canBeTogether RX0 k (0, 0) := hX
  show gx_G X (pw_W a k (P, B, Gr, M, T)) 0 [some (.ref (a 0)), some (.int set), some (.int (nI l)), none] []
  have loop : set &&& (Gr.1 l ^^^ -1) = 0 → ∀ f, f ≤ 8 → (∀ g, g < f → bt set g = true → Gr.2.2.1 (8 * l + g) &&& set = 0) → gx_G X (pw_W a k (P, B, Gr, M, T)) 17 [some (.ref (a 0)), some (.int set), some (.int (nI l)), some (.int (nI f))] [] := by
    intro c10
    refine gx_up ?_
    intro f hf ih hv
    refine gi_iload_n (pc := 17) hX dX0_canBeTogether_17 rfl ?_
    refine gi_bipush (pc := 18) (nI 8) hX dX0_canBeTogether_18 (by decide) ?_
    refine gi_icmp_ge (pc := 20) 55 hX dX0_canBeTogether_20 (by decide) (fun c20 => ?_) (fun c20 => ?_)
    · have q0 := sp_ge (by omega) (by omega) c20
      have q : sp_cbt Gr set l := ⟨b_an.mp c10, fun g hg => hv g (by omega)⟩
      refine gi_iconst (pc := 55) (nI 1) hX dX0_canBeTogether_55 (by decide) ?_
      exact hR 56 _ _ _ dX0_canBeTogether_56 rfl ⟨rfl, b_tf1 q⟩
    · have q0 := sp_lt (by omega) (by omega) c20
      refine gi_iload_n (pc := 23) hX dX0_canBeTogether_23 rfl ?_
      refine gi_iload_n (pc := 24) hX dX0_canBeTogether_24 rfl ?_
      refine gi_ishr (pc := 25) hX dX0_canBeTogether_25 ?_
      refine gi_iconst (pc := 26) (nI 1) hX dX0_canBeTogether_26 (by decide) ?_
      refine gi_iand (pc := 27) hX dX0_canBeTogether_27 ?_
      refine gi_if_eq (pc := 28) 49 hX dX0_canBeTogether_28 (by decide) (fun c28 => ?_) (fun c28 => ?_)
      · rw [b_tst (by omega)] at c28
        have q1 : bt set f = true → Gr.2.2.1 (8 * l + f) &&& set = 0 := fun h => by rw [c28] at h; cases h
        refine gi_iinc (pc := 49) 3 _ hX dX0_canBeTogether_49 rfl (gi_inc1 _) rfl rfl ?_
        dsimp only [List.set]
        refine gi_goto (pc := 52) 17 hX dX0_canBeTogether_52 (by decide) ?_
        exact ih (f + 1) (by omega) (by omega) (fun g hg => by
          rcases Nat.lt_or_ge g f with z | z
          · exact hv g z
          · have : g = f := by omega
            subst this
            exact q1)
      · rw [b_tst1 (by omega)] at c28
        refine gi_aload_n (pc := 31) hX dX0_canBeTogether_31 rfl ?_
        refine pg_fb (pc := 32) hX dX0_canBeTogether_32 ?_
        refine gi_bipush (pc := 35) (nI 8) hX dX0_canBeTogether_35 (by decide) ?_
        refine gi_iload_n (pc := 37) hX dX0_canBeTogether_37 rfl ?_
        refine gi_imul (pc := 38) hX dX0_canBeTogether_38 ?_
        refine gi_iload_n (pc := 39) hX dX0_canBeTogether_39 rfl ?_
        refine gi_iadd (pc := 40) hX dX0_canBeTogether_40 ?_
        refine pl_fb (pc := 41) (8 * l + f) hX dX0_canBeTogether_41 (by rw [pk_mul, nI_add]) (by omega) ?_
        refine gi_iload_n (pc := 42) hX dX0_canBeTogether_42 rfl ?_
        refine gi_iand (pc := 43) hX dX0_canBeTogether_43 ?_
        refine gi_if_eq (pc := 44) 49 hX dX0_canBeTogether_44 (by decide) (fun c44 => ?_) (fun c44 => ?_)
        · have q1 : bt set f = true → Gr.2.2.1 (8 * l + f) &&& set = 0 := fun _ => c44
          refine gi_iinc (pc := 49) 3 _ hX dX0_canBeTogether_49 rfl (gi_inc1 _) rfl rfl ?_
          dsimp only [List.set]
          refine gi_goto (pc := 52) 17 hX dX0_canBeTogether_52 (by decide) ?_
          exact ih (f + 1) (by omega) (by omega) (fun g hg => by
            rcases Nat.lt_or_ge g f with z | z
            · exact hv g z
            · have : g = f := by omega
              subst this
              exact q1)
        · have q : ¬ sp_cbt Gr set l := fun h => c44 (h.2 f (by omega) c28)
          refine gi_iconst (pc := 47) (nI 0) hX dX0_canBeTogether_47 (by decide) ?_
          exact hR 48 _ _ _ dX0_canBeTogether_48 rfl ⟨rfl, b_tf0 q⟩
  refine gi_iload_n (pc := 0) hX dX0_canBeTogether_0 rfl ?_
  refine gi_aload_n (pc := 1) hX dX0_canBeTogether_1 rfl ?_
  refine pg_fa (pc := 2) hX dX0_canBeTogether_2 ?_
  refine gi_iload_n (pc := 5) hX dX0_canBeTogether_5 rfl ?_
  refine pl_fa (pc := 6) _ hX dX0_canBeTogether_6 rfl (by omega) ?_
  refine gi_iconst (pc := 7) (-1) hX dX0_canBeTogether_7 (by decide) ?_
  refine gi_ixor (pc := 8) hX dX0_canBeTogether_8 ?_
  refine gi_iand (pc := 9) hX dX0_canBeTogether_9 ?_
  refine gi_if_eq (pc := 10) 15 hX dX0_canBeTogether_10 (by decide) (fun c10 => ?_) (fun c10 => ?_)
  · refine gi_iconst (pc := 15) (nI 0) hX dX0_canBeTogether_15 (by decide) ?_
    refine gi_istore_n (pc := 16) 3 rfl hX dX0_canBeTogether_16 rfl rfl ?_
    dsimp only [List.set]
    exact loop c10 0 (by omega) (fun g hg => absurd hg (by omega))
  · have q : ¬ sp_cbt Gr set l := fun h => c10 (b_an.mpr h.1)
    refine gi_iconst (pc := 13) (nI 0) hX dX0_canBeTogether_13 (by decide) ?_
    exact hR 14 _ _ _ dX0_canBeTogether_14 rfl ⟨rfl, b_tf0 q⟩
theorem sp_accZ {Q : Nat → Prop} : ∀ e, bt (nI 0) e = true ↔ e < 0 ∧ Q e := fun e => ⟨fun h => absurd h (by rw [b_n0]; decide), fun h => absurd h.1 (Nat.not_lt_zero e)⟩
theorem sp_acc0 {A : Int32} {d : Nat} {Q : Nat → Prop} (h : ∀ e, bt A e = true ↔ e < d ∧ Q e) (q : ¬ Q d) : ∀ e, bt A e = true ↔ e < d + 1 ∧ Q e := by
  intro e
  rw [h e]
  constructor
  · rintro ⟨h1, h2⟩; exact ⟨by omega, h2⟩
  · rintro ⟨h1, h2⟩
    refine ⟨?_, h2⟩
    rcases Nat.lt_or_ge e d with z | z
    · exact z
    · have : e = d := by omega
      subst this
      exact absurd h2 q
theorem sp_acc1 {A : Int32} {d : Nat} {Q : Nat → Prop} (hd : d < 32) (h : ∀ e, bt A e = true ↔ e < d ∧ Q e) (q : Q d) : ∀ e, bt (A ||| nI 1 <<< (nI d &&& 31)) e = true ↔ e < d + 1 ∧ Q e := by
  intro e
  show bt (A ||| b_sh d) e = true ↔ _
  rw [b_or, Bool.or_eq_true, h e, b_shi hd, decide_eq_true_iff]
  constructor
  · rintro (⟨h1, h2⟩ | rfl)
    · exact ⟨by omega, h2⟩
    · exact ⟨by omega, q⟩
  · rintro ⟨h1, h2⟩
    rcases Nat.lt_or_ge e d with z | z
    · exact Or.inl ⟨z, h2⟩
    · exact Or.inr (by omega)
set_option maxHeartbeats 4000000 in
theorem m_makersOf {a : Nat → Nat} {k : gx_C} {P : pw_P} {B : Nat} {Gr : pw_G} {M : pw_M} {T : pw_T} (f l : Nat) (hf : f < 8) (hl : l < 9) : gx_CI k yX0_makersOf cX0_makersOf 5 .int (1, 26) [.ref (a 0), .int (nI f), .int (nI l)] (pw_W a k) (P, B, Gr, M, T) (fun r u => u = (P, B, Gr, M, T) ∧ sp_isM P Gr f l r) := by
  refine gx_CI.of (by decide) rfl rfl (fun X hX hR => ?_)
  have hX : gx_Ok X cX0_makersOf RX0 k (1, 26) := hX
  show gx_G X (pw_W a k (P, B, Gr, M, T)) 0 [some (.ref (a 0)), some (.int (nI f)), some (.int (nI l)), none, none] []
  have loop : ∀ d, d ≤ 15 → ∀ A : Int32, (∀ e, bt A e = true ↔ e < d ∧ sp_mk P Gr f l e) → gx_G X (pw_W a k (P, B, Gr, M, T)) 5 [some (.ref (a 0)), some (.int (nI f)), some (.int (nI l)), some (.int A), some (.int (nI d))] [] := by
    refine gx_up ?_
    intro d hd ih A hv
    refine gi_iload (pc := 5) hX dX0_makersOf_5 rfl ?_
    refine gi_bipush (pc := 7) (nI 15) hX dX0_makersOf_7 (by decide) ?_
    refine gi_icmp_ge (pc := 9) 52 hX dX0_makersOf_9 (by decide) (fun c9 => ?_) (fun c9 => ?_)
    · have q0 := sp_ge (by omega) (by omega) c9
      refine gi_iload_n (pc := 52) hX dX0_makersOf_52 rfl ?_
      exact hR 53 _ _ _ dX0_makersOf_53 rfl ⟨rfl, fun e => by rw [hv e]; exact ⟨fun h => h.2, fun h => ⟨by have := h.1; omega, h⟩⟩⟩
    · have q0 := sp_lt (by omega) (by omega) c9
      refine gi_aload_n (pc := 12) hX dX0_makersOf_12 rfl ?_
      refine pg_da (pc := 13) hX dX0_makersOf_13 ?_
      refine gi_iload_n (pc := 16) hX dX0_makersOf_16 rfl ?_
      refine pl_da (pc := 17) _ hX dX0_makersOf_17 rfl (by omega) ?_
      refine gi_iload (pc := 18) hX dX0_makersOf_18 rfl ?_
      refine gi_ishr (pc := 20) hX dX0_makersOf_20 ?_
      refine gi_iconst (pc := 21) (nI 1) hX dX0_makersOf_21 (by decide) ?_
      refine gi_iand (pc := 22) hX dX0_makersOf_22 ?_
      refine gi_if_eq (pc := 23) 46 hX dX0_makersOf_23 (by decide) (fun c23 => ?_) (fun c23 => ?_)
      · rw [b_tst (by omega)] at c23
        have q1 : ¬ sp_mk P Gr f l d := fun h => by rw [h.2.1] at c23; cases c23
        refine gi_iinc (pc := 46) 4 _ hX dX0_makersOf_46 rfl (gi_inc1 _) rfl rfl ?_
        dsimp only [List.set]
        refine gi_goto (pc := 49) 5 hX dX0_makersOf_49 (by decide) ?_
        first
        | exact ih (d + 1) (by omega) (by omega) _ (sp_acc0 hv q1)
        | exact ih (d + 1) (by omega) (by omega) _ (sp_acc1 (by omega) hv q1)
      · rw [b_tst1 (by omega)] at c23
        refine gi_aload_n (pc := 26) hX dX0_makersOf_26 rfl ?_
        refine gi_iload (pc := 27) hX dX0_makersOf_27 rfl ?_
        refine gi_callI (pc := 29) hX (m_gainsOf d (by omega)) cw_p_gainsOf rfl rfl rfl rfl rfl rfl dX0_makersOf_29 (fun r u hp => ?_)
        obtain ⟨rfl, rfl⟩ := hp
        refine gi_iload_n (pc := 32) hX dX0_makersOf_32 rfl ?_
        refine gi_ishr (pc := 33) hX dX0_makersOf_33 ?_
        refine gi_iconst (pc := 34) (nI 1) hX dX0_makersOf_34 (by decide) ?_
        refine gi_iand (pc := 35) hX dX0_makersOf_35 ?_
        refine gi_if_eq (pc := 36) 46 hX dX0_makersOf_36 (by decide) (fun c36 => ?_) (fun c36 => ?_)
        · rw [b_tst (by omega)] at c36
          have q1 : ¬ sp_mk P Gr f l d := fun h => by rw [h.2.2] at c36; cases c36
          refine gi_iinc (pc := 46) 4 _ hX dX0_makersOf_46 rfl (gi_inc1 _) rfl rfl ?_
          dsimp only [List.set]
          refine gi_goto (pc := 49) 5 hX dX0_makersOf_49 (by decide) ?_
          first
          | exact ih (d + 1) (by omega) (by omega) _ (sp_acc0 hv q1)
          | exact ih (d + 1) (by omega) (by omega) _ (sp_acc1 (by omega) hv q1)
        · rw [b_tst1 (by omega)] at c36
          have q1 : sp_mk P Gr f l d := ⟨by omega, c23, c36⟩
          refine gi_iload_n (pc := 39) hX dX0_makersOf_39 rfl ?_
          refine gi_iconst (pc := 40) (nI 1) hX dX0_makersOf_40 (by decide) ?_
          refine gi_iload (pc := 41) hX dX0_makersOf_41 rfl ?_
          refine gi_ishl (pc := 43) hX dX0_makersOf_43 ?_
          refine gi_ior (pc := 44) hX dX0_makersOf_44 ?_
          refine gi_istore_n (pc := 45) 3 rfl hX dX0_makersOf_45 rfl rfl ?_
          dsimp only [List.set]
          refine gi_iinc (pc := 46) 4 _ hX dX0_makersOf_46 rfl (gi_inc1 _) rfl rfl ?_
          dsimp only [List.set]
          refine gi_goto (pc := 49) 5 hX dX0_makersOf_49 (by decide) ?_
          first
          | exact ih (d + 1) (by omega) (by omega) _ (sp_acc0 hv q1)
          | exact ih (d + 1) (by omega) (by omega) _ (sp_acc1 (by omega) hv q1)
  refine gi_iconst (pc := 0) (nI 0) hX dX0_makersOf_0 (by decide) ?_
  refine gi_istore_n (pc := 1) 3 rfl hX dX0_makersOf_1 rfl rfl ?_
  dsimp only [List.set]
  refine gi_iconst (pc := 2) (nI 0) hX dX0_makersOf_2 (by decide) ?_
  refine gi_istore (pc := 3) 4 hX dX0_makersOf_3 rfl rfl ?_
  dsimp only [List.set]
  exact loop 0 (by omega) (nI 0) sp_accZ
end
section
/-! CONTRACTS: isLayer, after, allBarred, findFacts, findDeeds -/
set_option maxRecDepth 100000
theorem sp_all1 {f : Nat} {Q : Nat → Prop} (h : ∀ g, g < f → Q g) (q : Q f) : ∀ g, g < f + 1 → Q g := by
  intro g hg
  rcases Nat.lt_or_ge g f with z | z
  · exact h g z
  · have : g = f := by omega
    subst this
    exact q
theorem b_nt {x : Bool} (h : x = false) : ¬ x = true := by rw [h]; decide
theorem b_tst2 {x y : Int32} {n m : Nat} (hn : n < 32) (hm : m < 32) : ((x >>> (nI n &&& 31)) &&& (y >>> (nI m &&& 31))) &&& nI 1 = 0 ↔ ¬ (bt x n = true ∧ bt y m = true) := by
  rw [b_z]
  constructor
  · intro h
    have := h 0
    rw [b_and, b_and, b_sshr n hn x (by omega), b_sshr m hm y (by omega), b_n1] at this
    simpa [hn, hm] using this
  · intro h i
    rw [b_and, b_n1]
    by_cases e : i = 0
    · subst e
      rw [b_and, b_sshr n hn x (by omega), b_sshr m hm y (by omega)]
      simpa [hn, hm] using h
    · rw [decide_eq_false e, Bool.and_false]
set_option maxHeartbeats 4000000 in
theorem m_isLayer {a : Nat → Nat} {k : gx_C} {P : pw_P} {B : Nat} {Gr : pw_G} {M : pw_M} {T : pw_T} (layer st : Int32) (hn : P.1 ≤ 7) : gx_CI k yX0_isLayer cX0_isLayer 5 .boolean (2, 52) [.ref (a 0), .int layer, .int st] (pw_W a k) (P, B, Gr, M, T) (fun r u => u = (P, B, Gr, M, T) ∧ b_tf r (sp_lay P layer st)) := by
  refine gx_CI.of (by decide) rfl rfl (fun X hX hR => ?_)
  have hX : gx_Ok X cX0_isLayer RX0 k (2, 52) := hX
  show gx_G X (pw_W a k (P, B, Gr, M, T)) 0 [some (.ref (a 0)), some (.int layer), some (.int st), none, none] []
  have loop : ∀ i, i ≤ P.1 → (∀ i0, i0 < i → bt layer i0 = true → b_sub (P.2.1 i0) st ∧ ∀ j, j < i0 → bt layer j = true → ¬ sp_cl P i0 j) → gx_G X (pw_W a k (P, B, Gr, M, T)) 2 [some (.ref (a 0)), some (.int layer), some (.int st), some (.int (nI i)), none] [] := by
    refine gx_up ?_
    intro i hi ih hv
    refine gi_iload_n (pc := 2) hX dX0_isLayer_2 rfl ?_
    refine gi_aload_n (pc := 3) hX dX0_isLayer_3 rfl ?_
    refine pg_n (pc := 4) hX dX0_isLayer_4 ?_
    refine gi_icmp_ge (pc := 7) 78 hX dX0_isLayer_7 (by decide) (fun c7 => ?_) (fun c7 => ?_)
    · have q0 := sp_ge (by omega) (by omega) c7
      have q : sp_lay P layer st := fun i0 hi0 => hv i0 (by omega)
      refine gi_iconst (pc := 78) (nI 1) hX dX0_isLayer_78 (by decide) ?_
      exact hR 79 _ _ _ dX0_isLayer_79 rfl ⟨rfl, b_tf1 q⟩
    · have q0 := sp_lt (by omega) (by omega) c7
      refine gi_iload_n (pc := 10) hX dX0_isLayer_10 rfl ?_
      refine gi_iload_n (pc := 11) hX dX0_isLayer_11 rfl ?_
      refine gi_ishr (pc := 12) hX dX0_isLayer_12 ?_
      refine gi_iconst (pc := 13) (nI 1) hX dX0_isLayer_13 (by decide) ?_
      refine gi_iand (pc := 14) hX dX0_isLayer_14 ?_
      refine gi_if_ne (pc := 15) 21 hX dX0_isLayer_15 (by decide) (fun c15 => ?_) (fun c15 => ?_)
      · rw [b_tst1 (by omega)] at c15
        refine gi_aload_n (pc := 21) hX dX0_isLayer_21 rfl ?_
        refine pg_nd (pc := 22) hX dX0_isLayer_22 ?_
        refine gi_iload_n (pc := 25) hX dX0_isLayer_25 rfl ?_
        refine pl_nd (pc := 26) _ hX dX0_isLayer_26 rfl (by omega) ?_
        refine gi_iload_n (pc := 27) hX dX0_isLayer_27 rfl ?_
        refine gi_iconst (pc := 28) (-1) hX dX0_isLayer_28 (by decide) ?_
        refine gi_ixor (pc := 29) hX dX0_isLayer_29 ?_
        refine gi_iand (pc := 30) hX dX0_isLayer_30 ?_
        refine gi_if_eq (pc := 31) 36 hX dX0_isLayer_31 (by decide) (fun c31 => ?_) (fun c31 => ?_)
        · have inner : ∀ j, j ≤ i → (∀ j0, j0 < j → bt layer j0 = true → ¬ sp_cl P i j0) → gx_G X (pw_W a k (P, B, Gr, M, T)) 39 [some (.ref (a 0)), some (.int layer), some (.int st), some (.int (nI i)), some (.int (nI j))] [] := by
            refine gx_up ?_
            intro j hj jh hw
            refine gi_iload (pc := 39) hX dX0_isLayer_39 rfl ?_
            refine gi_iload_n (pc := 41) hX dX0_isLayer_41 rfl ?_
            refine gi_icmp_ge (pc := 42) 72 hX dX0_isLayer_42 (by decide) (fun c42 => ?_) (fun c42 => ?_)
            · have q2 := sp_ge (by omega) (by omega) c42
              have q1 : bt layer i = true → b_sub (P.2.1 i) st ∧ ∀ j, j < i → bt layer j = true → ¬ sp_cl P i j := fun _ => ⟨b_an.mp c31, fun j0 hj0 => hw j0 (by omega)⟩
              refine gi_drop 4 ?_
              dsimp only [List.set]
              refine gi_iinc (pc := 72) 3 _ hX dX0_isLayer_72 rfl (gi_inc1 _) rfl rfl ?_
              dsimp only [List.set]
              refine gi_goto (pc := 75) 2 hX dX0_isLayer_75 (by decide) ?_
              exact ih (i + 1) (by omega) (by omega) (sp_all1 hv q1)
            · have q2 := sp_lt (by omega) (by omega) c42
              refine gi_iload_n (pc := 45) hX dX0_isLayer_45 rfl ?_
              refine gi_iload (pc := 46) hX dX0_isLayer_46 rfl ?_
              refine gi_ishr (pc := 48) hX dX0_isLayer_48 ?_
              refine gi_iconst (pc := 49) (nI 1) hX dX0_isLayer_49 (by decide) ?_
              refine gi_iand (pc := 50) hX dX0_isLayer_50 ?_
              refine gi_if_eq (pc := 51) 66 hX dX0_isLayer_51 (by decide) (fun c51 => ?_) (fun c51 => ?_)
              · rw [b_tst (by omega)] at c51
                have q3 : bt layer j = true → ¬ sp_cl P i j := fun h => absurd h (b_nt c51)
                refine gi_iinc (pc := 66) 4 _ hX dX0_isLayer_66 rfl (gi_inc1 _) rfl rfl ?_
                dsimp only [List.set]
                refine gi_goto (pc := 69) 39 hX dX0_isLayer_69 (by decide) ?_
                exact jh (j + 1) (by omega) (by omega) (sp_all1 hw q3)
              · rw [b_tst1 (by omega)] at c51
                refine gi_aload_n (pc := 54) hX dX0_isLayer_54 rfl ?_
                refine gi_iload_n (pc := 55) hX dX0_isLayer_55 rfl ?_
                refine gi_iload (pc := 56) hX dX0_isLayer_56 rfl ?_
                refine gi_callI (pc := 58) hX (m_deedsClash i j (by omega) (by omega)) cw_p_deedsClash rfl rfl rfl rfl rfl rfl dX0_isLayer_58 (fun r u hp => ?_)
                obtain ⟨rfl, hp⟩ := hp
                refine gi_if_eq (pc := 61) 66 hX dX0_isLayer_61 (by decide) (fun c61 => ?_) (fun c61 => ?_)
                · have q3 : bt layer j = true → ¬ sp_cl P i j := fun _ => hp.z.mp c61
                  refine gi_iinc (pc := 66) 4 _ hX dX0_isLayer_66 rfl (gi_inc1 _) rfl rfl ?_
                  dsimp only [List.set]
                  refine gi_goto (pc := 69) 39 hX dX0_isLayer_69 (by decide) ?_
                  exact jh (j + 1) (by omega) (by omega) (sp_all1 hw q3)
                · have q : ¬ sp_lay P layer st := fun h => (h i q0 c15).2 j q2 c51 (hp.nz.mp c61)
                  refine gi_iconst (pc := 64) (nI 0) hX dX0_isLayer_64 (by decide) ?_
                  exact hR 65 _ _ _ dX0_isLayer_65 rfl ⟨rfl, b_tf0 q⟩
          refine gi_iconst (pc := 36) (nI 0) hX dX0_isLayer_36 (by decide) ?_
          refine gi_istore (pc := 37) 4 hX dX0_isLayer_37 rfl rfl ?_
          dsimp only [List.set]
          exact inner 0 (by omega) (fun j0 hj0 => absurd hj0 (by omega))
        · have q : ¬ sp_lay P layer st := fun h => c31 (b_an.mpr (h i q0 c15).1)
          refine gi_iconst (pc := 34) (nI 0) hX dX0_isLayer_34 (by decide) ?_
          exact hR 35 _ _ _ dX0_isLayer_35 rfl ⟨rfl, b_tf0 q⟩
      · rw [b_tst (by omega)] at c15
        have q1 : bt layer i = true → b_sub (P.2.1 i) st ∧ ∀ j, j < i → bt layer j = true → ¬ sp_cl P i j := fun h => absurd h (b_nt c15)
        refine gi_goto (pc := 18) 72 hX dX0_isLayer_18 (by decide) ?_
        refine gi_iinc (pc := 72) 3 _ hX dX0_isLayer_72 rfl (gi_inc1 _) rfl rfl ?_
        dsimp only [List.set]
        refine gi_goto (pc := 75) 2 hX dX0_isLayer_75 (by decide) ?_
        exact ih (i + 1) (by omega) (by omega) (sp_all1 hv q1)
  refine gi_iconst (pc := 0) (nI 0) hX dX0_isLayer_0 (by decide) ?_
  refine gi_istore_n (pc := 1) 3 rfl hX dX0_isLayer_1 rfl rfl ?_
  dsimp only [List.set]
  exact loop 0 (by omega) (fun j0 hj0 => absurd hj0 (by omega))
theorem sp_af0 {x st layer : Int32} {L : Nat → Int32} {i : Nat} (hv : ∀ f, bt x f = true ↔ (bt st f = true ∧ ∀ j, j < i → bt layer j = true → bt (L j) f = false)) (q : bt layer i = false) : ∀ f, bt x f = true ↔ (bt st f = true ∧ ∀ j, j < i + 1 → bt layer j = true → bt (L j) f = false) := by
  intro f
  rw [hv f]
  exact ⟨fun h => ⟨h.1, sp_all1 h.2 (fun z => absurd z (b_nt q))⟩, fun h => ⟨h.1, fun j hj => h.2 j (by omega)⟩⟩
theorem sp_af1 {x st layer : Int32} {L : Nat → Int32} {i : Nat} (hv : ∀ f, bt x f = true ↔ (bt st f = true ∧ ∀ j, j < i → bt layer j = true → bt (L j) f = false)) (q : bt layer i = true) : ∀ f, bt (x &&& (L i ^^^ -1)) f = true ↔ (bt st f = true ∧ ∀ j, j < i + 1 → bt layer j = true → bt (L j) f = false) := by
  intro f
  constructor
  · intro h
    have hf := b_lt h
    rw [b_and, b_not _ hf, Bool.and_eq_true] at h
    obtain ⟨h1, h2⟩ := h
    obtain ⟨h3, h4⟩ := (hv f).mp h1
    exact ⟨h3, sp_all1 h4 (fun _ => by simpa using h2)⟩
  · rintro ⟨h1, h2⟩
    have hf := b_lt h1
    rw [b_and, b_not _ hf, Bool.and_eq_true]
    exact ⟨(hv f).mpr ⟨h1, fun j hj => h2 j (by omega)⟩, by rw [h2 i (by omega) q]; rfl⟩
theorem sp_ag0 {y x layer : Int32} {L : Nat → Int32} {i : Nat} (hw : ∀ f, bt y f = true ↔ (bt x f = true ∨ ∃ j, j < i ∧ bt layer j = true ∧ bt (L j) f = true)) (q : bt layer i = false) : ∀ f, bt y f = true ↔ (bt x f = true ∨ ∃ j, j < i + 1 ∧ bt layer j = true ∧ bt (L j) f = true) := by
  intro f
  rw [hw f]
  refine ⟨fun h => h.imp id (fun ⟨j, a, b⟩ => ⟨j, by omega, b⟩), fun h => h.imp id (fun ⟨j, a, b, c⟩ => ⟨j, ?_, b, c⟩)⟩
  rcases Nat.lt_or_ge j i with z | z
  · exact z
  · have : j = i := by omega
    subst this
    exact absurd b (b_nt q)
theorem sp_ag1 {y x layer : Int32} {L : Nat → Int32} {i : Nat} (hw : ∀ f, bt y f = true ↔ (bt x f = true ∨ ∃ j, j < i ∧ bt layer j = true ∧ bt (L j) f = true)) (q : bt layer i = true) : ∀ f, bt (y ||| L i) f = true ↔ (bt x f = true ∨ ∃ j, j < i + 1 ∧ bt layer j = true ∧ bt (L j) f = true) := by
  intro f
  rw [b_or, Bool.or_eq_true, hw f]
  constructor
  · rintro ((h | ⟨j, a, b⟩) | h)
    · exact Or.inl h
    · exact Or.inr ⟨j, by omega, b⟩
    · exact Or.inr ⟨i, by omega, q, h⟩
  · rintro (h | ⟨j, a, b, c⟩)
    · exact Or.inl (Or.inl h)
    · rcases Nat.lt_or_ge j i with z | z
      · exact Or.inl (Or.inr ⟨j, z, b, c⟩)
      · have : j = i := by omega
        subst this
        exact Or.inr c
set_option maxHeartbeats 4000000 in
theorem m_after {a : Nat → Nat} {k : gx_C} {P : pw_P} {B : Nat} {Gr : pw_G} {M : pw_M} {T : pw_T} (layer st : Int32) (hn : P.1 ≤ 7) : gx_CI k yX0_after cX0_after 5 .int (0, 0) [.ref (a 0), .int layer, .int st] (pw_W a k) (P, B, Gr, M, T) (fun r u => u = (P, B, Gr, M, T) ∧ sp_nx P layer st r) := by
  refine gx_CI.of (by decide) rfl rfl (fun X hX hR => ?_)
  have hX : gx_Ok X cX0_after RX0 k (0, 0) := hX
  show gx_G X (pw_W a k (P, B, Gr, M, T)) 0 [some (.ref (a 0)), some (.int layer), some (.int st), none, none] []
  have loop : ∀ i, i ≤ P.1 → ∀ x : Int32, (∀ f, bt x f = true ↔ (bt st f = true ∧ ∀ j, j < i → bt layer j = true → bt (P.2.2.2.1 j) f = false)) → gx_G X (pw_W a k (P, B, Gr, M, T)) 5 [some (.ref (a 0)), some (.int layer), some (.int st), some (.int x), some (.int (nI i))] [] := by
    refine gx_up ?_
    intro i hi ih x hv
    refine gi_iload (pc := 5) hX dX0_after_5 rfl ?_
    refine gi_aload_n (pc := 7) hX dX0_after_7 rfl ?_
    refine pg_n (pc := 8) hX dX0_after_8 ?_
    refine gi_icmp_ge (pc := 11) 41 hX dX0_after_11 (by decide) (fun c11 => ?_) (fun c11 => ?_)
    · have q0 := sp_ge (by omega) (by omega) c11
      have hv1 : ∀ f, bt x f = true ↔ (bt st f = true ∧ ∀ i, i < P.1 → bt layer i = true → bt (P.2.2.2.1 i) f = false) := fun f => by rw [hv f]; exact ⟨fun h => ⟨h.1, fun i0 hi0 => h.2 i0 (by omega)⟩, fun h => ⟨h.1, fun i0 hi0 => h.2 i0 (by omega)⟩⟩
      have loop2 : ∀ i, i ≤ P.1 → ∀ y : Int32, (∀ f, bt y f = true ↔ (bt x f = true ∨ ∃ j, j < i ∧ bt layer j = true ∧ bt (P.2.2.1 j) f = true)) → gx_G X (pw_W a k (P, B, Gr, M, T)) 44 [some (.ref (a 0)), some (.int layer), some (.int st), some (.int y), some (.int (nI i))] [] := by
        refine gx_up ?_
        intro i hi jh y hw
        refine gi_iload (pc := 44) hX dX0_after_44 rfl ?_
        refine gi_aload_n (pc := 46) hX dX0_after_46 rfl ?_
        refine pg_n (pc := 47) hX dX0_after_47 ?_
        refine gi_icmp_ge (pc := 50) 78 hX dX0_after_50 (by decide) (fun c50 => ?_) (fun c50 => ?_)
        · have q0 := sp_ge (by omega) (by omega) c50
          have q : sp_nx P layer st y := fun f => by rw [hw f]; exact ⟨fun h => h.imp (hv1 f).mp (fun ⟨i0, a1, a2⟩ => ⟨i0, by omega, a2⟩), fun h => h.imp (hv1 f).mpr (fun ⟨i0, a1, a2⟩ => ⟨i0, by omega, a2⟩)⟩
          refine gi_iload_n (pc := 78) hX dX0_after_78 rfl ?_
          exact hR 79 _ _ _ dX0_after_79 rfl ⟨rfl, q⟩
        · have q0 := sp_lt (by omega) (by omega) c50
          refine gi_iload_n (pc := 53) hX dX0_after_53 rfl ?_
          refine gi_iload (pc := 54) hX dX0_after_54 rfl ?_
          refine gi_ishr (pc := 56) hX dX0_after_56 ?_
          refine gi_iconst (pc := 57) (nI 1) hX dX0_after_57 (by decide) ?_
          refine gi_iand (pc := 58) hX dX0_after_58 ?_
          refine gi_if_eq (pc := 59) 72 hX dX0_after_59 (by decide) (fun c59 => ?_) (fun c59 => ?_)
          · rw [b_tst (by omega)] at c59
            refine gi_iinc (pc := 72) 4 _ hX dX0_after_72 rfl (gi_inc1 _) rfl rfl ?_
            dsimp only [List.set]
            refine gi_goto (pc := 75) 44 hX dX0_after_75 (by decide) ?_
            first
            | exact jh (i + 1) (by omega) (by omega) _ (sp_ag0 hw c59)
            | exact jh (i + 1) (by omega) (by omega) _ (sp_ag1 hw c59)
          · rw [b_tst1 (by omega)] at c59
            refine gi_iload_n (pc := 62) hX dX0_after_62 rfl ?_
            refine gi_aload_n (pc := 63) hX dX0_after_63 rfl ?_
            refine pg_gn (pc := 64) hX dX0_after_64 ?_
            refine gi_iload (pc := 67) hX dX0_after_67 rfl ?_
            refine pl_gn (pc := 69) _ hX dX0_after_69 rfl (by omega) ?_
            refine gi_ior (pc := 70) hX dX0_after_70 ?_
            refine gi_istore_n (pc := 71) 3 rfl hX dX0_after_71 rfl rfl ?_
            dsimp only [List.set]
            refine gi_iinc (pc := 72) 4 _ hX dX0_after_72 rfl (gi_inc1 _) rfl rfl ?_
            dsimp only [List.set]
            refine gi_goto (pc := 75) 44 hX dX0_after_75 (by decide) ?_
            first
            | exact jh (i + 1) (by omega) (by omega) _ (sp_ag0 hw c59)
            | exact jh (i + 1) (by omega) (by omega) _ (sp_ag1 hw c59)
      refine gi_iconst (pc := 41) (nI 0) hX dX0_after_41 (by decide) ?_
      refine gi_istore (pc := 42) 4 hX dX0_after_42 rfl rfl ?_
      dsimp only [List.set]
      exact loop2 0 (by omega) x (fun f => ⟨Or.inl, fun h => h.elim id (fun ⟨j, a, _⟩ => absurd a (by omega))⟩)
    · have q0 := sp_lt (by omega) (by omega) c11
      refine gi_iload_n (pc := 14) hX dX0_after_14 rfl ?_
      refine gi_iload (pc := 15) hX dX0_after_15 rfl ?_
      refine gi_ishr (pc := 17) hX dX0_after_17 ?_
      refine gi_iconst (pc := 18) (nI 1) hX dX0_after_18 (by decide) ?_
      refine gi_iand (pc := 19) hX dX0_after_19 ?_
      refine gi_if_eq (pc := 20) 35 hX dX0_after_20 (by decide) (fun c20 => ?_) (fun c20 => ?_)
      · rw [b_tst (by omega)] at c20
        refine gi_iinc (pc := 35) 4 _ hX dX0_after_35 rfl (gi_inc1 _) rfl rfl ?_
        dsimp only [List.set]
        refine gi_goto (pc := 38) 5 hX dX0_after_38 (by decide) ?_
        first
        | exact ih (i + 1) (by omega) (by omega) _ (sp_af0 hv c20)
        | exact ih (i + 1) (by omega) (by omega) _ (sp_af1 hv c20)
      · rw [b_tst1 (by omega)] at c20
        refine gi_iload_n (pc := 23) hX dX0_after_23 rfl ?_
        refine gi_aload_n (pc := 24) hX dX0_after_24 rfl ?_
        refine pg_ls (pc := 25) hX dX0_after_25 ?_
        refine gi_iload (pc := 28) hX dX0_after_28 rfl ?_
        refine pl_ls (pc := 30) _ hX dX0_after_30 rfl (by omega) ?_
        refine gi_iconst (pc := 31) (-1) hX dX0_after_31 (by decide) ?_
        refine gi_ixor (pc := 32) hX dX0_after_32 ?_
        refine gi_iand (pc := 33) hX dX0_after_33 ?_
        refine gi_istore_n (pc := 34) 3 rfl hX dX0_after_34 rfl rfl ?_
        dsimp only [List.set]
        refine gi_iinc (pc := 35) 4 _ hX dX0_after_35 rfl (gi_inc1 _) rfl rfl ?_
        dsimp only [List.set]
        refine gi_goto (pc := 38) 5 hX dX0_after_38 (by decide) ?_
        first
        | exact ih (i + 1) (by omega) (by omega) _ (sp_af0 hv c20)
        | exact ih (i + 1) (by omega) (by omega) _ (sp_af1 hv c20)
  refine gi_iload_n (pc := 0) hX dX0_after_0 rfl ?_
  refine gi_istore_n (pc := 1) 3 rfl hX dX0_after_1 rfl rfl ?_
  dsimp only [List.set]
  refine gi_iconst (pc := 2) (nI 0) hX dX0_after_2 (by decide) ?_
  refine gi_istore (pc := 3) 4 hX dX0_after_3 rfl rfl ?_
  dsimp only [List.set]
  exact loop 0 (by omega) st (fun f => ⟨fun h => ⟨h, fun j hj => absurd hj (by omega)⟩, fun h => h.1⟩)
set_option maxHeartbeats 4000000 in
theorem m_allBarred {a : Nat → Nat} {k : gx_C} {P : pw_P} {B : Nat} {Gr : pw_G} {M : pw_M} {T : pw_T} (f g l : Nat) (hf : f < 8) (hg : g < 8) (hl : l < 9) : gx_CI k yX0_allBarred cX0_allBarred 7 .boolean (2, 52) [.ref (a 0), .int (nI f), .int (nI g), .int (nI l)] (pw_W a k) (P, B, Gr, M, T) (fun r u => u = (P, B, Gr, M, T) ∧ b_tf r (sp_ab P Gr f g l)) := by
  refine gx_CI.of (by decide) rfl rfl (fun X hX hR => ?_)
  have hX : gx_Ok X cX0_allBarred RX0 k (2, 52) := hX
  show gx_G X (pw_W a k (P, B, Gr, M, T)) 0 [some (.ref (a 0)), some (.int (nI f)), some (.int (nI g)), some (.int (nI l)), none, none, none] []
  have loop : ∀ fi se : Int32, sp_isM P Gr f l fi → sp_isM P Gr g l se → ∀ d, d ≤ 15 → (∀ d0, d0 < d → sp_mk P Gr f l d0 → ∀ e, sp_mk P Gr g l e → bt (Gr.2.2.2.1 (15 * l + d0)) e = true) → gx_G X (pw_W a k (P, B, Gr, M, T)) 19 [some (.ref (a 0)), some (.int (nI f)), some (.int (nI g)), some (.int (nI l)), some (.int fi), some (.int se), some (.int (nI d))] [] := by
    intro fi se h1 h2
    refine gx_up ?_
    intro d hd ih hv
    refine gi_iload (pc := 19) hX dX0_allBarred_19 rfl ?_
    refine gi_bipush (pc := 21) (nI 15) hX dX0_allBarred_21 (by decide) ?_
    refine gi_icmp_ge (pc := 23) 67 hX dX0_allBarred_23 (by decide) (fun c23 => ?_) (fun c23 => ?_)
    · have q0 := sp_ge (by omega) (by omega) c23
      have q : sp_ab P Gr f g l := fun d1 m1 e1 m2 => hv d1 (by have := m1.1; omega) m1 e1 m2
      refine gi_iconst (pc := 67) (nI 1) hX dX0_allBarred_67 (by decide) ?_
      exact hR 68 _ _ _ dX0_allBarred_68 rfl ⟨rfl, b_tf1 q⟩
    · have q0 := sp_lt (by omega) (by omega) c23
      refine gi_iload (pc := 26) hX dX0_allBarred_26 rfl ?_
      refine gi_iload (pc := 28) hX dX0_allBarred_28 rfl ?_
      refine gi_ishr (pc := 30) hX dX0_allBarred_30 ?_
      refine gi_iconst (pc := 31) (nI 1) hX dX0_allBarred_31 (by decide) ?_
      refine gi_iand (pc := 32) hX dX0_allBarred_32 ?_
      refine gi_if_ne (pc := 33) 39 hX dX0_allBarred_33 (by decide) (fun c33 => ?_) (fun c33 => ?_)
      · rw [b_tst1 (by omega)] at c33
        refine gi_iload (pc := 39) hX dX0_allBarred_39 rfl ?_
        refine gi_aload_n (pc := 41) hX dX0_allBarred_41 rfl ?_
        refine pg_db (pc := 42) hX dX0_allBarred_42 ?_
        refine gi_bipush (pc := 45) (nI 15) hX dX0_allBarred_45 (by decide) ?_
        refine gi_iload_n (pc := 47) hX dX0_allBarred_47 rfl ?_
        refine gi_imul (pc := 48) hX dX0_allBarred_48 ?_
        refine gi_iload (pc := 49) hX dX0_allBarred_49 rfl ?_
        refine gi_iadd (pc := 51) hX dX0_allBarred_51 ?_
        refine pl_db (pc := 52) (15 * l + d) hX dX0_allBarred_52 (by rw [pk_mul, nI_add]) (by omega) ?_
        refine gi_iconst (pc := 53) (-1) hX dX0_allBarred_53 (by decide) ?_
        refine gi_ixor (pc := 54) hX dX0_allBarred_54 ?_
        refine gi_iand (pc := 55) hX dX0_allBarred_55 ?_
        refine gi_if_eq (pc := 56) 61 hX dX0_allBarred_56 (by decide) (fun c56 => ?_) (fun c56 => ?_)
        · have q1 : sp_mk P Gr f l d → ∀ e, sp_mk P Gr g l e → bt (Gr.2.2.2.1 (15 * l + d)) e = true := fun _ e m2 => b_an.mp c56 e ((h2 e).mpr m2)
          refine gi_iinc (pc := 61) 6 _ hX dX0_allBarred_61 rfl (gi_inc1 _) rfl rfl ?_
          dsimp only [List.set]
          refine gi_goto (pc := 64) 19 hX dX0_allBarred_64 (by decide) ?_
          exact ih (d + 1) (by omega) (by omega) (sp_all1 hv q1)
        · have q : ¬ sp_ab P Gr f g l := fun h => c56 (b_an.mpr (fun e he => h d ((h1 d).mp c33) e ((h2 e).mp he)))
          refine gi_iconst (pc := 59) (nI 0) hX dX0_allBarred_59 (by decide) ?_
          exact hR 60 _ _ _ dX0_allBarred_60 rfl ⟨rfl, b_tf0 q⟩
      · rw [b_tst (by omega)] at c33
        have q1 : sp_mk P Gr f l d → ∀ e, sp_mk P Gr g l e → bt (Gr.2.2.2.1 (15 * l + d)) e = true := fun m => absurd ((h1 d).mpr m) (b_nt c33)
        refine gi_goto (pc := 36) 61 hX dX0_allBarred_36 (by decide) ?_
        refine gi_iinc (pc := 61) 6 _ hX dX0_allBarred_61 rfl (gi_inc1 _) rfl rfl ?_
        dsimp only [List.set]
        refine gi_goto (pc := 64) 19 hX dX0_allBarred_64 (by decide) ?_
        exact ih (d + 1) (by omega) (by omega) (sp_all1 hv q1)
  refine gi_aload_n (pc := 0) hX dX0_allBarred_0 rfl ?_
  refine gi_iload_n (pc := 1) hX dX0_allBarred_1 rfl ?_
  refine gi_iload_n (pc := 2) hX dX0_allBarred_2 rfl ?_
  refine gi_callI (pc := 3) hX (m_makersOf f l hf hl) cw_p_makersOf rfl rfl rfl rfl rfl rfl dX0_allBarred_3 (fun r u hp => ?_)
  obtain ⟨rfl, h1⟩ := hp
  generalize r = fi at h1 ⊢
  refine gi_istore (pc := 6) 4 hX dX0_allBarred_6 rfl rfl ?_
  dsimp only [List.set]
  refine gi_aload_n (pc := 8) hX dX0_allBarred_8 rfl ?_
  refine gi_iload_n (pc := 9) hX dX0_allBarred_9 rfl ?_
  refine gi_iload_n (pc := 10) hX dX0_allBarred_10 rfl ?_
  refine gi_callI (pc := 11) hX (m_makersOf g l hg hl) cw_p_makersOf rfl rfl rfl rfl rfl rfl dX0_allBarred_11 (fun r u hp => ?_)
  obtain ⟨rfl, h2⟩ := hp
  generalize r = se at h2 ⊢
  refine gi_istore (pc := 14) 5 hX dX0_allBarred_14 rfl rfl ?_
  dsimp only [List.set]
  refine gi_iconst (pc := 16) (nI 0) hX dX0_allBarred_16 (by decide) ?_
  refine gi_istore (pc := 17) 6 hX dX0_allBarred_17 rfl rfl ?_
  dsimp only [List.set]
  exact loop fi se h1 h2 0 (by omega) (fun d hd => absurd hd (by omega))
end
section
/-! CONTRACTS: findFacts, findDeeds -/
set_option maxRecDepth 100000
theorem sp_up {f g : Nat → Int32} {l : Nat} {x : Int32} (h : ∀ j, j ≠ l → f j = g j) : ∀ j, j ≠ l → (upd f l x) j = g j := fun j hj => (pk_un hj).trans (h j hj)
theorem sp_bac0 {A c : Int32} {d : Nat} {Q : Nat → Prop} (h : ∀ e, bt A e = true ↔ bt c e = true ∨ (e < d ∧ Q e)) (q : ¬ Q d) : ∀ e, bt A e = true ↔ bt c e = true ∨ (e < d + 1 ∧ Q e) := by
  intro e
  rw [h e]
  refine or_congr Iff.rfl ⟨fun ⟨h1, h2⟩ => ⟨by omega, h2⟩, fun ⟨h1, h2⟩ => ⟨?_, h2⟩⟩
  rcases Nat.lt_or_ge e d with z | z
  · exact z
  · have : e = d := by omega
    subst this
    exact absurd h2 q
theorem sp_bac1 {A c : Int32} {d : Nat} {Q : Nat → Prop} (hd : d < 32) (h : ∀ e, bt A e = true ↔ bt c e = true ∨ (e < d ∧ Q e)) (q : Q d) : ∀ e, bt (A ||| nI 1 <<< (nI d &&& 31)) e = true ↔ bt c e = true ∨ (e < d + 1 ∧ Q e) := by
  intro e
  show bt (A ||| b_sh d) e = true ↔ _
  rw [b_or, Bool.or_eq_true, h e, b_shi hd, decide_eq_true_iff]
  constructor
  · rintro ((h1 | ⟨h1, h2⟩) | rfl)
    · exact Or.inl h1
    · exact Or.inr ⟨by omega, h2⟩
    · exact Or.inr ⟨by omega, q⟩
  · rintro (h1 | ⟨h1, h2⟩)
    · exact Or.inl (Or.inl h1)
    · rcases Nat.lt_or_ge e d with z | z
      · exact Or.inl (Or.inr ⟨z, h2⟩)
      · exact Or.inr (by omega)
/-- rows of an array, one behind another -/
theorem sp_row {f f1 g : Nat → Int32} {b d : Nat} {R : Nat → Int32 → Prop} (h1 : ∀ d0, d0 < d → R d0 (f (b + d0))) (h2 : ∀ j, (∀ d0, d0 < d → j ≠ b + d0) → f j = g j) (k1 : R d (f1 (b + d))) (k2 : ∀ j, j ≠ b + d → f1 j = f j) : (∀ d0, d0 < d + 1 → R d0 (f1 (b + d0))) ∧ (∀ j, (∀ d0, d0 < d + 1 → j ≠ b + d0) → f1 j = g j) := by
  refine ⟨fun d0 hd0 => ?_, fun j hj => ?_⟩
  · rcases Nat.lt_or_ge d0 d with z | z
    · rw [k2 _ (by omega)]; exact h1 d0 z
    · have : d0 = d := by omega
      subst this
      exact k1
  · rw [k2 j (hj d (by omega))]
    exact h2 j (fun d0 hd0 => hj d0 (by omega))
/-- what findDeeds and findFacts leave at a layer -/
def sp_dd (P : pw_P) (Gr : pw_G) (l : Nat) : Prop := ∀ d, bt (Gr.2.1 l) d = true ↔ d < 15 ∧ (sp_ex P d ∧ sp_cbt Gr (sp_nd P d) l)
def sp_dr (P : pw_P) (Gr : pw_G) (l d e : Nat) : Prop := d ≠ e ∧ (bt (Gr.2.1 l) d = true ∧ bt (Gr.2.1 l) e = true) ∧ ¬ sp_cbt Gr (sp_nd P d ||| sp_nd P e) l
def sp_db (P : pw_P) (Gr : pw_G) (l : Nat) : Prop := ∀ d, d < 15 → ∀ e, bt (Gr.2.2.2.1 (15 * l + d)) e = true ↔ bt (Gr.2.2.2.2 d) e = true ∨ (e < 15 ∧ sp_dr P Gr l d e)
def sp_ff (P : pw_P) (Gr : pw_G) (l : Nat) : Prop := ∀ f, bt (Gr.1 (l + 1)) f = true ↔ f < 8 ∧ ∃ d, sp_mk P Gr f l d
def sp_fr (P : pw_P) (Gr : pw_G) (l f g : Nat) : Prop := f ≠ g ∧ (bt (Gr.1 (l + 1)) f = true ∧ bt (Gr.1 (l + 1)) g = true) ∧ sp_ab P Gr f g l
def sp_fb (P : pw_P) (Gr : pw_G) (l : Nat) : Prop := ∀ f, f < 8 → ∀ g, bt (Gr.2.2.1 (8 * l + 8 + f)) g = true ↔ g < 8 ∧ sp_fr P Gr l f g
set_option maxHeartbeats 4000000 in
theorem m_findFacts {a : Nat → Nat} {k : gx_C} {P : pw_P} {B : Nat} {fa da fb db cl : pw_F} {M : pw_M} {T : pw_T} (l : Nat) (hl : l < 8) : gx_CV k yX0_findFacts cX0_findFacts 6 (3, 78) [.ref (a 0), .int (nI l)] (pw_W a k) (P, B, (fa, da, fb, db, cl), M, T) (fun u => ∃ fa1 fb1, u = (P, B, (fa1, da, fb1, db, cl), M, T) ∧ (∀ j, j ≠ l + 1 → fa1 j = fa j) ∧ (∀ j, (∀ f, f < 8 → j ≠ 8 * l + 8 + f) → fb1 j = fb j) ∧ sp_ff P (fa1, da, fb1, db, cl) l ∧ sp_fb P (fa1, da, fb1, db, cl) l) := by
  refine gx_CV.of (by decide) rfl rfl (fun X hX hR => ?_)
  have hX : gx_Ok X cX0_findFacts RX0 k (3, 78) := hX
  show gx_G X (pw_W a k (P, B, (fa, da, fb, db, cl), M, T)) 0 [some (.ref (a 0)), some (.int (nI l)), none, none, none, none] []
  have loop : ∀ f, f ≤ 8 → ∀ A : Int32, (∀ e, bt A e = true ↔ e < f ∧ ∃ d, sp_mk P (fa, da, fb, db, cl) e l d) → gx_G X (pw_W a k (P, B, (fa, da, fb, db, cl), M, T)) 4 [some (.ref (a 0)), some (.int (nI l)), some (.int A), some (.int (nI f)), none, none] [] := by
    refine gx_up ?_
    intro f hf ih A hv
    refine gi_iload_n (pc := 4) hX dX0_findFacts_4 rfl ?_
    refine gi_bipush (pc := 5) (nI 8) hX dX0_findFacts_5 (by decide) ?_
    refine gi_icmp_ge (pc := 7) 35 hX dX0_findFacts_7 (by decide) (fun c7 => ?_) (fun c7 => ?_)
    · have q0 := sp_ge (by omega) (by omega) c7
      have q9 : f = 8 := by omega
      subst q9
      have loop2 : ∀ f, f ≤ 8 → ∀ fb1 : pw_F, (∀ f0, f0 < f → ∀ g, bt (fb1 (8 * l + 8 + f0)) g = true ↔ g < 8 ∧ (f0 ≠ g ∧ (bt A f0 = true ∧ bt A g = true) ∧ sp_ab P (fa, da, fb, db, cl) f0 g l)) → (∀ j, (∀ f0, f0 < f → j ≠ 8 * l + 8 + f0) → fb1 j = fb j) → gx_G X (pw_W a k (P, B, ((upd fa (l + 1) A), da, fb1, db, cl), M, T)) 46 [some (.ref (a 0)), some (.int (nI l)), some (.int A), some (.int (nI f)), none, none] [] := by
        refine gx_up ?_
        intro f hf jh fb1 hw1 hw2
        refine gi_iload_n (pc := 46) hX dX0_findFacts_46 rfl ?_
        refine gi_bipush (pc := 47) (nI 8) hX dX0_findFacts_47 (by decide) ?_
        refine gi_icmp_ge (pc := 49) 132 hX dX0_findFacts_49 (by decide) (fun c49 => ?_) (fun c49 => ?_)
        · have q0 := sp_ge (by omega) (by omega) c49
          have q9 : f = 8 := by omega
          subst q9
          exact hR 132 _ _ dX0_findFacts_132 ⟨upd fa (l + 1) A, fb1, rfl, fun j hj => pk_un hj, hw2, fun f => by show bt (upd fa (l + 1) A (l + 1)) f = true ↔ _; rw [pk_us]; exact hv f, fun f hf g => by have z := hw1 f hf g; unfold sp_fr; show bt (fb1 (8 * l + 8 + f)) g = true ↔ g < 8 ∧ f ≠ g ∧ (bt (upd fa (l + 1) A (l + 1)) f = true ∧ bt (upd fa (l + 1) A (l + 1)) g = true) ∧ _; rw [pk_us]; exact z⟩
        · have q0 := sp_lt (by omega) (by omega) c49
          have inner : ∀ g, g ≤ 8 → ∀ Bb : Int32, (∀ e, bt Bb e = true ↔ e < g ∧ (f ≠ e ∧ (bt A f = true ∧ bt A e = true) ∧ sp_ab P (fa, da, fb, db, cl) f e l)) → gx_G X (pw_W a k (P, B, ((upd fa (l + 1) A), da, fb1, db, cl), M, T)) 58 [some (.ref (a 0)), some (.int (nI l)), some (.int A), some (.int (nI f)), some (.int Bb), some (.int (nI g))] [] := by
            refine gx_up ?_
            intro g hg kh Bb hz
            refine gi_iload (pc := 58) hX dX0_findFacts_58 rfl ?_
            refine gi_bipush (pc := 60) (nI 8) hX dX0_findFacts_60 (by decide) ?_
            refine gi_icmp_ge (pc := 62) 110 hX dX0_findFacts_62 (by decide) (fun c62 => ?_) (fun c62 => ?_)
            · have q5 := sp_ge (by omega) (by omega) c62
              have q9 : g = 8 := by omega
              subst q9
              refine gi_aload_n (pc := 110) hX dX0_findFacts_110 rfl ?_
              refine pg_fb (pc := 111) hX dX0_findFacts_111 ?_
              refine gi_bipush (pc := 114) (nI 8) hX dX0_findFacts_114 (by decide) ?_
              refine gi_iload_n (pc := 116) hX dX0_findFacts_116 rfl ?_
              refine gi_imul (pc := 117) hX dX0_findFacts_117 ?_
              refine gi_bipush (pc := 118) (nI 8) hX dX0_findFacts_118 (by decide) ?_
              refine gi_iadd (pc := 120) hX dX0_findFacts_120 ?_
              refine gi_iload_n (pc := 121) hX dX0_findFacts_121 rfl ?_
              refine gi_iadd (pc := 122) hX dX0_findFacts_122 ?_
              refine gi_iload (pc := 123) hX dX0_findFacts_123 rfl ?_
              refine ps_fb (pc := 125) (8 * l + 8 + f) hX dX0_findFacts_125 (by rw [pk_mul, nI_add, nI_add]) (by omega) ?_
              refine gi_iinc (pc := 126) 3 _ hX dX0_findFacts_126 rfl (gi_inc1 _) rfl rfl ?_
              dsimp only [List.set]
              refine gi_goto (pc := 129) 46 hX dX0_findFacts_129 (by decide) ?_
              refine gi_drop 4 ?_
              dsimp only [List.set]
              refine gi_drop 5 ?_
              dsimp only [List.set]
              have q8 := sp_row (R := fun f x => ∀ g, bt x g = true ↔ g < 8 ∧ (f ≠ g ∧ (bt A f = true ∧ bt A g = true) ∧ sp_ab P (fa, da, fb, db, cl) f g l)) hw1 hw2 (f1 := upd fb1 (8 * l + 8 + f) Bb) (by rw [pk_us]; exact hz) (fun j hj => pk_un hj)
              exact jh (f + 1) (by omega) (by omega) _ q8.1 q8.2
            · have q5 := sp_lt (by omega) (by omega) c62
              refine gi_iload_n (pc := 65) hX dX0_findFacts_65 rfl ?_
              refine gi_iload (pc := 66) hX dX0_findFacts_66 rfl ?_
              refine gi_icmp_eq (pc := 68) 104 hX dX0_findFacts_68 (by decide) (fun c68 => ?_) (fun c68 => ?_)
              · have q6 := (nI_eq (by omega) (by omega)).mp c68
                have q7 : ¬ (f ≠ g ∧ (bt A f = true ∧ bt A g = true) ∧ sp_ab P (fa, da, fb, db, cl) f g l) := fun z => z.1 q6
                refine gi_iinc (pc := 104) 5 _ hX dX0_findFacts_104 rfl (gi_inc1 _) rfl rfl ?_
                dsimp only [List.set]
                refine gi_goto (pc := 107) 58 hX dX0_findFacts_107 (by decide) ?_
                first
                | exact kh (g + 1) (by omega) (by omega) _ (sp_acc0 hz q7)
                | exact kh (g + 1) (by omega) (by omega) _ (sp_acc1 (by omega) hz q7)
              · have q6 : f ≠ g := fun z => c68 (by rw [z])
                refine gi_iload_n (pc := 71) hX dX0_findFacts_71 rfl ?_
                refine gi_iload_n (pc := 72) hX dX0_findFacts_72 rfl ?_
                refine gi_ishr (pc := 73) hX dX0_findFacts_73 ?_
                refine gi_iload_n (pc := 74) hX dX0_findFacts_74 rfl ?_
                refine gi_iload (pc := 75) hX dX0_findFacts_75 rfl ?_
                refine gi_ishr (pc := 77) hX dX0_findFacts_77 ?_
                refine gi_iand (pc := 78) hX dX0_findFacts_78 ?_
                refine gi_iconst (pc := 79) (nI 1) hX dX0_findFacts_79 (by decide) ?_
                refine gi_iand (pc := 80) hX dX0_findFacts_80 ?_
                refine gi_if_eq (pc := 81) 104 hX dX0_findFacts_81 (by decide) (fun c81 => ?_) (fun c81 => ?_)
                · rw [b_tst2 (by omega) (by omega)] at c81
                  have q7 : ¬ (f ≠ g ∧ (bt A f = true ∧ bt A g = true) ∧ sp_ab P (fa, da, fb, db, cl) f g l) := fun z => c81 z.2.1
                  refine gi_iinc (pc := 104) 5 _ hX dX0_findFacts_104 rfl (gi_inc1 _) rfl rfl ?_
                  dsimp only [List.set]
                  refine gi_goto (pc := 107) 58 hX dX0_findFacts_107 (by decide) ?_
                  first
                  | exact kh (g + 1) (by omega) (by omega) _ (sp_acc0 hz q7)
                  | exact kh (g + 1) (by omega) (by omega) _ (sp_acc1 (by omega) hz q7)
                · rw [b_tst2 (by omega) (by omega)] at c81
                  have c81 := Classical.not_not.mp c81
                  refine gi_aload_n (pc := 84) hX dX0_findFacts_84 rfl ?_
                  refine gi_iload_n (pc := 85) hX dX0_findFacts_85 rfl ?_
                  refine gi_iload (pc := 86) hX dX0_findFacts_86 rfl ?_
                  refine gi_iload_n (pc := 88) hX dX0_findFacts_88 rfl ?_
                  refine gi_callI (pc := 89) hX (m_allBarred f g l (by omega) (by omega) (by omega)) cw_p_allBarred rfl rfl rfl rfl rfl rfl dX0_findFacts_89 (fun r u hp => ?_)
                  obtain ⟨rfl, hp⟩ := hp
                  have hp : b_tf r (sp_ab P (fa, da, fb, db, cl) f g l) := hp
                  refine gi_if_eq (pc := 92) 104 hX dX0_findFacts_92 (by decide) (fun c92 => ?_) (fun c92 => ?_)
                  · have q7 : ¬ (f ≠ g ∧ (bt A f = true ∧ bt A g = true) ∧ sp_ab P (fa, da, fb, db, cl) f g l) := fun z => hp.z.mp c92 z.2.2
                    refine gi_iinc (pc := 104) 5 _ hX dX0_findFacts_104 rfl (gi_inc1 _) rfl rfl ?_
                    dsimp only [List.set]
                    refine gi_goto (pc := 107) 58 hX dX0_findFacts_107 (by decide) ?_
                    first
                    | exact kh (g + 1) (by omega) (by omega) _ (sp_acc0 hz q7)
                    | exact kh (g + 1) (by omega) (by omega) _ (sp_acc1 (by omega) hz q7)
                  · have q7 : (f ≠ g ∧ (bt A f = true ∧ bt A g = true) ∧ sp_ab P (fa, da, fb, db, cl) f g l) := ⟨q6, c81, hp.nz.mp c92⟩
                    refine gi_iload (pc := 95) hX dX0_findFacts_95 rfl ?_
                    refine gi_iconst (pc := 97) (nI 1) hX dX0_findFacts_97 (by decide) ?_
                    refine gi_iload (pc := 98) hX dX0_findFacts_98 rfl ?_
                    refine gi_ishl (pc := 100) hX dX0_findFacts_100 ?_
                    refine gi_ior (pc := 101) hX dX0_findFacts_101 ?_
                    refine gi_istore (pc := 102) 4 hX dX0_findFacts_102 rfl rfl ?_
                    dsimp only [List.set]
                    refine gi_iinc (pc := 104) 5 _ hX dX0_findFacts_104 rfl (gi_inc1 _) rfl rfl ?_
                    dsimp only [List.set]
                    refine gi_goto (pc := 107) 58 hX dX0_findFacts_107 (by decide) ?_
                    first
                    | exact kh (g + 1) (by omega) (by omega) _ (sp_acc0 hz q7)
                    | exact kh (g + 1) (by omega) (by omega) _ (sp_acc1 (by omega) hz q7)
          refine gi_iconst (pc := 52) (nI 0) hX dX0_findFacts_52 (by decide) ?_
          refine gi_istore (pc := 53) 4 hX dX0_findFacts_53 rfl rfl ?_
          dsimp only [List.set]
          refine gi_iconst (pc := 55) (nI 0) hX dX0_findFacts_55 (by decide) ?_
          refine gi_istore (pc := 56) 5 hX dX0_findFacts_56 rfl rfl ?_
          dsimp only [List.set]
          exact inner 0 (by omega) (nI 0) sp_accZ
      refine gi_aload_n (pc := 35) hX dX0_findFacts_35 rfl ?_
      refine pg_fa (pc := 36) hX dX0_findFacts_36 ?_
      refine gi_iload_n (pc := 39) hX dX0_findFacts_39 rfl ?_
      refine gi_iconst (pc := 40) (nI 1) hX dX0_findFacts_40 (by decide) ?_
      refine gi_iadd (pc := 41) hX dX0_findFacts_41 ?_
      refine gi_iload_n (pc := 42) hX dX0_findFacts_42 rfl ?_
      refine ps_fa (pc := 43) (l + 1) hX dX0_findFacts_43 (nI_1 l) (by omega) ?_
      refine gi_iconst (pc := 44) (nI 0) hX dX0_findFacts_44 (by decide) ?_
      refine gi_istore_n (pc := 45) 3 rfl hX dX0_findFacts_45 rfl rfl ?_
      dsimp only [List.set]
      exact loop2 0 (by omega) fb (fun f0 hf0 => absurd hf0 (by omega)) (fun j _ => rfl)
    · have q0 := sp_lt (by omega) (by omega) c7
      refine gi_aload_n (pc := 10) hX dX0_findFacts_10 rfl ?_
      refine gi_iload_n (pc := 11) hX dX0_findFacts_11 rfl ?_
      refine gi_iload_n (pc := 12) hX dX0_findFacts_12 rfl ?_
      refine gi_callI (pc := 13) hX (m_makersOf f l (by omega) (by omega)) cw_p_makersOf rfl rfl rfl rfl rfl rfl dX0_findFacts_13 (fun r u hp => ?_)
      obtain ⟨rfl, h1⟩ := hp
      refine gi_istore (pc := 16) 4 hX dX0_findFacts_16 rfl rfl ?_
      dsimp only [List.set]
      refine gi_iload (pc := 18) hX dX0_findFacts_18 rfl ?_
      refine gi_if_eq (pc := 20) 29 hX dX0_findFacts_20 (by decide) (fun c20 => ?_) (fun c20 => ?_)
      · have q1 : ¬ ∃ d, sp_mk P (fa, da, fb, db, cl) f l d := fun ⟨d, m⟩ => by have z := (h1 d).mpr m; rw [c20, b_0] at z; cases z
        refine gi_drop 4 ?_
        dsimp only [List.set]
        refine gi_iinc (pc := 29) 3 _ hX dX0_findFacts_29 rfl (gi_inc1 _) rfl rfl ?_
        dsimp only [List.set]
        refine gi_goto (pc := 32) 4 hX dX0_findFacts_32 (by decide) ?_
        first
        | exact ih (f + 1) (by omega) (by omega) _ (sp_acc0 hv q1)
        | exact ih (f + 1) (by omega) (by omega) _ (sp_acc1 (by omega) hv q1)
      · have q1 : ∃ d, sp_mk P (fa, da, fb, db, cl) f l d := Classical.byContradiction (fun z => c20 (b_z.mpr (fun d => by
          cases e : bt r d with
          | false => rfl
          | true => exact absurd ⟨d, (h1 d).mp e⟩ z)))
        refine gi_drop 4 ?_
        dsimp only [List.set]
        refine gi_iload_n (pc := 23) hX dX0_findFacts_23 rfl ?_
        refine gi_iconst (pc := 24) (nI 1) hX dX0_findFacts_24 (by decide) ?_
        refine gi_iload_n (pc := 25) hX dX0_findFacts_25 rfl ?_
        refine gi_ishl (pc := 26) hX dX0_findFacts_26 ?_
        refine gi_ior (pc := 27) hX dX0_findFacts_27 ?_
        refine gi_istore_n (pc := 28) 2 rfl hX dX0_findFacts_28 rfl rfl ?_
        dsimp only [List.set]
        refine gi_iinc (pc := 29) 3 _ hX dX0_findFacts_29 rfl (gi_inc1 _) rfl rfl ?_
        dsimp only [List.set]
        refine gi_goto (pc := 32) 4 hX dX0_findFacts_32 (by decide) ?_
        first
        | exact ih (f + 1) (by omega) (by omega) _ (sp_acc0 hv q1)
        | exact ih (f + 1) (by omega) (by omega) _ (sp_acc1 (by omega) hv q1)
  refine gi_iconst (pc := 0) (nI 0) hX dX0_findFacts_0 (by decide) ?_
  refine gi_istore_n (pc := 1) 2 rfl hX dX0_findFacts_1 rfl rfl ?_
  dsimp only [List.set]
  refine gi_iconst (pc := 2) (nI 0) hX dX0_findFacts_2 (by decide) ?_
  refine gi_istore_n (pc := 3) 3 rfl hX dX0_findFacts_3 rfl rfl ?_
  dsimp only [List.set]
  exact loop 0 (by omega) (nI 0) sp_accZ
set_option maxHeartbeats 4000000 in
theorem m_findDeeds {a : Nat → Nat} {k : gx_C} {P : pw_P} {B : Nat} {fa da fb db cl : pw_F} {M : pw_M} {T : pw_T} (l : Nat) (hl : l < 8) (hn : P.1 ≤ 7) : gx_CV k yX0_findDeeds cX0_findDeeds 5 (1, 26) [.ref (a 0), .int (nI l)] (pw_W a k) (P, B, (fa, da, fb, db, cl), M, T) (fun u => ∃ da1 db1, u = (P, B, (fa, da1, fb, db1, cl), M, T) ∧ (∀ j, j ≠ l → da1 j = da j) ∧ (∀ j, (∀ d, d < 15 → j ≠ 15 * l + d) → db1 j = db j) ∧ sp_dd P (fa, da1, fb, db1, cl) l ∧ sp_db P (fa, da1, fb, db1, cl) l) := by
  refine gx_CV.of (by decide) rfl rfl (fun X hX hR => ?_)
  have hX : gx_Ok X cX0_findDeeds RX0 k (1, 26) := hX
  show gx_G X (pw_W a k (P, B, (fa, da, fb, db, cl), M, T)) 0 [some (.ref (a 0)), some (.int (nI l)), none, none, none] []
  have loop : ∀ d, d ≤ 15 → ∀ da1 : pw_F, (∀ e, bt (da1 l) e = true ↔ e < d ∧ (sp_ex P e ∧ sp_cbt (fa, da, fb, db, cl) (sp_nd P e) l)) → (∀ j, j ≠ l → da1 j = da j) → gx_G X (pw_W a k (P, B, (fa, da1, fb, db, cl), M, T)) 9 [some (.ref (a 0)), some (.int (nI l)), some (.int (nI d)), none, none] [] := by
    refine gx_up ?_
    intro d hd ih da1 hv1 hv2
    refine gi_iload_n (pc := 9) hX dX0_findDeeds_9 rfl ?_
    refine gi_bipush (pc := 10) (nI 15) hX dX0_findDeeds_10 (by decide) ?_
    refine gi_icmp_ge (pc := 12) 56 hX dX0_findDeeds_12 (by decide) (fun c12 => ?_) (fun c12 => ?_)
    · have q0 := sp_ge (by omega) (by omega) c12
      have q9 : d = 15 := by omega
      subst q9
      have loop2 : ∀ d, d ≤ 15 → ∀ db1 : pw_F, (∀ d0, d0 < d → ∀ e, bt (db1 (15 * l + d0)) e = true ↔ bt (cl d0) e = true ∨ (e < 15 ∧ (d0 ≠ e ∧ (bt (da1 l) d0 = true ∧ bt (da1 l) e = true) ∧ ¬ sp_cbt (fa, da, fb, db, cl) (sp_nd P d0 ||| sp_nd P e) l))) → (∀ j, (∀ d0, d0 < d → j ≠ 15 * l + d0) → db1 j = db j) → gx_G X (pw_W a k (P, B, (fa, da1, fb, db1, cl), M, T)) 58 [some (.ref (a 0)), some (.int (nI l)), some (.int (nI d)), none, none] [] := by
        refine gx_up ?_
        intro d hd jh db1 hw1 hw2
        refine gi_iload_n (pc := 58) hX dX0_findDeeds_58 rfl ?_
        refine gi_bipush (pc := 59) (nI 15) hX dX0_findDeeds_59 (by decide) ?_
        refine gi_icmp_ge (pc := 61) 171 hX dX0_findDeeds_61 (by decide) (fun c61 => ?_) (fun c61 => ?_)
        · have q0 := sp_ge (by omega) (by omega) c61
          have q9 : d = 15 := by omega
          subst q9
          exact hR 171 _ _ dX0_findDeeds_171 ⟨da1, db1, rfl, hv2, hw2, hv1, hw1⟩
        · have q0 := sp_lt (by omega) (by omega) c61
          have inner : ∀ e, e ≤ 15 → ∀ db2 : pw_F, (∀ e0, bt (db2 (15 * l + d)) e0 = true ↔ bt (cl d) e0 = true ∨ (e0 < e ∧ (d ≠ e0 ∧ (bt (da1 l) d = true ∧ bt (da1 l) e0 = true) ∧ ¬ sp_cbt (fa, da, fb, db, cl) (sp_nd P d ||| sp_nd P e0) l))) → (∀ j, j ≠ 15 * l + d → db2 j = db1 j) → gx_G X (pw_W a k (P, B, (fa, da1, fb, db2, cl), M, T)) 83 [some (.ref (a 0)), some (.int (nI l)), some (.int (nI d)), some (.int (nI e)), none] [] := by
            refine gx_up ?_
            intro e he kh db2 hz1 hz2
            refine gi_iload_n (pc := 83) hX dX0_findDeeds_83 rfl ?_
            refine gi_bipush (pc := 84) (nI 15) hX dX0_findDeeds_84 (by decide) ?_
            refine gi_icmp_ge (pc := 86) 165 hX dX0_findDeeds_86 (by decide) (fun c86 => ?_) (fun c86 => ?_)
            · have q5 := sp_ge (by omega) (by omega) c86
              have q9 : e = 15 := by omega
              subst q9
              refine gi_iinc (pc := 165) 2 _ hX dX0_findDeeds_165 rfl (gi_inc1 _) rfl rfl ?_
              dsimp only [List.set]
              refine gi_goto (pc := 168) 58 hX dX0_findDeeds_168 (by decide) ?_
              refine gi_drop 3 ?_
              dsimp only [List.set]
              have q8 := sp_row (R := fun d x => ∀ e, bt x e = true ↔ bt (cl d) e = true ∨ (e < 15 ∧ (d ≠ e ∧ (bt (da1 l) d = true ∧ bt (da1 l) e = true) ∧ ¬ sp_cbt (fa, da, fb, db, cl) (sp_nd P d ||| sp_nd P e) l))) hw1 hw2 (f1 := db2) hz1 hz2
              exact jh (d + 1) (by omega) (by omega) _ q8.1 q8.2
            · have q5 := sp_lt (by omega) (by omega) c86
              refine gi_iload_n (pc := 89) hX dX0_findDeeds_89 rfl ?_
              refine gi_iload_n (pc := 90) hX dX0_findDeeds_90 rfl ?_
              refine gi_icmp_eq (pc := 91) 159 hX dX0_findDeeds_91 (by decide) (fun c91 => ?_) (fun c91 => ?_)
              · have q6 := (nI_eq (by omega) (by omega)).mp c91
                have q7 : ¬ (d ≠ e ∧ (bt (da1 l) d = true ∧ bt (da1 l) e = true) ∧ ¬ sp_cbt (fa, da, fb, db, cl) (sp_nd P d ||| sp_nd P e) l) := fun z => z.1 q6
                refine gi_iinc (pc := 159) 3 _ hX dX0_findDeeds_159 rfl (gi_inc1 _) rfl rfl ?_
                dsimp only [List.set]
                refine gi_goto (pc := 162) 83 hX dX0_findDeeds_162 (by decide) ?_
                first
                | exact kh (e + 1) (by omega) (by omega) _ (sp_bac0 hz1 q7) hz2
                | exact kh (e + 1) (by omega) (by omega) _ (by rw [pk_us]; exact sp_bac1 (by omega) hz1 q7) (sp_up hz2)
              · have q6 : d ≠ e := fun z => c91 (by rw [z])
                refine gi_aload_n (pc := 94) hX dX0_findDeeds_94 rfl ?_
                refine pg_da (pc := 95) hX dX0_findDeeds_95 ?_
                refine gi_iload_n (pc := 98) hX dX0_findDeeds_98 rfl ?_
                refine pl_da (pc := 99) _ hX dX0_findDeeds_99 rfl (by omega) ?_
                refine gi_iload_n (pc := 100) hX dX0_findDeeds_100 rfl ?_
                refine gi_ishr (pc := 101) hX dX0_findDeeds_101 ?_
                refine gi_aload_n (pc := 102) hX dX0_findDeeds_102 rfl ?_
                refine pg_da (pc := 103) hX dX0_findDeeds_103 ?_
                refine gi_iload_n (pc := 106) hX dX0_findDeeds_106 rfl ?_
                refine pl_da (pc := 107) _ hX dX0_findDeeds_107 rfl (by omega) ?_
                refine gi_iload_n (pc := 108) hX dX0_findDeeds_108 rfl ?_
                refine gi_ishr (pc := 109) hX dX0_findDeeds_109 ?_
                refine gi_iand (pc := 110) hX dX0_findDeeds_110 ?_
                refine gi_iconst (pc := 111) (nI 1) hX dX0_findDeeds_111 (by decide) ?_
                refine gi_iand (pc := 112) hX dX0_findDeeds_112 ?_
                refine gi_if_ne (pc := 113) 119 hX dX0_findDeeds_113 (by decide) (fun c113 => ?_) (fun c113 => ?_)
                · rw [b_tst2 (by omega) (by omega)] at c113
                  have c113 := Classical.not_not.mp c113
                  refine gi_aload_n (pc := 119) hX dX0_findDeeds_119 rfl ?_
                  refine gi_iload_n (pc := 120) hX dX0_findDeeds_120 rfl ?_
                  refine gi_callI (pc := 121) hX (m_needsOf d (by omega)) cw_p_needsOf rfl rfl rfl rfl rfl rfl dX0_findDeeds_121 (fun r u hp => ?_)
                  obtain ⟨rfl, rfl⟩ := hp
                  refine gi_aload_n (pc := 124) hX dX0_findDeeds_124 rfl ?_
                  refine gi_iload_n (pc := 125) hX dX0_findDeeds_125 rfl ?_
                  refine gi_callI (pc := 126) hX (m_needsOf e (by omega)) cw_p_needsOf rfl rfl rfl rfl rfl rfl dX0_findDeeds_126 (fun r u hp => ?_)
                  obtain ⟨rfl, rfl⟩ := hp
                  refine gi_ior (pc := 129) hX dX0_findDeeds_129 ?_
                  refine gi_istore (pc := 130) 4 hX dX0_findDeeds_130 rfl rfl ?_
                  dsimp only [List.set]
                  refine gi_aload_n (pc := 132) hX dX0_findDeeds_132 rfl ?_
                  refine gi_iload (pc := 133) hX dX0_findDeeds_133 rfl ?_
                  refine gi_iload_n (pc := 135) hX dX0_findDeeds_135 rfl ?_
                  refine gi_callI (pc := 136) hX (m_canBeTogether _ l (by omega)) cw_p_canBeTogether rfl rfl rfl rfl rfl rfl dX0_findDeeds_136 (fun r u hp => ?_)
                  obtain ⟨rfl, h2⟩ := hp
                  have h2 : b_tf r (sp_cbt (fa, da, fb, db, cl) (sp_nd P d ||| sp_nd P e) l) := h2
                  refine gi_if_ne (pc := 139) 159 hX dX0_findDeeds_139 (by decide) (fun c139 => ?_) (fun c139 => ?_)
                  · have q7 : ¬ (d ≠ e ∧ (bt (da1 l) d = true ∧ bt (da1 l) e = true) ∧ ¬ sp_cbt (fa, da, fb, db, cl) (sp_nd P d ||| sp_nd P e) l) := fun z => z.2.2 (h2.nz.mp c139)
                    refine gi_drop 4 ?_
                    dsimp only [List.set]
                    refine gi_iinc (pc := 159) 3 _ hX dX0_findDeeds_159 rfl (gi_inc1 _) rfl rfl ?_
                    dsimp only [List.set]
                    refine gi_goto (pc := 162) 83 hX dX0_findDeeds_162 (by decide) ?_
                    first
                    | exact kh (e + 1) (by omega) (by omega) _ (sp_bac0 hz1 q7) hz2
                    | exact kh (e + 1) (by omega) (by omega) _ (by rw [pk_us]; exact sp_bac1 (by omega) hz1 q7) (sp_up hz2)
                  · have q7 : (d ≠ e ∧ (bt (da1 l) d = true ∧ bt (da1 l) e = true) ∧ ¬ sp_cbt (fa, da, fb, db, cl) (sp_nd P d ||| sp_nd P e) l) := ⟨q6, c113, h2.z.mp c139⟩
                    refine gi_aload_n (pc := 142) hX dX0_findDeeds_142 rfl ?_
                    refine pg_db (pc := 143) hX dX0_findDeeds_143 ?_
                    refine gi_bipush (pc := 146) (nI 15) hX dX0_findDeeds_146 (by decide) ?_
                    refine gi_iload_n (pc := 148) hX dX0_findDeeds_148 rfl ?_
                    refine gi_imul (pc := 149) hX dX0_findDeeds_149 ?_
                    refine gi_iload_n (pc := 150) hX dX0_findDeeds_150 rfl ?_
                    refine gi_iadd (pc := 151) hX dX0_findDeeds_151 ?_
                    refine gi_dup2 (pc := 152) hX dX0_findDeeds_152 rfl rfl ?_
                    refine pl_db (pc := 153) (15 * l + d) hX dX0_findDeeds_153 (by rw [pk_mul, nI_add]) (by omega) ?_
                    refine gi_iconst (pc := 154) (nI 1) hX dX0_findDeeds_154 (by decide) ?_
                    refine gi_iload_n (pc := 155) hX dX0_findDeeds_155 rfl ?_
                    refine gi_ishl (pc := 156) hX dX0_findDeeds_156 ?_
                    refine gi_ior (pc := 157) hX dX0_findDeeds_157 ?_
                    refine ps_db (pc := 158) (15 * l + d) hX dX0_findDeeds_158 (by rw [pk_mul, nI_add]) (by omega) ?_
                    refine gi_drop 4 ?_
                    dsimp only [List.set]
                    refine gi_iinc (pc := 159) 3 _ hX dX0_findDeeds_159 rfl (gi_inc1 _) rfl rfl ?_
                    dsimp only [List.set]
                    refine gi_goto (pc := 162) 83 hX dX0_findDeeds_162 (by decide) ?_
                    first
                    | exact kh (e + 1) (by omega) (by omega) _ (sp_bac0 hz1 q7) hz2
                    | exact kh (e + 1) (by omega) (by omega) _ (by rw [pk_us]; exact sp_bac1 (by omega) hz1 q7) (sp_up hz2)
                · rw [b_tst2 (by omega) (by omega)] at c113
                  have q7 : ¬ (d ≠ e ∧ (bt (da1 l) d = true ∧ bt (da1 l) e = true) ∧ ¬ sp_cbt (fa, da, fb, db, cl) (sp_nd P d ||| sp_nd P e) l) := fun z => c113 z.2.1
                  refine gi_goto (pc := 116) 159 hX dX0_findDeeds_116 (by decide) ?_
                  refine gi_iinc (pc := 159) 3 _ hX dX0_findDeeds_159 rfl (gi_inc1 _) rfl rfl ?_
                  dsimp only [List.set]
                  refine gi_goto (pc := 162) 83 hX dX0_findDeeds_162 (by decide) ?_
                  first
                  | exact kh (e + 1) (by omega) (by omega) _ (sp_bac0 hz1 q7) hz2
                  | exact kh (e + 1) (by omega) (by omega) _ (by rw [pk_us]; exact sp_bac1 (by omega) hz1 q7) (sp_up hz2)
          refine gi_aload_n (pc := 64) hX dX0_findDeeds_64 rfl ?_
          refine pg_db (pc := 65) hX dX0_findDeeds_65 ?_
          refine gi_bipush (pc := 68) (nI 15) hX dX0_findDeeds_68 (by decide) ?_
          refine gi_iload_n (pc := 70) hX dX0_findDeeds_70 rfl ?_
          refine gi_imul (pc := 71) hX dX0_findDeeds_71 ?_
          refine gi_iload_n (pc := 72) hX dX0_findDeeds_72 rfl ?_
          refine gi_iadd (pc := 73) hX dX0_findDeeds_73 ?_
          refine gi_aload_n (pc := 74) hX dX0_findDeeds_74 rfl ?_
          refine pg_cl (pc := 75) hX dX0_findDeeds_75 ?_
          refine gi_iload_n (pc := 78) hX dX0_findDeeds_78 rfl ?_
          refine pl_cl (pc := 79) _ hX dX0_findDeeds_79 rfl (by omega) ?_
          refine ps_db (pc := 80) (15 * l + d) hX dX0_findDeeds_80 (by rw [pk_mul, nI_add]) (by omega) ?_
          refine gi_iconst (pc := 81) (nI 0) hX dX0_findDeeds_81 (by decide) ?_
          refine gi_istore_n (pc := 82) 3 rfl hX dX0_findDeeds_82 rfl rfl ?_
          dsimp only [List.set]
          exact inner 0 (by omega) _ (by rw [pk_us]; exact fun e0 => ⟨Or.inl, fun z => z.elim id (fun y => absurd y.1 (by omega))⟩) (fun j hj => pk_un hj)
      refine gi_iconst (pc := 56) (nI 0) hX dX0_findDeeds_56 (by decide) ?_
      refine gi_istore_n (pc := 57) 2 rfl hX dX0_findDeeds_57 rfl rfl ?_
      dsimp only [List.set]
      exact loop2 0 (by omega) db (fun d0 hd0 => absurd hd0 (by omega)) (fun j _ => rfl)
    · have q0 := sp_lt (by omega) (by omega) c12
      refine gi_aload_n (pc := 15) hX dX0_findDeeds_15 rfl ?_
      refine gi_iload_n (pc := 16) hX dX0_findDeeds_16 rfl ?_
      refine gi_callI (pc := 17) hX (m_needsOf d (by omega)) cw_p_needsOf rfl rfl rfl rfl rfl rfl dX0_findDeeds_17 (fun r u hp => ?_)
      obtain ⟨rfl, rfl⟩ := hp
      refine gi_istore_n (pc := 20) 3 rfl hX dX0_findDeeds_20 rfl rfl ?_
      dsimp only [List.set]
      refine gi_aload_n (pc := 21) hX dX0_findDeeds_21 rfl ?_
      refine gi_iload_n (pc := 22) hX dX0_findDeeds_22 rfl ?_
      refine gi_callI (pc := 23) hX (m_exists d (by omega) hn) cw_p_exists rfl rfl rfl rfl rfl rfl dX0_findDeeds_23 (fun r u hp => ?_)
      obtain ⟨rfl, h1⟩ := hp
      refine gi_if_eq (pc := 26) 50 hX dX0_findDeeds_26 (by decide) (fun c26 => ?_) (fun c26 => ?_)
      · have q1 : ¬ (sp_ex P d ∧ sp_cbt (fa, da, fb, db, cl) (sp_nd P d) l) := fun z => h1.z.mp c26 z.1
        refine gi_drop 3 ?_
        dsimp only [List.set]
        refine gi_iinc (pc := 50) 2 _ hX dX0_findDeeds_50 rfl (gi_inc1 _) rfl rfl ?_
        dsimp only [List.set]
        refine gi_goto (pc := 53) 9 hX dX0_findDeeds_53 (by decide) ?_
        first
        | exact ih (d + 1) (by omega) (by omega) _ (sp_acc0 hv1 q1) hv2
        | exact ih (d + 1) (by omega) (by omega) _ (by rw [pk_us]; exact sp_acc1 (by omega) hv1 q1) (sp_up hv2)
      · refine gi_aload_n (pc := 29) hX dX0_findDeeds_29 rfl ?_
        refine gi_iload_n (pc := 30) hX dX0_findDeeds_30 rfl ?_
        refine gi_iload_n (pc := 31) hX dX0_findDeeds_31 rfl ?_
        refine gi_callI (pc := 32) hX (m_canBeTogether _ l (by omega)) cw_p_canBeTogether rfl rfl rfl rfl rfl rfl dX0_findDeeds_32 (fun r u hp => ?_)
        obtain ⟨rfl, h2⟩ := hp
        have h2 : b_tf r (sp_cbt (fa, da, fb, db, cl) (sp_nd P d) l) := h2
        refine gi_if_eq (pc := 35) 50 hX dX0_findDeeds_35 (by decide) (fun c35 => ?_) (fun c35 => ?_)
        · have q1 : ¬ (sp_ex P d ∧ sp_cbt (fa, da, fb, db, cl) (sp_nd P d) l) := fun z => h2.z.mp c35 z.2
          refine gi_drop 3 ?_
          dsimp only [List.set]
          refine gi_iinc (pc := 50) 2 _ hX dX0_findDeeds_50 rfl (gi_inc1 _) rfl rfl ?_
          dsimp only [List.set]
          refine gi_goto (pc := 53) 9 hX dX0_findDeeds_53 (by decide) ?_
          first
          | exact ih (d + 1) (by omega) (by omega) _ (sp_acc0 hv1 q1) hv2
          | exact ih (d + 1) (by omega) (by omega) _ (by rw [pk_us]; exact sp_acc1 (by omega) hv1 q1) (sp_up hv2)
        · have q1 : (sp_ex P d ∧ sp_cbt (fa, da, fb, db, cl) (sp_nd P d) l) := ⟨h1.nz.mp c26, h2.nz.mp c35⟩
          refine gi_aload_n (pc := 38) hX dX0_findDeeds_38 rfl ?_
          refine pg_da (pc := 39) hX dX0_findDeeds_39 ?_
          refine gi_iload_n (pc := 42) hX dX0_findDeeds_42 rfl ?_
          refine gi_dup2 (pc := 43) hX dX0_findDeeds_43 rfl rfl ?_
          refine pl_da (pc := 44) _ hX dX0_findDeeds_44 rfl (by omega) ?_
          refine gi_iconst (pc := 45) (nI 1) hX dX0_findDeeds_45 (by decide) ?_
          refine gi_iload_n (pc := 46) hX dX0_findDeeds_46 rfl ?_
          refine gi_ishl (pc := 47) hX dX0_findDeeds_47 ?_
          refine gi_ior (pc := 48) hX dX0_findDeeds_48 ?_
          refine ps_da (pc := 49) _ hX dX0_findDeeds_49 rfl (by omega) ?_
          refine gi_drop 3 ?_
          dsimp only [List.set]
          refine gi_iinc (pc := 50) 2 _ hX dX0_findDeeds_50 rfl (gi_inc1 _) rfl rfl ?_
          dsimp only [List.set]
          refine gi_goto (pc := 53) 9 hX dX0_findDeeds_53 (by decide) ?_
          first
          | exact ih (d + 1) (by omega) (by omega) _ (sp_acc0 hv1 q1) hv2
          | exact ih (d + 1) (by omega) (by omega) _ (by rw [pk_us]; exact sp_acc1 (by omega) hv1 q1) (sp_up hv2)
  refine gi_aload_n (pc := 0) hX dX0_findDeeds_0 rfl ?_
  refine pg_da (pc := 1) hX dX0_findDeeds_1 ?_
  refine gi_iload_n (pc := 4) hX dX0_findDeeds_4 rfl ?_
  refine gi_iconst (pc := 5) (nI 0) hX dX0_findDeeds_5 (by decide) ?_
  refine ps_da (pc := 6) _ hX dX0_findDeeds_6 rfl (by omega) ?_
  refine gi_iconst (pc := 7) (nI 0) hX dX0_findDeeds_7 (by decide) ?_
  refine gi_istore_n (pc := 8) 2 rfl hX dX0_findDeeds_8 rfl rfl ?_
  dsimp only [List.set]
  exact loop 0 (by omega) _ (by rw [pk_us]; exact sp_accZ) (fun j hj => pk_un hj)
end
section
/-! PURE: states, layers, the graph; no machine here -/
set_option maxRecDepth 100000
def sp_B8 (x : Int32) : Prop := ∀ i, 8 ≤ i → bt x i = false
def sp_ok (P : pw_P) : Prop := P.1 ≤ 7 ∧ (∀ i, i < 7 → sp_B8 (P.2.1 i) ∧ sp_B8 (P.2.2.1 i) ∧ sp_B8 (P.2.2.2.1 i)) ∧ sp_B8 P.2.2.2.2
/-- a state had after just k layers -/
def sp_R (P : pw_P) (s0 : Int32) : Nat → Int32 → Prop
  | 0, s => s = s0
  | k + 1, s => ∃ (s1 : Int32) (layer : Nat), sp_R P s0 k s1 ∧ layer < 2 ^ P.1 ∧ sp_lay P (nI layer) s1 ∧ sp_nx P (nI layer) s1 s
/-- a state with all of these facts is had after just k layers -/
def sp_sv (P : pw_P) (s0 : Int32) (k : Nat) (g : Int32) : Prop := ∃ s, sp_R P s0 k s ∧ b_sub g s
def sp_gcl (P : pw_P) (Gr : pw_G) : Prop := ∀ d, d < 15 → ∀ e, bt (Gr.2.2.2.2 d) e = true ↔ e < 15 ∧ (d ≠ e ∧ sp_ex P d ∧ sp_ex P e ∧ sp_cl P d e)
def sp_gok (P : pw_P) (Gr : pw_G) : Prop := Gr.1 0 = P.2.2.2.2 ∧ (∀ f, f < 8 → Gr.2.2.1 f = nI 0) ∧ sp_gcl P Gr ∧ ∀ l, l < 8 → sp_dd P Gr l ∧ sp_db P Gr l ∧ sp_ff P Gr l ∧ sp_fb P Gr l
def sp_mark (A : pw_J) (l g : Nat) : Prop := (A (4 * l + g / 64)).toBitVec.getLsbD (g % 64) = true
def sp_mok (P : pw_P) (M : pw_M) : Prop := ∀ l g, l < 9 → g < 256 → (sp_mark M.1 l g → ¬ sp_sv P P.2.2.2.2 l (nI g)) ∧ (sp_mark M.2 l g → sp_sv P P.2.2.2.2 l (nI g))
theorem sp_B8_set {x : Int32} : sp_set x ↔ sp_B8 x := b_byte
theorem sp_B8_nat {x : Int32} (h : sp_B8 x) : ∃ g, g < 256 ∧ x = nI g := by
  obtain ⟨h1, h2⟩ := b_byte.mpr h
  obtain ⟨j, hj, e⟩ := nI_of2 (M := nI 255) (n := 255) (by decide) h1 (by
    rw [Int32.le_iff_toInt_le]
    rw [Int32.lt_iff_toInt_lt] at h2
    omega)
  exact ⟨j, by omega, e⟩
theorem sp_nat_B8 {g : Nat} (h : g < 256) : sp_B8 (nI g) := b_byte.mp ⟨nI_pos (by omega), nI_nlt (by omega) (by omega)⟩
theorem sp_B8_sh {n : Nat} (h : n < 8) : sp_B8 (b_sh n) := fun i hi => by
  rw [b_shi (by omega), decide_eq_false (by omega)]
theorem sp_B8_lt {x : Int32} (h : sp_B8 x) {i : Nat} (hi : bt x i = true) : i < 8 := by
  rcases Nat.lt_or_ge i 8 with z | z
  · exact z
  · rw [h i z] at hi; cases hi
theorem sp_B8_nd {P : pw_P} (h : sp_ok P) {d : Nat} (hd : d < 15) : sp_B8 (sp_nd P d) := by
  unfold sp_nd
  split
  · rename_i z; exact (h.2.1 d z).1
  · exact sp_B8_sh (by omega)
theorem sp_B8_gn {P : pw_P} (h : sp_ok P) {d : Nat} (hd : d < 15) : sp_B8 (sp_gn P d) := by
  unfold sp_gn
  split
  · rename_i z; exact (h.2.1 d z).2.1
  · exact sp_B8_sh (by omega)
theorem b_comp (Q : Nat → Prop) : ∀ n, n ≤ 32 → ∃ x : Int32, ∀ e, bt x e = true ↔ e < n ∧ Q e := by
  intro n
  induction n with
  | zero => intro _; exact ⟨nI 0, sp_accZ⟩
  | succ n ih =>
    intro h
    obtain ⟨x, hx⟩ := ih (by omega)
    by_cases q : Q n
    · exact ⟨_, sp_acc1 (by omega) hx q⟩
    · exact ⟨x, sp_acc0 hx q⟩
/-- a layer, as a number, of any actions -/
theorem sp_layer (n : Nat) (hn : n ≤ 7) (Q : Nat → Prop) : ∃ y : Nat, y < 2 ^ n ∧ ∀ i, i < n → (bt (nI y) i = true ↔ Q i) := by
  obtain ⟨x, hx⟩ := b_comp Q n (by omega)
  have h8 : sp_B8 x := fun i hi => by
    cases e : bt x i with
    | false => rfl
    | true => have := ((hx i).mp e).1; omega
  obtain ⟨g, hg, rfl⟩ := sp_B8_nat h8
  refine ⟨g, ?_, fun i hi => by rw [hx i]; exact ⟨fun h => h.2, fun h => ⟨hi, h⟩⟩⟩
  apply Nat.lt_pow_two_of_testBit
  intro i hi
  rcases Nat.lt_or_ge i 32 with z | z
  · rw [← b_nI z]
    cases e : bt (nI g) i with
    | false => rfl
    | true => have := ((hx i).mp e).1; omega
  · exact Nat.testBit_lt_two_pow (Nat.lt_of_lt_of_le (show g < 2 ^ 8 by omega) (Nat.pow_le_pow_right (by omega) (by omega)))
/-- the deeds of a layer: its actions, and to keep what stays -/
def sp_D (P : pw_P) (layer st : Int32) (d : Nat) : Prop := (d < P.1 ∧ bt layer d = true) ∨ (7 ≤ d ∧ d < 15 ∧ bt st (d - 7) = true ∧ ∀ i, i < P.1 → bt layer i = true → bt (P.2.2.2.1 i) (d - 7) = false)
theorem sp_D1 {P : pw_P} (h : sp_ok P) {layer st : Int32} (hl : sp_lay P layer st) {d : Nat} (hd : sp_D P layer st d) : d < 15 ∧ sp_ex P d ∧ b_sub (sp_nd P d) st := by
  have h7 := h.1
  rcases hd with ⟨h1, h2⟩ | ⟨h1, h2, h3, -⟩
  · refine ⟨by omega, Or.inr h1, ?_⟩
    unfold sp_nd
    rw [if_pos (by omega)]
    exact (hl d h1 h2).1
  · refine ⟨h2, Or.inl h1, ?_⟩
    unfold sp_nd
    rw [if_neg (by omega)]
    intro i hi
    rw [b_shi (by omega), decide_eq_true_iff] at hi
    rw [hi]; exact h3
theorem sp_D2a {P : pw_P} (h : sp_ok P) {layer st : Int32} (hl : sp_lay P layer st) {d e : Nat} (hd : sp_D P layer st d) (he : sp_D P layer st e) (hne : d ≠ e) : sp_ls P d &&& (sp_nd P e ||| sp_gn P e) = 0 := by
  have h7 := h.1
  rcases hd with ⟨h1, h2⟩ | ⟨h1, h2, h3, h4⟩
  · rcases he with ⟨k1, k2⟩ | ⟨k1, k2, k3, k4⟩
    · rcases Nat.lt_or_ge e d with z | z
      · have := (hl d h1 h2).2 e z k2
        exact (Classical.not_not.mp this).1
      · have := (hl e k1 k2).2 d (by omega) h2
        exact (Classical.not_not.mp this).2
    · have k5 := k4 d h1 h2
      rw [b_adz]
      intro i hi
      unfold sp_ls at hi
      rw [if_pos (by omega)] at hi
      unfold sp_nd sp_gn
      rw [if_neg (by omega), if_neg (by omega), b_or, b_shi (by omega)]
      by_cases z : i = e - 7
      · rw [z, k5] at hi; cases hi
      · rw [decide_eq_false z]; rfl
  · unfold sp_ls
    rw [if_neg (by omega), b_adz]
    intro i hi
    rw [b_n0] at hi; cases hi
theorem sp_D2 {P : pw_P} (h : sp_ok P) {layer st : Int32} (hl : sp_lay P layer st) {d e : Nat} (hd : sp_D P layer st d) (he : sp_D P layer st e) (hne : d ≠ e) : ¬ sp_cl P d e := fun z => z ⟨sp_D2a h hl hd he hne, sp_D2a h hl he hd (Ne.symm hne)⟩
theorem sp_D3 {P : pw_P} (h : sp_ok P) {layer st s : Int32} (hx : sp_nx P layer st s) {f : Nat} (hf : f < 8) (hs : bt s f = true) : ∃ d, sp_D P layer st d ∧ bt (sp_gn P d) f = true := by
  have h7 := h.1
  rcases (hx f).mp hs with ⟨h1, h2⟩ | ⟨i, h1, h2, h3⟩
  · refine ⟨f + 7, Or.inr ⟨by omega, by omega, by rw [Nat.add_sub_cancel]; exact h1, by rw [Nat.add_sub_cancel]; exact h2⟩, ?_⟩
    unfold sp_gn
    rw [if_neg (by omega), Nat.add_sub_cancel, b_shi (by omega), decide_eq_true rfl]
  · refine ⟨i, Or.inl ⟨h1, h2⟩, ?_⟩
    unfold sp_gn
    rw [if_pos (by omega)]
    exact h3
theorem sp_nx8 {P : pw_P} (h : sp_ok P) {layer st s : Int32} (hx : sp_nx P layer st s) (h8 : sp_B8 st) : sp_B8 s := by
  intro i hi
  cases e : bt s i with
  | false => rfl
  | true =>
    rcases (hx i).mp e with ⟨h1, -⟩ | ⟨j, h1, -, h3⟩
    · rw [h8 i hi] at h1; cases h1
    · have h7 := h.1
      rw [(h.2.1 j (by omega)).2.1 i hi] at h3; cases h3
theorem sp_R8 {P : pw_P} (h : sp_ok P) {s0 : Int32} (h0 : sp_B8 s0) : ∀ (k : Nat) (s : Int32), sp_R P s0 k s → sp_B8 s := by
  intro k
  induction k with
  | zero => intro s hs; have hs : s = s0 := hs; rw [hs]; exact h0
  | succ k ih =>
    intro s hs
    obtain ⟨s1, layer, h1, -, -, h4⟩ := hs
    exact sp_nx8 h h4 (ih s1 h1)
theorem sp_nx_ex {P : pw_P} (layer st : Int32) : ∃ s, sp_nx P layer st s := by
  obtain ⟨x, hx⟩ := b_comp (fun f => (bt st f = true ∧ ∀ i, i < P.1 → bt layer i = true → bt (P.2.2.2.1 i) f = false) ∨ ∃ i, i < P.1 ∧ bt layer i = true ∧ bt (P.2.2.1 i) f = true) 32 (by omega)
  refine ⟨x, fun f => ?_⟩
  rw [hx f]
  refine ⟨fun h => h.2, fun h => ⟨?_, h⟩⟩
  rcases h with ⟨h, -⟩ | ⟨i, -, -, h⟩
  · exact b_lt h
  · exact b_lt h
theorem sp_nx_un {P : pw_P} {layer st s t : Int32} (h : sp_nx P layer st s) (g : sp_nx P layer st t) : s = t := by
  refine b_ext (fun i _ => ?_)
  have := (h i).trans (g i).symm
  cases e : bt s i <;> cases e2 : bt t i <;> simp [e, e2] at this ⊢
/-- a layer's deeds stand in the graph and bar none of each other, if what can be had can be together -/
theorem sp_DG {P : pw_P} {Gr : pw_G} (h : sp_ok P) (hg : sp_gok P Gr) {m : Nat} (hm : m < 8) {layer st : Int32} (hl : sp_lay P layer st) (hc : ∀ set, b_sub set st → sp_cbt Gr set m) : (∀ d, sp_D P layer st d → d < 15 ∧ bt (Gr.2.1 m) d = true) ∧ ∀ d e, sp_D P layer st d → sp_D P layer st e → bt (Gr.2.2.2.1 (15 * m + d)) e = false := by
  obtain ⟨-, -, gc, gl⟩ := hg
  obtain ⟨g1, g2, -, -⟩ := gl m hm
  refine ⟨fun d hd => ?_, fun d e hd he => ?_⟩
  · obtain ⟨a1, a2, a3⟩ := sp_D1 h hl hd
    exact ⟨a1, (g1 d).mpr ⟨a1, a2, hc _ a3⟩⟩
  · obtain ⟨a1, a2, a3⟩ := sp_D1 h hl hd
    obtain ⟨b1, b2, b3⟩ := sp_D1 h hl he
    cases z : bt (Gr.2.2.2.1 (15 * m + d)) e with
    | false => rfl
    | true =>
      rcases (g2 d a1 e).mp z with y | ⟨-, y1, -, y3⟩
      · obtain ⟨-, y1, -, -, y4⟩ := (gc d a1 e).mp y
        exact absurd y4 (sp_D2 h hl hd he y1)
      · exact absurd (hc _ (b_sub_or.mpr ⟨a3, b3⟩)) y3
/-- what can be had can be together -/
theorem sp_GS {P : pw_P} {Gr : pw_G} (h : sp_ok P) (hg : sp_gok P Gr) : ∀ k, k ≤ 8 → ∀ s, sp_R P P.2.2.2.2 k s → ∀ set, b_sub set s → sp_cbt Gr set k := by
  intro k
  induction k with
  | zero =>
    intro _ s hs set hsub
    have hs : s = P.2.2.2.2 := hs
    refine ⟨by rw [hg.1, ← hs]; exact hsub, fun f hf _ => ?_⟩
    rw [show 8 * 0 + f = f by omega, hg.2.1 f hf, b_adz]
    intro i hi
    rw [b_n0] at hi; cases hi
  | succ k ih =>
    intro hk s hs set hsub
    obtain ⟨s1, layer, h1, h2, h3, h4⟩ := hs
    have h8 := sp_nx8 h h4 (sp_R8 h h.2.2 k s1 h1)
    obtain ⟨d1, d2⟩ := sp_DG h hg (show k < 8 by omega) h3 (ih (by omega) s1 h1)
    obtain ⟨-, -, -, gl⟩ := hg
    obtain ⟨-, -, g3, g4⟩ := gl k (by omega)
    have mk : ∀ f, bt s f = true → ∃ d, sp_D P (nI layer) s1 d ∧ sp_mk P Gr f k d := fun f hf => by
      obtain ⟨d, a1, a2⟩ := sp_D3 h h4 (sp_B8_lt h8 hf) hf
      exact ⟨d, a1, (d1 d a1).1, (d1 d a1).2, a2⟩
    refine ⟨fun f hf => ?_, fun f hf hs1 => ?_⟩
    · obtain ⟨d, -, m⟩ := mk f (hsub f hf)
      exact (g3 f).mpr ⟨sp_B8_lt h8 (hsub f hf), d, m⟩
    · rw [show 8 * (k + 1) + f = 8 * k + 8 + f by omega, b_adz]
      intro g hg1
      cases hg2 : bt set g with
      | false => rfl
      | true =>
        obtain ⟨-, -, -, ab⟩ := (g4 f hf g).mp hg1
        obtain ⟨d, y1, y2⟩ := mk f (hsub f hs1)
        obtain ⟨e, z1, z2⟩ := mk g (hsub g hg2)
        have := ab d y2 e z2
        rw [d2 d e y1 z1] at this
        cases this
/-- the search at a layer can be ended: the facts o are still without a deed, the deeds ch are chosen -/
def sp_ext (P : pw_P) (Gr : pw_G) (m : Nat) (o ch : Int32) : Prop := ∃ D : Nat → Prop, (∀ d, bt ch d = true → D d) ∧ (∀ d, D d → d < 15 ∧ bt (Gr.2.1 m) d = true) ∧ (∀ d e, D d → D e → bt (Gr.2.2.2.1 (15 * m + d)) e = false) ∧ (∀ f, bt o f = true → ∃ d, D d ∧ bt (sp_gn P d) f = true) ∧ ∃ s, sp_R P P.2.2.2.2 m s ∧ ∀ d, D d → b_sub (sp_nd P d) s
theorem sp_sv_ext {P : pw_P} {Gr : pw_G} (h : sp_ok P) (hg : sp_gok P Gr) {m : Nat} (hm : m < 8) {g : Int32} (hs : sp_sv P P.2.2.2.2 (m + 1) g) : sp_ext P Gr m g (nI 0) := by
  obtain ⟨s, ⟨s1, layer, h1, h2, h3, h4⟩, hsub⟩ := hs
  have h8 := sp_nx8 h h4 (sp_R8 h h.2.2 m s1 h1)
  obtain ⟨d1, d2⟩ := sp_DG h hg hm h3 (sp_GS h hg m (by omega) s1 h1)
  refine ⟨sp_D P (nI layer) s1, fun d hd => absurd hd (b_nt (b_n0 d)), d1, d2, fun f hf => sp_D3 h h4 (sp_B8_lt h8 (hsub f hf)) (hsub f hf), s1, h1, fun d hd => (sp_D1 h h3 hd).2.2⟩
theorem sp_ext_sv {P : pw_P} {Gr : pw_G} (h : sp_ok P) (hg : sp_gok P Gr) {m : Nat} (hm : m < 8) {g ch : Int32} (he : sp_ext P Gr m g ch) : sp_sv P P.2.2.2.2 (m + 1) g := by
  obtain ⟨D, -, d1, d2, d3, s1, h1, d4⟩ := he
  obtain ⟨-, -, gc, gl⟩ := hg
  obtain ⟨g1, g2, -, -⟩ := gl m hm
  have h7 := h.1
  obtain ⟨y, hy1, hy2⟩ := sp_layer P.1 h7 D
  obtain ⟨s, hs⟩ := sp_nx_ex (P := P) (nI y) s1
  have hex : ∀ d, D d → sp_ex P d := fun d hd => ((g1 d).mp (d1 d hd).2).2.1
  have hncl : ∀ d e, D d → D e → d ≠ e → ¬ sp_cl P d e := by
    intro d e hd he hne hcl
    have := (g2 d (d1 d hd).1 e).mpr (Or.inl ((gc d (d1 d hd).1 e).mpr ⟨(d1 e he).1, hne, hex d hd, hex e he, hcl⟩))
    rw [d2 d e hd he] at this
    cases this
  refine ⟨s, ⟨s1, y, h1, hy1, fun i hi hb => ?_, hs⟩, fun f hf => ?_⟩
  · have hD := (hy2 i hi).mp hb
    refine ⟨?_, fun j hj hbj => hncl i j hD ((hy2 j (by omega)).mp hbj) (by omega)⟩
    have := d4 i hD
    unfold sp_nd at this
    rw [if_pos (by omega)] at this
    exact this
  · obtain ⟨d, hd, hgn⟩ := d3 f hf
    rw [hs f]
    have hx := hex d hd
    have hlt := (d1 d hd).1
    by_cases z : d < 7
    · right
      have hdn : d < P.1 := by rcases hx with q | q <;> omega
      unfold sp_gn at hgn
      rw [if_pos z] at hgn
      exact ⟨d, hdn, (hy2 d hdn).mpr hd, hgn⟩
    · left
      unfold sp_gn at hgn
      rw [if_neg z, b_shi (by omega), decide_eq_true_iff] at hgn
      have hn := d4 d hd
      unfold sp_nd at hn
      rw [if_neg z] at hn
      have hst : bt s1 f = true := hn f (by rw [b_shi (by omega), hgn, decide_eq_true rfl])
      refine ⟨hst, fun i hi hb => ?_⟩
      have hDi := (hy2 i hi).mp hb
      have hnc := Classical.not_not.mp (hncl i d hDi hd (by omega))
      cases q : bt (P.2.2.2.1 i) f with
      | false => rfl
      | true =>
        have q1 := b_adz.mp hnc.1 f (by unfold sp_ls; rw [if_pos (by omega)]; exact q)
        unfold sp_nd at q1
        rw [if_neg z, b_or, b_shi (by omega), hgn, decide_eq_true rfl] at q1
        cases q1
/-- a fact that no deed can serve any more -/
theorem sp_E1 {P : pw_P} {Gr : pw_G} {m : Nat} {o ch : Int32} {f : Nat} (hf : bt o f = true) (hd : ∀ d, sp_mk P Gr f m d → Gr.2.2.2.1 (15 * m + d) &&& ch = 0 → ¬ sp_ext P Gr m (o &&& (sp_gn P d ^^^ -1)) (ch ||| b_sh d)) : ¬ sp_ext P Gr m o ch := by
  rintro ⟨D, a1, a2, a3, a4, s, a5, a6⟩
  obtain ⟨d, b1, b2⟩ := a4 f hf
  obtain ⟨c1, c2⟩ := a2 d b1
  refine hd d ⟨c1, c2, b2⟩ ?_ ⟨D, fun e he => ?_, a2, a3, fun g hg => a4 g ?_, s, a5, a6⟩
  · rw [b_adz]
    intro e he
    cases z : bt ch e with
    | false => rfl
    | true => rw [a3 d e b1 (a1 e z)] at he; cases he
  · rw [b_or, Bool.or_eq_true, b_shi (by omega), decide_eq_true_iff] at he
    rcases he with he | he
    · exact a1 e he
    · rw [he]; exact b1
  · rw [b_and, Bool.and_eq_true] at hg
    exact hg.1
/-- what is needed by the deeds chosen -/
def sp_need (P : pw_P) (ch nx : Int32) : Prop := ∀ f, bt nx f = true ↔ ∃ d, d < 15 ∧ bt ch d = true ∧ bt (sp_nd P d) f = true
theorem sp_E2 {P : pw_P} {Gr : pw_G} {m : Nat} {o ch nx : Int32} (hn : sp_need P ch nx) (hs : ¬ sp_sv P P.2.2.2.2 m nx) : ¬ sp_ext P Gr m o ch := by
  rintro ⟨D, a1, a2, a3, a4, s, a5, a6⟩
  refine hs ⟨s, a5, fun f hf => ?_⟩
  obtain ⟨d, -, b2, b3⟩ := (hn f).mp hf
  exact a6 d (a1 d b2) f b3
/-- the state of the search at a layer is sound -/
def sp_sok (P : pw_P) (Gr : pw_G) (m : Nat) (w o ch : Int32) : Prop := sp_B8 w ∧ sp_B8 o ∧ (∀ d, bt ch d = true → d < 15 ∧ bt (Gr.2.1 m) d = true) ∧ (∀ d e, bt ch d = true → bt ch e = true → bt (Gr.2.2.2.1 (15 * m + d)) e = false) ∧ ∀ f, bt w f = true → bt o f = true ∨ ∃ d, bt ch d = true ∧ bt (sp_gn P d) f = true
theorem sp_E3 {P : pw_P} {Gr : pw_G} {m : Nat} {w o ch nx : Int32} (hk : sp_sok P Gr m w o ch) (ho : o = 0) (hn : sp_need P ch nx) (hs : sp_sv P P.2.2.2.2 m nx) : sp_ext P Gr m w (nI 0) := by
  obtain ⟨s, h1, h2⟩ := hs
  obtain ⟨-, -, k1, k2, k3⟩ := hk
  refine ⟨fun d => bt ch d = true, fun d hd => absurd hd (b_nt (b_n0 d)), k1, k2, fun f hf => ?_, s, h1, fun d hd f hf => h2 f ((hn f).mpr ⟨d, (k1 d hd).1, hd, hf⟩)⟩
  rcases k3 f hf with z | z
  · rw [ho, b_0] at z; cases z
  · exact z
end
section
/-! CONTRACT: build -/
set_option maxRecDepth 100000
/-- the graph up to a layer -/
def sp_gl (P : pw_P) (Gr : pw_G) (l : Nat) : Prop := Gr.1 0 = P.2.2.2.2 ∧ (∀ f, f < 8 → Gr.2.2.1 f = nI 0) ∧ sp_gcl P Gr ∧ ∀ l0, l0 < l → sp_dd P Gr l0 ∧ sp_db P Gr l0 ∧ sp_ff P Gr l0 ∧ sp_fb P Gr l0
theorem sp_cb_c {G1 G2 : pw_G} {l : Nat} (e1 : G1.1 l = G2.1 l) (e2 : ∀ f, f < 8 → G1.2.2.1 (8 * l + f) = G2.2.2.1 (8 * l + f)) (set : Int32) : sp_cbt G1 set l ↔ sp_cbt G2 set l := by
  unfold sp_cbt
  rw [e1]
  exact and_congr Iff.rfl ⟨fun h f hf hb => by rw [← e2 f hf]; exact h f hf hb, fun h f hf hb => by rw [e2 f hf]; exact h f hf hb⟩
theorem sp_mk_c {P : pw_P} {G1 G2 : pw_G} {l : Nat} (e : G1.2.1 l = G2.2.1 l) (f d : Nat) : sp_mk P G1 f l d ↔ sp_mk P G2 f l d := by
  unfold sp_mk
  rw [e]
theorem sp_ab_c {P : pw_P} {G1 G2 : pw_G} {l : Nat} (e : G1.2.1 l = G2.2.1 l) (e2 : ∀ d, d < 15 → G1.2.2.2.1 (15 * l + d) = G2.2.2.2.1 (15 * l + d)) (f g : Nat) : sp_ab P G1 f g l ↔ sp_ab P G2 f g l := by
  unfold sp_ab
  constructor
  · intro h d m1 d2 m2
    rw [← e2 d m1.1]
    exact h d ((sp_mk_c e f d).mpr m1) d2 ((sp_mk_c e g d2).mpr m2)
  · intro h d m1 d2 m2
    rw [e2 d m1.1]
    exact h d ((sp_mk_c e f d).mp m1) d2 ((sp_mk_c e g d2).mp m2)
theorem sp_lay_c {P : pw_P} {G1 G2 : pw_G} {l : Nat} (a1 : G1.1 l = G2.1 l) (a2 : ∀ f, f < 8 → G1.2.2.1 (8 * l + f) = G2.2.2.1 (8 * l + f)) (a3 : G1.2.1 l = G2.2.1 l) (a4 : ∀ d, d < 15 → G1.2.2.2.1 (15 * l + d) = G2.2.2.2.1 (15 * l + d)) (a5 : G1.2.2.2.2 = G2.2.2.2.2) :
    (sp_dd P G2 l → sp_dd P G1 l) ∧ (sp_db P G2 l → sp_db P G1 l) := by
  refine ⟨fun h d => ?_, fun h d hd e => ?_⟩
  · rw [a3, h d, sp_cb_c a1 a2]
  · rw [a4 d hd, a5, h d hd e]
    unfold sp_dr
    rw [a3, sp_cb_c a1 a2]
theorem sp_lay_d {P : pw_P} {G1 G2 : pw_G} {l : Nat} (a1 : G1.1 (l + 1) = G2.1 (l + 1)) (a2 : ∀ f, f < 8 → G1.2.2.1 (8 * l + 8 + f) = G2.2.2.1 (8 * l + 8 + f)) (a3 : G1.2.1 l = G2.2.1 l) (a4 : ∀ d, d < 15 → G1.2.2.2.1 (15 * l + d) = G2.2.2.2.1 (15 * l + d)) :
    (sp_ff P G2 l → sp_ff P G1 l) ∧ (sp_fb P G2 l → sp_fb P G1 l) := by
  refine ⟨fun h f => ?_, fun h f hf g => ?_⟩
  · rw [a1, h f]
    exact and_congr Iff.rfl ⟨fun ⟨d, m⟩ => ⟨d, (sp_mk_c a3 f d).mpr m⟩, fun ⟨d, m⟩ => ⟨d, (sp_mk_c a3 f d).mp m⟩⟩
  · rw [a2 f hf, h f hf g]
    unfold sp_fr
    rw [a1, sp_ab_c a3 a4]
theorem sp_gl1 {P : pw_P} {fa da fb db cl da1 db1 : pw_F} {l : Nat} (h : sp_gl P (fa, da, fb, db, cl) l) (h1 : ∀ j, j ≠ l → da1 j = da j) (h2 : ∀ j, (∀ d, d < 15 → j ≠ 15 * l + d) → db1 j = db j) : sp_gl P (fa, da1, fb, db1, cl) l := by
  obtain ⟨a1, a2, a3, a4⟩ := h
  refine ⟨a1, a2, a3, fun l0 hl0 => ?_⟩
  obtain ⟨b1, b2, b3, b4⟩ := a4 l0 hl0
  have e1 : da1 l0 = da l0 := h1 l0 (by omega)
  have e2 : ∀ d, d < 15 → db1 (15 * l0 + d) = db (15 * l0 + d) := fun d hd => h2 _ (fun d2 hd2 => by omega)
  have c := sp_lay_c (P := P) (G1 := (fa, da1, fb, db1, cl)) (G2 := (fa, da, fb, db, cl)) (l := l0) rfl (fun _ _ => rfl) e1 e2 rfl
  have c2 := sp_lay_d (P := P) (G1 := (fa, da1, fb, db1, cl)) (G2 := (fa, da, fb, db, cl)) (l := l0) rfl (fun _ _ => rfl) e1 e2
  exact ⟨c.1 b1, c.2 b2, c2.1 b3, c2.2 b4⟩
theorem sp_gl2 {P : pw_P} {fa da fb db cl fa1 fb1 : pw_F} {l : Nat} (h : sp_gl P (fa, da, fb, db, cl) l) (k1 : sp_dd P (fa, da, fb, db, cl) l) (k2 : sp_db P (fa, da, fb, db, cl) l) (h1 : ∀ j, j ≠ l + 1 → fa1 j = fa j) (h2 : ∀ j, (∀ f, f < 8 → j ≠ 8 * l + 8 + f) → fb1 j = fb j) (k3 : sp_ff P (fa1, da, fb1, db, cl) l) (k4 : sp_fb P (fa1, da, fb1, db, cl) l) : sp_gl P (fa1, da, fb1, db, cl) (l + 1) := by
  obtain ⟨a1, a2, a3, a4⟩ := h
  refine ⟨?_, fun f hf => ?_, a3, fun l0 hl0 => ?_⟩
  · show fa1 0 = _
    rw [h1 0 (by omega)]; exact a1
  · show fb1 f = _
    rw [h2 f (fun f2 hf2 => by omega)]; exact a2 f hf
  · have e1 : fa1 l0 = fa l0 := h1 l0 (by omega)
    have e2 : ∀ f, f < 8 → fb1 (8 * l0 + f) = fb (8 * l0 + f) := fun f hf => h2 _ (fun f2 hf2 => by omega)
    have c := sp_lay_c (P := P) (G1 := (fa1, da, fb1, db, cl)) (G2 := (fa, da, fb, db, cl)) (l := l0) e1 e2 rfl (fun _ _ => rfl) rfl
    rcases Nat.lt_or_ge l0 l with z | z
    · obtain ⟨b1, b2, b3, b4⟩ := a4 l0 z
      have c2 := sp_lay_d (P := P) (G1 := (fa1, da, fb1, db, cl)) (G2 := (fa, da, fb, db, cl)) (l := l0) (h1 _ (by omega)) (fun f hf => h2 _ (fun f2 hf2 => by omega)) rfl (fun _ _ => rfl)
      exact ⟨c.1 b1, c.2 b2, c2.1 b3, c2.2 b4⟩
    · have : l0 = l := by omega
      subst this
      exact ⟨c.1 k1, c.2 k2, k3, k4⟩
theorem sp_mok0 {P : pw_P} {fl sv : pw_J} (h : ∀ j, j < 36 → fl j = 0 ∧ sv j = 0) : sp_mok P (fl, sv) := by
  intro l g hl hg
  obtain ⟨h1, h2⟩ := h (4 * l + g / 64) (by omega)
  refine ⟨fun z => ?_, fun z => ?_⟩
  · unfold sp_mark at z
    rw [show ((fl, sv) : pw_M).1 (4 * l + g / 64) = 0 from h1] at z
    rw [show (0 : Int64).toBitVec = 0#64 from rfl, BitVec.getLsbD_zero] at z
    cases z
  · unfold sp_mark at z
    rw [show ((fl, sv) : pw_M).2 (4 * l + g / 64) = 0 from h2] at z
    rw [show (0 : Int64).toBitVec = 0#64 from rfl, BitVec.getLsbD_zero] at z
    cases z
theorem sp_zero2 {fl sv : pw_J} {w : Nat} (h : ∀ j, j < w → fl j = 0 ∧ sv j = 0) : ∀ j, j < w + 1 → (vp_updL fl w 0) j = 0 ∧ (vp_updL sv w 0) j = 0 := by
  intro j hj
  by_cases e : j = w
  · subst e; exact ⟨pk_uLs, pk_uLs⟩
  · rw [pk_uLn e, pk_uLn e]; exact h j (by omega)
theorem sp_zero1 {fb : pw_F} {w : Nat} (h : ∀ j, j < w → fb j = nI 0) : ∀ j, j < w + 1 → (upd fb w (nI 0)) j = nI 0 := by
  intro j hj
  by_cases e : j = w
  · subst e; exact pk_us
  · rw [pk_un e]; exact h j (by omega)
set_option maxHeartbeats 4000000 in
theorem m_build {a : Nat → Nat} {k : gx_C} {P : pw_P} {B : Nat} {fa da fb db cl : pw_F} {fl sv : pw_J} {T : pw_T} (hP : sp_ok P) (hB : B = 0 ∨ (B = 1 ∧ sp_gok P (fa, da, fb, db, cl) ∧ sp_mok P (fl, sv))) : gx_CV k yX0_build cX0_build 3 (4, 104) [.ref (a 0)] (pw_W a k) (P, B, (fa, da, fb, db, cl), (fl, sv), T) (fun u => ∃ G1 M1, u = (P, 1, G1, M1, T) ∧ sp_gok P G1 ∧ sp_mok P M1) := by
  refine gx_CV.of (by decide) rfl rfl (fun X hX hR => ?_)
  have hX : gx_Ok X cX0_build RX0 k (4, 104) := hX
  show gx_G X (pw_W a k (P, B, (fa, da, fb, db, cl), (fl, sv), T)) 0 [some (.ref (a 0)), none, none] []
  have loop4 : ∀ cl1 : pw_F, ∀ fl1 sv1 : pw_J, (∀ j, j < 36 → fl1 j = 0 ∧ sv1 j = 0) → ∀ l, l ≤ 8 → ∀ fa1 da1 fb1 db1 : pw_F, sp_gl P (fa1, da1, fb1, db1, cl1) l → gx_G X (pw_W a k (P, 1, (fa1, da1, fb1, db1, cl1), (fl1, sv1), T)) 151 [some (.ref (a 0)), some (.int (nI l)), none] [] := by
    intro cl1 fl1 sv1 hm
    refine gx_up ?_
    intro l hl ih fa1 da1 fb1 db1 hg
    refine gi_iload_n (pc := 151) hX dX0_build_151 rfl ?_
    refine gi_bipush (pc := 152) (nI 8) hX dX0_build_152 (by decide) ?_
    refine gi_icmp_ge (pc := 154) 173 hX dX0_build_154 (by decide) (fun c154 => ?_) (fun c154 => ?_)
    · have q0 := sp_ge (by omega) (by omega) c154
      have q9 : l = 8 := by omega
      subst q9
      exact hR 173 _ _ dX0_build_173 ⟨_, _, rfl, hg, sp_mok0 hm⟩
    · have q0 := sp_lt (by omega) (by omega) c154
      refine gi_aload_n (pc := 157) hX dX0_build_157 rfl ?_
      refine gi_iload_n (pc := 158) hX dX0_build_158 rfl ?_
      refine gi_callV (pc := 159) hX (m_findDeeds l (by omega) hP.1) cw_p_findDeeds rfl rfl rfl rfl rfl rfl dX0_build_159 (fun u hp => ?_)
      obtain ⟨da2, db2, rfl, h1, h2, h3, h4⟩ := hp
      refine gi_aload_n (pc := 162) hX dX0_build_162 rfl ?_
      refine gi_iload_n (pc := 163) hX dX0_build_163 rfl ?_
      refine gi_callV (pc := 164) hX (m_findFacts l (by omega)) cw_p_findFacts rfl rfl rfl rfl rfl rfl dX0_build_164 (fun u hp => ?_)
      obtain ⟨fa2, fb2, rfl, h5, h6, h7, h8⟩ := hp
      refine gi_iinc (pc := 167) 1 _ hX dX0_build_167 rfl (gi_inc1 _) rfl rfl ?_
      dsimp only [List.set]
      refine gi_goto (pc := 170) 151 hX dX0_build_170 (by decide) ?_
      exact ih (l + 1) (by omega) (by omega) fa2 da2 fb2 db2 (sp_gl2 (sp_gl1 hg h1 h2) h3 h4 h5 h6 h7 h8)
  have loop3 : ∀ cl1 : pw_F, sp_gcl P (fa, da, fb, db, cl1) → ∀ fl1 sv1 : pw_J, (∀ j, j < 36 → fl1 j = 0 ∧ sv1 j = 0) → ∀ fa1 : pw_F, fa1 0 = P.2.2.2.2 → ∀ f, f ≤ 8 → ∀ fb1 : pw_F, (∀ j, j < f → fb1 j = nI 0) → gx_G X (pw_W a k (P, 1, (fa1, da, fb1, db, cl1), (fl1, sv1), T)) 130 [some (.ref (a 0)), some (.int (nI f)), none] [] := by
    intro cl1 hc fl1 sv1 hm fa1 h0
    refine gx_up ?_
    intro f hf ih fb1 hv
    refine gi_iload_n (pc := 130) hX dX0_build_130 rfl ?_
    refine gi_bipush (pc := 131) (nI 8) hX dX0_build_131 (by decide) ?_
    refine gi_icmp_ge (pc := 133) 149 hX dX0_build_133 (by decide) (fun c133 => ?_) (fun c133 => ?_)
    · have q0 := sp_ge (by omega) (by omega) c133
      have q9 : f = 8 := by omega
      subst q9
      refine gi_iconst (pc := 149) (nI 0) hX dX0_build_149 (by decide) ?_
      refine gi_istore_n (pc := 150) 1 rfl hX dX0_build_150 rfl rfl ?_
      dsimp only [List.set]
      exact loop4 cl1 fl1 sv1 hm 0 (by omega) _ _ _ _ ⟨h0, hv, hc, fun l0 hl0 => absurd hl0 (by omega)⟩
    · have q0 := sp_lt (by omega) (by omega) c133
      refine gi_aload_n (pc := 136) hX dX0_build_136 rfl ?_
      refine pg_fb (pc := 137) hX dX0_build_137 ?_
      refine gi_iload_n (pc := 140) hX dX0_build_140 rfl ?_
      refine gi_iconst (pc := 141) (nI 0) hX dX0_build_141 (by decide) ?_
      refine ps_fb (pc := 142) _ hX dX0_build_142 rfl (by omega) ?_
      refine gi_iinc (pc := 143) 1 _ hX dX0_build_143 rfl (gi_inc1 _) rfl rfl ?_
      dsimp only [List.set]
      refine gi_goto (pc := 146) 130 hX dX0_build_146 (by decide) ?_
      exact ih (f + 1) (by omega) (by omega) _ (sp_zero1 hv)
  have loop2 : ∀ cl1 : pw_F, sp_gcl P (fa, da, fb, db, cl1) → ∀ w, w ≤ 36 → ∀ fl1 sv1 : pw_J, (∀ j, j < w → fl1 j = 0 ∧ sv1 j = 0) → gx_G X (pw_W a k (P, 1, (fa, da, fb, db, cl1), (fl1, sv1), T)) 92 [some (.ref (a 0)), some (.int (nI w)), none] [] := by
    intro cl1 hc
    refine gx_up ?_
    intro w hw ih fl1 sv1 hv
    refine gi_iload_n (pc := 92) hX dX0_build_92 rfl ?_
    refine gi_bipush (pc := 93) (nI 36) hX dX0_build_93 (by decide) ?_
    refine gi_icmp_ge (pc := 95) 118 hX dX0_build_95 (by decide) (fun c95 => ?_) (fun c95 => ?_)
    · have q0 := sp_ge (by omega) (by omega) c95
      have q9 : w = 36 := by omega
      subst q9
      refine gi_aload_n (pc := 118) hX dX0_build_118 rfl ?_
      refine pg_fa (pc := 119) hX dX0_build_119 ?_
      refine gi_iconst (pc := 122) (nI 0) hX dX0_build_122 (by decide) ?_
      refine gi_aload_n (pc := 123) hX dX0_build_123 rfl ?_
      refine pg_ss (pc := 124) hX dX0_build_124 ?_
      refine ps_fa (pc := 127) _ hX dX0_build_127 rfl (by omega) ?_
      refine gi_iconst (pc := 128) (nI 0) hX dX0_build_128 (by decide) ?_
      refine gi_istore_n (pc := 129) 1 rfl hX dX0_build_129 rfl rfl ?_
      dsimp only [List.set]
      exact loop3 cl1 hc fl1 sv1 hv _ pk_us 0 (by omega) _ (fun j hj => absurd hj (by omega))
    · have q0 := sp_lt (by omega) (by omega) c95
      refine gi_aload_n (pc := 98) hX dX0_build_98 rfl ?_
      refine pg_fl (pc := 99) hX dX0_build_99 ?_
      refine gi_iload_n (pc := 102) hX dX0_build_102 rfl ?_
      refine gi_lconst (pc := 103) 0 hX dX0_build_103 (by decide) ?_
      refine ps_fl (pc := 104) _ hX dX0_build_104 rfl (by omega) ?_
      refine gi_aload_n (pc := 105) hX dX0_build_105 rfl ?_
      refine pg_sv (pc := 106) hX dX0_build_106 ?_
      refine gi_iload_n (pc := 109) hX dX0_build_109 rfl ?_
      refine gi_lconst (pc := 110) 0 hX dX0_build_110 (by decide) ?_
      refine ps_sv (pc := 111) _ hX dX0_build_111 rfl (by omega) ?_
      refine gi_iinc (pc := 112) 1 _ hX dX0_build_112 rfl (gi_inc1 _) rfl rfl ?_
      dsimp only [List.set]
      refine gi_goto (pc := 115) 92 hX dX0_build_115 (by decide) ?_
      exact ih (w + 1) (by omega) (by omega) _ _ (sp_zero2 hv)
  have loop1 : ∀ d, d ≤ 15 → ∀ cl1 : pw_F, (∀ d0, d0 < d → ∀ e0, bt (cl1 d0) e0 = true ↔ e0 < 15 ∧ (d0 ≠ e0 ∧ sp_ex P d0 ∧ sp_ex P e0 ∧ sp_cl P d0 e0)) → gx_G X (pw_W a k (P, 1, (fa, da, fb, db, cl1), (fl, sv), T)) 15 [some (.ref (a 0)), some (.int (nI d)), none] [] := by
    refine gx_up ?_
    intro d hd ih cl1 hv
    refine gi_iload_n (pc := 15) hX dX0_build_15 rfl ?_
    refine gi_bipush (pc := 16) (nI 15) hX dX0_build_16 (by decide) ?_
    refine gi_icmp_ge (pc := 18) 90 hX dX0_build_18 (by decide) (fun c18 => ?_) (fun c18 => ?_)
    · have q0 := sp_ge (by omega) (by omega) c18
      have q9 : d = 15 := by omega
      subst q9
      refine gi_iconst (pc := 90) (nI 0) hX dX0_build_90 (by decide) ?_
      refine gi_istore_n (pc := 91) 1 rfl hX dX0_build_91 rfl rfl ?_
      dsimp only [List.set]
      exact loop2 cl1 hv 0 (by omega) _ _ (fun j hj => absurd hj (by omega))
    · have q0 := sp_lt (by omega) (by omega) c18
      have inner : ∀ e, e ≤ 15 → ∀ cl2 : pw_F, (∀ d0, d0 < d → ∀ e0, bt (cl2 d0) e0 = true ↔ e0 < 15 ∧ (d0 ≠ e0 ∧ sp_ex P d0 ∧ sp_ex P e0 ∧ sp_cl P d0 e0)) → (∀ e0, bt (cl2 d) e0 = true ↔ e0 < e ∧ (d ≠ e0 ∧ sp_ex P d ∧ sp_ex P e0 ∧ sp_cl P d e0)) → gx_G X (pw_W a k (P, 1, (fa, da, fb, db, cl2), (fl, sv), T)) 30 [some (.ref (a 0)), some (.int (nI d)), some (.int (nI e))] [] := by
        refine gx_up ?_
        intro e he kh cl2 hz1 hz2
        refine gi_iload_n (pc := 30) hX dX0_build_30 rfl ?_
        refine gi_bipush (pc := 31) (nI 15) hX dX0_build_31 (by decide) ?_
        refine gi_icmp_ge (pc := 33) 84 hX dX0_build_33 (by decide) (fun c33 => ?_) (fun c33 => ?_)
        · have q5 := sp_ge (by omega) (by omega) c33
          have q9 : e = 15 := by omega
          subst q9
          refine gi_iinc (pc := 84) 1 _ hX dX0_build_84 rfl (gi_inc1 _) rfl rfl ?_
          dsimp only [List.set]
          refine gi_goto (pc := 87) 15 hX dX0_build_87 (by decide) ?_
          refine gi_drop 2 ?_
          dsimp only [List.set]
          exact ih (d + 1) (by omega) (by omega) _ (sp_all1 hz1 hz2)
        · have q5 := sp_lt (by omega) (by omega) c33
          refine gi_iload_n (pc := 36) hX dX0_build_36 rfl ?_
          refine gi_iload_n (pc := 37) hX dX0_build_37 rfl ?_
          refine gi_icmp_eq (pc := 38) 78 hX dX0_build_38 (by decide) (fun c38 => ?_) (fun c38 => ?_)
          · have q6 := (nI_eq (by omega) (by omega)).mp c38
            have q7 : ¬ (d ≠ e ∧ sp_ex P d ∧ sp_ex P e ∧ sp_cl P d e) := fun z => z.1 q6
            refine gi_iinc (pc := 78) 2 _ hX dX0_build_78 rfl (gi_inc1 _) rfl rfl ?_
            dsimp only [List.set]
            refine gi_goto (pc := 81) 30 hX dX0_build_81 (by decide) ?_
            first
            | exact kh (e + 1) (by omega) (by omega) _ hz1 (sp_acc0 hz2 q7)
            | exact kh (e + 1) (by omega) (by omega) _ (fun d0 hd0 => by rw [pk_un (by omega)]; exact hz1 d0 hd0) (by rw [pk_us]; exact sp_acc1 (by omega) hz2 q7)
          · have q6 : d ≠ e := fun z => c38 (by rw [z])
            refine gi_aload_n (pc := 41) hX dX0_build_41 rfl ?_
            refine gi_iload_n (pc := 42) hX dX0_build_42 rfl ?_
            refine gi_callI (pc := 43) hX (m_exists d (by omega) hP.1) cw_p_exists rfl rfl rfl rfl rfl rfl dX0_build_43 (fun r u hp => ?_)
            obtain ⟨rfl, h1⟩ := hp
            refine gi_if_eq (pc := 46) 78 hX dX0_build_46 (by decide) (fun c46 => ?_) (fun c46 => ?_)
            · have q7 : ¬ (d ≠ e ∧ sp_ex P d ∧ sp_ex P e ∧ sp_cl P d e) := fun z => h1.z.mp c46 z.2.1
              refine gi_iinc (pc := 78) 2 _ hX dX0_build_78 rfl (gi_inc1 _) rfl rfl ?_
              dsimp only [List.set]
              refine gi_goto (pc := 81) 30 hX dX0_build_81 (by decide) ?_
              first
              | exact kh (e + 1) (by omega) (by omega) _ hz1 (sp_acc0 hz2 q7)
              | exact kh (e + 1) (by omega) (by omega) _ (fun d0 hd0 => by rw [pk_un (by omega)]; exact hz1 d0 hd0) (by rw [pk_us]; exact sp_acc1 (by omega) hz2 q7)
            · refine gi_aload_n (pc := 49) hX dX0_build_49 rfl ?_
              refine gi_iload_n (pc := 50) hX dX0_build_50 rfl ?_
              refine gi_callI (pc := 51) hX (m_exists e (by omega) hP.1) cw_p_exists rfl rfl rfl rfl rfl rfl dX0_build_51 (fun r u hp => ?_)
              obtain ⟨rfl, h2⟩ := hp
              refine gi_if_eq (pc := 54) 78 hX dX0_build_54 (by decide) (fun c54 => ?_) (fun c54 => ?_)
              · have q7 : ¬ (d ≠ e ∧ sp_ex P d ∧ sp_ex P e ∧ sp_cl P d e) := fun z => h2.z.mp c54 z.2.2.1
                refine gi_iinc (pc := 78) 2 _ hX dX0_build_78 rfl (gi_inc1 _) rfl rfl ?_
                dsimp only [List.set]
                refine gi_goto (pc := 81) 30 hX dX0_build_81 (by decide) ?_
                first
                | exact kh (e + 1) (by omega) (by omega) _ hz1 (sp_acc0 hz2 q7)
                | exact kh (e + 1) (by omega) (by omega) _ (fun d0 hd0 => by rw [pk_un (by omega)]; exact hz1 d0 hd0) (by rw [pk_us]; exact sp_acc1 (by omega) hz2 q7)
              · refine gi_aload_n (pc := 57) hX dX0_build_57 rfl ?_
                refine gi_iload_n (pc := 58) hX dX0_build_58 rfl ?_
                refine gi_iload_n (pc := 59) hX dX0_build_59 rfl ?_
                refine gi_callI (pc := 60) hX (m_deedsClash d e (by omega) (by omega)) cw_p_deedsClash rfl rfl rfl rfl rfl rfl dX0_build_60 (fun r u hp => ?_)
                obtain ⟨rfl, h3⟩ := hp
                refine gi_if_eq (pc := 63) 78 hX dX0_build_63 (by decide) (fun c63 => ?_) (fun c63 => ?_)
                · have q7 : ¬ (d ≠ e ∧ sp_ex P d ∧ sp_ex P e ∧ sp_cl P d e) := fun z => h3.z.mp c63 z.2.2.2
                  refine gi_iinc (pc := 78) 2 _ hX dX0_build_78 rfl (gi_inc1 _) rfl rfl ?_
                  dsimp only [List.set]
                  refine gi_goto (pc := 81) 30 hX dX0_build_81 (by decide) ?_
                  first
                  | exact kh (e + 1) (by omega) (by omega) _ hz1 (sp_acc0 hz2 q7)
                  | exact kh (e + 1) (by omega) (by omega) _ (fun d0 hd0 => by rw [pk_un (by omega)]; exact hz1 d0 hd0) (by rw [pk_us]; exact sp_acc1 (by omega) hz2 q7)
                · have q7 : (d ≠ e ∧ sp_ex P d ∧ sp_ex P e ∧ sp_cl P d e) := ⟨q6, h1.nz.mp c46, h2.nz.mp c54, h3.nz.mp c63⟩
                  refine gi_aload_n (pc := 66) hX dX0_build_66 rfl ?_
                  refine pg_cl (pc := 67) hX dX0_build_67 ?_
                  refine gi_iload_n (pc := 70) hX dX0_build_70 rfl ?_
                  refine gi_dup2 (pc := 71) hX dX0_build_71 rfl rfl ?_
                  refine pl_cl (pc := 72) _ hX dX0_build_72 rfl (by omega) ?_
                  refine gi_iconst (pc := 73) (nI 1) hX dX0_build_73 (by decide) ?_
                  refine gi_iload_n (pc := 74) hX dX0_build_74 rfl ?_
                  refine gi_ishl (pc := 75) hX dX0_build_75 ?_
                  refine gi_ior (pc := 76) hX dX0_build_76 ?_
                  refine ps_cl (pc := 77) _ hX dX0_build_77 rfl (by omega) ?_
                  refine gi_iinc (pc := 78) 2 _ hX dX0_build_78 rfl (gi_inc1 _) rfl rfl ?_
                  dsimp only [List.set]
                  refine gi_goto (pc := 81) 30 hX dX0_build_81 (by decide) ?_
                  first
                  | exact kh (e + 1) (by omega) (by omega) _ hz1 (sp_acc0 hz2 q7)
                  | exact kh (e + 1) (by omega) (by omega) _ (fun d0 hd0 => by rw [pk_un (by omega)]; exact hz1 d0 hd0) (by rw [pk_us]; exact sp_acc1 (by omega) hz2 q7)
      refine gi_aload_n (pc := 21) hX dX0_build_21 rfl ?_
      refine pg_cl (pc := 22) hX dX0_build_22 ?_
      refine gi_iload_n (pc := 25) hX dX0_build_25 rfl ?_
      refine gi_iconst (pc := 26) (nI 0) hX dX0_build_26 (by decide) ?_
      refine ps_cl (pc := 27) _ hX dX0_build_27 rfl (by omega) ?_
      refine gi_iconst (pc := 28) (nI 0) hX dX0_build_28 (by decide) ?_
      refine gi_istore_n (pc := 29) 2 rfl hX dX0_build_29 rfl rfl ?_
      dsimp only [List.set]
      exact inner 0 (by omega) _ (fun d0 hd0 => by rw [pk_un (by omega)]; exact hv d0 hd0) (by rw [pk_us]; exact sp_accZ)
  refine gi_aload_n (pc := 0) hX dX0_build_0 rfl ?_
  refine pg_b (pc := 1) hX dX0_build_1 ?_
  refine gi_if_eq (pc := 4) 8 hX dX0_build_4 (by decide) (fun c4 => ?_) (fun c4 => ?_)
  · refine gi_aload_n (pc := 8) hX dX0_build_8 rfl ?_
    refine gi_iconst (pc := 9) (nI 1) hX dX0_build_9 (by decide) ?_
    refine ps_b (pc := 10) 1 hX dX0_build_10 rfl rfl rfl ?_
    refine gi_iconst (pc := 13) (nI 0) hX dX0_build_13 (by decide) ?_
    refine gi_istore_n (pc := 14) 1 rfl hX dX0_build_14 rfl rfl ?_
    dsimp only [List.set]
    exact loop1 0 (by omega) _ (fun d0 hd0 => absurd hd0 (by omega))
  · have q : B = 1 ∧ sp_gok P (fa, da, fb, db, cl) ∧ sp_mok P (fl, sv) := hB.elim (fun z => absurd (by rw [z]; exact nI_0) c4) id
    obtain ⟨rfl, q1, q2⟩ := q
    exact hR 7 _ _ dX0_build_7 ⟨_, _, rfl, q1, q2⟩
end
section
/-! CONTRACTS: isMarked, markSet, enter, markAbove, neededBy, lowestOpen (ts_bit, wb_cu began as rows of laws/BITS.to-paste) -/
set_option maxRecDepth 100000
theorem ts_bit {w : Int64} {s : UInt64} {j : Nat} (hj : j < 64) (hs : s.toNat = j) : ((w.toUInt64 >>> s).toInt64 &&& 1) = 0 ↔ w.toBitVec.getLsbD j = false := by
  have e : (w.toUInt64 >>> s).toInt64.toBitVec = w.toBitVec >>> j := by
    apply BitVec.eq_of_toNat_eq
    show (w.toUInt64 >>> s).toNat = _
    rw [UInt64.toNat_shiftRight, hs, Nat.mod_eq_of_lt hj, BitVec.toNat_ushiftRight]
    rfl
  rw [← Int64.toBitVec_inj, Int64.toBitVec_and, e]
  show w.toBitVec >>> j &&& 1#64 = 0#64 ↔ _
  constructor
  · intro h
    have t := congrArg (fun x => x.getLsbD 0) h
    simpa using t
  · intro h
    apply BitVec.eq_of_getLsbD_eq
    intro i hi
    rw [BitVec.getLsbD_and, BitVec.getLsbD_ushiftRight, BitVec.getLsbD_one, BitVec.getLsbD_zero]
    by_cases z : i = 0
    · subst z; rw [Nat.add_zero, h]; rfl
    · simp [z]
theorem sp_cu : ∀ k, k < 64 → ((nI k).toInt64.toUInt64 &&& Int64.toUInt64 63).toNat = k := by decide +kernel
theorem sp_tp : ∀ j, j < 64 → ((1 : Int64) <<< ((nI j).toInt64 &&& 63)).toBitVec = BitVec.twoPow 64 j := by decide +kernel
theorem sp_ix {l g : Nat} (hg : g < 256) : nI 4 * nI l + nI g >>> (nI 6 &&& 31) = nI (4 * l + g / 64) := by
  rw [pk_shrN (by omega) _ 6 (s_l 6 (by omega)), pk_mul, nI_add]
theorem sp_63 {g : Nat} (hg : g < 256) : nI g &&& nI 63 = nI (g % 64) := pk_andN (by omega) 6 (by decide)
theorem sp_mt {A : pw_J} {l g : Nat} (hg : g < 256) : lg_cmp (((A (4 * l + g / 64)).toUInt64 >>> ((nI g &&& nI 63).toInt64.toUInt64 &&& Int64.toUInt64 63)).toInt64 &&& 1) 0 = 0 ↔ ¬ sp_mark A l g := by
  rw [lg_cmp_eq, sp_63 hg, ts_bit (j := g % 64) (Nat.mod_lt _ (by decide)) (sp_cu _ (Nat.mod_lt _ (by decide)))]
  unfold sp_mark
  cases (A (4 * l + g / 64)).toBitVec.getLsbD (g % 64) <;> simp
theorem sp_ms {A : pw_J} {l g : Nat} (hl : l < 9) (hg : g < 256) : ∀ l1 g1, l1 < 9 → g1 < 256 → (sp_mark (vp_updL A (4 * l + g / 64) (A (4 * l + g / 64) ||| 1 <<< ((nI g &&& nI 63).toInt64 &&& 63))) l1 g1 ↔ sp_mark A l1 g1 ∨ (l1 = l ∧ g1 = g)) := by
  intro l1 g1 h1 h2
  rw [sp_63 hg]
  unfold sp_mark
  by_cases e : 4 * l1 + g1 / 64 = 4 * l + g / 64
  · rw [e, pk_uLs, Int64.toBitVec_or, sp_tp _ (Nat.mod_lt _ (by decide)), BitVec.getLsbD_or, BitVec.getLsbD_twoPow, Bool.or_eq_true]
    refine or_congr Iff.rfl ?_
    simp only [Bool.and_eq_true, decide_eq_true_iff]
    constructor
    · rintro ⟨-, z⟩; omega
    · rintro ⟨rfl, rfl⟩; exact ⟨Nat.mod_lt _ (by decide), rfl⟩
  · rw [pk_uLn e]
    refine ⟨Or.inl, fun z => z.elim id (fun ⟨y1, y2⟩ => ?_)⟩
    subst y1; subst y2
    exact absurd rfl e
set_option maxHeartbeats 4000000 in
theorem m_isMarked0 {a : Nat → Nat} {k : gx_C} {P : pw_P} {B : Nat} {Gr : pw_G} {M : pw_M} {T : pw_T} (l g : Nat) (hl : l < 9) (hg : g < 256) : gx_CI k yX0_isMarked cX0_isMarked 7 .boolean (0, 0) [.ref (a 0), .int (nI 0), .int (nI l), .int (nI g)] (pw_W a k) (P, B, Gr, M, T) (fun r u => u = (P, B, Gr, M, T) ∧ b_tf r (sp_mark M.1 l g)) := by
  refine gx_CI.of (by decide) rfl rfl (fun X hX hR => ?_)
  have hX : gx_Ok X cX0_isMarked RX0 k (0, 0) := hX
  show gx_G X (pw_W a k (P, B, Gr, M, T)) 0 [some (.ref (a 0)), some (.int (nI 0)), some (.int (nI l)), some (.int (nI g)), none, none, none] []
  refine gi_iconst (pc := 0) (nI 4) hX dX0_isMarked_0 (by decide) ?_
  refine gi_iload_n (pc := 1) hX dX0_isMarked_1 rfl ?_
  refine gi_imul (pc := 2) hX dX0_isMarked_2 ?_
  refine gi_iload_n (pc := 3) hX dX0_isMarked_3 rfl ?_
  refine gi_bipush (pc := 4) (nI 6) hX dX0_isMarked_4 (by decide) ?_
  refine gi_ishr (pc := 6) hX dX0_isMarked_6 ?_
  refine gi_iadd (pc := 7) hX dX0_isMarked_7 ?_
  rw [sp_ix hg]
  refine gi_istore (pc := 8) 4 hX dX0_isMarked_8 rfl rfl ?_
  dsimp only [List.set]
  refine gi_iload_n (pc := 10) hX dX0_isMarked_10 rfl ?_
  refine gi_if_eq (pc := 11) 24 hX dX0_isMarked_11 (by decide) (fun c11 => ?_) (fun c11 => ?_)
  · refine gi_aload_n (pc := 24) hX dX0_isMarked_24 rfl ?_
    refine pg_fl (pc := 25) hX dX0_isMarked_25 ?_
    refine gi_iload (pc := 28) hX dX0_isMarked_28 rfl ?_
    refine pl_fl (pc := 30) _ hX dX0_isMarked_30 rfl (by omega) ?_
    refine gi_lstore (pc := 31) 5 hX dX0_isMarked_31 rfl rfl ?_
    dsimp only [List.set]
    refine gi_lload (pc := 33) hX dX0_isMarked_33 rfl ?_
    refine gi_iload_n (pc := 35) hX dX0_isMarked_35 rfl ?_
    refine gi_bipush (pc := 36) (nI 63) hX dX0_isMarked_36 (by decide) ?_
    refine gi_iand (pc := 38) hX dX0_isMarked_38 ?_
    refine gi_lushr (pc := 39) hX dX0_isMarked_39 ?_
    refine gi_lconst (pc := 40) 1 hX dX0_isMarked_40 (by decide) ?_
    refine gi_land (pc := 41) hX dX0_isMarked_41 ?_
    refine gi_lconst (pc := 42) 0 hX dX0_isMarked_42 (by decide) ?_
    refine gi_lcmp (pc := 43) hX dX0_isMarked_43 ?_
    refine gi_if_eq (pc := 44) 51 hX dX0_isMarked_44 (by decide) (fun c44 => ?_) (fun c44 => ?_)
    · have q : ¬ sp_mark M.1 l g := (sp_mt hg).mp c44
      refine gi_iconst (pc := 51) (nI 0) hX dX0_isMarked_51 (by decide) ?_
      exact hR 52 _ _ _ dX0_isMarked_52 rfl ⟨rfl, by first | exact b_tf1 q | exact b_tf0 q⟩
    · have q : sp_mark M.1 l g := Classical.not_not.mp (fun z => c44 ((sp_mt hg).mpr z))
      refine gi_iconst (pc := 47) (nI 1) hX dX0_isMarked_47 (by decide) ?_
      refine gi_goto (pc := 48) 52 hX dX0_isMarked_48 (by decide) ?_
      exact hR 52 _ _ _ dX0_isMarked_52 rfl ⟨rfl, by first | exact b_tf1 q | exact b_tf0 q⟩
  · exact absurd nI_0 c11
set_option maxHeartbeats 4000000 in
theorem m_markSet0 {a : Nat → Nat} {k : gx_C} {P : pw_P} {B : Nat} {Gr : pw_G} {M : pw_M} {T : pw_T} (l g : Nat) (hl : l < 9) (hg : g < 256) : gx_CV k yX0_markSet cX0_markSet 5 (0, 0) [.ref (a 0), .int (nI 0), .int (nI l), .int (nI g)] (pw_W a k) (P, B, Gr, M, T) (fun u => ∃ A, u = (P, B, Gr, (A, M.2), T) ∧ ∀ l1 g1, l1 < 9 → g1 < 256 → (sp_mark A l1 g1 ↔ sp_mark M.1 l1 g1 ∨ (l1 = l ∧ g1 = g))) := by
  refine gx_CV.of (by decide) rfl rfl (fun X hX hR => ?_)
  have hX : gx_Ok X cX0_markSet RX0 k (0, 0) := hX
  show gx_G X (pw_W a k (P, B, Gr, M, T)) 0 [some (.ref (a 0)), some (.int (nI 0)), some (.int (nI l)), some (.int (nI g)), none] []
  refine gi_iconst (pc := 0) (nI 4) hX dX0_markSet_0 (by decide) ?_
  refine gi_iload_n (pc := 1) hX dX0_markSet_1 rfl ?_
  refine gi_imul (pc := 2) hX dX0_markSet_2 ?_
  refine gi_iload_n (pc := 3) hX dX0_markSet_3 rfl ?_
  refine gi_bipush (pc := 4) (nI 6) hX dX0_markSet_4 (by decide) ?_
  refine gi_ishr (pc := 6) hX dX0_markSet_6 ?_
  refine gi_iadd (pc := 7) hX dX0_markSet_7 ?_
  rw [sp_ix hg]
  refine gi_istore (pc := 8) 4 hX dX0_markSet_8 rfl rfl ?_
  dsimp only [List.set]
  refine gi_iload_n (pc := 10) hX dX0_markSet_10 rfl ?_
  refine gi_if_eq (pc := 11) 33 hX dX0_markSet_11 (by decide) (fun c11 => ?_) (fun c11 => ?_)
  · refine gi_aload_n (pc := 33) hX dX0_markSet_33 rfl ?_
    refine pg_fl (pc := 34) hX dX0_markSet_34 ?_
    refine gi_iload (pc := 37) hX dX0_markSet_37 rfl ?_
    refine gi_dup2 (pc := 39) hX dX0_markSet_39 rfl rfl ?_
    refine pl_fl (pc := 40) _ hX dX0_markSet_40 rfl (by omega) ?_
    refine gi_lconst (pc := 41) 1 hX dX0_markSet_41 (by decide) ?_
    refine gi_iload_n (pc := 42) hX dX0_markSet_42 rfl ?_
    refine gi_bipush (pc := 43) (nI 63) hX dX0_markSet_43 (by decide) ?_
    refine gi_iand (pc := 45) hX dX0_markSet_45 ?_
    refine gi_lshl (pc := 46) hX dX0_markSet_46 ?_
    refine gi_lor (pc := 47) hX dX0_markSet_47 ?_
    refine ps_fl (pc := 48) _ hX dX0_markSet_48 rfl (by omega) ?_
    exact hR 49 _ _ dX0_markSet_49 ⟨_, rfl, sp_ms hl hg⟩
  · exact absurd nI_0 c11
set_option maxHeartbeats 4000000 in
theorem m_isMarked1 {a : Nat → Nat} {k : gx_C} {P : pw_P} {B : Nat} {Gr : pw_G} {M : pw_M} {T : pw_T} (l g : Nat) (hl : l < 9) (hg : g < 256) : gx_CI k yX0_isMarked cX0_isMarked 7 .boolean (0, 0) [.ref (a 0), .int (nI 1), .int (nI l), .int (nI g)] (pw_W a k) (P, B, Gr, M, T) (fun r u => u = (P, B, Gr, M, T) ∧ b_tf r (sp_mark M.2 l g)) := by
  refine gx_CI.of (by decide) rfl rfl (fun X hX hR => ?_)
  have hX : gx_Ok X cX0_isMarked RX0 k (0, 0) := hX
  show gx_G X (pw_W a k (P, B, Gr, M, T)) 0 [some (.ref (a 0)), some (.int (nI 1)), some (.int (nI l)), some (.int (nI g)), none, none, none] []
  refine gi_iconst (pc := 0) (nI 4) hX dX0_isMarked_0 (by decide) ?_
  refine gi_iload_n (pc := 1) hX dX0_isMarked_1 rfl ?_
  refine gi_imul (pc := 2) hX dX0_isMarked_2 ?_
  refine gi_iload_n (pc := 3) hX dX0_isMarked_3 rfl ?_
  refine gi_bipush (pc := 4) (nI 6) hX dX0_isMarked_4 (by decide) ?_
  refine gi_ishr (pc := 6) hX dX0_isMarked_6 ?_
  refine gi_iadd (pc := 7) hX dX0_isMarked_7 ?_
  rw [sp_ix hg]
  refine gi_istore (pc := 8) 4 hX dX0_isMarked_8 rfl rfl ?_
  dsimp only [List.set]
  refine gi_iload_n (pc := 10) hX dX0_isMarked_10 rfl ?_
  refine gi_if_eq (pc := 11) 24 hX dX0_isMarked_11 (by decide) (fun c11 => ?_) (fun c11 => ?_)
  · exact absurd c11 (by decide)
  · refine gi_aload_n (pc := 14) hX dX0_isMarked_14 rfl ?_
    refine pg_sv (pc := 15) hX dX0_isMarked_15 ?_
    refine gi_iload (pc := 18) hX dX0_isMarked_18 rfl ?_
    refine pl_sv (pc := 20) _ hX dX0_isMarked_20 rfl (by omega) ?_
    refine gi_goto (pc := 21) 31 hX dX0_isMarked_21 (by decide) ?_
    refine gi_lstore (pc := 31) 5 hX dX0_isMarked_31 rfl rfl ?_
    dsimp only [List.set]
    refine gi_lload (pc := 33) hX dX0_isMarked_33 rfl ?_
    refine gi_iload_n (pc := 35) hX dX0_isMarked_35 rfl ?_
    refine gi_bipush (pc := 36) (nI 63) hX dX0_isMarked_36 (by decide) ?_
    refine gi_iand (pc := 38) hX dX0_isMarked_38 ?_
    refine gi_lushr (pc := 39) hX dX0_isMarked_39 ?_
    refine gi_lconst (pc := 40) 1 hX dX0_isMarked_40 (by decide) ?_
    refine gi_land (pc := 41) hX dX0_isMarked_41 ?_
    refine gi_lconst (pc := 42) 0 hX dX0_isMarked_42 (by decide) ?_
    refine gi_lcmp (pc := 43) hX dX0_isMarked_43 ?_
    refine gi_if_eq (pc := 44) 51 hX dX0_isMarked_44 (by decide) (fun c44 => ?_) (fun c44 => ?_)
    · have q : ¬ sp_mark M.2 l g := (sp_mt hg).mp c44
      refine gi_iconst (pc := 51) (nI 0) hX dX0_isMarked_51 (by decide) ?_
      exact hR 52 _ _ _ dX0_isMarked_52 rfl ⟨rfl, by first | exact b_tf1 q | exact b_tf0 q⟩
    · have q : sp_mark M.2 l g := Classical.not_not.mp (fun z => c44 ((sp_mt hg).mpr z))
      refine gi_iconst (pc := 47) (nI 1) hX dX0_isMarked_47 (by decide) ?_
      refine gi_goto (pc := 48) 52 hX dX0_isMarked_48 (by decide) ?_
      exact hR 52 _ _ _ dX0_isMarked_52 rfl ⟨rfl, by first | exact b_tf1 q | exact b_tf0 q⟩
set_option maxHeartbeats 4000000 in
theorem m_markSet1 {a : Nat → Nat} {k : gx_C} {P : pw_P} {B : Nat} {Gr : pw_G} {M : pw_M} {T : pw_T} (l g : Nat) (hl : l < 9) (hg : g < 256) : gx_CV k yX0_markSet cX0_markSet 5 (0, 0) [.ref (a 0), .int (nI 1), .int (nI l), .int (nI g)] (pw_W a k) (P, B, Gr, M, T) (fun u => ∃ A, u = (P, B, Gr, (M.1, A), T) ∧ ∀ l1 g1, l1 < 9 → g1 < 256 → (sp_mark A l1 g1 ↔ sp_mark M.2 l1 g1 ∨ (l1 = l ∧ g1 = g))) := by
  refine gx_CV.of (by decide) rfl rfl (fun X hX hR => ?_)
  have hX : gx_Ok X cX0_markSet RX0 k (0, 0) := hX
  show gx_G X (pw_W a k (P, B, Gr, M, T)) 0 [some (.ref (a 0)), some (.int (nI 1)), some (.int (nI l)), some (.int (nI g)), none] []
  refine gi_iconst (pc := 0) (nI 4) hX dX0_markSet_0 (by decide) ?_
  refine gi_iload_n (pc := 1) hX dX0_markSet_1 rfl ?_
  refine gi_imul (pc := 2) hX dX0_markSet_2 ?_
  refine gi_iload_n (pc := 3) hX dX0_markSet_3 rfl ?_
  refine gi_bipush (pc := 4) (nI 6) hX dX0_markSet_4 (by decide) ?_
  refine gi_ishr (pc := 6) hX dX0_markSet_6 ?_
  refine gi_iadd (pc := 7) hX dX0_markSet_7 ?_
  rw [sp_ix hg]
  refine gi_istore (pc := 8) 4 hX dX0_markSet_8 rfl rfl ?_
  dsimp only [List.set]
  refine gi_iload_n (pc := 10) hX dX0_markSet_10 rfl ?_
  refine gi_if_eq (pc := 11) 33 hX dX0_markSet_11 (by decide) (fun c11 => ?_) (fun c11 => ?_)
  · exact absurd c11 (by decide)
  · refine gi_aload_n (pc := 14) hX dX0_markSet_14 rfl ?_
    refine pg_sv (pc := 15) hX dX0_markSet_15 ?_
    refine gi_iload (pc := 18) hX dX0_markSet_18 rfl ?_
    refine gi_dup2 (pc := 20) hX dX0_markSet_20 rfl rfl ?_
    refine pl_sv (pc := 21) _ hX dX0_markSet_21 rfl (by omega) ?_
    refine gi_lconst (pc := 22) 1 hX dX0_markSet_22 (by decide) ?_
    refine gi_iload_n (pc := 23) hX dX0_markSet_23 rfl ?_
    refine gi_bipush (pc := 24) (nI 63) hX dX0_markSet_24 (by decide) ?_
    refine gi_iand (pc := 26) hX dX0_markSet_26 ?_
    refine gi_lshl (pc := 27) hX dX0_markSet_27 ?_
    refine gi_lor (pc := 28) hX dX0_markSet_28 ?_
    refine ps_sv (pc := 29) _ hX dX0_markSet_29 rfl (by omega) ?_
    refine gi_goto (pc := 30) 49 hX dX0_markSet_30 (by decide) ?_
    exact hR 49 _ _ dX0_markSet_49 ⟨_, rfl, sp_ms hl hg⟩
set_option maxHeartbeats 4000000 in
theorem m_enter {a : Nat → Nat} {k : gx_C} {P : pw_P} {B : Nat} {Gr : pw_G} {M : pw_M} {wa op ch : pw_F} {ct : Nat} {cd cf co : pw_F} (l : Nat) (x : Int32) (hl : l < 9) : gx_CV k yX0_enter cX0_enter 3 (0, 0) [.ref (a 0), .int (nI l), .int x] (pw_W a k) (P, B, Gr, M, (wa, op, ch, ct, cd, cf, co)) (fun u => u = (P, B, Gr, M, (upd wa l x, upd op l x, upd ch l (nI 0), ct, cd, cf, co))) := by
  refine gx_CV.of (by decide) rfl rfl (fun X hX hR => ?_)
  have hX : gx_Ok X cX0_enter RX0 k (0, 0) := hX
  show gx_G X (pw_W a k (P, B, Gr, M, (wa, op, ch, ct, cd, cf, co))) 0 [some (.ref (a 0)), some (.int (nI l)), some (.int x)] []
  refine gi_aload_n (pc := 0) hX dX0_enter_0 rfl ?_
  refine pg_wa (pc := 1) hX dX0_enter_1 ?_
  refine gi_iload_n (pc := 4) hX dX0_enter_4 rfl ?_
  refine gi_iload_n (pc := 5) hX dX0_enter_5 rfl ?_
  refine ps_wa (pc := 6) _ hX dX0_enter_6 rfl (by omega) ?_
  refine gi_aload_n (pc := 7) hX dX0_enter_7 rfl ?_
  refine pg_op (pc := 8) hX dX0_enter_8 ?_
  refine gi_iload_n (pc := 11) hX dX0_enter_11 rfl ?_
  refine gi_iload_n (pc := 12) hX dX0_enter_12 rfl ?_
  refine ps_op (pc := 13) _ hX dX0_enter_13 rfl (by omega) ?_
  refine gi_aload_n (pc := 14) hX dX0_enter_14 rfl ?_
  refine pg_ch (pc := 15) hX dX0_enter_15 ?_
  refine gi_iload_n (pc := 18) hX dX0_enter_18 rfl ?_
  refine gi_iconst (pc := 19) (nI 0) hX dX0_enter_19 (by decide) ?_
  refine ps_ch (pc := 20) _ hX dX0_enter_20 rfl (by omega) ?_
  exact hR 21 _ _ dX0_enter_21 rfl
theorem sp_mok1 {P : pw_P} {M : pw_M} {A : pw_J} {l g : Nat} (h : sp_mok P M) (hA : ∀ l1 g1, l1 < 9 → g1 < 256 → (sp_mark A l1 g1 ↔ sp_mark M.2 l1 g1 ∨ (l1 = l ∧ g1 = g))) (hs : sp_sv P P.2.2.2.2 l (nI g)) : sp_mok P (M.1, A) := by
  intro l1 g1 h1 h2
  refine ⟨(h l1 g1 h1 h2).1, fun z => ?_⟩
  rcases (hA l1 g1 h1 h2).mp z with y | ⟨y1, y2⟩
  · exact (h l1 g1 h1 h2).2 y
  · rw [y1, y2]; exact hs
theorem sp_mok2 {P : pw_P} {M : pw_M} {A : pw_J} {l g : Nat} (h : sp_mok P M) (hA : ∀ l1 g1, l1 < 9 → g1 < 256 → (sp_mark A l1 g1 ↔ sp_mark M.1 l1 g1 ∨ (l1 = l ∧ g1 = g))) (hs : ¬ sp_sv P P.2.2.2.2 l (nI g)) : sp_mok P (A, M.2) := by
  intro l1 g1 h1 h2
  refine ⟨fun z => ?_, (h l1 g1 h1 h2).2⟩
  rcases (hA l1 g1 h1 h2).mp z with y | ⟨y1, y2⟩
  · exact (h l1 g1 h1 h2).1 y
  · rw [y1, y2]; exact hs
set_option maxHeartbeats 4000000 in
theorem m_markAbove {a : Nat → Nat} {k : gx_C} {P : pw_P} {B : Nat} {Gr : pw_G} {M : pw_M} {T : pw_T} (l0 top : Nat) (h0 : l0 ≤ top + 1) (ht : top < 9) (hM : sp_mok P M) (hw : ∀ l, l0 ≤ l → l ≤ top → sp_B8 (T.1 l) ∧ sp_sv P P.2.2.2.2 l (T.1 l)) : gx_CV k yX0_markAbove cX0_markAbove 4 (1, 26) [.ref (a 0), .int (nI l0), .int (nI top)] (pw_W a k) (P, B, Gr, M, T) (fun u => ∃ M1, u = (P, B, Gr, M1, T) ∧ sp_mok P M1) := by
  refine gx_CV.of (by decide) rfl rfl (fun X hX hR => ?_)
  have hX : gx_Ok X cX0_markAbove RX0 k (1, 26) := hX
  show gx_G X (pw_W a k (P, B, Gr, M, T)) 0 [some (.ref (a 0)), some (.int (nI l0)), some (.int (nI top)), none] []
  have loop : ∀ l, l ≤ top + 1 → l0 ≤ l → ∀ M1, sp_mok P M1 → gx_G X (pw_W a k (P, B, Gr, M1, T)) 2 [some (.ref (a 0)), some (.int (nI l0)), some (.int (nI top)), some (.int (nI l))] [] := by
    refine gx_up ?_
    intro l hl ih hl1 M1 hM1
    refine gi_iload_n (pc := 2) hX dX0_markAbove_2 rfl ?_
    refine gi_iload_n (pc := 3) hX dX0_markAbove_3 rfl ?_
    refine gi_icmp_gt (pc := 4) 25 hX dX0_markAbove_4 (by decide) (fun c4 => ?_) (fun c4 => ?_)
    · exact hR 25 _ _ dX0_markAbove_25 ⟨_, rfl, hM1⟩
    · have q0 : l ≤ top := (nI_leI (by omega) (by omega)).mp (by rw [Int32.le_iff_toInt_le]; rw [Int32.lt_iff_toInt_lt] at c4; omega)
      obtain ⟨g, hg, e⟩ := sp_B8_nat (hw l hl1 q0).1
      have hs : sp_sv P P.2.2.2.2 l (nI g) := by rw [← e]; exact (hw l hl1 q0).2
      refine gi_aload_n (pc := 7) hX dX0_markAbove_7 rfl ?_
      refine gi_iconst (pc := 8) (nI 1) hX dX0_markAbove_8 (by decide) ?_
      refine gi_iload_n (pc := 9) hX dX0_markAbove_9 rfl ?_
      refine gi_aload_n (pc := 10) hX dX0_markAbove_10 rfl ?_
      refine pg_wa (pc := 11) hX dX0_markAbove_11 ?_
      refine gi_iload_n (pc := 14) hX dX0_markAbove_14 rfl ?_
      refine pl_wa (pc := 15) _ hX dX0_markAbove_15 rfl (by omega) ?_
      rw [e]
      refine gi_callV (pc := 16) hX (m_markSet1 l g (by omega) hg) cw_p_markSet rfl rfl rfl rfl rfl rfl dX0_markAbove_16 (fun u hp => ?_)
      obtain ⟨A, rfl, hA⟩ := hp
      refine gi_iinc (pc := 19) 3 _ hX dX0_markAbove_19 rfl (gi_inc1 _) rfl rfl ?_
      dsimp only [List.set]
      refine gi_goto (pc := 22) 2 hX dX0_markAbove_22 (by decide) ?_
      exact ih (l + 1) (by omega) (by omega) (by omega) _ (sp_mok1 hM1 hA hs)
  refine gi_iload_n (pc := 0) hX dX0_markAbove_0 rfl ?_
  refine gi_istore_n (pc := 1) 3 rfl hX dX0_markAbove_1 rfl rfl ?_
  dsimp only [List.set]
  exact loop l0 h0 (Nat.le_refl _) M hM
theorem sp_ne0 {P : pw_P} {A c : Int32} {d : Nat} (h : ∀ f, bt A f = true ↔ ∃ d0, d0 < d ∧ bt c d0 = true ∧ bt (sp_nd P d0) f = true) (q : bt c d = false) : ∀ f, bt A f = true ↔ ∃ d0, d0 < d + 1 ∧ bt c d0 = true ∧ bt (sp_nd P d0) f = true := by
  intro f
  rw [h f]
  refine ⟨fun ⟨d0, a, b⟩ => ⟨d0, by omega, b⟩, fun ⟨d0, a, b⟩ => ⟨d0, ?_, b⟩⟩
  rcases Nat.lt_or_ge d0 d with z | z
  · exact z
  · have : d0 = d := by omega
    subst this
    exact absurd b.1 (b_nt q)
theorem sp_ne1 {P : pw_P} {A c : Int32} {d : Nat} (h : ∀ f, bt A f = true ↔ ∃ d0, d0 < d ∧ bt c d0 = true ∧ bt (sp_nd P d0) f = true) (q : bt c d = true) : ∀ f, bt (A ||| sp_nd P d) f = true ↔ ∃ d0, d0 < d + 1 ∧ bt c d0 = true ∧ bt (sp_nd P d0) f = true := by
  intro f
  rw [b_or, Bool.or_eq_true, h f]
  constructor
  · rintro (⟨d0, a, b⟩ | z)
    · exact ⟨d0, by omega, b⟩
    · exact ⟨d, by omega, q, z⟩
  · rintro ⟨d0, a, b⟩
    rcases Nat.lt_or_ge d0 d with z | z
    · exact Or.inl ⟨d0, z, b⟩
    · have : d0 = d := by omega
      subst this
      exact Or.inr b.2
set_option maxHeartbeats 4000000 in
theorem m_neededBy {a : Nat → Nat} {k : gx_C} {P : pw_P} {B : Nat} {Gr : pw_G} {M : pw_M} {T : pw_T} (l : Nat) (hl : l < 9) : gx_CI k yX0_neededBy cX0_neededBy 4 .int (1, 26) [.ref (a 0), .int (nI l)] (pw_W a k) (P, B, Gr, M, T) (fun r u => u = (P, B, Gr, M, T) ∧ sp_need P (T.2.2.1 l) r) := by
  refine gx_CI.of (by decide) rfl rfl (fun X hX hR => ?_)
  have hX : gx_Ok X cX0_neededBy RX0 k (1, 26) := hX
  show gx_G X (pw_W a k (P, B, Gr, M, T)) 0 [some (.ref (a 0)), some (.int (nI l)), none, none] []
  have loop : ∀ d, d ≤ 15 → ∀ A : Int32, (∀ f, bt A f = true ↔ ∃ d0, d0 < d ∧ bt (T.2.2.1 l) d0 = true ∧ bt (sp_nd P d0) f = true) → gx_G X (pw_W a k (P, B, Gr, M, T)) 4 [some (.ref (a 0)), some (.int (nI l)), some (.int A), some (.int (nI d))] [] := by
    refine gx_up ?_
    intro d hd ih A hv
    refine gi_iload_n (pc := 4) hX dX0_neededBy_4 rfl ?_
    refine gi_bipush (pc := 5) (nI 15) hX dX0_neededBy_5 (by decide) ?_
    refine gi_icmp_ge (pc := 7) 37 hX dX0_neededBy_7 (by decide) (fun c7 => ?_) (fun c7 => ?_)
    · have q0 := sp_ge (by omega) (by omega) c7
      have q9 : d = 15 := by omega
      subst q9
      refine gi_iload_n (pc := 37) hX dX0_neededBy_37 rfl ?_
      exact hR 38 _ _ _ dX0_neededBy_38 rfl ⟨rfl, hv⟩
    · have q0 := sp_lt (by omega) (by omega) c7
      refine gi_aload_n (pc := 10) hX dX0_neededBy_10 rfl ?_
      refine pg_ch (pc := 11) hX dX0_neededBy_11 ?_
      refine gi_iload_n (pc := 14) hX dX0_neededBy_14 rfl ?_
      refine pl_ch (pc := 15) _ hX dX0_neededBy_15 rfl (by omega) ?_
      refine gi_iload_n (pc := 16) hX dX0_neededBy_16 rfl ?_
      refine gi_ishr (pc := 17) hX dX0_neededBy_17 ?_
      refine gi_iconst (pc := 18) (nI 1) hX dX0_neededBy_18 (by decide) ?_
      refine gi_iand (pc := 19) hX dX0_neededBy_19 ?_
      refine gi_if_eq (pc := 20) 31 hX dX0_neededBy_20 (by decide) (fun c20 => ?_) (fun c20 => ?_)
      · rw [b_tst (by omega)] at c20
        refine gi_iinc (pc := 31) 3 _ hX dX0_neededBy_31 rfl (gi_inc1 _) rfl rfl ?_
        dsimp only [List.set]
        refine gi_goto (pc := 34) 4 hX dX0_neededBy_34 (by decide) ?_
        first
        | exact ih (d + 1) (by omega) (by omega) _ (sp_ne0 hv c20)
        | exact ih (d + 1) (by omega) (by omega) _ (sp_ne1 hv c20)
      · rw [b_tst1 (by omega)] at c20
        refine gi_iload_n (pc := 23) hX dX0_neededBy_23 rfl ?_
        refine gi_aload_n (pc := 24) hX dX0_neededBy_24 rfl ?_
        refine gi_iload_n (pc := 25) hX dX0_neededBy_25 rfl ?_
        refine gi_callI (pc := 26) hX (m_needsOf d (by omega)) cw_p_needsOf rfl rfl rfl rfl rfl rfl dX0_neededBy_26 (fun r u hp => ?_)
        obtain ⟨rfl, rfl⟩ := hp
        refine gi_ior (pc := 29) hX dX0_neededBy_29 ?_
        refine gi_istore_n (pc := 30) 2 rfl hX dX0_neededBy_30 rfl rfl ?_
        dsimp only [List.set]
        refine gi_iinc (pc := 31) 3 _ hX dX0_neededBy_31 rfl (gi_inc1 _) rfl rfl ?_
        dsimp only [List.set]
        refine gi_goto (pc := 34) 4 hX dX0_neededBy_34 (by decide) ?_
        first
        | exact ih (d + 1) (by omega) (by omega) _ (sp_ne0 hv c20)
        | exact ih (d + 1) (by omega) (by omega) _ (sp_ne1 hv c20)
  refine gi_iconst (pc := 0) (nI 0) hX dX0_neededBy_0 (by decide) ?_
  refine gi_istore_n (pc := 1) 2 rfl hX dX0_neededBy_1 rfl rfl ?_
  dsimp only [List.set]
  refine gi_iconst (pc := 2) (nI 0) hX dX0_neededBy_2 (by decide) ?_
  refine gi_istore_n (pc := 3) 3 rfl hX dX0_neededBy_3 rfl rfl ?_
  dsimp only [List.set]
  exact loop 0 (by omega) (nI 0) (fun f => ⟨fun z => absurd z (b_nt (b_n0 f)), fun ⟨d0, z, _⟩ => absurd z (by omega)⟩)
set_option maxHeartbeats 4000000 in
theorem m_lowestOpen {a : Nat → Nat} {k : gx_C} {P : pw_P} {B : Nat} {Gr : pw_G} {M : pw_M} {T : pw_T} (l : Nat) (hl : l < 9) (h8 : sp_B8 (T.2.1 l)) (hz : ¬ T.2.1 l = 0) : gx_CI k yX0_lowestOpen cX0_lowestOpen 3 .int (0, 0) [.ref (a 0), .int (nI l)] (pw_W a k) (P, B, Gr, M, T) (fun r u => u = (P, B, Gr, M, T) ∧ ∃ f, f < 8 ∧ r = nI f ∧ bt (T.2.1 l) f = true) := by
  refine gx_CI.of (by decide) rfl rfl (fun X hX hR => ?_)
  have hX : gx_Ok X cX0_lowestOpen RX0 k (0, 0) := hX
  show gx_G X (pw_W a k (P, B, Gr, M, T)) 0 [some (.ref (a 0)), some (.int (nI l)), none] []
  have loop : ∀ f, f ≤ 8 → (∀ g, g < f → bt (T.2.1 l) g = false) → gx_G X (pw_W a k (P, B, Gr, M, T)) 2 [some (.ref (a 0)), some (.int (nI l)), some (.int (nI f))] [] := by
    refine gx_up ?_
    intro f hf ih hv
    refine gi_aload_n (pc := 2) hX dX0_lowestOpen_2 rfl ?_
    refine pg_op (pc := 3) hX dX0_lowestOpen_3 ?_
    refine gi_iload_n (pc := 6) hX dX0_lowestOpen_6 rfl ?_
    refine pl_op (pc := 7) _ hX dX0_lowestOpen_7 rfl (by omega) ?_
    refine gi_iload_n (pc := 8) hX dX0_lowestOpen_8 rfl ?_
    refine gi_ishr (pc := 9) hX dX0_lowestOpen_9 ?_
    refine gi_iconst (pc := 10) (nI 1) hX dX0_lowestOpen_10 (by decide) ?_
    refine gi_iand (pc := 11) hX dX0_lowestOpen_11 ?_
    refine gi_if_ne (pc := 12) 21 hX dX0_lowestOpen_12 (by decide) (fun c12 => ?_) (fun c12 => ?_)
    · rw [b_tst1 (by omega)] at c12
      refine gi_iload_n (pc := 21) hX dX0_lowestOpen_21 rfl ?_
      exact hR 22 _ _ _ dX0_lowestOpen_22 rfl ⟨rfl, f, sp_B8_lt h8 c12, rfl, c12⟩
    · rw [b_tst (by omega)] at c12
      have q : f ≠ 8 := fun z => hz (b_z.mpr (fun i => by
        rcases Nat.lt_or_ge i 8 with y | y
        · exact hv i (by omega)
        · exact h8 i y))
      refine gi_iinc (pc := 15) 2 _ hX dX0_lowestOpen_15 rfl (gi_inc1 _) rfl rfl ?_
      dsimp only [List.set]
      refine gi_goto (pc := 18) 2 hX dX0_lowestOpen_18 (by decide) ?_
      exact ih (f + 1) (by omega) (by omega) (sp_all1 hv c12)
  refine gi_iconst (pc := 0) (nI 0) hX dX0_lowestOpen_0 (by decide) ?_
  refine gi_istore_n (pc := 1) 2 rfl hX dX0_lowestOpen_1 rfl rfl ?_
  dsimp only [List.set]
  exact loop 0 (by omega) (fun g hg => absurd hg (by omega))
end
section
/-! CONTRACT: choose -/
set_option maxRecDepth 100000
theorem sp_pred (m : Nat) : nI (m + 1) - nI 1 = nI m := nI_pred m
/-- a deed of layer m that makes f and is barred by none that is chosen -/
def sp_can (P : pw_P) (Gr : pw_G) (f m : Nat) (ch : Int32) (d : Nat) : Prop := sp_mk P Gr f m d ∧ Gr.2.2.2.1 (15 * m + d) &&& ch = 0
/-- the search behind a choice -/
def sp_T1 (P : pw_P) (T : pw_T) (m f d : Nat) : pw_T := (T.1, upd T.2.1 (m + 1) (T.2.1 (m + 1) &&& (sp_gn P d ^^^ -1)), upd T.2.2.1 (m + 1) (T.2.2.1 (m + 1) ||| b_sh d), T.2.2.2.1 + 1, upd T.2.2.2.2.1 T.2.2.2.1 (nI d), upd T.2.2.2.2.2.1 T.2.2.2.1 (nI (f + 8 * (m + 1))), upd T.2.2.2.2.2.2 T.2.2.2.1 (T.2.1 (m + 1) ||| T.2.2.1 (m + 1) <<< (nI 8 &&& 31)))
set_option maxHeartbeats 4000000 in
theorem m_choose {a : Nat → Nat} {k : gx_C} {P : pw_P} {B : Nat} {Gr : pw_G} {M : pw_M} {wa op ch : pw_F} {ct : Nat} {cd cf co : pw_F} (m f fr : Nat) (hm : m < 8) (hf : f < 8) (hfr : fr ≤ 15) (hc : ct < 72) : gx_CI k yX0_choose cX0_choose 6 .boolean (2, 52) [.ref (a 0), .int (nI (m + 1)), .int (nI f), .int (nI fr)] (pw_W a k) (P, B, Gr, M, (wa, op, ch, ct, cd, cf, co)) (fun r u => (r = nI 0 ∧ u = (P, B, Gr, M, (wa, op, ch, ct, cd, cf, co)) ∧ ∀ d, fr ≤ d → ¬ sp_can P Gr f m (ch (m + 1)) d) ∨ ∃ d, fr ≤ d ∧ sp_can P Gr f m (ch (m + 1)) d ∧ (∀ d0, fr ≤ d0 → d0 < d → ¬ sp_can P Gr f m (ch (m + 1)) d0) ∧ r = nI 1 ∧ u = (P, B, Gr, M, sp_T1 P (wa, op, ch, ct, cd, cf, co) m f d)) := by
  refine gx_CI.of (by decide) rfl rfl (fun X hX hR => ?_)
  have hX : gx_Ok X cX0_choose RX0 k (2, 52) := hX
  show gx_G X (pw_W a k (P, B, Gr, M, (wa, op, ch, ct, cd, cf, co))) 0 [some (.ref (a 0)), some (.int (nI (m + 1))), some (.int (nI f)), some (.int (nI fr)), none, none] []
  have loop : ∀ mk : Int32, sp_isM P Gr f m mk → ∀ d, d ≤ 15 → fr ≤ d → (∀ d0, fr ≤ d0 → d0 < d → ¬ sp_can P Gr f m (ch (m + 1)) d0) → gx_G X (pw_W a k (P, B, Gr, M, (wa, op, ch, ct, cd, cf, co))) 13 [some (.ref (a 0)), some (.int (nI (m + 1))), some (.int (nI f)), some (.int (nI fr)), some (.int mk), some (.int (nI d))] [] := by
    intro mk h1
    refine gx_up ?_
    intro d hd ih hd1 hv
    refine gi_iload (pc := 13) hX dX0_choose_13 rfl ?_
    refine gi_bipush (pc := 15) (nI 15) hX dX0_choose_15 (by decide) ?_
    refine gi_icmp_ge (pc := 17) 158 hX dX0_choose_17 (by decide) (fun c17 => ?_) (fun c17 => ?_)
    · have q0 := sp_ge (by omega) (by omega) c17
      refine gi_iconst (pc := 158) (nI 0) hX dX0_choose_158 (by decide) ?_
      exact hR 159 _ _ _ dX0_choose_159 rfl (Or.inl ⟨rfl, rfl, fun d0 h0 z => hv d0 h0 (by have := z.1.1; omega) z⟩)
    · have q0 := sp_lt (by omega) (by omega) c17
      refine gi_iload (pc := 20) hX dX0_choose_20 rfl ?_
      refine gi_iload (pc := 22) hX dX0_choose_22 rfl ?_
      refine gi_ishr (pc := 24) hX dX0_choose_24 ?_
      refine gi_iconst (pc := 25) (nI 1) hX dX0_choose_25 (by decide) ?_
      refine gi_iand (pc := 26) hX dX0_choose_26 ?_
      refine gi_if_eq (pc := 27) 152 hX dX0_choose_27 (by decide) (fun c27 => ?_) (fun c27 => ?_)
      · rw [b_tst (by omega)] at c27
        have q1 : ¬ sp_can P Gr f m (ch (m + 1)) d := fun z => absurd ((h1 d).mpr z.1) (b_nt c27)
        refine gi_iinc (pc := 152) 5 _ hX dX0_choose_152 rfl (gi_inc1 _) rfl rfl ?_
        dsimp only [List.set]
        refine gi_goto (pc := 155) 13 hX dX0_choose_155 (by decide) ?_
        exact ih (d + 1) (by omega) (by omega) (by omega) (fun d0 h0 h2 => by
          rcases Nat.lt_or_ge d0 d with z | z
          · exact hv d0 h0 z
          · have : d0 = d := by omega
            subst this
            exact q1)
      · rw [b_tst1 (by omega)] at c27
        refine gi_aload_n (pc := 30) hX dX0_choose_30 rfl ?_
        refine pg_db (pc := 31) hX dX0_choose_31 ?_
        refine gi_bipush (pc := 34) (nI 15) hX dX0_choose_34 (by decide) ?_
        refine gi_iload_n (pc := 36) hX dX0_choose_36 rfl ?_
        refine gi_iconst (pc := 37) (nI 1) hX dX0_choose_37 (by decide) ?_
        refine gi_isub (pc := 38) hX dX0_choose_38 ?_
        rw [sp_pred]
        refine gi_imul (pc := 39) hX dX0_choose_39 ?_
        refine gi_iload (pc := 40) hX dX0_choose_40 rfl ?_
        refine gi_iadd (pc := 42) hX dX0_choose_42 ?_
        refine pl_db (pc := 43) (15 * m + d) hX dX0_choose_43 (by rw [pk_mul, nI_add]) (by omega) ?_
        refine gi_aload_n (pc := 44) hX dX0_choose_44 rfl ?_
        refine pg_ch (pc := 45) hX dX0_choose_45 ?_
        refine gi_iload_n (pc := 48) hX dX0_choose_48 rfl ?_
        refine pl_ch (pc := 49) _ hX dX0_choose_49 rfl (by omega) ?_
        refine gi_iand (pc := 50) hX dX0_choose_50 ?_
        refine gi_if_eq (pc := 51) 57 hX dX0_choose_51 (by decide) (fun c51 => ?_) (fun c51 => ?_)
        · have q1 : sp_can P Gr f m (ch (m + 1)) d := ⟨(h1 d).mp c27, c51⟩
          refine gi_aload_n (pc := 57) hX dX0_choose_57 rfl ?_
          refine pg_cd (pc := 58) hX dX0_choose_58 ?_
          refine gi_aload_n (pc := 61) hX dX0_choose_61 rfl ?_
          refine pg_ct (pc := 62) hX dX0_choose_62 ?_
          refine gi_iload (pc := 65) hX dX0_choose_65 rfl ?_
          refine gi_i2b (pc := 67) hX dX0_choose_67 ?_
          rw [gi_by8 d (by omega)]
          refine ps_cd (pc := 68) _ hX dX0_choose_68 rfl hc (gi_nar8 (by omega)) ?_
          dsimp only
          refine gi_aload_n (pc := 69) hX dX0_choose_69 rfl ?_
          refine pg_cf (pc := 70) hX dX0_choose_70 ?_
          refine gi_aload_n (pc := 73) hX dX0_choose_73 rfl ?_
          refine pg_ct (pc := 74) hX dX0_choose_74 ?_
          refine gi_iload_n (pc := 77) hX dX0_choose_77 rfl ?_
          refine gi_bipush (pc := 78) (nI 8) hX dX0_choose_78 (by decide) ?_
          refine gi_iload_n (pc := 80) hX dX0_choose_80 rfl ?_
          refine gi_imul (pc := 81) hX dX0_choose_81 ?_
          refine gi_iadd (pc := 82) hX dX0_choose_82 ?_
          rw [pk_mul, nI_add]
          refine gi_i2b (pc := 83) hX dX0_choose_83 ?_
          rw [gi_by8 _ (by omega)]
          refine ps_cf (pc := 84) _ hX dX0_choose_84 rfl hc (gi_nar8 (by omega)) ?_
          dsimp only
          refine gi_aload_n (pc := 85) hX dX0_choose_85 rfl ?_
          refine pg_co (pc := 86) hX dX0_choose_86 ?_
          refine gi_aload_n (pc := 89) hX dX0_choose_89 rfl ?_
          refine pg_ct (pc := 90) hX dX0_choose_90 ?_
          refine gi_aload_n (pc := 93) hX dX0_choose_93 rfl ?_
          refine pg_op (pc := 94) hX dX0_choose_94 ?_
          refine gi_iload_n (pc := 97) hX dX0_choose_97 rfl ?_
          refine pl_op (pc := 98) _ hX dX0_choose_98 rfl (by omega) ?_
          refine gi_aload_n (pc := 99) hX dX0_choose_99 rfl ?_
          refine pg_ch (pc := 100) hX dX0_choose_100 ?_
          refine gi_iload_n (pc := 103) hX dX0_choose_103 rfl ?_
          refine pl_ch (pc := 104) _ hX dX0_choose_104 rfl (by omega) ?_
          refine gi_bipush (pc := 105) (nI 8) hX dX0_choose_105 (by decide) ?_
          refine gi_ishl (pc := 107) hX dX0_choose_107 ?_
          refine gi_ior (pc := 108) hX dX0_choose_108 ?_
          refine ps_co (pc := 109) _ hX dX0_choose_109 rfl hc ?_
          dsimp only
          refine gi_aload_n (pc := 110) hX dX0_choose_110 rfl ?_
          refine gi_dup (pc := 111) hX dX0_choose_111 rfl ?_
          refine pg_ct (pc := 112) hX dX0_choose_112 ?_
          refine gi_iconst (pc := 115) (nI 1) hX dX0_choose_115 (by decide) ?_
          refine gi_iadd (pc := 116) hX dX0_choose_116 ?_
          refine ps_ct (pc := 117) (ct + 1) hX dX0_choose_117 (nI_1 ct) ?_
          dsimp only
          refine gi_aload_n (pc := 120) hX dX0_choose_120 rfl ?_
          refine pg_op (pc := 121) hX dX0_choose_121 ?_
          refine gi_iload_n (pc := 124) hX dX0_choose_124 rfl ?_
          refine gi_dup2 (pc := 125) hX dX0_choose_125 rfl rfl ?_
          refine pl_op (pc := 126) _ hX dX0_choose_126 rfl (by omega) ?_
          refine gi_aload_n (pc := 127) hX dX0_choose_127 rfl ?_
          refine gi_iload (pc := 128) hX dX0_choose_128 rfl ?_
          refine gi_callI (pc := 130) hX (m_gainsOf d (by omega)) cw_p_gainsOf rfl rfl rfl rfl rfl rfl dX0_choose_130 (fun r u hp => ?_)
          obtain ⟨rfl, rfl⟩ := hp
          refine gi_iconst (pc := 133) (-1) hX dX0_choose_133 (by decide) ?_
          refine gi_ixor (pc := 134) hX dX0_choose_134 ?_
          refine gi_iand (pc := 135) hX dX0_choose_135 ?_
          refine ps_op (pc := 136) _ hX dX0_choose_136 rfl (by omega) ?_
          dsimp only
          refine gi_aload_n (pc := 137) hX dX0_choose_137 rfl ?_
          refine pg_ch (pc := 138) hX dX0_choose_138 ?_
          refine gi_iload_n (pc := 141) hX dX0_choose_141 rfl ?_
          refine gi_dup2 (pc := 142) hX dX0_choose_142 rfl rfl ?_
          refine pl_ch (pc := 143) _ hX dX0_choose_143 rfl (by omega) ?_
          refine gi_iconst (pc := 144) (nI 1) hX dX0_choose_144 (by decide) ?_
          refine gi_iload (pc := 145) hX dX0_choose_145 rfl ?_
          refine gi_ishl (pc := 147) hX dX0_choose_147 ?_
          refine gi_ior (pc := 148) hX dX0_choose_148 ?_
          refine ps_ch (pc := 149) _ hX dX0_choose_149 rfl (by omega) ?_
          dsimp only
          refine gi_iconst (pc := 150) (nI 1) hX dX0_choose_150 (by decide) ?_
          exact hR 151 _ _ _ dX0_choose_151 rfl (Or.inr ⟨d, hd1, q1, hv, rfl, rfl⟩)
        · have q1 : ¬ sp_can P Gr f m (ch (m + 1)) d := fun z => c51 z.2
          refine gi_goto (pc := 54) 152 hX dX0_choose_54 (by decide) ?_
          refine gi_iinc (pc := 152) 5 _ hX dX0_choose_152 rfl (gi_inc1 _) rfl rfl ?_
          dsimp only [List.set]
          refine gi_goto (pc := 155) 13 hX dX0_choose_155 (by decide) ?_
          exact ih (d + 1) (by omega) (by omega) (by omega) (fun d0 h0 h2 => by
            rcases Nat.lt_or_ge d0 d with z | z
            · exact hv d0 h0 z
            · have : d0 = d := by omega
              subst this
              exact q1)
  refine gi_aload_n (pc := 0) hX dX0_choose_0 rfl ?_
  refine gi_iload_n (pc := 1) hX dX0_choose_1 rfl ?_
  refine gi_iload_n (pc := 2) hX dX0_choose_2 rfl ?_
  refine gi_iconst (pc := 3) (nI 1) hX dX0_choose_3 (by decide) ?_
  refine gi_isub (pc := 4) hX dX0_choose_4 ?_
  rw [sp_pred]
  refine gi_callI (pc := 5) hX (m_makersOf f m hf (by omega)) cw_p_makersOf rfl rfl rfl rfl rfl rfl dX0_choose_5 (fun r u hp => ?_)
  obtain ⟨rfl, h1⟩ := hp
  generalize r = mk at h1 ⊢
  refine gi_istore (pc := 8) 4 hX dX0_choose_8 rfl rfl ?_
  dsimp only [List.set]
  refine gi_iload_n (pc := 10) hX dX0_choose_10 rfl ?_
  refine gi_istore (pc := 11) 5 hX dX0_choose_11 rfl rfl ?_
  dsimp only [List.set]
  exact loop mk h1 fr hfr (Nat.le_refl _) (fun d0 h0 h2 => absurd h2 (by omega))
end
section
/-! PURE: the stack of choices -/
set_option maxRecDepth 100000
/-- n: a fuel; c choices stand; at layer l the facts o are without a deed, the deeds h are chosen -/
def sp_SK (P : pw_P) (Gr : pw_G) (g0 top : Nat) (wa op ch cd cf co : pw_F) : Nat → Nat → Nat → Int32 → Int32 → Prop
  | 0, _, _, _, _ => False
  | n + 1, c, l, o, h =>
    (∃ (c1 m f d : Nat) (o1 h1 : Int32), c = c1 + 1 ∧ l = m + 1 ∧ l ≤ top ∧ cd c1 = nI d ∧ cf c1 = nI (f + 8 * l) ∧ co c1 = (o1 ||| h1 <<< (nI 8 &&& 31)) ∧ f < 8 ∧ bt o1 f = true ∧ sp_can P Gr f m h1 d ∧ (∀ d0, d0 < d → sp_can P Gr f m h1 d0 → ¬ sp_ext P Gr m (o1 &&& (sp_gn P d0 ^^^ -1)) (h1 ||| b_sh d0)) ∧ o = (o1 &&& (sp_gn P d ^^^ -1)) ∧ h = (h1 ||| b_sh d) ∧ sp_SK P Gr g0 top wa op ch cd cf co n c1 l o1 h1)
    ∨ ((c = 0 ∨ ∃ (c1 f l1 : Nat), c = c1 + 1 ∧ cf c1 = nI (f + 8 * l1) ∧ f < 8 ∧ l < l1 ∧ l1 ≤ top) ∧ o = wa l ∧ h = nI 0 ∧ sp_B8 (wa l) ∧ ((l = top ∧ c = 0 ∧ wa l = nI g0) ∨ (l < top ∧ op (l + 1) = 0 ∧ sp_need P (ch (l + 1)) (wa l) ∧ sp_SK P Gr g0 top wa op ch cd cf co n c (l + 1) (op (l + 1)) (ch (l + 1)))))
section SK
variable {P : pw_P} {Gr : pw_G} {g0 top : Nat} {wa op ch cd cf co : pw_F}
theorem sk_top : ∀ (n c l : Nat) (o h : Int32), sp_SK P Gr g0 top wa op ch cd cf co n c l o h → l ≤ top ∧ (c = 0 ∨ ∃ (c1 f l1 : Nat), c = c1 + 1 ∧ cf c1 = nI (f + 8 * l1) ∧ f < 8 ∧ l ≤ l1 ∧ l1 ≤ top) := by
  intro n c l o h hs
  cases n with
  | zero => exact hs.elim
  | succ n =>
    rcases hs with ⟨c1, m, f, d, o1, h1, a1, a2, a3, a4, a5, a6, a7, -⟩ | ⟨b1, b2, b3, b4, b5⟩
    · exact ⟨a3, Or.inr ⟨c1, f, l, a1, a5, a7, Nat.le_refl _, a3⟩⟩
    · refine ⟨?_, b1.imp id (fun ⟨c1, f, l1, e1, e2, e3, e4, e5⟩ => ⟨c1, f, l1, e1, e2, e3, by omega, e5⟩)⟩
      rcases b5 with ⟨e, -⟩ | ⟨e, -⟩ <;> omega
theorem sk_fr {wa2 op2 ch2 cd2 cf2 co2 : pw_F} : ∀ (n c l : Nat) (o h : Int32), (∀ i, l ≤ i → wa2 i = wa i) → (∀ i, l < i → op2 i = op i) → (∀ i, l < i → ch2 i = ch i) → (∀ i, i < c → cd2 i = cd i ∧ cf2 i = cf i ∧ co2 i = co i) → sp_SK P Gr g0 top wa op ch cd cf co n c l o h → sp_SK P Gr g0 top wa2 op2 ch2 cd2 cf2 co2 n c l o h := by
  intro n
  induction n with
  | zero => intro c l o h _ _ _ _ hs; exact hs
  | succ n ih =>
    intro c l o h e1 e2 e3 e4 hs
    rcases hs with ⟨c1, m, f, d, o1, h1, a1, a2, a3, a4, a5, a6, a7, a8, a9, a10, a11, a12, a13⟩ | ⟨b1, b2, b3, b4, b5⟩
    · obtain ⟨x1, x2, x3⟩ := e4 c1 (by omega)
      exact Or.inl ⟨c1, m, f, d, o1, h1, a1, a2, a3, x1.trans a4, x2.trans a5, x3.trans a6, a7, a8, a9, a10, a11, a12, ih c1 l o1 h1 e1 e2 e3 (fun i hi => e4 i (by omega)) a13⟩
    · refine Or.inr ⟨b1.imp id (fun ⟨c1, f, l1, y1, y2, y3⟩ => ⟨c1, f, l1, y1, (e4 c1 (by omega)).2.1.trans y2, y3⟩), by rw [e1 l (Nat.le_refl _)]; exact b2, b3, by rw [e1 l (Nat.le_refl _)]; exact b4, ?_⟩
      rw [e1 l (Nat.le_refl _), e2 (l + 1) (by omega), e3 (l + 1) (by omega)]
      exact b5.imp id (fun ⟨y1, y2, y3, y4⟩ => ⟨y1, y2, y3, ih c (l + 1) _ _ (fun i hi => e1 i (by omega)) (fun i hi => e2 i (by omega)) (fun i hi => e3 i (by omega)) e4 y4⟩)
/-- how many of the first n bits -/
def sp_cnt (o : Int32) : Nat → Nat
  | 0 => 0
  | n + 1 => sp_cnt o n + (if bt o n = true then 1 else 0)
theorem cn_le (o : Int32) : ∀ n, sp_cnt o n ≤ n := by
  intro n
  induction n with
  | zero => exact Nat.le_refl _
  | succ n ih => unfold sp_cnt; split <;> omega
theorem cn_sub {o o1 : Int32} (h : ∀ i, bt o i = true → bt o1 i = true) : ∀ n, sp_cnt o n ≤ sp_cnt o1 n := by
  intro n
  induction n with
  | zero => exact Nat.le_refl _
  | succ n ih =>
    unfold sp_cnt
    by_cases e : bt o n = true
    · rw [if_pos e, if_pos (h n e)]; omega
    · rw [if_neg e]; split <;> omega
theorem cn_lt {o o1 : Int32} (h : ∀ i, bt o i = true → bt o1 i = true) {f : Nat} (h1 : bt o1 f = true) (h2 : bt o f = false) : ∀ n, f < n → sp_cnt o n + 1 ≤ sp_cnt o1 n := by
  intro n
  induction n with
  | zero => intro z; exact absurd z (by omega)
  | succ n ih =>
    intro hn
    unfold sp_cnt
    by_cases e : f = n
    · subst e
      have := cn_sub h f
      rw [if_pos h1, if_neg (b_nt h2)]; omega
    · have := ih (by omega)
      by_cases e2 : bt o n = true
      · rw [if_pos e2, if_pos (h n e2)]; omega
      · rw [if_neg e2]; split <;> omega
theorem cn_pos {o : Int32} {f : Nat} (h : bt o f = true) : ∀ n, f < n → 1 ≤ sp_cnt o n := by
  intro n hn
  have := cn_lt (o := nI 0) (o1 := o) (fun i z => absurd z (b_nt (b_n0 i))) h (b_n0 f) n hn
  omega
theorem sk_and {o1 x : Int32} (i : Nat) (h : bt (o1 &&& x) i = true) : bt o1 i = true := by
  rw [b_and, Bool.and_eq_true] at h; exact h.1
theorem sk_cut {o1 x : Int32} {f : Nat} (h : bt x f = true) : bt (o1 &&& (x ^^^ -1)) f = false := by
  rw [b_and, b_not x (b_lt h), h]; simp
theorem sk_cnt (ht : top ≤ 8) : ∀ (n c l : Nat) (o h : Int32), sp_SK P Gr g0 top wa op ch cd cf co n c l o h → c + sp_cnt o 8 ≤ 8 * (top - l) + 8 := by
  intro n
  induction n with
  | zero => intro c l o h hs; exact hs.elim
  | succ n ih =>
    intro c l o h hs
    rcases hs with ⟨c1, m, f, d, o1, h1, a1, a2, a3, a4, a5, a6, a7, a8, a9, a10, a11, a12, a13⟩ | ⟨b1, b2, b3, b4, b5⟩
    · have := ih c1 l o1 h1 a13
      have h2 := cn_lt (o := o) (o1 := o1) (f := f) (fun i z => by rw [a11] at z; exact sk_and i z) a8 (by rw [a11]; exact sk_cut a9.1.2.2) 8 a7
      omega
    · have h8 := cn_le o 8
      rcases b5 with ⟨y1, y2, -⟩ | ⟨y1, y2, y3, y4⟩
      · omega
      · have := ih c (l + 1) _ _ y4
        omega
/-- bars go both ways, and none bars itself -/
theorem sp_sym (hg : sp_gok P Gr) {m : Nat} (hm : m < 8) {d e : Nat} (hd : d < 15) (he : e < 15) (h : bt (Gr.2.2.2.1 (15 * m + d)) e = true) : bt (Gr.2.2.2.1 (15 * m + e)) d = true := by
  obtain ⟨-, -, gc, gl⟩ := hg
  obtain ⟨-, g2, -, -⟩ := gl m hm
  rw [g2 e he d]
  rcases (g2 d hd e).mp h with z | ⟨-, z1, z2, z3⟩
  · obtain ⟨-, y1, y2, y3, y4⟩ := (gc d hd e).mp z
    exact Or.inl ((gc e he d).mpr ⟨hd, Ne.symm y1, y3, y2, fun w => y4 ⟨w.2, w.1⟩⟩)
  · refine Or.inr ⟨hd, Ne.symm z1, ⟨z2.2, z2.1⟩, fun w => z3 ?_⟩
    rw [show sp_nd P d ||| sp_nd P e = sp_nd P e ||| sp_nd P d from b_ext (fun i _ => by rw [b_or, b_or, Bool.or_comm])]
    exact w
theorem sp_irr (hg : sp_gok P Gr) {m : Nat} (hm : m < 8) {d : Nat} (hd : d < 15) : bt (Gr.2.2.2.1 (15 * m + d)) d = false := by
  obtain ⟨-, -, gc, gl⟩ := hg
  obtain ⟨-, g2, -, -⟩ := gl m hm
  cases h : bt (Gr.2.2.2.1 (15 * m + d)) d with
  | false => rfl
  | true =>
    rcases (g2 d hd d).mp h with z | ⟨-, z1, -⟩
    · exact absurd rfl ((gc d hd d).mp z).2.1
    · exact absurd rfl z1
theorem sp_sok1 (hg : sp_gok P Gr) {m : Nat} (hm : m < 8) {w o h : Int32} {f d : Nat} (hk : sp_sok P Gr m w o h) (hc : sp_can P Gr f m h d) : sp_sok P Gr m w (o &&& (sp_gn P d ^^^ -1)) (h ||| b_sh d) := by
  obtain ⟨k0, k1, k2, k3, k4⟩ := hk
  obtain ⟨⟨c1, c2, c3⟩, c4⟩ := hc
  have hor : ∀ e, bt (h ||| b_sh d) e = true → bt h e = true ∨ e = d := fun e he => by
    rw [b_or, Bool.or_eq_true, b_shi (by omega), decide_eq_true_iff] at he
    exact he
  have c5 : ∀ e, bt h e = true → bt (Gr.2.2.2.1 (15 * m + d)) e = false := fun e he => by
    cases z : bt (Gr.2.2.2.1 (15 * m + d)) e with
    | false => rfl
    | true => rw [b_adz.mp c4 e z] at he; cases he
  refine ⟨k0, fun i hi => by rw [b_and, k1 i hi]; rfl, fun e he => ?_, fun e1 e2 h1 h2 => ?_, fun g hg2 => ?_⟩
  · rcases hor e he with z | z
    · exact k2 e z
    · rw [z]; exact ⟨c1, c2⟩
  · rcases hor e1 h1 with z1 | z1 <;> rcases hor e2 h2 with z2 | z2
    · exact k3 e1 e2 z1 z2
    · subst z2
      cases z : bt (Gr.2.2.2.1 (15 * m + e1)) e2 with
      | false => rfl
      | true =>
        have := sp_sym hg hm (k2 e1 z1).1 c1 z
        rw [c5 e1 z1] at this; cases this
    · subst z1; exact c5 e2 z2
    · subst z1; subst z2; exact sp_irr hg hm c1
  · rcases k4 g hg2 with z | ⟨e, z1, z2⟩
    · cases y : bt (sp_gn P d) g with
      | false => left; rw [b_and, z, b_not _ (b_lt z), y]; rfl
      | true => right; exact ⟨d, by rw [b_or, b_shi (by omega), decide_eq_true rfl, Bool.or_true], y⟩
    · right; exact ⟨e, by rw [b_or, z1]; rfl, z2⟩
theorem sk_sok (hg : sp_gok P Gr) (ht : top ≤ 8) : ∀ (n c m : Nat) (o h : Int32), sp_SK P Gr g0 top wa op ch cd cf co n c (m + 1) o h → sp_sok P Gr m (wa (m + 1)) o h := by
  intro n
  induction n with
  | zero => intro c m o h hs; exact hs.elim
  | succ n ih =>
    intro c m o h hs
    rcases hs with ⟨c1, m1, f, d, o1, h1, a1, a2, a3, a4, a5, a6, a7, a8, a9, a10, a11, a12, a13⟩ | ⟨b1, b2, b3, b4, b5⟩
    · have : m1 = m := by omega
      subst this
      rw [a11, a12]
      exact sp_sok1 hg (by omega) (ih c1 m1 o1 h1 a13) a9
    · rw [b2, b3]
      exact ⟨b4, b4, fun d hd => absurd hd (b_nt (b_n0 d)), fun d e hd => absurd hd (b_nt (b_n0 d)), fun f hf => Or.inl hf⟩
theorem sk_B8 (hg : sp_gok P Gr) (ht : top ≤ 8) {n c l : Nat} {o h : Int32} (hs : sp_SK P Gr g0 top wa op ch cd cf co n c l o h) : sp_B8 o ∧ ∀ d, bt h d = true → d < 15 := by
  cases l with
  | zero =>
    cases n with
    | zero => exact hs.elim
    | succ n =>
      rcases hs with ⟨c1, m1, f, d, o1, h1, a1, a2, -⟩ | ⟨b1, b2, b3, b4, b5⟩
      · omega
      · rw [b2, b3]; exact ⟨b4, fun d hd => absurd hd (b_nt (b_n0 d))⟩
  | succ m =>
    have := sk_sok hg ht n c m o h hs
    exact ⟨this.2.1, fun d hd => (this.2.2.1 d hd).1⟩
/-- what is wanted at every layer above is served, if it is here -/
theorem sk_up (hP : sp_ok P) (hg : sp_gok P Gr) (ht : top ≤ 8) : ∀ (n c l : Nat) (o h : Int32), sp_SK P Gr g0 top wa op ch cd cf co n c l o h → sp_sv P P.2.2.2.2 l (wa l) → (∀ l1, l ≤ l1 → l1 ≤ top → sp_B8 (wa l1) ∧ sp_sv P P.2.2.2.2 l1 (wa l1)) ∧ wa top = nI g0 := by
  intro n
  induction n with
  | zero => intro c l o h hs; exact hs.elim
  | succ n ih =>
    intro c l o h hs hv
    rcases hs with ⟨c1, m, f, d, o1, h1, a1, a2, a3, a4, a5, a6, a7, a8, a9, a10, a11, a12, a13⟩ | ⟨b1, b2, b3, b4, b5⟩
    · exact ih c1 l o1 h1 a13 hv
    · rcases b5 with ⟨y1, y2, y3⟩ | ⟨y1, y2, y3, y4⟩
      · subst y1
        refine ⟨fun l1 z1 z2 => ?_, y3⟩
        have : l1 = l := by omega
        subst this
        exact ⟨b4, hv⟩
      · have hk := sk_sok hg ht n c l _ _ y4
        have hv2 := sp_ext_sv hP hg (by omega) (sp_E3 hk y2 y3 hv)
        obtain ⟨x1, x2⟩ := ih c (l + 1) _ _ y4 hv2
        refine ⟨fun l1 z1 z2 => ?_, x2⟩
        rcases Nat.lt_or_ge l l1 with z | z
        · exact x1 l1 z z2
        · have : l1 = l := by omega
          subst this
          exact ⟨b4, hv⟩
/-! the measure -/
def sp_vv (cd : pw_F) : Nat → Nat
  | 0 => 0
  | c + 1 => sp_vv cd c * 16 + ((cd c).toNatClampNeg + 1)
def sp_V (cd : pw_F) (c : Nat) : Nat := sp_vv cd c * 16 ^ (72 - c)
theorem vv_c {cd2 : pw_F} : ∀ c, (∀ i, i < c → cd2 i = cd i) → sp_vv cd2 c = sp_vv cd c := by
  intro c
  induction c with
  | zero => intro _; rfl
  | succ c ih =>
    intro h
    unfold sp_vv
    rw [ih (fun i hi => h i (by omega)), h c (by omega)]
theorem vv_lt : ∀ c, (∀ i, i < c → (cd i).toNatClampNeg < 15) → sp_vv cd c + 1 ≤ 16 ^ c := by
  intro c
  induction c with
  | zero => intro _; exact Nat.le_refl _
  | succ c ih =>
    intro h
    have h1 := ih (fun i hi => h i (by omega))
    have h2 := h c (by omega)
    unfold sp_vv
    rw [Nat.pow_succ]
    omega
theorem vv_up {c1 : Nat} : ∀ k, (∀ i, i < c1 + 1 + k → (cd i).toNatClampNeg < 15) → sp_vv cd (c1 + 1 + k) + 1 ≤ (sp_vv cd (c1 + 1) + 1) * 16 ^ k := by
  intro k
  induction k with
  | zero => intro _; simp
  | succ k ih =>
    intro h
    have h1 := ih (fun i hi => h i (by omega))
    have h2 := h (c1 + 1 + k) (by omega)
    have e : sp_vv cd (c1 + 1 + (k + 1)) = sp_vv cd (c1 + 1 + k) * 16 + ((cd (c1 + 1 + k)).toNatClampNeg + 1) := rfl
    rw [e, Nat.pow_succ, ← Nat.mul_assoc]
    omega
theorem sp_Vle {c : Nat} (hc : c ≤ 72) (h : ∀ i, i < c → (cd i).toNatClampNeg < 15) : sp_V cd c ≤ 16 ^ 72 := by
  have h1 := vv_lt c h
  unfold sp_V
  have e : (16 : Nat) ^ 72 = 16 ^ c * 16 ^ (72 - c) := by rw [← Nat.pow_add]; congr 1; omega
  rw [e]
  exact Nat.mul_le_mul_right _ (by omega)
theorem sp_Vpush {cd2 : pw_F} {c : Nat} (hc : c < 72) (h : ∀ i, i < c → cd2 i = cd i) : sp_V cd c < sp_V cd2 (c + 1) := by
  unfold sp_V
  have e : (16 : Nat) ^ (72 - c) = 16 * 16 ^ (72 - (c + 1)) := by rw [Nat.mul_comm, ← Nat.pow_succ]; congr 1; omega
  have hp : 0 < (16 : Nat) ^ (72 - (c + 1)) := Nat.pow_pos (by decide)
  have e2 : sp_vv cd2 (c + 1) = sp_vv cd c * 16 + ((cd2 c).toNatClampNeg + 1) := by
    show sp_vv cd2 c * 16 + _ = _
    rw [vv_c c h]
  rw [e, e2, ← Nat.mul_assoc]
  exact Nat.mul_lt_mul_of_pos_right (by omega) hp
theorem sp_Vpop {cd2 : pw_F} {c c1 : Nat} (hc : c ≤ 72) (h1 : c1 < c) (hd : ∀ i, i < c → (cd i).toNatClampNeg < 15) (h2 : ∀ i, i < c1 → cd2 i = cd i) (h3 : (cd c1).toNatClampNeg < (cd2 c1).toNatClampNeg) : sp_V cd c < sp_V cd2 (c1 + 1) := by
  unfold sp_V
  obtain ⟨k, rfl⟩ : ∃ k, c = c1 + 1 + k := ⟨c - c1 - 1, by omega⟩
  have h4 := vv_up (c1 := c1) k hd
  have e : (16 : Nat) ^ (72 - (c1 + 1)) = 16 ^ k * 16 ^ (72 - (c1 + 1 + k)) := by rw [← Nat.pow_add]; congr 1; omega
  have hp : 0 < (16 : Nat) ^ (72 - (c1 + 1 + k)) := Nat.pow_pos (by decide)
  have e1 : sp_vv cd (c1 + 1) + 1 ≤ sp_vv cd2 (c1 + 1) := by
    show sp_vv cd c1 * 16 + _ + 1 ≤ sp_vv cd2 c1 * 16 + _
    rw [vv_c c1 h2]; omega
  rw [e, ← Nat.mul_assoc]
  exact Nat.mul_lt_mul_of_pos_right (Nat.lt_of_lt_of_le (Nat.lt_of_succ_le h4) (Nat.mul_le_mul_right _ e1)) hp
theorem sk_dig : ∀ (n c l : Nat) (o h : Int32), sp_SK P Gr g0 top wa op ch cd cf co n c l o h → ∀ i, i < c → (cd i).toNatClampNeg < 15 := by
  intro n
  induction n with
  | zero => intro c l o h hs; exact hs.elim
  | succ n ih =>
    intro c l o h hs i hi
    rcases hs with ⟨c1, m, f, d, o1, h1, a1, a2, a3, a4, a5, a6, a7, a8, a9, a10, a11, a12, a13⟩ | ⟨b1, b2, b3, b4, b5⟩
    · rcases Nat.lt_or_ge i c1 with z | z
      · exact ih c1 l o1 h1 a13 i z
      · have : i = c1 := by omega
        subst this
        have h15 := a9.1.1
        rw [a4, nI_clamp (by omega)]; exact h15
    · rcases b5 with ⟨y1, y2, y3⟩ | ⟨y1, y2, y3, y4⟩
      · omega
      · exact ih c (l + 1) _ _ y4 i hi
/-- what was saved of a choice comes back -/
theorem sp_back {o h : Int32} (h8 : sp_B8 o) (h15 : ∀ d, bt h d = true → d < 15) : (o ||| h <<< (nI 8 &&& 31)) &&& nI 255 = o ∧ (o ||| h <<< (nI 8 &&& 31)) >>> (nI 8 &&& 31) = h := by
  constructor
  · refine b_ext (fun i hi => ?_)
    rw [b_and, b_or, b_shl 8 (by omega) h hi, show (nI 255) = (255 : Int32) from rfl, b_255]
    rcases Nat.lt_or_ge i 8 with z | z
    · rw [decide_eq_true z, decide_eq_false (show ¬ 8 ≤ i by omega)]; simp
    · rw [decide_eq_false (show ¬ i < 8 by omega), h8 i z]; simp
  · refine b_ext (fun i hi => ?_)
    have hf : ∀ j, 15 ≤ j → bt h j = false := fun j hj => by
      cases z : bt h j with
      | false => rfl
      | true => have := h15 j z; omega
    rw [b_sshr 8 (by omega) _ hi]
    split
    · rename_i z
      rw [b_or, b_shl 8 (by omega) h z, h8 (8 + i) (by omega), decide_eq_true (show 8 ≤ 8 + i by omega), Nat.add_sub_cancel_left]
      simp
    · rw [b_or, b_shl 8 (by omega) h (by omega), h8 31 (by omega), hf 23 (by omega), hf i (by omega)]
      simp
end SK
/-- the search's state stands at layer l -/
def sp_inv (P : pw_P) (Gr : pw_G) (g0 top : Nat) (T : pw_T) (l : Nat) : Prop := ∃ n, sp_SK P Gr g0 top T.1 T.2.1 T.2.2.1 T.2.2.2.2.1 T.2.2.2.2.2.1 T.2.2.2.2.2.2 n T.2.2.2.1 l (T.2.1 l) (T.2.2.1 l)
end
section
/-! CONTRACT: goBack -/
set_option maxRecDepth 100000
theorem sk_push {P : pw_P} {Gr : pw_G} {g0 top : Nat} {T : pw_T} {n m f d : Nat} (hs : sp_SK P Gr g0 top T.1 T.2.1 T.2.2.1 T.2.2.2.2.1 T.2.2.2.2.2.1 T.2.2.2.2.2.2 n T.2.2.2.1 (m + 1) (T.2.1 (m + 1)) (T.2.2.1 (m + 1))) (hf : f < 8) (ho : bt (T.2.1 (m + 1)) f = true) (hc : sp_can P Gr f m (T.2.2.1 (m + 1)) d) (hx : ∀ d0, d0 < d → sp_can P Gr f m (T.2.2.1 (m + 1)) d0 → ¬ sp_ext P Gr m (T.2.1 (m + 1) &&& (sp_gn P d0 ^^^ -1)) (T.2.2.1 (m + 1) ||| b_sh d0)) : sp_inv P Gr g0 top (sp_T1 P T m f d) (m + 1) := by
  refine ⟨n + 1, Or.inl ⟨T.2.2.2.1, m, f, d, T.2.1 (m + 1), T.2.2.1 (m + 1), rfl, rfl, (sk_top n _ _ _ _ hs).1, pk_us, pk_us, pk_us, hf, ho, hc, hx, pk_us, pk_us, ?_⟩⟩
  exact sk_fr n _ _ _ _ (fun _ _ => rfl) (fun i hi => pk_un (by omega)) (fun i hi => pk_un (by omega)) (fun i hi => ⟨pk_un (by omega), pk_un (by omega), pk_un (by omega)⟩) hs
set_option maxHeartbeats 4000000 in
theorem m_goBack {a : Nat → Nat} {k : gx_C} {P : pw_P} {B : Nat} {Gr : pw_G} {M : pw_M} {wa op0 ch0 : pw_F} {c0 : Nat} {cd cf co : pw_F} (g0 top m0 n0 : Nat) (ht : top ≤ 8) (hP : sp_ok P) (hG : sp_gok P Gr) (hM : sp_mok P M) (hs : sp_SK P Gr g0 top wa op0 ch0 cd cf co n0 c0 (m0 + 1) (op0 (m0 + 1)) (ch0 (m0 + 1))) (hx0 : ¬ sp_ext P Gr m0 (op0 (m0 + 1)) (ch0 (m0 + 1))) : gx_CI k yX0_goBack cX0_goBack 7 .int (3, 78) [.ref (a 0), .int (nI (m0 + 1)), .int (nI top)] (pw_W a k) (P, B, Gr, M, (wa, op0, ch0, c0, cd, cf, co)) (fun r u => ∃ M1 T1, u = (P, B, Gr, M1, T1) ∧ sp_mok P M1 ∧ ((r = nI (top + 1) ∧ ¬ sp_sv P P.2.2.2.2 top (nI g0)) ∨ ∃ m, m < top ∧ r = nI (m + 1) ∧ sp_inv P Gr g0 top T1 (m + 1) ∧ sp_V cd c0 < sp_V T1.2.2.2.2.1 T1.2.2.2.1)) := by
  refine gx_CI.of (by decide) rfl rfl (fun X hX hR => ?_)
  have hX : gx_Ok X cX0_goBack RX0 k (3, 78) := hX
  show gx_G X (pw_W a k (P, B, Gr, M, (wa, op0, ch0, c0, cd, cf, co))) 0 [some (.ref (a 0)), some (.int (nI (m0 + 1))), some (.int (nI top)), none, none, none, none] []
  have hc72 : c0 ≤ 72 := by
    have := sk_cnt ht n0 c0 (m0 + 1) _ _ hs
    omega
  have hdig := sk_dig n0 c0 (m0 + 1) _ _ hs
  have fin : ∀ (op ch : pw_F) (c : Nat) (M1 : pw_M), sp_mok P M1 → ¬ sp_sv P P.2.2.2.2 top (nI g0) → gx_G X (pw_W a k (P, B, Gr, M1, (wa, op, ch, c, cd, cf, co))) 2 [some (.ref (a 0)), some (.int (nI (m0 + 1))), some (.int (nI top)), some (.int (nI (top + 1))), none, none, none] [] := by
    intro op ch c M1 hM1 hns
    refine gi_iload_n (pc := 2) hX dX0_goBack_2 rfl ?_
    refine gi_iload_n (pc := 3) hX dX0_goBack_3 rfl ?_
    refine gi_icmp_gt (pc := 4) 153 hX dX0_goBack_4 (by decide) (fun c4 => ?_) (fun c4 => ?_)
    · refine gi_iload_n (pc := 153) hX dX0_goBack_153 rfl ?_
      exact hR 154 _ _ _ dX0_goBack_154 rfl ⟨M1, _, rfl, hM1, Or.inl ⟨rfl, hns⟩⟩
    · exact absurd ((nI_ltI (by omega) (by omega)).mpr (by omega)) c4
  have loop : ∀ (n c m : Nat) (op ch : pw_F) (M1 : pw_M), c ≤ c0 → sp_SK P Gr g0 top wa op ch cd cf co n c (m + 1) (op (m + 1)) (ch (m + 1)) → ¬ sp_ext P Gr m (op (m + 1)) (ch (m + 1)) → sp_mok P M1 → gx_G X (pw_W a k (P, B, Gr, M1, (wa, op, ch, c, cd, cf, co))) 2 [some (.ref (a 0)), some (.int (nI (m0 + 1))), some (.int (nI top)), some (.int (nI (m + 1))), none, none, none] [] := by
    intro n
    induction n with
    | zero => intro c m op ch M1 _ hs1; exact hs1.elim
    | succ n ih =>
      intro c m op ch M1 hc hs1 hx hM1
      have hb0 := sk_cnt ht (n + 1) c (m + 1) _ _ hs1
      have hl := (sk_top (n + 1) c (m + 1) _ _ hs1).1
      rcases hs1 with ⟨c1, m1, f, d, o1, h1, a1, a2, a3, a4, a5, a6, a7, a8, a9, a10, a11, a12, a13⟩ | ⟨b1, b2, b3, b4, b5⟩
      · have em : m = m1 := by omega
        subst em
        subst a1
        have hb := sk_B8 hG ht a13
        rw [a11, a12] at hx
        refine gi_iload_n (pc := 2) hX dX0_goBack_2 rfl ?_
        refine gi_iload_n (pc := 3) hX dX0_goBack_3 rfl ?_
        refine gi_icmp_gt (pc := 4) 153 hX dX0_goBack_4 (by decide) (fun c4 => ?_) (fun c4 => ?_)
        · exact absurd ((nI_ltI (by omega) (by omega)).mp c4) (by omega)
        · refine gi_aload_n (pc := 7) hX dX0_goBack_7 rfl ?_
          refine pg_ct (pc := 8) hX dX0_goBack_8 ?_
          try dsimp only
          refine gi_if_le (pc := 11) 36 hX dX0_goBack_11 (by decide) (fun c11 => ?_) (fun c11 => ?_)
          · exact absurd c11 (nI_nle (by omega) (by omega))
          · refine gi_aload_n (pc := 14) hX dX0_goBack_14 rfl ?_
            refine pg_cf (pc := 15) hX dX0_goBack_15 ?_
            refine gi_aload_n (pc := 18) hX dX0_goBack_18 rfl ?_
            refine pg_ct (pc := 19) hX dX0_goBack_19 ?_
            try dsimp only
            refine gi_iconst (pc := 22) (nI 1) hX dX0_goBack_22 (by decide) ?_
            refine gi_isub (pc := 23) hX dX0_goBack_23 ?_
            rw [sp_pred]
            refine pl_cf (pc := 24) _ hX dX0_goBack_24 rfl (by omega) ?_
            try dsimp only
            rw [a5]
            refine gi_bipush (pc := 25) (nI 8) hX dX0_goBack_25 (by decide) ?_
            refine gi_idiv (pc := 27) hX dX0_goBack_27 (by decide) ?_
            rw [pk_div (by omega) (by omega) (by omega), show (f + 8 * (m + 1)) / 8 = m + 1 by omega]
            refine gi_iload_n (pc := 28) hX dX0_goBack_28 rfl ?_
            refine gi_icmp_ne (pc := 29) 36 hX dX0_goBack_29 (by decide) (fun c29 => ?_) (fun c29 => ?_)
            · exact absurd rfl c29
            · refine gi_iconst (pc := 32) (nI 1) hX dX0_goBack_32 (by decide) ?_
              refine gi_goto (pc := 33) 37 hX dX0_goBack_33 (by decide) ?_
              refine gi_istore (pc := 37) 4 hX dX0_goBack_37 rfl rfl ?_
              dsimp only [List.set]
              refine gi_iload (pc := 39) hX dX0_goBack_39 rfl ?_
              refine gi_if_ne (pc := 41) 62 hX dX0_goBack_41 (by decide) (fun c41 => ?_) (fun c41 => ?_)
              · refine gi_aload_n (pc := 62) hX dX0_goBack_62 rfl ?_
                refine gi_dup (pc := 63) hX dX0_goBack_63 rfl ?_
                refine pg_ct (pc := 64) hX dX0_goBack_64 ?_
                try dsimp only
                refine gi_iconst (pc := 67) (nI 1) hX dX0_goBack_67 (by decide) ?_
                refine gi_isub (pc := 68) hX dX0_goBack_68 ?_
                refine ps_ct (pc := 69) c1 hX dX0_goBack_69 (sp_pred c1) ?_
                try dsimp only
                refine gi_aload_n (pc := 72) hX dX0_goBack_72 rfl ?_
                refine pg_cf (pc := 73) hX dX0_goBack_73 ?_
                refine gi_aload_n (pc := 76) hX dX0_goBack_76 rfl ?_
                refine pg_ct (pc := 77) hX dX0_goBack_77 ?_
                try dsimp only
                refine pl_cf (pc := 80) _ hX dX0_goBack_80 rfl (by omega) ?_
                try dsimp only
                rw [a5]
                refine gi_bipush (pc := 81) (nI 8) hX dX0_goBack_81 (by decide) ?_
                refine gi_irem (pc := 83) hX dX0_goBack_83 (by decide) ?_
                rw [pk_rem (by omega) (by omega) (by omega), show (f + 8 * (m + 1)) % 8 = f by omega]
                refine gi_istore (pc := 84) 5 hX dX0_goBack_84 rfl rfl ?_
                dsimp only [List.set]
                refine gi_aload_n (pc := 86) hX dX0_goBack_86 rfl ?_
                refine pg_cd (pc := 87) hX dX0_goBack_87 ?_
                refine gi_aload_n (pc := 90) hX dX0_goBack_90 rfl ?_
                refine pg_ct (pc := 91) hX dX0_goBack_91 ?_
                try dsimp only
                refine pl_cd (pc := 94) _ hX dX0_goBack_94 rfl (by omega) ?_
                try dsimp only
                rw [a4]
                refine gi_istore (pc := 95) 6 hX dX0_goBack_95 rfl rfl ?_
                dsimp only [List.set]
                refine gi_aload_n (pc := 97) hX dX0_goBack_97 rfl ?_
                refine pg_op (pc := 98) hX dX0_goBack_98 ?_
                refine gi_iload_n (pc := 101) hX dX0_goBack_101 rfl ?_
                refine gi_aload_n (pc := 102) hX dX0_goBack_102 rfl ?_
                refine pg_co (pc := 103) hX dX0_goBack_103 ?_
                refine gi_aload_n (pc := 106) hX dX0_goBack_106 rfl ?_
                refine pg_ct (pc := 107) hX dX0_goBack_107 ?_
                try dsimp only
                refine pl_co (pc := 110) _ hX dX0_goBack_110 rfl (by omega) ?_
                try dsimp only
                rw [a6]
                refine gi_sipush (pc := 111) (nI 255) hX dX0_goBack_111 (by decide) ?_
                refine gi_iand (pc := 114) hX dX0_goBack_114 ?_
                rw [(sp_back hb.1 hb.2).1]
                refine ps_op (pc := 115) _ hX dX0_goBack_115 rfl (by omega) ?_
                try dsimp only
                refine gi_aload_n (pc := 116) hX dX0_goBack_116 rfl ?_
                refine pg_ch (pc := 117) hX dX0_goBack_117 ?_
                refine gi_iload_n (pc := 120) hX dX0_goBack_120 rfl ?_
                refine gi_aload_n (pc := 121) hX dX0_goBack_121 rfl ?_
                refine pg_co (pc := 122) hX dX0_goBack_122 ?_
                refine gi_aload_n (pc := 125) hX dX0_goBack_125 rfl ?_
                refine pg_ct (pc := 126) hX dX0_goBack_126 ?_
                try dsimp only
                refine pl_co (pc := 129) _ hX dX0_goBack_129 rfl (by omega) ?_
                try dsimp only
                rw [a6]
                refine gi_bipush (pc := 130) (nI 8) hX dX0_goBack_130 (by decide) ?_
                refine gi_ishr (pc := 132) hX dX0_goBack_132 ?_
                rw [(sp_back hb.1 hb.2).2]
                refine ps_ch (pc := 133) _ hX dX0_goBack_133 rfl (by omega) ?_
                try dsimp only
                refine gi_aload_n (pc := 134) hX dX0_goBack_134 rfl ?_
                refine gi_iload_n (pc := 135) hX dX0_goBack_135 rfl ?_
                refine gi_iload (pc := 136) hX dX0_goBack_136 rfl ?_
                refine gi_iload (pc := 138) hX dX0_goBack_138 rfl ?_
                refine gi_iconst (pc := 140) (nI 1) hX dX0_goBack_140 (by decide) ?_
                refine gi_iadd (pc := 141) hX dX0_goBack_141 ?_
                rw [nI_add]
                refine gi_callI (pc := 142) hX (m_choose m f (d + 1) (by omega) a7 (by have := a9.1.1; omega) (by omega)) cw_p_choose rfl rfl rfl rfl rfl rfl dX0_goBack_142 (fun r u hp => ?_)
                rcases hp with ⟨rfl, rfl, hno⟩ | ⟨d2, hd2, hcan, hmin, rfl, rfl⟩
                · have hext : ¬ sp_ext P Gr m o1 h1 := sp_E1 a8 (fun d1 mk1 hz1 => by
                    rcases Nat.lt_trichotomy d1 d with z | z | z
                    · exact a10 d1 z ⟨mk1, hz1⟩
                    · rw [z]; exact hx
                    · exact fun _ => hno d1 (by omega) ⟨mk1, by rw [pk_us]; exact hz1⟩)
                  refine gi_if_eq (pc := 145) 150 hX dX0_goBack_145 (by decide) (fun c145 => ?_) (fun c145 => ?_)
                  · refine gi_goto (pc := 150) 2 hX dX0_goBack_150 (by decide) ?_
                    refine gi_drop 4 ?_
                    dsimp only [List.set]
                    refine gi_drop 5 ?_
                    dsimp only [List.set]
                    refine gi_drop 6 ?_
                    dsimp only [List.set]
                    exact ih c1 m _ _ M1 (by omega) (by rw [pk_us, pk_us]; exact sk_fr n c1 (m + 1) o1 h1 (fun _ _ => rfl) (fun i hi => pk_un (by omega)) (fun i hi => pk_un (by omega)) (fun _ _ => ⟨rfl, rfl, rfl⟩) a13) (by rw [pk_us, pk_us]; exact hext) hM1
                  · exact absurd nI_0 c145
                · have hinv : sp_inv P Gr g0 top (sp_T1 P (wa, upd op (m + 1) o1, upd ch (m + 1) h1, c1, cd, cf, co) m f d2) (m + 1) := by
                    refine sk_push (n := n) ?_ a7 (by show bt (upd op (m + 1) o1 (m + 1)) f = true; rw [pk_us]; exact a8) hcan (fun d0 h0 hc0 => ?_)
                    · show sp_SK P Gr g0 top wa (upd op (m + 1) o1) (upd ch (m + 1) h1) cd cf co n c1 (m + 1) (upd op (m + 1) o1 (m + 1)) (upd ch (m + 1) h1 (m + 1))
                      rw [pk_us, pk_us]
                      exact sk_fr n c1 (m + 1) o1 h1 (fun _ _ => rfl) (fun i hi => pk_un (by omega)) (fun i hi => pk_un (by omega)) (fun _ _ => ⟨rfl, rfl, rfl⟩) a13
                    · have hc1 : sp_can P Gr f m (upd ch (m + 1) h1 (m + 1)) d0 := hc0
                      show ¬ sp_ext P Gr m (upd op (m + 1) o1 (m + 1) &&& (sp_gn P d0 ^^^ -1)) (upd ch (m + 1) h1 (m + 1) ||| b_sh d0)
                      rw [pk_us] at hc1
                      rw [pk_us, pk_us]
                      rcases Nat.lt_trichotomy d0 d with z | z | z
                      · exact a10 d0 z hc1
                      · rw [z]; exact hx
                      · exact absurd hc0 (hmin d0 (by omega) h0)
                  have hV : sp_V cd c0 < sp_V (upd cd c1 (nI d2)) (c1 + 1) := sp_Vpop hc72 (by omega) hdig (fun i hi => pk_un (by omega)) (by
                    have h15 := a9.1.1
                    have h16 := hcan.1.1
                    rw [a4, pk_us, nI_clamp (by omega), nI_clamp (by omega)]; omega)
                  refine gi_if_eq (pc := 145) 150 hX dX0_goBack_145 (by decide) (fun c145 => ?_) (fun c145 => ?_)
                  · exact absurd c145 (by decide)
                  · refine gi_iload_n (pc := 148) hX dX0_goBack_148 rfl ?_
                    exact hR 149 _ _ _ dX0_goBack_149 rfl ⟨M1, _, rfl, hM1, Or.inr ⟨m, by omega, rfl, hinv, hV⟩⟩
              · exact absurd c41 (by decide)
      · have hns : ¬ sp_sv P P.2.2.2.2 (m + 1) (wa (m + 1)) := fun z => hx (by rw [b2, b3]; exact sp_sv_ext hP hG (by omega) z)
        obtain ⟨g, hg, eg⟩ := sp_B8_nat b4
        have h36 : gx_G X (pw_W a k (P, B, Gr, M1, (wa, op, ch, c, cd, cf, co))) 36 [some (.ref (a 0)), some (.int (nI (m0 + 1))), some (.int (nI top)), some (.int (nI (m + 1))), none, none, none] [] := by
          refine gi_iconst (pc := 36) (nI 0) hX dX0_goBack_36 (by decide) ?_
          refine gi_istore (pc := 37) 4 hX dX0_goBack_37 rfl rfl ?_
          dsimp only [List.set]
          refine gi_iload (pc := 39) hX dX0_goBack_39 rfl ?_
          refine gi_if_ne (pc := 41) 62 hX dX0_goBack_41 (by decide) (fun c41 => ?_) (fun c41 => ?_)
          · exact absurd nI_0 c41
          · refine gi_aload_n (pc := 44) hX dX0_goBack_44 rfl ?_
            refine gi_iconst (pc := 45) (nI 0) hX dX0_goBack_45 (by decide) ?_
            refine gi_iload_n (pc := 46) hX dX0_goBack_46 rfl ?_
            refine gi_aload_n (pc := 47) hX dX0_goBack_47 rfl ?_
            refine pg_wa (pc := 48) hX dX0_goBack_48 ?_
            refine gi_iload_n (pc := 51) hX dX0_goBack_51 rfl ?_
            refine pl_wa (pc := 52) _ hX dX0_goBack_52 rfl (by omega) ?_
            try dsimp only
            rw [eg]
            refine gi_callV (pc := 53) hX (m_markSet0 (m + 1) g (by omega) hg) cw_p_markSet rfl rfl rfl rfl rfl rfl dX0_goBack_53 (fun u hp => ?_)
            obtain ⟨A, rfl, hA⟩ := hp
            have hM2 := sp_mok2 hM1 hA (by rw [← eg]; exact hns)
            refine gi_iinc (pc := 56) 3 _ hX dX0_goBack_56 rfl (gi_inc1 _) rfl rfl ?_
            dsimp only [List.set]
            refine gi_goto (pc := 59) 2 hX dX0_goBack_59 (by decide) ?_
            refine gi_drop 4 ?_
            dsimp only [List.set]
            rcases b5 with ⟨y1, y2, y3⟩ | ⟨y1, y2, y3, y4⟩
            · have z := fin op ch c (A, M1.2) hM2 (by rw [← y1, ← y3]; exact hns)
              rw [← y1] at z ⊢
              exact z
            · exact ih c (m + 1) op ch _ hc y4 (sp_E2 y3 hns) hM2
        rcases b1 with e1 | ⟨c1, f, l1, e1, e2, e3, e4, e5⟩
        · subst e1
          refine gi_iload_n (pc := 2) hX dX0_goBack_2 rfl ?_
          refine gi_iload_n (pc := 3) hX dX0_goBack_3 rfl ?_
          refine gi_icmp_gt (pc := 4) 153 hX dX0_goBack_4 (by decide) (fun c4 => ?_) (fun c4 => ?_)
          · exact absurd ((nI_ltI (by omega) (by omega)).mp c4) (by omega)
          · refine gi_aload_n (pc := 7) hX dX0_goBack_7 rfl ?_
            refine pg_ct (pc := 8) hX dX0_goBack_8 ?_
            try dsimp only
            refine gi_if_le (pc := 11) 36 hX dX0_goBack_11 (by decide) (fun c11 => ?_) (fun c11 => ?_)
            · exact h36
            · exact absurd (by rw [nI_0]; decide) c11
        · subst e1
          refine gi_iload_n (pc := 2) hX dX0_goBack_2 rfl ?_
          refine gi_iload_n (pc := 3) hX dX0_goBack_3 rfl ?_
          refine gi_icmp_gt (pc := 4) 153 hX dX0_goBack_4 (by decide) (fun c4 => ?_) (fun c4 => ?_)
          · exact absurd ((nI_ltI (by omega) (by omega)).mp c4) (by omega)
          · refine gi_aload_n (pc := 7) hX dX0_goBack_7 rfl ?_
            refine pg_ct (pc := 8) hX dX0_goBack_8 ?_
            try dsimp only
            refine gi_if_le (pc := 11) 36 hX dX0_goBack_11 (by decide) (fun c11 => ?_) (fun c11 => ?_)
            · exact absurd c11 (nI_nle (by omega) (by omega))
            · refine gi_aload_n (pc := 14) hX dX0_goBack_14 rfl ?_
              refine pg_cf (pc := 15) hX dX0_goBack_15 ?_
              refine gi_aload_n (pc := 18) hX dX0_goBack_18 rfl ?_
              refine pg_ct (pc := 19) hX dX0_goBack_19 ?_
              try dsimp only
              refine gi_iconst (pc := 22) (nI 1) hX dX0_goBack_22 (by decide) ?_
              refine gi_isub (pc := 23) hX dX0_goBack_23 ?_
              rw [sp_pred]
              refine pl_cf (pc := 24) _ hX dX0_goBack_24 rfl (by omega) ?_
              try dsimp only
              rw [e2]
              refine gi_bipush (pc := 25) (nI 8) hX dX0_goBack_25 (by decide) ?_
              refine gi_idiv (pc := 27) hX dX0_goBack_27 (by decide) ?_
              rw [pk_div (by omega) (by omega) (by omega), show (f + 8 * l1) / 8 = l1 by omega]
              refine gi_iload_n (pc := 28) hX dX0_goBack_28 rfl ?_
              refine gi_icmp_ne (pc := 29) 36 hX dX0_goBack_29 (by decide) (fun c29 => ?_) (fun c29 => ?_)
              · exact h36
              · exact absurd ((nI_eq (by omega) (by omega)).mp c29) (by omega)
  refine gi_iload_n (pc := 0) hX dX0_goBack_0 rfl ?_
  refine gi_istore_n (pc := 1) 3 rfl hX dX0_goBack_1 rfl rfl ?_
  dsimp only [List.set]
  exact loop n0 c0 m0 op0 ch0 M (Nat.le_refl _) hs hx0 hM
end
section
/-! CONTRACT: serves -/
set_option maxRecDepth 100000
theorem gx_ind {α : Type} (μ : α → Nat) {Q : α → Prop} (h : ∀ x, (∀ y, μ y < μ x → Q y) → Q x) : ∀ x, Q x := by
  have key : ∀ n x, μ x < n → Q x := by
    intro n
    induction n with
    | zero => intro x hx; exact absurd hx (by omega)
    | succ n ih => intro x hx; exact h x (fun y hy => ih y (by omega))
  intro x
  exact key (μ x + 1) x (by omega)
theorem gi_dec1 (m : Nat) : nI (m + 1) + Int32.ofInt (-1) = nI m := by
  rw [show Int32.ofInt (-1) = (-1 : Int32) by decide]
  exact pk_m1 m
def sp_mu (x : pw_T × Nat) : Nat := (16 ^ 72 - sp_V x.1.2.2.2.2.1 x.1.2.2.2.1) * 16 + x.2
theorem sk_w8 {P : pw_P} {Gr : pw_G} {g0 top : Nat} {wa op ch cd cf co : pw_F} : ∀ (n c l : Nat) (o h : Int32), sp_SK P Gr g0 top wa op ch cd cf co n c l o h → sp_B8 (wa l) := by
  intro n
  induction n with
  | zero => intro c l o h hs; exact hs.elim
  | succ n ih =>
    intro c l o h hs
    rcases hs with ⟨c1, m, f, d, o1, h1, a1, a2, a3, a4, a5, a6, a7, a8, a9, a10, a11, a12, a13⟩ | ⟨b1, b2, b3, b4, b5⟩
    · exact ih c1 l o1 h1 a13
    · exact b4
theorem sp_invV {P : pw_P} {Gr : pw_G} {g0 top l : Nat} {T : pw_T} (ht : top ≤ 8) (h : sp_inv P Gr g0 top T l) : sp_V T.2.2.2.2.1 T.2.2.2.1 ≤ 16 ^ 72 ∧ l ≤ top := by
  obtain ⟨n, hs⟩ := h
  have h1 := sk_cnt ht n _ _ _ _ hs
  have h2 := (sk_top n _ _ _ _ hs).1
  exact ⟨sp_Vle (by omega) (sk_dig n _ _ _ _ hs), h2⟩
theorem sp_muV {P : pw_P} {Gr : pw_G} {g0 top l l1 : Nat} {T T1 : pw_T} (ht : top ≤ 8) (h : sp_inv P Gr g0 top T1 l1) (hV : sp_V T.2.2.2.2.1 T.2.2.2.1 < sp_V T1.2.2.2.2.1 T1.2.2.2.1) : sp_mu (T1, l1) < sp_mu (T, l) := by
  obtain ⟨h1, h2⟩ := sp_invV ht h
  unfold sp_mu
  dsimp only
  generalize sp_V T.2.2.2.2.1 T.2.2.2.1 = x at *
  generalize sp_V T1.2.2.2.2.1 T1.2.2.2.1 = y at *
  generalize (16 : Nat) ^ 72 = z at *
  omega
/-- down a layer -/
theorem sk_down {P : pw_P} {Gr : pw_G} {g0 top : Nat} {wa op ch cd cf co : pw_F} {ct n m gn : Nat} (hs : sp_SK P Gr g0 top wa op ch cd cf co n ct (m + 1) (op (m + 1)) (ch (m + 1))) (ho : op (m + 1) = 0) (hn : sp_need P (ch (m + 1)) (nI gn)) (hg : gn < 256) : sp_inv P Gr g0 top (upd wa m (nI gn), upd op m (nI gn), upd ch m (nI 0), ct, cd, cf, co) m := by
  obtain ⟨h1, h2⟩ := sk_top n _ _ _ _ hs
  refine ⟨n + 1, Or.inr ⟨h2.imp id (fun ⟨c1, f, l1, e1, e2, e3, e4, e5⟩ => ⟨c1, f, l1, e1, e2, e3, by omega, e5⟩), ?_, pk_us, ?_, Or.inr ⟨by omega, ?_, ?_, ?_⟩⟩⟩
  · show upd op m (nI gn) m = upd wa m (nI gn) m
    rw [pk_us, pk_us]
  · show sp_B8 (upd wa m (nI gn) m)
    rw [pk_us]; exact sp_nat_B8 hg
  · show upd op m (nI gn) (m + 1) = 0
    rw [pk_un (by omega)]; exact ho
  · show sp_need P (upd ch m (nI 0) (m + 1)) (upd wa m (nI gn) m)
    rw [pk_us, pk_un (by omega)]; exact hn
  · show sp_SK P Gr g0 top (upd wa m (nI gn)) (upd op m (nI gn)) (upd ch m (nI 0)) cd cf co n ct (m + 1) (upd op m (nI gn) (m + 1)) (upd ch m (nI 0) (m + 1))
    rw [pk_un (by omega), pk_un (by omega)]
    exact sk_fr n ct (m + 1) _ _ (fun i hi => pk_un (by omega)) (fun i hi => pk_un (by omega)) (fun i hi => pk_un (by omega)) (fun _ _ => ⟨rfl, rfl, rfl⟩) hs
theorem sk_start {P : pw_P} {Gr : pw_G} {g top : Nat} {wa op ch cd cf co : pw_F} (hg : g < 256) : sp_inv P Gr g top (upd wa top (nI g), upd op top (nI g), upd ch top (nI 0), 0, cd, cf, co) top := by
  refine ⟨1, Or.inr ⟨Or.inl rfl, ?_, pk_us, ?_, Or.inl ⟨rfl, rfl, pk_us⟩⟩⟩
  · show upd op top (nI g) top = upd wa top (nI g) top
    rw [pk_us, pk_us]
  · show sp_B8 (upd wa top (nI g) top)
    rw [pk_us]; exact sp_nat_B8 hg
theorem sp_need8 {P : pw_P} (h : sp_ok P) {c nx : Int32} (hn : sp_need P c nx) : sp_B8 nx := by
  intro i hi
  cases z : bt nx i with
  | false => rfl
  | true =>
    obtain ⟨d, h1, -, h3⟩ := (hn i).mp z
    rw [sp_B8_nd h h1 i hi] at h3; cases h3
set_option maxHeartbeats 4000000 in
theorem m_serves {a : Nat → Nat} {k : gx_C} {P : pw_P} {B : Nat} {Gr : pw_G} {M : pw_M} {wa op ch : pw_F} {ct : Nat} {cd cf co : pw_F} (g top : Nat) (hg : g < 256) (ht : top ≤ 8) (hP : sp_ok P) (hG : sp_gok P Gr) (hM : sp_mok P M) : gx_CI k yX0_serves cX0_serves 6 .boolean (4, 104) [.ref (a 0), .int (nI g), .int (nI top)] (pw_W a k) (P, B, Gr, M, (wa, op, ch, ct, cd, cf, co)) (fun r u => ∃ M1 T1, u = (P, B, Gr, M1, T1) ∧ sp_mok P M1 ∧ b_tf r (sp_sv P P.2.2.2.2 top (nI g))) := by
  refine gx_CI.of (by decide) rfl rfl (fun X hX hR => ?_)
  have hX : gx_Ok X cX0_serves RX0 k (4, 104) := hX
  show gx_G X (pw_W a k (P, B, Gr, M, (wa, op, ch, ct, cd, cf, co))) 0 [some (.ref (a 0)), some (.int (nI g)), some (.int (nI top)), none, none, none] []
  have fin : ∀ (M1 : pw_M) (T1 : pw_T), sp_mok P M1 → ¬ sp_sv P P.2.2.2.2 top (nI g) → gx_G X (pw_W a k (P, B, Gr, M1, T1)) 46 [some (.ref (a 0)), some (.int (nI g)), some (.int (nI top)), some (.int (nI (top + 1))), none, none] [] := by
    intro M1 T1 hM1 hns
    refine gi_iload_n (pc := 46) hX dX0_serves_46 rfl ?_
    refine gi_iload_n (pc := 47) hX dX0_serves_47 rfl ?_
    refine gi_icmp_gt (pc := 48) 182 hX dX0_serves_48 (by decide) (fun c48 => ?_) (fun c48 => ?_)
    · refine gi_iconst (pc := 182) (nI 0) hX dX0_serves_182 (by decide) ?_
      exact hR 183 _ _ _ dX0_serves_183 rfl ⟨M1, T1, rfl, hM1, b_tf0 hns⟩
    · exact absurd ((nI_ltI (by omega) (by omega)).mpr (by omega)) c48
  have loop : ∀ x : pw_T × Nat, ∀ M1 : pw_M, sp_mok P M1 → sp_inv P Gr g top x.1 x.2 → (x.2 = 0 → b_sub (x.1.1 0) P.2.2.2.2) → gx_G X (pw_W a k (P, B, Gr, M1, x.1)) 46 [some (.ref (a 0)), some (.int (nI g)), some (.int (nI top)), some (.int (nI x.2)), none, none] [] := by
    refine gx_ind sp_mu ?_
    rintro ⟨⟨wa, op, ch, ct, cd, cf, co⟩, l⟩ ih M1 hM1 ⟨n, hs⟩ hz
    dsimp only at hs hz ⊢
    have hl := (sk_top n _ _ _ _ hs).1
    refine gi_iload_n (pc := 46) hX dX0_serves_46 rfl ?_
    refine gi_iload_n (pc := 47) hX dX0_serves_47 rfl ?_
    refine gi_icmp_gt (pc := 48) 182 hX dX0_serves_48 (by decide) (fun c48 => ?_) (fun c48 => ?_)
    · exact absurd ((nI_ltI (by omega) (by omega)).mp c48) (by omega)
    · refine gi_iload_n (pc := 51) hX dX0_serves_51 rfl ?_
      refine gi_if_eq (pc := 52) 70 hX dX0_serves_52 (by decide) (fun c52 => ?_) (fun c52 => ?_)
      · have e0 : l = 0 := (nI_eq (by omega) (by omega)).mp (c52.trans nI_0.symm)
        subst e0
        have hsv : sp_sv P P.2.2.2.2 0 (wa 0) := ⟨_, rfl, hz rfl⟩
        refine gi_aload_n (pc := 70) hX dX0_serves_70 rfl ?_
        refine gi_iload_n (pc := 71) hX dX0_serves_71 rfl ?_
        refine gi_iload_n (pc := 72) hX dX0_serves_72 rfl ?_
        refine gi_callV (pc := 73) hX (m_markAbove _ top (by omega) (by omega) hM1 (sk_up hP hG ht _ _ _ _ _ hs hsv).1) cw_p_markAbove rfl rfl rfl rfl rfl rfl dX0_serves_73 (fun u hp => ?_)
        obtain ⟨M2, rfl, hM2⟩ := hp
        have hfin : sp_sv P P.2.2.2.2 top (nI g) := by
          have z := sk_up hP hG ht _ _ _ _ _ hs hsv
          rw [← z.2]; exact (z.1 top (by omega) (Nat.le_refl _)).2
        refine gi_iconst (pc := 76) (nI 1) hX dX0_serves_76 (by decide) ?_
        exact hR 77 _ _ _ dX0_serves_77 rfl ⟨M2, _, rfl, hM2, b_tf1 hfin⟩
      · obtain ⟨m, rfl⟩ : ∃ m, l = m + 1 := ⟨l - 1, by have z : l ≠ 0 := fun z => c52 (by rw [z]; exact nI_0); omega⟩
        obtain ⟨gw, hgw, eg⟩ := sp_B8_nat (sk_w8 _ _ _ _ _ hs)
        refine gi_aload_n (pc := 55) hX dX0_serves_55 rfl ?_
        refine gi_iconst (pc := 56) (nI 1) hX dX0_serves_56 (by decide) ?_
        refine gi_iload_n (pc := 57) hX dX0_serves_57 rfl ?_
        refine gi_aload_n (pc := 58) hX dX0_serves_58 rfl ?_
        refine pg_wa (pc := 59) hX dX0_serves_59 ?_
        refine gi_iload_n (pc := 62) hX dX0_serves_62 rfl ?_
        refine pl_wa (pc := 63) _ hX dX0_serves_63 rfl (by omega) ?_
        try dsimp only
        rw [eg]
        refine gi_callI (pc := 64) hX (m_isMarked1 (m + 1) gw (by omega) hgw) cw_p_isMarked rfl rfl rfl rfl rfl rfl dX0_serves_64 (fun r u hp => ?_)
        obtain ⟨rfl, hp⟩ := hp
        refine gi_if_eq (pc := 67) 78 hX dX0_serves_67 (by decide) (fun c67 => ?_) (fun c67 => ?_)
        · refine gi_aload_n (pc := 78) hX dX0_serves_78 rfl ?_
          refine pg_op (pc := 79) hX dX0_serves_79 ?_
          refine gi_iload_n (pc := 82) hX dX0_serves_82 rfl ?_
          refine pl_op (pc := 83) _ hX dX0_serves_83 rfl (by omega) ?_
          try dsimp only
          refine gi_if_ne (pc := 84) 154 hX dX0_serves_84 (by decide) (fun c84 => ?_) (fun c84 => ?_)
          · refine gi_aload_n (pc := 154) hX dX0_serves_154 rfl ?_
            refine gi_iload_n (pc := 155) hX dX0_serves_155 rfl ?_
            refine gi_callI (pc := 156) hX (m_lowestOpen (m + 1) (by omega) (sk_B8 hG ht hs).1 c84) cw_p_lowestOpen rfl rfl rfl rfl rfl rfl dX0_serves_156 (fun r u hp => ?_)
            obtain ⟨rfl, f, hf, rfl, hof⟩ := hp
            have hof : bt (op (m + 1)) f = true := hof
            have hct : ct < 72 := by
              have z1 := sk_cnt ht n _ _ _ _ hs
              have z2 := cn_pos hof 8 hf
              omega
            refine gi_istore (pc := 159) 4 hX dX0_serves_159 rfl rfl ?_
            dsimp only [List.set]
            refine gi_aload_n (pc := 161) hX dX0_serves_161 rfl ?_
            refine gi_iload_n (pc := 162) hX dX0_serves_162 rfl ?_
            refine gi_iload (pc := 163) hX dX0_serves_163 rfl ?_
            refine gi_iconst (pc := 165) (nI 0) hX dX0_serves_165 (by decide) ?_
            refine gi_callI (pc := 166) hX (m_choose m f 0 (by omega) hf (by omega) hct) cw_p_choose rfl rfl rfl rfl rfl rfl dX0_serves_166 (fun r u hp => ?_)
            rcases hp with ⟨rfl, rfl, hno⟩ | ⟨d2, hd2, hcan, hmin, rfl, rfl⟩
            · have hext : ¬ sp_ext P Gr m (op (m + 1)) (ch (m + 1)) := sp_E1 hof (fun d1 mk1 hz1 => absurd ⟨mk1, hz1⟩ (hno d1 (by omega)))
              refine gi_if_ne (pc := 169) 179 hX dX0_serves_169 (by decide) (fun c169 => ?_) (fun c169 => ?_)
              · exact absurd nI_0 c169
              · refine gi_aload_n (pc := 172) hX dX0_serves_172 rfl ?_
                refine gi_iload_n (pc := 173) hX dX0_serves_173 rfl ?_
                refine gi_iload_n (pc := 174) hX dX0_serves_174 rfl ?_
                refine gi_callI (pc := 175) hX (m_goBack g top m n ht hP hG hM1 hs hext) cw_p_goBack rfl rfl rfl rfl rfl rfl dX0_serves_175 (fun r u hp => ?_)
                obtain ⟨M2, T2, rfl, hM2, hh⟩ := hp
                rcases hh with ⟨rfl, hns2⟩ | ⟨m2, hm2, rfl, hi2, hV2⟩
                · refine gi_istore_n (pc := 178) 3 rfl hX dX0_serves_178 rfl rfl ?_
                  dsimp only [List.set]
                  refine gi_goto (pc := 179) 46 hX dX0_serves_179 (by decide) ?_
                  refine gi_drop 4 ?_
                  dsimp only [List.set]
                  refine gi_drop 5 ?_
                  dsimp only [List.set]
                  exact fin M2 T2 hM2 hns2
                · refine gi_istore_n (pc := 178) 3 rfl hX dX0_serves_178 rfl rfl ?_
                  dsimp only [List.set]
                  refine gi_goto (pc := 179) 46 hX dX0_serves_179 (by decide) ?_
                  refine gi_drop 4 ?_
                  dsimp only [List.set]
                  refine gi_drop 5 ?_
                  dsimp only [List.set]
                  exact ih (T2, m2 + 1) (sp_muV ht hi2 hV2) M2 hM2 hi2 (fun z => absurd z (Nat.succ_ne_zero m2))
            · have hi2 : sp_inv P Gr g top (sp_T1 P (wa, op, ch, ct, cd, cf, co) m f d2) (m + 1) := sk_push (T := (wa, op, ch, ct, cd, cf, co)) hs hf hof hcan (fun d0 h0 hc0 => absurd hc0 (hmin d0 (by omega) h0))
              have hV2 : sp_V cd ct < sp_V (upd cd ct (nI d2)) (ct + 1) := sp_Vpush hct (fun i hi => pk_un (by omega))
              refine gi_if_ne (pc := 169) 179 hX dX0_serves_169 (by decide) (fun c169 => ?_) (fun c169 => ?_)
              · refine gi_goto (pc := 179) 46 hX dX0_serves_179 (by decide) ?_
                refine gi_drop 4 ?_
                dsimp only [List.set]
                refine gi_drop 5 ?_
                dsimp only [List.set]
                exact ih (_, m + 1) (sp_muV ht hi2 hV2) M1 hM1 hi2 (fun z => absurd z (Nat.succ_ne_zero m))
              · exact absurd c169 (by decide)
          · refine gi_aload_n (pc := 87) hX dX0_serves_87 rfl ?_
            refine gi_iload_n (pc := 88) hX dX0_serves_88 rfl ?_
            refine gi_callI (pc := 89) hX (m_neededBy (m + 1) (by omega)) cw_p_neededBy rfl rfl rfl rfl rfl rfl dX0_serves_89 (fun r u hp => ?_)
            obtain ⟨rfl, hnd⟩ := hp
            obtain ⟨gn, hgn, rfl⟩ := sp_B8_nat (sp_need8 hP hnd)
            refine gi_istore (pc := 92) 4 hX dX0_serves_92 rfl rfl ?_
            dsimp only [List.set]
            refine gi_aload_n (pc := 94) hX dX0_serves_94 rfl ?_
            refine gi_iload (pc := 95) hX dX0_serves_95 rfl ?_
            refine gi_iload_n (pc := 97) hX dX0_serves_97 rfl ?_
            refine gi_iconst (pc := 98) (nI 1) hX dX0_serves_98 (by decide) ?_
            refine gi_isub (pc := 99) hX dX0_serves_99 ?_
            rw [sp_pred]
            refine gi_callI (pc := 100) hX (m_canBeTogether (nI gn) m (by omega)) cw_p_canBeTogether rfl rfl rfl rfl rfl rfl dX0_serves_100 (fun r u hp => ?_)
            obtain ⟨rfl, hq1⟩ := hp
            refine gi_if_eq (pc := 103) 123 hX dX0_serves_103 (by decide) (fun c103 => ?_) (fun c103 => ?_)
            · have hns : ¬ sp_sv P P.2.2.2.2 m (nI gn) := fun ⟨s, z1, z2⟩ => hq1.z.mp c103 (sp_GS hP hG m (by omega) s z1 _ z2)
              refine gi_iconst (pc := 123) (nI 0) hX dX0_serves_123 (by decide) ?_
              refine gi_istore (pc := 124) 5 hX dX0_serves_124 rfl rfl ?_
              dsimp only [List.set]
              refine gi_iload (pc := 126) hX dX0_serves_126 rfl ?_
              refine gi_if_eq (pc := 128) 144 hX dX0_serves_128 (by decide) (fun c128 => ?_) (fun c128 => ?_)
              · refine gi_aload_n (pc := 144) hX dX0_serves_144 rfl ?_
                refine gi_iload_n (pc := 145) hX dX0_serves_145 rfl ?_
                refine gi_iload_n (pc := 146) hX dX0_serves_146 rfl ?_
                refine gi_callI (pc := 147) hX (m_goBack g top m n ht hP hG hM1 hs (sp_E2 hnd hns)) cw_p_goBack rfl rfl rfl rfl rfl rfl dX0_serves_147 (fun r u hp => ?_)
                obtain ⟨M2, T2, rfl, hM2, hh⟩ := hp
                rcases hh with ⟨rfl, hns2⟩ | ⟨m2, hm2, rfl, hi2, hV2⟩
                · refine gi_istore_n (pc := 150) 3 rfl hX dX0_serves_150 rfl rfl ?_
                  dsimp only [List.set]
                  refine gi_goto (pc := 151) 46 hX dX0_serves_151 (by decide) ?_
                  refine gi_drop 4 ?_
                  dsimp only [List.set]
                  refine gi_drop 5 ?_
                  dsimp only [List.set]
                  exact fin M2 T2 hM2 hns2
                · refine gi_istore_n (pc := 150) 3 rfl hX dX0_serves_150 rfl rfl ?_
                  dsimp only [List.set]
                  refine gi_goto (pc := 151) 46 hX dX0_serves_151 (by decide) ?_
                  refine gi_drop 4 ?_
                  dsimp only [List.set]
                  refine gi_drop 5 ?_
                  dsimp only [List.set]
                  exact ih (T2, m2 + 1) (sp_muV ht hi2 hV2) M2 hM2 hi2 (fun z => absurd z (Nat.succ_ne_zero m2))
              · exact absurd nI_0 c128
            · refine gi_aload_n (pc := 106) hX dX0_serves_106 rfl ?_
              refine gi_iconst (pc := 107) (nI 0) hX dX0_serves_107 (by decide) ?_
              refine gi_iload_n (pc := 108) hX dX0_serves_108 rfl ?_
              refine gi_iconst (pc := 109) (nI 1) hX dX0_serves_109 (by decide) ?_
              refine gi_isub (pc := 110) hX dX0_serves_110 ?_
              refine gi_iload (pc := 111) hX dX0_serves_111 rfl ?_
              rw [sp_pred]
              refine gi_callI (pc := 113) hX (m_isMarked0 m gn (by omega) hgn) cw_p_isMarked rfl rfl rfl rfl rfl rfl dX0_serves_113 (fun r u hp => ?_)
              obtain ⟨rfl, hq2⟩ := hp
              refine gi_if_ne (pc := 116) 123 hX dX0_serves_116 (by decide) (fun c116 => ?_) (fun c116 => ?_)
              · have hns : ¬ sp_sv P P.2.2.2.2 m (nI gn) := (hM1 m gn (by omega) hgn).1 (hq2.nz.mp c116)
                refine gi_iconst (pc := 123) (nI 0) hX dX0_serves_123 (by decide) ?_
                refine gi_istore (pc := 124) 5 hX dX0_serves_124 rfl rfl ?_
                dsimp only [List.set]
                refine gi_iload (pc := 126) hX dX0_serves_126 rfl ?_
                refine gi_if_eq (pc := 128) 144 hX dX0_serves_128 (by decide) (fun c128 => ?_) (fun c128 => ?_)
                · refine gi_aload_n (pc := 144) hX dX0_serves_144 rfl ?_
                  refine gi_iload_n (pc := 145) hX dX0_serves_145 rfl ?_
                  refine gi_iload_n (pc := 146) hX dX0_serves_146 rfl ?_
                  refine gi_callI (pc := 147) hX (m_goBack g top m n ht hP hG hM1 hs (sp_E2 hnd hns)) cw_p_goBack rfl rfl rfl rfl rfl rfl dX0_serves_147 (fun r u hp => ?_)
                  obtain ⟨M2, T2, rfl, hM2, hh⟩ := hp
                  rcases hh with ⟨rfl, hns2⟩ | ⟨m2, hm2, rfl, hi2, hV2⟩
                  · refine gi_istore_n (pc := 150) 3 rfl hX dX0_serves_150 rfl rfl ?_
                    dsimp only [List.set]
                    refine gi_goto (pc := 151) 46 hX dX0_serves_151 (by decide) ?_
                    refine gi_drop 4 ?_
                    dsimp only [List.set]
                    refine gi_drop 5 ?_
                    dsimp only [List.set]
                    exact fin M2 T2 hM2 hns2
                  · refine gi_istore_n (pc := 150) 3 rfl hX dX0_serves_150 rfl rfl ?_
                    dsimp only [List.set]
                    refine gi_goto (pc := 151) 46 hX dX0_serves_151 (by decide) ?_
                    refine gi_drop 4 ?_
                    dsimp only [List.set]
                    refine gi_drop 5 ?_
                    dsimp only [List.set]
                    exact ih (T2, m2 + 1) (sp_muV ht hi2 hV2) M2 hM2 hi2 (fun z => absurd z (Nat.succ_ne_zero m2))
                · exact absurd nI_0 c128
              · refine gi_iconst (pc := 119) (nI 1) hX dX0_serves_119 (by decide) ?_
                refine gi_goto (pc := 120) 124 hX dX0_serves_120 (by decide) ?_
                refine gi_istore (pc := 124) 5 hX dX0_serves_124 rfl rfl ?_
                dsimp only [List.set]
                refine gi_iload (pc := 126) hX dX0_serves_126 rfl ?_
                refine gi_if_eq (pc := 128) 144 hX dX0_serves_128 (by decide) (fun c128 => ?_) (fun c128 => ?_)
                · exact absurd c128 (by decide)
                · refine gi_iinc (pc := 131) 3 _ hX dX0_serves_131 rfl (gi_dec1 m) rfl rfl ?_
                  dsimp only [List.set]
                  refine gi_aload_n (pc := 134) hX dX0_serves_134 rfl ?_
                  refine gi_iload_n (pc := 135) hX dX0_serves_135 rfl ?_
                  refine gi_iload (pc := 136) hX dX0_serves_136 rfl ?_
                  refine gi_callV (pc := 138) hX (m_enter m (nI gn) (by omega)) cw_p_enter rfl rfl rfl rfl rfl rfl dX0_serves_138 (fun u hp => ?_)
                  subst hp
                  refine gi_goto (pc := 141) 46 hX dX0_serves_141 (by decide) ?_
                  refine gi_drop 4 ?_
                  dsimp only [List.set]
                  refine gi_drop 5 ?_
                  dsimp only [List.set]
                  have hi2 := sk_down hs c84 hnd hgn
                  refine ih (_, m) ?_ M1 hM1 hi2 (fun z => ?_)
                  · unfold sp_mu; dsimp only; omega
                  · subst z
                    show b_sub (upd wa 0 (nI gn) 0) _
                    rw [pk_us, ← hG.1]; exact (hq1.nz.mp c103).1
        · have hsv : sp_sv P P.2.2.2.2 (m + 1) (wa (m + 1)) := by rw [eg]; exact (hM1 (m + 1) gw (by omega) hgw).2 (hp.nz.mp c67)
          refine gi_aload_n (pc := 70) hX dX0_serves_70 rfl ?_
          refine gi_iload_n (pc := 71) hX dX0_serves_71 rfl ?_
          refine gi_iload_n (pc := 72) hX dX0_serves_72 rfl ?_
          refine gi_callV (pc := 73) hX (m_markAbove _ top (by omega) (by omega) hM1 (sk_up hP hG ht _ _ _ _ _ hs hsv).1) cw_p_markAbove rfl rfl rfl rfl rfl rfl dX0_serves_73 (fun u hp => ?_)
          obtain ⟨M2, rfl, hM2⟩ := hp
          have hfin : sp_sv P P.2.2.2.2 top (nI g) := by
            have z := sk_up hP hG ht _ _ _ _ _ hs hsv
            rw [← z.2]; exact (z.1 top (by omega) (Nat.le_refl _)).2
          refine gi_iconst (pc := 76) (nI 1) hX dX0_serves_76 (by decide) ?_
          exact hR 77 _ _ _ dX0_serves_77 rfl ⟨M2, _, rfl, hM2, b_tf1 hfin⟩
  refine gi_aload_n (pc := 0) hX dX0_serves_0 rfl ?_
  refine gi_iload_n (pc := 1) hX dX0_serves_1 rfl ?_
  refine gi_iload_n (pc := 2) hX dX0_serves_2 rfl ?_
  refine gi_callI (pc := 3) hX (m_canBeTogether (nI g) top (by omega)) cw_p_canBeTogether rfl rfl rfl rfl rfl rfl dX0_serves_3 (fun r u hp => ?_)
  obtain ⟨rfl, h1⟩ := hp
  refine gi_if_eq (pc := 6) 19 hX dX0_serves_6 (by decide) (fun c6 => ?_) (fun c6 => ?_)
  · have hns : ¬ sp_sv P P.2.2.2.2 top (nI g) := fun ⟨s, z1, z2⟩ => h1.z.mp c6 (sp_GS hP hG top ht s z1 _ z2)
    refine gi_iconst (pc := 19) (nI 0) hX dX0_serves_19 (by decide) ?_
    exact hR 20 _ _ _ dX0_serves_20 rfl ⟨M, _, rfl, hM, b_tf0 hns⟩
  · refine gi_aload_n (pc := 9) hX dX0_serves_9 rfl ?_
    refine gi_iconst (pc := 10) (nI 0) hX dX0_serves_10 (by decide) ?_
    refine gi_iload_n (pc := 11) hX dX0_serves_11 rfl ?_
    refine gi_iload_n (pc := 12) hX dX0_serves_12 rfl ?_
    refine gi_callI (pc := 13) hX (m_isMarked0 top g (by omega) hg) cw_p_isMarked rfl rfl rfl rfl rfl rfl dX0_serves_13 (fun r u hp => ?_)
    obtain ⟨rfl, h2⟩ := hp
    refine gi_if_eq (pc := 16) 21 hX dX0_serves_16 (by decide) (fun c16 => ?_) (fun c16 => ?_)
    · refine gi_aload_n (pc := 21) hX dX0_serves_21 rfl ?_
      refine gi_iconst (pc := 22) (nI 1) hX dX0_serves_22 (by decide) ?_
      refine gi_iload_n (pc := 23) hX dX0_serves_23 rfl ?_
      refine gi_iload_n (pc := 24) hX dX0_serves_24 rfl ?_
      refine gi_callI (pc := 25) hX (m_isMarked1 top g (by omega) hg) cw_p_isMarked rfl rfl rfl rfl rfl rfl dX0_serves_25 (fun r u hp => ?_)
      obtain ⟨rfl, h3⟩ := hp
      refine gi_if_eq (pc := 28) 33 hX dX0_serves_28 (by decide) (fun c28 => ?_) (fun c28 => ?_)
      · refine gi_aload_n (pc := 33) hX dX0_serves_33 rfl ?_
        refine gi_iconst (pc := 34) (nI 0) hX dX0_serves_34 (by decide) ?_
        refine ps_ct (pc := 35) 0 hX dX0_serves_35 rfl ?_
        try dsimp only
        refine gi_iload_n (pc := 38) hX dX0_serves_38 rfl ?_
        refine gi_istore_n (pc := 39) 3 rfl hX dX0_serves_39 rfl rfl ?_
        dsimp only [List.set]
        refine gi_aload_n (pc := 40) hX dX0_serves_40 rfl ?_
        refine gi_iload_n (pc := 41) hX dX0_serves_41 rfl ?_
        refine gi_iload_n (pc := 42) hX dX0_serves_42 rfl ?_
        refine gi_callV (pc := 43) hX (m_enter top (nI g) (by omega)) cw_p_enter rfl rfl rfl rfl rfl rfl dX0_serves_43 (fun u hp => ?_)
        subst hp
        refine loop (_, top) M hM (sk_start hg) (fun z => ?_)
        subst z
        show b_sub (upd wa 0 (nI g) 0) _
        rw [pk_us, ← hG.1]; exact (h1.nz.mp c6).1
      · have hsv := (hM top g (by omega) hg).2 (h3.nz.mp c28)
        refine gi_iconst (pc := 31) (nI 1) hX dX0_serves_31 (by decide) ?_
        exact hR 32 _ _ _ dX0_serves_32 rfl ⟨M, _, rfl, hM, b_tf1 hsv⟩
    · have hns : ¬ sp_sv P P.2.2.2.2 top (nI g) := (hM top g (by omega) hg).1 (h2.nz.mp c16)
      refine gi_iconst (pc := 19) (nI 0) hX dX0_serves_19 (by decide) ?_
      exact hR 20 _ _ _ dX0_serves_20 rfl ⟨M, _, rfl, hM, b_tf0 hns⟩
end
section
/-! CONTRACTS of the public methods of PlanLayers; what each operation is (op_..) -/
set_option maxRecDepth 100000
def sp_good (P : pw_P) (B : Nat) (Gr : pw_G) (M : pw_M) : Prop := sp_ok P ∧ (B = 0 ∨ (B = 1 ∧ sp_gok P Gr ∧ sp_mok P M))
def op_action (P : pw_P) (x y z r : Int32) (P1 : pw_P) : Prop := (7 ≤ P.1 ∧ r = -2 ∧ P1 = P) ∨ (P.1 < 7 ∧ ¬ (sp_set x ∧ sp_set y ∧ sp_set z) ∧ r = -1 ∧ P1 = P) ∨ (P.1 < 7 ∧ (sp_set x ∧ sp_set y ∧ sp_set z) ∧ r = nI P.1 ∧ P1 = (P.1 + 1, upd P.2.1 P.1 x, upd P.2.2.1 P.1 y, upd P.2.2.2.1 P.1 z, P.2.2.2.2))
/-- c places from k on are filled from the next one -/
def sp_shf : Nat → (Nat → Int32) → Nat → (Nat → Int32)
  | 0, f, _ => f
  | c + 1, f, k => sp_shf c (upd f k (f (k + 1))) (k + 1)
def op_drop (P : pw_P) (x r : Int32) (P1 : pw_P) : Prop := (¬ sp_act P.1 x ∧ r = -1 ∧ P1 = P) ∨ ∃ i n, x = nI i ∧ i ≤ n ∧ P.1 = n + 1 ∧ r = nI n ∧ P1 = (n, sp_shf (n - i) P.2.1 i, sp_shf (n - i) P.2.2.1 i, sp_shf (n - i) P.2.2.2.1 i, P.2.2.2.2)
def op_start (P : pw_P) (x r : Int32) (P1 : pw_P) : Prop := (¬ sp_set x ∧ r = nI 0 ∧ P1 = P) ∨ (sp_set x ∧ r = nI 1 ∧ P1 = (P.1, P.2.1, P.2.2.1, P.2.2.2.1, x))
def op_clash (P : pw_P) (x y : Int32) : Prop := ∃ i j, x = nI i ∧ y = nI j ∧ i < P.1 ∧ j < P.1 ∧ i ≠ j ∧ sp_cl P i j
def op_fewest (P : pw_P) (x r : Int32) : Prop := (¬ sp_set x ∧ r = -1) ∨ (sp_set x ∧ ((∃ k, k ≤ 8 ∧ r = nI k ∧ sp_sv P P.2.2.2.2 k x ∧ ∀ j, j < k → ¬ sp_sv P P.2.2.2.2 j x) ∨ (r = -3 ∧ ∀ k, k ≤ 8 → ¬ sp_sv P P.2.2.2.2 k x)))
def op_within (P : pw_P) (x r : Int32) : Prop := (¬ (¬ x < 0 ∧ x ≤ nI 8) ∧ r = -1) ∨ ∃ k, k ≤ 8 ∧ x = nI k ∧ ∀ f, bt r f = true ↔ f < 8 ∧ sp_sv P P.2.2.2.2 k (b_sh f)
def op_together (P : pw_P) (x y z : Int32) : Prop := ∃ f g k, f < 8 ∧ g < 8 ∧ k ≤ 8 ∧ x = nI f ∧ y = nI g ∧ z = nI k ∧ sp_sv P P.2.2.2.2 k (b_sh f ||| b_sh g)
def op_bcond (P : pw_P) (x : Int32) (i k y : Nat) : Prop := bt (nI y) i = true ∧ sp_lay P (nI y) P.2.2.2.2 ∧ ∃ s, sp_nx P (nI y) P.2.2.2.2 s ∧ sp_sv P s k x
def op_begins (P : pw_P) (x y : Int32) : Prop := sp_set x ∧ ∃ i k, y = nI i ∧ i < P.1 ∧ k < 8 ∧ sp_sv P P.2.2.2.2 (k + 1) x ∧ (∀ j, j < k + 1 → ¬ sp_sv P P.2.2.2.2 j x) ∧ ∃ z, z < 2 ^ P.1 ∧ op_bcond P x i k z
def op_advance (P : pw_P) (x r : Int32) (P1 : pw_P) : Prop := (¬ (∃ y, y < 2 ^ P.1 ∧ x = nI y ∧ sp_lay P x P.2.2.2.2) ∧ r = nI 0 ∧ P1 = P) ∨ ((∃ y, y < 2 ^ P.1 ∧ x = nI y ∧ sp_lay P x P.2.2.2.2) ∧ r = nI 1 ∧ ∃ s, sp_nx P x P.2.2.2.2 s ∧ P1 = (P.1, P.2.1, P.2.2.1, P.2.2.2.1, s))
theorem sp_act_nat {n : Nat} (hn : n ≤ 7) {x : Int32} (h : sp_act n x) : ∃ i, x = nI i ∧ i < n := by
  obtain ⟨j, hj, rfl⟩ := nI_of h.1
  exact ⟨j, rfl, sp_lt (by omega) (by omega) h.2⟩
theorem sp_nat_act {n i : Nat} (hn : n ≤ 7) (h : i < n) : sp_act n (nI i) := ⟨nI_pos (by omega), nI_ge h (by omega)⟩
theorem sp_pw : ∀ n, n < 8 → nI 1 <<< (nI n &&& 31) = nI (2 ^ n) := by decide +kernel
theorem sp_pw7 {n : Nat} (h : n ≤ 7) : 2 ^ n ≤ 128 := Nat.le_trans (Nat.pow_le_pow_right (by decide) h) (by decide)
theorem sp_B8_upd {f : pw_F} {j : Nat} {x : Int32} (h : ∀ i, i < 7 → sp_B8 (f i)) (hx : sp_B8 x) : ∀ i, i < 7 → sp_B8 (upd f j x i) := by
  intro i hi
  by_cases e : i = j
  · subst e; rw [pk_us]; exact hx
  · rw [pk_un e]; exact h i hi
theorem sp_B8_shf : ∀ (c : Nat) (f : pw_F) (k : Nat), (∀ i, i < 7 → sp_B8 (f i)) → k + c < 7 → ∀ i, i < 7 → sp_B8 (sp_shf c f k i) := by
  intro c
  induction c with
  | zero => intro f k h _; exact h
  | succ c ih => intro f k h hk; exact ih _ (k + 1) (sp_B8_upd h (h (k + 1) (by omega))) (by omega)
theorem sp_ok_action {P : pw_P} (h : sp_ok P) {x y z : Int32} (hn : P.1 < 7) (hs : sp_set x ∧ sp_set y ∧ sp_set z) : sp_ok (P.1 + 1, upd P.2.1 P.1 x, upd P.2.2.1 P.1 y, upd P.2.2.2.1 P.1 z, P.2.2.2.2) :=
  ⟨hn, fun i hi => ⟨sp_B8_upd (fun j hj => (h.2.1 j hj).1) (sp_B8_set.mp hs.1) i hi, sp_B8_upd (fun j hj => (h.2.1 j hj).2.1) (sp_B8_set.mp hs.2.1) i hi, sp_B8_upd (fun j hj => (h.2.1 j hj).2.2) (sp_B8_set.mp hs.2.2) i hi⟩, h.2.2⟩
theorem sp_ok_drop {P : pw_P} (h : sp_ok P) {i n : Nat} (hn : P.1 = n + 1) (hi : i ≤ n) : sp_ok (n, sp_shf (n - i) P.2.1 i, sp_shf (n - i) P.2.2.1 i, sp_shf (n - i) P.2.2.2.1 i, P.2.2.2.2) := by
  have h7 := h.1
  exact ⟨by show n ≤ 7; omega, fun j hj => ⟨sp_B8_shf _ _ _ (fun j hj => (h.2.1 j hj).1) (by omega) j hj, sp_B8_shf _ _ _ (fun j hj => (h.2.1 j hj).2.1) (by omega) j hj, sp_B8_shf _ _ _ (fun j hj => (h.2.1 j hj).2.2) (by omega) j hj⟩, h.2.2⟩
theorem sp_ok_ss {P : pw_P} (h : sp_ok P) {s : Int32} (hs : sp_B8 s) : sp_ok (P.1, P.2.1, P.2.2.1, P.2.2.2.1, s) := ⟨h.1, h.2.1, hs⟩
theorem sp_R_c {P : pw_P} {s s0 : Int32} : ∀ (k : Nat) (t : Int32), sp_R (P.1, P.2.1, P.2.2.1, P.2.2.2.1, s) s0 k t ↔ sp_R P s0 k t := by
  intro k
  induction k with
  | zero => intro t; exact Iff.rfl
  | succ k ih =>
    intro t
    constructor
    · rintro ⟨s1, y, h1, h2⟩; exact ⟨s1, y, (ih s1).mp h1, h2⟩
    · rintro ⟨s1, y, h1, h2⟩; exact ⟨s1, y, (ih s1).mpr h1, h2⟩
theorem sp_sv_c {P : pw_P} {s s0 g : Int32} {k : Nat} : sp_sv (P.1, P.2.1, P.2.2.1, P.2.2.2.1, s) s0 k g ↔ sp_sv P s0 k g := ⟨fun ⟨t, h1, h2⟩ => ⟨t, (sp_R_c k t).mp h1, h2⟩, fun ⟨t, h1, h2⟩ => ⟨t, (sp_R_c k t).mpr h1, h2⟩⟩
set_option maxHeartbeats 4000000 in
theorem m_action {a : Nat → Nat} {k : gx_C} {P : pw_P} {B : Nat} {Gr : pw_G} {M : pw_M} {T : pw_T} (x y z : Int32) (hS : sp_good P B Gr M) : gx_CI k yX0_action cX0_action 4 .int (1, 26) [.ref (a 0), .int x, .int y, .int z] (pw_W a k) (P, B, Gr, M, T) (fun r u => ∃ P1 B1 G1 M1 T1, u = (P1, B1, G1, M1, T1) ∧ sp_good P1 B1 G1 M1 ∧ op_action P x y z r P1) := by
  refine gx_CI.of (by decide) rfl rfl (fun X hX hR => ?_)
  have hX : gx_Ok X cX0_action RX0 k (1, 26) := hX
  show gx_G X (pw_W a k (P, B, Gr, M, T)) 0 [some (.ref (a 0)), some (.int x), some (.int y), some (.int z)] []
  have hn := hS.1.1
  refine gi_aload_n (pc := 0) hX dX0_action_0 rfl ?_
  refine pg_n (pc := 1) hX dX0_action_1 ?_
  try dsimp only
  refine gi_bipush (pc := 4) (nI 7) hX dX0_action_4 (by decide) ?_
  refine gi_icmp_lt (pc := 6) 12 hX dX0_action_6 (by decide) (fun c6 => ?_) (fun c6 => ?_)
  · have q0 : P.1 < 7 := (nI_ltI (by omega) (by omega)).mp c6
    refine gi_aload_n (pc := 12) hX dX0_action_12 rfl ?_
    refine gi_iload_n (pc := 13) hX dX0_action_13 rfl ?_
    refine gi_callI (pc := 14) hX (m_isSet x) cw_p_isSet rfl rfl rfl rfl rfl rfl dX0_action_14 (fun r u hp => ?_)
    obtain ⟨rfl, h1⟩ := hp
    refine gi_if_eq (pc := 17) 36 hX dX0_action_17 (by decide) (fun c17 => ?_) (fun c17 => ?_)
    · have q : ¬ (sp_set x ∧ sp_set y ∧ sp_set z) := fun w => h1.z.mp c17 w.1
      refine gi_iconst (pc := 36) (-1) hX dX0_action_36 (by decide) ?_
      exact hR 37 _ _ _ dX0_action_37 rfl ⟨P, B, Gr, M, T, rfl, hS, Or.inr (Or.inl ⟨q0, q, rfl, rfl⟩)⟩
    · refine gi_aload_n (pc := 20) hX dX0_action_20 rfl ?_
      refine gi_iload_n (pc := 21) hX dX0_action_21 rfl ?_
      refine gi_callI (pc := 22) hX (m_isSet y) cw_p_isSet rfl rfl rfl rfl rfl rfl dX0_action_22 (fun r u hp => ?_)
      obtain ⟨rfl, h2⟩ := hp
      refine gi_if_eq (pc := 25) 36 hX dX0_action_25 (by decide) (fun c25 => ?_) (fun c25 => ?_)
      · have q : ¬ (sp_set x ∧ sp_set y ∧ sp_set z) := fun w => h2.z.mp c25 w.2.1
        refine gi_iconst (pc := 36) (-1) hX dX0_action_36 (by decide) ?_
        exact hR 37 _ _ _ dX0_action_37 rfl ⟨P, B, Gr, M, T, rfl, hS, Or.inr (Or.inl ⟨q0, q, rfl, rfl⟩)⟩
      · refine gi_aload_n (pc := 28) hX dX0_action_28 rfl ?_
        refine gi_iload_n (pc := 29) hX dX0_action_29 rfl ?_
        refine gi_callI (pc := 30) hX (m_isSet z) cw_p_isSet rfl rfl rfl rfl rfl rfl dX0_action_30 (fun r u hp => ?_)
        obtain ⟨rfl, h3⟩ := hp
        refine gi_if_ne (pc := 33) 38 hX dX0_action_33 (by decide) (fun c33 => ?_) (fun c33 => ?_)
        · have q : sp_set x ∧ sp_set y ∧ sp_set z := ⟨h1.nz.mp c17, h2.nz.mp c25, h3.nz.mp c33⟩
          refine gi_aload_n (pc := 38) hX dX0_action_38 rfl ?_
          refine pg_nd (pc := 39) hX dX0_action_39 ?_
          refine gi_aload_n (pc := 42) hX dX0_action_42 rfl ?_
          refine pg_n (pc := 43) hX dX0_action_43 ?_
          try dsimp only
          refine gi_iload_n (pc := 46) hX dX0_action_46 rfl ?_
          refine ps_nd (pc := 47) _ hX dX0_action_47 rfl q0 ?_
          try dsimp only
          refine gi_aload_n (pc := 48) hX dX0_action_48 rfl ?_
          refine pg_gn (pc := 49) hX dX0_action_49 ?_
          refine gi_aload_n (pc := 52) hX dX0_action_52 rfl ?_
          refine pg_n (pc := 53) hX dX0_action_53 ?_
          try dsimp only
          refine gi_iload_n (pc := 56) hX dX0_action_56 rfl ?_
          refine ps_gn (pc := 57) _ hX dX0_action_57 rfl q0 ?_
          try dsimp only
          refine gi_aload_n (pc := 58) hX dX0_action_58 rfl ?_
          refine pg_ls (pc := 59) hX dX0_action_59 ?_
          refine gi_aload_n (pc := 62) hX dX0_action_62 rfl ?_
          refine pg_n (pc := 63) hX dX0_action_63 ?_
          try dsimp only
          refine gi_iload_n (pc := 66) hX dX0_action_66 rfl ?_
          refine ps_ls (pc := 67) _ hX dX0_action_67 rfl q0 ?_
          try dsimp only
          refine gi_aload_n (pc := 68) hX dX0_action_68 rfl ?_
          refine gi_dup (pc := 69) hX dX0_action_69 rfl ?_
          refine pg_n (pc := 70) hX dX0_action_70 ?_
          try dsimp only
          refine gi_iconst (pc := 73) (nI 1) hX dX0_action_73 (by decide) ?_
          refine gi_iadd (pc := 74) hX dX0_action_74 ?_
          refine ps_n (pc := 75) (P.1 + 1) hX dX0_action_75 (nI_1 P.1) ?_
          try dsimp only
          refine gi_aload_n (pc := 78) hX dX0_action_78 rfl ?_
          refine gi_iconst (pc := 79) (nI 0) hX dX0_action_79 (by decide) ?_
          refine ps_b (pc := 80) 0 hX dX0_action_80 rfl rfl rfl ?_
          try dsimp only
          refine gi_aload_n (pc := 83) hX dX0_action_83 rfl ?_
          refine pg_n (pc := 84) hX dX0_action_84 ?_
          try dsimp only
          refine gi_iconst (pc := 87) (nI 1) hX dX0_action_87 (by decide) ?_
          refine gi_isub (pc := 88) hX dX0_action_88 ?_
          rw [sp_pred]
          exact hR 89 _ _ _ dX0_action_89 rfl ⟨_, _, _, _, _, rfl, ⟨sp_ok_action hS.1 q0 q, Or.inl rfl⟩, Or.inr (Or.inr ⟨q0, q, rfl, rfl⟩)⟩
        · have q : ¬ (sp_set x ∧ sp_set y ∧ sp_set z) := fun w => h3.z.mp c33 w.2.2
          refine gi_iconst (pc := 36) (-1) hX dX0_action_36 (by decide) ?_
          exact hR 37 _ _ _ dX0_action_37 rfl ⟨P, B, Gr, M, T, rfl, hS, Or.inr (Or.inl ⟨q0, q, rfl, rfl⟩)⟩
  · have q0 : 7 ≤ P.1 := Nat.le_of_not_lt (fun z => c6 ((nI_ltI (by omega) (by omega)).mpr z))
    refine gi_bipush (pc := 9) (-2) hX dX0_action_9 (by decide) ?_
    exact hR 11 _ _ _ dX0_action_11 rfl ⟨P, B, Gr, M, T, rfl, hS, Or.inl ⟨q0, rfl, rfl⟩⟩
set_option maxHeartbeats 4000000 in
theorem m_drop {a : Nat → Nat} {k : gx_C} {P : pw_P} {B : Nat} {Gr : pw_G} {M : pw_M} {T : pw_T} (x : Int32) (hS : sp_good P B Gr M) : gx_CI k yX0_drop cX0_drop 3 .int (1, 26) [.ref (a 0), .int x] (pw_W a k) (P, B, Gr, M, T) (fun r u => ∃ P1 B1 G1 M1 T1, u = (P1, B1, G1, M1, T1) ∧ sp_good P1 B1 G1 M1 ∧ op_drop P x r P1) := by
  refine gx_CI.of (by decide) rfl rfl (fun X hX hR => ?_)
  have hX : gx_Ok X cX0_drop RX0 k (1, 26) := hX
  show gx_G X (pw_W a k (P, B, Gr, M, T)) 0 [some (.ref (a 0)), some (.int x), none] []
  have hn := hS.1.1
  refine gi_aload_n (pc := 0) hX dX0_drop_0 rfl ?_
  refine gi_iload_n (pc := 1) hX dX0_drop_1 rfl ?_
  refine gi_callI (pc := 2) hX (m_isAction x) cw_p_isAction rfl rfl rfl rfl rfl rfl dX0_drop_2 (fun r u hp => ?_)
  obtain ⟨rfl, h1⟩ := hp
  refine gi_if_ne (pc := 5) 10 hX dX0_drop_5 (by decide) (fun c5 => ?_) (fun c5 => ?_)
  · obtain ⟨i, rfl, hi⟩ := sp_act_nat hn (h1.nz.mp c5)
    obtain ⟨n, hn1⟩ : ∃ n, P.1 = n + 1 := ⟨P.1 - 1, by omega⟩
    have hi2 : i ≤ n := by omega
    have loop : ∀ j, j ≤ n → i ≤ j → ∀ f1 f2 f3 : pw_F, sp_shf (n - j) f1 j = sp_shf (n - i) P.2.1 i → sp_shf (n - j) f2 j = sp_shf (n - i) P.2.2.1 i → sp_shf (n - j) f3 j = sp_shf (n - i) P.2.2.2.1 i → gx_G X (pw_W a k ((n, f1, f2, f3, P.2.2.2.2), B, Gr, M, T)) 22 [some (.ref (a 0)), some (.int (nI i)), some (.int (nI j))] [] := by
      refine gx_up ?_
      intro j hj ih hij f1 f2 f3 hv1 hv2 hv3
      refine gi_iload_n (pc := 22) hX dX0_drop_22 rfl ?_
      refine gi_aload_n (pc := 23) hX dX0_drop_23 rfl ?_
      refine pg_n (pc := 24) hX dX0_drop_24 ?_
      try dsimp only
      refine gi_icmp_ge (pc := 27) 78 hX dX0_drop_27 (by decide) (fun c27 => ?_) (fun c27 => ?_)
      · have q0 := sp_ge (by omega) (by omega) c27
        have q1 : j = n := by omega
        subst q1
        refine gi_aload_n (pc := 78) hX dX0_drop_78 rfl ?_
        refine gi_iconst (pc := 79) (nI 0) hX dX0_drop_79 (by decide) ?_
        refine ps_b (pc := 80) 0 hX dX0_drop_80 rfl rfl rfl ?_
        try dsimp only
        refine gi_aload_n (pc := 83) hX dX0_drop_83 rfl ?_
        refine pg_n (pc := 84) hX dX0_drop_84 ?_
        try dsimp only
        exact hR 87 _ _ _ dX0_drop_87 rfl ⟨_, _, _, _, _, rfl, ⟨by rw [Nat.sub_self] at hv1 hv2 hv3; rw [show f1 = _ from hv1, show f2 = _ from hv2, show f3 = _ from hv3]; exact sp_ok_drop hS.1 hn1 hi2, Or.inl rfl⟩, Or.inr ⟨i, j, rfl, hi2, hn1, rfl, by rw [Nat.sub_self] at hv1 hv2 hv3; rw [show f1 = _ from hv1, show f2 = _ from hv2, show f3 = _ from hv3]⟩⟩
      · have q0 := sp_lt (by omega) (by omega) c27
        refine gi_aload_n (pc := 30) hX dX0_drop_30 rfl ?_
        refine pg_nd (pc := 31) hX dX0_drop_31 ?_
        refine gi_iload_n (pc := 34) hX dX0_drop_34 rfl ?_
        refine gi_aload_n (pc := 35) hX dX0_drop_35 rfl ?_
        refine pg_nd (pc := 36) hX dX0_drop_36 ?_
        refine gi_iload_n (pc := 39) hX dX0_drop_39 rfl ?_
        refine gi_iconst (pc := 40) (nI 1) hX dX0_drop_40 (by decide) ?_
        refine gi_iadd (pc := 41) hX dX0_drop_41 ?_
        refine pl_nd (pc := 42) (j + 1) hX dX0_drop_42 (nI_1 j) (by omega) ?_
        try dsimp only
        refine ps_nd (pc := 43) _ hX dX0_drop_43 rfl (by omega) ?_
        try dsimp only
        refine gi_aload_n (pc := 44) hX dX0_drop_44 rfl ?_
        refine pg_gn (pc := 45) hX dX0_drop_45 ?_
        refine gi_iload_n (pc := 48) hX dX0_drop_48 rfl ?_
        refine gi_aload_n (pc := 49) hX dX0_drop_49 rfl ?_
        refine pg_gn (pc := 50) hX dX0_drop_50 ?_
        refine gi_iload_n (pc := 53) hX dX0_drop_53 rfl ?_
        refine gi_iconst (pc := 54) (nI 1) hX dX0_drop_54 (by decide) ?_
        refine gi_iadd (pc := 55) hX dX0_drop_55 ?_
        refine pl_gn (pc := 56) (j + 1) hX dX0_drop_56 (nI_1 j) (by omega) ?_
        try dsimp only
        refine ps_gn (pc := 57) _ hX dX0_drop_57 rfl (by omega) ?_
        try dsimp only
        refine gi_aload_n (pc := 58) hX dX0_drop_58 rfl ?_
        refine pg_ls (pc := 59) hX dX0_drop_59 ?_
        refine gi_iload_n (pc := 62) hX dX0_drop_62 rfl ?_
        refine gi_aload_n (pc := 63) hX dX0_drop_63 rfl ?_
        refine pg_ls (pc := 64) hX dX0_drop_64 ?_
        refine gi_iload_n (pc := 67) hX dX0_drop_67 rfl ?_
        refine gi_iconst (pc := 68) (nI 1) hX dX0_drop_68 (by decide) ?_
        refine gi_iadd (pc := 69) hX dX0_drop_69 ?_
        refine pl_ls (pc := 70) (j + 1) hX dX0_drop_70 (nI_1 j) (by omega) ?_
        try dsimp only
        refine ps_ls (pc := 71) _ hX dX0_drop_71 rfl (by omega) ?_
        try dsimp only
        refine gi_iinc (pc := 72) 2 _ hX dX0_drop_72 rfl (gi_inc1 _) rfl rfl ?_
        dsimp only [List.set]
        refine gi_goto (pc := 75) 22 hX dX0_drop_75 (by decide) ?_
        exact ih (j + 1) (by omega) (by omega) (by omega) _ _ _ (by rw [← hv1, show n - j = n - (j + 1) + 1 by omega]; rfl) (by rw [← hv2, show n - j = n - (j + 1) + 1 by omega]; rfl) (by rw [← hv3, show n - j = n - (j + 1) + 1 by omega]; rfl)
    refine gi_aload_n (pc := 10) hX dX0_drop_10 rfl ?_
    refine gi_dup (pc := 11) hX dX0_drop_11 rfl ?_
    refine pg_n (pc := 12) hX dX0_drop_12 ?_
    try dsimp only
    refine gi_iconst (pc := 15) (nI 1) hX dX0_drop_15 (by decide) ?_
    refine gi_isub (pc := 16) hX dX0_drop_16 ?_
    rw [hn1, sp_pred]
    refine ps_n (pc := 17) n hX dX0_drop_17 rfl ?_
    try dsimp only
    refine gi_iload_n (pc := 20) hX dX0_drop_20 rfl ?_
    refine gi_istore_n (pc := 21) 2 rfl hX dX0_drop_21 rfl rfl ?_
    dsimp only [List.set]
    exact loop i hi2 (Nat.le_refl _) _ _ _ rfl rfl rfl
  · refine gi_iconst (pc := 8) (-1) hX dX0_drop_8 (by decide) ?_
    exact hR 9 _ _ _ dX0_drop_9 rfl ⟨P, B, Gr, M, T, rfl, hS, Or.inl ⟨h1.z.mp c5, rfl, rfl⟩⟩
set_option maxHeartbeats 4000000 in
theorem m_start {a : Nat → Nat} {k : gx_C} {P : pw_P} {B : Nat} {Gr : pw_G} {M : pw_M} {T : pw_T} (x : Int32) (hS : sp_good P B Gr M) : gx_CI k yX0_start cX0_start 2 .boolean (1, 26) [.ref (a 0), .int x] (pw_W a k) (P, B, Gr, M, T) (fun r u => ∃ P1 B1 G1 M1 T1, u = (P1, B1, G1, M1, T1) ∧ sp_good P1 B1 G1 M1 ∧ op_start P x r P1) := by
  refine gx_CI.of (by decide) rfl rfl (fun X hX hR => ?_)
  have hX : gx_Ok X cX0_start RX0 k (1, 26) := hX
  show gx_G X (pw_W a k (P, B, Gr, M, T)) 0 [some (.ref (a 0)), some (.int x)] []
  refine gi_aload_n (pc := 0) hX dX0_start_0 rfl ?_
  refine gi_iload_n (pc := 1) hX dX0_start_1 rfl ?_
  refine gi_callI (pc := 2) hX (m_isSet x) cw_p_isSet rfl rfl rfl rfl rfl rfl dX0_start_2 (fun r u hp => ?_)
  obtain ⟨rfl, h1⟩ := hp
  refine gi_if_ne (pc := 5) 10 hX dX0_start_5 (by decide) (fun c5 => ?_) (fun c5 => ?_)
  · refine gi_aload_n (pc := 10) hX dX0_start_10 rfl ?_
    refine gi_iload_n (pc := 11) hX dX0_start_11 rfl ?_
    refine ps_ss (pc := 12) hX dX0_start_12 ?_
    try dsimp only
    refine gi_aload_n (pc := 15) hX dX0_start_15 rfl ?_
    refine gi_iconst (pc := 16) (nI 0) hX dX0_start_16 (by decide) ?_
    refine ps_b (pc := 17) 0 hX dX0_start_17 rfl rfl rfl ?_
    try dsimp only
    refine gi_iconst (pc := 20) (nI 1) hX dX0_start_20 (by decide) ?_
    exact hR 21 _ _ _ dX0_start_21 rfl ⟨_, _, _, _, _, rfl, ⟨sp_ok_ss hS.1 (sp_B8_set.mp (h1.nz.mp c5)), Or.inl rfl⟩, Or.inr ⟨h1.nz.mp c5, rfl, rfl⟩⟩
  · refine gi_iconst (pc := 8) (nI 0) hX dX0_start_8 (by decide) ?_
    exact hR 9 _ _ _ dX0_start_9 rfl ⟨P, B, Gr, M, T, rfl, hS, Or.inl ⟨h1.z.mp c5, rfl, rfl⟩⟩
set_option maxHeartbeats 4000000 in
theorem m_clash {a : Nat → Nat} {k : gx_C} {P : pw_P} {B : Nat} {Gr : pw_G} {M : pw_M} {T : pw_T} (x y : Int32) (hn : P.1 ≤ 7) : gx_CI k yX0_clash cX0_clash 3 .boolean (2, 52) [.ref (a 0), .int x, .int y] (pw_W a k) (P, B, Gr, M, T) (fun r u => u = (P, B, Gr, M, T) ∧ b_tf r (op_clash P x y)) := by
  refine gx_CI.of (by decide) rfl rfl (fun X hX hR => ?_)
  have hX : gx_Ok X cX0_clash RX0 k (2, 52) := hX
  show gx_G X (pw_W a k (P, B, Gr, M, T)) 0 [some (.ref (a 0)), some (.int x), some (.int y)] []
  refine gi_aload_n (pc := 0) hX dX0_clash_0 rfl ?_
  refine gi_iload_n (pc := 1) hX dX0_clash_1 rfl ?_
  refine gi_callI (pc := 2) hX (m_isAction x) cw_p_isAction rfl rfl rfl rfl rfl rfl dX0_clash_2 (fun r u hp => ?_)
  obtain ⟨rfl, h1⟩ := hp
  refine gi_if_eq (pc := 5) 34 hX dX0_clash_5 (by decide) (fun c5 => ?_) (fun c5 => ?_)
  · have q : ¬ op_clash P x y := fun ⟨i, j, z1, z2, z3, z4, _⟩ => h1.z.mp c5 (by rw [z1]; exact sp_nat_act hn z3)
    refine gi_iconst (pc := 34) (nI 0) hX dX0_clash_34 (by decide) ?_
    exact hR 35 _ _ _ dX0_clash_35 rfl ⟨rfl, by first | exact b_tf1 q | exact b_tf0 q⟩
  · refine gi_aload_n (pc := 8) hX dX0_clash_8 rfl ?_
    refine gi_iload_n (pc := 9) hX dX0_clash_9 rfl ?_
    refine gi_callI (pc := 10) hX (m_isAction y) cw_p_isAction rfl rfl rfl rfl rfl rfl dX0_clash_10 (fun r u hp => ?_)
    obtain ⟨rfl, h2⟩ := hp
    refine gi_if_eq (pc := 13) 34 hX dX0_clash_13 (by decide) (fun c13 => ?_) (fun c13 => ?_)
    · have q : ¬ op_clash P x y := fun ⟨i, j, z1, z2, z3, z4, _⟩ => h2.z.mp c13 (by rw [z2]; exact sp_nat_act hn z4)
      refine gi_iconst (pc := 34) (nI 0) hX dX0_clash_34 (by decide) ?_
      exact hR 35 _ _ _ dX0_clash_35 rfl ⟨rfl, by first | exact b_tf1 q | exact b_tf0 q⟩
    · obtain ⟨i, rfl, hi⟩ := sp_act_nat hn (h1.nz.mp c5)
      obtain ⟨j, rfl, hj⟩ := sp_act_nat hn (h2.nz.mp c13)
      refine gi_iload_n (pc := 16) hX dX0_clash_16 rfl ?_
      refine gi_iload_n (pc := 17) hX dX0_clash_17 rfl ?_
      refine gi_icmp_eq (pc := 18) 34 hX dX0_clash_18 (by decide) (fun c18 => ?_) (fun c18 => ?_)
      · have q : ¬ op_clash P (nI i) (nI j) := fun ⟨i1, j1, z1, z2, z3, z4, z5, _⟩ => z5 ((nI_eq (by omega) (by omega)).mp (z1.symm.trans (c18.trans z2)))
        refine gi_iconst (pc := 34) (nI 0) hX dX0_clash_34 (by decide) ?_
        exact hR 35 _ _ _ dX0_clash_35 rfl ⟨rfl, by first | exact b_tf1 q | exact b_tf0 q⟩
      · refine gi_aload_n (pc := 21) hX dX0_clash_21 rfl ?_
        refine gi_iload_n (pc := 22) hX dX0_clash_22 rfl ?_
        refine gi_iload_n (pc := 23) hX dX0_clash_23 rfl ?_
        refine gi_callI (pc := 24) hX (m_deedsClash i j (by omega) (by omega)) cw_p_deedsClash rfl rfl rfl rfl rfl rfl dX0_clash_24 (fun r u hp => ?_)
        obtain ⟨rfl, h3⟩ := hp
        refine gi_if_eq (pc := 27) 34 hX dX0_clash_27 (by decide) (fun c27 => ?_) (fun c27 => ?_)
        · have q : ¬ op_clash P (nI i) (nI j) := fun ⟨i1, j1, z1, z2, z3, z4, z5, z6⟩ => h3.z.mp c27 (by rw [(nI_eq (by omega) (by omega)).mp z1, (nI_eq (by omega) (by omega)).mp z2]; exact z6)
          refine gi_iconst (pc := 34) (nI 0) hX dX0_clash_34 (by decide) ?_
          exact hR 35 _ _ _ dX0_clash_35 rfl ⟨rfl, by first | exact b_tf1 q | exact b_tf0 q⟩
        · have q : op_clash P (nI i) (nI j) := ⟨i, j, rfl, rfl, hi, hj, fun z => c18 (by rw [z]), h3.nz.mp c27⟩
          refine gi_iconst (pc := 30) (nI 1) hX dX0_clash_30 (by decide) ?_
          refine gi_goto (pc := 31) 35 hX dX0_clash_31 (by decide) ?_
          exact hR 35 _ _ _ dX0_clash_35 rfl ⟨rfl, by first | exact b_tf1 q | exact b_tf0 q⟩
set_option maxHeartbeats 4000000 in
theorem m_state {a : Nat → Nat} {k : gx_C} {P : pw_P} {B : Nat} {Gr : pw_G} {M : pw_M} {T : pw_T}  : gx_CI k yX0_state cX0_state 1 .int (0, 0) [.ref (a 0)] (pw_W a k) (P, B, Gr, M, T) (fun r u => u = (P, B, Gr, M, T) ∧ r = P.2.2.2.2) := by
  refine gx_CI.of (by decide) rfl rfl (fun X hX hR => ?_)
  have hX : gx_Ok X cX0_state RX0 k (0, 0) := hX
  show gx_G X (pw_W a k (P, B, Gr, M, T)) 0 [some (.ref (a 0))] []
  refine gi_aload_n (pc := 0) hX dX0_state_0 rfl ?_
  refine pg_ss (pc := 1) hX dX0_state_1 ?_
  exact hR 4 _ _ _ dX0_state_4 rfl ⟨rfl, rfl⟩
set_option maxHeartbeats 4000000 in
theorem m_fewest {a : Nat → Nat} {k : gx_C} {P : pw_P} {B : Nat} {Gr : pw_G} {M : pw_M} {T : pw_T} (x : Int32) (hS : sp_good P B Gr M) : gx_CI k yX0_fewest cX0_fewest 3 .int (5, 130) [.ref (a 0), .int x] (pw_W a k) (P, B, Gr, M, T) (fun r u => ∃ B1 G1 M1 T1, u = (P, B1, G1, M1, T1) ∧ sp_good P B1 G1 M1 ∧ op_fewest P x r) := by
  refine gx_CI.of (by decide) rfl rfl (fun X hX hR => ?_)
  have hX : gx_Ok X cX0_fewest RX0 k (5, 130) := hX
  show gx_G X (pw_W a k (P, B, Gr, M, T)) 0 [some (.ref (a 0)), some (.int x), none] []
  refine gi_aload_n (pc := 0) hX dX0_fewest_0 rfl ?_
  refine gi_iload_n (pc := 1) hX dX0_fewest_1 rfl ?_
  refine gi_callI (pc := 2) hX (m_isSet x) cw_p_isSet rfl rfl rfl rfl rfl rfl dX0_fewest_2 (fun r u hp => ?_)
  obtain ⟨rfl, h1⟩ := hp
  refine gi_if_ne (pc := 5) 10 hX dX0_fewest_5 (by decide) (fun c5 => ?_) (fun c5 => ?_)
  · obtain ⟨g, hg, rfl⟩ := sp_B8_nat (sp_B8_set.mp (h1.nz.mp c5))
    refine gi_aload_n (pc := 10) hX dX0_fewest_10 rfl ?_
    refine gi_callV (pc := 11) hX (m_build hS.1 hS.2) cw_p_build rfl rfl rfl rfl rfl rfl dX0_fewest_11 (fun u hp => ?_)
    obtain ⟨G1, M1, rfl, hG1, hM1⟩ := hp
    have loop : ∀ j, j ≤ 9 → ∀ M2 T2, sp_mok P M2 → (∀ j0, j0 < j → ¬ sp_sv P P.2.2.2.2 j0 (nI g)) → gx_G X (pw_W a k (P, 1, G1, M2, T2)) 16 [some (.ref (a 0)), some (.int (nI g)), some (.int (nI j))] [] := by
      refine gx_up ?_
      intro j hj ih M2 T2 hM2 hv
      refine gi_iload_n (pc := 16) hX dX0_fewest_16 rfl ?_
      refine gi_bipush (pc := 17) (nI 8) hX dX0_fewest_17 (by decide) ?_
      refine gi_icmp_gt (pc := 19) 39 hX dX0_fewest_19 (by decide) (fun c19 => ?_) (fun c19 => ?_)
      · have q0 : 8 < j := (nI_ltI (by omega) (by omega)).mp c19
        refine gi_bipush (pc := 39) (-3) hX dX0_fewest_39 (by decide) ?_
        exact hR 41 _ _ _ dX0_fewest_41 rfl ⟨1, G1, M2, T2, rfl, ⟨hS.1, Or.inr ⟨rfl, hG1, hM2⟩⟩, Or.inr ⟨h1.nz.mp c5, Or.inr ⟨rfl, fun j0 hj0 => hv j0 (by omega)⟩⟩⟩
      · have q0 : j ≤ 8 := Nat.le_of_not_lt (fun z => c19 ((nI_ltI (by omega) (by omega)).mpr z))
        refine gi_aload_n (pc := 22) hX dX0_fewest_22 rfl ?_
        refine gi_iload_n (pc := 23) hX dX0_fewest_23 rfl ?_
        refine gi_iload_n (pc := 24) hX dX0_fewest_24 rfl ?_
        refine gi_callI (pc := 25) hX (m_serves g j hg (by omega) hS.1 hG1 hM2) cw_p_serves rfl rfl rfl rfl rfl rfl dX0_fewest_25 (fun r u hp => ?_)
        obtain ⟨M3, T3, rfl, hM3, h3⟩ := hp
        refine gi_if_eq (pc := 28) 33 hX dX0_fewest_28 (by decide) (fun c28 => ?_) (fun c28 => ?_)
        · have q1 : ¬ sp_sv P P.2.2.2.2 j (nI g) := h3.z.mp c28
          refine gi_iinc (pc := 33) 2 _ hX dX0_fewest_33 rfl (gi_inc1 _) rfl rfl ?_
          dsimp only [List.set]
          refine gi_goto (pc := 36) 16 hX dX0_fewest_36 (by decide) ?_
          exact ih (j + 1) (by omega) (by omega) M3 T3 hM3 (sp_all1 hv q1)
        · have q1 : sp_sv P P.2.2.2.2 j (nI g) := h3.nz.mp c28
          refine gi_iload_n (pc := 31) hX dX0_fewest_31 rfl ?_
          exact hR 32 _ _ _ dX0_fewest_32 rfl ⟨1, G1, M3, T3, rfl, ⟨hS.1, Or.inr ⟨rfl, hG1, hM3⟩⟩, Or.inr ⟨h1.nz.mp c5, Or.inl ⟨j, q0, rfl, q1, hv⟩⟩⟩
    refine gi_iconst (pc := 14) (nI 0) hX dX0_fewest_14 (by decide) ?_
    refine gi_istore_n (pc := 15) 2 rfl hX dX0_fewest_15 rfl rfl ?_
    dsimp only [List.set]
    exact loop 0 (by omega) M1 T hM1 (fun j0 hj0 => absurd hj0 (by omega))
  · refine gi_iconst (pc := 8) (-1) hX dX0_fewest_8 (by decide) ?_
    exact hR 9 _ _ _ dX0_fewest_9 rfl ⟨B, Gr, M, T, rfl, hS, Or.inl ⟨h1.z.mp c5, rfl⟩⟩
set_option maxHeartbeats 4000000 in
theorem m_within {a : Nat → Nat} {k : gx_C} {P : pw_P} {B : Nat} {Gr : pw_G} {M : pw_M} {T : pw_T} (x : Int32) (hS : sp_good P B Gr M) : gx_CI k yX0_within cX0_within 4 .int (5, 130) [.ref (a 0), .int x] (pw_W a k) (P, B, Gr, M, T) (fun r u => ∃ B1 G1 M1 T1, u = (P, B1, G1, M1, T1) ∧ sp_good P B1 G1 M1 ∧ op_within P x r) := by
  refine gx_CI.of (by decide) rfl rfl (fun X hX hR => ?_)
  have hX : gx_Ok X cX0_within RX0 k (5, 130) := hX
  show gx_G X (pw_W a k (P, B, Gr, M, T)) 0 [some (.ref (a 0)), some (.int x), none, none] []
  refine gi_iload_n (pc := 0) hX dX0_within_0 rfl ?_
  refine gi_if_lt (pc := 1) 10 hX dX0_within_1 (by decide) (fun c1 => ?_) (fun c1 => ?_)
  · have q : ¬ (¬ x < 0 ∧ x ≤ nI 8) := fun z => z.1 c1
    refine gi_iconst (pc := 10) (-1) hX dX0_within_10 (by decide) ?_
    exact hR 11 _ _ _ dX0_within_11 rfl ⟨B, Gr, M, T, rfl, hS, Or.inl ⟨q, rfl⟩⟩
  · refine gi_iload_n (pc := 4) hX dX0_within_4 rfl ?_
    refine gi_bipush (pc := 5) (nI 8) hX dX0_within_5 (by decide) ?_
    refine gi_icmp_le (pc := 7) 12 hX dX0_within_7 (by decide) (fun c7 => ?_) (fun c7 => ?_)
    · obtain ⟨j, hj, rfl⟩ := nI_of2 (M := nI 8) (n := 8) (by decide) c1 c7
      refine gi_aload_n (pc := 12) hX dX0_within_12 rfl ?_
      refine gi_callV (pc := 13) hX (m_build hS.1 hS.2) cw_p_build rfl rfl rfl rfl rfl rfl dX0_within_13 (fun u hp => ?_)
      obtain ⟨G1, M1, rfl, hG1, hM1⟩ := hp
      have loop : ∀ f, f ≤ 8 → ∀ M2 T2, sp_mok P M2 → ∀ A : Int32, (∀ e, bt A e = true ↔ e < f ∧ sp_sv P P.2.2.2.2 j (b_sh e)) → gx_G X (pw_W a k (P, 1, G1, M2, T2)) 20 [some (.ref (a 0)), some (.int (nI j)), some (.int A), some (.int (nI f))] [] := by
        refine gx_up ?_
        intro f hf ih M2 T2 hM2 A hv
        refine gi_iload_n (pc := 20) hX dX0_within_20 rfl ?_
        refine gi_bipush (pc := 21) (nI 8) hX dX0_within_21 (by decide) ?_
        refine gi_icmp_ge (pc := 23) 49 hX dX0_within_23 (by decide) (fun c23 => ?_) (fun c23 => ?_)
        · have q0 := sp_ge (by omega) (by omega) c23
          have q9 : f = 8 := by omega
          subst q9
          refine gi_iload_n (pc := 49) hX dX0_within_49 rfl ?_
          exact hR 50 _ _ _ dX0_within_50 rfl ⟨1, G1, M2, T2, rfl, ⟨hS.1, Or.inr ⟨rfl, hG1, hM2⟩⟩, Or.inr ⟨j, hj, rfl, hv⟩⟩
        · have q0 := sp_lt (by omega) (by omega) c23
          refine gi_aload_n (pc := 26) hX dX0_within_26 rfl ?_
          refine gi_iconst (pc := 27) (nI 1) hX dX0_within_27 (by decide) ?_
          refine gi_iload_n (pc := 28) hX dX0_within_28 rfl ?_
          refine gi_ishl (pc := 29) hX dX0_within_29 ?_
          refine gi_iload_n (pc := 30) hX dX0_within_30 rfl ?_
          obtain ⟨g, hg, eg⟩ := sp_B8_nat (sp_B8_sh (show f < 8 by omega))
          rw [show nI 1 <<< (nI f &&& 31) = nI g from eg]
          refine gi_callI (pc := 31) hX (m_serves g j hg (by omega) hS.1 hG1 hM2) cw_p_serves rfl rfl rfl rfl rfl rfl dX0_within_31 (fun r u hp => ?_)
          obtain ⟨M3, T3, rfl, hM3, h3⟩ := hp
          rw [← eg] at h3
          refine gi_if_eq (pc := 34) 43 hX dX0_within_34 (by decide) (fun c34 => ?_) (fun c34 => ?_)
          · have q1 : ¬ sp_sv P P.2.2.2.2 j (b_sh f) := h3.z.mp c34
            refine gi_iinc (pc := 43) 3 _ hX dX0_within_43 rfl (gi_inc1 _) rfl rfl ?_
            dsimp only [List.set]
            refine gi_goto (pc := 46) 20 hX dX0_within_46 (by decide) ?_
            first
            | exact ih (f + 1) (by omega) (by omega) M3 T3 hM3 _ (sp_acc0 hv q1)
            | exact ih (f + 1) (by omega) (by omega) M3 T3 hM3 _ (sp_acc1 (by omega) hv q1)
          · have q1 : sp_sv P P.2.2.2.2 j (b_sh f) := h3.nz.mp c34
            refine gi_iload_n (pc := 37) hX dX0_within_37 rfl ?_
            refine gi_iconst (pc := 38) (nI 1) hX dX0_within_38 (by decide) ?_
            refine gi_iload_n (pc := 39) hX dX0_within_39 rfl ?_
            refine gi_ishl (pc := 40) hX dX0_within_40 ?_
            refine gi_ior (pc := 41) hX dX0_within_41 ?_
            refine gi_istore_n (pc := 42) 2 rfl hX dX0_within_42 rfl rfl ?_
            dsimp only [List.set]
            refine gi_iinc (pc := 43) 3 _ hX dX0_within_43 rfl (gi_inc1 _) rfl rfl ?_
            dsimp only [List.set]
            refine gi_goto (pc := 46) 20 hX dX0_within_46 (by decide) ?_
            first
            | exact ih (f + 1) (by omega) (by omega) M3 T3 hM3 _ (sp_acc0 hv q1)
            | exact ih (f + 1) (by omega) (by omega) M3 T3 hM3 _ (sp_acc1 (by omega) hv q1)
      refine gi_iconst (pc := 16) (nI 0) hX dX0_within_16 (by decide) ?_
      refine gi_istore_n (pc := 17) 2 rfl hX dX0_within_17 rfl rfl ?_
      dsimp only [List.set]
      refine gi_iconst (pc := 18) (nI 0) hX dX0_within_18 (by decide) ?_
      refine gi_istore_n (pc := 19) 3 rfl hX dX0_within_19 rfl rfl ?_
      dsimp only [List.set]
      exact loop 0 (by omega) M1 T hM1 (nI 0) sp_accZ
    · have q : ¬ (¬ x < 0 ∧ x ≤ nI 8) := fun z => c7 z.2
      refine gi_iconst (pc := 10) (-1) hX dX0_within_10 (by decide) ?_
      exact hR 11 _ _ _ dX0_within_11 rfl ⟨B, Gr, M, T, rfl, hS, Or.inl ⟨q, rfl⟩⟩
set_option maxHeartbeats 4000000 in
theorem m_together {a : Nat → Nat} {k : gx_C} {P : pw_P} {B : Nat} {Gr : pw_G} {M : pw_M} {T : pw_T} (x y z : Int32) (hS : sp_good P B Gr M) : gx_CI k yX0_together cX0_together 4 .boolean (5, 130) [.ref (a 0), .int x, .int y, .int z] (pw_W a k) (P, B, Gr, M, T) (fun r u => ∃ B1 G1 M1 T1, u = (P, B1, G1, M1, T1) ∧ sp_good P B1 G1 M1 ∧ b_tf r (op_together P x y z)) := by
  refine gx_CI.of (by decide) rfl rfl (fun X hX hR => ?_)
  have hX : gx_Ok X cX0_together RX0 k (5, 130) := hX
  show gx_G X (pw_W a k (P, B, Gr, M, T)) 0 [some (.ref (a 0)), some (.int x), some (.int y), some (.int z)] []
  refine gi_iload_n (pc := 0) hX dX0_together_0 rfl ?_
  refine gi_if_lt (pc := 1) 30 hX dX0_together_1 (by decide) (fun c1 => ?_) (fun c1 => ?_)
  · have q : ¬ op_together P x y z := fun ⟨f, g, j, z1, z2, z3, z4, z5, z6, _⟩ => absurd c1 (by rw [z4]; exact nI_pos (by omega))
    refine gi_iconst (pc := 30) (nI 0) hX dX0_together_30 (by decide) ?_
    exact hR 31 _ _ _ dX0_together_31 rfl ⟨B, Gr, M, T, rfl, hS, b_tf0 q⟩
  · refine gi_iload_n (pc := 4) hX dX0_together_4 rfl ?_
    refine gi_bipush (pc := 5) (nI 8) hX dX0_together_5 (by decide) ?_
    refine gi_icmp_ge (pc := 7) 30 hX dX0_together_7 (by decide) (fun c7 => ?_) (fun c7 => ?_)
    · have q : ¬ op_together P x y z := fun ⟨f, g, j, z1, z2, z3, z4, z5, z6, _⟩ => absurd c7 (by rw [z4]; exact nI_ge z1 (by omega))
      refine gi_iconst (pc := 30) (nI 0) hX dX0_together_30 (by decide) ?_
      exact hR 31 _ _ _ dX0_together_31 rfl ⟨B, Gr, M, T, rfl, hS, b_tf0 q⟩
    · refine gi_iload_n (pc := 10) hX dX0_together_10 rfl ?_
      refine gi_if_lt (pc := 11) 30 hX dX0_together_11 (by decide) (fun c11 => ?_) (fun c11 => ?_)
      · have q : ¬ op_together P x y z := fun ⟨f, g, j, z1, z2, z3, z4, z5, z6, _⟩ => absurd c11 (by rw [z5]; exact nI_pos (by omega))
        refine gi_iconst (pc := 30) (nI 0) hX dX0_together_30 (by decide) ?_
        exact hR 31 _ _ _ dX0_together_31 rfl ⟨B, Gr, M, T, rfl, hS, b_tf0 q⟩
      · refine gi_iload_n (pc := 14) hX dX0_together_14 rfl ?_
        refine gi_bipush (pc := 15) (nI 8) hX dX0_together_15 (by decide) ?_
        refine gi_icmp_ge (pc := 17) 30 hX dX0_together_17 (by decide) (fun c17 => ?_) (fun c17 => ?_)
        · have q : ¬ op_together P x y z := fun ⟨f, g, j, z1, z2, z3, z4, z5, z6, _⟩ => absurd c17 (by rw [z5]; exact nI_ge z2 (by omega))
          refine gi_iconst (pc := 30) (nI 0) hX dX0_together_30 (by decide) ?_
          exact hR 31 _ _ _ dX0_together_31 rfl ⟨B, Gr, M, T, rfl, hS, b_tf0 q⟩
        · refine gi_iload_n (pc := 20) hX dX0_together_20 rfl ?_
          refine gi_if_lt (pc := 21) 30 hX dX0_together_21 (by decide) (fun c21 => ?_) (fun c21 => ?_)
          · have q : ¬ op_together P x y z := fun ⟨f, g, j, z1, z2, z3, z4, z5, z6, _⟩ => absurd c21 (by rw [z6]; exact nI_pos (by omega))
            refine gi_iconst (pc := 30) (nI 0) hX dX0_together_30 (by decide) ?_
            exact hR 31 _ _ _ dX0_together_31 rfl ⟨B, Gr, M, T, rfl, hS, b_tf0 q⟩
          · refine gi_iload_n (pc := 24) hX dX0_together_24 rfl ?_
            refine gi_bipush (pc := 25) (nI 8) hX dX0_together_25 (by decide) ?_
            refine gi_icmp_le (pc := 27) 32 hX dX0_together_27 (by decide) (fun c27 => ?_) (fun c27 => ?_)
            · obtain ⟨f, hf0, rfl⟩ := nI_of c1
              obtain ⟨g, hg0, rfl⟩ := nI_of c11
              have hf : f < 8 := sp_lt (by omega) (by omega) c7
              have hg : g < 8 := sp_lt (by omega) (by omega) c17
              obtain ⟨j, hj, rfl⟩ := nI_of2 (M := nI 8) (n := 8) (by decide) c21 c27
              refine gi_aload_n (pc := 32) hX dX0_together_32 rfl ?_
              refine gi_callV (pc := 33) hX (m_build hS.1 hS.2) cw_p_build rfl rfl rfl rfl rfl rfl dX0_together_33 (fun u hp => ?_)
              obtain ⟨G1, M1, rfl, hG1, hM1⟩ := hp
              refine gi_aload_n (pc := 36) hX dX0_together_36 rfl ?_
              refine gi_iconst (pc := 37) (nI 1) hX dX0_together_37 (by decide) ?_
              refine gi_iload_n (pc := 38) hX dX0_together_38 rfl ?_
              refine gi_ishl (pc := 39) hX dX0_together_39 ?_
              refine gi_iconst (pc := 40) (nI 1) hX dX0_together_40 (by decide) ?_
              refine gi_iload_n (pc := 41) hX dX0_together_41 rfl ?_
              refine gi_ishl (pc := 42) hX dX0_together_42 ?_
              refine gi_ior (pc := 43) hX dX0_together_43 ?_
              refine gi_iload_n (pc := 44) hX dX0_together_44 rfl ?_
              obtain ⟨e, he, ee⟩ := sp_B8_nat (x := b_sh f ||| b_sh g) (fun i hi => by rw [b_or, sp_B8_sh hf i hi, sp_B8_sh hg i hi]; rfl)
              rw [show nI 1 <<< (nI f &&& 31) ||| nI 1 <<< (nI g &&& 31) = nI e from ee]
              refine gi_callI (pc := 45) hX (m_serves e j he (by omega) hS.1 hG1 hM1) cw_p_serves rfl rfl rfl rfl rfl rfl dX0_together_45 (fun r u hp => ?_)
              obtain ⟨M3, T3, rfl, hM3, h3⟩ := hp
              rw [← ee] at h3
              exact hR 48 _ _ _ dX0_together_48 h3.nar ⟨1, G1, M3, T3, rfl, ⟨hS.1, Or.inr ⟨rfl, hG1, hM3⟩⟩, h3.iff ⟨fun z => ⟨f, g, j, hf, hg, hj, rfl, rfl, rfl, z⟩, fun ⟨f1, g1, j1, z1, z2, z3, z4, z5, z6, z7⟩ => by
                rw [(nI_eq (by omega) (by omega)).mp z4, (nI_eq (by omega) (by omega)).mp z5, (nI_eq (by omega) (by omega)).mp z6]; exact z7⟩⟩
            · have q : ¬ op_together P x y z := fun ⟨f, g, j, z1, z2, z3, z4, z5, z6, _⟩ => absurd (by rw [z6]; exact nI_le z3 (by omega)) c27
              refine gi_iconst (pc := 30) (nI 0) hX dX0_together_30 (by decide) ?_
              exact hR 31 _ _ _ dX0_together_31 rfl ⟨B, Gr, M, T, rfl, hS, b_tf0 q⟩
set_option maxHeartbeats 4000000 in
theorem m_advance {a : Nat → Nat} {k : gx_C} {P : pw_P} {B : Nat} {Gr : pw_G} {M : pw_M} {T : pw_T} (x : Int32) (hS : sp_good P B Gr M) : gx_CI k yX0_advance cX0_advance 2 .boolean (3, 78) [.ref (a 0), .int x] (pw_W a k) (P, B, Gr, M, T) (fun r u => ∃ P1 B1 G1 M1 T1, u = (P1, B1, G1, M1, T1) ∧ sp_good P1 B1 G1 M1 ∧ op_advance P x r P1) := by
  refine gx_CI.of (by decide) rfl rfl (fun X hX hR => ?_)
  have hX : gx_Ok X cX0_advance RX0 k (3, 78) := hX
  show gx_G X (pw_W a k (P, B, Gr, M, T)) 0 [some (.ref (a 0)), some (.int x)] []
  have hn := hS.1.1
  have hp7 := sp_pw7 hn
  refine gi_iload_n (pc := 0) hX dX0_advance_0 rfl ?_
  refine gi_if_lt (pc := 1) 26 hX dX0_advance_1 (by decide) (fun c1 => ?_) (fun c1 => ?_)
  · have q : ¬ (∃ y, y < 2 ^ P.1 ∧ x = nI y ∧ sp_lay P x P.2.2.2.2) := fun ⟨y, z1, z2, _⟩ => absurd c1 (by rw [z2]; exact nI_pos (by omega))
    refine gi_iconst (pc := 26) (nI 0) hX dX0_advance_26 (by decide) ?_
    exact hR 27 _ _ _ dX0_advance_27 rfl ⟨P, B, Gr, M, T, rfl, hS, Or.inl ⟨q, rfl, rfl⟩⟩
  · obtain ⟨y, hy, rfl⟩ := nI_of c1
    refine gi_iload_n (pc := 4) hX dX0_advance_4 rfl ?_
    refine gi_iconst (pc := 5) (nI 1) hX dX0_advance_5 (by decide) ?_
    refine gi_aload_n (pc := 6) hX dX0_advance_6 rfl ?_
    refine pg_n (pc := 7) hX dX0_advance_7 ?_
    try dsimp only
    refine gi_ishl (pc := 10) hX dX0_advance_10 ?_
    rw [sp_pw _ (by omega)]
    refine gi_icmp_ge (pc := 11) 26 hX dX0_advance_11 (by decide) (fun c11 => ?_) (fun c11 => ?_)
    · have q : ¬ (∃ y1, y1 < 2 ^ P.1 ∧ nI y = nI y1 ∧ sp_lay P (nI y) P.2.2.2.2) := fun ⟨y1, z1, z2, _⟩ => absurd c11 (by rw [z2]; exact nI_ge z1 (by omega))
      refine gi_iconst (pc := 26) (nI 0) hX dX0_advance_26 (by decide) ?_
      exact hR 27 _ _ _ dX0_advance_27 rfl ⟨P, B, Gr, M, T, rfl, hS, Or.inl ⟨q, rfl, rfl⟩⟩
    · have q0 := sp_lt (by omega) (by omega) c11
      refine gi_aload_n (pc := 14) hX dX0_advance_14 rfl ?_
      refine gi_iload_n (pc := 15) hX dX0_advance_15 rfl ?_
      refine gi_aload_n (pc := 16) hX dX0_advance_16 rfl ?_
      refine pg_ss (pc := 17) hX dX0_advance_17 ?_
      try dsimp only
      refine gi_callI (pc := 20) hX (m_isLayer _ _ hS.1.1) cw_p_isLayer rfl rfl rfl rfl rfl rfl dX0_advance_20 (fun r u hp => ?_)
      obtain ⟨rfl, h1⟩ := hp
      refine gi_if_ne (pc := 23) 28 hX dX0_advance_23 (by decide) (fun c23 => ?_) (fun c23 => ?_)
      · have q1 := h1.nz.mp c23
        refine gi_aload_n (pc := 28) hX dX0_advance_28 rfl ?_
        refine gi_aload_n (pc := 29) hX dX0_advance_29 rfl ?_
        refine gi_iload_n (pc := 30) hX dX0_advance_30 rfl ?_
        refine gi_aload_n (pc := 31) hX dX0_advance_31 rfl ?_
        refine pg_ss (pc := 32) hX dX0_advance_32 ?_
        try dsimp only
        refine gi_callI (pc := 35) hX (m_after _ _ hS.1.1) cw_p_after rfl rfl rfl rfl rfl rfl dX0_advance_35 (fun r u hp => ?_)
        obtain ⟨rfl, h2⟩ := hp
        refine ps_ss (pc := 38) hX dX0_advance_38 ?_
        try dsimp only
        refine gi_aload_n (pc := 41) hX dX0_advance_41 rfl ?_
        refine gi_iconst (pc := 42) (nI 0) hX dX0_advance_42 (by decide) ?_
        refine ps_b (pc := 43) 0 hX dX0_advance_43 rfl rfl rfl ?_
        try dsimp only
        refine gi_iconst (pc := 46) (nI 1) hX dX0_advance_46 (by decide) ?_
        exact hR 47 _ _ _ dX0_advance_47 rfl ⟨_, _, _, _, _, rfl, ⟨sp_ok_ss hS.1 (sp_nx8 hS.1 h2 hS.1.2.2), Or.inl rfl⟩, Or.inr ⟨⟨y, q0, rfl, q1⟩, rfl, _, h2, rfl⟩⟩
      · have q : ¬ (∃ y1, y1 < 2 ^ P.1 ∧ nI y = nI y1 ∧ sp_lay P (nI y) P.2.2.2.2) := fun ⟨y1, _, _, z3⟩ => h1.z.mp c23 z3
        refine gi_iconst (pc := 26) (nI 0) hX dX0_advance_26 (by decide) ?_
        exact hR 27 _ _ _ dX0_advance_27 rfl ⟨P, B, Gr, M, T, rfl, hS, Or.inl ⟨q, rfl, rfl⟩⟩
end
section
/-! CONTRACT: begins -/
set_option maxRecDepth 100000
theorem fw_pos {P : pw_P} {x r : Int32} (h : op_fewest P x r) (hr : 0 < r) : ∃ k, k < 8 ∧ r = nI (k + 1) ∧ sp_sv P P.2.2.2.2 (k + 1) x ∧ ∀ j, j < k + 1 → ¬ sp_sv P P.2.2.2.2 j x := by
  rcases h with ⟨-, e⟩ | ⟨-, ⟨k, h1, e, h2, h3⟩ | ⟨e, -⟩⟩
  · rw [e] at hr; exact absurd hr (by decide)
  · cases k with
    | zero => rw [e, nI_0] at hr; exact absurd hr (by decide)
    | succ k => exact ⟨k, by omega, e, h2, h3⟩
  · rw [e] at hr; exact absurd hr (by decide)
theorem sv_un {Q : Nat → Prop} {j k : Nat} (h1 : Q j) (h2 : ∀ i, i < j → ¬ Q i) (h3 : Q k) (h4 : ∀ i, i < k → ¬ Q i) : j = k := by
  rcases Nat.lt_trichotomy j k with z | z | z
  · exact absurd h1 (h4 j z)
  · exact z
  · exact absurd h3 (h2 k z)
theorem fw_neg {P : pw_P} {x y r : Int32} (h : op_fewest P x r) (hr : ¬ 0 < r) : ¬ op_begins P x y := by
  rintro ⟨hs, i, k, -, -, hk, h1, h2, -⟩
  rcases h with ⟨e, -⟩ | ⟨-, ⟨k2, g1, e, g2, g3⟩ | ⟨-, g⟩⟩
  · exact e hs
  · have := sv_un (Q := fun j => sp_sv P P.2.2.2.2 j x) h1 h2 g2 g3
    subst this
    refine hr ?_
    rw [e, ← nI_0]
    exact (nI_ltI (by omega) (by omega)).mpr (by omega)
  · exact g (k + 1) (by omega) h1
theorem bg_fin {P : pw_P} (hn : P.1 ≤ 7) {x fnd : Int32} {i k : Nat} (hs : sp_set x) (hi : i < P.1) (hk : k < 8) (h1 : sp_sv P P.2.2.2.2 (k + 1) x) (h2 : ∀ j, j < k + 1 → ¬ sp_sv P P.2.2.2.2 j x) (hv : (fnd = nI 1 ∧ ∃ z, z < 2 ^ P.1 ∧ op_bcond P x i k z) ∨ (fnd = nI 0 ∧ ∀ z, z < 2 ^ P.1 → ¬ op_bcond P x i k z)) : b_tf fnd (op_begins P x (nI i)) := by
  rcases hv with ⟨e, z⟩ | ⟨e, z⟩
  · exact Or.inl ⟨e, hs, i, k, rfl, hi, hk, h1, h2, z⟩
  · refine Or.inr ⟨e, ?_⟩
    rintro ⟨-, i2, k2, e2, hi2, hk2, g1, g2, y, hy, hc⟩
    have ei := (nI_eq (by omega) (by omega)).mp e2
    have ek := sv_un (Q := fun j => sp_sv P P.2.2.2.2 j x) h1 h2 g1 g2
    have ek : k = k2 := by omega
    subst ei; subst ek
    exact z y hy hc
set_option maxHeartbeats 4000000 in
theorem m_begins {a : Nat → Nat} {k : gx_C} {P : pw_P} {B : Nat} {Gr : pw_G} {M : pw_M} {T : pw_T} (x y : Int32) (hS : sp_good P B Gr M) : gx_CI k yX0_begins cX0_begins 7 .boolean (6, 156) [.ref (a 0), .int x, .int y] (pw_W a k) (P, B, Gr, M, T) (fun r u => ∃ B1 G1 M1 T1, u = (P, B1, G1, M1, T1) ∧ sp_good P B1 G1 M1 ∧ b_tf r (op_begins P x y)) := by
  refine gx_CI.of (by decide) rfl rfl (fun X hX hR => ?_)
  have hX : gx_Ok X cX0_begins RX0 k (6, 156) := hX
  show gx_G X (pw_W a k (P, B, Gr, M, T)) 0 [some (.ref (a 0)), some (.int x), some (.int y), none, none, none, none] []
  have hn := hS.1.1
  have hp7 := sp_pw7 hn
  refine gi_aload_n (pc := 0) hX dX0_begins_0 rfl ?_
  refine gi_iload_n (pc := 1) hX dX0_begins_1 rfl ?_
  refine gi_callI (pc := 2) hX (m_isSet x) cw_p_isSet rfl rfl rfl rfl rfl rfl dX0_begins_2 (fun r u hp => ?_)
  obtain ⟨rfl, h1⟩ := hp
  refine gi_if_eq (pc := 5) 16 hX dX0_begins_5 (by decide) (fun c5 => ?_) (fun c5 => ?_)
  · have q : ¬ op_begins P x y := fun z => h1.z.mp c5 z.1
    refine gi_iconst (pc := 16) (nI 0) hX dX0_begins_16 (by decide) ?_
    exact hR 17 _ _ _ dX0_begins_17 rfl ⟨B, Gr, M, T, rfl, hS, b_tf0 q⟩
  · refine gi_aload_n (pc := 8) hX dX0_begins_8 rfl ?_
    refine gi_iload_n (pc := 9) hX dX0_begins_9 rfl ?_
    refine gi_callI (pc := 10) hX (m_isAction y) cw_p_isAction rfl rfl rfl rfl rfl rfl dX0_begins_10 (fun r u hp => ?_)
    obtain ⟨rfl, h2⟩ := hp
    refine gi_if_ne (pc := 13) 18 hX dX0_begins_13 (by decide) (fun c13 => ?_) (fun c13 => ?_)
    · obtain ⟨i, rfl, hi⟩ := sp_act_nat hn (h2.nz.mp c13)
      have hset := h1.nz.mp c5
      obtain ⟨g, hg, rfl⟩ := sp_B8_nat (sp_B8_set.mp hset)
      refine gi_aload_n (pc := 18) hX dX0_begins_18 rfl ?_
      refine gi_iload_n (pc := 19) hX dX0_begins_19 rfl ?_
      refine gi_callI (pc := 20) hX (m_fewest _ hS) cw_p_fewest rfl rfl rfl rfl rfl rfl dX0_begins_20 (fun r u hp => ?_)
      obtain ⟨B1, G1, M1, T1, rfl, hS1, h3⟩ := hp
      refine gi_istore_n (pc := 23) 3 rfl hX dX0_begins_23 rfl rfl ?_
      dsimp only [List.set]
      refine gi_iload_n (pc := 24) hX dX0_begins_24 rfl ?_
      refine gi_if_gt (pc := 25) 30 hX dX0_begins_25 (by decide) (fun c25 => ?_) (fun c25 => ?_)
      · obtain ⟨j, hj, rfl, hsv, hmin⟩ := fw_pos h3 c25
        have loop : ∀ w, w ≤ 2 ^ P.1 → ∀ (s1 : Int32) (B2 : Nat) (G2 : pw_G) (M2 : pw_M) (T2 : pw_T) (fnd : Int32), (fnd = nI 1 ∧ ∃ z, z < 2 ^ P.1 ∧ op_bcond P (nI g) i j z) ∨ (fnd = nI 0 ∧ ∀ z, z < w → ¬ op_bcond P (nI g) i j z) → gx_G X (pw_W a k ((P.1, P.2.1, P.2.2.1, P.2.2.2.1, s1), B2, G2, M2, T2)) 42 [some (.ref (a 0)), some (.int (nI g)), some (.int (nI i)), some (.int (nI (j + 1))), some (.int P.2.2.2.2), some (.int fnd), some (.int (nI w))] [] := by
          refine gx_up ?_
          intro w hw ih s1 B2 G2 M2 T2 fnd hv
          refine gi_iload (pc := 42) hX dX0_begins_42 rfl ?_
          refine gi_iconst (pc := 44) (nI 1) hX dX0_begins_44 (by decide) ?_
          refine gi_aload_n (pc := 45) hX dX0_begins_45 rfl ?_
          refine pg_n (pc := 46) hX dX0_begins_46 ?_
          try dsimp only
          refine gi_ishl (pc := 49) hX dX0_begins_49 ?_
          rw [sp_pw _ (by omega)]
          refine gi_icmp_ge (pc := 50) 118 hX dX0_begins_50 (by decide) (fun c50 => ?_) (fun c50 => ?_)
          · have q0 := sp_ge (by omega) (by omega) c50
            have hfin : b_tf fnd (op_begins P (nI g) (nI i)) := bg_fin hn hset hi hj hsv hmin (hv.imp id (fun z => ⟨z.1, fun y hy => z.2 y (by omega)⟩))
            refine gi_aload_n (pc := 118) hX dX0_begins_118 rfl ?_
            refine gi_iload (pc := 119) hX dX0_begins_119 rfl ?_
            refine ps_ss (pc := 121) hX dX0_begins_121 ?_
            try dsimp only
            refine gi_aload_n (pc := 124) hX dX0_begins_124 rfl ?_
            refine gi_iconst (pc := 125) (nI 0) hX dX0_begins_125 (by decide) ?_
            refine ps_b (pc := 126) 0 hX dX0_begins_126 rfl rfl rfl ?_
            try dsimp only
            refine gi_iload (pc := 129) hX dX0_begins_129 rfl ?_
            exact hR 131 _ _ _ dX0_begins_131 hfin.nar ⟨0, _, _, _, rfl, ⟨hS.1, Or.inl rfl⟩, hfin⟩
          · have q0 := sp_lt (by omega) (by omega) c50
            refine gi_iload (pc := 53) hX dX0_begins_53 rfl ?_
            refine gi_if_ne (pc := 55) 118 hX dX0_begins_55 (by decide) (fun c55 => ?_) (fun c55 => ?_)
            · have q3 : fnd = nI 1 ∧ ∃ z, z < 2 ^ P.1 ∧ op_bcond P (nI g) i j z := hv.elim id (fun z => absurd (by rw [z.1]; exact nI_0) c55)
              have hfin : b_tf fnd (op_begins P (nI g) (nI i)) := bg_fin hn hset hi hj hsv hmin (Or.inl q3)
              refine gi_aload_n (pc := 118) hX dX0_begins_118 rfl ?_
              refine gi_iload (pc := 119) hX dX0_begins_119 rfl ?_
              refine ps_ss (pc := 121) hX dX0_begins_121 ?_
              try dsimp only
              refine gi_aload_n (pc := 124) hX dX0_begins_124 rfl ?_
              refine gi_iconst (pc := 125) (nI 0) hX dX0_begins_125 (by decide) ?_
              refine ps_b (pc := 126) 0 hX dX0_begins_126 rfl rfl rfl ?_
              try dsimp only
              refine gi_iload (pc := 129) hX dX0_begins_129 rfl ?_
              exact hR 131 _ _ _ dX0_begins_131 hfin.nar ⟨0, _, _, _, rfl, ⟨hS.1, Or.inl rfl⟩, hfin⟩
            · have q3 : ∀ z, z < w → ¬ op_bcond P (nI g) i j z := hv.elim (fun z => absurd c55 (by rw [z.1]; decide)) (fun z => z.2)
              have q4 : fnd = nI 0 := c55.trans nI_0.symm
              refine gi_iload (pc := 58) hX dX0_begins_58 rfl ?_
              refine gi_iload_n (pc := 60) hX dX0_begins_60 rfl ?_
              refine gi_ishr (pc := 61) hX dX0_begins_61 ?_
              refine gi_iconst (pc := 62) (nI 1) hX dX0_begins_62 (by decide) ?_
              refine gi_iand (pc := 63) hX dX0_begins_63 ?_
              refine gi_if_eq (pc := 64) 112 hX dX0_begins_64 (by decide) (fun c64 => ?_) (fun c64 => ?_)
              · rw [b_tst (by omega)] at c64
                have q5 : ¬ op_bcond P (nI g) i j w := fun z => absurd z.1 (b_nt c64)
                refine gi_iinc (pc := 112) 6 _ hX dX0_begins_112 rfl (gi_inc1 _) rfl rfl ?_
                dsimp only [List.set]
                refine gi_goto (pc := 115) 42 hX dX0_begins_115 (by decide) ?_
                first
                | exact ih (w + 1) (by omega) (by omega) _ _ _ _ _ fnd (Or.inr ⟨q4, sp_all1 q3 q5⟩)
                | exact ih (w + 1) (by omega) (by omega) _ _ _ _ _ fn2 (h8.imp (fun z => ⟨z.1, w, q0, c64, q6, s2, h6, z.2⟩) (fun z => ⟨z.1, sp_all1 q3 (fun ⟨_, _, s3, y1, y2⟩ => z.2 (by rw [sp_nx_un h6 y1]; exact y2))⟩))
              · rw [b_tst1 (by omega)] at c64
                refine gi_aload_n (pc := 67) hX dX0_begins_67 rfl ?_
                refine gi_iload (pc := 68) hX dX0_begins_68 rfl ?_
                refine gi_iload (pc := 70) hX dX0_begins_70 rfl ?_
                refine gi_callI (pc := 72) hX (m_isLayer _ _ hn) cw_p_isLayer rfl rfl rfl rfl rfl rfl dX0_begins_72 (fun r u hp => ?_)
                obtain ⟨rfl, h5⟩ := hp
                have h5 : b_tf r (sp_lay P (nI w) P.2.2.2.2) := h5
                refine gi_if_ne (pc := 75) 81 hX dX0_begins_75 (by decide) (fun c75 => ?_) (fun c75 => ?_)
                · have q6 := h5.nz.mp c75
                  refine gi_aload_n (pc := 81) hX dX0_begins_81 rfl ?_
                  refine gi_aload_n (pc := 82) hX dX0_begins_82 rfl ?_
                  refine gi_iload (pc := 83) hX dX0_begins_83 rfl ?_
                  refine gi_iload (pc := 85) hX dX0_begins_85 rfl ?_
                  refine gi_callI (pc := 87) hX (m_after _ _ hn) cw_p_after rfl rfl rfl rfl rfl rfl dX0_begins_87 (fun r u hp => ?_)
                  obtain ⟨rfl, h6⟩ := hp
                  generalize r = s2 at h6 ⊢
                  have h6 : sp_nx P (nI w) P.2.2.2.2 s2 := h6
                  have hP2 : sp_ok (P.1, P.2.1, P.2.2.1, P.2.2.2.1, s2) := sp_ok_ss hS.1 (sp_nx8 hS.1 h6 hS.1.2.2)
                  refine ps_ss (pc := 90) hX dX0_begins_90 ?_
                  try dsimp only
                  refine gi_aload_n (pc := 93) hX dX0_begins_93 rfl ?_
                  refine gi_iconst (pc := 94) (nI 0) hX dX0_begins_94 (by decide) ?_
                  refine ps_b (pc := 95) 0 hX dX0_begins_95 rfl rfl rfl ?_
                  try dsimp only
                  refine gi_aload_n (pc := 98) hX dX0_begins_98 rfl ?_
                  refine gi_callV (pc := 99) hX (m_build hP2 (Or.inl rfl)) cw_p_build rfl rfl rfl rfl rfl rfl dX0_begins_99 (fun u hp => ?_)
                  obtain ⟨G3, M3, rfl, hG3, hM3⟩ := hp
                  refine gi_aload_n (pc := 102) hX dX0_begins_102 rfl ?_
                  refine gi_iload_n (pc := 103) hX dX0_begins_103 rfl ?_
                  refine gi_iload_n (pc := 104) hX dX0_begins_104 rfl ?_
                  refine gi_iconst (pc := 105) (nI 1) hX dX0_begins_105 (by decide) ?_
                  refine gi_isub (pc := 106) hX dX0_begins_106 ?_
                  rw [sp_pred]
                  refine gi_callI (pc := 107) hX (m_serves g j hg (by omega) hP2 hG3 hM3) cw_p_serves rfl rfl rfl rfl rfl rfl dX0_begins_107 (fun r u hp => ?_)
                  obtain ⟨M4, T4, rfl, hM4, h7⟩ := hp
                  have h8 : b_tf r (sp_sv P s2 j (nI g)) := h7.iff sp_sv_c
                  generalize r = fn2 at h8 ⊢
                  refine gi_istore (pc := 110) 5 hX dX0_begins_110 rfl rfl ?_
                  dsimp only [List.set]
                  refine gi_iinc (pc := 112) 6 _ hX dX0_begins_112 rfl (gi_inc1 _) rfl rfl ?_
                  dsimp only [List.set]
                  refine gi_goto (pc := 115) 42 hX dX0_begins_115 (by decide) ?_
                  first
                  | exact ih (w + 1) (by omega) (by omega) _ _ _ _ _ fnd (Or.inr ⟨q4, sp_all1 q3 q5⟩)
                  | exact ih (w + 1) (by omega) (by omega) _ _ _ _ _ fn2 (h8.imp (fun z => ⟨z.1, w, q0, c64, q6, s2, h6, z.2⟩) (fun z => ⟨z.1, sp_all1 q3 (fun ⟨_, _, s3, y1, y2⟩ => z.2 (by rw [sp_nx_un h6 y1]; exact y2))⟩))
                · have q5 : ¬ op_bcond P (nI g) i j w := fun z => h5.z.mp c75 z.2.1
                  refine gi_goto (pc := 78) 112 hX dX0_begins_78 (by decide) ?_
                  refine gi_iinc (pc := 112) 6 _ hX dX0_begins_112 rfl (gi_inc1 _) rfl rfl ?_
                  dsimp only [List.set]
                  refine gi_goto (pc := 115) 42 hX dX0_begins_115 (by decide) ?_
                  first
                  | exact ih (w + 1) (by omega) (by omega) _ _ _ _ _ fnd (Or.inr ⟨q4, sp_all1 q3 q5⟩)
                  | exact ih (w + 1) (by omega) (by omega) _ _ _ _ _ fn2 (h8.imp (fun z => ⟨z.1, w, q0, c64, q6, s2, h6, z.2⟩) (fun z => ⟨z.1, sp_all1 q3 (fun ⟨_, _, s3, y1, y2⟩ => z.2 (by rw [sp_nx_un h6 y1]; exact y2))⟩))
        refine gi_aload_n (pc := 30) hX dX0_begins_30 rfl ?_
        refine pg_ss (pc := 31) hX dX0_begins_31 ?_
        try dsimp only
        refine gi_istore (pc := 34) 4 hX dX0_begins_34 rfl rfl ?_
        dsimp only [List.set]
        refine gi_iconst (pc := 36) (nI 0) hX dX0_begins_36 (by decide) ?_
        refine gi_istore (pc := 37) 5 hX dX0_begins_37 rfl rfl ?_
        dsimp only [List.set]
        refine gi_iconst (pc := 39) (nI 0) hX dX0_begins_39 (by decide) ?_
        refine gi_istore (pc := 40) 6 hX dX0_begins_40 rfl rfl ?_
        dsimp only [List.set]
        exact loop 0 (Nat.zero_le _) P.2.2.2.2 B1 G1 M1 T1 (nI 0) (Or.inr ⟨rfl, fun z hz => absurd hz (by omega)⟩)
      · have q := fw_neg (y := nI i) h3 c25
        refine gi_iconst (pc := 28) (nI 0) hX dX0_begins_28 (by decide) ?_
        exact hR 29 _ _ _ dX0_begins_29 rfl ⟨B1, G1, M1, T1, rfl, hS1, b_tf0 q⟩
    · have q : ¬ op_begins P x y := fun ⟨_, i, k, z1, z2, _⟩ => h2.z.mp c13 (by rw [z1]; exact sp_nat_act hn z2)
      refine gi_iconst (pc := 16) (nI 0) hX dX0_begins_16 (by decide) ?_
      exact hR 17 _ _ _ dX0_begins_17 rfl ⟨B, Gr, M, T, rfl, hS, b_tf0 q⟩
end
section
/-! CONTRACTS of PlanLayersModel: the small ones and after -/
set_option maxRecDepth 100000
set_option maxHeartbeats 4000000 in
theorem mm_isSet {a : Nat → Nat} {k : gx_C} {P : pw_P} {hd : pw_F} (x : Int32) : gx_CI k yX1_isSet cX1_isSet 2 .boolean (0, 0) [.ref (a 0), .int x] (mw_W a k) (P.1, P.2.1, P.2.2.1, P.2.2.2.1, P.2.2.2.2, hd) (fun r u => u = (P.1, P.2.1, P.2.2.1, P.2.2.2.1, P.2.2.2.2, hd) ∧ b_tf r (sp_set x)) := by
  refine gx_CI.of (by decide) rfl rfl (fun X hX hR => ?_)
  have hX : gx_Ok X cX1_isSet RX1 k (0, 0) := hX
  show gx_G X (mw_W a k (P.1, P.2.1, P.2.2.1, P.2.2.2.1, P.2.2.2.2, hd)) 0 [some (.ref (a 0)), some (.int x)] []
  refine gi_iload_n (pc := 0) hX dX1_isSet_0 rfl ?_
  refine gi_if_lt (pc := 1) 15 hX dX1_isSet_1 (by decide) (fun c1 => ?_) (fun c1 => ?_)
  · have q : ¬ sp_set x := fun h => h.1 c1
    refine gi_iconst (pc := 15) (nI 0) hX dX1_isSet_15 (by decide) ?_
    exact hR 16 _ _ _ dX1_isSet_16 rfl ⟨rfl, by first | exact b_tf1 q | exact b_tf0 q⟩
  · refine gi_iload_n (pc := 4) hX dX1_isSet_4 rfl ?_
    refine gi_sipush (pc := 5) (nI 255) hX dX1_isSet_5 (by decide) ?_
    refine gi_icmp_gt (pc := 8) 15 hX dX1_isSet_8 (by decide) (fun c8 => ?_) (fun c8 => ?_)
    · have q : ¬ sp_set x := fun h => h.2 c8
      refine gi_iconst (pc := 15) (nI 0) hX dX1_isSet_15 (by decide) ?_
      exact hR 16 _ _ _ dX1_isSet_16 rfl ⟨rfl, by first | exact b_tf1 q | exact b_tf0 q⟩
    · have q : sp_set x := ⟨c1, c8⟩
      refine gi_iconst (pc := 11) (nI 1) hX dX1_isSet_11 (by decide) ?_
      refine gi_goto (pc := 12) 16 hX dX1_isSet_12 (by decide) ?_
      exact hR 16 _ _ _ dX1_isSet_16 rfl ⟨rfl, by first | exact b_tf1 q | exact b_tf0 q⟩
set_option maxHeartbeats 4000000 in
theorem mm_isAction {a : Nat → Nat} {k : gx_C} {P : pw_P} {hd : pw_F} (x : Int32) : gx_CI k yX1_isAction cX1_isAction 2 .boolean (0, 0) [.ref (a 0), .int x] (mw_W a k) (P.1, P.2.1, P.2.2.1, P.2.2.2.1, P.2.2.2.2, hd) (fun r u => u = (P.1, P.2.1, P.2.2.1, P.2.2.2.1, P.2.2.2.2, hd) ∧ b_tf r (sp_act P.1 x)) := by
  refine gx_CI.of (by decide) rfl rfl (fun X hX hR => ?_)
  have hX : gx_Ok X cX1_isAction RX1 k (0, 0) := hX
  show gx_G X (mw_W a k (P.1, P.2.1, P.2.2.1, P.2.2.2.1, P.2.2.2.2, hd)) 0 [some (.ref (a 0)), some (.int x)] []
  refine gi_iload_n (pc := 0) hX dX1_isAction_0 rfl ?_
  refine gi_if_lt (pc := 1) 16 hX dX1_isAction_1 (by decide) (fun c1 => ?_) (fun c1 => ?_)
  · have q : ¬ sp_act P.1 x := fun h => h.1 c1
    refine gi_iconst (pc := 16) (nI 0) hX dX1_isAction_16 (by decide) ?_
    exact hR 17 _ _ _ dX1_isAction_17 rfl ⟨rfl, by first | exact b_tf1 q | exact b_tf0 q⟩
  · refine gi_iload_n (pc := 4) hX dX1_isAction_4 rfl ?_
    refine gi_aload_n (pc := 5) hX dX1_isAction_5 rfl ?_
    refine mg_n (pc := 6) hX dX1_isAction_6 ?_
    refine gi_icmp_ge (pc := 9) 16 hX dX1_isAction_9 (by decide) (fun c9 => ?_) (fun c9 => ?_)
    · have q : ¬ sp_act P.1 x := fun h => h.2 c9
      refine gi_iconst (pc := 16) (nI 0) hX dX1_isAction_16 (by decide) ?_
      exact hR 17 _ _ _ dX1_isAction_17 rfl ⟨rfl, by first | exact b_tf1 q | exact b_tf0 q⟩
    · have q : sp_act P.1 x := ⟨c1, c9⟩
      refine gi_iconst (pc := 12) (nI 1) hX dX1_isAction_12 (by decide) ?_
      refine gi_goto (pc := 13) 17 hX dX1_isAction_13 (by decide) ?_
      exact hR 17 _ _ _ dX1_isAction_17 rfl ⟨rfl, by first | exact b_tf1 q | exact b_tf0 q⟩
set_option maxHeartbeats 4000000 in
theorem mm_action {a : Nat → Nat} {k : gx_C} {P : pw_P} {hd : pw_F} (x y z : Int32) (hn : P.1 ≤ 7) : gx_CI k yX1_action cX1_action 4 .int (1, 26) [.ref (a 0), .int x, .int y, .int z] (mw_W a k) (P.1, P.2.1, P.2.2.1, P.2.2.2.1, P.2.2.2.2, hd) (fun r u => ∃ P1 hd1, u = (P1.1, P1.2.1, P1.2.2.1, P1.2.2.2.1, P1.2.2.2.2, hd1) ∧ op_action P x y z r P1) := by
  refine gx_CI.of (by decide) rfl rfl (fun X hX hR => ?_)
  have hX : gx_Ok X cX1_action RX1 k (1, 26) := hX
  show gx_G X (mw_W a k (P.1, P.2.1, P.2.2.1, P.2.2.2.1, P.2.2.2.2, hd)) 0 [some (.ref (a 0)), some (.int x), some (.int y), some (.int z)] []
  refine gi_aload_n (pc := 0) hX dX1_action_0 rfl ?_
  refine mg_n (pc := 1) hX dX1_action_1 ?_
  try dsimp only
  refine gi_bipush (pc := 4) (nI 7) hX dX1_action_4 (by decide) ?_
  refine gi_icmp_ne (pc := 6) 12 hX dX1_action_6 (by decide) (fun c6 => ?_) (fun c6 => ?_)
  · have q0 : P.1 < 7 := by
      have z : P.1 ≠ 7 := fun z => c6 (by rw [z])
      omega
    refine gi_aload_n (pc := 12) hX dX1_action_12 rfl ?_
    refine gi_iload_n (pc := 13) hX dX1_action_13 rfl ?_
    refine gi_callI (pc := 14) hX (mm_isSet x) cw_m_isSet rfl rfl rfl rfl rfl rfl dX1_action_14 (fun r u hp => ?_)
    obtain ⟨rfl, h1⟩ := hp
    refine gi_if_eq (pc := 17) 36 hX dX1_action_17 (by decide) (fun c17 => ?_) (fun c17 => ?_)
    · have q : ¬ (sp_set x ∧ sp_set y ∧ sp_set z) := fun w => h1.z.mp c17 w.1
      refine gi_iconst (pc := 36) (-1) hX dX1_action_36 (by decide) ?_
      exact hR 37 _ _ _ dX1_action_37 rfl ⟨P, hd, rfl, Or.inr (Or.inl ⟨q0, q, rfl, rfl⟩)⟩
    · refine gi_aload_n (pc := 20) hX dX1_action_20 rfl ?_
      refine gi_iload_n (pc := 21) hX dX1_action_21 rfl ?_
      refine gi_callI (pc := 22) hX (mm_isSet y) cw_m_isSet rfl rfl rfl rfl rfl rfl dX1_action_22 (fun r u hp => ?_)
      obtain ⟨rfl, h2⟩ := hp
      refine gi_if_eq (pc := 25) 36 hX dX1_action_25 (by decide) (fun c25 => ?_) (fun c25 => ?_)
      · have q : ¬ (sp_set x ∧ sp_set y ∧ sp_set z) := fun w => h2.z.mp c25 w.2.1
        refine gi_iconst (pc := 36) (-1) hX dX1_action_36 (by decide) ?_
        exact hR 37 _ _ _ dX1_action_37 rfl ⟨P, hd, rfl, Or.inr (Or.inl ⟨q0, q, rfl, rfl⟩)⟩
      · refine gi_aload_n (pc := 28) hX dX1_action_28 rfl ?_
        refine gi_iload_n (pc := 29) hX dX1_action_29 rfl ?_
        refine gi_callI (pc := 30) hX (mm_isSet z) cw_m_isSet rfl rfl rfl rfl rfl rfl dX1_action_30 (fun r u hp => ?_)
        obtain ⟨rfl, h3⟩ := hp
        refine gi_if_ne (pc := 33) 38 hX dX1_action_33 (by decide) (fun c33 => ?_) (fun c33 => ?_)
        · have q : sp_set x ∧ sp_set y ∧ sp_set z := ⟨h1.nz.mp c17, h2.nz.mp c25, h3.nz.mp c33⟩
          refine gi_aload_n (pc := 38) hX dX1_action_38 rfl ?_
          refine mg_nd (pc := 39) hX dX1_action_39 ?_
          refine gi_aload_n (pc := 42) hX dX1_action_42 rfl ?_
          refine mg_n (pc := 43) hX dX1_action_43 ?_
          try dsimp only
          refine gi_iload_n (pc := 46) hX dX1_action_46 rfl ?_
          refine ms_nd (pc := 47) _ hX dX1_action_47 rfl q0 ?_
          try dsimp only
          refine gi_aload_n (pc := 48) hX dX1_action_48 rfl ?_
          refine mg_gn (pc := 49) hX dX1_action_49 ?_
          refine gi_aload_n (pc := 52) hX dX1_action_52 rfl ?_
          refine mg_n (pc := 53) hX dX1_action_53 ?_
          try dsimp only
          refine gi_iload_n (pc := 56) hX dX1_action_56 rfl ?_
          refine ms_gn (pc := 57) _ hX dX1_action_57 rfl q0 ?_
          try dsimp only
          refine gi_aload_n (pc := 58) hX dX1_action_58 rfl ?_
          refine mg_ls (pc := 59) hX dX1_action_59 ?_
          refine gi_aload_n (pc := 62) hX dX1_action_62 rfl ?_
          refine mg_n (pc := 63) hX dX1_action_63 ?_
          try dsimp only
          refine gi_iload_n (pc := 66) hX dX1_action_66 rfl ?_
          refine ms_ls (pc := 67) _ hX dX1_action_67 rfl q0 ?_
          try dsimp only
          refine gi_aload_n (pc := 68) hX dX1_action_68 rfl ?_
          refine gi_dup (pc := 69) hX dX1_action_69 rfl ?_
          refine mg_n (pc := 70) hX dX1_action_70 ?_
          try dsimp only
          refine gi_iconst (pc := 73) (nI 1) hX dX1_action_73 (by decide) ?_
          refine gi_iadd (pc := 74) hX dX1_action_74 ?_
          refine ms_n (pc := 75) (P.1 + 1) hX dX1_action_75 (nI_1 P.1) ?_
          try dsimp only
          refine gi_aload_n (pc := 78) hX dX1_action_78 rfl ?_
          refine mg_n (pc := 79) hX dX1_action_79 ?_
          try dsimp only
          refine gi_iconst (pc := 82) (nI 1) hX dX1_action_82 (by decide) ?_
          refine gi_isub (pc := 83) hX dX1_action_83 ?_
          rw [sp_pred]
          exact hR 84 _ _ _ dX1_action_84 rfl ⟨(P.1 + 1, upd P.2.1 P.1 x, upd P.2.2.1 P.1 y, upd P.2.2.2.1 P.1 z, P.2.2.2.2), hd, rfl, Or.inr (Or.inr ⟨q0, q, rfl, rfl⟩)⟩
        · have q : ¬ (sp_set x ∧ sp_set y ∧ sp_set z) := fun w => h3.z.mp c33 w.2.2
          refine gi_iconst (pc := 36) (-1) hX dX1_action_36 (by decide) ?_
          exact hR 37 _ _ _ dX1_action_37 rfl ⟨P, hd, rfl, Or.inr (Or.inl ⟨q0, q, rfl, rfl⟩)⟩
  · have q0 : P.1 = 7 := (nI_eq (by omega) (by omega)).mp c6
    refine gi_bipush (pc := 9) (-2) hX dX1_action_9 (by decide) ?_
    exact hR 11 _ _ _ dX1_action_11 rfl ⟨P, hd, rfl, Or.inl ⟨by omega, rfl, rfl⟩⟩
set_option maxHeartbeats 4000000 in
theorem mm_drop {a : Nat → Nat} {k : gx_C} {P : pw_P} {hd : pw_F} (x : Int32) (hn : P.1 ≤ 7) : gx_CI k yX1_drop cX1_drop 3 .int (1, 26) [.ref (a 0), .int x] (mw_W a k) (P.1, P.2.1, P.2.2.1, P.2.2.2.1, P.2.2.2.2, hd) (fun r u => ∃ P1 hd1, u = (P1.1, P1.2.1, P1.2.2.1, P1.2.2.2.1, P1.2.2.2.2, hd1) ∧ op_drop P x r P1) := by
  refine gx_CI.of (by decide) rfl rfl (fun X hX hR => ?_)
  have hX : gx_Ok X cX1_drop RX1 k (1, 26) := hX
  show gx_G X (mw_W a k (P.1, P.2.1, P.2.2.1, P.2.2.2.1, P.2.2.2.2, hd)) 0 [some (.ref (a 0)), some (.int x), none] []
  refine gi_aload_n (pc := 0) hX dX1_drop_0 rfl ?_
  refine gi_iload_n (pc := 1) hX dX1_drop_1 rfl ?_
  refine gi_callI (pc := 2) hX (mm_isAction x) cw_m_isAction rfl rfl rfl rfl rfl rfl dX1_drop_2 (fun r u hp => ?_)
  obtain ⟨rfl, h1⟩ := hp
  refine gi_if_ne (pc := 5) 10 hX dX1_drop_5 (by decide) (fun c5 => ?_) (fun c5 => ?_)
  · obtain ⟨i, rfl, hi⟩ := sp_act_nat hn (h1.nz.mp c5)
    obtain ⟨n, hn1⟩ : ∃ n, P.1 = n + 1 := ⟨P.1 - 1, by omega⟩
    have hi2 : i ≤ n := by omega
    have loop : ∀ j, j ≤ n → i ≤ j → ∀ f1 f2 f3 : pw_F, sp_shf (n - j) f1 j = sp_shf (n - i) P.2.1 i → sp_shf (n - j) f2 j = sp_shf (n - i) P.2.2.1 i → sp_shf (n - j) f3 j = sp_shf (n - i) P.2.2.2.1 i → gx_G X (mw_W a k (n, f1, f2, f3, P.2.2.2.2, hd)) 22 [some (.ref (a 0)), some (.int (nI i)), some (.int (nI j))] [] := by
      refine gx_up ?_
      intro j hj ih hij f1 f2 f3 hv1 hv2 hv3
      refine gi_iload_n (pc := 22) hX dX1_drop_22 rfl ?_
      refine gi_aload_n (pc := 23) hX dX1_drop_23 rfl ?_
      refine mg_n (pc := 24) hX dX1_drop_24 ?_
      try dsimp only
      refine gi_icmp_ge (pc := 27) 78 hX dX1_drop_27 (by decide) (fun c27 => ?_) (fun c27 => ?_)
      · have q0 := sp_ge (by omega) (by omega) c27
        have q1 : j = n := by omega
        subst q1
        refine gi_aload_n (pc := 78) hX dX1_drop_78 rfl ?_
        refine mg_n (pc := 79) hX dX1_drop_79 ?_
        try dsimp only
        exact hR 82 _ _ _ dX1_drop_82 rfl ⟨(j, f1, f2, f3, P.2.2.2.2), hd, rfl, Or.inr ⟨i, j, rfl, hi2, hn1, rfl, by rw [Nat.sub_self] at hv1 hv2 hv3; rw [show f1 = _ from hv1, show f2 = _ from hv2, show f3 = _ from hv3]⟩⟩
      · have q0 := sp_lt (by omega) (by omega) c27
        refine gi_aload_n (pc := 30) hX dX1_drop_30 rfl ?_
        refine mg_nd (pc := 31) hX dX1_drop_31 ?_
        refine gi_iload_n (pc := 34) hX dX1_drop_34 rfl ?_
        refine gi_aload_n (pc := 35) hX dX1_drop_35 rfl ?_
        refine mg_nd (pc := 36) hX dX1_drop_36 ?_
        refine gi_iload_n (pc := 39) hX dX1_drop_39 rfl ?_
        refine gi_iconst (pc := 40) (nI 1) hX dX1_drop_40 (by decide) ?_
        refine gi_iadd (pc := 41) hX dX1_drop_41 ?_
        refine ml_nd (pc := 42) (j + 1) hX dX1_drop_42 (nI_1 j) (by omega) ?_
        try dsimp only
        refine ms_nd (pc := 43) _ hX dX1_drop_43 rfl (by omega) ?_
        try dsimp only
        refine gi_aload_n (pc := 44) hX dX1_drop_44 rfl ?_
        refine mg_gn (pc := 45) hX dX1_drop_45 ?_
        refine gi_iload_n (pc := 48) hX dX1_drop_48 rfl ?_
        refine gi_aload_n (pc := 49) hX dX1_drop_49 rfl ?_
        refine mg_gn (pc := 50) hX dX1_drop_50 ?_
        refine gi_iload_n (pc := 53) hX dX1_drop_53 rfl ?_
        refine gi_iconst (pc := 54) (nI 1) hX dX1_drop_54 (by decide) ?_
        refine gi_iadd (pc := 55) hX dX1_drop_55 ?_
        refine ml_gn (pc := 56) (j + 1) hX dX1_drop_56 (nI_1 j) (by omega) ?_
        try dsimp only
        refine ms_gn (pc := 57) _ hX dX1_drop_57 rfl (by omega) ?_
        try dsimp only
        refine gi_aload_n (pc := 58) hX dX1_drop_58 rfl ?_
        refine mg_ls (pc := 59) hX dX1_drop_59 ?_
        refine gi_iload_n (pc := 62) hX dX1_drop_62 rfl ?_
        refine gi_aload_n (pc := 63) hX dX1_drop_63 rfl ?_
        refine mg_ls (pc := 64) hX dX1_drop_64 ?_
        refine gi_iload_n (pc := 67) hX dX1_drop_67 rfl ?_
        refine gi_iconst (pc := 68) (nI 1) hX dX1_drop_68 (by decide) ?_
        refine gi_iadd (pc := 69) hX dX1_drop_69 ?_
        refine ml_ls (pc := 70) (j + 1) hX dX1_drop_70 (nI_1 j) (by omega) ?_
        try dsimp only
        refine ms_ls (pc := 71) _ hX dX1_drop_71 rfl (by omega) ?_
        try dsimp only
        refine gi_iinc (pc := 72) 2 _ hX dX1_drop_72 rfl (gi_inc1 _) rfl rfl ?_
        dsimp only [List.set]
        refine gi_goto (pc := 75) 22 hX dX1_drop_75 (by decide) ?_
        exact ih (j + 1) (by omega) (by omega) (by omega) _ _ _ (by rw [← hv1, show n - j = n - (j + 1) + 1 by omega]; rfl) (by rw [← hv2, show n - j = n - (j + 1) + 1 by omega]; rfl) (by rw [← hv3, show n - j = n - (j + 1) + 1 by omega]; rfl)
    refine gi_aload_n (pc := 10) hX dX1_drop_10 rfl ?_
    refine gi_dup (pc := 11) hX dX1_drop_11 rfl ?_
    refine mg_n (pc := 12) hX dX1_drop_12 ?_
    try dsimp only
    refine gi_iconst (pc := 15) (nI 1) hX dX1_drop_15 (by decide) ?_
    refine gi_isub (pc := 16) hX dX1_drop_16 ?_
    rw [show nI P.1 - nI 1 = nI n by rw [hn1, sp_pred]]
    refine ms_n (pc := 17) n hX dX1_drop_17 rfl ?_
    try dsimp only
    refine gi_iload_n (pc := 20) hX dX1_drop_20 rfl ?_
    refine gi_istore_n (pc := 21) 2 rfl hX dX1_drop_21 rfl rfl ?_
    dsimp only [List.set]
    exact loop i hi2 (Nat.le_refl _) _ _ _ rfl rfl rfl
  · refine gi_iconst (pc := 8) (-1) hX dX1_drop_8 (by decide) ?_
    exact hR 9 _ _ _ dX1_drop_9 rfl ⟨P, hd, rfl, Or.inl ⟨h1.z.mp c5, rfl, rfl⟩⟩
set_option maxHeartbeats 4000000 in
theorem mm_start {a : Nat → Nat} {k : gx_C} {P : pw_P} {hd : pw_F} (x : Int32) : gx_CI k yX1_start cX1_start 2 .boolean (1, 26) [.ref (a 0), .int x] (mw_W a k) (P.1, P.2.1, P.2.2.1, P.2.2.2.1, P.2.2.2.2, hd) (fun r u => ∃ P1 hd1, u = (P1.1, P1.2.1, P1.2.2.1, P1.2.2.2.1, P1.2.2.2.2, hd1) ∧ op_start P x r P1) := by
  refine gx_CI.of (by decide) rfl rfl (fun X hX hR => ?_)
  have hX : gx_Ok X cX1_start RX1 k (1, 26) := hX
  show gx_G X (mw_W a k (P.1, P.2.1, P.2.2.1, P.2.2.2.1, P.2.2.2.2, hd)) 0 [some (.ref (a 0)), some (.int x)] []
  refine gi_aload_n (pc := 0) hX dX1_start_0 rfl ?_
  refine gi_iload_n (pc := 1) hX dX1_start_1 rfl ?_
  refine gi_callI (pc := 2) hX (mm_isSet x) cw_m_isSet rfl rfl rfl rfl rfl rfl dX1_start_2 (fun r u hp => ?_)
  obtain ⟨rfl, h1⟩ := hp
  refine gi_if_ne (pc := 5) 10 hX dX1_start_5 (by decide) (fun c5 => ?_) (fun c5 => ?_)
  · refine gi_aload_n (pc := 10) hX dX1_start_10 rfl ?_
    refine gi_iload_n (pc := 11) hX dX1_start_11 rfl ?_
    refine ms_ss (pc := 12) hX dX1_start_12 ?_
    try dsimp only
    refine gi_iconst (pc := 15) (nI 1) hX dX1_start_15 (by decide) ?_
    exact hR 16 _ _ _ dX1_start_16 rfl ⟨(P.1, P.2.1, P.2.2.1, P.2.2.2.1, x), hd, rfl, Or.inr ⟨h1.nz.mp c5, rfl, rfl⟩⟩
  · refine gi_iconst (pc := 8) (nI 0) hX dX1_start_8 (by decide) ?_
    exact hR 9 _ _ _ dX1_start_9 rfl ⟨P, hd, rfl, Or.inl ⟨h1.z.mp c5, rfl, rfl⟩⟩
set_option maxHeartbeats 4000000 in
theorem mm_state {a : Nat → Nat} {k : gx_C} {P : pw_P} {hd : pw_F}  : gx_CI k yX1_state cX1_state 1 .int (0, 0) [.ref (a 0)] (mw_W a k) (P.1, P.2.1, P.2.2.1, P.2.2.2.1, P.2.2.2.2, hd) (fun r u => u = (P.1, P.2.1, P.2.2.1, P.2.2.2.1, P.2.2.2.2, hd) ∧ r = P.2.2.2.2) := by
  refine gx_CI.of (by decide) rfl rfl (fun X hX hR => ?_)
  have hX : gx_Ok X cX1_state RX1 k (0, 0) := hX
  show gx_G X (mw_W a k (P.1, P.2.1, P.2.2.1, P.2.2.2.1, P.2.2.2.2, hd)) 0 [some (.ref (a 0))] []
  refine gi_aload_n (pc := 0) hX dX1_state_0 rfl ?_
  refine mg_ss (pc := 1) hX dX1_state_1 ?_
  exact hR 4 _ _ _ dX1_state_4 rfl ⟨rfl, rfl⟩
theorem sp_cl_eq {P : pw_P} {i j : Nat} (hi : i < 7) (hj : j < 7) : sp_cl P i j ↔ ¬ (P.2.2.2.1 i &&& (P.2.1 j ||| P.2.2.1 j) = 0 ∧ P.2.2.2.1 j &&& (P.2.1 i ||| P.2.2.1 i) = 0) := by
  unfold sp_cl sp_ls sp_nd sp_gn
  rw [if_pos hi, if_pos hi, if_pos hi, if_pos hj, if_pos hj, if_pos hj]
theorem op_cl_eq {P : pw_P} (hn : P.1 ≤ 7) {i j : Nat} (hi : i < P.1) (hj : j < P.1) (hne : i ≠ j) : op_clash P (nI i) (nI j) ↔ sp_cl P i j := by
  constructor
  · rintro ⟨i1, j1, z1, z2, z3, z4, -, z6⟩
    rw [(nI_eq (by omega) (by omega)).mp z1, (nI_eq (by omega) (by omega)).mp z2]; exact z6
  · intro h
    exact ⟨i, j, rfl, rfl, hi, hj, hne, h⟩
set_option maxHeartbeats 4000000 in
theorem mm_clash {a : Nat → Nat} {k : gx_C} {P : pw_P} {hd : pw_F} (x y : Int32) (hn : P.1 ≤ 7) : gx_CI k yX1_clash cX1_clash 3 .boolean (1, 26) [.ref (a 0), .int x, .int y] (mw_W a k) (P.1, P.2.1, P.2.2.1, P.2.2.2.1, P.2.2.2.2, hd) (fun r u => u = (P.1, P.2.1, P.2.2.1, P.2.2.2.1, P.2.2.2.2, hd) ∧ b_tf r (op_clash P x y)) := by
  refine gx_CI.of (by decide) rfl rfl (fun X hX hR => ?_)
  have hX : gx_Ok X cX1_clash RX1 k (1, 26) := hX
  show gx_G X (mw_W a k (P.1, P.2.1, P.2.2.1, P.2.2.2.1, P.2.2.2.2, hd)) 0 [some (.ref (a 0)), some (.int x), some (.int y)] []
  refine gi_aload_n (pc := 0) hX dX1_clash_0 rfl ?_
  refine gi_iload_n (pc := 1) hX dX1_clash_1 rfl ?_
  refine gi_callI (pc := 2) hX (mm_isAction x) cw_m_isAction rfl rfl rfl rfl rfl rfl dX1_clash_2 (fun r u hp => ?_)
  obtain ⟨rfl, h1⟩ := hp
  refine gi_if_eq (pc := 5) 21 hX dX1_clash_5 (by decide) (fun c5 => ?_) (fun c5 => ?_)
  · have q : ¬ op_clash P x y := fun ⟨i, j, z1, z2, z3, z4, _⟩ => h1.z.mp c5 (by rw [z1]; exact sp_nat_act hn z3)
    refine gi_iconst (pc := 21) (nI 0) hX dX1_clash_21 (by decide) ?_
    exact hR 22 _ _ _ dX1_clash_22 rfl ⟨rfl, b_tf0 q⟩
  · refine gi_aload_n (pc := 8) hX dX1_clash_8 rfl ?_
    refine gi_iload_n (pc := 9) hX dX1_clash_9 rfl ?_
    refine gi_callI (pc := 10) hX (mm_isAction y) cw_m_isAction rfl rfl rfl rfl rfl rfl dX1_clash_10 (fun r u hp => ?_)
    obtain ⟨rfl, h2⟩ := hp
    refine gi_if_eq (pc := 13) 21 hX dX1_clash_13 (by decide) (fun c13 => ?_) (fun c13 => ?_)
    · have q : ¬ op_clash P x y := fun ⟨i, j, z1, z2, z3, z4, _⟩ => h2.z.mp c13 (by rw [z2]; exact sp_nat_act hn z4)
      refine gi_iconst (pc := 21) (nI 0) hX dX1_clash_21 (by decide) ?_
      exact hR 22 _ _ _ dX1_clash_22 rfl ⟨rfl, b_tf0 q⟩
    · obtain ⟨i, rfl, hi⟩ := sp_act_nat hn (h1.nz.mp c5)
      obtain ⟨j, rfl, hj⟩ := sp_act_nat hn (h2.nz.mp c13)
      refine gi_iload_n (pc := 16) hX dX1_clash_16 rfl ?_
      refine gi_iload_n (pc := 17) hX dX1_clash_17 rfl ?_
      refine gi_icmp_ne (pc := 18) 23 hX dX1_clash_18 (by decide) (fun c18 => ?_) (fun c18 => ?_)
      · have hne : i ≠ j := fun z => c18 (by rw [z])
        refine gi_aload_n (pc := 23) hX dX1_clash_23 rfl ?_
        refine mg_ls (pc := 24) hX dX1_clash_24 ?_
        refine gi_iload_n (pc := 27) hX dX1_clash_27 rfl ?_
        refine ml_ls (pc := 28) _ hX dX1_clash_28 rfl (by omega) ?_
        refine gi_aload_n (pc := 29) hX dX1_clash_29 rfl ?_
        refine mg_nd (pc := 30) hX dX1_clash_30 ?_
        refine gi_iload_n (pc := 33) hX dX1_clash_33 rfl ?_
        refine ml_nd (pc := 34) _ hX dX1_clash_34 rfl (by omega) ?_
        refine gi_aload_n (pc := 35) hX dX1_clash_35 rfl ?_
        refine mg_gn (pc := 36) hX dX1_clash_36 ?_
        refine gi_iload_n (pc := 39) hX dX1_clash_39 rfl ?_
        refine ml_gn (pc := 40) _ hX dX1_clash_40 rfl (by omega) ?_
        refine gi_ior (pc := 41) hX dX1_clash_41 ?_
        refine gi_iand (pc := 42) hX dX1_clash_42 ?_
        refine gi_if_ne (pc := 43) 69 hX dX1_clash_43 (by decide) (fun c43 => ?_) (fun c43 => ?_)
        · have q : op_clash P (nI i) (nI j) := (op_cl_eq hn hi hj hne).mpr ((sp_cl_eq (by omega) (by omega)).mpr (fun z => c43 z.1))
          refine gi_iconst (pc := 69) (nI 1) hX dX1_clash_69 (by decide) ?_
          refine gi_goto (pc := 70) 74 hX dX1_clash_70 (by decide) ?_
          exact hR 74 _ _ _ dX1_clash_74 rfl ⟨rfl, by first | exact b_tf1 q | exact b_tf0 q⟩
        · refine gi_aload_n (pc := 46) hX dX1_clash_46 rfl ?_
          refine mg_ls (pc := 47) hX dX1_clash_47 ?_
          refine gi_iload_n (pc := 50) hX dX1_clash_50 rfl ?_
          refine ml_ls (pc := 51) _ hX dX1_clash_51 rfl (by omega) ?_
          refine gi_aload_n (pc := 52) hX dX1_clash_52 rfl ?_
          refine mg_nd (pc := 53) hX dX1_clash_53 ?_
          refine gi_iload_n (pc := 56) hX dX1_clash_56 rfl ?_
          refine ml_nd (pc := 57) _ hX dX1_clash_57 rfl (by omega) ?_
          refine gi_aload_n (pc := 58) hX dX1_clash_58 rfl ?_
          refine mg_gn (pc := 59) hX dX1_clash_59 ?_
          refine gi_iload_n (pc := 62) hX dX1_clash_62 rfl ?_
          refine ml_gn (pc := 63) _ hX dX1_clash_63 rfl (by omega) ?_
          refine gi_ior (pc := 64) hX dX1_clash_64 ?_
          refine gi_iand (pc := 65) hX dX1_clash_65 ?_
          refine gi_if_eq (pc := 66) 73 hX dX1_clash_66 (by decide) (fun c66 => ?_) (fun c66 => ?_)
          · have q : ¬ op_clash P (nI i) (nI j) := fun w => (sp_cl_eq (by omega) (by omega)).mp ((op_cl_eq hn hi hj hne).mp w) ⟨c43, c66⟩
            refine gi_iconst (pc := 73) (nI 0) hX dX1_clash_73 (by decide) ?_
            exact hR 74 _ _ _ dX1_clash_74 rfl ⟨rfl, by first | exact b_tf1 q | exact b_tf0 q⟩
          · have q : op_clash P (nI i) (nI j) := (op_cl_eq hn hi hj hne).mpr ((sp_cl_eq (by omega) (by omega)).mpr (fun z => c66 z.2))
            refine gi_iconst (pc := 69) (nI 1) hX dX1_clash_69 (by decide) ?_
            refine gi_goto (pc := 70) 74 hX dX1_clash_70 (by decide) ?_
            exact hR 74 _ _ _ dX1_clash_74 rfl ⟨rfl, by first | exact b_tf1 q | exact b_tf0 q⟩
      · have q : ¬ op_clash P (nI i) (nI j) := fun ⟨i1, j1, z1, z2, z3, z4, z5, _⟩ => z5 ((nI_eq (by omega) (by omega)).mp (z1.symm.trans (c18.trans z2)))
        refine gi_iconst (pc := 21) (nI 0) hX dX1_clash_21 (by decide) ?_
        exact hR 22 _ _ _ dX1_clash_22 rfl ⟨rfl, b_tf0 q⟩
theorem sp_nx_gc {P : pw_P} {layer st gone come : Int32} (h1 : ∀ f, bt gone f = true ↔ (bt (nI 0) f = true ∨ ∃ j, j < P.1 ∧ bt layer j = true ∧ bt (P.2.2.2.1 j) f = true)) (h2 : ∀ f, bt come f = true ↔ (bt (nI 0) f = true ∨ ∃ j, j < P.1 ∧ bt layer j = true ∧ bt (P.2.2.1 j) f = true)) : sp_nx P layer st (st &&& (gone ^^^ -1) ||| come) := by
  intro f
  rw [b_or, Bool.or_eq_true, h2 f]
  have e : (bt (nI 0) f = true) = False := by rw [b_n0]; simp
  rw [e, false_or]
  refine or_congr ?_ Iff.rfl
  constructor
  · intro h
    have hf := b_lt h
    rw [b_and, b_not _ hf, Bool.and_eq_true] at h
    refine ⟨h.1, fun i hi hb => ?_⟩
    cases z : bt (P.2.2.2.1 i) f with
    | false => rfl
    | true =>
      have := (h1 f).mpr (Or.inr ⟨i, hi, hb, z⟩)
      rw [this] at h
      exact absurd h.2 (by decide)
  · rintro ⟨g1, g2⟩
    rw [b_and, b_not _ (b_lt g1), g1]
    cases z : bt gone f with
    | false => rfl
    | true =>
      rcases (h1 f).mp z with y | ⟨i, y1, y2, y3⟩
      · rw [b_n0] at y; cases y
      · rw [g2 i y1 y2] at y3; cases y3
set_option maxHeartbeats 4000000 in
theorem mm_after {a : Nat → Nat} {k : gx_C} {P : pw_P} {hd : pw_F} (st layer : Int32) (hn : P.1 ≤ 7) : gx_CI k yX1_after cX1_after 7 .int (2, 52) [.ref (a 0), .int st, .int layer] (mw_W a k) (P.1, P.2.1, P.2.2.1, P.2.2.2.1, P.2.2.2.2, hd) (fun r u => u = (P.1, P.2.1, P.2.2.1, P.2.2.2.1, P.2.2.2.2, hd) ∧ ((¬ sp_lay P layer st ∧ r = -1) ∨ (sp_lay P layer st ∧ sp_nx P layer st r))) := by
  refine gx_CI.of (by decide) rfl rfl (fun X hX hR => ?_)
  have hX : gx_Ok X cX1_after RX1 k (2, 52) := hX
  show gx_G X (mw_W a k (P.1, P.2.1, P.2.2.1, P.2.2.2.1, P.2.2.2.2, hd)) 0 [some (.ref (a 0)), some (.int st), some (.int layer), none, none, none, none] []
  have loop : ∀ i, i ≤ P.1 → ∀ gone come : Int32, (∀ i0, i0 < i → bt layer i0 = true → b_sub (P.2.1 i0) st ∧ ∀ j, j < i0 → bt layer j = true → ¬ sp_cl P i0 j) → (∀ f, bt gone f = true ↔ (bt (nI 0) f = true ∨ ∃ j, j < i ∧ bt layer j = true ∧ bt (P.2.2.2.1 j) f = true)) → (∀ f, bt come f = true ↔ (bt (nI 0) f = true ∨ ∃ j, j < i ∧ bt layer j = true ∧ bt (P.2.2.1 j) f = true)) → gx_G X (mw_W a k (P.1, P.2.1, P.2.2.1, P.2.2.2.1, P.2.2.2.2, hd)) 8 [some (.ref (a 0)), some (.int st), some (.int layer), some (.int gone), some (.int come), some (.int (nI i)), none] [] := by
    refine gx_up ?_
    intro i hi ih gone come hv hg hc
    refine gi_iload (pc := 8) hX dX1_after_8 rfl ?_
    refine gi_aload_n (pc := 10) hX dX1_after_10 rfl ?_
    refine mg_n (pc := 11) hX dX1_after_11 ?_
    refine gi_icmp_ge (pc := 14) 108 hX dX1_after_14 (by decide) (fun c14 => ?_) (fun c14 => ?_)
    · have q0 := sp_ge (by omega) (by omega) c14
      have q9 : i = P.1 := by omega
      subst q9
      refine gi_iload_n (pc := 108) hX dX1_after_108 rfl ?_
      refine gi_iload_n (pc := 109) hX dX1_after_109 rfl ?_
      refine gi_iconst (pc := 110) (-1) hX dX1_after_110 (by decide) ?_
      refine gi_ixor (pc := 111) hX dX1_after_111 ?_
      refine gi_iand (pc := 112) hX dX1_after_112 ?_
      refine gi_iload (pc := 113) hX dX1_after_113 rfl ?_
      refine gi_ior (pc := 115) hX dX1_after_115 ?_
      exact hR 116 _ _ _ dX1_after_116 rfl ⟨rfl, Or.inr ⟨hv, sp_nx_gc hg hc⟩⟩
    · have q0 := sp_lt (by omega) (by omega) c14
      refine gi_iload_n (pc := 17) hX dX1_after_17 rfl ?_
      refine gi_iload (pc := 18) hX dX1_after_18 rfl ?_
      refine gi_ishr (pc := 20) hX dX1_after_20 ?_
      refine gi_iconst (pc := 21) (nI 1) hX dX1_after_21 (by decide) ?_
      refine gi_iand (pc := 22) hX dX1_after_22 ?_
      refine gi_if_eq (pc := 23) 102 hX dX1_after_23 (by decide) (fun c23 => ?_) (fun c23 => ?_)
      · rw [b_tst (by omega)] at c23
        have q1 : bt layer i = true → b_sub (P.2.1 i) st ∧ ∀ j, j < i → bt layer j = true → ¬ sp_cl P i j := fun h => absurd h (b_nt c23)
        refine gi_iinc (pc := 102) 5 _ hX dX1_after_102 rfl (gi_inc1 _) rfl rfl ?_
        dsimp only [List.set]
        refine gi_goto (pc := 105) 8 hX dX1_after_105 (by decide) ?_
        exact ih (i + 1) (by omega) (by omega) _ _ (sp_all1 hv q1) (sp_ag0 hg c23) (sp_ag0 hc c23)
      · rw [b_tst1 (by omega)] at c23
        refine gi_aload_n (pc := 26) hX dX1_after_26 rfl ?_
        refine mg_nd (pc := 27) hX dX1_after_27 ?_
        refine gi_iload (pc := 30) hX dX1_after_30 rfl ?_
        refine ml_nd (pc := 32) _ hX dX1_after_32 rfl (by omega) ?_
        refine gi_iload_n (pc := 33) hX dX1_after_33 rfl ?_
        refine gi_iconst (pc := 34) (-1) hX dX1_after_34 (by decide) ?_
        refine gi_ixor (pc := 35) hX dX1_after_35 ?_
        refine gi_iand (pc := 36) hX dX1_after_36 ?_
        refine gi_if_eq (pc := 37) 42 hX dX1_after_37 (by decide) (fun c37 => ?_) (fun c37 => ?_)
        · have inner : ∀ j, j ≤ i → (∀ j0, j0 < j → bt layer j0 = true → ¬ sp_cl P i j0) → gx_G X (mw_W a k (P.1, P.2.1, P.2.2.1, P.2.2.2.1, P.2.2.2.2, hd)) 45 [some (.ref (a 0)), some (.int st), some (.int layer), some (.int gone), some (.int come), some (.int (nI i)), some (.int (nI j))] [] := by
            refine gx_up ?_
            intro j hj jh hw
            refine gi_iload (pc := 45) hX dX1_after_45 rfl ?_
            refine gi_iload (pc := 47) hX dX1_after_47 rfl ?_
            refine gi_icmp_ge (pc := 49) 80 hX dX1_after_49 (by decide) (fun c49 => ?_) (fun c49 => ?_)
            · have q2 := sp_ge (by omega) (by omega) c49
              have q1 : bt layer i = true → b_sub (P.2.1 i) st ∧ ∀ j, j < i → bt layer j = true → ¬ sp_cl P i j := fun _ => ⟨b_an.mp c37, fun j0 hj0 => hw j0 (by omega)⟩
              refine gi_iload_n (pc := 80) hX dX1_after_80 rfl ?_
              refine gi_aload_n (pc := 81) hX dX1_after_81 rfl ?_
              refine mg_ls (pc := 82) hX dX1_after_82 ?_
              refine gi_iload (pc := 85) hX dX1_after_85 rfl ?_
              refine ml_ls (pc := 87) _ hX dX1_after_87 rfl (by omega) ?_
              refine gi_ior (pc := 88) hX dX1_after_88 ?_
              refine gi_istore_n (pc := 89) 3 rfl hX dX1_after_89 rfl rfl ?_
              dsimp only [List.set]
              refine gi_iload (pc := 90) hX dX1_after_90 rfl ?_
              refine gi_aload_n (pc := 92) hX dX1_after_92 rfl ?_
              refine mg_gn (pc := 93) hX dX1_after_93 ?_
              refine gi_iload (pc := 96) hX dX1_after_96 rfl ?_
              refine ml_gn (pc := 98) _ hX dX1_after_98 rfl (by omega) ?_
              refine gi_ior (pc := 99) hX dX1_after_99 ?_
              refine gi_istore (pc := 100) 4 hX dX1_after_100 rfl rfl ?_
              dsimp only [List.set]
              refine gi_iinc (pc := 102) 5 _ hX dX1_after_102 rfl (gi_inc1 _) rfl rfl ?_
              dsimp only [List.set]
              refine gi_goto (pc := 105) 8 hX dX1_after_105 (by decide) ?_
              refine gi_drop 6 ?_
              dsimp only [List.set]
              exact ih (i + 1) (by omega) (by omega) _ _ (sp_all1 hv q1) (sp_ag1 hg c23) (sp_ag1 hc c23)
            · have q2 := sp_lt (by omega) (by omega) c49
              refine gi_iload_n (pc := 52) hX dX1_after_52 rfl ?_
              refine gi_iload (pc := 53) hX dX1_after_53 rfl ?_
              refine gi_ishr (pc := 55) hX dX1_after_55 ?_
              refine gi_iconst (pc := 56) (nI 1) hX dX1_after_56 (by decide) ?_
              refine gi_iand (pc := 57) hX dX1_after_57 ?_
              refine gi_if_eq (pc := 58) 74 hX dX1_after_58 (by decide) (fun c58 => ?_) (fun c58 => ?_)
              · rw [b_tst (by omega)] at c58
                have q3 : bt layer j = true → ¬ sp_cl P i j := fun h => absurd h (b_nt c58)
                refine gi_iinc (pc := 74) 6 _ hX dX1_after_74 rfl (gi_inc1 _) rfl rfl ?_
                dsimp only [List.set]
                refine gi_goto (pc := 77) 45 hX dX1_after_77 (by decide) ?_
                exact jh (j + 1) (by omega) (by omega) (sp_all1 hw q3)
              · rw [b_tst1 (by omega)] at c58
                refine gi_aload_n (pc := 61) hX dX1_after_61 rfl ?_
                refine gi_iload (pc := 62) hX dX1_after_62 rfl ?_
                refine gi_iload (pc := 64) hX dX1_after_64 rfl ?_
                refine gi_callI (pc := 66) hX (mm_clash (nI i) (nI j) hn) cw_m_clash rfl rfl rfl rfl rfl rfl dX1_after_66 (fun r u hp => ?_)
                obtain ⟨rfl, hp⟩ := hp
                have hp := hp.iff (op_cl_eq hn (by omega) (by omega) (show i ≠ j by omega))
                refine gi_if_eq (pc := 69) 74 hX dX1_after_69 (by decide) (fun c69 => ?_) (fun c69 => ?_)
                · have q3 : bt layer j = true → ¬ sp_cl P i j := fun _ => hp.z.mp c69
                  refine gi_iinc (pc := 74) 6 _ hX dX1_after_74 rfl (gi_inc1 _) rfl rfl ?_
                  dsimp only [List.set]
                  refine gi_goto (pc := 77) 45 hX dX1_after_77 (by decide) ?_
                  exact jh (j + 1) (by omega) (by omega) (sp_all1 hw q3)
                · have q : ¬ sp_lay P layer st := fun h => (h i q0 c23).2 j q2 c58 (hp.nz.mp c69)
                  refine gi_iconst (pc := 72) (-1) hX dX1_after_72 (by decide) ?_
                  exact hR 73 _ _ _ dX1_after_73 rfl ⟨rfl, Or.inl ⟨q, rfl⟩⟩
          refine gi_iconst (pc := 42) (nI 0) hX dX1_after_42 (by decide) ?_
          refine gi_istore (pc := 43) 6 hX dX1_after_43 rfl rfl ?_
          dsimp only [List.set]
          exact inner 0 (by omega) (fun j0 hj0 => absurd hj0 (by omega))
        · have q : ¬ sp_lay P layer st := fun h => c37 (b_an.mpr (h i q0 c23).1)
          refine gi_iconst (pc := 40) (-1) hX dX1_after_40 (by decide) ?_
          exact hR 41 _ _ _ dX1_after_41 rfl ⟨rfl, Or.inl ⟨q, rfl⟩⟩
  refine gi_iconst (pc := 0) (nI 0) hX dX1_after_0 (by decide) ?_
  refine gi_istore_n (pc := 1) 3 rfl hX dX1_after_1 rfl rfl ?_
  dsimp only [List.set]
  refine gi_iconst (pc := 2) (nI 0) hX dX1_after_2 (by decide) ?_
  refine gi_istore (pc := 3) 4 hX dX1_after_3 rfl rfl ?_
  dsimp only [List.set]
  refine gi_iconst (pc := 5) (nI 0) hX dX1_after_5 (by decide) ?_
  refine gi_istore (pc := 6) 5 hX dX1_after_6 rfl rfl ?_
  dsimp only [List.set]
  exact loop 0 (by omega) (nI 0) (nI 0) (fun i0 hi0 => absurd hi0 (by omega)) (fun f => ⟨Or.inl, fun z => z.elim id (fun ⟨j, y, _⟩ => absurd y (by omega))⟩) (fun f => ⟨Or.inl, fun z => z.elim id (fun ⟨j, y, _⟩ => absurd y (by omega))⟩)
end
section
/-! CONTRACTS of PlanLayersModel: setOut, served, and the answers -/
set_option maxRecDepth 100000
/-- what has been had once i places are worked through -/
def hd_st (P : pw_P) (i y : Nat) (j : Nat) : Prop := ∃ t, t < 256 ∧ sp_lay P (nI y) (nI (i % 256)) ∧ sp_nx P (nI y) (nI (i % 256)) (nI t) ∧ j = i / 256 * 256 + 256 + t
def hd_Q (P : pw_P) (s0 i j : Nat) : Prop := j = s0 ∨ ∃ i1, i1 < i ∧ sp_R P (nI s0) (i1 / 256) (nI (i1 % 256)) ∧ ∃ y, y < 2 ^ P.1 ∧ hd_st P i1 y j
def hd_ok (P : pw_P) (s0 : Nat) (hd : pw_F) : Prop := ∀ k s, k ≤ 8 → s < 256 → (¬ hd (k * 256 + s) = 0 ↔ sp_R P (nI s0) k (nI s))
theorem hd_QR {P : pw_P} (h : sp_ok P) {s0 : Nat} (hs : s0 < 256) : ∀ (k i s : Nat), s < 256 → k * 256 ≤ i → (hd_Q P s0 i (k * 256 + s) ↔ sp_R P (nI s0) k (nI s)) := by
  intro k
  cases k with
  | zero =>
    intro i s hs2 hi
    constructor
    · rintro (e | ⟨i1, -, -, y, -, t, -, -, -, e⟩)
      · show nI s = nI s0
        rw [show s = s0 by omega]
      · omega
    · intro e
      have e : nI s = nI s0 := e
      left
      have := (nI_eq (by omega) (by omega)).mp e
      omega
  | succ k =>
    intro i s hs2 hi
    constructor
    · rintro (e | ⟨i1, h1, h2, y, hy, t, ht, h3, h4, e⟩)
      · omega
      · have e1 : i1 / 256 = k := by omega
        have e2 : t = s := by omega
        subst e2
        rw [e1] at h2
        exact ⟨nI (i1 % 256), y, h2, hy, h3, h4⟩
    · rintro ⟨s1, y, h2, hy, h3, h4⟩
      obtain ⟨g, hg, rfl⟩ := sp_B8_nat (sp_R8 h (sp_nat_B8 hs) k s1 h2)
      have e1 : (k * 256 + g) / 256 = k := by omega
      have e2 : (k * 256 + g) % 256 = g := by omega
      exact Or.inr ⟨k * 256 + g, by omega, by rw [e1, e2]; exact h2, y, hy, s, hs2, by rw [e2]; exact h3, by rw [e2]; exact h4, by rw [e1]; omega⟩
theorem hd_Qi {P : pw_P} (h : sp_ok P) {s0 : Nat} (hs : s0 < 256) (i : Nat) : hd_Q P s0 i i ↔ sp_R P (nI s0) (i / 256) (nI (i % 256)) := by
  have := hd_QR h hs (i / 256) i (i % 256) (by omega) (by omega)
  rw [show i / 256 * 256 + i % 256 = i by omega] at this
  exact this
theorem hd_Q1 {P : pw_P} {s0 i j : Nat} : hd_Q P s0 (i + 1) j ↔ hd_Q P s0 i j ∨ (sp_R P (nI s0) (i / 256) (nI (i % 256)) ∧ ∃ y, y < 2 ^ P.1 ∧ hd_st P i y j) := by
  constructor
  · rintro (e | ⟨i1, h1, h2⟩)
    · exact Or.inl (Or.inl e)
    · rcases Nat.lt_or_ge i1 i with z | z
      · exact Or.inl (Or.inr ⟨i1, z, h2⟩)
      · have : i1 = i := by omega
        subst this
        exact Or.inr h2
  · rintro ((e | ⟨i1, h1, h2⟩) | h2)
    · exact Or.inl e
    · exact Or.inr ⟨i1, by omega, h2⟩
    · exact Or.inr ⟨i, by omega, h2⟩
theorem hd_nst {P : pw_P} {i y : Nat} : ¬ hd_st P i y i := by
  rintro ⟨t, -, -, -, e⟩
  omega
/-- in the midst of place i: the layers below y are through -/
def hd_I (P : pw_P) (s0 i y : Nat) (hd : pw_F) : Prop := ∀ j, j < 2304 → (¬ hd j = 0 ↔ hd_Q P s0 i j ∨ (sp_R P (nI s0) (i / 256) (nI (i % 256)) ∧ ∃ z, z < y ∧ hd_st P i z j))
theorem hd_Ii {P : pw_P} (h : sp_ok P) {s0 : Nat} (hs : s0 < 256) {i y : Nat} {hd : pw_F} (hi : i < 2304) (hI : hd_I P s0 i y hd) : ¬ hd i = 0 ↔ sp_R P (nI s0) (i / 256) (nI (i % 256)) := by
  rw [hI i hi, hd_Qi h hs i]
  exact ⟨fun z => z.elim id (fun w => w.1), Or.inl⟩
theorem hd_I0 {P : pw_P} (h : sp_ok P) {s0 : Nat} (hs : s0 < 256) {i y : Nat} {hd : pw_F} (hi : i < 2304) (hI : hd_I P s0 i y hd) (hz : hd i = 0) : ∀ j, j < 2304 → (¬ hd j = 0 ↔ hd_Q P s0 (i + 1) j) := by
  intro j hj
  have hn : ¬ sp_R P (nI s0) (i / 256) (nI (i % 256)) := fun z => (hd_Ii h hs hi hI).mpr z hz
  rw [hI j hj, hd_Q1]
  exact or_congr Iff.rfl ⟨fun z => absurd z.1 hn, fun z => absurd z.1 hn⟩
theorem hd_Ia {P : pw_P} {s0 i y : Nat} {hd : pw_F} (hI : hd_I P s0 i y hd) (hl : ∀ j, ¬ hd_st P i y j) : hd_I P s0 i (y + 1) hd := by
  intro j hj
  rw [hI j hj]
  refine or_congr Iff.rfl (and_congr Iff.rfl ⟨fun ⟨z, z1, z2⟩ => ⟨z, by omega, z2⟩, fun ⟨z, z1, z2⟩ => ⟨z, ?_, z2⟩⟩)
  rcases Nat.lt_or_ge z y with w | w
  · exact w
  · have : z = y := by omega
    subst this
    exact absurd z2 (hl j)
theorem hd_Ib {P : pw_P} (h : sp_ok P) {s0 : Nat} (hs : s0 < 256) {i y t : Nat} {hd : pw_F} (hi : i < 2048) (hI : hd_I P s0 i y hd) (hz : ¬ hd i = 0) (ht : t < 256) (h1 : sp_lay P (nI y) (nI (i % 256))) (h2 : sp_nx P (nI y) (nI (i % 256)) (nI t)) : hd_I P s0 i (y + 1) (upd hd (i / 256 * 256 + 256 + t) (nI 1)) := by
  have hR := (hd_Ii h hs (by omega) hI).mp hz
  intro j hj
  have key : ∀ j, hd_st P i y j ↔ j = i / 256 * 256 + 256 + t := by
    intro j
    constructor
    · rintro ⟨t1, a1, a2, a3, a4⟩
      have := (nI_eq (by omega) (by omega)).mp (sp_nx_un h2 a3)
      omega
    · intro e; exact ⟨t, ht, h1, h2, e⟩
  by_cases e : j = i / 256 * 256 + 256 + t
  · rw [e, pk_us]
    exact ⟨fun _ => Or.inr ⟨hR, y, by omega, (key _).mpr rfl⟩, fun _ => by decide⟩
  · rw [pk_un e, hI j hj]
    refine or_congr Iff.rfl (and_congr Iff.rfl ⟨fun ⟨z, z1, z2⟩ => ⟨z, by omega, z2⟩, fun ⟨z, z1, z2⟩ => ⟨z, ?_, z2⟩⟩)
    rcases Nat.lt_or_ge z y with w | w
    · exact w
    · have : z = y := by omega
      subst this
      exact absurd ((key j).mp z2) e
theorem hd_sv {P : pw_P} (h : sp_ok P) {s0 : Nat} (hs : s0 < 256) {hd : pw_F} (hh : hd_ok P s0 hd) {k : Nat} (hk : k ≤ 8) {x : Int32} : (∃ s, s < 256 ∧ ¬ hd (k * 256 + s) = 0 ∧ b_sub x (nI s)) ↔ sp_sv P (nI s0) k x := by
  constructor
  · rintro ⟨s, h1, h2, h3⟩; exact ⟨nI s, (hh k s hk h1).mp h2, h3⟩
  · rintro ⟨s, h1, h2⟩
    obtain ⟨g, hg, rfl⟩ := sp_B8_nat (sp_R8 h (sp_nat_B8 hs) k s h1)
    exact ⟨g, hg, (hh k g hk hg).mpr h1, h2⟩
theorem sp_Rup {P : pw_P} {s0 s : Int32} {k : Nat} (h : sp_R P s0 k s) : sp_R P s0 (k + 1) s := by
  refine ⟨s, 0, h, Nat.pow_pos (by decide), fun i _ hb => absurd hb (b_nt (b_n0 i)), fun f => ⟨fun z => Or.inl ⟨z, fun i _ hb => absurd hb (b_nt (b_n0 i))⟩, fun z => z.elim (fun w => w.1) (fun ⟨i, _, hb, _⟩ => absurd hb (b_nt (b_n0 i)))⟩⟩
theorem sp_Rle {P : pw_P} {s0 s : Int32} {j k : Nat} (hjk : j ≤ k) (h : sp_R P s0 j s) : sp_R P s0 k s := by
  induction k with
  | zero => rw [show j = 0 by omega] at h; exact h
  | succ k ih =>
    rcases Nat.lt_or_ge k j with z | z
    · rw [show k + 1 = j by omega]; exact h
    · exact sp_Rup (ih z)
theorem hd_wi {P : pw_P} (h : sp_ok P) {s0 : Nat} (hs : s0 < 256) {hd : pw_F} (hh : hd_ok P s0 hd) {k : Nat} (hk : k ≤ 8) {A : Int32} (hA : ∀ f, bt A f = true ↔ ∃ i, i < 256 * (k + 1) ∧ ¬ hd i = 0 ∧ bt (nI (i % 256)) f = true) : ∀ f, bt A f = true ↔ f < 8 ∧ sp_sv P (nI s0) k (b_sh f) := by
  intro f
  rw [hA f]
  constructor
  · rintro ⟨i, h1, h2, h3⟩
    have hf := sp_B8_lt (sp_nat_B8 (show i % 256 < 256 by omega)) h3
    rw [show i = i / 256 * 256 + i % 256 by omega] at h2
    have := (hh (i / 256) (i % 256) (by omega) (by omega)).mp h2
    refine ⟨hf, _, sp_Rle (show i / 256 ≤ k by omega) this, fun e he => ?_⟩
    rw [b_shi (by omega), decide_eq_true_iff] at he
    rw [he]; exact h3
  · rintro ⟨hf, s, h1, h2⟩
    obtain ⟨g, hg, rfl⟩ := sp_B8_nat (sp_R8 h (sp_nat_B8 hs) k s h1)
    refine ⟨k * 256 + g, by omega, (hh k g hk hg).mpr h1, ?_⟩
    rw [show (k * 256 + g) % 256 = g by omega]
    exact h2 f (by rw [b_shi (by omega), decide_eq_true rfl])
theorem hd_ac0 {hd : pw_F} {A : Int32} {i : Nat} (h : ∀ f, bt A f = true ↔ ∃ i1, i1 < i ∧ ¬ hd i1 = 0 ∧ bt (nI (i1 % 256)) f = true) (q : hd i = 0) : ∀ f, bt A f = true ↔ ∃ i1, i1 < i + 1 ∧ ¬ hd i1 = 0 ∧ bt (nI (i1 % 256)) f = true := by
  intro f
  rw [h f]
  refine ⟨fun ⟨i1, a, b⟩ => ⟨i1, by omega, b⟩, fun ⟨i1, a, b⟩ => ⟨i1, ?_, b⟩⟩
  rcases Nat.lt_or_ge i1 i with z | z
  · exact z
  · have : i1 = i := by omega
    subst this
    exact absurd q b.1
theorem hd_ac1 {hd : pw_F} {A : Int32} {i : Nat} (h : ∀ f, bt A f = true ↔ ∃ i1, i1 < i ∧ ¬ hd i1 = 0 ∧ bt (nI (i1 % 256)) f = true) (q : ¬ hd i = 0) : ∀ f, bt (A ||| nI (i % 256)) f = true ↔ ∃ i1, i1 < i + 1 ∧ ¬ hd i1 = 0 ∧ bt (nI (i1 % 256)) f = true := by
  intro f
  rw [b_or, Bool.or_eq_true, h f]
  constructor
  · rintro (⟨i1, a, b⟩ | z)
    · exact ⟨i1, by omega, b⟩
    · exact ⟨i, by omega, q, z⟩
  · rintro ⟨i1, a, b⟩
    rcases Nat.lt_or_ge i1 i with z | z
    · exact Or.inl ⟨i1, z, b⟩
    · have : i1 = i := by omega
      subst this
      exact Or.inr b.2
theorem hd_set {hd : pw_F} {s0 s : Nat} {x : Int32} (h : ∀ j, j < s → (¬ hd j = 0 ↔ j = s0)) (q : ¬ x = 0 ↔ s = s0) : ∀ j, j < s + 1 → (¬ upd hd s x j = 0 ↔ j = s0) := by
  intro j hj
  by_cases e : j = s
  · subst e; rw [pk_us]; exact q
  · rw [pk_un e]; exact h j (by omega)
theorem sp_nn {t : Nat} (h : t < 256) : ¬ nI t < 0 := nI_pos (by omega)
set_option maxHeartbeats 4000000 in
theorem mm_setOut {a : Nat → Nat} {k : gx_C} {P : pw_P} {hd : pw_F} (s0 : Nat) (hs : s0 < 256) (hP : sp_ok P) : gx_CV k yX1_setOut cX1_setOut 5 (3, 78) [.ref (a 0), .int (nI s0)] (mw_W a k) (P.1, P.2.1, P.2.2.1, P.2.2.2.1, P.2.2.2.2, hd) (fun u => ∃ hd1, u = (P.1, P.2.1, P.2.2.1, P.2.2.2.1, P.2.2.2.2, hd1) ∧ hd_ok P s0 hd1) := by
  refine gx_CV.of (by decide) rfl rfl (fun X hX hR => ?_)
  have hX : gx_Ok X cX1_setOut RX1 k (3, 78) := hX
  show gx_G X (mw_W a k (P.1, P.2.1, P.2.2.1, P.2.2.2.1, P.2.2.2.2, hd)) 0 [some (.ref (a 0)), some (.int (nI s0)), none, none, none] []
  have hn := hP.1
  have hp7 := sp_pw7 hn
  have loop2 : ∀ i, i ≤ 2048 → ∀ h1 : pw_F, (∀ j, j < 2304 → (¬ h1 j = 0 ↔ hd_Q P s0 i j)) → gx_G X (mw_W a k (P.1, P.2.1, P.2.2.1, P.2.2.2.1, P.2.2.2.2, h1)) 33 [some (.ref (a 0)), some (.int (nI s0)), some (.int (nI i)), none, none] [] := by
    refine gx_up ?_
    intro i hi ih h1 hv
    refine gi_iload_n (pc := 33) hX dX1_setOut_33 rfl ?_
    refine gi_sipush (pc := 34) (nI 2048) hX dX1_setOut_34 (by decide) ?_
    refine gi_icmp_ge (pc := 37) 112 hX dX1_setOut_37 (by decide) (fun c37 => ?_) (fun c37 => ?_)
    · have q0 := sp_ge (by omega) (by omega) c37
      have q9 : i = 2048 := by omega
      subst q9
      exact hR 112 _ _ dX1_setOut_112 ⟨h1, rfl, fun j s hj hs2 => by rw [hv (j * 256 + s) (by omega)]; exact hd_QR hP hs j 2048 s hs2 (by omega)⟩
    · have q0 : i < 2048 := sp_lt (by omega) (by omega) c37
      have inner : ∀ y, y ≤ 2 ^ P.1 → ∀ h1 : pw_F, hd_I P s0 i y h1 → gx_G X (mw_W a k (P.1, P.2.1, P.2.2.1, P.2.2.2.1, P.2.2.2.2, h1)) 42 [some (.ref (a 0)), some (.int (nI s0)), some (.int (nI i)), some (.int (nI y)), none] [] := by
        refine gx_up ?_
        intro y hy jh h1 hI
        refine gi_aload_n (pc := 42) hX dX1_setOut_42 rfl ?_
        refine mg_hd (pc := 43) hX dX1_setOut_43 ?_
        refine gi_iload_n (pc := 46) hX dX1_setOut_46 rfl ?_
        refine ml_hd (pc := 47) _ hX dX1_setOut_47 rfl (by omega) ?_
        try dsimp only
        refine gi_if_eq (pc := 48) 106 hX dX1_setOut_48 (by decide) (fun c48 => ?_) (fun c48 => ?_)
        · have q2 := hd_I0 hP hs (by omega) hI c48
          refine gi_drop 3 ?_
          dsimp only [List.set]
          refine gi_iinc (pc := 106) 2 _ hX dX1_setOut_106 rfl (gi_inc1 _) rfl rfl ?_
          dsimp only [List.set]
          refine gi_goto (pc := 109) 33 hX dX1_setOut_109 (by decide) ?_
          exact ih (i + 1) (by omega) (by omega) _ q2
        · refine gi_iload_n (pc := 51) hX dX1_setOut_51 rfl ?_
          refine gi_iconst (pc := 52) (nI 1) hX dX1_setOut_52 (by decide) ?_
          refine gi_aload_n (pc := 53) hX dX1_setOut_53 rfl ?_
          refine mg_n (pc := 54) hX dX1_setOut_54 ?_
          try dsimp only
          refine gi_ishl (pc := 57) hX dX1_setOut_57 ?_
          rw [sp_pw _ (by omega)]
          refine gi_icmp_ge (pc := 58) 106 hX dX1_setOut_58 (by decide) (fun c58 => ?_) (fun c58 => ?_)
          · have q3 := sp_ge (by omega) (by omega) c58
            have q9 : y = 2 ^ P.1 := by omega
            have q2 : ∀ j, j < 2304 → (¬ h1 j = 0 ↔ hd_Q P s0 (i + 1) j) := fun j hj => by rw [hd_Q1, ← q9]; exact hI j hj
            refine gi_drop 3 ?_
            dsimp only [List.set]
            refine gi_iinc (pc := 106) 2 _ hX dX1_setOut_106 rfl (gi_inc1 _) rfl rfl ?_
            dsimp only [List.set]
            refine gi_goto (pc := 109) 33 hX dX1_setOut_109 (by decide) ?_
            exact ih (i + 1) (by omega) (by omega) _ q2
          · have q3 := sp_lt (by omega) (by omega) c58
            refine gi_aload_n (pc := 61) hX dX1_setOut_61 rfl ?_
            refine gi_iload_n (pc := 62) hX dX1_setOut_62 rfl ?_
            refine gi_sipush (pc := 63) (nI 256) hX dX1_setOut_63 (by decide) ?_
            refine gi_irem (pc := 66) hX dX1_setOut_66 (by decide) ?_
            rw [pk_rem (by omega) (by omega) (by omega)]
            refine gi_iload_n (pc := 67) hX dX1_setOut_67 rfl ?_
            refine gi_callI (pc := 68) hX (mm_after (nI (i % 256)) (nI y) hP.1) cw_m_after rfl rfl rfl rfl rfl rfl dX1_setOut_68 (fun r u hp => ?_)
            obtain ⟨rfl, hp⟩ := hp
            rcases hp with ⟨z1, rfl⟩ | ⟨z1, z2⟩
            · have q5 := hd_Ia hI (fun j ⟨t, _, z, _⟩ => z1 z)
              refine gi_istore (pc := 71) 4 hX dX1_setOut_71 rfl rfl ?_
              dsimp only [List.set]
              refine gi_iload (pc := 73) hX dX1_setOut_73 rfl ?_
              refine gi_if_lt (pc := 75) 100 hX dX1_setOut_75 (by decide) (fun c75 => ?_) (fun c75 => ?_)
              · refine gi_iinc (pc := 100) 3 _ hX dX1_setOut_100 rfl (gi_inc1 _) rfl rfl ?_
                dsimp only [List.set]
                refine gi_goto (pc := 103) 42 hX dX1_setOut_103 (by decide) ?_
                refine gi_drop 4 ?_
                dsimp only [List.set]
                exact jh (y + 1) (by omega) (by omega) h1 q5
              · exact absurd (by decide) c75
            · obtain ⟨t, ht, rfl⟩ := sp_B8_nat (sp_nx8 hP z2 (sp_nat_B8 (show i % 256 < 256 by omega)))
              have q5 := hd_Ib hP hs q0 hI c48 ht z1 z2
              refine gi_istore (pc := 71) 4 hX dX1_setOut_71 rfl rfl ?_
              dsimp only [List.set]
              refine gi_iload (pc := 73) hX dX1_setOut_73 rfl ?_
              refine gi_if_lt (pc := 75) 100 hX dX1_setOut_75 (by decide) (fun c75 => ?_) (fun c75 => ?_)
              · exact absurd c75 (sp_nn ht)
              · refine gi_aload_n (pc := 78) hX dX1_setOut_78 rfl ?_
                refine mg_hd (pc := 79) hX dX1_setOut_79 ?_
                refine gi_iload_n (pc := 82) hX dX1_setOut_82 rfl ?_
                refine gi_sipush (pc := 83) (nI 256) hX dX1_setOut_83 (by decide) ?_
                refine gi_idiv (pc := 86) hX dX1_setOut_86 (by decide) ?_
                refine gi_sipush (pc := 87) (nI 256) hX dX1_setOut_87 (by decide) ?_
                refine gi_imul (pc := 90) hX dX1_setOut_90 ?_
                refine gi_sipush (pc := 91) (nI 256) hX dX1_setOut_91 (by decide) ?_
                refine gi_iadd (pc := 94) hX dX1_setOut_94 ?_
                refine gi_iload (pc := 95) hX dX1_setOut_95 rfl ?_
                refine gi_iadd (pc := 97) hX dX1_setOut_97 ?_
                refine gi_iconst (pc := 98) (nI 1) hX dX1_setOut_98 (by decide) ?_
                refine ms_hd (pc := 99) (i / 256 * 256 + 256 + t) hX dX1_setOut_99 (by rw [pk_div (by omega) (by omega) (by omega), pk_mul, nI_add, nI_add]) (by omega) rfl ?_
                try dsimp only
                refine gi_iinc (pc := 100) 3 _ hX dX1_setOut_100 rfl (gi_inc1 _) rfl rfl ?_
                dsimp only [List.set]
                refine gi_goto (pc := 103) 42 hX dX1_setOut_103 (by decide) ?_
                refine gi_drop 4 ?_
                dsimp only [List.set]
                exact jh (y + 1) (by omega) (by omega) _ q5
      refine gi_iconst (pc := 40) (nI 0) hX dX1_setOut_40 (by decide) ?_
      refine gi_istore_n (pc := 41) 3 rfl hX dX1_setOut_41 rfl rfl ?_
      dsimp only [List.set]
      exact inner 0 (Nat.zero_le _) h1 (fun j hj => by rw [hv j hj]; exact ⟨Or.inl, fun z => z.elim id (fun ⟨_, z, z1, _⟩ => absurd z1 (by omega))⟩)
  have loop1 : ∀ s, s ≤ 2304 → ∀ h1 : pw_F, (∀ j, j < s → (¬ h1 j = 0 ↔ j = s0)) → gx_G X (mw_W a k (P.1, P.2.1, P.2.2.1, P.2.2.2.1, P.2.2.2.2, h1)) 2 [some (.ref (a 0)), some (.int (nI s0)), some (.int (nI s)), none, none] [] := by
    refine gx_up ?_
    intro s hs2 ih h1 hv
    refine gi_iload_n (pc := 2) hX dX1_setOut_2 rfl ?_
    refine gi_sipush (pc := 3) (nI 2304) hX dX1_setOut_3 (by decide) ?_
    refine gi_icmp_ge (pc := 6) 31 hX dX1_setOut_6 (by decide) (fun c6 => ?_) (fun c6 => ?_)
    · have q0 := sp_ge (by omega) (by omega) c6
      have q9 : s = 2304 := by omega
      subst q9
      refine gi_iconst (pc := 31) (nI 0) hX dX1_setOut_31 (by decide) ?_
      refine gi_istore_n (pc := 32) 2 rfl hX dX1_setOut_32 rfl rfl ?_
      dsimp only [List.set]
      exact loop2 0 (by omega) h1 (fun j hj => by rw [hv j hj]; exact ⟨Or.inl, fun z => z.elim id (fun ⟨_, z1, _⟩ => absurd z1 (by omega))⟩)
    · have q0 := sp_lt (by omega) (by omega) c6
      refine gi_aload_n (pc := 9) hX dX1_setOut_9 rfl ?_
      refine mg_hd (pc := 10) hX dX1_setOut_10 ?_
      refine gi_iload_n (pc := 13) hX dX1_setOut_13 rfl ?_
      refine gi_iload_n (pc := 14) hX dX1_setOut_14 rfl ?_
      refine gi_iload_n (pc := 15) hX dX1_setOut_15 rfl ?_
      refine gi_icmp_ne (pc := 16) 23 hX dX1_setOut_16 (by decide) (fun c16 => ?_) (fun c16 => ?_)
      · have q1 : ¬ nI 0 = 0 ↔ s = s0 := ⟨fun z => absurd nI_0 z, fun z => absurd (by rw [z]) c16⟩
        refine gi_iconst (pc := 23) (nI 0) hX dX1_setOut_23 (by decide) ?_
        refine ms_hd (pc := 24) _ hX dX1_setOut_24 rfl (by omega) rfl ?_
        try dsimp only
        refine gi_iinc (pc := 25) 2 _ hX dX1_setOut_25 rfl (gi_inc1 _) rfl rfl ?_
        dsimp only [List.set]
        refine gi_goto (pc := 28) 2 hX dX1_setOut_28 (by decide) ?_
        exact ih (s + 1) (by omega) (by omega) _ (hd_set hv q1)
      · have q1 : ¬ nI 1 = 0 ↔ s = s0 := ⟨fun _ => (nI_eq (by omega) (by omega)).mp c16, fun _ => by decide⟩
        refine gi_iconst (pc := 19) (nI 1) hX dX1_setOut_19 (by decide) ?_
        refine gi_goto (pc := 20) 24 hX dX1_setOut_20 (by decide) ?_
        refine ms_hd (pc := 24) _ hX dX1_setOut_24 rfl (by omega) rfl ?_
        try dsimp only
        refine gi_iinc (pc := 25) 2 _ hX dX1_setOut_25 rfl (gi_inc1 _) rfl rfl ?_
        dsimp only [List.set]
        refine gi_goto (pc := 28) 2 hX dX1_setOut_28 (by decide) ?_
        exact ih (s + 1) (by omega) (by omega) _ (hd_set hv q1)
  refine gi_iconst (pc := 0) (nI 0) hX dX1_setOut_0 (by decide) ?_
  refine gi_istore_n (pc := 1) 2 rfl hX dX1_setOut_1 rfl rfl ?_
  dsimp only [List.set]
  exact loop1 0 (by omega) hd (fun j hj => absurd hj (by omega))
theorem mm_setOutX {a : Nat → Nat} {k : gx_C} {P : pw_P} {hd : pw_F} (x : Int32) (s0 : Nat) (hx : x = nI s0) (hs : s0 < 256) (hP : sp_ok P) : gx_CV k yX1_setOut cX1_setOut 5 (3, 78) [.ref (a 0), .int x] (mw_W a k) (P.1, P.2.1, P.2.2.1, P.2.2.2.1, P.2.2.2.2, hd) (fun u => ∃ hd1, u = (P.1, P.2.1, P.2.2.1, P.2.2.2.1, P.2.2.2.2, hd1) ∧ hd_ok P s0 hd1) := by
  subst hx
  exact mm_setOut s0 hs hP
set_option maxHeartbeats 4000000 in
theorem mm_served {a : Nat → Nat} {k : gx_C} {P : pw_P} {hd : pw_F} (x : Int32) (j : Nat) (hj : j ≤ 8) : gx_CI k yX1_served cX1_served 4 .boolean (0, 0) [.ref (a 0), .int x, .int (nI j)] (mw_W a k) (P.1, P.2.1, P.2.2.1, P.2.2.2.1, P.2.2.2.2, hd) (fun r u => u = (P.1, P.2.1, P.2.2.1, P.2.2.2.1, P.2.2.2.2, hd) ∧ b_tf r (∃ s, s < 256 ∧ ¬ hd (j * 256 + s) = 0 ∧ b_sub x (nI s))) := by
  refine gx_CI.of (by decide) rfl rfl (fun X hX hR => ?_)
  have hX : gx_Ok X cX1_served RX1 k (0, 0) := hX
  show gx_G X (mw_W a k (P.1, P.2.1, P.2.2.1, P.2.2.2.1, P.2.2.2.2, hd)) 0 [some (.ref (a 0)), some (.int x), some (.int (nI j)), none] []
  have loop : ∀ s, s ≤ 256 → (∀ s1, s1 < s → ¬ (¬ hd (j * 256 + s1) = 0 ∧ b_sub x (nI s1))) → gx_G X (mw_W a k (P.1, P.2.1, P.2.2.1, P.2.2.2.1, P.2.2.2.2, hd)) 2 [some (.ref (a 0)), some (.int x), some (.int (nI j)), some (.int (nI s))] [] := by
    refine gx_up ?_
    intro s hs ih hv
    refine gi_iload_n (pc := 2) hX dX1_served_2 rfl ?_
    refine gi_sipush (pc := 3) (nI 256) hX dX1_served_3 (by decide) ?_
    refine gi_icmp_ge (pc := 6) 40 hX dX1_served_6 (by decide) (fun c6 => ?_) (fun c6 => ?_)
    · have q0 := sp_ge (by omega) (by omega) c6
      have q : ¬ ∃ s, s < 256 ∧ ¬ hd (j * 256 + s) = 0 ∧ b_sub x (nI s) := fun ⟨s1, z1, z2⟩ => hv s1 (by omega) z2
      refine gi_iconst (pc := 40) (nI 0) hX dX1_served_40 (by decide) ?_
      exact hR 41 _ _ _ dX1_served_41 rfl ⟨rfl, b_tf0 q⟩
    · have q0 := sp_lt (by omega) (by omega) c6
      refine gi_aload_n (pc := 9) hX dX1_served_9 rfl ?_
      refine mg_hd (pc := 10) hX dX1_served_10 ?_
      refine gi_iload_n (pc := 13) hX dX1_served_13 rfl ?_
      refine gi_sipush (pc := 14) (nI 256) hX dX1_served_14 (by decide) ?_
      refine gi_imul (pc := 17) hX dX1_served_17 ?_
      refine gi_iload_n (pc := 18) hX dX1_served_18 rfl ?_
      refine gi_iadd (pc := 19) hX dX1_served_19 ?_
      refine ml_hd (pc := 20) (j * 256 + s) hX dX1_served_20 (by rw [pk_mul, nI_add]) (by omega) ?_
      try dsimp only
      refine gi_if_eq (pc := 21) 34 hX dX1_served_21 (by decide) (fun c21 => ?_) (fun c21 => ?_)
      · have q1 : ¬ (¬ hd (j * 256 + s) = 0 ∧ b_sub x (nI s)) := fun z => z.1 c21
        refine gi_iinc (pc := 34) 3 _ hX dX1_served_34 rfl (gi_inc1 _) rfl rfl ?_
        dsimp only [List.set]
        refine gi_goto (pc := 37) 2 hX dX1_served_37 (by decide) ?_
        exact ih (s + 1) (by omega) (by omega) (sp_all1 hv q1)
      · refine gi_iload_n (pc := 24) hX dX1_served_24 rfl ?_
        refine gi_iload_n (pc := 25) hX dX1_served_25 rfl ?_
        refine gi_iconst (pc := 26) (-1) hX dX1_served_26 (by decide) ?_
        refine gi_ixor (pc := 27) hX dX1_served_27 ?_
        refine gi_iand (pc := 28) hX dX1_served_28 ?_
        refine gi_if_ne (pc := 29) 34 hX dX1_served_29 (by decide) (fun c29 => ?_) (fun c29 => ?_)
        · have q1 : ¬ (¬ hd (j * 256 + s) = 0 ∧ b_sub x (nI s)) := fun z => c29 (b_an.mpr z.2)
          refine gi_iinc (pc := 34) 3 _ hX dX1_served_34 rfl (gi_inc1 _) rfl rfl ?_
          dsimp only [List.set]
          refine gi_goto (pc := 37) 2 hX dX1_served_37 (by decide) ?_
          exact ih (s + 1) (by omega) (by omega) (sp_all1 hv q1)
        · have q : ∃ s, s < 256 ∧ ¬ hd (j * 256 + s) = 0 ∧ b_sub x (nI s) := ⟨s, q0, c21, b_an.mp c29⟩
          refine gi_iconst (pc := 32) (nI 1) hX dX1_served_32 (by decide) ?_
          exact hR 33 _ _ _ dX1_served_33 rfl ⟨rfl, b_tf1 q⟩
  refine gi_iconst (pc := 0) (nI 0) hX dX1_served_0 (by decide) ?_
  refine gi_istore_n (pc := 1) 3 rfl hX dX1_served_1 rfl rfl ?_
  dsimp only [List.set]
  exact loop 0 (by omega) (fun s hs => absurd hs (by omega))
set_option maxHeartbeats 4000000 in
theorem mm_fewest {a : Nat → Nat} {k : gx_C} {P : pw_P} {hd : pw_F} (x : Int32) (hP : sp_ok P) : gx_CI k yX1_fewest cX1_fewest 3 .int (4, 104) [.ref (a 0), .int x] (mw_W a k) (P.1, P.2.1, P.2.2.1, P.2.2.2.1, P.2.2.2.2, hd) (fun r u => ∃ hd1, u = (P.1, P.2.1, P.2.2.1, P.2.2.2.1, P.2.2.2.2, hd1) ∧ op_fewest P x r) := by
  refine gx_CI.of (by decide) rfl rfl (fun X hX hR => ?_)
  have hX : gx_Ok X cX1_fewest RX1 k (4, 104) := hX
  show gx_G X (mw_W a k (P.1, P.2.1, P.2.2.1, P.2.2.2.1, P.2.2.2.2, hd)) 0 [some (.ref (a 0)), some (.int x), none] []
  obtain ⟨s0, hs0, es⟩ := sp_B8_nat hP.2.2
  refine gi_aload_n (pc := 0) hX dX1_fewest_0 rfl ?_
  refine gi_iload_n (pc := 1) hX dX1_fewest_1 rfl ?_
  refine gi_callI (pc := 2) hX (mm_isSet x) cw_m_isSet rfl rfl rfl rfl rfl rfl dX1_fewest_2 (fun r u hp => ?_)
  obtain ⟨rfl, h1⟩ := hp
  refine gi_if_ne (pc := 5) 10 hX dX1_fewest_5 (by decide) (fun c5 => ?_) (fun c5 => ?_)
  · refine gi_aload_n (pc := 10) hX dX1_fewest_10 rfl ?_
    refine gi_aload_n (pc := 11) hX dX1_fewest_11 rfl ?_
    refine mg_ss (pc := 12) hX dX1_fewest_12 ?_
    try dsimp only
    refine gi_callV (pc := 15) hX (mm_setOutX P.2.2.2.2 s0 es hs0 hP) cw_m_setOut rfl rfl rfl rfl rfl rfl dX1_fewest_15 (fun u hp => ?_)
    obtain ⟨h2, rfl, hh⟩ := hp
    have loop : ∀ j, j ≤ 9 → (∀ j0, j0 < j → ¬ sp_sv P P.2.2.2.2 j0 x) → gx_G X (mw_W a k (P.1, P.2.1, P.2.2.1, P.2.2.2.1, P.2.2.2.2, h2)) 20 [some (.ref (a 0)), some (.int x), some (.int (nI j))] [] := by
      refine gx_up ?_
      intro j hj ih hv
      refine gi_iload_n (pc := 20) hX dX1_fewest_20 rfl ?_
      refine gi_bipush (pc := 21) (nI 8) hX dX1_fewest_21 (by decide) ?_
      refine gi_icmp_gt (pc := 23) 43 hX dX1_fewest_23 (by decide) (fun c23 => ?_) (fun c23 => ?_)
      · have q0 : 8 < j := (nI_ltI (by omega) (by omega)).mp c23
        refine gi_bipush (pc := 43) (-3) hX dX1_fewest_43 (by decide) ?_
        exact hR 45 _ _ _ dX1_fewest_45 rfl ⟨_, rfl, Or.inr ⟨h1.nz.mp c5, Or.inr ⟨rfl, fun j0 hj0 => hv j0 (by omega)⟩⟩⟩
      · have q0 : j ≤ 8 := Nat.le_of_not_lt (fun z => c23 ((nI_ltI (by omega) (by omega)).mpr z))
        refine gi_aload_n (pc := 26) hX dX1_fewest_26 rfl ?_
        refine gi_iload_n (pc := 27) hX dX1_fewest_27 rfl ?_
        refine gi_iload_n (pc := 28) hX dX1_fewest_28 rfl ?_
        refine gi_callI (pc := 29) hX (mm_served x j (by omega)) cw_m_served rfl rfl rfl rfl rfl rfl dX1_fewest_29 (fun r u hp => ?_)
        obtain ⟨rfl, h3⟩ := hp
        have h3 := h3.iff (hd_sv hP hs0 hh (by omega))
        rw [← es] at h3
        refine gi_if_eq (pc := 32) 37 hX dX1_fewest_32 (by decide) (fun c32 => ?_) (fun c32 => ?_)
        · have q1 : ¬ sp_sv P P.2.2.2.2 j x := h3.z.mp c32
          refine gi_iinc (pc := 37) 2 _ hX dX1_fewest_37 rfl (gi_inc1 _) rfl rfl ?_
          dsimp only [List.set]
          refine gi_goto (pc := 40) 20 hX dX1_fewest_40 (by decide) ?_
          exact ih (j + 1) (by omega) (by omega) (sp_all1 hv q1)
        · have q1 : sp_sv P P.2.2.2.2 j x := h3.nz.mp c32
          refine gi_iload_n (pc := 35) hX dX1_fewest_35 rfl ?_
          exact hR 36 _ _ _ dX1_fewest_36 rfl ⟨_, rfl, Or.inr ⟨h1.nz.mp c5, Or.inl ⟨j, q0, rfl, q1, hv⟩⟩⟩
    refine gi_iconst (pc := 18) (nI 0) hX dX1_fewest_18 (by decide) ?_
    refine gi_istore_n (pc := 19) 2 rfl hX dX1_fewest_19 rfl rfl ?_
    dsimp only [List.set]
    exact loop 0 (by omega) (fun j0 hj0 => absurd hj0 (by omega))
  · refine gi_iconst (pc := 8) (-1) hX dX1_fewest_8 (by decide) ?_
    exact hR 9 _ _ _ dX1_fewest_9 rfl ⟨hd, rfl, Or.inl ⟨h1.z.mp c5, rfl⟩⟩
set_option maxHeartbeats 4000000 in
theorem mm_within {a : Nat → Nat} {k : gx_C} {P : pw_P} {hd : pw_F} (x : Int32) (hP : sp_ok P) : gx_CI k yX1_within cX1_within 4 .int (4, 104) [.ref (a 0), .int x] (mw_W a k) (P.1, P.2.1, P.2.2.1, P.2.2.2.1, P.2.2.2.2, hd) (fun r u => ∃ hd1, u = (P.1, P.2.1, P.2.2.1, P.2.2.2.1, P.2.2.2.2, hd1) ∧ op_within P x r) := by
  refine gx_CI.of (by decide) rfl rfl (fun X hX hR => ?_)
  have hX : gx_Ok X cX1_within RX1 k (4, 104) := hX
  show gx_G X (mw_W a k (P.1, P.2.1, P.2.2.1, P.2.2.2.1, P.2.2.2.2, hd)) 0 [some (.ref (a 0)), some (.int x), none, none] []
  obtain ⟨s0, hs0, es⟩ := sp_B8_nat hP.2.2
  refine gi_iload_n (pc := 0) hX dX1_within_0 rfl ?_
  refine gi_if_lt (pc := 1) 10 hX dX1_within_1 (by decide) (fun c1 => ?_) (fun c1 => ?_)
  · have q : ¬ (¬ x < 0 ∧ x ≤ nI 8) := fun z => z.1 c1
    refine gi_iconst (pc := 10) (-1) hX dX1_within_10 (by decide) ?_
    exact hR 11 _ _ _ dX1_within_11 rfl ⟨hd, rfl, Or.inl ⟨q, rfl⟩⟩
  · refine gi_iload_n (pc := 4) hX dX1_within_4 rfl ?_
    refine gi_bipush (pc := 5) (nI 8) hX dX1_within_5 (by decide) ?_
    refine gi_icmp_le (pc := 7) 12 hX dX1_within_7 (by decide) (fun c7 => ?_) (fun c7 => ?_)
    · obtain ⟨j, hj, rfl⟩ := nI_of2 (M := nI 8) (n := 8) (by decide) c1 c7
      refine gi_iconst (pc := 12) (nI 0) hX dX1_within_12 (by decide) ?_
      refine gi_istore_n (pc := 13) 2 rfl hX dX1_within_13 rfl rfl ?_
      dsimp only [List.set]
      refine gi_aload_n (pc := 14) hX dX1_within_14 rfl ?_
      refine gi_aload_n (pc := 15) hX dX1_within_15 rfl ?_
      refine mg_ss (pc := 16) hX dX1_within_16 ?_
      try dsimp only
      refine gi_callV (pc := 19) hX (mm_setOutX P.2.2.2.2 s0 es hs0 hP) cw_m_setOut rfl rfl rfl rfl rfl rfl dX1_within_19 (fun u hp => ?_)
      obtain ⟨h2, rfl, hh⟩ := hp
      have loop : ∀ i, i ≤ 256 * (j + 1) → ∀ A : Int32, (∀ f, bt A f = true ↔ ∃ i1, i1 < i ∧ ¬ h2 i1 = 0 ∧ bt (nI (i1 % 256)) f = true) → gx_G X (mw_W a k (P.1, P.2.1, P.2.2.1, P.2.2.2.1, P.2.2.2.2, h2)) 24 [some (.ref (a 0)), some (.int (nI j)), some (.int A), some (.int (nI i))] [] := by
        refine gx_up ?_
        intro i hi ih A hv
        refine gi_iload_n (pc := 24) hX dX1_within_24 rfl ?_
        refine gi_sipush (pc := 25) (nI 256) hX dX1_within_25 (by decide) ?_
        refine gi_iload_n (pc := 28) hX dX1_within_28 rfl ?_
        refine gi_iconst (pc := 29) (nI 1) hX dX1_within_29 (by decide) ?_
        refine gi_iadd (pc := 30) hX dX1_within_30 ?_
        refine gi_imul (pc := 31) hX dX1_within_31 ?_
        rw [nI_add, pk_mul]
        refine gi_icmp_ge (pc := 32) 58 hX dX1_within_32 (by decide) (fun c32 => ?_) (fun c32 => ?_)
        · have q0 := sp_ge (by omega) (by omega) c32
          have q9 : i = 256 * (j + 1) := by omega
          subst q9
          have q1 := hd_wi hP hs0 hh hj hv
          rw [← es] at q1
          refine gi_iload_n (pc := 58) hX dX1_within_58 rfl ?_
          exact hR 59 _ _ _ dX1_within_59 rfl ⟨_, rfl, Or.inr ⟨j, hj, rfl, q1⟩⟩
        · have q0 := sp_lt (by omega) (by omega) c32
          refine gi_aload_n (pc := 35) hX dX1_within_35 rfl ?_
          refine mg_hd (pc := 36) hX dX1_within_36 ?_
          refine gi_iload_n (pc := 39) hX dX1_within_39 rfl ?_
          refine ml_hd (pc := 40) _ hX dX1_within_40 rfl (by omega) ?_
          try dsimp only
          refine gi_if_eq (pc := 41) 52 hX dX1_within_41 (by decide) (fun c41 => ?_) (fun c41 => ?_)
          · refine gi_iinc (pc := 52) 3 _ hX dX1_within_52 rfl (gi_inc1 _) rfl rfl ?_
            dsimp only [List.set]
            refine gi_goto (pc := 55) 24 hX dX1_within_55 (by decide) ?_
            first
            | exact ih (i + 1) (by omega) (by omega) _ (hd_ac0 hv c41)
            | exact ih (i + 1) (by omega) (by omega) _ (hd_ac1 hv c41)
          · refine gi_iload_n (pc := 44) hX dX1_within_44 rfl ?_
            refine gi_iload_n (pc := 45) hX dX1_within_45 rfl ?_
            refine gi_sipush (pc := 46) (nI 256) hX dX1_within_46 (by decide) ?_
            refine gi_irem (pc := 49) hX dX1_within_49 (by decide) ?_
            rw [pk_rem (by omega) (by omega) (by omega)]
            refine gi_ior (pc := 50) hX dX1_within_50 ?_
            refine gi_istore_n (pc := 51) 2 rfl hX dX1_within_51 rfl rfl ?_
            dsimp only [List.set]
            refine gi_iinc (pc := 52) 3 _ hX dX1_within_52 rfl (gi_inc1 _) rfl rfl ?_
            dsimp only [List.set]
            refine gi_goto (pc := 55) 24 hX dX1_within_55 (by decide) ?_
            first
            | exact ih (i + 1) (by omega) (by omega) _ (hd_ac0 hv c41)
            | exact ih (i + 1) (by omega) (by omega) _ (hd_ac1 hv c41)
      refine gi_iconst (pc := 22) (nI 0) hX dX1_within_22 (by decide) ?_
      refine gi_istore_n (pc := 23) 3 rfl hX dX1_within_23 rfl rfl ?_
      dsimp only [List.set]
      exact loop 0 (by omega) (nI 0) (fun f => ⟨fun z => absurd z (b_nt (b_n0 f)), fun ⟨i1, z, _⟩ => absurd z (by omega)⟩)
    · have q : ¬ (¬ x < 0 ∧ x ≤ nI 8) := fun z => c7 z.2
      refine gi_iconst (pc := 10) (-1) hX dX1_within_10 (by decide) ?_
      exact hR 11 _ _ _ dX1_within_11 rfl ⟨hd, rfl, Or.inl ⟨q, rfl⟩⟩
set_option maxHeartbeats 4000000 in
theorem mm_together {a : Nat → Nat} {k : gx_C} {P : pw_P} {hd : pw_F} (x y z : Int32) (hP : sp_ok P) : gx_CI k yX1_together cX1_together 4 .boolean (4, 104) [.ref (a 0), .int x, .int y, .int z] (mw_W a k) (P.1, P.2.1, P.2.2.1, P.2.2.2.1, P.2.2.2.2, hd) (fun r u => ∃ hd1, u = (P.1, P.2.1, P.2.2.1, P.2.2.2.1, P.2.2.2.2, hd1) ∧ b_tf r (op_together P x y z)) := by
  refine gx_CI.of (by decide) rfl rfl (fun X hX hR => ?_)
  have hX : gx_Ok X cX1_together RX1 k (4, 104) := hX
  show gx_G X (mw_W a k (P.1, P.2.1, P.2.2.1, P.2.2.2.1, P.2.2.2.2, hd)) 0 [some (.ref (a 0)), some (.int x), some (.int y), some (.int z)] []
  obtain ⟨s0, hs0, es⟩ := sp_B8_nat hP.2.2
  refine gi_iload_n (pc := 0) hX dX1_together_0 rfl ?_
  refine gi_if_lt (pc := 1) 30 hX dX1_together_1 (by decide) (fun c1 => ?_) (fun c1 => ?_)
  · have q : ¬ op_together P x y z := fun ⟨f, g, j, z1, z2, z3, z4, z5, z6, _⟩ => absurd c1 (by rw [z4]; exact nI_pos (by omega))
    refine gi_iconst (pc := 30) (nI 0) hX dX1_together_30 (by decide) ?_
    exact hR 31 _ _ _ dX1_together_31 rfl ⟨hd, rfl, b_tf0 q⟩
  · refine gi_iload_n (pc := 4) hX dX1_together_4 rfl ?_
    refine gi_bipush (pc := 5) (nI 7) hX dX1_together_5 (by decide) ?_
    refine gi_icmp_gt (pc := 7) 30 hX dX1_together_7 (by decide) (fun c7 => ?_) (fun c7 => ?_)
    · have q : ¬ op_together P x y z := fun ⟨f, g, j, z1, z2, z3, z4, z5, z6, _⟩ => absurd c7 (by rw [z4]; exact nI_nlt (by omega) (by omega))
      refine gi_iconst (pc := 30) (nI 0) hX dX1_together_30 (by decide) ?_
      exact hR 31 _ _ _ dX1_together_31 rfl ⟨hd, rfl, b_tf0 q⟩
    · refine gi_iload_n (pc := 10) hX dX1_together_10 rfl ?_
      refine gi_if_lt (pc := 11) 30 hX dX1_together_11 (by decide) (fun c11 => ?_) (fun c11 => ?_)
      · have q : ¬ op_together P x y z := fun ⟨f, g, j, z1, z2, z3, z4, z5, z6, _⟩ => absurd c11 (by rw [z5]; exact nI_pos (by omega))
        refine gi_iconst (pc := 30) (nI 0) hX dX1_together_30 (by decide) ?_
        exact hR 31 _ _ _ dX1_together_31 rfl ⟨hd, rfl, b_tf0 q⟩
      · refine gi_iload_n (pc := 14) hX dX1_together_14 rfl ?_
        refine gi_bipush (pc := 15) (nI 7) hX dX1_together_15 (by decide) ?_
        refine gi_icmp_gt (pc := 17) 30 hX dX1_together_17 (by decide) (fun c17 => ?_) (fun c17 => ?_)
        · have q : ¬ op_together P x y z := fun ⟨f, g, j, z1, z2, z3, z4, z5, z6, _⟩ => absurd c17 (by rw [z5]; exact nI_nlt (by omega) (by omega))
          refine gi_iconst (pc := 30) (nI 0) hX dX1_together_30 (by decide) ?_
          exact hR 31 _ _ _ dX1_together_31 rfl ⟨hd, rfl, b_tf0 q⟩
        · refine gi_iload_n (pc := 20) hX dX1_together_20 rfl ?_
          refine gi_if_lt (pc := 21) 30 hX dX1_together_21 (by decide) (fun c21 => ?_) (fun c21 => ?_)
          · have q : ¬ op_together P x y z := fun ⟨f, g, j, z1, z2, z3, z4, z5, z6, _⟩ => absurd c21 (by rw [z6]; exact nI_pos (by omega))
            refine gi_iconst (pc := 30) (nI 0) hX dX1_together_30 (by decide) ?_
            exact hR 31 _ _ _ dX1_together_31 rfl ⟨hd, rfl, b_tf0 q⟩
          · refine gi_iload_n (pc := 24) hX dX1_together_24 rfl ?_
            refine gi_bipush (pc := 25) (nI 8) hX dX1_together_25 (by decide) ?_
            refine gi_icmp_le (pc := 27) 32 hX dX1_together_27 (by decide) (fun c27 => ?_) (fun c27 => ?_)
            · obtain ⟨f, hf0, rfl⟩ := nI_of c1
              obtain ⟨g, hg0, rfl⟩ := nI_of c11
              have hf : f < 8 := Nat.lt_of_not_le (fun w => c7 ((nI_ltI (by omega) (by omega)).mpr (by omega)))
              have hg : g < 8 := Nat.lt_of_not_le (fun w => c17 ((nI_ltI (by omega) (by omega)).mpr (by omega)))
              obtain ⟨j, hj, rfl⟩ := nI_of2 (M := nI 8) (n := 8) (by decide) c21 c27
              refine gi_aload_n (pc := 32) hX dX1_together_32 rfl ?_
              refine gi_aload_n (pc := 33) hX dX1_together_33 rfl ?_
              refine mg_ss (pc := 34) hX dX1_together_34 ?_
              try dsimp only
              refine gi_callV (pc := 37) hX (mm_setOutX P.2.2.2.2 s0 es hs0 hP) cw_m_setOut rfl rfl rfl rfl rfl rfl dX1_together_37 (fun u hp => ?_)
              obtain ⟨h2, rfl, hh⟩ := hp
              refine gi_aload_n (pc := 40) hX dX1_together_40 rfl ?_
              refine gi_iconst (pc := 41) (nI 1) hX dX1_together_41 (by decide) ?_
              refine gi_iload_n (pc := 42) hX dX1_together_42 rfl ?_
              refine gi_ishl (pc := 43) hX dX1_together_43 ?_
              refine gi_iconst (pc := 44) (nI 1) hX dX1_together_44 (by decide) ?_
              refine gi_iload_n (pc := 45) hX dX1_together_45 rfl ?_
              refine gi_ishl (pc := 46) hX dX1_together_46 ?_
              refine gi_ior (pc := 47) hX dX1_together_47 ?_
              refine gi_iload_n (pc := 48) hX dX1_together_48 rfl ?_
              refine gi_callI (pc := 49) hX (mm_served (b_sh f ||| b_sh g) j hj) cw_m_served rfl rfl rfl rfl rfl rfl dX1_together_49 (fun r u hp => ?_)
              obtain ⟨rfl, h3⟩ := hp
              have h3 := h3.iff (hd_sv hP hs0 hh hj)
              rw [← es] at h3
              exact hR 52 _ _ _ dX1_together_52 h3.nar ⟨_, rfl, h3.iff ⟨fun z => ⟨f, g, j, hf, hg, hj, rfl, rfl, rfl, z⟩, fun ⟨f1, g1, j1, z1, z2, z3, z4, z5, z6, z7⟩ => by
                rw [(nI_eq (by omega) (by omega)).mp z4, (nI_eq (by omega) (by omega)).mp z5, (nI_eq (by omega) (by omega)).mp z6]; exact z7⟩⟩
            · have q : ¬ op_together P x y z := fun ⟨f, g, j, z1, z2, z3, z4, z5, z6, _⟩ => absurd (by rw [z6]; exact nI_le z3 (by omega)) c27
              refine gi_iconst (pc := 30) (nI 0) hX dX1_together_30 (by decide) ?_
              exact hR 31 _ _ _ dX1_together_31 rfl ⟨hd, rfl, b_tf0 q⟩
set_option maxHeartbeats 4000000 in
theorem mm_advance {a : Nat → Nat} {k : gx_C} {P : pw_P} {hd : pw_F} (x : Int32) (hP : sp_ok P) : gx_CI k yX1_advance cX1_advance 3 .boolean (3, 78) [.ref (a 0), .int x] (mw_W a k) (P.1, P.2.1, P.2.2.1, P.2.2.2.1, P.2.2.2.2, hd) (fun r u => ∃ P1 hd1, u = (P1.1, P1.2.1, P1.2.2.1, P1.2.2.2.1, P1.2.2.2.2, hd1) ∧ op_advance P x r P1) := by
  refine gx_CI.of (by decide) rfl rfl (fun X hX hR => ?_)
  have hX : gx_Ok X cX1_advance RX1 k (3, 78) := hX
  show gx_G X (mw_W a k (P.1, P.2.1, P.2.2.1, P.2.2.2.1, P.2.2.2.2, hd)) 0 [some (.ref (a 0)), some (.int x), none] []
  have hn := hP.1
  have hp7 := sp_pw7 hn
  refine gi_iload_n (pc := 0) hX dX1_advance_0 rfl ?_
  refine gi_if_lt (pc := 1) 14 hX dX1_advance_1 (by decide) (fun c1 => ?_) (fun c1 => ?_)
  · have q : ¬ (∃ y, y < 2 ^ P.1 ∧ x = nI y ∧ sp_lay P x P.2.2.2.2) := fun ⟨y, z1, z2, _⟩ => absurd c1 (by rw [z2]; exact nI_pos (by omega))
    refine gi_iconst (pc := 14) (nI 0) hX dX1_advance_14 (by decide) ?_
    exact hR 15 _ _ _ dX1_advance_15 rfl ⟨P, hd, rfl, Or.inl ⟨q, rfl, rfl⟩⟩
  · obtain ⟨y, hy, rfl⟩ := nI_of c1
    refine gi_iload_n (pc := 4) hX dX1_advance_4 rfl ?_
    refine gi_iconst (pc := 5) (nI 1) hX dX1_advance_5 (by decide) ?_
    refine gi_aload_n (pc := 6) hX dX1_advance_6 rfl ?_
    refine mg_n (pc := 7) hX dX1_advance_7 ?_
    try dsimp only
    refine gi_ishl (pc := 10) hX dX1_advance_10 ?_
    rw [sp_pw _ (by omega)]
    refine gi_icmp_lt (pc := 11) 16 hX dX1_advance_11 (by decide) (fun c11 => ?_) (fun c11 => ?_)
    · have q0 := (nI_ltI (by omega) (by omega)).mp c11
      refine gi_aload_n (pc := 16) hX dX1_advance_16 rfl ?_
      refine gi_aload_n (pc := 17) hX dX1_advance_17 rfl ?_
      refine mg_ss (pc := 18) hX dX1_advance_18 ?_
      try dsimp only
      refine gi_iload_n (pc := 21) hX dX1_advance_21 rfl ?_
      refine gi_callI (pc := 22) hX (mm_after P.2.2.2.2 (nI y) hP.1) cw_m_after rfl rfl rfl rfl rfl rfl dX1_advance_22 (fun r u hp => ?_)
      obtain ⟨rfl, hp⟩ := hp
      rcases hp with ⟨z1, rfl⟩ | ⟨z1, z2⟩
      · refine gi_istore_n (pc := 25) 2 rfl hX dX1_advance_25 rfl rfl ?_
        dsimp only [List.set]
        refine gi_iload_n (pc := 26) hX dX1_advance_26 rfl ?_
        refine gi_if_ge (pc := 27) 32 hX dX1_advance_27 (by decide) (fun c27 => ?_) (fun c27 => ?_)
        · exact absurd c27 (by decide)
        · refine gi_iconst (pc := 30) (nI 0) hX dX1_advance_30 (by decide) ?_
          exact hR 31 _ _ _ dX1_advance_31 rfl ⟨P, hd, rfl, Or.inl ⟨fun ⟨_, _, _, z⟩ => z1 z, rfl, rfl⟩⟩
      · obtain ⟨t, ht, rfl⟩ := sp_B8_nat (sp_nx8 hP z2 hP.2.2)
        refine gi_istore_n (pc := 25) 2 rfl hX dX1_advance_25 rfl rfl ?_
        dsimp only [List.set]
        refine gi_iload_n (pc := 26) hX dX1_advance_26 rfl ?_
        refine gi_if_ge (pc := 27) 32 hX dX1_advance_27 (by decide) (fun c27 => ?_) (fun c27 => ?_)
        · refine gi_aload_n (pc := 32) hX dX1_advance_32 rfl ?_
          refine gi_iload_n (pc := 33) hX dX1_advance_33 rfl ?_
          refine ms_ss (pc := 34) hX dX1_advance_34 ?_
          try dsimp only
          refine gi_iconst (pc := 37) (nI 1) hX dX1_advance_37 (by decide) ?_
          exact hR 38 _ _ _ dX1_advance_38 rfl ⟨(P.1, P.2.1, P.2.2.1, P.2.2.2.1, nI t), hd, rfl, Or.inr ⟨⟨y, q0, rfl, z1⟩, rfl, _, z2, rfl⟩⟩
        · exact absurd (nI_pos' (by omega)) c27
    · have q : ¬ (∃ y1, y1 < 2 ^ P.1 ∧ nI y = nI y1 ∧ sp_lay P (nI y) P.2.2.2.2) := fun ⟨y1, z1, z2, _⟩ => c11 (by rw [z2]; exact (nI_ltI (by omega) (by omega)).mpr z1)
      refine gi_iconst (pc := 14) (nI 0) hX dX1_advance_14 (by decide) ?_
      exact hR 15 _ _ _ dX1_advance_15 rfl ⟨P, hd, rfl, Or.inl ⟨q, rfl, rfl⟩⟩
set_option maxHeartbeats 4000000 in
theorem mm_begins {a : Nat → Nat} {k : gx_C} {P : pw_P} {hd : pw_F} (x y : Int32) (hP : sp_ok P) : gx_CI k yX1_begins cX1_begins 6 .boolean (5, 130) [.ref (a 0), .int x, .int y] (mw_W a k) (P.1, P.2.1, P.2.2.1, P.2.2.2.1, P.2.2.2.2, hd) (fun r u => ∃ hd1, u = (P.1, P.2.1, P.2.2.1, P.2.2.2.1, P.2.2.2.2, hd1) ∧ b_tf r (op_begins P x y)) := by
  refine gx_CI.of (by decide) rfl rfl (fun X hX hR => ?_)
  have hX : gx_Ok X cX1_begins RX1 k (5, 130) := hX
  show gx_G X (mw_W a k (P.1, P.2.1, P.2.2.1, P.2.2.2.1, P.2.2.2.2, hd)) 0 [some (.ref (a 0)), some (.int x), some (.int y), none, none, none] []
  have hn := hP.1
  have hp7 := sp_pw7 hn
  refine gi_aload_n (pc := 0) hX dX1_begins_0 rfl ?_
  refine gi_iload_n (pc := 1) hX dX1_begins_1 rfl ?_
  refine gi_callI (pc := 2) hX (mm_fewest x hP) cw_m_fewest rfl rfl rfl rfl rfl rfl dX1_begins_2 (fun r u hp => ?_)
  obtain ⟨h2, rfl, h3⟩ := hp
  refine gi_istore_n (pc := 5) 3 rfl hX dX1_begins_5 rfl rfl ?_
  dsimp only [List.set]
  refine gi_iload_n (pc := 6) hX dX1_begins_6 rfl ?_
  refine gi_iconst (pc := 7) (nI 1) hX dX1_begins_7 (by decide) ?_
  refine gi_icmp_lt (pc := 8) 19 hX dX1_begins_8 (by decide) (fun c8 => ?_) (fun c8 => ?_)
  · have q : ¬ op_begins P x y := fw_neg h3 (fun z => by rw [Int32.lt_iff_toInt_lt] at z c8; exact absurd z (by rw [show (nI 1).toInt = 1 from by decide] at c8; rw [show (0 : Int32).toInt = 0 from by decide]; omega))
    refine gi_iconst (pc := 19) (nI 0) hX dX1_begins_19 (by decide) ?_
    exact hR 20 _ _ _ dX1_begins_20 rfl ⟨_, rfl, b_tf0 q⟩
  · obtain ⟨j, hj, rfl, hsv, hmin⟩ := fw_pos h3 (by rw [Int32.lt_iff_toInt_lt] at c8 ⊢; rw [show (nI 1).toInt = 1 from by decide] at c8; rw [show (0 : Int32).toInt = 0 from by decide]; omega)
    refine gi_aload_n (pc := 11) hX dX1_begins_11 rfl ?_
    refine gi_iload_n (pc := 12) hX dX1_begins_12 rfl ?_
    refine gi_callI (pc := 13) hX (mm_isAction y) cw_m_isAction rfl rfl rfl rfl rfl rfl dX1_begins_13 (fun r u hp => ?_)
    obtain ⟨rfl, h4⟩ := hp
    refine gi_if_ne (pc := 16) 21 hX dX1_begins_16 (by decide) (fun c16 => ?_) (fun c16 => ?_)
    · obtain ⟨i, rfl, hi⟩ := sp_act_nat hn (h4.nz.mp c16)
      have hset : sp_set x := h3.elim (fun z => absurd z.2 (by intro e; have z2 := (nI_pos (n := j + 1) (by omega)); rw [e] at z2; exact absurd z2 (by decide))) (fun z => z.1)
      have loop : ∀ w, w ≤ 2 ^ P.1 → ∀ h1 : pw_F, (∀ z, z < w → ¬ op_bcond P x i j z) → gx_G X (mw_W a k (P.1, P.2.1, P.2.2.1, P.2.2.2.1, P.2.2.2.2, h1)) 24 [some (.ref (a 0)), some (.int x), some (.int (nI i)), some (.int (nI (j + 1))), some (.int (nI w)), none] [] := by
        refine gx_up ?_
        intro w hw ih h1 hv
        refine gi_iload (pc := 24) hX dX1_begins_24 rfl ?_
        refine gi_iconst (pc := 26) (nI 1) hX dX1_begins_26 (by decide) ?_
        refine gi_aload_n (pc := 27) hX dX1_begins_27 rfl ?_
        refine mg_n (pc := 28) hX dX1_begins_28 ?_
        try dsimp only
        refine gi_ishl (pc := 31) hX dX1_begins_31 ?_
        rw [sp_pw _ (by omega)]
        refine gi_icmp_ge (pc := 32) 90 hX dX1_begins_32 (by decide) (fun c32 => ?_) (fun c32 => ?_)
        · have q0 := sp_ge (by omega) (by omega) c32
          have q := bg_fin (fnd := nI 0) hn hset hi hj hsv hmin (Or.inr ⟨rfl, fun z hz => hv z (by omega)⟩)
          refine gi_iconst (pc := 90) (nI 0) hX dX1_begins_90 (by decide) ?_
          exact hR 91 _ _ _ dX1_begins_91 rfl ⟨_, rfl, q⟩
        · have q0 := sp_lt (by omega) (by omega) c32
          refine gi_iload (pc := 35) hX dX1_begins_35 rfl ?_
          refine gi_iload_n (pc := 37) hX dX1_begins_37 rfl ?_
          refine gi_ishr (pc := 38) hX dX1_begins_38 ?_
          refine gi_iconst (pc := 39) (nI 1) hX dX1_begins_39 (by decide) ?_
          refine gi_iand (pc := 40) hX dX1_begins_40 ?_
          refine gi_if_ne (pc := 41) 48 hX dX1_begins_41 (by decide) (fun c41 => ?_) (fun c41 => ?_)
          · rw [b_tst1 (by omega)] at c41
            refine gi_aload_n (pc := 48) hX dX1_begins_48 rfl ?_
            refine gi_aload_n (pc := 49) hX dX1_begins_49 rfl ?_
            refine mg_ss (pc := 50) hX dX1_begins_50 ?_
            try dsimp only
            refine gi_iload (pc := 53) hX dX1_begins_53 rfl ?_
            refine gi_callI (pc := 55) hX (mm_after P.2.2.2.2 (nI w) hP.1) cw_m_after rfl rfl rfl rfl rfl rfl dX1_begins_55 (fun r u hp => ?_)
            obtain ⟨rfl, hp⟩ := hp
            rcases hp with ⟨z1, rfl⟩ | ⟨z1, z2⟩
            · have q5 : ¬ op_bcond P x i j w := fun z => z1 z.2.1
              refine gi_istore (pc := 58) 5 hX dX1_begins_58 rfl rfl ?_
              dsimp only [List.set]
              refine gi_iload (pc := 60) hX dX1_begins_60 rfl ?_
              refine gi_if_lt (pc := 62) 84 hX dX1_begins_62 (by decide) (fun c62 => ?_) (fun c62 => ?_)
              · refine gi_iinc (pc := 84) 4 _ hX dX1_begins_84 rfl (gi_inc1 _) rfl rfl ?_
                dsimp only [List.set]
                refine gi_goto (pc := 87) 24 hX dX1_begins_87 (by decide) ?_
                refine gi_drop 5 ?_
                dsimp only [List.set]
                exact ih (w + 1) (by omega) (by omega) _ (sp_all1 hv q5)
              · exact absurd (by decide) c62
            · obtain ⟨t, ht, rfl⟩ := sp_B8_nat (sp_nx8 hP z2 hP.2.2)
              refine gi_istore (pc := 58) 5 hX dX1_begins_58 rfl rfl ?_
              dsimp only [List.set]
              refine gi_iload (pc := 60) hX dX1_begins_60 rfl ?_
              refine gi_if_lt (pc := 62) 84 hX dX1_begins_62 (by decide) (fun c62 => ?_) (fun c62 => ?_)
              · exact absurd c62 (sp_nn ht)
              · refine gi_aload_n (pc := 65) hX dX1_begins_65 rfl ?_
                refine gi_iload (pc := 66) hX dX1_begins_66 rfl ?_
                refine gi_callV (pc := 68) hX (mm_setOut t ht hP) cw_m_setOut rfl rfl rfl rfl rfl rfl dX1_begins_68 (fun u hp => ?_)
                obtain ⟨h3, rfl, hh⟩ := hp
                refine gi_aload_n (pc := 71) hX dX1_begins_71 rfl ?_
                refine gi_iload_n (pc := 72) hX dX1_begins_72 rfl ?_
                refine gi_iload_n (pc := 73) hX dX1_begins_73 rfl ?_
                refine gi_iconst (pc := 74) (nI 1) hX dX1_begins_74 (by decide) ?_
                refine gi_isub (pc := 75) hX dX1_begins_75 ?_
                rw [sp_pred]
                refine gi_callI (pc := 76) hX (mm_served x j (by omega)) cw_m_served rfl rfl rfl rfl rfl rfl dX1_begins_76 (fun r u hp => ?_)
                obtain ⟨rfl, h7⟩ := hp
                have h7 := h7.iff (hd_sv hP ht hh (by omega))
                refine gi_if_eq (pc := 79) 84 hX dX1_begins_79 (by decide) (fun c79 => ?_) (fun c79 => ?_)
                · have q5 : ¬ op_bcond P x i j w := fun ⟨_, _, s3, y1, y2⟩ => h7.z.mp c79 (by rw [sp_nx_un z2 y1]; exact y2)
                  refine gi_iinc (pc := 84) 4 _ hX dX1_begins_84 rfl (gi_inc1 _) rfl rfl ?_
                  dsimp only [List.set]
                  refine gi_goto (pc := 87) 24 hX dX1_begins_87 (by decide) ?_
                  refine gi_drop 5 ?_
                  dsimp only [List.set]
                  exact ih (w + 1) (by omega) (by omega) _ (sp_all1 hv q5)
                · have q : op_begins P x (nI i) := ⟨hset, i, j, rfl, hi, hj, hsv, hmin, w, q0, c41, z1, _, z2, h7.nz.mp c79⟩
                  refine gi_iconst (pc := 82) (nI 1) hX dX1_begins_82 (by decide) ?_
                  exact hR 83 _ _ _ dX1_begins_83 rfl ⟨_, rfl, b_tf1 q⟩
          · rw [b_tst (by omega)] at c41
            have q5 : ¬ op_bcond P x i j w := fun z => absurd z.1 (b_nt c41)
            refine gi_iconst (pc := 44) (-1) hX dX1_begins_44 (by decide) ?_
            refine gi_goto (pc := 45) 58 hX dX1_begins_45 (by decide) ?_
            refine gi_istore (pc := 58) 5 hX dX1_begins_58 rfl rfl ?_
            dsimp only [List.set]
            refine gi_iload (pc := 60) hX dX1_begins_60 rfl ?_
            refine gi_if_lt (pc := 62) 84 hX dX1_begins_62 (by decide) (fun c62 => ?_) (fun c62 => ?_)
            · refine gi_iinc (pc := 84) 4 _ hX dX1_begins_84 rfl (gi_inc1 _) rfl rfl ?_
              dsimp only [List.set]
              refine gi_goto (pc := 87) 24 hX dX1_begins_87 (by decide) ?_
              refine gi_drop 5 ?_
              dsimp only [List.set]
              exact ih (w + 1) (by omega) (by omega) _ (sp_all1 hv q5)
            · exact absurd (by decide) c62
      refine gi_iconst (pc := 21) (nI 0) hX dX1_begins_21 (by decide) ?_
      refine gi_istore (pc := 22) 4 hX dX1_begins_22 rfl rfl ?_
      dsimp only [List.set]
      exact loop 0 (Nat.zero_le _) h2 (fun z hz => absurd hz (by omega))
    · have q : ¬ op_begins P x y := fun ⟨_, i, k, z1, z2, _⟩ => h4.z.mp c16 (by rw [z1]; exact sp_nat_act hn z2)
      refine gi_iconst (pc := 19) (nI 0) hX dX1_begins_19 (by decide) ?_
      exact hR 20 _ _ _ dX1_begins_20 rfl ⟨_, rfl, b_tf0 q⟩
end
section
/-! CONTRACTS: the two constructors -/
set_option maxRecDepth 100000
theorem gx_cI {D : va_G} {k : gx_C} {s : State} {cA : ClassId} (hK : va_K D vwCl (gx_ty k) s) (hK1 : va_K D vwCl (gx_ty k ++ [(cA, .int)]) s) : cA = k.1 := Option.some.inj ((show s.vm.findClass _ = some cA from (hK1.2 4 (cA, .int) rfl).2).symm.trans (show s.vm.findClass _ = some k.1 from (hK.2 0 (k.1, .int) rfl).2))
theorem gx_cJ {D : va_G} {k : gx_C} {s : State} {cA : ClassId} (hK : va_K D vwCl (gx_ty k) s) (hK1 : va_K D vwCl (gx_ty k ++ [(cA, .long)]) s) : cA = k.2.1 := Option.some.inj ((show s.vm.findClass _ = some cA from (hK1.2 4 (cA, .long) rfl).2).symm.trans (show s.vm.findClass _ = some k.2.1 from (hK.2 1 (k.2.1, .long) rfl).2))
theorem gx_cB {D : va_G} {k : gx_C} {s : State} {cA : ClassId} (hK : va_K D vwCl (gx_ty k) s) (hK1 : va_K D vwCl (gx_ty k ++ [(cA, .byte)]) s) : cA = k.2.2.1 := Option.some.inj ((show s.vm.findClass _ = some cA from (hK1.2 4 (cA, .byte) rfl).2).symm.trans (show s.vm.findClass _ = some k.2.2.1 from (hK.2 2 (k.2.2.1, .byte) rfl).2))
theorem gx_cZ {D : va_G} {k : gx_C} {s : State} {cA : ClassId} (hK : va_K D vwCl (gx_ty k) s) (hK1 : va_K D vwCl (gx_ty k ++ [(cA, .boolean)]) s) : cA = k.2.2.2 := Option.some.inj ((show s.vm.findClass _ = some cA from (hK1.2 4 (cA, .boolean) rfl).2).symm.trans (show s.vm.findClass _ = some k.2.2.2 from (hK.2 3 (k.2.2.2, .boolean) rfl).2))
def pw_Z : pw_F := fun _ => nI 0
def pw_ZJ : pw_J := fun _ => 0
def pw_S0 : pw_S := ((0, pw_Z, pw_Z, pw_Z, nI 0), 0, (pw_Z, pw_Z, pw_Z, pw_Z, pw_Z), (pw_ZJ, pw_ZJ), (pw_Z, pw_Z, pw_Z, 0, pw_Z, pw_Z, pw_Z))
def mw_S0 : mw_S := (0, pw_Z, pw_Z, pw_Z, nI 0, pw_Z)
abbrev pw_f0 : List Value := [.int (nI 0), .null, .null, .null, .int (nI 0), .int (nI 0), .null, .null, .null, .null, .null, .null, .null, .null, .null, .null, .int (nI 0), .null, .null, .null]
abbrev mw_f0 : List Value := [.int (nI 0), .null, .null, .null, .int (nI 0), .null]
/-- addresses out of a list -/
def gx_ad (l : List (Nat × Nat)) : Nat → Nat := fun i => match l.find? (fun q => q.1 == i) with | some q => q.2 | none => 0
set_option maxHeartbeats 4000000 in
theorem ki_X0 (l : Launch) (D : va_G) (k : gx_C) (h0 sz : Nat) : Met l yX0_init (ws_ yX0_init cX0_init 1 none) ({ frames := 1, cells := 16, slots := 576, locals := 12 }) (va_Pc [.ref h0] (gx_Pre D k [(h0, .inr (0, pw_f0))] sz)) (va_Qv (fun a : Nat → Nat => a 0 = h0) (fun a t => gx_Wd D k (va_A [(h0, .inr (0, pw_f0))] sz) (pw_W a k pw_S0) t) (va_A [(h0, .inr (0, pw_f0))] sz)) 16 576 (va_A [(h0, .inr (0, pw_f0))] sz) := by
  refine Met.ofW (cc := cX0_init) (maxL := 1) (ret := none) (by decide) rfl ?_
  intro p e s m args below meth c s₁ B hml hv
  obtain ⟨rfl, hsz, hP, hK, hD0⟩ := hv
  have hx := B.exec
  have hb := B.bytes
  have hr := B.returns
  have hts := atoms_spec (ws := ws_ yX0_init cX0_init 1 none) B.pre
  have hts : ∀ w ∈ lw_all, w.before _ s = true := fun w h => hts w (List.mem_cons_of_mem _ h)
  have hown : s.vm.findClass RX0 = some m.cls := findClass_of_methodNamed B.named
  have hlocks := B.notSynchronized
  have hin : meth.name = "<init>" := (name_of_methodNamed B.named B.method).1
  subst hsz
  have hD := hD0.self (sz := s.heap.size)
  generalize hAe : va_A [(h0, .inr (0, pw_f0))] s.heap.size = A at hD ⊢
  have hA : ∀ q : Nat, s.heap.size ≤ q → A q := fun q h => by rw [← hAe]; exact Or.inr h
  have hS : va_S A s.heap s.heap [] := va_S.rf
  have hl := lv_entry ([.ref h0]) (n := 1) (Nat.le_of_ble_eq_true rfl)
  rw [lg_entry_eq]
  generalize (lg_sl ([.ref h0]) ++ List.replicate (1 - (lg_sl ([.ref h0])).length) Slot.unset).toArray = ls at hl ⊢
  have hl : lv_has ls 1 [(0, .ref h0)] := hl
  refine lv_aload_n hx hb dX0_init_0 rfl (lv_at hl 0 rfl) ?_
  refine W.objInit hx hb hown (hts _ q37) (hts _ q38) (hts _ q39) rfl (by rw [hml]; exact hl.1) rfl dX0_init_1 (Nat.le_of_ble_eq_true rfl) (Nat.le_of_ble_eq_true rfl) ?_
  refine W.eq (g2 := F0 m 4 ls []) rfl ?_
  refine lv_aload_n hx hb dX0_init_4 rfl (lv_at hl 0 rfl) ?_
  refine lv_bipush (v := nI 7) hx hb dX0_init_5 (by decide) ?_
  refine va_newa (atype := .int) (ty := .int) (N' := 7) (a0 := (7, .inl pw_Z)) hx hb (hts _ q101) rfl hK hP hD hS hA (fun cA => rfl) (by decide) (by decide) (by decide) (Nat.le_of_ble_eq_true rfl) (Nat.le_of_ble_eq_true rfl) dX0_init_7 (fun q1 cA H hK1 hP hD hS => ?_)
  have eA := gx_cI hK hK1
  subst eA
  refine W.widen (k := 1) (n := 7) (Nat.le_of_ble_eq_true rfl) (Nat.le_of_ble_eq_true rfl) ?_
  refine va_putF (D := D) (ci := 0) (v := .ref q1) (ty := .array .int) (C := RX0) (T := TX0) (N := 20) hx hb hts in_X0 tyX0 tyX0_ok nmX0 hown hK hP hD hS 0 rfl rfl 1 (by decide) (hts _ q41) (fun _ h9 => h9) rfl hin rfl (by decide +kernel) rfl rfl (Nat.le_of_ble_eq_true rfl) dX0_init_9 (fun H locs hP hD hS => ?_)
  have hP : va_P D vwCl [(h0, .inr (0, [.int (nI 0), .ref q1, .null, .null, .int (nI 0), .int (nI 0), .null, .null, .null, .null, .null, .null, .null, .null, .null, .null, .int (nI 0), .null, .null, .null])), (q1, .inl (k.1, 7, .inl pw_Z))] H := hP
  have hD : va_D A [(h0, .inr (0, [.int (nI 0), .ref q1, .null, .null, .int (nI 0), .int (nI 0), .null, .null, .null, .null, .null, .null, .null, .null, .null, .null, .int (nI 0), .null, .null, .null])), (q1, .inl (k.1, 7, .inl pw_Z))] := hD
  refine lv_aload_n hx hb dX0_init_12 rfl (lv_at hl 0 rfl) ?_
  refine lv_bipush (v := nI 7) hx hb dX0_init_13 (by decide) ?_
  refine va_newa (atype := .int) (ty := .int) (N' := 7) (a0 := (7, .inl pw_Z)) hx hb (hts _ q101) rfl hK hP hD hS hA (fun cA => rfl) (by decide) (by decide) (by decide) (Nat.le_of_ble_eq_true rfl) (Nat.le_of_ble_eq_true rfl) dX0_init_15 (fun q2 cA H hK1 hP hD hS => ?_)
  have eA := gx_cI hK hK1
  subst eA
  refine W.widen (k := 2) (n := 14) (Nat.le_of_ble_eq_true rfl) (Nat.le_of_ble_eq_true rfl) ?_
  refine va_putF (D := D) (ci := 0) (v := .ref q2) (ty := .array .int) (C := RX0) (T := TX0) (N := 20) hx hb hts in_X0 tyX0 tyX0_ok nmX0 hown hK hP hD hS 0 rfl rfl 2 (by decide) (hts _ q42) (fun _ h9 => h9) rfl hin rfl (by decide +kernel) rfl rfl (Nat.le_of_ble_eq_true rfl) dX0_init_17 (fun H locs hP hD hS => ?_)
  have hP : va_P D vwCl [(h0, .inr (0, [.int (nI 0), .ref q1, .ref q2, .null, .int (nI 0), .int (nI 0), .null, .null, .null, .null, .null, .null, .null, .null, .null, .null, .int (nI 0), .null, .null, .null])), (q1, .inl (k.1, 7, .inl pw_Z)), (q2, .inl (k.1, 7, .inl pw_Z))] H := hP
  have hD : va_D A [(h0, .inr (0, [.int (nI 0), .ref q1, .ref q2, .null, .int (nI 0), .int (nI 0), .null, .null, .null, .null, .null, .null, .null, .null, .null, .null, .int (nI 0), .null, .null, .null])), (q1, .inl (k.1, 7, .inl pw_Z)), (q2, .inl (k.1, 7, .inl pw_Z))] := hD
  refine lv_aload_n hx hb dX0_init_20 rfl (lv_at hl 0 rfl) ?_
  refine lv_bipush (v := nI 7) hx hb dX0_init_21 (by decide) ?_
  refine va_newa (atype := .int) (ty := .int) (N' := 7) (a0 := (7, .inl pw_Z)) hx hb (hts _ q101) rfl hK hP hD hS hA (fun cA => rfl) (by decide) (by decide) (by decide) (Nat.le_of_ble_eq_true rfl) (Nat.le_of_ble_eq_true rfl) dX0_init_23 (fun q3 cA H hK1 hP hD hS => ?_)
  have eA := gx_cI hK hK1
  subst eA
  refine W.widen (k := 3) (n := 21) (Nat.le_of_ble_eq_true rfl) (Nat.le_of_ble_eq_true rfl) ?_
  refine va_putF (D := D) (ci := 0) (v := .ref q3) (ty := .array .int) (C := RX0) (T := TX0) (N := 20) hx hb hts in_X0 tyX0 tyX0_ok nmX0 hown hK hP hD hS 0 rfl rfl 3 (by decide) (hts _ q43) (fun _ h9 => h9) rfl hin rfl (by decide +kernel) rfl rfl (Nat.le_of_ble_eq_true rfl) dX0_init_25 (fun H locs hP hD hS => ?_)
  have hP : va_P D vwCl [(h0, .inr (0, [.int (nI 0), .ref q1, .ref q2, .ref q3, .int (nI 0), .int (nI 0), .null, .null, .null, .null, .null, .null, .null, .null, .null, .null, .int (nI 0), .null, .null, .null])), (q1, .inl (k.1, 7, .inl pw_Z)), (q2, .inl (k.1, 7, .inl pw_Z)), (q3, .inl (k.1, 7, .inl pw_Z))] H := hP
  have hD : va_D A [(h0, .inr (0, [.int (nI 0), .ref q1, .ref q2, .ref q3, .int (nI 0), .int (nI 0), .null, .null, .null, .null, .null, .null, .null, .null, .null, .null, .int (nI 0), .null, .null, .null])), (q1, .inl (k.1, 7, .inl pw_Z)), (q2, .inl (k.1, 7, .inl pw_Z)), (q3, .inl (k.1, 7, .inl pw_Z))] := hD
  refine lv_aload_n hx hb dX0_init_28 rfl (lv_at hl 0 rfl) ?_
  refine lv_bipush (v := nI 9) hx hb dX0_init_29 (by decide) ?_
  refine va_newa (atype := .int) (ty := .int) (N' := 9) (a0 := (9, .inl pw_Z)) hx hb (hts _ q101) rfl hK hP hD hS hA (fun cA => rfl) (by decide) (by decide) (by decide) (Nat.le_of_ble_eq_true rfl) (Nat.le_of_ble_eq_true rfl) dX0_init_31 (fun q6 cA H hK1 hP hD hS => ?_)
  have eA := gx_cI hK hK1
  subst eA
  refine W.widen (k := 4) (n := 30) (Nat.le_of_ble_eq_true rfl) (Nat.le_of_ble_eq_true rfl) ?_
  refine va_putF (D := D) (ci := 0) (v := .ref q6) (ty := .array .int) (C := RX0) (T := TX0) (N := 20) hx hb hts in_X0 tyX0 tyX0_ok nmX0 hown hK hP hD hS 0 rfl rfl 6 (by decide) (hts _ q46) (fun _ h9 => h9) rfl hin rfl (by decide +kernel) rfl rfl (Nat.le_of_ble_eq_true rfl) dX0_init_33 (fun H locs hP hD hS => ?_)
  have hP : va_P D vwCl [(h0, .inr (0, [.int (nI 0), .ref q1, .ref q2, .ref q3, .int (nI 0), .int (nI 0), .ref q6, .null, .null, .null, .null, .null, .null, .null, .null, .null, .int (nI 0), .null, .null, .null])), (q1, .inl (k.1, 7, .inl pw_Z)), (q2, .inl (k.1, 7, .inl pw_Z)), (q3, .inl (k.1, 7, .inl pw_Z)), (q6, .inl (k.1, 9, .inl pw_Z))] H := hP
  have hD : va_D A [(h0, .inr (0, [.int (nI 0), .ref q1, .ref q2, .ref q3, .int (nI 0), .int (nI 0), .ref q6, .null, .null, .null, .null, .null, .null, .null, .null, .null, .int (nI 0), .null, .null, .null])), (q1, .inl (k.1, 7, .inl pw_Z)), (q2, .inl (k.1, 7, .inl pw_Z)), (q3, .inl (k.1, 7, .inl pw_Z)), (q6, .inl (k.1, 9, .inl pw_Z))] := hD
  refine lv_aload_n hx hb dX0_init_36 rfl (lv_at hl 0 rfl) ?_
  refine lv_bipush (v := nI 9) hx hb dX0_init_37 (by decide) ?_
  refine va_newa (atype := .int) (ty := .int) (N' := 9) (a0 := (9, .inl pw_Z)) hx hb (hts _ q101) rfl hK hP hD hS hA (fun cA => rfl) (by decide) (by decide) (by decide) (Nat.le_of_ble_eq_true rfl) (Nat.le_of_ble_eq_true rfl) dX0_init_39 (fun q7 cA H hK1 hP hD hS => ?_)
  have eA := gx_cI hK hK1
  subst eA
  refine W.widen (k := 5) (n := 39) (Nat.le_of_ble_eq_true rfl) (Nat.le_of_ble_eq_true rfl) ?_
  refine va_putF (D := D) (ci := 0) (v := .ref q7) (ty := .array .int) (C := RX0) (T := TX0) (N := 20) hx hb hts in_X0 tyX0 tyX0_ok nmX0 hown hK hP hD hS 0 rfl rfl 7 (by decide) (hts _ q47) (fun _ h9 => h9) rfl hin rfl (by decide +kernel) rfl rfl (Nat.le_of_ble_eq_true rfl) dX0_init_41 (fun H locs hP hD hS => ?_)
  have hP : va_P D vwCl [(h0, .inr (0, [.int (nI 0), .ref q1, .ref q2, .ref q3, .int (nI 0), .int (nI 0), .ref q6, .ref q7, .null, .null, .null, .null, .null, .null, .null, .null, .int (nI 0), .null, .null, .null])), (q1, .inl (k.1, 7, .inl pw_Z)), (q2, .inl (k.1, 7, .inl pw_Z)), (q3, .inl (k.1, 7, .inl pw_Z)), (q6, .inl (k.1, 9, .inl pw_Z)), (q7, .inl (k.1, 9, .inl pw_Z))] H := hP
  have hD : va_D A [(h0, .inr (0, [.int (nI 0), .ref q1, .ref q2, .ref q3, .int (nI 0), .int (nI 0), .ref q6, .ref q7, .null, .null, .null, .null, .null, .null, .null, .null, .int (nI 0), .null, .null, .null])), (q1, .inl (k.1, 7, .inl pw_Z)), (q2, .inl (k.1, 7, .inl pw_Z)), (q3, .inl (k.1, 7, .inl pw_Z)), (q6, .inl (k.1, 9, .inl pw_Z)), (q7, .inl (k.1, 9, .inl pw_Z))] := hD
  refine lv_aload_n hx hb dX0_init_44 rfl (lv_at hl 0 rfl) ?_
  refine lv_bipush (v := nI 72) hx hb dX0_init_45 (by decide) ?_
  refine va_newa (atype := .int) (ty := .int) (N' := 72) (a0 := (72, .inl pw_Z)) hx hb (hts _ q101) rfl hK hP hD hS hA (fun cA => rfl) (by decide) (by decide) (by decide) (Nat.le_of_ble_eq_true rfl) (Nat.le_of_ble_eq_true rfl) dX0_init_47 (fun q8 cA H hK1 hP hD hS => ?_)
  have eA := gx_cI hK hK1
  subst eA
  refine W.widen (k := 6) (n := 111) (Nat.le_of_ble_eq_true rfl) (Nat.le_of_ble_eq_true rfl) ?_
  refine va_putF (D := D) (ci := 0) (v := .ref q8) (ty := .array .int) (C := RX0) (T := TX0) (N := 20) hx hb hts in_X0 tyX0 tyX0_ok nmX0 hown hK hP hD hS 0 rfl rfl 8 (by decide) (hts _ q48) (fun _ h9 => h9) rfl hin rfl (by decide +kernel) rfl rfl (Nat.le_of_ble_eq_true rfl) dX0_init_49 (fun H locs hP hD hS => ?_)
  have hP : va_P D vwCl [(h0, .inr (0, [.int (nI 0), .ref q1, .ref q2, .ref q3, .int (nI 0), .int (nI 0), .ref q6, .ref q7, .ref q8, .null, .null, .null, .null, .null, .null, .null, .int (nI 0), .null, .null, .null])), (q1, .inl (k.1, 7, .inl pw_Z)), (q2, .inl (k.1, 7, .inl pw_Z)), (q3, .inl (k.1, 7, .inl pw_Z)), (q6, .inl (k.1, 9, .inl pw_Z)), (q7, .inl (k.1, 9, .inl pw_Z)), (q8, .inl (k.1, 72, .inl pw_Z))] H := hP
  have hD : va_D A [(h0, .inr (0, [.int (nI 0), .ref q1, .ref q2, .ref q3, .int (nI 0), .int (nI 0), .ref q6, .ref q7, .ref q8, .null, .null, .null, .null, .null, .null, .null, .int (nI 0), .null, .null, .null])), (q1, .inl (k.1, 7, .inl pw_Z)), (q2, .inl (k.1, 7, .inl pw_Z)), (q3, .inl (k.1, 7, .inl pw_Z)), (q6, .inl (k.1, 9, .inl pw_Z)), (q7, .inl (k.1, 9, .inl pw_Z)), (q8, .inl (k.1, 72, .inl pw_Z))] := hD
  refine lv_aload_n hx hb dX0_init_52 rfl (lv_at hl 0 rfl) ?_
  refine lv_sipush (v := nI 135) hx hb dX0_init_53 (by decide) ?_
  refine va_newa (atype := .int) (ty := .int) (N' := 135) (a0 := (135, .inl pw_Z)) hx hb (hts _ q101) rfl hK hP hD hS hA (fun cA => rfl) (by decide) (by decide) (by decide) (Nat.le_of_ble_eq_true rfl) (Nat.le_of_ble_eq_true rfl) dX0_init_56 (fun q9 cA H hK1 hP hD hS => ?_)
  have eA := gx_cI hK hK1
  subst eA
  refine W.widen (k := 7) (n := 246) (Nat.le_of_ble_eq_true rfl) (Nat.le_of_ble_eq_true rfl) ?_
  refine va_putF (D := D) (ci := 0) (v := .ref q9) (ty := .array .int) (C := RX0) (T := TX0) (N := 20) hx hb hts in_X0 tyX0 tyX0_ok nmX0 hown hK hP hD hS 0 rfl rfl 9 (by decide) (hts _ q49) (fun _ h9 => h9) rfl hin rfl (by decide +kernel) rfl rfl (Nat.le_of_ble_eq_true rfl) dX0_init_58 (fun H locs hP hD hS => ?_)
  have hP : va_P D vwCl [(h0, .inr (0, [.int (nI 0), .ref q1, .ref q2, .ref q3, .int (nI 0), .int (nI 0), .ref q6, .ref q7, .ref q8, .ref q9, .null, .null, .null, .null, .null, .null, .int (nI 0), .null, .null, .null])), (q1, .inl (k.1, 7, .inl pw_Z)), (q2, .inl (k.1, 7, .inl pw_Z)), (q3, .inl (k.1, 7, .inl pw_Z)), (q6, .inl (k.1, 9, .inl pw_Z)), (q7, .inl (k.1, 9, .inl pw_Z)), (q8, .inl (k.1, 72, .inl pw_Z)), (q9, .inl (k.1, 135, .inl pw_Z))] H := hP
  have hD : va_D A [(h0, .inr (0, [.int (nI 0), .ref q1, .ref q2, .ref q3, .int (nI 0), .int (nI 0), .ref q6, .ref q7, .ref q8, .ref q9, .null, .null, .null, .null, .null, .null, .int (nI 0), .null, .null, .null])), (q1, .inl (k.1, 7, .inl pw_Z)), (q2, .inl (k.1, 7, .inl pw_Z)), (q3, .inl (k.1, 7, .inl pw_Z)), (q6, .inl (k.1, 9, .inl pw_Z)), (q7, .inl (k.1, 9, .inl pw_Z)), (q8, .inl (k.1, 72, .inl pw_Z)), (q9, .inl (k.1, 135, .inl pw_Z))] := hD
  refine lv_aload_n hx hb dX0_init_61 rfl (lv_at hl 0 rfl) ?_
  refine lv_bipush (v := nI 15) hx hb dX0_init_62 (by decide) ?_
  refine va_newa (atype := .int) (ty := .int) (N' := 15) (a0 := (15, .inl pw_Z)) hx hb (hts _ q101) rfl hK hP hD hS hA (fun cA => rfl) (by decide) (by decide) (by decide) (Nat.le_of_ble_eq_true rfl) (Nat.le_of_ble_eq_true rfl) dX0_init_64 (fun q10 cA H hK1 hP hD hS => ?_)
  have eA := gx_cI hK hK1
  subst eA
  refine W.widen (k := 8) (n := 261) (Nat.le_of_ble_eq_true rfl) (Nat.le_of_ble_eq_true rfl) ?_
  refine va_putF (D := D) (ci := 0) (v := .ref q10) (ty := .array .int) (C := RX0) (T := TX0) (N := 20) hx hb hts in_X0 tyX0 tyX0_ok nmX0 hown hK hP hD hS 0 rfl rfl 10 (by decide) (hts _ q50) (fun _ h9 => h9) rfl hin rfl (by decide +kernel) rfl rfl (Nat.le_of_ble_eq_true rfl) dX0_init_66 (fun H locs hP hD hS => ?_)
  have hP : va_P D vwCl [(h0, .inr (0, [.int (nI 0), .ref q1, .ref q2, .ref q3, .int (nI 0), .int (nI 0), .ref q6, .ref q7, .ref q8, .ref q9, .ref q10, .null, .null, .null, .null, .null, .int (nI 0), .null, .null, .null])), (q1, .inl (k.1, 7, .inl pw_Z)), (q2, .inl (k.1, 7, .inl pw_Z)), (q3, .inl (k.1, 7, .inl pw_Z)), (q6, .inl (k.1, 9, .inl pw_Z)), (q7, .inl (k.1, 9, .inl pw_Z)), (q8, .inl (k.1, 72, .inl pw_Z)), (q9, .inl (k.1, 135, .inl pw_Z)), (q10, .inl (k.1, 15, .inl pw_Z))] H := hP
  have hD : va_D A [(h0, .inr (0, [.int (nI 0), .ref q1, .ref q2, .ref q3, .int (nI 0), .int (nI 0), .ref q6, .ref q7, .ref q8, .ref q9, .ref q10, .null, .null, .null, .null, .null, .int (nI 0), .null, .null, .null])), (q1, .inl (k.1, 7, .inl pw_Z)), (q2, .inl (k.1, 7, .inl pw_Z)), (q3, .inl (k.1, 7, .inl pw_Z)), (q6, .inl (k.1, 9, .inl pw_Z)), (q7, .inl (k.1, 9, .inl pw_Z)), (q8, .inl (k.1, 72, .inl pw_Z)), (q9, .inl (k.1, 135, .inl pw_Z)), (q10, .inl (k.1, 15, .inl pw_Z))] := hD
  refine lv_aload_n hx hb dX0_init_69 rfl (lv_at hl 0 rfl) ?_
  refine lv_bipush (v := nI 36) hx hb dX0_init_70 (by decide) ?_
  refine va_newa (atype := .long) (ty := .long) (N' := 36) (a0 := (36, .inr (.inl pw_ZJ))) hx hb (hts _ q102) rfl hK hP hD hS hA (fun cA => rfl) (by decide) (by decide) (by decide) (Nat.le_of_ble_eq_true rfl) (Nat.le_of_ble_eq_true rfl) dX0_init_72 (fun q11 cA H hK1 hP hD hS => ?_)
  have eA := gx_cJ hK hK1
  subst eA
  refine W.widen (k := 9) (n := 297) (Nat.le_of_ble_eq_true rfl) (Nat.le_of_ble_eq_true rfl) ?_
  refine va_putF (D := D) (ci := 0) (v := .ref q11) (ty := .array .long) (C := RX0) (T := TX0) (N := 20) hx hb hts in_X0 tyX0 tyX0_ok nmX0 hown hK hP hD hS 0 rfl rfl 11 (by decide) (hts _ q51) (fun _ h9 => h9) rfl hin rfl (by decide +kernel) rfl rfl (Nat.le_of_ble_eq_true rfl) dX0_init_74 (fun H locs hP hD hS => ?_)
  have hP : va_P D vwCl [(h0, .inr (0, [.int (nI 0), .ref q1, .ref q2, .ref q3, .int (nI 0), .int (nI 0), .ref q6, .ref q7, .ref q8, .ref q9, .ref q10, .ref q11, .null, .null, .null, .null, .int (nI 0), .null, .null, .null])), (q1, .inl (k.1, 7, .inl pw_Z)), (q2, .inl (k.1, 7, .inl pw_Z)), (q3, .inl (k.1, 7, .inl pw_Z)), (q6, .inl (k.1, 9, .inl pw_Z)), (q7, .inl (k.1, 9, .inl pw_Z)), (q8, .inl (k.1, 72, .inl pw_Z)), (q9, .inl (k.1, 135, .inl pw_Z)), (q10, .inl (k.1, 15, .inl pw_Z)), (q11, .inl (k.2.1, 36, .inr (.inl pw_ZJ)))] H := hP
  have hD : va_D A [(h0, .inr (0, [.int (nI 0), .ref q1, .ref q2, .ref q3, .int (nI 0), .int (nI 0), .ref q6, .ref q7, .ref q8, .ref q9, .ref q10, .ref q11, .null, .null, .null, .null, .int (nI 0), .null, .null, .null])), (q1, .inl (k.1, 7, .inl pw_Z)), (q2, .inl (k.1, 7, .inl pw_Z)), (q3, .inl (k.1, 7, .inl pw_Z)), (q6, .inl (k.1, 9, .inl pw_Z)), (q7, .inl (k.1, 9, .inl pw_Z)), (q8, .inl (k.1, 72, .inl pw_Z)), (q9, .inl (k.1, 135, .inl pw_Z)), (q10, .inl (k.1, 15, .inl pw_Z)), (q11, .inl (k.2.1, 36, .inr (.inl pw_ZJ)))] := hD
  refine lv_aload_n hx hb dX0_init_77 rfl (lv_at hl 0 rfl) ?_
  refine lv_bipush (v := nI 36) hx hb dX0_init_78 (by decide) ?_
  refine va_newa (atype := .long) (ty := .long) (N' := 36) (a0 := (36, .inr (.inl pw_ZJ))) hx hb (hts _ q102) rfl hK hP hD hS hA (fun cA => rfl) (by decide) (by decide) (by decide) (Nat.le_of_ble_eq_true rfl) (Nat.le_of_ble_eq_true rfl) dX0_init_80 (fun q12 cA H hK1 hP hD hS => ?_)
  have eA := gx_cJ hK hK1
  subst eA
  refine W.widen (k := 10) (n := 333) (Nat.le_of_ble_eq_true rfl) (Nat.le_of_ble_eq_true rfl) ?_
  refine va_putF (D := D) (ci := 0) (v := .ref q12) (ty := .array .long) (C := RX0) (T := TX0) (N := 20) hx hb hts in_X0 tyX0 tyX0_ok nmX0 hown hK hP hD hS 0 rfl rfl 12 (by decide) (hts _ q52) (fun _ h9 => h9) rfl hin rfl (by decide +kernel) rfl rfl (Nat.le_of_ble_eq_true rfl) dX0_init_82 (fun H locs hP hD hS => ?_)
  have hP : va_P D vwCl [(h0, .inr (0, [.int (nI 0), .ref q1, .ref q2, .ref q3, .int (nI 0), .int (nI 0), .ref q6, .ref q7, .ref q8, .ref q9, .ref q10, .ref q11, .ref q12, .null, .null, .null, .int (nI 0), .null, .null, .null])), (q1, .inl (k.1, 7, .inl pw_Z)), (q2, .inl (k.1, 7, .inl pw_Z)), (q3, .inl (k.1, 7, .inl pw_Z)), (q6, .inl (k.1, 9, .inl pw_Z)), (q7, .inl (k.1, 9, .inl pw_Z)), (q8, .inl (k.1, 72, .inl pw_Z)), (q9, .inl (k.1, 135, .inl pw_Z)), (q10, .inl (k.1, 15, .inl pw_Z)), (q11, .inl (k.2.1, 36, .inr (.inl pw_ZJ))), (q12, .inl (k.2.1, 36, .inr (.inl pw_ZJ)))] H := hP
  have hD : va_D A [(h0, .inr (0, [.int (nI 0), .ref q1, .ref q2, .ref q3, .int (nI 0), .int (nI 0), .ref q6, .ref q7, .ref q8, .ref q9, .ref q10, .ref q11, .ref q12, .null, .null, .null, .int (nI 0), .null, .null, .null])), (q1, .inl (k.1, 7, .inl pw_Z)), (q2, .inl (k.1, 7, .inl pw_Z)), (q3, .inl (k.1, 7, .inl pw_Z)), (q6, .inl (k.1, 9, .inl pw_Z)), (q7, .inl (k.1, 9, .inl pw_Z)), (q8, .inl (k.1, 72, .inl pw_Z)), (q9, .inl (k.1, 135, .inl pw_Z)), (q10, .inl (k.1, 15, .inl pw_Z)), (q11, .inl (k.2.1, 36, .inr (.inl pw_ZJ))), (q12, .inl (k.2.1, 36, .inr (.inl pw_ZJ)))] := hD
  refine lv_aload_n hx hb dX0_init_85 rfl (lv_at hl 0 rfl) ?_
  refine lv_bipush (v := nI 9) hx hb dX0_init_86 (by decide) ?_
  refine va_newa (atype := .int) (ty := .int) (N' := 9) (a0 := (9, .inl pw_Z)) hx hb (hts _ q101) rfl hK hP hD hS hA (fun cA => rfl) (by decide) (by decide) (by decide) (Nat.le_of_ble_eq_true rfl) (Nat.le_of_ble_eq_true rfl) dX0_init_88 (fun q13 cA H hK1 hP hD hS => ?_)
  have eA := gx_cI hK hK1
  subst eA
  refine W.widen (k := 11) (n := 342) (Nat.le_of_ble_eq_true rfl) (Nat.le_of_ble_eq_true rfl) ?_
  refine va_putF (D := D) (ci := 0) (v := .ref q13) (ty := .array .int) (C := RX0) (T := TX0) (N := 20) hx hb hts in_X0 tyX0 tyX0_ok nmX0 hown hK hP hD hS 0 rfl rfl 13 (by decide) (hts _ q53) (fun _ h9 => h9) rfl hin rfl (by decide +kernel) rfl rfl (Nat.le_of_ble_eq_true rfl) dX0_init_90 (fun H locs hP hD hS => ?_)
  have hP : va_P D vwCl [(h0, .inr (0, [.int (nI 0), .ref q1, .ref q2, .ref q3, .int (nI 0), .int (nI 0), .ref q6, .ref q7, .ref q8, .ref q9, .ref q10, .ref q11, .ref q12, .ref q13, .null, .null, .int (nI 0), .null, .null, .null])), (q1, .inl (k.1, 7, .inl pw_Z)), (q2, .inl (k.1, 7, .inl pw_Z)), (q3, .inl (k.1, 7, .inl pw_Z)), (q6, .inl (k.1, 9, .inl pw_Z)), (q7, .inl (k.1, 9, .inl pw_Z)), (q8, .inl (k.1, 72, .inl pw_Z)), (q9, .inl (k.1, 135, .inl pw_Z)), (q10, .inl (k.1, 15, .inl pw_Z)), (q11, .inl (k.2.1, 36, .inr (.inl pw_ZJ))), (q12, .inl (k.2.1, 36, .inr (.inl pw_ZJ))), (q13, .inl (k.1, 9, .inl pw_Z))] H := hP
  have hD : va_D A [(h0, .inr (0, [.int (nI 0), .ref q1, .ref q2, .ref q3, .int (nI 0), .int (nI 0), .ref q6, .ref q7, .ref q8, .ref q9, .ref q10, .ref q11, .ref q12, .ref q13, .null, .null, .int (nI 0), .null, .null, .null])), (q1, .inl (k.1, 7, .inl pw_Z)), (q2, .inl (k.1, 7, .inl pw_Z)), (q3, .inl (k.1, 7, .inl pw_Z)), (q6, .inl (k.1, 9, .inl pw_Z)), (q7, .inl (k.1, 9, .inl pw_Z)), (q8, .inl (k.1, 72, .inl pw_Z)), (q9, .inl (k.1, 135, .inl pw_Z)), (q10, .inl (k.1, 15, .inl pw_Z)), (q11, .inl (k.2.1, 36, .inr (.inl pw_ZJ))), (q12, .inl (k.2.1, 36, .inr (.inl pw_ZJ))), (q13, .inl (k.1, 9, .inl pw_Z))] := hD
  refine lv_aload_n hx hb dX0_init_93 rfl (lv_at hl 0 rfl) ?_
  refine lv_bipush (v := nI 9) hx hb dX0_init_94 (by decide) ?_
  refine va_newa (atype := .int) (ty := .int) (N' := 9) (a0 := (9, .inl pw_Z)) hx hb (hts _ q101) rfl hK hP hD hS hA (fun cA => rfl) (by decide) (by decide) (by decide) (Nat.le_of_ble_eq_true rfl) (Nat.le_of_ble_eq_true rfl) dX0_init_96 (fun q14 cA H hK1 hP hD hS => ?_)
  have eA := gx_cI hK hK1
  subst eA
  refine W.widen (k := 12) (n := 351) (Nat.le_of_ble_eq_true rfl) (Nat.le_of_ble_eq_true rfl) ?_
  refine va_putF (D := D) (ci := 0) (v := .ref q14) (ty := .array .int) (C := RX0) (T := TX0) (N := 20) hx hb hts in_X0 tyX0 tyX0_ok nmX0 hown hK hP hD hS 0 rfl rfl 14 (by decide) (hts _ q54) (fun _ h9 => h9) rfl hin rfl (by decide +kernel) rfl rfl (Nat.le_of_ble_eq_true rfl) dX0_init_98 (fun H locs hP hD hS => ?_)
  have hP : va_P D vwCl [(h0, .inr (0, [.int (nI 0), .ref q1, .ref q2, .ref q3, .int (nI 0), .int (nI 0), .ref q6, .ref q7, .ref q8, .ref q9, .ref q10, .ref q11, .ref q12, .ref q13, .ref q14, .null, .int (nI 0), .null, .null, .null])), (q1, .inl (k.1, 7, .inl pw_Z)), (q2, .inl (k.1, 7, .inl pw_Z)), (q3, .inl (k.1, 7, .inl pw_Z)), (q6, .inl (k.1, 9, .inl pw_Z)), (q7, .inl (k.1, 9, .inl pw_Z)), (q8, .inl (k.1, 72, .inl pw_Z)), (q9, .inl (k.1, 135, .inl pw_Z)), (q10, .inl (k.1, 15, .inl pw_Z)), (q11, .inl (k.2.1, 36, .inr (.inl pw_ZJ))), (q12, .inl (k.2.1, 36, .inr (.inl pw_ZJ))), (q13, .inl (k.1, 9, .inl pw_Z)), (q14, .inl (k.1, 9, .inl pw_Z))] H := hP
  have hD : va_D A [(h0, .inr (0, [.int (nI 0), .ref q1, .ref q2, .ref q3, .int (nI 0), .int (nI 0), .ref q6, .ref q7, .ref q8, .ref q9, .ref q10, .ref q11, .ref q12, .ref q13, .ref q14, .null, .int (nI 0), .null, .null, .null])), (q1, .inl (k.1, 7, .inl pw_Z)), (q2, .inl (k.1, 7, .inl pw_Z)), (q3, .inl (k.1, 7, .inl pw_Z)), (q6, .inl (k.1, 9, .inl pw_Z)), (q7, .inl (k.1, 9, .inl pw_Z)), (q8, .inl (k.1, 72, .inl pw_Z)), (q9, .inl (k.1, 135, .inl pw_Z)), (q10, .inl (k.1, 15, .inl pw_Z)), (q11, .inl (k.2.1, 36, .inr (.inl pw_ZJ))), (q12, .inl (k.2.1, 36, .inr (.inl pw_ZJ))), (q13, .inl (k.1, 9, .inl pw_Z)), (q14, .inl (k.1, 9, .inl pw_Z))] := hD
  refine lv_aload_n hx hb dX0_init_101 rfl (lv_at hl 0 rfl) ?_
  refine lv_bipush (v := nI 9) hx hb dX0_init_102 (by decide) ?_
  refine va_newa (atype := .int) (ty := .int) (N' := 9) (a0 := (9, .inl pw_Z)) hx hb (hts _ q101) rfl hK hP hD hS hA (fun cA => rfl) (by decide) (by decide) (by decide) (Nat.le_of_ble_eq_true rfl) (Nat.le_of_ble_eq_true rfl) dX0_init_104 (fun q15 cA H hK1 hP hD hS => ?_)
  have eA := gx_cI hK hK1
  subst eA
  refine W.widen (k := 13) (n := 360) (Nat.le_of_ble_eq_true rfl) (Nat.le_of_ble_eq_true rfl) ?_
  refine va_putF (D := D) (ci := 0) (v := .ref q15) (ty := .array .int) (C := RX0) (T := TX0) (N := 20) hx hb hts in_X0 tyX0 tyX0_ok nmX0 hown hK hP hD hS 0 rfl rfl 15 (by decide) (hts _ q55) (fun _ h9 => h9) rfl hin rfl (by decide +kernel) rfl rfl (Nat.le_of_ble_eq_true rfl) dX0_init_106 (fun H locs hP hD hS => ?_)
  have hP : va_P D vwCl [(h0, .inr (0, [.int (nI 0), .ref q1, .ref q2, .ref q3, .int (nI 0), .int (nI 0), .ref q6, .ref q7, .ref q8, .ref q9, .ref q10, .ref q11, .ref q12, .ref q13, .ref q14, .ref q15, .int (nI 0), .null, .null, .null])), (q1, .inl (k.1, 7, .inl pw_Z)), (q2, .inl (k.1, 7, .inl pw_Z)), (q3, .inl (k.1, 7, .inl pw_Z)), (q6, .inl (k.1, 9, .inl pw_Z)), (q7, .inl (k.1, 9, .inl pw_Z)), (q8, .inl (k.1, 72, .inl pw_Z)), (q9, .inl (k.1, 135, .inl pw_Z)), (q10, .inl (k.1, 15, .inl pw_Z)), (q11, .inl (k.2.1, 36, .inr (.inl pw_ZJ))), (q12, .inl (k.2.1, 36, .inr (.inl pw_ZJ))), (q13, .inl (k.1, 9, .inl pw_Z)), (q14, .inl (k.1, 9, .inl pw_Z)), (q15, .inl (k.1, 9, .inl pw_Z))] H := hP
  have hD : va_D A [(h0, .inr (0, [.int (nI 0), .ref q1, .ref q2, .ref q3, .int (nI 0), .int (nI 0), .ref q6, .ref q7, .ref q8, .ref q9, .ref q10, .ref q11, .ref q12, .ref q13, .ref q14, .ref q15, .int (nI 0), .null, .null, .null])), (q1, .inl (k.1, 7, .inl pw_Z)), (q2, .inl (k.1, 7, .inl pw_Z)), (q3, .inl (k.1, 7, .inl pw_Z)), (q6, .inl (k.1, 9, .inl pw_Z)), (q7, .inl (k.1, 9, .inl pw_Z)), (q8, .inl (k.1, 72, .inl pw_Z)), (q9, .inl (k.1, 135, .inl pw_Z)), (q10, .inl (k.1, 15, .inl pw_Z)), (q11, .inl (k.2.1, 36, .inr (.inl pw_ZJ))), (q12, .inl (k.2.1, 36, .inr (.inl pw_ZJ))), (q13, .inl (k.1, 9, .inl pw_Z)), (q14, .inl (k.1, 9, .inl pw_Z)), (q15, .inl (k.1, 9, .inl pw_Z))] := hD
  refine lv_aload_n hx hb dX0_init_109 rfl (lv_at hl 0 rfl) ?_
  refine lv_bipush (v := nI 72) hx hb dX0_init_110 (by decide) ?_
  refine va_newa (atype := .byte) (ty := .byte) (N' := 72) (a0 := (72, .inl pw_Z)) hx hb (hts _ q103) rfl hK hP hD hS hA (fun cA => rfl) (by decide) (by decide) (by decide) (Nat.le_of_ble_eq_true rfl) (Nat.le_of_ble_eq_true rfl) dX0_init_112 (fun q17 cA H hK1 hP hD hS => ?_)
  have eA := gx_cB hK hK1
  subst eA
  refine W.widen (k := 14) (n := 432) (Nat.le_of_ble_eq_true rfl) (Nat.le_of_ble_eq_true rfl) ?_
  refine va_putF (D := D) (ci := 0) (v := .ref q17) (ty := .array .byte) (C := RX0) (T := TX0) (N := 20) hx hb hts in_X0 tyX0 tyX0_ok nmX0 hown hK hP hD hS 0 rfl rfl 17 (by decide) (hts _ q57) (fun _ h9 => h9) rfl hin rfl (by decide +kernel) rfl rfl (Nat.le_of_ble_eq_true rfl) dX0_init_114 (fun H locs hP hD hS => ?_)
  have hP : va_P D vwCl [(h0, .inr (0, [.int (nI 0), .ref q1, .ref q2, .ref q3, .int (nI 0), .int (nI 0), .ref q6, .ref q7, .ref q8, .ref q9, .ref q10, .ref q11, .ref q12, .ref q13, .ref q14, .ref q15, .int (nI 0), .ref q17, .null, .null])), (q1, .inl (k.1, 7, .inl pw_Z)), (q2, .inl (k.1, 7, .inl pw_Z)), (q3, .inl (k.1, 7, .inl pw_Z)), (q6, .inl (k.1, 9, .inl pw_Z)), (q7, .inl (k.1, 9, .inl pw_Z)), (q8, .inl (k.1, 72, .inl pw_Z)), (q9, .inl (k.1, 135, .inl pw_Z)), (q10, .inl (k.1, 15, .inl pw_Z)), (q11, .inl (k.2.1, 36, .inr (.inl pw_ZJ))), (q12, .inl (k.2.1, 36, .inr (.inl pw_ZJ))), (q13, .inl (k.1, 9, .inl pw_Z)), (q14, .inl (k.1, 9, .inl pw_Z)), (q15, .inl (k.1, 9, .inl pw_Z)), (q17, .inl (k.2.2.1, 72, .inl pw_Z))] H := hP
  have hD : va_D A [(h0, .inr (0, [.int (nI 0), .ref q1, .ref q2, .ref q3, .int (nI 0), .int (nI 0), .ref q6, .ref q7, .ref q8, .ref q9, .ref q10, .ref q11, .ref q12, .ref q13, .ref q14, .ref q15, .int (nI 0), .ref q17, .null, .null])), (q1, .inl (k.1, 7, .inl pw_Z)), (q2, .inl (k.1, 7, .inl pw_Z)), (q3, .inl (k.1, 7, .inl pw_Z)), (q6, .inl (k.1, 9, .inl pw_Z)), (q7, .inl (k.1, 9, .inl pw_Z)), (q8, .inl (k.1, 72, .inl pw_Z)), (q9, .inl (k.1, 135, .inl pw_Z)), (q10, .inl (k.1, 15, .inl pw_Z)), (q11, .inl (k.2.1, 36, .inr (.inl pw_ZJ))), (q12, .inl (k.2.1, 36, .inr (.inl pw_ZJ))), (q13, .inl (k.1, 9, .inl pw_Z)), (q14, .inl (k.1, 9, .inl pw_Z)), (q15, .inl (k.1, 9, .inl pw_Z)), (q17, .inl (k.2.2.1, 72, .inl pw_Z))] := hD
  refine lv_aload_n hx hb dX0_init_117 rfl (lv_at hl 0 rfl) ?_
  refine lv_bipush (v := nI 72) hx hb dX0_init_118 (by decide) ?_
  refine va_newa (atype := .byte) (ty := .byte) (N' := 72) (a0 := (72, .inl pw_Z)) hx hb (hts _ q103) rfl hK hP hD hS hA (fun cA => rfl) (by decide) (by decide) (by decide) (Nat.le_of_ble_eq_true rfl) (Nat.le_of_ble_eq_true rfl) dX0_init_120 (fun q18 cA H hK1 hP hD hS => ?_)
  have eA := gx_cB hK hK1
  subst eA
  refine W.widen (k := 15) (n := 504) (Nat.le_of_ble_eq_true rfl) (Nat.le_of_ble_eq_true rfl) ?_
  refine va_putF (D := D) (ci := 0) (v := .ref q18) (ty := .array .byte) (C := RX0) (T := TX0) (N := 20) hx hb hts in_X0 tyX0 tyX0_ok nmX0 hown hK hP hD hS 0 rfl rfl 18 (by decide) (hts _ q58) (fun _ h9 => h9) rfl hin rfl (by decide +kernel) rfl rfl (Nat.le_of_ble_eq_true rfl) dX0_init_122 (fun H locs hP hD hS => ?_)
  have hP : va_P D vwCl [(h0, .inr (0, [.int (nI 0), .ref q1, .ref q2, .ref q3, .int (nI 0), .int (nI 0), .ref q6, .ref q7, .ref q8, .ref q9, .ref q10, .ref q11, .ref q12, .ref q13, .ref q14, .ref q15, .int (nI 0), .ref q17, .ref q18, .null])), (q1, .inl (k.1, 7, .inl pw_Z)), (q2, .inl (k.1, 7, .inl pw_Z)), (q3, .inl (k.1, 7, .inl pw_Z)), (q6, .inl (k.1, 9, .inl pw_Z)), (q7, .inl (k.1, 9, .inl pw_Z)), (q8, .inl (k.1, 72, .inl pw_Z)), (q9, .inl (k.1, 135, .inl pw_Z)), (q10, .inl (k.1, 15, .inl pw_Z)), (q11, .inl (k.2.1, 36, .inr (.inl pw_ZJ))), (q12, .inl (k.2.1, 36, .inr (.inl pw_ZJ))), (q13, .inl (k.1, 9, .inl pw_Z)), (q14, .inl (k.1, 9, .inl pw_Z)), (q15, .inl (k.1, 9, .inl pw_Z)), (q17, .inl (k.2.2.1, 72, .inl pw_Z)), (q18, .inl (k.2.2.1, 72, .inl pw_Z))] H := hP
  have hD : va_D A [(h0, .inr (0, [.int (nI 0), .ref q1, .ref q2, .ref q3, .int (nI 0), .int (nI 0), .ref q6, .ref q7, .ref q8, .ref q9, .ref q10, .ref q11, .ref q12, .ref q13, .ref q14, .ref q15, .int (nI 0), .ref q17, .ref q18, .null])), (q1, .inl (k.1, 7, .inl pw_Z)), (q2, .inl (k.1, 7, .inl pw_Z)), (q3, .inl (k.1, 7, .inl pw_Z)), (q6, .inl (k.1, 9, .inl pw_Z)), (q7, .inl (k.1, 9, .inl pw_Z)), (q8, .inl (k.1, 72, .inl pw_Z)), (q9, .inl (k.1, 135, .inl pw_Z)), (q10, .inl (k.1, 15, .inl pw_Z)), (q11, .inl (k.2.1, 36, .inr (.inl pw_ZJ))), (q12, .inl (k.2.1, 36, .inr (.inl pw_ZJ))), (q13, .inl (k.1, 9, .inl pw_Z)), (q14, .inl (k.1, 9, .inl pw_Z)), (q15, .inl (k.1, 9, .inl pw_Z)), (q17, .inl (k.2.2.1, 72, .inl pw_Z)), (q18, .inl (k.2.2.1, 72, .inl pw_Z))] := hD
  refine lv_aload_n hx hb dX0_init_125 rfl (lv_at hl 0 rfl) ?_
  refine lv_bipush (v := nI 72) hx hb dX0_init_126 (by decide) ?_
  refine va_newa (atype := .int) (ty := .int) (N' := 72) (a0 := (72, .inl pw_Z)) hx hb (hts _ q101) rfl hK hP hD hS hA (fun cA => rfl) (by decide) (by decide) (by decide) (Nat.le_of_ble_eq_true rfl) (Nat.le_of_ble_eq_true rfl) dX0_init_128 (fun q19 cA H hK1 hP hD hS => ?_)
  have eA := gx_cI hK hK1
  subst eA
  refine W.widen (k := 16) (n := 576) (Nat.le_of_ble_eq_true rfl) (Nat.le_of_ble_eq_true rfl) ?_
  refine va_putF (D := D) (ci := 0) (v := .ref q19) (ty := .array .int) (C := RX0) (T := TX0) (N := 20) hx hb hts in_X0 tyX0 tyX0_ok nmX0 hown hK hP hD hS 0 rfl rfl 19 (by decide) (hts _ q59) (fun _ h9 => h9) rfl hin rfl (by decide +kernel) rfl rfl (Nat.le_of_ble_eq_true rfl) dX0_init_130 (fun H locs hP hD hS => ?_)
  have hP : va_P D vwCl [(h0, .inr (0, [.int (nI 0), .ref q1, .ref q2, .ref q3, .int (nI 0), .int (nI 0), .ref q6, .ref q7, .ref q8, .ref q9, .ref q10, .ref q11, .ref q12, .ref q13, .ref q14, .ref q15, .int (nI 0), .ref q17, .ref q18, .ref q19])), (q1, .inl (k.1, 7, .inl pw_Z)), (q2, .inl (k.1, 7, .inl pw_Z)), (q3, .inl (k.1, 7, .inl pw_Z)), (q6, .inl (k.1, 9, .inl pw_Z)), (q7, .inl (k.1, 9, .inl pw_Z)), (q8, .inl (k.1, 72, .inl pw_Z)), (q9, .inl (k.1, 135, .inl pw_Z)), (q10, .inl (k.1, 15, .inl pw_Z)), (q11, .inl (k.2.1, 36, .inr (.inl pw_ZJ))), (q12, .inl (k.2.1, 36, .inr (.inl pw_ZJ))), (q13, .inl (k.1, 9, .inl pw_Z)), (q14, .inl (k.1, 9, .inl pw_Z)), (q15, .inl (k.1, 9, .inl pw_Z)), (q17, .inl (k.2.2.1, 72, .inl pw_Z)), (q18, .inl (k.2.2.1, 72, .inl pw_Z)), (q19, .inl (k.1, 72, .inl pw_Z))] H := hP
  have hD : va_D A [(h0, .inr (0, [.int (nI 0), .ref q1, .ref q2, .ref q3, .int (nI 0), .int (nI 0), .ref q6, .ref q7, .ref q8, .ref q9, .ref q10, .ref q11, .ref q12, .ref q13, .ref q14, .ref q15, .int (nI 0), .ref q17, .ref q18, .ref q19])), (q1, .inl (k.1, 7, .inl pw_Z)), (q2, .inl (k.1, 7, .inl pw_Z)), (q3, .inl (k.1, 7, .inl pw_Z)), (q6, .inl (k.1, 9, .inl pw_Z)), (q7, .inl (k.1, 9, .inl pw_Z)), (q8, .inl (k.1, 72, .inl pw_Z)), (q9, .inl (k.1, 135, .inl pw_Z)), (q10, .inl (k.1, 15, .inl pw_Z)), (q11, .inl (k.2.1, 36, .inr (.inl pw_ZJ))), (q12, .inl (k.2.1, 36, .inr (.inl pw_ZJ))), (q13, .inl (k.1, 9, .inl pw_Z)), (q14, .inl (k.1, 9, .inl pw_Z)), (q15, .inl (k.1, 9, .inl pw_Z)), (q17, .inl (k.2.2.1, 72, .inl pw_Z)), (q18, .inl (k.2.2.1, 72, .inl pw_Z)), (q19, .inl (k.1, 72, .inl pw_Z))] := hD
  exact W.vret hx hb hr (fun t ht hW => ⟨⟨(gx_ad [(0, h0), (1, q1), (2, q2), (3, q3), (6, q6), (7, q7), (8, q8), (9, q9), (10, q10), (11, q11), (12, q12), (13, q13), (14, q14), (15, q15), (17, q17), (18, q18), (19, q19)]), rfl, rfl, by rw [ht]; exact hP, va_K.moved hW.alike hK, hD⟩, hS.F ht⟩) hS.2.2 dX0_init_133
set_option maxHeartbeats 4000000 in
theorem ki_X1 (l : Launch) (D : va_G) (k : gx_C) (h0 sz : Nat) : Met l yX1_init (ws_ yX1_init cX1_init 1 none) ({ frames := 1, cells := 4, slots := 2325, locals := 12 }) (va_Pc [.ref h0] (gx_Pre D k [(h0, .inr (1, mw_f0))] sz)) (va_Qv (fun a : Nat → Nat => a 0 = h0) (fun a t => gx_Wd D k (va_A [(h0, .inr (1, mw_f0))] sz) (mw_W a k mw_S0) t) (va_A [(h0, .inr (1, mw_f0))] sz)) 4 2325 (va_A [(h0, .inr (1, mw_f0))] sz) := by
  refine Met.ofW (cc := cX1_init) (maxL := 1) (ret := none) (by decide) rfl ?_
  intro p e s m args below meth c s₁ B hml hv
  obtain ⟨rfl, hsz, hP, hK, hD0⟩ := hv
  have hx := B.exec
  have hb := B.bytes
  have hr := B.returns
  have hts := atoms_spec (ws := ws_ yX1_init cX1_init 1 none) B.pre
  have hts : ∀ w ∈ lw_all, w.before _ s = true := fun w h => hts w (List.mem_cons_of_mem _ h)
  have hown : s.vm.findClass RX1 = some m.cls := findClass_of_methodNamed B.named
  have hlocks := B.notSynchronized
  have hin : meth.name = "<init>" := (name_of_methodNamed B.named B.method).1
  subst hsz
  have hD := hD0.self (sz := s.heap.size)
  generalize hAe : va_A [(h0, .inr (1, mw_f0))] s.heap.size = A at hD ⊢
  have hA : ∀ q : Nat, s.heap.size ≤ q → A q := fun q h => by rw [← hAe]; exact Or.inr h
  have hS : va_S A s.heap s.heap [] := va_S.rf
  have hl := lv_entry ([.ref h0]) (n := 1) (Nat.le_of_ble_eq_true rfl)
  rw [lg_entry_eq]
  generalize (lg_sl ([.ref h0]) ++ List.replicate (1 - (lg_sl ([.ref h0])).length) Slot.unset).toArray = ls at hl ⊢
  have hl : lv_has ls 1 [(0, .ref h0)] := hl
  refine lv_aload_n hx hb dX1_init_0 rfl (lv_at hl 0 rfl) ?_
  refine W.objInit hx hb hown (hts _ q246) (hts _ q38) (hts _ q39) rfl (by rw [hml]; exact hl.1) rfl dX1_init_1 (Nat.le_of_ble_eq_true rfl) (Nat.le_of_ble_eq_true rfl) ?_
  refine W.eq (g2 := F0 m 4 ls []) rfl ?_
  refine lv_aload_n hx hb dX1_init_4 rfl (lv_at hl 0 rfl) ?_
  refine lv_bipush (v := nI 7) hx hb dX1_init_5 (by decide) ?_
  refine va_newa (atype := .int) (ty := .int) (N' := 7) (a0 := (7, .inl pw_Z)) hx hb (hts _ q101) rfl hK hP hD hS hA (fun cA => rfl) (by decide) (by decide) (by decide) (Nat.le_of_ble_eq_true rfl) (Nat.le_of_ble_eq_true rfl) dX1_init_7 (fun q1 cA H hK1 hP hD hS => ?_)
  have eA := gx_cI hK hK1
  subst eA
  refine W.widen (k := 1) (n := 7) (Nat.le_of_ble_eq_true rfl) (Nat.le_of_ble_eq_true rfl) ?_
  refine va_putF (D := D) (ci := 1) (v := .ref q1) (ty := .array .int) (C := RX1) (T := TX1) (N := 6) hx hb hts in_X1 tyX1 tyX1_ok nmX1 hown hK hP hD hS 0 rfl rfl 1 (by decide) (hts _ q248) (fun _ h9 => h9) rfl hin rfl (by decide +kernel) rfl rfl (Nat.le_of_ble_eq_true rfl) dX1_init_9 (fun H locs hP hD hS => ?_)
  have hP : va_P D vwCl [(h0, .inr (1, [.int (nI 0), .ref q1, .null, .null, .int (nI 0), .null])), (q1, .inl (k.1, 7, .inl pw_Z))] H := hP
  have hD : va_D A [(h0, .inr (1, [.int (nI 0), .ref q1, .null, .null, .int (nI 0), .null])), (q1, .inl (k.1, 7, .inl pw_Z))] := hD
  refine lv_aload_n hx hb dX1_init_12 rfl (lv_at hl 0 rfl) ?_
  refine lv_bipush (v := nI 7) hx hb dX1_init_13 (by decide) ?_
  refine va_newa (atype := .int) (ty := .int) (N' := 7) (a0 := (7, .inl pw_Z)) hx hb (hts _ q101) rfl hK hP hD hS hA (fun cA => rfl) (by decide) (by decide) (by decide) (Nat.le_of_ble_eq_true rfl) (Nat.le_of_ble_eq_true rfl) dX1_init_15 (fun q2 cA H hK1 hP hD hS => ?_)
  have eA := gx_cI hK hK1
  subst eA
  refine W.widen (k := 2) (n := 14) (Nat.le_of_ble_eq_true rfl) (Nat.le_of_ble_eq_true rfl) ?_
  refine va_putF (D := D) (ci := 1) (v := .ref q2) (ty := .array .int) (C := RX1) (T := TX1) (N := 6) hx hb hts in_X1 tyX1 tyX1_ok nmX1 hown hK hP hD hS 0 rfl rfl 2 (by decide) (hts _ q249) (fun _ h9 => h9) rfl hin rfl (by decide +kernel) rfl rfl (Nat.le_of_ble_eq_true rfl) dX1_init_17 (fun H locs hP hD hS => ?_)
  have hP : va_P D vwCl [(h0, .inr (1, [.int (nI 0), .ref q1, .ref q2, .null, .int (nI 0), .null])), (q1, .inl (k.1, 7, .inl pw_Z)), (q2, .inl (k.1, 7, .inl pw_Z))] H := hP
  have hD : va_D A [(h0, .inr (1, [.int (nI 0), .ref q1, .ref q2, .null, .int (nI 0), .null])), (q1, .inl (k.1, 7, .inl pw_Z)), (q2, .inl (k.1, 7, .inl pw_Z))] := hD
  refine lv_aload_n hx hb dX1_init_20 rfl (lv_at hl 0 rfl) ?_
  refine lv_bipush (v := nI 7) hx hb dX1_init_21 (by decide) ?_
  refine va_newa (atype := .int) (ty := .int) (N' := 7) (a0 := (7, .inl pw_Z)) hx hb (hts _ q101) rfl hK hP hD hS hA (fun cA => rfl) (by decide) (by decide) (by decide) (Nat.le_of_ble_eq_true rfl) (Nat.le_of_ble_eq_true rfl) dX1_init_23 (fun q3 cA H hK1 hP hD hS => ?_)
  have eA := gx_cI hK hK1
  subst eA
  refine W.widen (k := 3) (n := 21) (Nat.le_of_ble_eq_true rfl) (Nat.le_of_ble_eq_true rfl) ?_
  refine va_putF (D := D) (ci := 1) (v := .ref q3) (ty := .array .int) (C := RX1) (T := TX1) (N := 6) hx hb hts in_X1 tyX1 tyX1_ok nmX1 hown hK hP hD hS 0 rfl rfl 3 (by decide) (hts _ q250) (fun _ h9 => h9) rfl hin rfl (by decide +kernel) rfl rfl (Nat.le_of_ble_eq_true rfl) dX1_init_25 (fun H locs hP hD hS => ?_)
  have hP : va_P D vwCl [(h0, .inr (1, [.int (nI 0), .ref q1, .ref q2, .ref q3, .int (nI 0), .null])), (q1, .inl (k.1, 7, .inl pw_Z)), (q2, .inl (k.1, 7, .inl pw_Z)), (q3, .inl (k.1, 7, .inl pw_Z))] H := hP
  have hD : va_D A [(h0, .inr (1, [.int (nI 0), .ref q1, .ref q2, .ref q3, .int (nI 0), .null])), (q1, .inl (k.1, 7, .inl pw_Z)), (q2, .inl (k.1, 7, .inl pw_Z)), (q3, .inl (k.1, 7, .inl pw_Z))] := hD
  refine lv_aload_n hx hb dX1_init_28 rfl (lv_at hl 0 rfl) ?_
  refine lv_sipush (v := nI 2304) hx hb dX1_init_29 (by decide) ?_
  refine va_newa (atype := .boolean) (ty := .boolean) (N' := 2304) (a0 := (2304, .inl pw_Z)) hx hb (hts _ q266) rfl hK hP hD hS hA (fun cA => rfl) (by decide) (by decide) (by decide) (Nat.le_of_ble_eq_true rfl) (Nat.le_of_ble_eq_true rfl) dX1_init_32 (fun q5 cA H hK1 hP hD hS => ?_)
  have eA := gx_cZ hK hK1
  subst eA
  refine W.widen (k := 4) (n := 2325) (Nat.le_of_ble_eq_true rfl) (Nat.le_of_ble_eq_true rfl) ?_
  refine va_putF (D := D) (ci := 1) (v := .ref q5) (ty := .array .boolean) (C := RX1) (T := TX1) (N := 6) hx hb hts in_X1 tyX1 tyX1_ok nmX1 hown hK hP hD hS 0 rfl rfl 5 (by decide) (hts _ q252) (fun _ h9 => h9) rfl hin rfl (by decide +kernel) rfl rfl (Nat.le_of_ble_eq_true rfl) dX1_init_34 (fun H locs hP hD hS => ?_)
  have hP : va_P D vwCl [(h0, .inr (1, [.int (nI 0), .ref q1, .ref q2, .ref q3, .int (nI 0), .ref q5])), (q1, .inl (k.1, 7, .inl pw_Z)), (q2, .inl (k.1, 7, .inl pw_Z)), (q3, .inl (k.1, 7, .inl pw_Z)), (q5, .inl (k.2.2.2, 2304, .inl pw_Z))] H := hP
  have hD : va_D A [(h0, .inr (1, [.int (nI 0), .ref q1, .ref q2, .ref q3, .int (nI 0), .ref q5])), (q1, .inl (k.1, 7, .inl pw_Z)), (q2, .inl (k.1, 7, .inl pw_Z)), (q3, .inl (k.1, 7, .inl pw_Z)), (q5, .inl (k.2.2.2, 2304, .inl pw_Z))] := hD
  exact W.vret hx hb hr (fun t ht hW => ⟨⟨(gx_ad [(0, h0), (1, q1), (2, q2), (3, q3), (5, q5)]), rfl, rfl, by rw [ht]; exact hP, va_K.moved hW.alike hK, hD⟩, hS.F ht⟩) hS.2.2 dX1_init_37
end
section
/-! RULES for the law: framed calls, the script, the switch; the operations have one answer each -/
set_option maxRecDepth 100000
theorem gx_Pspl {D : va_G} {cl : List vw_C} {w1 w2 : va_W} {H : Heap} (h : va_P D cl (w1 ++ w2) H) : va_P D cl w1 H ∧ va_P D cl w2 H :=
  ⟨fun k q hk => h k q (by rw [List.getElem?_append_left (List.getElem?_eq_some_iff.mp hk).1]; exact hk), fun k q hk => h (w1.length + k) q (by rw [List.getElem?_append_right (by omega), Nat.add_sub_cancel_left]; exact hk)⟩
theorem gx_Dspl {A : Nat → Prop} {w1 w2 : va_W} (h : va_D A (w1 ++ w2)) : va_D A w1 ∧ va_D A w2 ∧ ∀ (i j : Nat) (p q : Nat × va_E), w1[i]? = some p → w2[j]? = some q → p.1 ≠ q.1 := by
  have e1 : ∀ (k : Nat) (q : Nat × va_E), w1[k]? = some q → (w1 ++ w2)[k]? = some q := fun k q hk => by rw [List.getElem?_append_left (List.getElem?_eq_some_iff.mp hk).1]; exact hk
  have e2 : ∀ (k : Nat) (q : Nat × va_E), w2[k]? = some q → (w1 ++ w2)[w1.length + k]? = some q := fun k q hk => by rw [List.getElem?_append_right (by omega), Nat.add_sub_cancel_left]; exact hk
  refine ⟨⟨fun i j p q hp hq e => h.1 i j p q (e1 i p hp) (e1 j q hq) e, fun k q hk => h.2 k q (e1 k q hk)⟩, ⟨fun i j p q hp hq e => ?_, fun k q hk => h.2 _ q (e2 k q hk)⟩, fun i j p q hp hq e => ?_⟩
  · have := h.1 _ _ p q (e2 i p hp) (e2 j q hq) e
    omega
  · have z := h.1 _ _ p q (e1 i p hp) (e2 j q hq) e
    have := (List.getElem?_eq_some_iff.mp hp).1
    omega
/-- the frame rule: what is beside a call's world stays -/
theorem gx_out {D : va_G} {w0 wr w1 : va_W} {H H1 : Heap} (hPr : va_P D vwCl wr H) (hap : ∀ (i j : Nat) (p q : Nat × va_E), w0[i]? = some p → wr[j]? = some q → p.1 ≠ q.1) (hk : ∀ q : Nat, q < H.size → ¬ va_A w0 H.size q → H1[q]? = H[q]?) (hD1 : va_D (va_A w0 H.size) w1) : va_P D vwCl wr H1 ∧ ∀ (i j : Nat) (p q : Nat × va_E), w1[i]? = some p → wr[j]? = some q → p.1 ≠ q.1 := by
  have hn : ∀ (j : Nat) (q : Nat × va_E), wr[j]? = some q → ¬ va_A w0 H.size q.1 := by
    rintro j q hq (⟨i, e, hi⟩ | h)
    · exact hap i j _ q hi hq rfl
    · have := (hPr j q hq).lt
      omega
  refine ⟨fun j q hq => (hPr j q hq).kept (hk q.1 (hPr j q hq).lt (hn j q hq)), fun i j p q hp hq e => hn j q hq ?_⟩
  rw [← e]
  exact hD1.2 i p hp
section GL
variable {X : gx_T} {cc : ByteArray} {own : String} {k : gx_C} {rm rc : Nat × Nat} {pc : Nat} {lv : List (Option Value)} {st : List Value} {S : Type} {Wd : S → va_W} {s0 : S} {y : MethodName} {bytes : ByteArray} {L idx ci n : Nat} {ty : FieldType} {C : String} {T : u_T} {N : Nat} {a0 : Nat} {As rest : List Value} {fs : List Value} {ws : va_W}
theorem gi_callIl {post : Int32 → S → Prop} {wr : va_W} (hX : gx_Ok X cc own k rm) (hC : gx_CI k y bytes L ty rc (.ref a0 :: As) Wd s0 post) (hw : gx_cw own idx C y bytes L (some ty) n) (hf : gx_fit rm rc L = true) (he : (Wd s0)[0]? = some (a0, .inr (ci, fs))) (hc : vwCl[ci]? = some (C, T, N)) (hn : As.length = n) (hst : st = As.reverse ++ .ref a0 :: rest) (hr : Nat.ble ((rest.map fun v => v.category).sum) 8 = true) (hdg : decode cc pc = .ok (.invokevirtual idx, 3))
    (kk : ∀ (r : Int32) (u : S), post r u → gx_G X (Wd u ++ wr) (pc + 3) lv (.int r :: rest)) : gx_G X (Wd s0 ++ wr) pc lv st := by
  obtain ⟨p, l, e, R, s, m, args, below, meth, c, cells, slots, Q, A, D, nL⟩ := X
  obtain ⟨hx, hb, hml, hown, hts, hK, hA, hR1, hR2, hR3, hR4⟩ := hX
  intro H locs ls hP hD hS hl
  subst hst
  obtain ⟨hf1, hf2⟩ := gx_fit_1 hf
  obtain ⟨hPl, hPr⟩ := gx_Pspl hP
  obtain ⟨hDl, hDr, hap⟩ := gx_Dspl hD
  have hFc : ∀ q, va_A (Wd s0) H.size q → A q := by
    rintro q (⟨j, ee, h⟩ | h)
    · exact hDl.2 j (q, ee) h
    · exact hA q (Nat.le_trans hS.1 h)
  refine va_calli (va_runV (As := As) (rest := rest) ⟨hx, hb, hml, hown, hts⟩ (hC l D H.size) (cwV n hts hw.1 rfl rfl rfl hw.2 ⟨by rw [hR1]; exact hf1, by rw [hR2]; exact hf2⟩) ⟨fun a U g mk q => by obtain ⟨q0, q1, qP, qK, qD⟩ := q; exact ⟨q0, q1, qP, va_K.moved (u := U) (U := U.calling g mk a) (Vm.Alike.refl U.vm) qK, qD⟩, va_recv hK hPl hc he, fun U hU hW => ⟨rfl, by rw [hU], by rw [hU]; exact hPl, va_K.moved hW.alike hK, hDl.weaken (fun _ _ _ _ => trivial)⟩⟩ rfl hn hl.1 rfl (lv_room (Nat.le_of_ble_eq_true hr)) hdg ⟨by simpa using hR3, by simpa using hR4⟩) hS (fun q _ h => hFc q h) hFc (fun r u t H1 locs1 ht hvm hp hB hz1 hk1 hS1 => ?_)
  obtain ⟨hP1, hK1, hD1⟩ := hB
  rw [ht] at hP1
  obtain ⟨hP2, hap2⟩ := gx_out hPr hap hk1 hD1
  exact kk r u hp H1 locs1 ls (va_P.app hP1 hP2) (va_D.app (hD1.weaken (fun _ q _ h => hFc q.1 h)) hDr hap2) hS1 hl
theorem gi_callIr {post : Int32 → S → Prop} {wl : va_W} (hX : gx_Ok X cc own k rm) (hC : gx_CI k y bytes L ty rc (.ref a0 :: As) Wd s0 post) (hw : gx_cw own idx C y bytes L (some ty) n) (hf : gx_fit rm rc L = true) (he : (Wd s0)[0]? = some (a0, .inr (ci, fs))) (hc : vwCl[ci]? = some (C, T, N)) (hn : As.length = n) (hst : st = As.reverse ++ .ref a0 :: rest) (hr : Nat.ble ((rest.map fun v => v.category).sum) 8 = true) (hdg : decode cc pc = .ok (.invokevirtual idx, 3))
    (kk : ∀ (r : Int32) (u : S), post r u → gx_G X (wl ++ Wd u) (pc + 3) lv (.int r :: rest)) : gx_G X (wl ++ Wd s0) pc lv st := by
  obtain ⟨p, l, e, R, s, m, args, below, meth, c, cells, slots, Q, A, D, nL⟩ := X
  obtain ⟨hx, hb, hml, hown, hts, hK, hA, hR1, hR2, hR3, hR4⟩ := hX
  intro H locs ls hP hD hS hl
  subst hst
  obtain ⟨hf1, hf2⟩ := gx_fit_1 hf
  obtain ⟨hPl, hPr⟩ := gx_Pspl hP
  obtain ⟨hDl, hDr, hap⟩ := gx_Dspl hD
  have hFc : ∀ q, va_A (Wd s0) H.size q → A q := by
    rintro q (⟨j, ee, h⟩ | h)
    · exact hDr.2 j (q, ee) h
    · exact hA q (Nat.le_trans hS.1 h)
  refine va_calli (va_runV (As := As) (rest := rest) ⟨hx, hb, hml, hown, hts⟩ (hC l D H.size) (cwV n hts hw.1 rfl rfl rfl hw.2 ⟨by rw [hR1]; exact hf1, by rw [hR2]; exact hf2⟩) ⟨fun a U g mk q => by obtain ⟨q0, q1, qP, qK, qD⟩ := q; exact ⟨q0, q1, qP, va_K.moved (u := U) (U := U.calling g mk a) (Vm.Alike.refl U.vm) qK, qD⟩, va_recv hK hPr hc he, fun U hU hW => ⟨rfl, by rw [hU], by rw [hU]; exact hPr, va_K.moved hW.alike hK, hDr.weaken (fun _ _ _ _ => trivial)⟩⟩ rfl hn hl.1 rfl (lv_room (Nat.le_of_ble_eq_true hr)) hdg ⟨by simpa using hR3, by simpa using hR4⟩) hS (fun q _ h => hFc q h) hFc (fun r u t H1 locs1 ht hvm hp hB hz1 hk1 hS1 => ?_)
  obtain ⟨hP1, hK1, hD1⟩ := hB
  rw [ht] at hP1
  obtain ⟨hP2, hap2⟩ := gx_out hPl (fun i j p q hp hq e => hap j i q p hq hp e.symm) hk1 hD1
  exact kk r u hp H1 locs1 ls (va_P.app hP2 hP1) (va_D.app hDl (hD1.weaken (fun _ q _ h => hFc q.1 h)) (fun i j p q hp hq e => hap2 j i q p hq hp e.symm)) hS1 hl
def gx_Scr (X : gx_T) (b n : Nat) (xs : Nat → Int32) : Prop :=
  match X with
  | (p, l, e, R, s, m, args, below, meth, c, cells, slots, Q, A, D, nL) => va_X b n xs s s.heap ∧ b < s.heap.size ∧ ¬ A b
theorem gi_sld {b : Nat} {xs : Nat → Int32} {i : Int32} (hX : gx_Ok X cc own k rm) (hs : gx_Scr X b n xs) (hn : n ≤ 256) (j : Nat) (hdg : decode cc pc = .ok (.iaload, 1)) (hi : i = nI j) (hj : j < n) (kk : gx_G X ws (pc + 1) lv (.int (xs j) :: st)) : gx_G X ws pc lv (.int i :: .ref b :: st) := by
  subst hi
  obtain ⟨p, l, e, R, s, m, args, below, meth, c, cells, slots, Q, A, D, nL⟩ := X
  obtain ⟨hx, hb, hml, hown, hts, hK, hA, hR⟩ := hX
  obtain ⟨s1, s2, s3⟩ := hs
  intro H locs ls hP hD hS hl
  refine va_sld hx hb s1 s2 s3 hS (vp_in_nI hj (by omega)) hdg ?_
  rw [nI_clamp (by omega)]
  exact kk H locs ls hP hD hS hl
theorem gi_slen {b : Nat} {xs : Nat → Int32} (hX : gx_Ok X cc own k rm) (hs : gx_Scr X b n xs) (hdg : decode cc pc = .ok (.arraylength, 1)) (kk : gx_G X ws (pc + 1) lv (.int (nI n) :: st)) : gx_G X ws pc lv (.ref b :: st) := by
  obtain ⟨p, l, e, R, s, m, args, below, meth, c, cells, slots, Q, A, D, nL⟩ := X
  obtain ⟨hx, hb, hml, hown, hts, hK, hA, hR⟩ := hX
  obtain ⟨s1, s2, s3⟩ := hs
  intro H locs ls hP hD hS hl
  exact va_slen hx hb s1 s2 s3 hS hdg (kk H locs ls hP hD hS hl)
theorem gi_tabIn {x : Int32} {dflt lo hi : Int} {offs : Array Int} {len : Nat} {off : Int} (tgt : Nat) (hX : gx_Ok X cc own k rm) (hdg : decode cc pc = .ok (.tableswitch dflt lo hi offs, len)) (h1 : ¬ x.toInt < lo) (h2 : ¬ hi < x.toInt) (ho : offs[(x.toInt - lo).toNat]? = some off) (ht : (pc : Int) + off = (tgt : Int)) (kk : gx_G X ws tgt lv st) : gx_G X ws pc lv (.int x :: st) := by
  obtain ⟨p, l, e, R, s, m, args, below, meth, c, cells, slots, Q, A, D, nL⟩ := X
  obtain ⟨hx, hb, hml, hown, hts, hK, hA, hR⟩ := hX
  intro H locs ls hP hD hS hl
  exact lv_tableIn hx hb hdg h1 h2 ho ht (kk H locs ls hP hD hS hl)
theorem gi_tabOut {x : Int32} {dflt lo hi : Int} {offs : Array Int} {len : Nat} (tgt : Nat) (hX : gx_Ok X cc own k rm) (hdg : decode cc pc = .ok (.tableswitch dflt lo hi offs, len)) (h : x.toInt < lo ∨ hi < x.toInt) (ht : (pc : Int) + dflt = (tgt : Int)) (kk : gx_G X ws tgt lv st) : gx_G X ws pc lv (.int x :: st) := by
  obtain ⟨p, l, e, R, s, m, args, below, meth, c, cells, slots, Q, A, D, nL⟩ := X
  obtain ⟨hx, hb, hml, hown, hts, hK, hA, hR⟩ := hX
  intro H locs ls hP hD hS hl
  exact lv_tableOut hx hb hdg h ht (kk H locs ls hP hD hS hl)
end GL
theorem gi_inc4 (a : Nat) : nI a + Int32.ofInt 4 = nI (a + 4) := nI_add a 4
theorem gx_L4 {ls : Array Slot} {v0 v1 v2 v3 : Value} (h : lv_has ls 4 [(3, v3), (2, v2), (1, v1), (0, v0)]) : gx_L ls 4 [some v0, some v1, some v2, some v3] := by
  refine ⟨h.1, rfl, h.2.1, fun i v hi => ?_⟩
  match i, hi with
  | 0, hi => rw [← show v0 = v from Option.some.inj (Option.some.inj hi)]; exact h.2.2 (0, v0) (by simp)
  | 1, hi => rw [← show v1 = v from Option.some.inj (Option.some.inj hi)]; exact h.2.2 (1, v1) (by simp)
  | 2, hi => rw [← show v2 = v from Option.some.inj (Option.some.inj hi)]; exact h.2.2 (2, v2) (by simp)
  | 3, hi => rw [← show v3 = v from Option.some.inj (Option.some.inj hi)]; exact h.2.2 (3, v3) (by simp)
  | i + 4, hi => simp at hi
/-! one answer each -/
theorem un_action {P P1 P2 : pw_P} {x y z r r2 : Int32} (h : op_action P x y z r P1) (g : op_action P x y z r2 P2) : r = r2 ∧ P1 = P2 := by
  rcases h with ⟨a1, a2, a3⟩ | ⟨a1, a2, a3, a4⟩ | ⟨a1, a2, a3, a4⟩ <;> rcases g with ⟨b1, b2, b3⟩ | ⟨b1, b2, b3, b4⟩ | ⟨b1, b2, b3, b4⟩
  · exact ⟨a2.trans b2.symm, a3.trans b3.symm⟩
  · omega
  · omega
  · omega
  · exact ⟨a3.trans b3.symm, a4.trans b4.symm⟩
  · exact absurd b2 a2
  · omega
  · exact absurd a2 b2
  · exact ⟨a3.trans b3.symm, a4.trans b4.symm⟩
theorem un_drop {P P1 P2 : pw_P} (hn : P.1 ≤ 7) {x r r2 : Int32} (h : op_drop P x r P1) (g : op_drop P x r2 P2) : r = r2 ∧ P1 = P2 := by
  rcases h with ⟨a1, a2, a3⟩ | ⟨i, n, a1, a2, a3, a4, a5⟩ <;> rcases g with ⟨b1, b2, b3⟩ | ⟨j, m, b1, b2, b3, b4, b5⟩
  · exact ⟨a2.trans b2.symm, a3.trans b3.symm⟩
  · exact absurd (by rw [b1]; exact sp_nat_act hn (by omega)) a1
  · exact absurd (by rw [a1]; exact sp_nat_act hn (by omega)) b1
  · have e1 : n = m := by omega
    have e2 : i = j := (nI_eq (by omega) (by omega)).mp (a1.symm.trans b1)
    subst e1; subst e2
    exact ⟨a4.trans b4.symm, a5.trans b5.symm⟩
theorem un_start {P P1 P2 : pw_P} {x r r2 : Int32} (h : op_start P x r P1) (g : op_start P x r2 P2) : r = r2 ∧ P1 = P2 := by
  rcases h with ⟨a1, a2, a3⟩ | ⟨a1, a2, a3⟩ <;> rcases g with ⟨b1, b2, b3⟩ | ⟨b1, b2, b3⟩
  · exact ⟨a2.trans b2.symm, a3.trans b3.symm⟩
  · exact absurd b1 a1
  · exact absurd a1 b1
  · exact ⟨a2.trans b2.symm, a3.trans b3.symm⟩
theorem un_advance {P P1 P2 : pw_P} {x r r2 : Int32} (h : op_advance P x r P1) (g : op_advance P x r2 P2) : r = r2 ∧ P1 = P2 := by
  rcases h with ⟨a1, a2, a3⟩ | ⟨a1, a2, s, a3, a4⟩ <;> rcases g with ⟨b1, b2, b3⟩ | ⟨b1, b2, t, b3, b4⟩
  · exact ⟨a2.trans b2.symm, a3.trans b3.symm⟩
  · exact absurd b1 a1
  · exact absurd a1 b1
  · refine ⟨a2.trans b2.symm, ?_⟩
    rw [a4, b4, sp_nx_un a3 b3]
theorem un_fewest {P : pw_P} {x r r2 : Int32} (h : op_fewest P x r) (g : op_fewest P x r2) : r = r2 := by
  rcases h with ⟨a1, a2⟩ | ⟨a1, ⟨j, a2, a3, a4, a5⟩ | ⟨a2, a3⟩⟩ <;> rcases g with ⟨b1, b2⟩ | ⟨b1, ⟨k, b2, b3, b4, b5⟩ | ⟨b2, b3⟩⟩
  · exact a2.trans b2.symm
  · exact absurd b1 a1
  · exact absurd b1 a1
  · exact absurd a1 b1
  · rw [a3, b3, sv_un (Q := fun j => sp_sv P P.2.2.2.2 j x) a4 a5 b4 b5]
  · exact absurd a4 (b3 j a2)
  · exact absurd a1 b1
  · exact absurd b4 (a3 k b2)
  · exact a2.trans b2.symm
theorem un_within {P : pw_P} {x r r2 : Int32} (h : op_within P x r) (g : op_within P x r2) : r = r2 := by
  have key : ∀ j, j ≤ 8 → (¬ nI j < 0 ∧ nI j ≤ nI 8) := fun j hj => ⟨nI_pos (by omega), nI_le hj (by omega)⟩
  rcases h with ⟨a1, a2⟩ | ⟨j, a1, a2, a3⟩ <;> rcases g with ⟨b1, b2⟩ | ⟨k, b1, b2, b3⟩
  · exact a2.trans b2.symm
  · exact absurd (by rw [b2]; exact key k b1) a1
  · exact absurd (by rw [a2]; exact key j a1) b1
  · have e : j = k := (nI_eq (by omega) (by omega)).mp (a2.symm.trans b2)
    subst e
    refine b_ext (fun i _ => ?_)
    have := (a3 i).trans (b3 i).symm
    cases e1 : bt r i <;> cases e2 : bt r2 i <;> simp [e1, e2] at this ⊢
end
section
/-! THE LAW: its loop -/
set_option maxRecDepth 100000
set_option maxHeartbeats 8000000 in
theorem law_loop {X : gx_T} {a b2 : Nat → Nat} {k : gx_C} {b n : Nat} {xs : Nat → Int32} (hX : gx_Ok X code "PlanLayersLaw" k (9, 338)) (hs : gx_Scr X b n xs) (hL : n ≤ 256) (hR : ∀ (pc : Nat) (lv : List (Option Value)) (ws : va_W), decode code pc = .ok (.ireturn, 1) → gx_G X ws pc lv [.int (nI 1)]) : ∀ i, i ≤ n → ∀ (P : pw_P) (B : Nat) (Gr : pw_G) (M : pw_M) (T : pw_T) (hd : pw_F), sp_good P B Gr M → gx_G X (pw_W a k (P, B, Gr, M, T) ++ mw_W b2 k (P.1, P.2.1, P.2.2.1, P.2.2.2.1, P.2.2.2.2, hd)) 18 [some (.ref b), some (.ref (a 0)), some (.ref (b2 0)), some (.int (nI i))] [] := by
  refine gx_up ?_
  intro i hi ih P B Gr M T hd hS
  have hn := hS.1.1
  refine gi_iload_n (pc := 18) hX dL_law_18 rfl ?_
  refine gi_aload_n (pc := 19) hX dL_law_19 rfl ?_
  refine gi_slen (pc := 20) hX hs dL_law_20 ?_
  refine gi_iconst (pc := 21) (nI 4) hX dL_law_21 (by decide) ?_
  refine gi_isub (pc := 22) hX dL_law_22 ?_
  refine gi_icmp_gt (pc := 23) 374 hX dL_law_23 (by decide) (fun c23 => ?_) (fun c23 => ?_)
  · refine gi_iconst (pc := 374) (nI 1) hX dL_law_374 (by decide) ?_
    exact hR 375 _ _ dL_law_375
  · have q0 : i + 4 ≤ n := by
      rw [Int32.lt_iff_toInt_lt, pk_sub_toInt (by omega) (by omega), nI_toInt (by omega)] at c23
      omega
    refine gi_aload_n (pc := 26) hX dL_law_26 rfl ?_
    refine gi_iload_n (pc := 27) hX dL_law_27 rfl ?_
    refine gi_sld (pc := 28) hX hs hL i dL_law_28 rfl (by omega) ?_
    refine gi_bipush (pc := 29) (nI 15) hX dL_law_29 (by decide) ?_
    refine gi_iand (pc := 31) hX dL_law_31 ?_
    obtain ⟨j, hj, ej⟩ := pk_andE (xs i) (m := nI 15) 4 (by decide)
    rw [ej]
    have hj : j < 16 := hj
    have hc : j = 0 ∨ j = 1 ∨ j = 2 ∨ j = 3 ∨ j = 4 ∨ j = 5 ∨ j = 6 ∨ j = 7 ∨ j = 8 ∨ j = 9 ∨ 10 ≤ j := by omega
    rcases hc with rfl | rfl | rfl | rfl | rfl | rfl | rfl | rfl | rfl | rfl | hc
    · refine gi_tabIn (pc := 32) 88 hX dL_law_32 (by decide) (by decide) rfl (by decide) ?_
      refine gi_aload_n (pc := 88) hX dL_law_88 rfl ?_
      refine gi_aload_n (pc := 89) hX dL_law_89 rfl ?_
      refine gi_iload_n (pc := 90) hX dL_law_90 rfl ?_
      refine gi_iconst (pc := 91) (nI 1) hX dL_law_91 (by decide) ?_
      refine gi_iadd (pc := 92) hX dL_law_92 ?_
      refine gi_sld (pc := 93) hX hs hL (i + 1) dL_law_93 (nI_add i 1) (by omega) ?_
      refine gi_aload_n (pc := 94) hX dL_law_94 rfl ?_
      refine gi_iload_n (pc := 95) hX dL_law_95 rfl ?_
      refine gi_iconst (pc := 96) (nI 2) hX dL_law_96 (by decide) ?_
      refine gi_iadd (pc := 97) hX dL_law_97 ?_
      refine gi_sld (pc := 98) hX hs hL (i + 2) dL_law_98 (nI_add i 2) (by omega) ?_
      refine gi_aload_n (pc := 99) hX dL_law_99 rfl ?_
      refine gi_iload_n (pc := 100) hX dL_law_100 rfl ?_
      refine gi_iconst (pc := 101) (nI 3) hX dL_law_101 (by decide) ?_
      refine gi_iadd (pc := 102) hX dL_law_102 ?_
      refine gi_sld (pc := 103) hX hs hL (i + 3) dL_law_103 (nI_add i 3) (by omega) ?_
      refine gi_callIl (pc := 104) hX (m_action (xs (i + 1)) (xs (i + 2)) (xs (i + 3)) hS) cw_l_p_action rfl rfl rfl rfl rfl rfl dL_law_104 (fun r u hp => ?_)
      obtain ⟨P1, B1, G1, M1, T1, rfl, hS1, h1⟩ := hp
      refine gi_aload_n (pc := 107) hX dL_law_107 rfl ?_
      refine gi_aload_n (pc := 108) hX dL_law_108 rfl ?_
      refine gi_iload_n (pc := 109) hX dL_law_109 rfl ?_
      refine gi_iconst (pc := 110) (nI 1) hX dL_law_110 (by decide) ?_
      refine gi_iadd (pc := 111) hX dL_law_111 ?_
      refine gi_sld (pc := 112) hX hs hL (i + 1) dL_law_112 (nI_add i 1) (by omega) ?_
      refine gi_aload_n (pc := 113) hX dL_law_113 rfl ?_
      refine gi_iload_n (pc := 114) hX dL_law_114 rfl ?_
      refine gi_iconst (pc := 115) (nI 2) hX dL_law_115 (by decide) ?_
      refine gi_iadd (pc := 116) hX dL_law_116 ?_
      refine gi_sld (pc := 117) hX hs hL (i + 2) dL_law_117 (nI_add i 2) (by omega) ?_
      refine gi_aload_n (pc := 118) hX dL_law_118 rfl ?_
      refine gi_iload_n (pc := 119) hX dL_law_119 rfl ?_
      refine gi_iconst (pc := 120) (nI 3) hX dL_law_120 (by decide) ?_
      refine gi_iadd (pc := 121) hX dL_law_121 ?_
      refine gi_sld (pc := 122) hX hs hL (i + 3) dL_law_122 (nI_add i 3) (by omega) ?_
      refine gi_callIr (pc := 123) hX (mm_action (xs (i + 1)) (xs (i + 2)) (xs (i + 3)) hn) cw_l_m_action rfl rfl rfl rfl rfl rfl dL_law_123 (fun r2 u hp => ?_)
      obtain ⟨P2, hd2, rfl, h2⟩ := hp
      obtain ⟨rfl, rfl⟩ := un_action h1 h2
      refine gi_icmp_eq (pc := 126) 368 hX dL_law_126 (by decide) (fun c126 => ?_) (fun c126 => ?_)
      · refine gi_iinc (pc := 368) 3 _ hX dL_law_368 rfl (gi_inc4 _) rfl rfl ?_
        dsimp only [List.set]
        refine gi_goto (pc := 371) 18 hX dL_law_371 (by decide) ?_
        exact ih (i + 4) (by omega) (by omega) P1 B1 G1 M1 T1 hd2 hS1
      · exact absurd rfl c126
    · refine gi_tabIn (pc := 32) 131 hX dL_law_32 (by decide) (by decide) rfl (by decide) ?_
      refine gi_aload_n (pc := 131) hX dL_law_131 rfl ?_
      refine gi_aload_n (pc := 132) hX dL_law_132 rfl ?_
      refine gi_iload_n (pc := 133) hX dL_law_133 rfl ?_
      refine gi_iconst (pc := 134) (nI 1) hX dL_law_134 (by decide) ?_
      refine gi_iadd (pc := 135) hX dL_law_135 ?_
      refine gi_sld (pc := 136) hX hs hL (i + 1) dL_law_136 (nI_add i 1) (by omega) ?_
      refine gi_callIl (pc := 137) hX (m_drop (xs (i + 1)) hS) cw_l_p_drop rfl rfl rfl rfl rfl rfl dL_law_137 (fun r u hp => ?_)
      obtain ⟨P1, B1, G1, M1, T1, rfl, hS1, h1⟩ := hp
      refine gi_aload_n (pc := 140) hX dL_law_140 rfl ?_
      refine gi_aload_n (pc := 141) hX dL_law_141 rfl ?_
      refine gi_iload_n (pc := 142) hX dL_law_142 rfl ?_
      refine gi_iconst (pc := 143) (nI 1) hX dL_law_143 (by decide) ?_
      refine gi_iadd (pc := 144) hX dL_law_144 ?_
      refine gi_sld (pc := 145) hX hs hL (i + 1) dL_law_145 (nI_add i 1) (by omega) ?_
      refine gi_callIr (pc := 146) hX (mm_drop (xs (i + 1)) hn) cw_l_m_drop rfl rfl rfl rfl rfl rfl dL_law_146 (fun r2 u hp => ?_)
      obtain ⟨P2, hd2, rfl, h2⟩ := hp
      obtain ⟨rfl, rfl⟩ := un_drop hn h1 h2
      refine gi_icmp_eq (pc := 149) 368 hX dL_law_149 (by decide) (fun c149 => ?_) (fun c149 => ?_)
      · refine gi_iinc (pc := 368) 3 _ hX dL_law_368 rfl (gi_inc4 _) rfl rfl ?_
        dsimp only [List.set]
        refine gi_goto (pc := 371) 18 hX dL_law_371 (by decide) ?_
        exact ih (i + 4) (by omega) (by omega) P1 B1 G1 M1 T1 hd2 hS1
      · exact absurd rfl c149
    · refine gi_tabIn (pc := 32) 154 hX dL_law_32 (by decide) (by decide) rfl (by decide) ?_
      refine gi_aload_n (pc := 154) hX dL_law_154 rfl ?_
      refine gi_aload_n (pc := 155) hX dL_law_155 rfl ?_
      refine gi_iload_n (pc := 156) hX dL_law_156 rfl ?_
      refine gi_iconst (pc := 157) (nI 1) hX dL_law_157 (by decide) ?_
      refine gi_iadd (pc := 158) hX dL_law_158 ?_
      refine gi_sld (pc := 159) hX hs hL (i + 1) dL_law_159 (nI_add i 1) (by omega) ?_
      refine gi_callIl (pc := 160) hX (m_start (xs (i + 1)) hS) cw_l_p_start rfl rfl rfl rfl rfl rfl dL_law_160 (fun r u hp => ?_)
      obtain ⟨P1, B1, G1, M1, T1, rfl, hS1, h1⟩ := hp
      refine gi_aload_n (pc := 163) hX dL_law_163 rfl ?_
      refine gi_aload_n (pc := 164) hX dL_law_164 rfl ?_
      refine gi_iload_n (pc := 165) hX dL_law_165 rfl ?_
      refine gi_iconst (pc := 166) (nI 1) hX dL_law_166 (by decide) ?_
      refine gi_iadd (pc := 167) hX dL_law_167 ?_
      refine gi_sld (pc := 168) hX hs hL (i + 1) dL_law_168 (nI_add i 1) (by omega) ?_
      refine gi_callIr (pc := 169) hX (mm_start (xs (i + 1))) cw_l_m_start rfl rfl rfl rfl rfl rfl dL_law_169 (fun r2 u hp => ?_)
      obtain ⟨P2, hd2, rfl, h2⟩ := hp
      obtain ⟨rfl, rfl⟩ := un_start h1 h2
      refine gi_icmp_eq (pc := 172) 368 hX dL_law_172 (by decide) (fun c172 => ?_) (fun c172 => ?_)
      · refine gi_iinc (pc := 368) 3 _ hX dL_law_368 rfl (gi_inc4 _) rfl rfl ?_
        dsimp only [List.set]
        refine gi_goto (pc := 371) 18 hX dL_law_371 (by decide) ?_
        exact ih (i + 4) (by omega) (by omega) P1 B1 G1 M1 T1 hd2 hS1
      · exact absurd rfl c172
    · refine gi_tabIn (pc := 32) 177 hX dL_law_32 (by decide) (by decide) rfl (by decide) ?_
      refine gi_aload_n (pc := 177) hX dL_law_177 rfl ?_
      refine gi_aload_n (pc := 178) hX dL_law_178 rfl ?_
      refine gi_iload_n (pc := 179) hX dL_law_179 rfl ?_
      refine gi_iconst (pc := 180) (nI 1) hX dL_law_180 (by decide) ?_
      refine gi_iadd (pc := 181) hX dL_law_181 ?_
      refine gi_sld (pc := 182) hX hs hL (i + 1) dL_law_182 (nI_add i 1) (by omega) ?_
      refine gi_aload_n (pc := 183) hX dL_law_183 rfl ?_
      refine gi_iload_n (pc := 184) hX dL_law_184 rfl ?_
      refine gi_iconst (pc := 185) (nI 2) hX dL_law_185 (by decide) ?_
      refine gi_iadd (pc := 186) hX dL_law_186 ?_
      refine gi_sld (pc := 187) hX hs hL (i + 2) dL_law_187 (nI_add i 2) (by omega) ?_
      refine gi_callIl (pc := 188) hX (m_clash (xs (i + 1)) (xs (i + 2)) hn) cw_l_p_clash rfl rfl rfl rfl rfl rfl dL_law_188 (fun r u hp => ?_)
      obtain ⟨rfl, h1⟩ := hp
      refine gi_aload_n (pc := 191) hX dL_law_191 rfl ?_
      refine gi_aload_n (pc := 192) hX dL_law_192 rfl ?_
      refine gi_iload_n (pc := 193) hX dL_law_193 rfl ?_
      refine gi_iconst (pc := 194) (nI 1) hX dL_law_194 (by decide) ?_
      refine gi_iadd (pc := 195) hX dL_law_195 ?_
      refine gi_sld (pc := 196) hX hs hL (i + 1) dL_law_196 (nI_add i 1) (by omega) ?_
      refine gi_aload_n (pc := 197) hX dL_law_197 rfl ?_
      refine gi_iload_n (pc := 198) hX dL_law_198 rfl ?_
      refine gi_iconst (pc := 199) (nI 2) hX dL_law_199 (by decide) ?_
      refine gi_iadd (pc := 200) hX dL_law_200 ?_
      refine gi_sld (pc := 201) hX hs hL (i + 2) dL_law_201 (nI_add i 2) (by omega) ?_
      refine gi_callIr (pc := 202) hX (mm_clash (xs (i + 1)) (xs (i + 2)) hn) cw_l_m_clash rfl rfl rfl rfl rfl rfl dL_law_202 (fun r2 u hp => ?_)
      obtain ⟨rfl, h2⟩ := hp
      have er := h1.eq h2
      refine gi_icmp_eq (pc := 205) 368 hX dL_law_205 (by decide) (fun c205 => ?_) (fun c205 => ?_)
      · refine gi_iinc (pc := 368) 3 _ hX dL_law_368 rfl (gi_inc4 _) rfl rfl ?_
        dsimp only [List.set]
        refine gi_goto (pc := 371) 18 hX dL_law_371 (by decide) ?_
        exact ih (i + 4) (by omega) (by omega) P B Gr M T hd hS
      · exact absurd er c205
    · refine gi_tabIn (pc := 32) 210 hX dL_law_32 (by decide) (by decide) rfl (by decide) ?_
      refine gi_aload_n (pc := 210) hX dL_law_210 rfl ?_
      refine gi_aload_n (pc := 211) hX dL_law_211 rfl ?_
      refine gi_iload_n (pc := 212) hX dL_law_212 rfl ?_
      refine gi_iconst (pc := 213) (nI 1) hX dL_law_213 (by decide) ?_
      refine gi_iadd (pc := 214) hX dL_law_214 ?_
      refine gi_sld (pc := 215) hX hs hL (i + 1) dL_law_215 (nI_add i 1) (by omega) ?_
      refine gi_callIl (pc := 216) hX (m_fewest (xs (i + 1)) hS) cw_l_p_fewest rfl rfl rfl rfl rfl rfl dL_law_216 (fun r u hp => ?_)
      obtain ⟨B1, G1, M1, T1, rfl, hS1, h1⟩ := hp
      refine gi_aload_n (pc := 219) hX dL_law_219 rfl ?_
      refine gi_aload_n (pc := 220) hX dL_law_220 rfl ?_
      refine gi_iload_n (pc := 221) hX dL_law_221 rfl ?_
      refine gi_iconst (pc := 222) (nI 1) hX dL_law_222 (by decide) ?_
      refine gi_iadd (pc := 223) hX dL_law_223 ?_
      refine gi_sld (pc := 224) hX hs hL (i + 1) dL_law_224 (nI_add i 1) (by omega) ?_
      refine gi_callIr (pc := 225) hX (mm_fewest (xs (i + 1)) hS.1) cw_l_m_fewest rfl rfl rfl rfl rfl rfl dL_law_225 (fun r2 u hp => ?_)
      obtain ⟨hd2, rfl, h2⟩ := hp
      have er := un_fewest h1 h2
      refine gi_icmp_eq (pc := 228) 368 hX dL_law_228 (by decide) (fun c228 => ?_) (fun c228 => ?_)
      · refine gi_iinc (pc := 368) 3 _ hX dL_law_368 rfl (gi_inc4 _) rfl rfl ?_
        dsimp only [List.set]
        refine gi_goto (pc := 371) 18 hX dL_law_371 (by decide) ?_
        exact ih (i + 4) (by omega) (by omega) P B1 G1 M1 T1 hd2 hS1
      · exact absurd er c228
    · refine gi_tabIn (pc := 32) 233 hX dL_law_32 (by decide) (by decide) rfl (by decide) ?_
      refine gi_aload_n (pc := 233) hX dL_law_233 rfl ?_
      refine gi_aload_n (pc := 234) hX dL_law_234 rfl ?_
      refine gi_iload_n (pc := 235) hX dL_law_235 rfl ?_
      refine gi_iconst (pc := 236) (nI 1) hX dL_law_236 (by decide) ?_
      refine gi_iadd (pc := 237) hX dL_law_237 ?_
      refine gi_sld (pc := 238) hX hs hL (i + 1) dL_law_238 (nI_add i 1) (by omega) ?_
      refine gi_callIl (pc := 239) hX (m_within (xs (i + 1)) hS) cw_l_p_within rfl rfl rfl rfl rfl rfl dL_law_239 (fun r u hp => ?_)
      obtain ⟨B1, G1, M1, T1, rfl, hS1, h1⟩ := hp
      refine gi_aload_n (pc := 242) hX dL_law_242 rfl ?_
      refine gi_aload_n (pc := 243) hX dL_law_243 rfl ?_
      refine gi_iload_n (pc := 244) hX dL_law_244 rfl ?_
      refine gi_iconst (pc := 245) (nI 1) hX dL_law_245 (by decide) ?_
      refine gi_iadd (pc := 246) hX dL_law_246 ?_
      refine gi_sld (pc := 247) hX hs hL (i + 1) dL_law_247 (nI_add i 1) (by omega) ?_
      refine gi_callIr (pc := 248) hX (mm_within (xs (i + 1)) hS.1) cw_l_m_within rfl rfl rfl rfl rfl rfl dL_law_248 (fun r2 u hp => ?_)
      obtain ⟨hd2, rfl, h2⟩ := hp
      have er := un_within h1 h2
      refine gi_icmp_eq (pc := 251) 368 hX dL_law_251 (by decide) (fun c251 => ?_) (fun c251 => ?_)
      · refine gi_iinc (pc := 368) 3 _ hX dL_law_368 rfl (gi_inc4 _) rfl rfl ?_
        dsimp only [List.set]
        refine gi_goto (pc := 371) 18 hX dL_law_371 (by decide) ?_
        exact ih (i + 4) (by omega) (by omega) P B1 G1 M1 T1 hd2 hS1
      · exact absurd er c251
    · refine gi_tabIn (pc := 32) 256 hX dL_law_32 (by decide) (by decide) rfl (by decide) ?_
      refine gi_aload_n (pc := 256) hX dL_law_256 rfl ?_
      refine gi_aload_n (pc := 257) hX dL_law_257 rfl ?_
      refine gi_iload_n (pc := 258) hX dL_law_258 rfl ?_
      refine gi_iconst (pc := 259) (nI 1) hX dL_law_259 (by decide) ?_
      refine gi_iadd (pc := 260) hX dL_law_260 ?_
      refine gi_sld (pc := 261) hX hs hL (i + 1) dL_law_261 (nI_add i 1) (by omega) ?_
      refine gi_aload_n (pc := 262) hX dL_law_262 rfl ?_
      refine gi_iload_n (pc := 263) hX dL_law_263 rfl ?_
      refine gi_iconst (pc := 264) (nI 2) hX dL_law_264 (by decide) ?_
      refine gi_iadd (pc := 265) hX dL_law_265 ?_
      refine gi_sld (pc := 266) hX hs hL (i + 2) dL_law_266 (nI_add i 2) (by omega) ?_
      refine gi_aload_n (pc := 267) hX dL_law_267 rfl ?_
      refine gi_iload_n (pc := 268) hX dL_law_268 rfl ?_
      refine gi_iconst (pc := 269) (nI 3) hX dL_law_269 (by decide) ?_
      refine gi_iadd (pc := 270) hX dL_law_270 ?_
      refine gi_sld (pc := 271) hX hs hL (i + 3) dL_law_271 (nI_add i 3) (by omega) ?_
      refine gi_callIl (pc := 272) hX (m_together (xs (i + 1)) (xs (i + 2)) (xs (i + 3)) hS) cw_l_p_together rfl rfl rfl rfl rfl rfl dL_law_272 (fun r u hp => ?_)
      obtain ⟨B1, G1, M1, T1, rfl, hS1, h1⟩ := hp
      refine gi_aload_n (pc := 275) hX dL_law_275 rfl ?_
      refine gi_aload_n (pc := 276) hX dL_law_276 rfl ?_
      refine gi_iload_n (pc := 277) hX dL_law_277 rfl ?_
      refine gi_iconst (pc := 278) (nI 1) hX dL_law_278 (by decide) ?_
      refine gi_iadd (pc := 279) hX dL_law_279 ?_
      refine gi_sld (pc := 280) hX hs hL (i + 1) dL_law_280 (nI_add i 1) (by omega) ?_
      refine gi_aload_n (pc := 281) hX dL_law_281 rfl ?_
      refine gi_iload_n (pc := 282) hX dL_law_282 rfl ?_
      refine gi_iconst (pc := 283) (nI 2) hX dL_law_283 (by decide) ?_
      refine gi_iadd (pc := 284) hX dL_law_284 ?_
      refine gi_sld (pc := 285) hX hs hL (i + 2) dL_law_285 (nI_add i 2) (by omega) ?_
      refine gi_aload_n (pc := 286) hX dL_law_286 rfl ?_
      refine gi_iload_n (pc := 287) hX dL_law_287 rfl ?_
      refine gi_iconst (pc := 288) (nI 3) hX dL_law_288 (by decide) ?_
      refine gi_iadd (pc := 289) hX dL_law_289 ?_
      refine gi_sld (pc := 290) hX hs hL (i + 3) dL_law_290 (nI_add i 3) (by omega) ?_
      refine gi_callIr (pc := 291) hX (mm_together (xs (i + 1)) (xs (i + 2)) (xs (i + 3)) hS.1) cw_l_m_together rfl rfl rfl rfl rfl rfl dL_law_291 (fun r2 u hp => ?_)
      obtain ⟨hd2, rfl, h2⟩ := hp
      have er := h1.eq h2
      refine gi_icmp_eq (pc := 294) 368 hX dL_law_294 (by decide) (fun c294 => ?_) (fun c294 => ?_)
      · refine gi_iinc (pc := 368) 3 _ hX dL_law_368 rfl (gi_inc4 _) rfl rfl ?_
        dsimp only [List.set]
        refine gi_goto (pc := 371) 18 hX dL_law_371 (by decide) ?_
        exact ih (i + 4) (by omega) (by omega) P B1 G1 M1 T1 hd2 hS1
      · exact absurd er c294
    · refine gi_tabIn (pc := 32) 299 hX dL_law_32 (by decide) (by decide) rfl (by decide) ?_
      refine gi_aload_n (pc := 299) hX dL_law_299 rfl ?_
      refine gi_aload_n (pc := 300) hX dL_law_300 rfl ?_
      refine gi_iload_n (pc := 301) hX dL_law_301 rfl ?_
      refine gi_iconst (pc := 302) (nI 1) hX dL_law_302 (by decide) ?_
      refine gi_iadd (pc := 303) hX dL_law_303 ?_
      refine gi_sld (pc := 304) hX hs hL (i + 1) dL_law_304 (nI_add i 1) (by omega) ?_
      refine gi_aload_n (pc := 305) hX dL_law_305 rfl ?_
      refine gi_iload_n (pc := 306) hX dL_law_306 rfl ?_
      refine gi_iconst (pc := 307) (nI 2) hX dL_law_307 (by decide) ?_
      refine gi_iadd (pc := 308) hX dL_law_308 ?_
      refine gi_sld (pc := 309) hX hs hL (i + 2) dL_law_309 (nI_add i 2) (by omega) ?_
      refine gi_callIl (pc := 310) hX (m_begins (xs (i + 1)) (xs (i + 2)) hS) cw_l_p_begins rfl rfl rfl rfl rfl rfl dL_law_310 (fun r u hp => ?_)
      obtain ⟨B1, G1, M1, T1, rfl, hS1, h1⟩ := hp
      refine gi_aload_n (pc := 313) hX dL_law_313 rfl ?_
      refine gi_aload_n (pc := 314) hX dL_law_314 rfl ?_
      refine gi_iload_n (pc := 315) hX dL_law_315 rfl ?_
      refine gi_iconst (pc := 316) (nI 1) hX dL_law_316 (by decide) ?_
      refine gi_iadd (pc := 317) hX dL_law_317 ?_
      refine gi_sld (pc := 318) hX hs hL (i + 1) dL_law_318 (nI_add i 1) (by omega) ?_
      refine gi_aload_n (pc := 319) hX dL_law_319 rfl ?_
      refine gi_iload_n (pc := 320) hX dL_law_320 rfl ?_
      refine gi_iconst (pc := 321) (nI 2) hX dL_law_321 (by decide) ?_
      refine gi_iadd (pc := 322) hX dL_law_322 ?_
      refine gi_sld (pc := 323) hX hs hL (i + 2) dL_law_323 (nI_add i 2) (by omega) ?_
      refine gi_callIr (pc := 324) hX (mm_begins (xs (i + 1)) (xs (i + 2)) hS.1) cw_l_m_begins rfl rfl rfl rfl rfl rfl dL_law_324 (fun r2 u hp => ?_)
      obtain ⟨hd2, rfl, h2⟩ := hp
      have er := h1.eq h2
      refine gi_icmp_eq (pc := 327) 368 hX dL_law_327 (by decide) (fun c327 => ?_) (fun c327 => ?_)
      · refine gi_iinc (pc := 368) 3 _ hX dL_law_368 rfl (gi_inc4 _) rfl rfl ?_
        dsimp only [List.set]
        refine gi_goto (pc := 371) 18 hX dL_law_371 (by decide) ?_
        exact ih (i + 4) (by omega) (by omega) P B1 G1 M1 T1 hd2 hS1
      · exact absurd er c327
    · refine gi_tabIn (pc := 32) 332 hX dL_law_32 (by decide) (by decide) rfl (by decide) ?_
      refine gi_aload_n (pc := 332) hX dL_law_332 rfl ?_
      refine gi_aload_n (pc := 333) hX dL_law_333 rfl ?_
      refine gi_iload_n (pc := 334) hX dL_law_334 rfl ?_
      refine gi_iconst (pc := 335) (nI 1) hX dL_law_335 (by decide) ?_
      refine gi_iadd (pc := 336) hX dL_law_336 ?_
      refine gi_sld (pc := 337) hX hs hL (i + 1) dL_law_337 (nI_add i 1) (by omega) ?_
      refine gi_callIl (pc := 338) hX (m_advance (xs (i + 1)) hS) cw_l_p_advance rfl rfl rfl rfl rfl rfl dL_law_338 (fun r u hp => ?_)
      obtain ⟨P1, B1, G1, M1, T1, rfl, hS1, h1⟩ := hp
      refine gi_aload_n (pc := 341) hX dL_law_341 rfl ?_
      refine gi_aload_n (pc := 342) hX dL_law_342 rfl ?_
      refine gi_iload_n (pc := 343) hX dL_law_343 rfl ?_
      refine gi_iconst (pc := 344) (nI 1) hX dL_law_344 (by decide) ?_
      refine gi_iadd (pc := 345) hX dL_law_345 ?_
      refine gi_sld (pc := 346) hX hs hL (i + 1) dL_law_346 (nI_add i 1) (by omega) ?_
      refine gi_callIr (pc := 347) hX (mm_advance (xs (i + 1)) hS.1) cw_l_m_advance rfl rfl rfl rfl rfl rfl dL_law_347 (fun r2 u hp => ?_)
      obtain ⟨P2, hd2, rfl, h2⟩ := hp
      obtain ⟨rfl, rfl⟩ := un_advance h1 h2
      refine gi_icmp_eq (pc := 350) 368 hX dL_law_350 (by decide) (fun c350 => ?_) (fun c350 => ?_)
      · refine gi_iinc (pc := 368) 3 _ hX dL_law_368 rfl (gi_inc4 _) rfl rfl ?_
        dsimp only [List.set]
        refine gi_goto (pc := 371) 18 hX dL_law_371 (by decide) ?_
        exact ih (i + 4) (by omega) (by omega) P1 B1 G1 M1 T1 hd2 hS1
      · exact absurd rfl c350
    · refine gi_tabIn (pc := 32) 355 hX dL_law_32 (by decide) (by decide) rfl (by decide) ?_
      refine gi_aload_n (pc := 355) hX dL_law_355 rfl ?_
      refine gi_callIl (pc := 356) hX (m_state) cw_l_p_state rfl rfl rfl rfl rfl rfl dL_law_356 (fun r u hp => ?_)
      obtain ⟨rfl, h1⟩ := hp
      refine gi_aload_n (pc := 359) hX dL_law_359 rfl ?_
      refine gi_callIr (pc := 360) hX (mm_state) cw_l_m_state rfl rfl rfl rfl rfl rfl dL_law_360 (fun r2 u hp => ?_)
      obtain ⟨rfl, h2⟩ := hp
      have er := h1.trans h2.symm
      refine gi_icmp_eq (pc := 363) 368 hX dL_law_363 (by decide) (fun c363 => ?_) (fun c363 => ?_)
      · refine gi_iinc (pc := 368) 3 _ hX dL_law_368 rfl (gi_inc4 _) rfl rfl ?_
        dsimp only [List.set]
        refine gi_goto (pc := 371) 18 hX dL_law_371 (by decide) ?_
        exact ih (i + 4) (by omega) (by omega) P B Gr M T hd hS
      · exact absurd er c363
    · refine gi_tabOut (pc := 32) 368 hX dL_law_32 (Or.inr (by rw [nI_toInt (by omega)]; omega)) (by decide) ?_
      refine gi_iinc (pc := 368) 3 _ hX dL_law_368 rfl (gi_inc4 _) rfl rfl ?_
      dsimp only [List.set]
      refine gi_goto (pc := 371) 18 hX dL_law_371 (by decide) ?_
      exact ih (i + 4) (by omega) (by omega) P B Gr M T hd hS
end
section
/-! THE CLAIM OUT OF ONE WALK OF THE LAW'S BODY. Your part is whole_start (and what it stands on); all else here is the same for every law, but numbers. -/
def R_law : String := "PlanLayersLaw"
def lw_P (b : Addr) (xs : List Int32) (args : Array Value) (s : State) : Prop := args = #[.ref b] ∧ s.IntsAt b xs ∧ xs.length ≤ 256 ∧ (Jvm.Cond.and given_1 narrow_1).before args s = true
def lw_Q (_ : Array Value) (s : State) (o : Outcome) (t : State) : Prop := o = .returned (some (.int 1)) ∧ Framed s o t [] 600000 7290000
def lw_Z (below : List Frame) (a : Array Value) (s : State) : State → Prop := fun t => ∃ o, t.status = .running ∧ Ended t below o ∧ lw_Q a s o t
/-- the law's own end, with 1 on the stack, nothing written that was there before, its room as the claim has it -/
theorem lw_ret {p : Program} {l : Launch} {e : Env} {s : State} {m : MethodId} {below : List Frame} {meth : Method} {c : Code} {b : Nat} (hx : p.tables.exec = Jvm.exec) (hb : c.code = code) (hr : meth.sig.returnType = ret) (hlocks : meth.locks = false) {pc : Nat} {H : Heap} {ls : Array Slot} (hdg : decode code pc = .ok (.ireturn, 1)) : W p l e room_1 s m #[Value.ref b] below meth c H [] 600000 7290000 (lw_Z below #[Value.ref b] s) (F0 m pc ls [.int 1]) := by
  intro T hT X
  obtain ⟨fs, hret, hrun, hended, hW, hframe⟩ := X.leave (v := some (.int 1)) (hlocks := hlocks) (fun h => by rw [hr] at h; cases h)
  have hmeth' : T.vm.method? m = some meth := X.method'
  refine ⟨T.setFrames fs, ?_, .returned (some (.int 1)), hrun, hended, rfl, ⟨_, rfl⟩, hW, hframe⟩
  jvm_step X.here [X.here.top, hx, hb, hdg, hmeth', hr, ret, narrow_b1]
  (try refine ⟨rfl, ?_⟩); (try refine ⟨rfl, ?_⟩)
  first | (intro acts; rw [hret _ acts rfl rfl rfl]) | rw [hret _ _ rfl rfl rfl]
  exact Steps.refl _
/-- what holds at the law's entry: the machine, the code, the tables' words (any of lw_tbl by 'hts w (by decide +kernel)'), the script of L ints xs at the cell b, what the Statement gives of the start (any of its parts by flat_of_before) -/
def lw_At (p : Program) (s : State) (m : MethodId) (meth : Method) (c : Code) (b L : Nat) (xs : Nat → Int32) : Prop :=
  p.tables.exec = Jvm.exec ∧ c.code = code ∧ meth.sig.returnType = ret ∧ c.maxLocals = 4 ∧ s.vm.findClass R_law = some m.cls ∧ (∀ w ∈ lw_tbl, w.before #[Value.ref b] s = true) ∧ va_X b L xs s s.heap ∧ b < s.heap.size ∧ meth.locks = false ∧ (Jvm.Cond.and given_1 narrow_1).before #[Value.ref b] s = true
set_option maxHeartbeats 8000000 in
set_option maxRecDepth 100000 in
theorem whole_start {p : Program} {e : Env} {s : State} {m : MethodId} {below : List Frame} {meth : Method} {c : Code} (l : Launch) {b L : Nat} {xs : Nat → Int32} (hL : L ≤ 256) (C0 : lw_At p s m meth c b L xs) : W p l e room_1 s m #[Value.ref b] below meth c s.heap [] 0 0 (lw_Z below #[Value.ref b] s) (entryFrame m ([Value.ref b] : List Value).toArray 4) := by
  obtain ⟨hx, hb, hr, hml, hown, hts0, hX, hbl, hlocks, hgv⟩ := C0
  have hts : ∀ w ∈ lw_all, w.before #[Value.ref b] s = true := fun w h => hts0 w (lw_all_tbl h)
  obtain ⟨c0_, iS0, hKn0⟩ := u_known (C := RX0) (T := TX0) (N := 20) (n := 20) hts in_X0 (hts _ q33)
  obtain ⟨c1_, iS1, hKn1⟩ := u_known (C := RX1) (T := TX1) (N := 6) (n := 6) hts in_X1 (hts _ q242)
  obtain ⟨cI, kI, eI, f1, f2, f3⟩ := Cond.arrayClass_spec (hts _ q101)
  obtain ⟨cJ, kJ, eJ, g1, g2, g3⟩ := Cond.arrayClass_spec (hts _ q102)
  obtain ⟨cB, kB, eB, h1, h2, h3⟩ := Cond.arrayClass_spec (hts _ q103)
  obtain ⟨cZ, kZ, eZ, i1, i2, i3⟩ := Cond.arrayClass_spec (hts _ q266)
  obtain ⟨D, hD1⟩ : ∃ D : va_G, ∀ (k : Nat) (q : vw_C), vwCl[k]? = some q → u_Kn s q.1 q.2.1 q.2.2 (D.1 k) (D.2 k) := by
    refine ⟨(fun k => if k = 0 then c0_ else c1_, fun k => if k = 0 then iS0 else iS1), ?_⟩
    intro k q hq
    match k, hq with
    | 0, hq => cases hq; exact hKn0
    | 1, hq => cases hq; exact hKn1
    | k + 2, hq => simp [vwCl] at hq
  obtain ⟨k, hK⟩ : ∃ k : gx_C, va_K D vwCl (gx_ty k) s := by
    refine ⟨(cI, cJ, cB, cZ), hD1, ?_⟩
    intro j q hq
    match j, hq with
    | 0, hq => cases hq; exact ⟨fun n z => ⟨fun k h => (by cases h), kI, f2, eI, f3⟩, f1⟩
    | 1, hq => cases hq; exact ⟨fun n z => ⟨fun k h => (by cases h), kJ, g2, eJ, g3⟩, g1⟩
    | 2, hq => cases hq; exact ⟨fun n z => ⟨fun k h => (by cases h), kB, h2, eB, h3⟩, h1⟩
    | 3, hq => cases hq; exact ⟨fun n z => ⟨fun k h => (by cases h), kZ, i2, eZ, i3⟩, i1⟩
    | j + 4, hq => simp [gx_ty] at hq
  obtain ⟨A, hAe⟩ : ∃ A : Nat → Prop, A = fun q => s.heap.size ≤ q := ⟨_, rfl⟩
  have hA : ∀ q : Nat, s.heap.size ≤ q → A q := fun q h => by rw [hAe]; exact h
  have hAb : ¬ A b := by rw [hAe]; exact Nat.not_le.mpr hbl
  have hA2 : ∀ q : Nat, A q → s.heap.size ≤ q := fun q h => by rw [hAe] at h; exact h
  clear hAe
  have hP : va_P D vwCl [] s.heap := fun k q h => by simp at h
  have hD : va_D A [] := ⟨fun i j p q h => by simp at h, fun k q h => by simp at h⟩
  have hS : va_S A s.heap s.heap [] := va_S.rf
  have hl := lv_entry ([.ref b]) (n := 4) (Nat.le_of_ble_eq_true rfl)
  rw [lg_entry_eq]
  generalize (lg_sl ([.ref b]) ++ List.replicate (4 - (lg_sl ([.ref b])).length) Slot.unset).toArray = ls at hl ⊢
  have hl : lv_has ls 4 [(0, .ref b)] := hl
  refine va_new (ci := 0) (fs := pw_f0) (C := RX0) (T := TX0) (N := 20) hx hb hts in_X0 tyX0 tyX0_ok hown (hts _ q32) (hts _ q33) (hts _ q30) hK hP hD hS hA rfl (fun j hj => by have hc : j = 0 ∨ j = 1 ∨ j = 2 ∨ j = 3 ∨ j = 4 ∨ j = 5 ∨ j = 6 ∨ j = 7 ∨ j = 8 ∨ j = 9 ∨ j = 10 ∨ j = 11 ∨ j = 12 ∨ j = 13 ∨ j = 14 ∨ j = 15 ∨ j = 16 ∨ j = 17 ∨ j = 18 ∨ j = 19 := (by omega); rcases hc with rfl | rfl | rfl | rfl | rfl | rfl | rfl | rfl | rfl | rfl | rfl | rfl | rfl | rfl | rfl | rfl | rfl | rfl | rfl | rfl <;> rfl) (Nat.le_of_ble_eq_true rfl) (Nat.le_of_ble_eq_true rfl) dL_law_0 (fun qa H hP hD hS => ?_)
  have hP : va_P D vwCl [(qa, .inr (0, pw_f0))] H := hP
  have hD : va_D A [(qa, .inr (0, pw_f0))] := hD
  refine W.widen (k := 1) (n := 20) (Nat.le_of_ble_eq_true rfl) (Nat.le_of_ble_eq_true rfl) ?_
  refine lv_dup hx hb dL_law_3 rfl ?_
  have hFc : ∀ q, va_A [(qa, .inr (0, pw_f0))] H.size q → A q := by
    rintro q (⟨j, ee, h⟩ | h)
    · exact hD.2 j (q, ee) h
    · exact hA q (Nat.le_trans hS.1 h)
  refine va_callv (va_runI (As := []) (rest := [.ref qa]) ⟨hx, hb, hml, hown, hts⟩ (ki_X0 l D k qa H.size) (cwI 0 hts (lw_meth q36) rfl rfl rfl (hts _ q30) (hts _ q34) (hts _ q35) rfl (by decide +kernel) ⟨Nat.le_of_ble_eq_true rfl, Nat.le_of_ble_eq_true rfl⟩) ⟨fun a U g mk q => by obtain ⟨q0, q1, qP, qK, qD⟩ := q; exact ⟨q0, q1, qP, va_K.moved (u := U) (U := U.calling g mk a) (Vm.Alike.refl U.vm) qK, qD⟩, fun U hU hW => ⟨rfl, by rw [hU], by rw [hU]; exact hP, va_K.moved hW.alike hK, hD.weaken (fun _ _ _ _ => trivial)⟩⟩ rfl rfl hl.1 rfl (lv_room (Nat.le_of_ble_eq_true rfl)) dL_law_4 ⟨Nat.le_of_ble_eq_true rfl, Nat.le_of_ble_eq_true rfl⟩) hS (fun q _ h => hFc q h) hFc (fun a t H1 locs ht hvm hw1 hB hz1 hk1 hS => ?_)
  obtain ⟨hP1, hK1, hD1⟩ := hB
  rw [ht] at hP1
  have hDw : va_D A (pw_W a k pw_S0) := hD1.weaken (fun _ q _ h => hFc q.1 h)
  subst hw1
  clear hP hD hFc hk1
  refine W.widen (k := 17) (n := 596) (Nat.le_of_ble_eq_true rfl) (Nat.le_of_ble_eq_true rfl) ?_
  refine lv_astore_n (lv' := [(1, .ref (a 0)), (0, .ref b)]) hx hb dL_law_7 rfl hl (by decide) rfl (fun ls hl => ?_)
  refine va_new (ci := 1) (fs := mw_f0) (C := RX1) (T := TX1) (N := 6) hx hb hts in_X1 tyX1 tyX1_ok hown (hts _ q241) (hts _ q242) (hts _ q31) hK hP1 hDw hS hA rfl (fun j hj => by have hc : j = 0 ∨ j = 1 ∨ j = 2 ∨ j = 3 ∨ j = 4 ∨ j = 5 := (by omega); rcases hc with rfl | rfl | rfl | rfl | rfl | rfl <;> rfl) (Nat.le_of_ble_eq_true rfl) (Nat.le_of_ble_eq_true rfl) dL_law_8 (fun qb H hP hD hS => ?_)
  refine W.widen (k := 18) (n := 602) (Nat.le_of_ble_eq_true rfl) (Nat.le_of_ble_eq_true rfl) ?_
  refine lv_dup hx hb dL_law_11 rfl ?_
  obtain ⟨hPl, hPr⟩ := gx_Pspl hP
  obtain ⟨hDl, hDr, hap⟩ := gx_Dspl hD
  have hFc : ∀ q, va_A [(qb, .inr (1, mw_f0))] H.size q → A q := by
    rintro q (⟨j, ee, h⟩ | h)
    · exact hDr.2 j (q, ee) h
    · exact hA q (Nat.le_trans hS.1 h)
  refine va_callv (va_runI (As := []) (rest := [.ref qb]) ⟨hx, hb, hml, hown, hts⟩ (ki_X1 l D k qb H.size) (cwI 0 hts (lw_meth q245) rfl rfl rfl (hts _ q31) (hts _ q243) (hts _ q244) rfl (by decide +kernel) ⟨Nat.le_of_ble_eq_true rfl, Nat.le_of_ble_eq_true rfl⟩) ⟨fun a U g mk q => by obtain ⟨q0, q1, qP, qK, qD⟩ := q; exact ⟨q0, q1, qP, va_K.moved (u := U) (U := U.calling g mk a) (Vm.Alike.refl U.vm) qK, qD⟩, fun U hU hW => ⟨rfl, by rw [hU], by rw [hU]; exact hPr, va_K.moved hW.alike hK, hDr.weaken (fun _ _ _ _ => trivial)⟩⟩ rfl rfl hl.1 rfl (lv_room (Nat.le_of_ble_eq_true rfl)) dL_law_12 ⟨Nat.le_of_ble_eq_true rfl, Nat.le_of_ble_eq_true rfl⟩) hS (fun q _ h => hFc q h) hFc (fun b2 t H2 locs2 ht hvm hw2 hB hz1 hk1 hS => ?_)
  obtain ⟨hP2, hK2, hD2⟩ := hB
  rw [ht] at hP2
  obtain ⟨hP3, hap3⟩ := gx_out hPl (fun i j p q hp hq e => hap j i q p hq hp e.symm) hk1 hD2
  have hP4 := va_P.app hP3 hP2
  have hD4 := va_D.app hDl (hD2.weaken (fun _ q _ h => hFc q.1 h)) (fun i j p q hp hq e => hap3 j i q p hq hp e.symm)
  subst hw2
  refine W.widen (k := 22) (n := 2927) (Nat.le_of_ble_eq_true rfl) (Nat.le_of_ble_eq_true rfl) ?_
  refine lv_astore_n (lv' := [(2, .ref (b2 0)), (1, .ref (a 0)), (0, .ref b)]) hx hb dL_law_15 rfl hl (by decide) rfl (fun ls hl => ?_)
  refine lv_iconst (v := nI 0) hx hb dL_law_16 (by decide) ?_
  refine lv_istore_n (lv' := [(3, .int (nI 0)), (2, .ref (b2 0)), (1, .ref (a 0)), (0, .ref b)]) hx hb dL_law_17 rfl hl (by decide) rfl (fun ls hl => ?_)
  have hgood : sp_good (0, pw_Z, pw_Z, pw_Z, nI 0) 0 (pw_Z, pw_Z, pw_Z, pw_Z, pw_Z) (pw_ZJ, pw_ZJ) := ⟨⟨Nat.zero_le _, fun i _ => ⟨fun j _ => b_n0 j, fun j _ => b_n0 j, fun j _ => b_n0 j⟩, fun j _ => b_n0 j⟩, Or.inl rfl⟩
  exact law_loop (X := (p, l, e, room_1, s, m, #[Value.ref b], below, meth, c, 22, 2927, lw_Z below #[Value.ref b] s, A, D, 4)) (a := a) (b2 := b2) (k := k) (b := b) (n := L) (xs := xs) ⟨hx, hb, hml, hown, hts, hK, hA, rfl, rfl, Nat.le_of_ble_eq_true rfl, Nat.le_of_ble_eq_true rfl⟩ ⟨hX, hbl, hAb⟩ hL (fun pc lv ws hdg H locs ls hP hD hS hl => va_forget (fun q hq => hA2 _ (hS.2.2 q hq)) (W.widen (Nat.le_of_ble_eq_true rfl) (Nat.le_of_ble_eq_true rfl) (lw_ret hx hb hr hlocks hdg))) 0 (Nat.zero_le _) (0, pw_Z, pw_Z, pw_Z, nI 0) 0 (pw_Z, pw_Z, pw_Z, pw_Z, pw_Z) (pw_ZJ, pw_ZJ) (pw_Z, pw_Z, pw_Z, 0, pw_Z, pw_Z, pw_Z) pw_Z hgood _ _ ls hP4 hD4 hS (gx_L4 hl)
set_option maxHeartbeats 4000000 in
theorem lw_walk (l : Launch) (b : Addr) (xs : List Int32) : MetFree l x (headSpec (Jvm.Cond.code x code maxLocals ret :: tables_1) room_1) (lw_P b xs) (fun _ _ _ _ _ => True) lw_Q := by
  refine MetFree.of_bodyS (code := code) (maxLocals := maxLocals) (ret := ret) (by decide) ?_ ?_
  · intro args s m h hn
    obtain ⟨meth, c, h1, h2, h3, h4, h5, h6, -, -⟩ := Cond.code_spec hn (atoms_spec (ws := Jvm.Cond.code x code maxLocals ret :: tables_1) h _ List.mem_cons_self)
    exact ⟨meth, c, h1, h2, h3, h4, h5, h6⟩
  · intro p e s m args below meth c s₁ B hml0 hP _
    obtain ⟨rfl, hx, hbd, hgv⟩ := hP
    obtain ⟨scr, harrAt, hlist, hof, hsmall⟩ := hx
    obtain ⟨hcb, hkn, -, -⟩ := State.arrayAt?_spec harrAt
    have hown : s.vm.findClass R_law = some m.cls := findClass_of_methodNamed B.named
    have hts0 : ∀ c ∈ (Jvm.Cond.code x code maxLocals ret :: tables_1), c.before #[Value.ref b] s = true := atoms_spec (ws := Jvm.Cond.code x code maxLocals ret :: tables_1) B.pre
    have hts : ∀ w ∈ lw_tbl, w.before #[Value.ref b] s = true := k2_hts_sels lw_privs (fun w hw => hts0 w (List.mem_cons_of_mem _ hw)) lw_privs_ok
    have hml : c.maxLocals = 4 := B.maxLocals_eq (hts0 _ List.mem_cons_self)
    have X₀ : Stand p l e room_1 s m #[Value.ref b] below meth c s₁ [] 0 0 := Stand.of_body B
    have hh0 : s₁.heap = s.heap := by rw [B.state]; rfl
    have hsz : scr.slots.size = xs.length := by rw [← Array.length_toList, hlist, List.length_map]
    have hval : ∀ j : Nat, j < xs.length → scr.slots[j]? = some (.int (xs.getD j 0)) := fun j hj => by
      rw [← Array.getElem?_toList, hlist]
      simp [hj]
    have hbl : b < s.heap.size := (Array.getElem?_eq_some_iff.mp hcb).1
    have hX : va_X b xs.length (fun j => xs.getD j 0) s s.heap := ⟨scr, hcb, hof, hkn, hsz, hval⟩
    have K : W p l e room_1 s m #[Value.ref b] below meth c s₁.heap [] 0 0 (lw_Z below #[Value.ref b] s) (entryFrame m ([Value.ref b] : List Value).toArray 4) := by
      rw [hh0]
      exact whole_start l hbd ⟨B.exec, B.bytes, B.returns, hml, hown, hts, hX, hbl, B.notSynchronized, hgv⟩
    obtain ⟨t, a1, o, b1, b2, b3⟩ := K s₁ rfl X₀
    exact ⟨t, o, a1, b1, b2, b3⟩
theorem lw_pre_spec {args : Array Value} {s : State} (h : (Jvm.Cond.and given_1 narrow_1).before args s = true) (hr : rest_1_c.before args s = true) : ∃ (b : Addr) (xs : List Int32), lw_P b xs args s := by
  have hs := flat_of_before _ h
  have hq := flat_of_before _ hr
  have hc : (Cond.count 1).before args s = true := hs _ (by decide +kernel)
  have harr : (Cond.arrayOf (.arg 0) .int).before args s = true := hs _ (by decide +kernel)
  have hle : (Cond.le (.length (.arg 0)) (.int 256)).before args s = true := hs _ (by decide +kernel)
  have hlen : (Cond.isInt (.length (.arg 0))).before args s = true := hq _ (by decide +kernel)
  have hall : (Cond.all (.arg 0) (.isInt (.elem (.arg 0) (.index 0)))).before args s = true := hq _ (by decide +kernel)
  obtain ⟨b, xs, hb, hx⟩ := State.ints_of_pre rfl harr hlen hall
  have hsm : xs.length < 2 ^ 31 := hx.choose_spec.2.2.2
  have hev : (Term.length (.arg 0)).eval args s none [] s = some (.int xs.length.toInt32) := hx.length_eval hb
  have hv := Cond.le_ints hev (show (Term.int 256).eval args s none [] s = some (.int 256) from rfl)
  have hd : xs.length.toInt32 ≤ 256 := by
    simpa [Cond.before, Cond.holds, hv] using hle
  have hN : xs.length ≤ 256 := (Int32.ofNat_le_ofNat hsm (by decide)).mp (show Int32.ofNat xs.length ≤ Int32.ofNat 256 from hd)
  exact ⟨b, xs, Cond.one_arg hc (show args[0]? = some (.ref b) from hb), hx, hN, h⟩
theorem lw_comes (l : Launch) : Comes l x (Jvm.Cond.code x code maxLocals ret :: tables_1) room_1 (fun tb e args s => Calls_1 tb e args s ∧ rest_1 tb e args s ∧ Pre_1 tb e args s)
    (fun _ _ args s o t => lw_Q args s o t) := by
  intro p e ha hc hk s m args below hf hfit hheap happ hpre
  obtain ⟨b, xs, hP⟩ := lw_pre_spec hpre.2.2 hpre.2.1
  obtain ⟨k, o, h1, h2, h3, hQ⟩ := lw_walk l b xs p e ha hc hk s m args below hf ((Spec.applies_iff_loose hf).mp happ).1 hP trivial
  exact ⟨k, o, h1, h2, h3, hQ⟩
theorem lw_frame {s t : State} {o : Outcome} {args : Array Value} (h : Framed s o t [] 600000 7290000) :
    Framed s o t (fieldLocs frame_1_writes args s ++ arrayLocs frame_1_arrays args s ++ staticLocs frame_1_statics s) 600000 7290000 := h
theorem lw_limb (L : Cond) (hL : ∀ (args : Array Value) (s t : State), L.after args s (.returned (some (.int 1))) t = true) :
    ArmFor flags0 classFile x code maxLocals ret World_1 tables_1 room_1 Calls_1 rest_1 Pre_1
      (fun tb e a s o t => postC L tb e a s o t ∧ Framed s o t (fieldLocs frame_1_writes a s ++ arrayLocs frame_1_arrays a s ++ staticLocs frame_1_statics s) 600000 7290000) := by
  intro l _ _ _ p e ha hc hk s m args below hf hfit hheap happ hpre
  obtain ⟨k, o, h1, h2, h3, rfl, hF⟩ := lw_comes l p e ha hc hk s m args below hf hfit hheap happ hpre
  exact ⟨k, _, h1, h2, h3, hL args s _, lw_frame hF⟩
theorem i_vc : Claimed_1_1 ∧ Claimed_1_2 := ⟨lw_limb limb_1_1 (fun args s t => by simp [limb_1_1, Cond.after, Cond.holds, Cond.value]), lw_limb limb_1_2 (fun args s t => Cond.after_iff.mpr (by
  first | (rw [show limb_1_2 = Cond.eq .result (.int 1) from rfl, Cond.eq_ints (x := 1) (y := 1) rfl rfl]; simp; done) | (simp [limb_1_2, Cond.value, Term.eval]; done)))⟩
end
