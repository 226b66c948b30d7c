section
-- ===== PART A: goes FIRST, ahead of the names: the tables' words, and 'selects' of the private methods out of them =====
/-- a private method of a class that the tables say can be made, by its rows of tables_1 -/
def lw_okq (q : MethodName × Nat) : Prop := (q.1.cls ≠ "java/lang/invoke/MethodHandle" ∧ q.1.cls ≠ "java/lang/invoke/VarHandle") ∧ Cond.instantiable q.1.cls q.2 ∈ tables_1 ∧ Cond.privateMethod q.1 ∈ tables_1 ∧ Cond.instanceMethod q.1 ∈ tables_1
set_option maxRecDepth 100000
theorem lw_t1 {w : Cond} (h : w ∈ tables_1_1) : w ∈ tables_1 := List.mem_append_left _ h
theorem lw_t2 {w : Cond} (h : w ∈ tables_1_2) : w ∈ tables_1 := List.mem_append_right _ h
theorem lw_p0 : lw_okq (⟨"RuleAnomaly", "isRule", "(I)Z"⟩, 12) := ⟨⟨by decide +kernel, by decide +kernel⟩, lw_t1 (List.mem_of_getElem? (i := 4) rfl), lw_t1 (List.mem_of_getElem? (i := 67) rfl), lw_t1 (List.mem_of_getElem? (i := 68) rfl)⟩
theorem lw_p1 : lw_okq (⟨"RuleAnomaly", "meets", "(II)Z"⟩, 12) := ⟨⟨by decide +kernel, by decide +kernel⟩, lw_t1 (List.mem_of_getElem? (i := 4) rfl), lw_t1 (List.mem_of_getElem? (i := 75) rfl), lw_t1 (List.mem_of_getElem? (i := 76) rfl)⟩
theorem lw_p2 : lw_okq (⟨"RuleAnomaly", "fromS", "(I)I"⟩, 12) := ⟨⟨by decide +kernel, by decide +kernel⟩, lw_t1 (List.mem_of_getElem? (i := 4) rfl), lw_t1 (List.mem_of_getElem? (i := 79) rfl), lw_t1 (List.mem_of_getElem? (i := 80) rfl)⟩
theorem lw_p3 : lw_okq (⟨"RuleAnomaly", "toS", "(I)I"⟩, 12) := ⟨⟨by decide +kernel, by decide +kernel⟩, lw_t1 (List.mem_of_getElem? (i := 4) rfl), lw_t1 (List.mem_of_getElem? (i := 83) rfl), lw_t1 (List.mem_of_getElem? (i := 84) rfl)⟩
theorem lw_p4 : lw_okq (⟨"RuleAnomaly", "fromD", "(I)I"⟩, 12) := ⟨⟨by decide +kernel, by decide +kernel⟩, lw_t1 (List.mem_of_getElem? (i := 4) rfl), lw_t1 (List.mem_of_getElem? (i := 87) rfl), lw_t1 (List.mem_of_getElem? (i := 88) rfl)⟩
theorem lw_p5 : lw_okq (⟨"RuleAnomaly", "toD", "(I)I"⟩, 12) := ⟨⟨by decide +kernel, by decide +kernel⟩, lw_t1 (List.mem_of_getElem? (i := 4) rfl), lw_t1 (List.mem_of_getElem? (i := 91) rfl), lw_t1 (List.mem_of_getElem? (i := 92) rfl)⟩
theorem lw_p6 : lw_okq (⟨"RuleAnomaly", "fromP", "(I)I"⟩, 12) := ⟨⟨by decide +kernel, by decide +kernel⟩, lw_t1 (List.mem_of_getElem? (i := 4) rfl), lw_t1 (List.mem_of_getElem? (i := 95) rfl), lw_t1 (List.mem_of_getElem? (i := 96) rfl)⟩
theorem lw_p7 : lw_okq (⟨"RuleAnomaly", "toP", "(I)I"⟩, 12) := ⟨⟨by decide +kernel, by decide +kernel⟩, lw_t1 (List.mem_of_getElem? (i := 4) rfl), lw_t1 (List.mem_of_getElem? (i := 99) rfl), lw_t1 (List.mem_of_getElem? (i := 100) rfl)⟩
theorem lw_p8 : lw_okq (⟨"RuleAnomaly", "carveOwned", "(I)V"⟩, 12) := ⟨⟨by decide +kernel, by decide +kernel⟩, lw_t1 (List.mem_of_getElem? (i := 4) rfl), lw_t1 (List.mem_of_getElem? (i := 107) rfl), lw_t1 (List.mem_of_getElem? (i := 108) rfl)⟩
theorem lw_p9 : lw_okq (⟨"RuleAnomaly", "startWork", "(I)V"⟩, 12) := ⟨⟨by decide +kernel, by decide +kernel⟩, lw_t1 (List.mem_of_getElem? (i := 4) rfl), lw_t1 (List.mem_of_getElem? (i := 111) rfl), lw_t1 (List.mem_of_getElem? (i := 112) rfl)⟩
theorem lw_p10 : lw_okq (⟨"RuleAnomaly", "subtract", "(I)V"⟩, 12) := ⟨⟨by decide +kernel, by decide +kernel⟩, lw_t1 (List.mem_of_getElem? (i := 4) rfl), lw_t1 (List.mem_of_getElem? (i := 115) rfl), lw_t1 (List.mem_of_getElem? (i := 116) rfl)⟩
theorem lw_p11 : lw_okq (⟨"RuleAnomaly", "carve", "(II)V"⟩, 12) := ⟨⟨by decide +kernel, by decide +kernel⟩, lw_t1 (List.mem_of_getElem? (i := 4) rfl), lw_t1 (List.mem_of_getElem? (i := 119) rfl), lw_t1 (List.mem_of_getElem? (i := 120) rfl)⟩
theorem lw_p12 : lw_okq (⟨"RuleAnomaly", "carveS", "(II)I"⟩, 12) := ⟨⟨by decide +kernel, by decide +kernel⟩, lw_t1 (List.mem_of_getElem? (i := 4) rfl), lw_t1 (List.mem_of_getElem? (i := 123) rfl), lw_t1 (List.mem_of_getElem? (i := 124) rfl)⟩
theorem lw_p13 : lw_okq (⟨"RuleAnomaly", "withS", "(III)I"⟩, 12) := ⟨⟨by decide +kernel, by decide +kernel⟩, lw_t1 (List.mem_of_getElem? (i := 4) rfl), lw_t1 (List.mem_of_getElem? (i := 127) rfl), lw_t1 (List.mem_of_getElem? (i := 128) rfl)⟩
theorem lw_p14 : lw_okq (⟨"RuleAnomaly", "addPiece", "(I)V"⟩, 12) := ⟨⟨by decide +kernel, by decide +kernel⟩, lw_t1 (List.mem_of_getElem? (i := 4) rfl), lw_t1 (List.mem_of_getElem? (i := 131) rfl), lw_t1 (List.mem_of_getElem? (i := 132) rfl)⟩
theorem lw_p15 : lw_okq (⟨"RuleAnomaly", "carveD", "(II)I"⟩, 12) := ⟨⟨by decide +kernel, by decide +kernel⟩, lw_t1 (List.mem_of_getElem? (i := 4) rfl), lw_t1 (List.mem_of_getElem? (i := 135) rfl), lw_t1 (List.mem_of_getElem? (i := 136) rfl)⟩
def lw_privs_1 : List (MethodName × Nat) := [(⟨"RuleAnomaly", "isRule", "(I)Z"⟩, 12), (⟨"RuleAnomaly", "meets", "(II)Z"⟩, 12), (⟨"RuleAnomaly", "fromS", "(I)I"⟩, 12), (⟨"RuleAnomaly", "toS", "(I)I"⟩, 12), (⟨"RuleAnomaly", "fromD", "(I)I"⟩, 12), (⟨"RuleAnomaly", "toD", "(I)I"⟩, 12), (⟨"RuleAnomaly", "fromP", "(I)I"⟩, 12), (⟨"RuleAnomaly", "toP", "(I)I"⟩, 12), (⟨"RuleAnomaly", "carveOwned", "(I)V"⟩, 12), (⟨"RuleAnomaly", "startWork", "(I)V"⟩, 12), (⟨"RuleAnomaly", "subtract", "(I)V"⟩, 12), (⟨"RuleAnomaly", "carve", "(II)V"⟩, 12), (⟨"RuleAnomaly", "carveS", "(II)I"⟩, 12), (⟨"RuleAnomaly", "withS", "(III)I"⟩, 12), (⟨"RuleAnomaly", "addPiece", "(I)V"⟩, 12), (⟨"RuleAnomaly", "carveD", "(II)I"⟩, 12)]
theorem lw_r1 : ∀ q ∈ lw_privs_1, lw_okq q := List.forall_mem_cons.mpr ⟨lw_p0, List.forall_mem_cons.mpr ⟨lw_p1, List.forall_mem_cons.mpr ⟨lw_p2, List.forall_mem_cons.mpr ⟨lw_p3, List.forall_mem_cons.mpr ⟨lw_p4, List.forall_mem_cons.mpr ⟨lw_p5, List.forall_mem_cons.mpr ⟨lw_p6, List.forall_mem_cons.mpr ⟨lw_p7, List.forall_mem_cons.mpr ⟨lw_p8, List.forall_mem_cons.mpr ⟨lw_p9, List.forall_mem_cons.mpr ⟨lw_p10, List.forall_mem_cons.mpr ⟨lw_p11, List.forall_mem_cons.mpr ⟨lw_p12, List.forall_mem_cons.mpr ⟨lw_p13, List.forall_mem_cons.mpr ⟨lw_p14, List.forall_mem_cons.mpr ⟨lw_p15, fun _ h => absurd h List.not_mem_nil⟩⟩⟩⟩⟩⟩⟩⟩⟩⟩⟩⟩⟩⟩⟩⟩
theorem lw_p16 : lw_okq (⟨"RuleAnomaly", "withD", "(III)I"⟩, 12) := ⟨⟨by decide +kernel, by decide +kernel⟩, lw_t1 (List.mem_of_getElem? (i := 4) rfl), lw_t1 (List.mem_of_getElem? (i := 139) rfl), lw_t1 (List.mem_of_getElem? (i := 140) rfl)⟩
theorem lw_p17 : lw_okq (⟨"RuleAnomaly", "volumeOfWork", "()I"⟩, 12) := ⟨⟨by decide +kernel, by decide +kernel⟩, lw_t1 (List.mem_of_getElem? (i := 4) rfl), lw_t1 (List.mem_of_getElem? (i := 143) rfl), lw_t1 (List.mem_of_getElem? (i := 144) rfl)⟩
theorem lw_p18 : lw_okq (⟨"RuleAnomaly", "volume", "(I)I"⟩, 12) := ⟨⟨by decide +kernel, by decide +kernel⟩, lw_t1 (List.mem_of_getElem? (i := 4) rfl), lw_t1 (List.mem_of_getElem? (i := 147) rfl), lw_t1 (List.mem_of_getElem? (i := 148) rfl)⟩
theorem lw_p19 : lw_okq (⟨"RuleAnomaly", "lowestCorner", "(I)I"⟩, 12) := ⟨⟨by decide +kernel, by decide +kernel⟩, lw_t1 (List.mem_of_getElem? (i := 4) rfl), lw_t1 (List.mem_of_getElem? (i := 155) rfl), lw_t1 (List.mem_of_getElem? (i := 156) rfl)⟩
theorem lw_p20 : lw_okq (⟨"RuleAnomaly", "overruled", "(I)Z"⟩, 12) := ⟨⟨by decide +kernel, by decide +kernel⟩, lw_t1 (List.mem_of_getElem? (i := 4) rfl), lw_t1 (List.mem_of_getElem? (i := 163) rfl), lw_t1 (List.mem_of_getElem? (i := 164) rfl)⟩
theorem lw_p21 : lw_okq (⟨"RuleAnomaly", "replaceable", "(I)Z"⟩, 12) := ⟨⟨by decide +kernel, by decide +kernel⟩, lw_t1 (List.mem_of_getElem? (i := 4) rfl), lw_t1 (List.mem_of_getElem? (i := 167) rfl), lw_t1 (List.mem_of_getElem? (i := 168) rfl)⟩
theorem lw_p22 : lw_okq (⟨"RuleAnomaly", "within", "(II)Z"⟩, 12) := ⟨⟨by decide +kernel, by decide +kernel⟩, lw_t1 (List.mem_of_getElem? (i := 4) rfl), lw_t1 (List.mem_of_getElem? (i := 171) rfl), lw_t1 (List.mem_of_getElem? (i := 172) rfl)⟩
theorem lw_p23 : lw_okq (⟨"RuleAnomaly", "gatherAllowed", "()V"⟩, 12) := ⟨⟨by decide +kernel, by decide +kernel⟩, lw_t1 (List.mem_of_getElem? (i := 4) rfl), lw_t1 (List.mem_of_getElem? (i := 179) rfl), lw_t1 (List.mem_of_getElem? (i := 180) rfl)⟩
theorem lw_p24 : lw_okq (⟨"RuleAnomaly", "carveNewlyAllowed", "()V"⟩, 12) := ⟨⟨by decide +kernel, by decide +kernel⟩, lw_t1 (List.mem_of_getElem? (i := 4) rfl), lw_t1 (List.mem_of_getElem? (i := 187) rfl), lw_t1 (List.mem_of_getElem? (i := 188) rfl)⟩
theorem lw_p25 : lw_okq (⟨"RuleAnomaly", "carveNoLongerAllowed", "()V"⟩, 12) := ⟨⟨by decide +kernel, by decide +kernel⟩, lw_t1 (List.mem_of_getElem? (i := 4) rfl), lw_t1 (List.mem_of_getElem? (i := 191) rfl), lw_t1 (List.mem_of_getElem? (i := 192) rfl)⟩
theorem lw_p26 : lw_okq (⟨"RuleAnomalyModel", "copy", "(II)V"⟩, 8) := ⟨⟨by decide +kernel, by decide +kernel⟩, lw_t1 (List.mem_of_getElem? (i := 199) rfl), lw_t2 (List.mem_of_getElem? (i := 2) rfl), lw_t2 (List.mem_of_getElem? (i := 3) rfl)⟩
theorem lw_p27 : lw_okq (⟨"RuleAnomalyModel", "isRule", "(I)Z"⟩, 8) := ⟨⟨by decide +kernel, by decide +kernel⟩, lw_t1 (List.mem_of_getElem? (i := 199) rfl), lw_t2 (List.mem_of_getElem? (i := 10) rfl), lw_t2 (List.mem_of_getElem? (i := 11) rfl)⟩
theorem lw_p28 : lw_okq (⟨"RuleAnomalyModel", "first", "(II)I"⟩, 8) := ⟨⟨by decide +kernel, by decide +kernel⟩, lw_t1 (List.mem_of_getElem? (i := 199) rfl), lw_t2 (List.mem_of_getElem? (i := 18) rfl), lw_t2 (List.mem_of_getElem? (i := 19) rfl)⟩
theorem lw_p29 : lw_okq (⟨"RuleAnomalyModel", "matches", "(II)Z"⟩, 8) := ⟨⟨by decide +kernel, by decide +kernel⟩, lw_t1 (List.mem_of_getElem? (i := 199) rfl), lw_t2 (List.mem_of_getElem? (i := 22) rfl), lw_t2 (List.mem_of_getElem? (i := 23) rfl)⟩
theorem lw_p30 : lw_okq (⟨"RuleAnomalyModel", "contradicted", "(I)Z"⟩, 8) := ⟨⟨by decide +kernel, by decide +kernel⟩, lw_t1 (List.mem_of_getElem? (i := 199) rfl), lw_t2 (List.mem_of_getElem? (i := 39) rfl), lw_t2 (List.mem_of_getElem? (i := 40) rfl)⟩
theorem lw_p31 : lw_okq (⟨"RuleAnomalyModel", "decision", "(II)I"⟩, 8) := ⟨⟨by decide +kernel, by decide +kernel⟩, lw_t1 (List.mem_of_getElem? (i := 199) rfl), lw_t2 (List.mem_of_getElem? (i := 43) rfl), lw_t2 (List.mem_of_getElem? (i := 44) rfl)⟩
def lw_privs_2 : List (MethodName × Nat) := [(⟨"RuleAnomaly", "withD", "(III)I"⟩, 12), (⟨"RuleAnomaly", "volumeOfWork", "()I"⟩, 12), (⟨"RuleAnomaly", "volume", "(I)I"⟩, 12), (⟨"RuleAnomaly", "lowestCorner", "(I)I"⟩, 12), (⟨"RuleAnomaly", "overruled", "(I)Z"⟩, 12), (⟨"RuleAnomaly", "replaceable", "(I)Z"⟩, 12), (⟨"RuleAnomaly", "within", "(II)Z"⟩, 12), (⟨"RuleAnomaly", "gatherAllowed", "()V"⟩, 12), (⟨"RuleAnomaly", "carveNewlyAllowed", "()V"⟩, 12), (⟨"RuleAnomaly", "carveNoLongerAllowed", "()V"⟩, 12), (⟨"RuleAnomalyModel", "copy", "(II)V"⟩, 8), (⟨"RuleAnomalyModel", "isRule", "(I)Z"⟩, 8), (⟨"RuleAnomalyModel", "first", "(II)I"⟩, 8), (⟨"RuleAnomalyModel", "matches", "(II)Z"⟩, 8), (⟨"RuleAnomalyModel", "contradicted", "(I)Z"⟩, 8), (⟨"RuleAnomalyModel", "decision", "(II)I"⟩, 8)]
theorem lw_r2 : ∀ q ∈ lw_privs_2, lw_okq q := List.forall_mem_cons.mpr ⟨lw_p16, List.forall_mem_cons.mpr ⟨lw_p17, List.forall_mem_cons.mpr ⟨lw_p18, List.forall_mem_cons.mpr ⟨lw_p19, List.forall_mem_cons.mpr ⟨lw_p20, List.forall_mem_cons.mpr ⟨lw_p21, List.forall_mem_cons.mpr ⟨lw_p22, List.forall_mem_cons.mpr ⟨lw_p23, List.forall_mem_cons.mpr ⟨lw_p24, List.forall_mem_cons.mpr ⟨lw_p25, List.forall_mem_cons.mpr ⟨lw_p26, List.forall_mem_cons.mpr ⟨lw_p27, List.forall_mem_cons.mpr ⟨lw_p28, List.forall_mem_cons.mpr ⟨lw_p29, List.forall_mem_cons.mpr ⟨lw_p30, List.forall_mem_cons.mpr ⟨lw_p31, fun _ h => absurd h List.not_mem_nil⟩⟩⟩⟩⟩⟩⟩⟩⟩⟩⟩⟩⟩⟩⟩⟩
theorem lw_p32 : lw_okq (⟨"RuleAnomalyModel", "missed", "(I)Z"⟩, 8) := ⟨⟨by decide +kernel, by decide +kernel⟩, lw_t1 (List.mem_of_getElem? (i := 199) rfl), lw_t2 (List.mem_of_getElem? (i := 47) rfl), lw_t2 (List.mem_of_getElem? (i := 48) rfl)⟩
theorem lw_p33 : lw_okq (⟨"RuleAnomalyModel", "correlated", "(I)Z"⟩, 8) := ⟨⟨by decide +kernel, by decide +kernel⟩, lw_t1 (List.mem_of_getElem? (i := 199) rfl), lw_t2 (List.mem_of_getElem? (i := 51) rfl), lw_t2 (List.mem_of_getElem? (i := 52) rfl)⟩
theorem lw_p34 : lw_okq (⟨"RuleAnomalyModel", "some", "(IZIZ)Z"⟩, 8) := ⟨⟨by decide +kernel, by decide +kernel⟩, lw_t1 (List.mem_of_getElem? (i := 199) rfl), lw_t2 (List.mem_of_getElem? (i := 55) rfl), lw_t2 (List.mem_of_getElem? (i := 56) rfl)⟩
theorem lw_p35 : lw_okq (⟨"RuleAnomalyModel", "general", "(I)Z"⟩, 8) := ⟨⟨by decide +kernel, by decide +kernel⟩, lw_t1 (List.mem_of_getElem? (i := 199) rfl), lw_t2 (List.mem_of_getElem? (i := 59) rfl), lw_t2 (List.mem_of_getElem? (i := 60) rfl)⟩
def lw_privs_3 : List (MethodName × Nat) := [(⟨"RuleAnomalyModel", "missed", "(I)Z"⟩, 8), (⟨"RuleAnomalyModel", "correlated", "(I)Z"⟩, 8), (⟨"RuleAnomalyModel", "some", "(IZIZ)Z"⟩, 8), (⟨"RuleAnomalyModel", "general", "(I)Z"⟩, 8)]
theorem lw_r3 : ∀ q ∈ lw_privs_3, lw_okq q := List.forall_mem_cons.mpr ⟨lw_p32, List.forall_mem_cons.mpr ⟨lw_p33, List.forall_mem_cons.mpr ⟨lw_p34, List.forall_mem_cons.mpr ⟨lw_p35, fun _ h => absurd h List.not_mem_nil⟩⟩⟩⟩
def lw_privs : List (MethodName × Nat) := lw_privs_1 ++ (lw_privs_2 ++ (lw_privs_3))
def lw_tbl : List Cond := k2_sels lw_privs ++ tables_1
theorem lw_privs_ok : ∀ q ∈ lw_privs, lw_okq q := by
  show ∀ q ∈ lw_privs_1 ++ (lw_privs_2 ++ (lw_privs_3)), lw_okq q
  exact List.forall_mem_append.mpr ⟨lw_r1, List.forall_mem_append.mpr ⟨lw_r2, lw_r3⟩⟩
-- ===== ONE list of words for every method: the tables' words that hold all through a run =====
def lw_all : List Cond := lw_tbl.filter goodWord
/-- a word of the tables by its place: claim/WORDS.tsv -/
theorem lw_w {w : Cond} (i : Nat) (h : lw_tbl[i]? = some w) (g : goodWord w = true) : w ∈ lw_all := List.mem_filter.mpr ⟨List.mem_of_getElem? h, g⟩
theorem lw_all_tbl {w : Cond} (h : w ∈ lw_all) : w ∈ lw_tbl := (List.mem_filter.mp h).1
theorem lw_self : GoodIn lw_all lw_all := fun w h => ⟨h, good_of_word (List.mem_filter.mp h).2⟩
/-- a class's field words, by their places -/
theorem lw_in (ws : List Cond) (ps : List Nat) (hp : ws = ps.filterMap (fun i => lw_tbl[i]?)) (hg : ws.all goodWord = true) : ∀ w ∈ ws, w ∈ lw_all := by
  intro w h
  have h1 := List.all_eq_true.mp hg w h
  rw [hp] at h
  obtain ⟨i, -, hi⟩ := List.mem_filterMap.mp h
  exact lw_w i hi h1
/-- the words of a contract for the method y with code b, L locals, answer r -/
abbrev ws_ (y : MethodName) (b : ByteArray) (L : Nat) (r : Option FieldType) : List Cond := Cond.code y b L r :: lw_all
theorem lw_meth {y : MethodName} {b : ByteArray} {L : Nat} {r : Option FieldType} (h : Cond.code y b L r ∈ lw_all) : GoodIn lw_all (ws_ y b L r) := by
  intro w hw
  rcases List.mem_cons.mp hw with e | e
  · rw [e]
    exact lw_self _ h
  · exact lw_self _ e
theorem lw_app {a c : List Cond} (ha : ∀ w ∈ a, w ∈ lw_all) (hc : GoodIn lw_all c) : GoodIn lw_all (a ++ c) := by
  intro w hw
  rcases List.mem_append.mp hw with e | e
  · exact lw_self w (ha w e)
  · exact hc w e
/-- what a call through an object asks: cwV n hts (lw_V ..) -/
theorem lw_V {own : String} {idx : Nat} {C : String} {y : MethodName} {b : ByteArray} {L : Nat} {r : Option FieldType} (h1 : Cond.methodLink own idx y ∈ lw_all) (h2 : Cond.instanceMethod y ∈ lw_all) (h3 : Cond.selects C y y ∈ lw_all) (h4 : Cond.initialized C ∈ lw_all) (h5 : Cond.code y b L r ∈ lw_all) : GoodIn lw_all (wsV own idx C y (ws_ y b L r)) := by
  refine lw_app ?_ (lw_meth h5)
  intro w hw
  simp only [List.mem_cons, List.not_mem_nil, or_false] at hw
  rcases hw with e | e | e | e
  · rw [e]; exact h1
  · rw [e]; exact h2
  · rw [e]; exact h3
  · rw [e]; exact h4
/-- what a static call asks: va_cwS n hts (lw_S ..) -/
theorem lw_S {own : String} {idx : Nat} {y : MethodName} {b : ByteArray} {L : Nat} {r : Option FieldType} (h1 : Cond.methodLink own idx y ∈ lw_all) (h2 : Cond.static y ∈ lw_all) (h3 : Cond.initialized y.cls ∈ lw_all) (h4 : Cond.code y b L r ∈ lw_all) : GoodIn lw_all (va_wsS own idx y (ws_ y b L r)) := by
  refine lw_app ?_ (lw_meth h4)
  intro w hw
  simp only [List.mem_cons, List.not_mem_nil, or_false] at hw
  rcases hw with e | e | e
  · rw [e]; exact h1
  · rw [e]; exact h2
  · rw [e]; exact h3
/-- the words of a contract for a method WITH HANDLERS (hh: its table) -/
abbrev wsW_ (y : MethodName) (b : ByteArray) (L : Nat) (r : Option FieldType) (hh : List (Nat × Nat × Nat × Nat)) : List Cond := Cond.codeWith y b L r hh :: lw_all
theorem lw_methW {y : MethodName} {b : ByteArray} {L : Nat} {r : Option FieldType} {hh : List (Nat × Nat × Nat × Nat)} (h : Cond.codeWith y b L r hh ∈ lw_all) : GoodIn lw_all (wsW_ y b L r hh) := by
  intro w hw
  rcases List.mem_cons.mp hw with e | e
  · rw [e]
    exact lw_self _ h
  · exact lw_self _ e
/-- any list of words by their places (lw_in), good -/
theorem lw_good {ws : List Cond} (h : ∀ w ∈ ws, w ∈ lw_all) : GoodIn lw_all ws := fun w hw => lw_self w (h w hw)
/-- what a call of a method with handlers asks: vx_cwVW n hts (lw_VW ..), vx_cwSW n hts (lw_SW ..) -/
theorem lw_VW {own : String} {idx : Nat} {C : String} {y : MethodName} {b : ByteArray} {L : Nat} {r : Option FieldType} {hh : List (Nat × Nat × Nat × Nat)} (h1 : Cond.methodLink own idx y ∈ lw_all) (h2 : Cond.instanceMethod y ∈ lw_all) (h3 : Cond.selects C y y ∈ lw_all) (h4 : Cond.initialized C ∈ lw_all) (h5 : Cond.codeWith y b L r hh ∈ lw_all) : GoodIn lw_all (wsV own idx C y (wsW_ y b L r hh)) := by
  refine lw_app ?_ (lw_methW h5)
  intro w hw
  simp only [List.mem_cons, List.not_mem_nil, or_false] at hw
  rcases hw with e | e | e | e
  · rw [e]; exact h1
  · rw [e]; exact h2
  · rw [e]; exact h3
  · rw [e]; exact h4
theorem lw_SW {own : String} {idx : Nat} {y : MethodName} {b : ByteArray} {L : Nat} {r : Option FieldType} {hh : List (Nat × Nat × Nat × Nat)} (h1 : Cond.methodLink own idx y ∈ lw_all) (h2 : Cond.static y ∈ lw_all) (h3 : Cond.initialized y.cls ∈ lw_all) (h4 : Cond.codeWith y b L r hh ∈ lw_all) : GoodIn lw_all (va_wsS own idx y (wsW_ y b L r hh)) := by
  refine lw_app ?_ (lw_methW h4)
  intro w hw
  simp only [List.mem_cons, List.not_mem_nil, or_false] at hw
  rcases hw with e | e | e
  · rw [e]; exact h1
  · rw [e]; exact h2
  · rw [e]; exact h3
/-- a word by its place in its run of the tables -/
theorem lw_at {r : List Cond} (hr : ∀ w ∈ r, w ∈ lw_tbl) {w : Cond} (i : Nat) (h : r[i]? = some w) : w ∈ lw_tbl := hr w (List.mem_of_getElem? h)
theorem lw_g {w : Cond} (h : w ∈ lw_tbl) (g : goodWord w = true) : w ∈ lw_all := List.mem_filter.mpr ⟨h, g⟩
theorem lw_ms : ∀ w ∈ k2_sels lw_privs, w ∈ lw_tbl := fun w h => show w ∈ k2_sels lw_privs ++ tables_1 from List.mem_append_left _ h
theorem lw_m1 : ∀ w ∈ tables_1_1, w ∈ lw_tbl := fun w h => show w ∈ k2_sels lw_privs ++ tables_1 from List.mem_append_right (k2_sels lw_privs) (show w ∈ tables_1 from List.mem_append_left _ h)
theorem lw_m2 : ∀ w ∈ tables_1_2, w ∈ lw_tbl := fun w h => show w ∈ k2_sels lw_privs ++ tables_1 from List.mem_append_right (k2_sels lw_privs) (show w ∈ tables_1 from List.mem_append_right _ h)
theorem qs0 : (Cond.selects "RuleAnomaly" ⟨"RuleAnomaly", "isRule", "(I)Z"⟩ ⟨"RuleAnomaly", "isRule", "(I)Z"⟩) ∈ lw_all := lw_g (lw_at lw_ms 0 rfl) rfl
theorem qs1 : (Cond.selects "RuleAnomaly" ⟨"RuleAnomaly", "meets", "(II)Z"⟩ ⟨"RuleAnomaly", "meets", "(II)Z"⟩) ∈ lw_all := lw_g (lw_at lw_ms 1 rfl) rfl
theorem qs2 : (Cond.selects "RuleAnomaly" ⟨"RuleAnomaly", "fromS", "(I)I"⟩ ⟨"RuleAnomaly", "fromS", "(I)I"⟩) ∈ lw_all := lw_g (lw_at lw_ms 2 rfl) rfl
theorem qs3 : (Cond.selects "RuleAnomaly" ⟨"RuleAnomaly", "toS", "(I)I"⟩ ⟨"RuleAnomaly", "toS", "(I)I"⟩) ∈ lw_all := lw_g (lw_at lw_ms 3 rfl) rfl
theorem qs4 : (Cond.selects "RuleAnomaly" ⟨"RuleAnomaly", "fromD", "(I)I"⟩ ⟨"RuleAnomaly", "fromD", "(I)I"⟩) ∈ lw_all := lw_g (lw_at lw_ms 4 rfl) rfl
theorem qs5 : (Cond.selects "RuleAnomaly" ⟨"RuleAnomaly", "toD", "(I)I"⟩ ⟨"RuleAnomaly", "toD", "(I)I"⟩) ∈ lw_all := lw_g (lw_at lw_ms 5 rfl) rfl
theorem qs6 : (Cond.selects "RuleAnomaly" ⟨"RuleAnomaly", "fromP", "(I)I"⟩ ⟨"RuleAnomaly", "fromP", "(I)I"⟩) ∈ lw_all := lw_g (lw_at lw_ms 6 rfl) rfl
theorem qs7 : (Cond.selects "RuleAnomaly" ⟨"RuleAnomaly", "toP", "(I)I"⟩ ⟨"RuleAnomaly", "toP", "(I)I"⟩) ∈ lw_all := lw_g (lw_at lw_ms 7 rfl) rfl
theorem qs8 : (Cond.selects "RuleAnomaly" ⟨"RuleAnomaly", "carveOwned", "(I)V"⟩ ⟨"RuleAnomaly", "carveOwned", "(I)V"⟩) ∈ lw_all := lw_g (lw_at lw_ms 8 rfl) rfl
theorem qs9 : (Cond.selects "RuleAnomaly" ⟨"RuleAnomaly", "startWork", "(I)V"⟩ ⟨"RuleAnomaly", "startWork", "(I)V"⟩) ∈ lw_all := lw_g (lw_at lw_ms 9 rfl) rfl
theorem qs10 : (Cond.selects "RuleAnomaly" ⟨"RuleAnomaly", "subtract", "(I)V"⟩ ⟨"RuleAnomaly", "subtract", "(I)V"⟩) ∈ lw_all := lw_g (lw_at lw_ms 10 rfl) rfl
theorem qs11 : (Cond.selects "RuleAnomaly" ⟨"RuleAnomaly", "carve", "(II)V"⟩ ⟨"RuleAnomaly", "carve", "(II)V"⟩) ∈ lw_all := lw_g (lw_at lw_ms 11 rfl) rfl
theorem qs12 : (Cond.selects "RuleAnomaly" ⟨"RuleAnomaly", "carveS", "(II)I"⟩ ⟨"RuleAnomaly", "carveS", "(II)I"⟩) ∈ lw_all := lw_g (lw_at lw_ms 12 rfl) rfl
theorem qs13 : (Cond.selects "RuleAnomaly" ⟨"RuleAnomaly", "withS", "(III)I"⟩ ⟨"RuleAnomaly", "withS", "(III)I"⟩) ∈ lw_all := lw_g (lw_at lw_ms 13 rfl) rfl
theorem qs14 : (Cond.selects "RuleAnomaly" ⟨"RuleAnomaly", "addPiece", "(I)V"⟩ ⟨"RuleAnomaly", "addPiece", "(I)V"⟩) ∈ lw_all := lw_g (lw_at lw_ms 14 rfl) rfl
theorem qs15 : (Cond.selects "RuleAnomaly" ⟨"RuleAnomaly", "carveD", "(II)I"⟩ ⟨"RuleAnomaly", "carveD", "(II)I"⟩) ∈ lw_all := lw_g (lw_at lw_ms 15 rfl) rfl
theorem qs16 : (Cond.selects "RuleAnomaly" ⟨"RuleAnomaly", "withD", "(III)I"⟩ ⟨"RuleAnomaly", "withD", "(III)I"⟩) ∈ lw_all := lw_g (lw_at lw_ms 16 rfl) rfl
theorem qs17 : (Cond.selects "RuleAnomaly" ⟨"RuleAnomaly", "volumeOfWork", "()I"⟩ ⟨"RuleAnomaly", "volumeOfWork", "()I"⟩) ∈ lw_all := lw_g (lw_at lw_ms 17 rfl) rfl
theorem qs18 : (Cond.selects "RuleAnomaly" ⟨"RuleAnomaly", "volume", "(I)I"⟩ ⟨"RuleAnomaly", "volume", "(I)I"⟩) ∈ lw_all := lw_g (lw_at lw_ms 18 rfl) rfl
theorem qs19 : (Cond.selects "RuleAnomaly" ⟨"RuleAnomaly", "lowestCorner", "(I)I"⟩ ⟨"RuleAnomaly", "lowestCorner", "(I)I"⟩) ∈ lw_all := lw_g (lw_at lw_ms 19 rfl) rfl
theorem qs20 : (Cond.selects "RuleAnomaly" ⟨"RuleAnomaly", "overruled", "(I)Z"⟩ ⟨"RuleAnomaly", "overruled", "(I)Z"⟩) ∈ lw_all := lw_g (lw_at lw_ms 20 rfl) rfl
theorem qs21 : (Cond.selects "RuleAnomaly" ⟨"RuleAnomaly", "replaceable", "(I)Z"⟩ ⟨"RuleAnomaly", "replaceable", "(I)Z"⟩) ∈ lw_all := lw_g (lw_at lw_ms 21 rfl) rfl
theorem qs22 : (Cond.selects "RuleAnomaly" ⟨"RuleAnomaly", "within", "(II)Z"⟩ ⟨"RuleAnomaly", "within", "(II)Z"⟩) ∈ lw_all := lw_g (lw_at lw_ms 22 rfl) rfl
theorem qs23 : (Cond.selects "RuleAnomaly" ⟨"RuleAnomaly", "gatherAllowed", "()V"⟩ ⟨"RuleAnomaly", "gatherAllowed", "()V"⟩) ∈ lw_all := lw_g (lw_at lw_ms 23 rfl) rfl
theorem qs24 : (Cond.selects "RuleAnomaly" ⟨"RuleAnomaly", "carveNewlyAllowed", "()V"⟩ ⟨"RuleAnomaly", "carveNewlyAllowed", "()V"⟩) ∈ lw_all := lw_g (lw_at lw_ms 24 rfl) rfl
theorem qs25 : (Cond.selects "RuleAnomaly" ⟨"RuleAnomaly", "carveNoLongerAllowed", "()V"⟩ ⟨"RuleAnomaly", "carveNoLongerAllowed", "()V"⟩) ∈ lw_all := lw_g (lw_at lw_ms 25 rfl) rfl
theorem qs26 : (Cond.selects "RuleAnomalyModel" ⟨"RuleAnomalyModel", "copy", "(II)V"⟩ ⟨"RuleAnomalyModel", "copy", "(II)V"⟩) ∈ lw_all := lw_g (lw_at lw_ms 26 rfl) rfl
theorem qs27 : (Cond.selects "RuleAnomalyModel" ⟨"RuleAnomalyModel", "isRule", "(I)Z"⟩ ⟨"RuleAnomalyModel", "isRule", "(I)Z"⟩) ∈ lw_all := lw_g (lw_at lw_ms 27 rfl) rfl
theorem qs28 : (Cond.selects "RuleAnomalyModel" ⟨"RuleAnomalyModel", "first", "(II)I"⟩ ⟨"RuleAnomalyModel", "first", "(II)I"⟩) ∈ lw_all := lw_g (lw_at lw_ms 28 rfl) rfl
theorem qs29 : (Cond.selects "RuleAnomalyModel" ⟨"RuleAnomalyModel", "matches", "(II)Z"⟩ ⟨"RuleAnomalyModel", "matches", "(II)Z"⟩) ∈ lw_all := lw_g (lw_at lw_ms 29 rfl) rfl
theorem qs30 : (Cond.selects "RuleAnomalyModel" ⟨"RuleAnomalyModel", "contradicted", "(I)Z"⟩ ⟨"RuleAnomalyModel", "contradicted", "(I)Z"⟩) ∈ lw_all := lw_g (lw_at lw_ms 30 rfl) rfl
theorem qs31 : (Cond.selects "RuleAnomalyModel" ⟨"RuleAnomalyModel", "decision", "(II)I"⟩ ⟨"RuleAnomalyModel", "decision", "(II)I"⟩) ∈ lw_all := lw_g (lw_at lw_ms 31 rfl) rfl
theorem qs32 : (Cond.selects "RuleAnomalyModel" ⟨"RuleAnomalyModel", "missed", "(I)Z"⟩ ⟨"RuleAnomalyModel", "missed", "(I)Z"⟩) ∈ lw_all := lw_g (lw_at lw_ms 32 rfl) rfl
theorem qs33 : (Cond.selects "RuleAnomalyModel" ⟨"RuleAnomalyModel", "correlated", "(I)Z"⟩ ⟨"RuleAnomalyModel", "correlated", "(I)Z"⟩) ∈ lw_all := lw_g (lw_at lw_ms 33 rfl) rfl
theorem qs34 : (Cond.selects "RuleAnomalyModel" ⟨"RuleAnomalyModel", "some", "(IZIZ)Z"⟩ ⟨"RuleAnomalyModel", "some", "(IZIZ)Z"⟩) ∈ lw_all := lw_g (lw_at lw_ms 34 rfl) rfl
theorem qs35 : (Cond.selects "RuleAnomalyModel" ⟨"RuleAnomalyModel", "general", "(I)Z"⟩ ⟨"RuleAnomalyModel", "general", "(I)Z"⟩) ∈ lw_all := lw_g (lw_at lw_ms 35 rfl) rfl
-- ===== end of PART A; then your names; then what follows =====
end
section
/-! RuleAnomaly -/
set_option maxRecDepth 100000
def RX0 : String := "RuleAnomaly"
def TX0 : u_T := fun k => match k with
  | 0 => ("RuleAnomaly", "draft", "I", false)
  | 1 => ("RuleAnomaly", "ruleCount", "I", false)
  | 2 => ("RuleAnomaly", "ruleBox", "[I", true)
  | 3 => ("RuleAnomaly", "ruleAction", "[B", true)
  | 4 => ("RuleAnomaly", "work", "[I", true)
  | 5 => ("RuleAnomaly", "workCount", "I", false)
  | 6 => ("RuleAnomaly", "pieces", "[I", true)
  | 7 => ("RuleAnomaly", "pieceCount", "I", false)
  | 8 => ("RuleAnomaly", "allowed", "[I", true)
  | 9 => ("RuleAnomaly", "allowedCount", "I", false)
  | 10 => ("RuleAnomaly", "saved", "[I", true)
  | _ => ("RuleAnomaly", "savedCount", "I", false)
def tyX0 : Nat → FieldType := fun k => match k with
  | 0 => .int
  | 1 => .int
  | 2 => .array .int
  | 3 => .array .byte
  | 4 => .array .int
  | 5 => .int
  | 6 => .array .int
  | 7 => .int
  | 8 => .array .int
  | 9 => .int
  | 10 => .array .int
  | _ => .int
abbrev wsX00 : List Cond := u_ws RX0 TX0 12
theorem nmX0 : ∀ a, a < 12 → ∀ b, b < 12 → a ≠ b → (TX0 a).2.1 ≠ (TX0 b).2.1 := by decide +kernel
theorem tyX0_ok : ∀ k, k < 12 → parseFieldDescriptor (TX0 k).2.2.1 = some (tyX0 k) := by decide +kernel
abbrev cX0_init : ByteArray := prog_1_method_1_code
def yX0_init : MethodName := ⟨RX0, "<init>", "()V"⟩
theorem dX0_init_0 : decode cX0_init 0 = .ok (.aload_n 0, 1) := by decide +kernel
theorem dX0_init_1 : decode cX0_init 1 = .ok (.invokespecial 1, 3) := by decide +kernel
theorem dX0_init_4 : decode cX0_init 4 = .ok (.aload_n 0, 1) := by decide +kernel
theorem dX0_init_5 : decode cX0_init 5 = .ok (.bipush 10, 2) := by decide +kernel
theorem dX0_init_7 : decode cX0_init 7 = .ok (.newarray .int, 2) := by decide +kernel
theorem dX0_init_9 : decode cX0_init 9 = .ok (.putfield 7, 3) := by decide +kernel
theorem dX0_init_12 : decode cX0_init 12 = .ok (.aload_n 0, 1) := by decide +kernel
theorem dX0_init_13 : decode cX0_init 13 = .ok (.bipush 10, 2) := by decide +kernel
theorem dX0_init_15 : decode cX0_init 15 = .ok (.newarray .byte, 2) := by decide +kernel
theorem dX0_init_17 : decode cX0_init 17 = .ok (.putfield 13, 3) := by decide +kernel
theorem dX0_init_20 : decode cX0_init 20 = .ok (.aload_n 0, 1) := by decide +kernel
theorem dX0_init_21 : decode cX0_init 21 = .ok (.sipush 512, 3) := by decide +kernel
theorem dX0_init_24 : decode cX0_init 24 = .ok (.newarray .int, 2) := by decide +kernel
theorem dX0_init_26 : decode cX0_init 26 = .ok (.putfield 17, 3) := by decide +kernel
theorem dX0_init_29 : decode cX0_init 29 = .ok (.aload_n 0, 1) := by decide +kernel
theorem dX0_init_30 : decode cX0_init 30 = .ok (.sipush 512, 3) := by decide +kernel
theorem dX0_init_33 : decode cX0_init 33 = .ok (.newarray .int, 2) := by decide +kernel
theorem dX0_init_35 : decode cX0_init 35 = .ok (.putfield 20, 3) := by decide +kernel
theorem dX0_init_38 : decode cX0_init 38 = .ok (.aload_n 0, 1) := by decide +kernel
theorem dX0_init_39 : decode cX0_init 39 = .ok (.sipush 512, 3) := by decide +kernel
theorem dX0_init_42 : decode cX0_init 42 = .ok (.newarray .int, 2) := by decide +kernel
theorem dX0_init_44 : decode cX0_init 44 = .ok (.putfield 23, 3) := by decide +kernel
theorem dX0_init_47 : decode cX0_init 47 = .ok (.aload_n 0, 1) := by decide +kernel
theorem dX0_init_48 : decode cX0_init 48 = .ok (.sipush 512, 3) := by decide +kernel
theorem dX0_init_51 : decode cX0_init 51 = .ok (.newarray .int, 2) := by decide +kernel
theorem dX0_init_53 : decode cX0_init 53 = .ok (.putfield 26, 3) := by decide +kernel
theorem dX0_init_56 : decode cX0_init 56 = .ok (.aload_n 0, 1) := by decide +kernel
theorem dX0_init_57 : decode cX0_init 57 = .ok (.sipush 15421, 3) := by decide +kernel
theorem dX0_init_60 : decode cX0_init 60 = .ok (.putfield 29, 3) := by decide +kernel
theorem dX0_init_63 : decode cX0_init 63 = .ok (.return_, 1) := by decide +kernel
abbrev cX0_draftRange : ByteArray := prog_1_method_2_code
def yX0_draftRange : MethodName := ⟨RX0, "draftRange", "(III)Z"⟩
theorem dX0_draftRange_0 : decode cX0_draftRange 0 = .ok (.iload_n 1, 1) := by decide +kernel
theorem dX0_draftRange_1 : decode cX0_draftRange 1 = .ok (.ifCond .lt 8, 3) := by decide +kernel
theorem dX0_draftRange_4 : decode cX0_draftRange 4 = .ok (.iload_n 1, 1) := by decide +kernel
theorem dX0_draftRange_5 : decode cX0_draftRange 5 = .ok (.iconst 1, 1) := by decide +kernel
theorem dX0_draftRange_6 : decode cX0_draftRange 6 = .ok (.if_icmp .le 5, 3) := by decide +kernel
theorem dX0_draftRange_9 : decode cX0_draftRange 9 = .ok (.iconst 0, 1) := by decide +kernel
theorem dX0_draftRange_10 : decode cX0_draftRange 10 = .ok (.ireturn, 1) := by decide +kernel
theorem dX0_draftRange_11 : decode cX0_draftRange 11 = .ok (.iload_n 2, 1) := by decide +kernel
theorem dX0_draftRange_12 : decode cX0_draftRange 12 = .ok (.ifCond .lt 24, 3) := by decide +kernel
theorem dX0_draftRange_15 : decode cX0_draftRange 15 = .ok (.iload_n 2, 1) := by decide +kernel
theorem dX0_draftRange_16 : decode cX0_draftRange 16 = .ok (.bipush 15, 2) := by decide +kernel
theorem dX0_draftRange_18 : decode cX0_draftRange 18 = .ok (.if_icmp .gt 18, 3) := by decide +kernel
theorem dX0_draftRange_21 : decode cX0_draftRange 21 = .ok (.iload_n 3, 1) := by decide +kernel
theorem dX0_draftRange_22 : decode cX0_draftRange 22 = .ok (.ifCond .lt 14, 3) := by decide +kernel
theorem dX0_draftRange_25 : decode cX0_draftRange 25 = .ok (.iload_n 3, 1) := by decide +kernel
theorem dX0_draftRange_26 : decode cX0_draftRange 26 = .ok (.bipush 15, 2) := by decide +kernel
theorem dX0_draftRange_28 : decode cX0_draftRange 28 = .ok (.if_icmp .gt 8, 3) := by decide +kernel
theorem dX0_draftRange_31 : decode cX0_draftRange 31 = .ok (.iload_n 2, 1) := by decide +kernel
theorem dX0_draftRange_32 : decode cX0_draftRange 32 = .ok (.iload_n 3, 1) := by decide +kernel
theorem dX0_draftRange_33 : decode cX0_draftRange 33 = .ok (.if_icmp .le 5, 3) := by decide +kernel
theorem dX0_draftRange_36 : decode cX0_draftRange 36 = .ok (.iconst 0, 1) := by decide +kernel
theorem dX0_draftRange_37 : decode cX0_draftRange 37 = .ok (.ireturn, 1) := by decide +kernel
theorem dX0_draftRange_38 : decode cX0_draftRange 38 = .ok (.iload_n 1, 1) := by decide +kernel
theorem dX0_draftRange_39 : decode cX0_draftRange 39 = .ok (.ifCond .ne 8, 3) := by decide +kernel
theorem dX0_draftRange_42 : decode cX0_draftRange 42 = .ok (.bipush 10, 2) := by decide +kernel
theorem dX0_draftRange_44 : decode cX0_draftRange 44 = .ok (.goto 4, 3) := by decide +kernel
theorem dX0_draftRange_47 : decode cX0_draftRange 47 = .ok (.iconst 2, 1) := by decide +kernel
theorem dX0_draftRange_48 : decode cX0_draftRange 48 = .ok (.istore 4, 2) := by decide +kernel
theorem dX0_draftRange_50 : decode cX0_draftRange 50 = .ok (.aload_n 0, 1) := by decide +kernel
theorem dX0_draftRange_51 : decode cX0_draftRange 51 = .ok (.aload_n 0, 1) := by decide +kernel
theorem dX0_draftRange_52 : decode cX0_draftRange 52 = .ok (.getfield 29, 3) := by decide +kernel
theorem dX0_draftRange_55 : decode cX0_draftRange 55 = .ok (.sipush 255, 3) := by decide +kernel
theorem dX0_draftRange_58 : decode cX0_draftRange 58 = .ok (.iload 4, 2) := by decide +kernel
theorem dX0_draftRange_60 : decode cX0_draftRange 60 = .ok (.ishl, 1) := by decide +kernel
theorem dX0_draftRange_61 : decode cX0_draftRange 61 = .ok (.iconst (-1), 1) := by decide +kernel
theorem dX0_draftRange_62 : decode cX0_draftRange 62 = .ok (.ixor, 1) := by decide +kernel
theorem dX0_draftRange_63 : decode cX0_draftRange 63 = .ok (.iand, 1) := by decide +kernel
theorem dX0_draftRange_64 : decode cX0_draftRange 64 = .ok (.iload_n 2, 1) := by decide +kernel
theorem dX0_draftRange_65 : decode cX0_draftRange 65 = .ok (.iload 4, 2) := by decide +kernel
theorem dX0_draftRange_67 : decode cX0_draftRange 67 = .ok (.iconst 4, 1) := by decide +kernel
theorem dX0_draftRange_68 : decode cX0_draftRange 68 = .ok (.iadd, 1) := by decide +kernel
theorem dX0_draftRange_69 : decode cX0_draftRange 69 = .ok (.ishl, 1) := by decide +kernel
theorem dX0_draftRange_70 : decode cX0_draftRange 70 = .ok (.ior, 1) := by decide +kernel
theorem dX0_draftRange_71 : decode cX0_draftRange 71 = .ok (.iload_n 3, 1) := by decide +kernel
theorem dX0_draftRange_72 : decode cX0_draftRange 72 = .ok (.iload 4, 2) := by decide +kernel
theorem dX0_draftRange_74 : decode cX0_draftRange 74 = .ok (.ishl, 1) := by decide +kernel
theorem dX0_draftRange_75 : decode cX0_draftRange 75 = .ok (.ior, 1) := by decide +kernel
theorem dX0_draftRange_76 : decode cX0_draftRange 76 = .ok (.putfield 29, 3) := by decide +kernel
theorem dX0_draftRange_79 : decode cX0_draftRange 79 = .ok (.iconst 1, 1) := by decide +kernel
theorem dX0_draftRange_80 : decode cX0_draftRange 80 = .ok (.ireturn, 1) := by decide +kernel
abbrev cX0_draftSet : ByteArray := prog_1_method_3_code
def yX0_draftSet : MethodName := ⟨RX0, "draftSet", "(I)Z"⟩
theorem dX0_draftSet_0 : decode cX0_draftSet 0 = .ok (.iload_n 1, 1) := by decide +kernel
theorem dX0_draftSet_1 : decode cX0_draftSet 1 = .ok (.ifCond .lt 8, 3) := by decide +kernel
theorem dX0_draftSet_4 : decode cX0_draftSet 4 = .ok (.iload_n 1, 1) := by decide +kernel
theorem dX0_draftSet_5 : decode cX0_draftSet 5 = .ok (.iconst 2, 1) := by decide +kernel
theorem dX0_draftSet_6 : decode cX0_draftSet 6 = .ok (.if_icmp .le 5, 3) := by decide +kernel
theorem dX0_draftSet_9 : decode cX0_draftSet 9 = .ok (.iconst 0, 1) := by decide +kernel
theorem dX0_draftSet_10 : decode cX0_draftSet 10 = .ok (.ireturn, 1) := by decide +kernel
theorem dX0_draftSet_11 : decode cX0_draftSet 11 = .ok (.iload_n 1, 1) := by decide +kernel
theorem dX0_draftSet_12 : decode cX0_draftSet 12 = .ok (.ifCond .ne 7, 3) := by decide +kernel
theorem dX0_draftSet_15 : decode cX0_draftSet 15 = .ok (.iconst 0, 1) := by decide +kernel
theorem dX0_draftSet_16 : decode cX0_draftSet 16 = .ok (.goto 13, 3) := by decide +kernel
theorem dX0_draftSet_19 : decode cX0_draftSet 19 = .ok (.iload_n 1, 1) := by decide +kernel
theorem dX0_draftSet_20 : decode cX0_draftSet 20 = .ok (.iconst 1, 1) := by decide +kernel
theorem dX0_draftSet_21 : decode cX0_draftSet 21 = .ok (.if_icmp .ne 7, 3) := by decide +kernel
theorem dX0_draftSet_24 : decode cX0_draftSet 24 = .ok (.iconst 3, 1) := by decide +kernel
theorem dX0_draftSet_25 : decode cX0_draftSet 25 = .ok (.goto 4, 3) := by decide +kernel
theorem dX0_draftSet_28 : decode cX0_draftSet 28 = .ok (.iconst 1, 1) := by decide +kernel
theorem dX0_draftSet_29 : decode cX0_draftSet 29 = .ok (.istore_n 2, 1) := by decide +kernel
theorem dX0_draftSet_30 : decode cX0_draftSet 30 = .ok (.aload_n 0, 1) := by decide +kernel
theorem dX0_draftSet_31 : decode cX0_draftSet 31 = .ok (.aload_n 0, 1) := by decide +kernel
theorem dX0_draftSet_32 : decode cX0_draftSet 32 = .ok (.getfield 29, 3) := by decide +kernel
theorem dX0_draftSet_35 : decode cX0_draftSet 35 = .ok (.bipush (-4), 2) := by decide +kernel
theorem dX0_draftSet_37 : decode cX0_draftSet 37 = .ok (.iand, 1) := by decide +kernel
theorem dX0_draftSet_38 : decode cX0_draftSet 38 = .ok (.iload_n 2, 1) := by decide +kernel
theorem dX0_draftSet_39 : decode cX0_draftSet 39 = .ok (.ior, 1) := by decide +kernel
theorem dX0_draftSet_40 : decode cX0_draftSet 40 = .ok (.putfield 29, 3) := by decide +kernel
theorem dX0_draftSet_43 : decode cX0_draftSet 43 = .ok (.iconst 1, 1) := by decide +kernel
theorem dX0_draftSet_44 : decode cX0_draftSet 44 = .ok (.ireturn, 1) := by decide +kernel
abbrev cX0_insert : ByteArray := prog_1_method_4_code
def yX0_insert : MethodName := ⟨RX0, "insert", "(II)I"⟩
theorem dX0_insert_0 : decode cX0_insert 0 = .ok (.aload_n 0, 1) := by decide +kernel
theorem dX0_insert_1 : decode cX0_insert 1 = .ok (.getfield 33, 3) := by decide +kernel
theorem dX0_insert_4 : decode cX0_insert 4 = .ok (.bipush 10, 2) := by decide +kernel
theorem dX0_insert_6 : decode cX0_insert 6 = .ok (.if_icmp .lt 6, 3) := by decide +kernel
theorem dX0_insert_9 : decode cX0_insert 9 = .ok (.bipush (-2), 2) := by decide +kernel
theorem dX0_insert_11 : decode cX0_insert 11 = .ok (.ireturn, 1) := by decide +kernel
theorem dX0_insert_12 : decode cX0_insert 12 = .ok (.iload_n 1, 1) := by decide +kernel
theorem dX0_insert_13 : decode cX0_insert 13 = .ok (.ifCond .lt 20, 3) := by decide +kernel
theorem dX0_insert_16 : decode cX0_insert 16 = .ok (.iload_n 1, 1) := by decide +kernel
theorem dX0_insert_17 : decode cX0_insert 17 = .ok (.aload_n 0, 1) := by decide +kernel
theorem dX0_insert_18 : decode cX0_insert 18 = .ok (.getfield 33, 3) := by decide +kernel
theorem dX0_insert_21 : decode cX0_insert 21 = .ok (.if_icmp .gt 12, 3) := by decide +kernel
theorem dX0_insert_24 : decode cX0_insert 24 = .ok (.iload_n 2, 1) := by decide +kernel
theorem dX0_insert_25 : decode cX0_insert 25 = .ok (.ifCond .lt 8, 3) := by decide +kernel
theorem dX0_insert_28 : decode cX0_insert 28 = .ok (.iload_n 2, 1) := by decide +kernel
theorem dX0_insert_29 : decode cX0_insert 29 = .ok (.iconst 1, 1) := by decide +kernel
theorem dX0_insert_30 : decode cX0_insert 30 = .ok (.if_icmp .le 5, 3) := by decide +kernel
theorem dX0_insert_33 : decode cX0_insert 33 = .ok (.iconst (-1), 1) := by decide +kernel
theorem dX0_insert_34 : decode cX0_insert 34 = .ok (.ireturn, 1) := by decide +kernel
theorem dX0_insert_35 : decode cX0_insert 35 = .ok (.aload_n 0, 1) := by decide +kernel
theorem dX0_insert_36 : decode cX0_insert 36 = .ok (.getfield 33, 3) := by decide +kernel
theorem dX0_insert_39 : decode cX0_insert 39 = .ok (.istore_n 3, 1) := by decide +kernel
theorem dX0_insert_40 : decode cX0_insert 40 = .ok (.iload_n 3, 1) := by decide +kernel
theorem dX0_insert_41 : decode cX0_insert 41 = .ok (.iload_n 1, 1) := by decide +kernel
theorem dX0_insert_42 : decode cX0_insert 42 = .ok (.if_icmp .le 37, 3) := by decide +kernel
theorem dX0_insert_45 : decode cX0_insert 45 = .ok (.aload_n 0, 1) := by decide +kernel
theorem dX0_insert_46 : decode cX0_insert 46 = .ok (.getfield 7, 3) := by decide +kernel
theorem dX0_insert_49 : decode cX0_insert 49 = .ok (.iload_n 3, 1) := by decide +kernel
theorem dX0_insert_50 : decode cX0_insert 50 = .ok (.aload_n 0, 1) := by decide +kernel
theorem dX0_insert_51 : decode cX0_insert 51 = .ok (.getfield 7, 3) := by decide +kernel
theorem dX0_insert_54 : decode cX0_insert 54 = .ok (.iload_n 3, 1) := by decide +kernel
theorem dX0_insert_55 : decode cX0_insert 55 = .ok (.iconst 1, 1) := by decide +kernel
theorem dX0_insert_56 : decode cX0_insert 56 = .ok (.isub, 1) := by decide +kernel
theorem dX0_insert_57 : decode cX0_insert 57 = .ok (.iaload, 1) := by decide +kernel
theorem dX0_insert_58 : decode cX0_insert 58 = .ok (.iastore, 1) := by decide +kernel
theorem dX0_insert_59 : decode cX0_insert 59 = .ok (.aload_n 0, 1) := by decide +kernel
theorem dX0_insert_60 : decode cX0_insert 60 = .ok (.getfield 13, 3) := by decide +kernel
theorem dX0_insert_63 : decode cX0_insert 63 = .ok (.iload_n 3, 1) := by decide +kernel
theorem dX0_insert_64 : decode cX0_insert 64 = .ok (.aload_n 0, 1) := by decide +kernel
theorem dX0_insert_65 : decode cX0_insert 65 = .ok (.getfield 13, 3) := by decide +kernel
theorem dX0_insert_68 : decode cX0_insert 68 = .ok (.iload_n 3, 1) := by decide +kernel
theorem dX0_insert_69 : decode cX0_insert 69 = .ok (.iconst 1, 1) := by decide +kernel
theorem dX0_insert_70 : decode cX0_insert 70 = .ok (.isub, 1) := by decide +kernel
theorem dX0_insert_71 : decode cX0_insert 71 = .ok (.baload, 1) := by decide +kernel
theorem dX0_insert_72 : decode cX0_insert 72 = .ok (.bastore, 1) := by decide +kernel
theorem dX0_insert_73 : decode cX0_insert 73 = .ok (.iinc 3 (-1), 3) := by decide +kernel
theorem dX0_insert_76 : decode cX0_insert 76 = .ok (.goto (-36), 3) := by decide +kernel
theorem dX0_insert_79 : decode cX0_insert 79 = .ok (.aload_n 0, 1) := by decide +kernel
theorem dX0_insert_80 : decode cX0_insert 80 = .ok (.getfield 7, 3) := by decide +kernel
theorem dX0_insert_83 : decode cX0_insert 83 = .ok (.iload_n 1, 1) := by decide +kernel
theorem dX0_insert_84 : decode cX0_insert 84 = .ok (.aload_n 0, 1) := by decide +kernel
theorem dX0_insert_85 : decode cX0_insert 85 = .ok (.getfield 29, 3) := by decide +kernel
theorem dX0_insert_88 : decode cX0_insert 88 = .ok (.iastore, 1) := by decide +kernel
theorem dX0_insert_89 : decode cX0_insert 89 = .ok (.aload_n 0, 1) := by decide +kernel
theorem dX0_insert_90 : decode cX0_insert 90 = .ok (.getfield 13, 3) := by decide +kernel
theorem dX0_insert_93 : decode cX0_insert 93 = .ok (.iload_n 1, 1) := by decide +kernel
theorem dX0_insert_94 : decode cX0_insert 94 = .ok (.iload_n 2, 1) := by decide +kernel
theorem dX0_insert_95 : decode cX0_insert 95 = .ok (.i2b, 1) := by decide +kernel
theorem dX0_insert_96 : decode cX0_insert 96 = .ok (.bastore, 1) := by decide +kernel
theorem dX0_insert_97 : decode cX0_insert 97 = .ok (.aload_n 0, 1) := by decide +kernel
theorem dX0_insert_98 : decode cX0_insert 98 = .ok (.dup, 1) := by decide +kernel
theorem dX0_insert_99 : decode cX0_insert 99 = .ok (.getfield 33, 3) := by decide +kernel
theorem dX0_insert_102 : decode cX0_insert 102 = .ok (.iconst 1, 1) := by decide +kernel
theorem dX0_insert_103 : decode cX0_insert 103 = .ok (.iadd, 1) := by decide +kernel
theorem dX0_insert_104 : decode cX0_insert 104 = .ok (.putfield 33, 3) := by decide +kernel
theorem dX0_insert_107 : decode cX0_insert 107 = .ok (.aload_n 0, 1) := by decide +kernel
theorem dX0_insert_108 : decode cX0_insert 108 = .ok (.getfield 33, 3) := by decide +kernel
theorem dX0_insert_111 : decode cX0_insert 111 = .ok (.ireturn, 1) := by decide +kernel
abbrev cX0_remove : ByteArray := prog_1_method_5_code
def yX0_remove : MethodName := ⟨RX0, "remove", "(I)I"⟩
theorem dX0_remove_0 : decode cX0_remove 0 = .ok (.aload_n 0, 1) := by decide +kernel
theorem dX0_remove_1 : decode cX0_remove 1 = .ok (.iload_n 1, 1) := by decide +kernel
theorem dX0_remove_2 : decode cX0_remove 2 = .ok (.invokevirtual 36, 3) := by decide +kernel
theorem dX0_remove_5 : decode cX0_remove 5 = .ok (.ifCond .ne 5, 3) := by decide +kernel
theorem dX0_remove_8 : decode cX0_remove 8 = .ok (.iconst (-1), 1) := by decide +kernel
theorem dX0_remove_9 : decode cX0_remove 9 = .ok (.ireturn, 1) := by decide +kernel
theorem dX0_remove_10 : decode cX0_remove 10 = .ok (.aload_n 0, 1) := by decide +kernel
theorem dX0_remove_11 : decode cX0_remove 11 = .ok (.dup, 1) := by decide +kernel
theorem dX0_remove_12 : decode cX0_remove 12 = .ok (.getfield 33, 3) := by decide +kernel
theorem dX0_remove_15 : decode cX0_remove 15 = .ok (.iconst 1, 1) := by decide +kernel
theorem dX0_remove_16 : decode cX0_remove 16 = .ok (.isub, 1) := by decide +kernel
theorem dX0_remove_17 : decode cX0_remove 17 = .ok (.putfield 33, 3) := by decide +kernel
theorem dX0_remove_20 : decode cX0_remove 20 = .ok (.iload_n 1, 1) := by decide +kernel
theorem dX0_remove_21 : decode cX0_remove 21 = .ok (.istore_n 2, 1) := by decide +kernel
theorem dX0_remove_22 : decode cX0_remove 22 = .ok (.iload_n 2, 1) := by decide +kernel
theorem dX0_remove_23 : decode cX0_remove 23 = .ok (.aload_n 0, 1) := by decide +kernel
theorem dX0_remove_24 : decode cX0_remove 24 = .ok (.getfield 33, 3) := by decide +kernel
theorem dX0_remove_27 : decode cX0_remove 27 = .ok (.if_icmp .ge 37, 3) := by decide +kernel
theorem dX0_remove_30 : decode cX0_remove 30 = .ok (.aload_n 0, 1) := by decide +kernel
theorem dX0_remove_31 : decode cX0_remove 31 = .ok (.getfield 7, 3) := by decide +kernel
theorem dX0_remove_34 : decode cX0_remove 34 = .ok (.iload_n 2, 1) := by decide +kernel
theorem dX0_remove_35 : decode cX0_remove 35 = .ok (.aload_n 0, 1) := by decide +kernel
theorem dX0_remove_36 : decode cX0_remove 36 = .ok (.getfield 7, 3) := by decide +kernel
theorem dX0_remove_39 : decode cX0_remove 39 = .ok (.iload_n 2, 1) := by decide +kernel
theorem dX0_remove_40 : decode cX0_remove 40 = .ok (.iconst 1, 1) := by decide +kernel
theorem dX0_remove_41 : decode cX0_remove 41 = .ok (.iadd, 1) := by decide +kernel
theorem dX0_remove_42 : decode cX0_remove 42 = .ok (.iaload, 1) := by decide +kernel
theorem dX0_remove_43 : decode cX0_remove 43 = .ok (.iastore, 1) := by decide +kernel
theorem dX0_remove_44 : decode cX0_remove 44 = .ok (.aload_n 0, 1) := by decide +kernel
theorem dX0_remove_45 : decode cX0_remove 45 = .ok (.getfield 13, 3) := by decide +kernel
theorem dX0_remove_48 : decode cX0_remove 48 = .ok (.iload_n 2, 1) := by decide +kernel
theorem dX0_remove_49 : decode cX0_remove 49 = .ok (.aload_n 0, 1) := by decide +kernel
theorem dX0_remove_50 : decode cX0_remove 50 = .ok (.getfield 13, 3) := by decide +kernel
theorem dX0_remove_53 : decode cX0_remove 53 = .ok (.iload_n 2, 1) := by decide +kernel
theorem dX0_remove_54 : decode cX0_remove 54 = .ok (.iconst 1, 1) := by decide +kernel
theorem dX0_remove_55 : decode cX0_remove 55 = .ok (.iadd, 1) := by decide +kernel
theorem dX0_remove_56 : decode cX0_remove 56 = .ok (.baload, 1) := by decide +kernel
theorem dX0_remove_57 : decode cX0_remove 57 = .ok (.bastore, 1) := by decide +kernel
theorem dX0_remove_58 : decode cX0_remove 58 = .ok (.iinc 2 1, 3) := by decide +kernel
theorem dX0_remove_61 : decode cX0_remove 61 = .ok (.goto (-39), 3) := by decide +kernel
theorem dX0_remove_64 : decode cX0_remove 64 = .ok (.aload_n 0, 1) := by decide +kernel
theorem dX0_remove_65 : decode cX0_remove 65 = .ok (.getfield 33, 3) := by decide +kernel
theorem dX0_remove_68 : decode cX0_remove 68 = .ok (.ireturn, 1) := by decide +kernel
abbrev cX0_isRule : ByteArray := prog_1_method_6_code
def yX0_isRule : MethodName := ⟨RX0, "isRule", "(I)Z"⟩
theorem dX0_isRule_0 : decode cX0_isRule 0 = .ok (.iload_n 1, 1) := by decide +kernel
theorem dX0_isRule_1 : decode cX0_isRule 1 = .ok (.ifCond .lt 15, 3) := by decide +kernel
theorem dX0_isRule_4 : decode cX0_isRule 4 = .ok (.iload_n 1, 1) := by decide +kernel
theorem dX0_isRule_5 : decode cX0_isRule 5 = .ok (.aload_n 0, 1) := by decide +kernel
theorem dX0_isRule_6 : decode cX0_isRule 6 = .ok (.getfield 33, 3) := by decide +kernel
theorem dX0_isRule_9 : decode cX0_isRule 9 = .ok (.if_icmp .ge 7, 3) := by decide +kernel
theorem dX0_isRule_12 : decode cX0_isRule 12 = .ok (.iconst 1, 1) := by decide +kernel
theorem dX0_isRule_13 : decode cX0_isRule 13 = .ok (.goto 4, 3) := by decide +kernel
theorem dX0_isRule_16 : decode cX0_isRule 16 = .ok (.iconst 0, 1) := by decide +kernel
theorem dX0_isRule_17 : decode cX0_isRule 17 = .ok (.ireturn, 1) := by decide +kernel
abbrev cX0_decider : ByteArray := prog_1_method_7_code
def yX0_decider : MethodName := ⟨RX0, "decider", "(III)I"⟩
theorem dX0_decider_0 : decode cX0_decider 0 = .ok (.iload_n 1, 1) := by decide +kernel
theorem dX0_decider_1 : decode cX0_decider 1 = .ok (.ifCond .lt 28, 3) := by decide +kernel
theorem dX0_decider_4 : decode cX0_decider 4 = .ok (.iload_n 1, 1) := by decide +kernel
theorem dX0_decider_5 : decode cX0_decider 5 = .ok (.bipush 15, 2) := by decide +kernel
theorem dX0_decider_7 : decode cX0_decider 7 = .ok (.if_icmp .gt 22, 3) := by decide +kernel
theorem dX0_decider_10 : decode cX0_decider 10 = .ok (.iload_n 2, 1) := by decide +kernel
theorem dX0_decider_11 : decode cX0_decider 11 = .ok (.ifCond .lt 18, 3) := by decide +kernel
theorem dX0_decider_14 : decode cX0_decider 14 = .ok (.iload_n 2, 1) := by decide +kernel
theorem dX0_decider_15 : decode cX0_decider 15 = .ok (.bipush 15, 2) := by decide +kernel
theorem dX0_decider_17 : decode cX0_decider 17 = .ok (.if_icmp .gt 12, 3) := by decide +kernel
theorem dX0_decider_20 : decode cX0_decider 20 = .ok (.iload_n 3, 1) := by decide +kernel
theorem dX0_decider_21 : decode cX0_decider 21 = .ok (.ifCond .lt 8, 3) := by decide +kernel
theorem dX0_decider_24 : decode cX0_decider 24 = .ok (.iload_n 3, 1) := by decide +kernel
theorem dX0_decider_25 : decode cX0_decider 25 = .ok (.iconst 1, 1) := by decide +kernel
theorem dX0_decider_26 : decode cX0_decider 26 = .ok (.if_icmp .le 5, 3) := by decide +kernel
theorem dX0_decider_29 : decode cX0_decider 29 = .ok (.iconst (-1), 1) := by decide +kernel
theorem dX0_decider_30 : decode cX0_decider 30 = .ok (.ireturn, 1) := by decide +kernel
theorem dX0_decider_31 : decode cX0_decider 31 = .ok (.iload_n 1, 1) := by decide +kernel
theorem dX0_decider_32 : decode cX0_decider 32 = .ok (.bipush 14, 2) := by decide +kernel
theorem dX0_decider_34 : decode cX0_decider 34 = .ok (.ishl, 1) := by decide +kernel
theorem dX0_decider_35 : decode cX0_decider 35 = .ok (.iload_n 1, 1) := by decide +kernel
theorem dX0_decider_36 : decode cX0_decider 36 = .ok (.bipush 10, 2) := by decide +kernel
theorem dX0_decider_38 : decode cX0_decider 38 = .ok (.ishl, 1) := by decide +kernel
theorem dX0_decider_39 : decode cX0_decider 39 = .ok (.ior, 1) := by decide +kernel
theorem dX0_decider_40 : decode cX0_decider 40 = .ok (.iload_n 2, 1) := by decide +kernel
theorem dX0_decider_41 : decode cX0_decider 41 = .ok (.bipush 6, 2) := by decide +kernel
theorem dX0_decider_43 : decode cX0_decider 43 = .ok (.ishl, 1) := by decide +kernel
theorem dX0_decider_44 : decode cX0_decider 44 = .ok (.ior, 1) := by decide +kernel
theorem dX0_decider_45 : decode cX0_decider 45 = .ok (.iload_n 2, 1) := by decide +kernel
theorem dX0_decider_46 : decode cX0_decider 46 = .ok (.iconst 2, 1) := by decide +kernel
theorem dX0_decider_47 : decode cX0_decider 47 = .ok (.ishl, 1) := by decide +kernel
theorem dX0_decider_48 : decode cX0_decider 48 = .ok (.ior, 1) := by decide +kernel
theorem dX0_decider_49 : decode cX0_decider 49 = .ok (.iload_n 3, 1) := by decide +kernel
theorem dX0_decider_50 : decode cX0_decider 50 = .ok (.iconst 1, 1) := by decide +kernel
theorem dX0_decider_51 : decode cX0_decider 51 = .ok (.ishl, 1) := by decide +kernel
theorem dX0_decider_52 : decode cX0_decider 52 = .ok (.ior, 1) := by decide +kernel
theorem dX0_decider_53 : decode cX0_decider 53 = .ok (.iload_n 3, 1) := by decide +kernel
theorem dX0_decider_54 : decode cX0_decider 54 = .ok (.ior, 1) := by decide +kernel
theorem dX0_decider_55 : decode cX0_decider 55 = .ok (.istore 4, 2) := by decide +kernel
theorem dX0_decider_57 : decode cX0_decider 57 = .ok (.iconst 0, 1) := by decide +kernel
theorem dX0_decider_58 : decode cX0_decider 58 = .ok (.istore 5, 2) := by decide +kernel
theorem dX0_decider_60 : decode cX0_decider 60 = .ok (.iload 5, 2) := by decide +kernel
theorem dX0_decider_62 : decode cX0_decider 62 = .ok (.aload_n 0, 1) := by decide +kernel
theorem dX0_decider_63 : decode cX0_decider 63 = .ok (.getfield 33, 3) := by decide +kernel
theorem dX0_decider_66 : decode cX0_decider 66 = .ok (.if_icmp .ge 28, 3) := by decide +kernel
theorem dX0_decider_69 : decode cX0_decider 69 = .ok (.aload_n 0, 1) := by decide +kernel
theorem dX0_decider_70 : decode cX0_decider 70 = .ok (.aload_n 0, 1) := by decide +kernel
theorem dX0_decider_71 : decode cX0_decider 71 = .ok (.getfield 7, 3) := by decide +kernel
theorem dX0_decider_74 : decode cX0_decider 74 = .ok (.iload 5, 2) := by decide +kernel
theorem dX0_decider_76 : decode cX0_decider 76 = .ok (.iaload, 1) := by decide +kernel
theorem dX0_decider_77 : decode cX0_decider 77 = .ok (.iload 4, 2) := by decide +kernel
theorem dX0_decider_79 : decode cX0_decider 79 = .ok (.invokevirtual 40, 3) := by decide +kernel
theorem dX0_decider_82 : decode cX0_decider 82 = .ok (.ifCond .eq 6, 3) := by decide +kernel
theorem dX0_decider_85 : decode cX0_decider 85 = .ok (.iload 5, 2) := by decide +kernel
theorem dX0_decider_87 : decode cX0_decider 87 = .ok (.ireturn, 1) := by decide +kernel
theorem dX0_decider_88 : decode cX0_decider 88 = .ok (.iinc 5 1, 3) := by decide +kernel
theorem dX0_decider_91 : decode cX0_decider 91 = .ok (.goto (-31), 3) := by decide +kernel
theorem dX0_decider_94 : decode cX0_decider 94 = .ok (.bipush (-3), 2) := by decide +kernel
theorem dX0_decider_96 : decode cX0_decider 96 = .ok (.ireturn, 1) := by decide +kernel
abbrev cX0_meets : ByteArray := prog_1_method_37_code
def yX0_meets : MethodName := ⟨RX0, "meets", "(II)Z"⟩
theorem dX0_meets_0 : decode cX0_meets 0 = .ok (.aload_n 0, 1) := by decide +kernel
theorem dX0_meets_1 : decode cX0_meets 1 = .ok (.iload_n 1, 1) := by decide +kernel
theorem dX0_meets_2 : decode cX0_meets 2 = .ok (.invokevirtual 92, 3) := by decide +kernel
theorem dX0_meets_5 : decode cX0_meets 5 = .ok (.aload_n 0, 1) := by decide +kernel
theorem dX0_meets_6 : decode cX0_meets 6 = .ok (.iload_n 2, 1) := by decide +kernel
theorem dX0_meets_7 : decode cX0_meets 7 = .ok (.invokevirtual 121, 3) := by decide +kernel
theorem dX0_meets_10 : decode cX0_meets 10 = .ok (.if_icmp .gt 16, 3) := by decide +kernel
theorem dX0_meets_13 : decode cX0_meets 13 = .ok (.aload_n 0, 1) := by decide +kernel
theorem dX0_meets_14 : decode cX0_meets 14 = .ok (.iload_n 2, 1) := by decide +kernel
theorem dX0_meets_15 : decode cX0_meets 15 = .ok (.invokevirtual 92, 3) := by decide +kernel
theorem dX0_meets_18 : decode cX0_meets 18 = .ok (.aload_n 0, 1) := by decide +kernel
theorem dX0_meets_19 : decode cX0_meets 19 = .ok (.iload_n 1, 1) := by decide +kernel
theorem dX0_meets_20 : decode cX0_meets 20 = .ok (.invokevirtual 121, 3) := by decide +kernel
theorem dX0_meets_23 : decode cX0_meets 23 = .ok (.if_icmp .le 5, 3) := by decide +kernel
theorem dX0_meets_26 : decode cX0_meets 26 = .ok (.iconst 0, 1) := by decide +kernel
theorem dX0_meets_27 : decode cX0_meets 27 = .ok (.ireturn, 1) := by decide +kernel
theorem dX0_meets_28 : decode cX0_meets 28 = .ok (.aload_n 0, 1) := by decide +kernel
theorem dX0_meets_29 : decode cX0_meets 29 = .ok (.iload_n 1, 1) := by decide +kernel
theorem dX0_meets_30 : decode cX0_meets 30 = .ok (.invokevirtual 95, 3) := by decide +kernel
theorem dX0_meets_33 : decode cX0_meets 33 = .ok (.aload_n 0, 1) := by decide +kernel
theorem dX0_meets_34 : decode cX0_meets 34 = .ok (.iload_n 2, 1) := by decide +kernel
theorem dX0_meets_35 : decode cX0_meets 35 = .ok (.invokevirtual 128, 3) := by decide +kernel
theorem dX0_meets_38 : decode cX0_meets 38 = .ok (.if_icmp .gt 16, 3) := by decide +kernel
theorem dX0_meets_41 : decode cX0_meets 41 = .ok (.aload_n 0, 1) := by decide +kernel
theorem dX0_meets_42 : decode cX0_meets 42 = .ok (.iload_n 2, 1) := by decide +kernel
theorem dX0_meets_43 : decode cX0_meets 43 = .ok (.invokevirtual 95, 3) := by decide +kernel
theorem dX0_meets_46 : decode cX0_meets 46 = .ok (.aload_n 0, 1) := by decide +kernel
theorem dX0_meets_47 : decode cX0_meets 47 = .ok (.iload_n 1, 1) := by decide +kernel
theorem dX0_meets_48 : decode cX0_meets 48 = .ok (.invokevirtual 128, 3) := by decide +kernel
theorem dX0_meets_51 : decode cX0_meets 51 = .ok (.if_icmp .le 5, 3) := by decide +kernel
theorem dX0_meets_54 : decode cX0_meets 54 = .ok (.iconst 0, 1) := by decide +kernel
theorem dX0_meets_55 : decode cX0_meets 55 = .ok (.ireturn, 1) := by decide +kernel
theorem dX0_meets_56 : decode cX0_meets 56 = .ok (.aload_n 0, 1) := by decide +kernel
theorem dX0_meets_57 : decode cX0_meets 57 = .ok (.iload_n 1, 1) := by decide +kernel
theorem dX0_meets_58 : decode cX0_meets 58 = .ok (.invokevirtual 98, 3) := by decide +kernel
theorem dX0_meets_61 : decode cX0_meets 61 = .ok (.aload_n 0, 1) := by decide +kernel
theorem dX0_meets_62 : decode cX0_meets 62 = .ok (.iload_n 2, 1) := by decide +kernel
theorem dX0_meets_63 : decode cX0_meets 63 = .ok (.invokevirtual 118, 3) := by decide +kernel
theorem dX0_meets_66 : decode cX0_meets 66 = .ok (.if_icmp .gt 20, 3) := by decide +kernel
theorem dX0_meets_69 : decode cX0_meets 69 = .ok (.aload_n 0, 1) := by decide +kernel
theorem dX0_meets_70 : decode cX0_meets 70 = .ok (.iload_n 2, 1) := by decide +kernel
theorem dX0_meets_71 : decode cX0_meets 71 = .ok (.invokevirtual 98, 3) := by decide +kernel
theorem dX0_meets_74 : decode cX0_meets 74 = .ok (.aload_n 0, 1) := by decide +kernel
theorem dX0_meets_75 : decode cX0_meets 75 = .ok (.iload_n 1, 1) := by decide +kernel
theorem dX0_meets_76 : decode cX0_meets 76 = .ok (.invokevirtual 118, 3) := by decide +kernel
theorem dX0_meets_79 : decode cX0_meets 79 = .ok (.if_icmp .gt 7, 3) := by decide +kernel
theorem dX0_meets_82 : decode cX0_meets 82 = .ok (.iconst 1, 1) := by decide +kernel
theorem dX0_meets_83 : decode cX0_meets 83 = .ok (.goto 4, 3) := by decide +kernel
theorem dX0_meets_86 : decode cX0_meets 86 = .ok (.iconst 0, 1) := by decide +kernel
theorem dX0_meets_87 : decode cX0_meets 87 = .ok (.ireturn, 1) := by decide +kernel
abbrev cX0_fromS : ByteArray := prog_1_method_28_code
def yX0_fromS : MethodName := ⟨RX0, "fromS", "(I)I"⟩
theorem dX0_fromS_0 : decode cX0_fromS 0 = .ok (.iload_n 1, 1) := by decide +kernel
theorem dX0_fromS_1 : decode cX0_fromS 1 = .ok (.bipush 14, 2) := by decide +kernel
theorem dX0_fromS_3 : decode cX0_fromS 3 = .ok (.ishr, 1) := by decide +kernel
theorem dX0_fromS_4 : decode cX0_fromS 4 = .ok (.bipush 15, 2) := by decide +kernel
theorem dX0_fromS_6 : decode cX0_fromS 6 = .ok (.iand, 1) := by decide +kernel
theorem dX0_fromS_7 : decode cX0_fromS 7 = .ok (.ireturn, 1) := by decide +kernel
abbrev cX0_toS : ByteArray := prog_1_method_29_code
def yX0_toS : MethodName := ⟨RX0, "toS", "(I)I"⟩
theorem dX0_toS_0 : decode cX0_toS 0 = .ok (.iload_n 1, 1) := by decide +kernel
theorem dX0_toS_1 : decode cX0_toS 1 = .ok (.bipush 10, 2) := by decide +kernel
theorem dX0_toS_3 : decode cX0_toS 3 = .ok (.ishr, 1) := by decide +kernel
theorem dX0_toS_4 : decode cX0_toS 4 = .ok (.bipush 15, 2) := by decide +kernel
theorem dX0_toS_6 : decode cX0_toS 6 = .ok (.iand, 1) := by decide +kernel
theorem dX0_toS_7 : decode cX0_toS 7 = .ok (.ireturn, 1) := by decide +kernel
abbrev cX0_fromD : ByteArray := prog_1_method_30_code
def yX0_fromD : MethodName := ⟨RX0, "fromD", "(I)I"⟩
theorem dX0_fromD_0 : decode cX0_fromD 0 = .ok (.iload_n 1, 1) := by decide +kernel
theorem dX0_fromD_1 : decode cX0_fromD 1 = .ok (.bipush 6, 2) := by decide +kernel
theorem dX0_fromD_3 : decode cX0_fromD 3 = .ok (.ishr, 1) := by decide +kernel
theorem dX0_fromD_4 : decode cX0_fromD 4 = .ok (.bipush 15, 2) := by decide +kernel
theorem dX0_fromD_6 : decode cX0_fromD 6 = .ok (.iand, 1) := by decide +kernel
theorem dX0_fromD_7 : decode cX0_fromD 7 = .ok (.ireturn, 1) := by decide +kernel
abbrev cX0_toD : ByteArray := prog_1_method_31_code
def yX0_toD : MethodName := ⟨RX0, "toD", "(I)I"⟩
theorem dX0_toD_0 : decode cX0_toD 0 = .ok (.iload_n 1, 1) := by decide +kernel
theorem dX0_toD_1 : decode cX0_toD 1 = .ok (.iconst 2, 1) := by decide +kernel
theorem dX0_toD_2 : decode cX0_toD 2 = .ok (.ishr, 1) := by decide +kernel
theorem dX0_toD_3 : decode cX0_toD 3 = .ok (.bipush 15, 2) := by decide +kernel
theorem dX0_toD_5 : decode cX0_toD 5 = .ok (.iand, 1) := by decide +kernel
theorem dX0_toD_6 : decode cX0_toD 6 = .ok (.ireturn, 1) := by decide +kernel
abbrev cX0_fromP : ByteArray := prog_1_method_32_code
def yX0_fromP : MethodName := ⟨RX0, "fromP", "(I)I"⟩
theorem dX0_fromP_0 : decode cX0_fromP 0 = .ok (.iload_n 1, 1) := by decide +kernel
theorem dX0_fromP_1 : decode cX0_fromP 1 = .ok (.iconst 1, 1) := by decide +kernel
theorem dX0_fromP_2 : decode cX0_fromP 2 = .ok (.ishr, 1) := by decide +kernel
theorem dX0_fromP_3 : decode cX0_fromP 3 = .ok (.iconst 1, 1) := by decide +kernel
theorem dX0_fromP_4 : decode cX0_fromP 4 = .ok (.iand, 1) := by decide +kernel
theorem dX0_fromP_5 : decode cX0_fromP 5 = .ok (.ireturn, 1) := by decide +kernel
abbrev cX0_toP : ByteArray := prog_1_method_33_code
def yX0_toP : MethodName := ⟨RX0, "toP", "(I)I"⟩
theorem dX0_toP_0 : decode cX0_toP 0 = .ok (.iload_n 1, 1) := by decide +kernel
theorem dX0_toP_1 : decode cX0_toP 1 = .ok (.iconst 1, 1) := by decide +kernel
theorem dX0_toP_2 : decode cX0_toP 2 = .ok (.iand, 1) := by decide +kernel
theorem dX0_toP_3 : decode cX0_toP 3 = .ok (.ireturn, 1) := by decide +kernel
end
section
set_option maxRecDepth 100000
abbrev cX0_owned : ByteArray := prog_1_method_8_code
def yX0_owned : MethodName := ⟨RX0, "owned", "(I)I"⟩
theorem dX0_owned_0 : decode cX0_owned 0 = .ok (.aload_n 0, 1) := by decide +kernel
theorem dX0_owned_1 : decode cX0_owned 1 = .ok (.iload_n 1, 1) := by decide +kernel
theorem dX0_owned_2 : decode cX0_owned 2 = .ok (.invokevirtual 36, 3) := by decide +kernel
theorem dX0_owned_5 : decode cX0_owned 5 = .ok (.ifCond .ne 5, 3) := by decide +kernel
theorem dX0_owned_8 : decode cX0_owned 8 = .ok (.iconst (-1), 1) := by decide +kernel
theorem dX0_owned_9 : decode cX0_owned 9 = .ok (.ireturn, 1) := by decide +kernel
theorem dX0_owned_10 : decode cX0_owned 10 = .ok (.aload_n 0, 1) := by decide +kernel
theorem dX0_owned_11 : decode cX0_owned 11 = .ok (.iload_n 1, 1) := by decide +kernel
theorem dX0_owned_12 : decode cX0_owned 12 = .ok (.invokevirtual 44, 3) := by decide +kernel
theorem dX0_owned_15 : decode cX0_owned 15 = .ok (.aload_n 0, 1) := by decide +kernel
theorem dX0_owned_16 : decode cX0_owned 16 = .ok (.invokevirtual 48, 3) := by decide +kernel
theorem dX0_owned_19 : decode cX0_owned 19 = .ok (.ireturn, 1) := by decide +kernel
abbrev cX0_carveOwned : ByteArray := prog_1_method_17_code
def yX0_carveOwned : MethodName := ⟨RX0, "carveOwned", "(I)V"⟩
theorem dX0_carveOwned_0 : decode cX0_carveOwned 0 = .ok (.aload_n 0, 1) := by decide +kernel
theorem dX0_carveOwned_1 : decode cX0_carveOwned 1 = .ok (.aload_n 0, 1) := by decide +kernel
theorem dX0_carveOwned_2 : decode cX0_carveOwned 2 = .ok (.getfield 7, 3) := by decide +kernel
theorem dX0_carveOwned_5 : decode cX0_carveOwned 5 = .ok (.iload_n 1, 1) := by decide +kernel
theorem dX0_carveOwned_6 : decode cX0_carveOwned 6 = .ok (.iaload, 1) := by decide +kernel
theorem dX0_carveOwned_7 : decode cX0_carveOwned 7 = .ok (.invokevirtual 89, 3) := by decide +kernel
theorem dX0_carveOwned_10 : decode cX0_carveOwned 10 = .ok (.iconst 0, 1) := by decide +kernel
theorem dX0_carveOwned_11 : decode cX0_carveOwned 11 = .ok (.istore_n 2, 1) := by decide +kernel
theorem dX0_carveOwned_12 : decode cX0_carveOwned 12 = .ok (.iload_n 2, 1) := by decide +kernel
theorem dX0_carveOwned_13 : decode cX0_carveOwned 13 = .ok (.iload_n 1, 1) := by decide +kernel
theorem dX0_carveOwned_14 : decode cX0_carveOwned 14 = .ok (.if_icmp .ge 19, 3) := by decide +kernel
theorem dX0_carveOwned_17 : decode cX0_carveOwned 17 = .ok (.aload_n 0, 1) := by decide +kernel
theorem dX0_carveOwned_18 : decode cX0_carveOwned 18 = .ok (.aload_n 0, 1) := by decide +kernel
theorem dX0_carveOwned_19 : decode cX0_carveOwned 19 = .ok (.getfield 7, 3) := by decide +kernel
theorem dX0_carveOwned_22 : decode cX0_carveOwned 22 = .ok (.iload_n 2, 1) := by decide +kernel
theorem dX0_carveOwned_23 : decode cX0_carveOwned 23 = .ok (.iaload, 1) := by decide +kernel
theorem dX0_carveOwned_24 : decode cX0_carveOwned 24 = .ok (.invokevirtual 86, 3) := by decide +kernel
theorem dX0_carveOwned_27 : decode cX0_carveOwned 27 = .ok (.iinc 2 1, 3) := by decide +kernel
theorem dX0_carveOwned_30 : decode cX0_carveOwned 30 = .ok (.goto (-18), 3) := by decide +kernel
theorem dX0_carveOwned_33 : decode cX0_carveOwned 33 = .ok (.return_, 1) := by decide +kernel
abbrev cX0_startWork : ByteArray := prog_1_method_16_code
def yX0_startWork : MethodName := ⟨RX0, "startWork", "(I)V"⟩
theorem dX0_startWork_0 : decode cX0_startWork 0 = .ok (.aload_n 0, 1) := by decide +kernel
theorem dX0_startWork_1 : decode cX0_startWork 1 = .ok (.getfield 17, 3) := by decide +kernel
theorem dX0_startWork_4 : decode cX0_startWork 4 = .ok (.iconst 0, 1) := by decide +kernel
theorem dX0_startWork_5 : decode cX0_startWork 5 = .ok (.iload_n 1, 1) := by decide +kernel
theorem dX0_startWork_6 : decode cX0_startWork 6 = .ok (.iastore, 1) := by decide +kernel
theorem dX0_startWork_7 : decode cX0_startWork 7 = .ok (.aload_n 0, 1) := by decide +kernel
theorem dX0_startWork_8 : decode cX0_startWork 8 = .ok (.iconst 1, 1) := by decide +kernel
theorem dX0_startWork_9 : decode cX0_startWork 9 = .ok (.putfield 56, 3) := by decide +kernel
theorem dX0_startWork_12 : decode cX0_startWork 12 = .ok (.return_, 1) := by decide +kernel
abbrev cX0_subtract : ByteArray := prog_1_method_23_code
def yX0_subtract : MethodName := ⟨RX0, "subtract", "(I)V"⟩
theorem dX0_subtract_0 : decode cX0_subtract 0 = .ok (.aload_n 0, 1) := by decide +kernel
theorem dX0_subtract_1 : decode cX0_subtract 1 = .ok (.iconst 0, 1) := by decide +kernel
theorem dX0_subtract_2 : decode cX0_subtract 2 = .ok (.putfield 101, 3) := by decide +kernel
theorem dX0_subtract_5 : decode cX0_subtract 5 = .ok (.iconst 0, 1) := by decide +kernel
theorem dX0_subtract_6 : decode cX0_subtract 6 = .ok (.istore_n 2, 1) := by decide +kernel
theorem dX0_subtract_7 : decode cX0_subtract 7 = .ok (.iload_n 2, 1) := by decide +kernel
theorem dX0_subtract_8 : decode cX0_subtract 8 = .ok (.aload_n 0, 1) := by decide +kernel
theorem dX0_subtract_9 : decode cX0_subtract 9 = .ok (.getfield 56, 3) := by decide +kernel
theorem dX0_subtract_12 : decode cX0_subtract 12 = .ok (.if_icmp .ge 47, 3) := by decide +kernel
theorem dX0_subtract_15 : decode cX0_subtract 15 = .ok (.aload_n 0, 1) := by decide +kernel
theorem dX0_subtract_16 : decode cX0_subtract 16 = .ok (.aload_n 0, 1) := by decide +kernel
theorem dX0_subtract_17 : decode cX0_subtract 17 = .ok (.getfield 17, 3) := by decide +kernel
theorem dX0_subtract_20 : decode cX0_subtract 20 = .ok (.iload_n 2, 1) := by decide +kernel
theorem dX0_subtract_21 : decode cX0_subtract 21 = .ok (.iaload, 1) := by decide +kernel
theorem dX0_subtract_22 : decode cX0_subtract 22 = .ok (.iload_n 1, 1) := by decide +kernel
theorem dX0_subtract_23 : decode cX0_subtract 23 = .ok (.invokevirtual 40, 3) := by decide +kernel
theorem dX0_subtract_26 : decode cX0_subtract 26 = .ok (.ifCond .eq 17, 3) := by decide +kernel
theorem dX0_subtract_29 : decode cX0_subtract 29 = .ok (.aload_n 0, 1) := by decide +kernel
theorem dX0_subtract_30 : decode cX0_subtract 30 = .ok (.aload_n 0, 1) := by decide +kernel
theorem dX0_subtract_31 : decode cX0_subtract 31 = .ok (.getfield 17, 3) := by decide +kernel
theorem dX0_subtract_34 : decode cX0_subtract 34 = .ok (.iload_n 2, 1) := by decide +kernel
theorem dX0_subtract_35 : decode cX0_subtract 35 = .ok (.iaload, 1) := by decide +kernel
theorem dX0_subtract_36 : decode cX0_subtract 36 = .ok (.iload_n 1, 1) := by decide +kernel
theorem dX0_subtract_37 : decode cX0_subtract 37 = .ok (.invokevirtual 104, 3) := by decide +kernel
theorem dX0_subtract_40 : decode cX0_subtract 40 = .ok (.goto 13, 3) := by decide +kernel
theorem dX0_subtract_43 : decode cX0_subtract 43 = .ok (.aload_n 0, 1) := by decide +kernel
theorem dX0_subtract_44 : decode cX0_subtract 44 = .ok (.aload_n 0, 1) := by decide +kernel
theorem dX0_subtract_45 : decode cX0_subtract 45 = .ok (.getfield 17, 3) := by decide +kernel
theorem dX0_subtract_48 : decode cX0_subtract 48 = .ok (.iload_n 2, 1) := by decide +kernel
theorem dX0_subtract_49 : decode cX0_subtract 49 = .ok (.iaload, 1) := by decide +kernel
theorem dX0_subtract_50 : decode cX0_subtract 50 = .ok (.invokevirtual 108, 3) := by decide +kernel
theorem dX0_subtract_53 : decode cX0_subtract 53 = .ok (.iinc 2 1, 3) := by decide +kernel
theorem dX0_subtract_56 : decode cX0_subtract 56 = .ok (.goto (-49), 3) := by decide +kernel
theorem dX0_subtract_59 : decode cX0_subtract 59 = .ok (.iconst 0, 1) := by decide +kernel
theorem dX0_subtract_60 : decode cX0_subtract 60 = .ok (.istore_n 2, 1) := by decide +kernel
theorem dX0_subtract_61 : decode cX0_subtract 61 = .ok (.iload_n 2, 1) := by decide +kernel
theorem dX0_subtract_62 : decode cX0_subtract 62 = .ok (.aload_n 0, 1) := by decide +kernel
theorem dX0_subtract_63 : decode cX0_subtract 63 = .ok (.getfield 101, 3) := by decide +kernel
theorem dX0_subtract_66 : decode cX0_subtract 66 = .ok (.if_icmp .ge 21, 3) := by decide +kernel
theorem dX0_subtract_69 : decode cX0_subtract 69 = .ok (.aload_n 0, 1) := by decide +kernel
theorem dX0_subtract_70 : decode cX0_subtract 70 = .ok (.getfield 17, 3) := by decide +kernel
theorem dX0_subtract_73 : decode cX0_subtract 73 = .ok (.iload_n 2, 1) := by decide +kernel
theorem dX0_subtract_74 : decode cX0_subtract 74 = .ok (.aload_n 0, 1) := by decide +kernel
theorem dX0_subtract_75 : decode cX0_subtract 75 = .ok (.getfield 20, 3) := by decide +kernel
theorem dX0_subtract_78 : decode cX0_subtract 78 = .ok (.iload_n 2, 1) := by decide +kernel
theorem dX0_subtract_79 : decode cX0_subtract 79 = .ok (.iaload, 1) := by decide +kernel
theorem dX0_subtract_80 : decode cX0_subtract 80 = .ok (.iastore, 1) := by decide +kernel
theorem dX0_subtract_81 : decode cX0_subtract 81 = .ok (.iinc 2 1, 3) := by decide +kernel
theorem dX0_subtract_84 : decode cX0_subtract 84 = .ok (.goto (-23), 3) := by decide +kernel
theorem dX0_subtract_87 : decode cX0_subtract 87 = .ok (.aload_n 0, 1) := by decide +kernel
theorem dX0_subtract_88 : decode cX0_subtract 88 = .ok (.aload_n 0, 1) := by decide +kernel
theorem dX0_subtract_89 : decode cX0_subtract 89 = .ok (.getfield 101, 3) := by decide +kernel
theorem dX0_subtract_92 : decode cX0_subtract 92 = .ok (.putfield 56, 3) := by decide +kernel
theorem dX0_subtract_95 : decode cX0_subtract 95 = .ok (.return_, 1) := by decide +kernel
abbrev cX0_carve : ByteArray := prog_1_method_25_code
def yX0_carve : MethodName := ⟨RX0, "carve", "(II)V"⟩
theorem dX0_carve_0 : decode cX0_carve 0 = .ok (.aload_n 0, 1) := by decide +kernel
theorem dX0_carve_1 : decode cX0_carve 1 = .ok (.iload_n 1, 1) := by decide +kernel
theorem dX0_carve_2 : decode cX0_carve 2 = .ok (.iload_n 2, 1) := by decide +kernel
theorem dX0_carve_3 : decode cX0_carve 3 = .ok (.invokevirtual 111, 3) := by decide +kernel
theorem dX0_carve_6 : decode cX0_carve 6 = .ok (.istore_n 3, 1) := by decide +kernel
theorem dX0_carve_7 : decode cX0_carve 7 = .ok (.aload_n 0, 1) := by decide +kernel
theorem dX0_carve_8 : decode cX0_carve 8 = .ok (.iload_n 3, 1) := by decide +kernel
theorem dX0_carve_9 : decode cX0_carve 9 = .ok (.iload_n 2, 1) := by decide +kernel
theorem dX0_carve_10 : decode cX0_carve 10 = .ok (.invokevirtual 115, 3) := by decide +kernel
theorem dX0_carve_13 : decode cX0_carve 13 = .ok (.istore_n 3, 1) := by decide +kernel
theorem dX0_carve_14 : decode cX0_carve 14 = .ok (.aload_n 0, 1) := by decide +kernel
theorem dX0_carve_15 : decode cX0_carve 15 = .ok (.iload_n 3, 1) := by decide +kernel
theorem dX0_carve_16 : decode cX0_carve 16 = .ok (.invokevirtual 98, 3) := by decide +kernel
theorem dX0_carve_19 : decode cX0_carve 19 = .ok (.aload_n 0, 1) := by decide +kernel
theorem dX0_carve_20 : decode cX0_carve 20 = .ok (.iload_n 2, 1) := by decide +kernel
theorem dX0_carve_21 : decode cX0_carve 21 = .ok (.invokevirtual 98, 3) := by decide +kernel
theorem dX0_carve_24 : decode cX0_carve 24 = .ok (.if_icmp .ge 11, 3) := by decide +kernel
theorem dX0_carve_27 : decode cX0_carve 27 = .ok (.aload_n 0, 1) := by decide +kernel
theorem dX0_carve_28 : decode cX0_carve 28 = .ok (.iload_n 3, 1) := by decide +kernel
theorem dX0_carve_29 : decode cX0_carve 29 = .ok (.bipush (-4), 2) := by decide +kernel
theorem dX0_carve_31 : decode cX0_carve 31 = .ok (.iand, 1) := by decide +kernel
theorem dX0_carve_32 : decode cX0_carve 32 = .ok (.invokevirtual 108, 3) := by decide +kernel
theorem dX0_carve_35 : decode cX0_carve 35 = .ok (.aload_n 0, 1) := by decide +kernel
theorem dX0_carve_36 : decode cX0_carve 36 = .ok (.iload_n 3, 1) := by decide +kernel
theorem dX0_carve_37 : decode cX0_carve 37 = .ok (.invokevirtual 118, 3) := by decide +kernel
theorem dX0_carve_40 : decode cX0_carve 40 = .ok (.aload_n 0, 1) := by decide +kernel
theorem dX0_carve_41 : decode cX0_carve 41 = .ok (.iload_n 2, 1) := by decide +kernel
theorem dX0_carve_42 : decode cX0_carve 42 = .ok (.invokevirtual 118, 3) := by decide +kernel
theorem dX0_carve_45 : decode cX0_carve 45 = .ok (.if_icmp .le 10, 3) := by decide +kernel
theorem dX0_carve_48 : decode cX0_carve 48 = .ok (.aload_n 0, 1) := by decide +kernel
theorem dX0_carve_49 : decode cX0_carve 49 = .ok (.iload_n 3, 1) := by decide +kernel
theorem dX0_carve_50 : decode cX0_carve 50 = .ok (.iconst 3, 1) := by decide +kernel
theorem dX0_carve_51 : decode cX0_carve 51 = .ok (.ior, 1) := by decide +kernel
theorem dX0_carve_52 : decode cX0_carve 52 = .ok (.invokevirtual 108, 3) := by decide +kernel
theorem dX0_carve_55 : decode cX0_carve 55 = .ok (.return_, 1) := by decide +kernel
abbrev cX0_carveS : ByteArray := prog_1_method_26_code
def yX0_carveS : MethodName := ⟨RX0, "carveS", "(II)I"⟩
theorem dX0_carveS_0 : decode cX0_carveS 0 = .ok (.aload_n 0, 1) := by decide +kernel
theorem dX0_carveS_1 : decode cX0_carveS 1 = .ok (.iload_n 1, 1) := by decide +kernel
theorem dX0_carveS_2 : decode cX0_carveS 2 = .ok (.invokevirtual 92, 3) := by decide +kernel
theorem dX0_carveS_5 : decode cX0_carveS 5 = .ok (.istore_n 3, 1) := by decide +kernel
theorem dX0_carveS_6 : decode cX0_carveS 6 = .ok (.aload_n 0, 1) := by decide +kernel
theorem dX0_carveS_7 : decode cX0_carveS 7 = .ok (.iload_n 1, 1) := by decide +kernel
theorem dX0_carveS_8 : decode cX0_carveS 8 = .ok (.invokevirtual 121, 3) := by decide +kernel
theorem dX0_carveS_11 : decode cX0_carveS 11 = .ok (.istore 4, 2) := by decide +kernel
theorem dX0_carveS_13 : decode cX0_carveS 13 = .ok (.aload_n 0, 1) := by decide +kernel
theorem dX0_carveS_14 : decode cX0_carveS 14 = .ok (.iload_n 2, 1) := by decide +kernel
theorem dX0_carveS_15 : decode cX0_carveS 15 = .ok (.invokevirtual 92, 3) := by decide +kernel
theorem dX0_carveS_18 : decode cX0_carveS 18 = .ok (.istore 5, 2) := by decide +kernel
theorem dX0_carveS_20 : decode cX0_carveS 20 = .ok (.aload_n 0, 1) := by decide +kernel
theorem dX0_carveS_21 : decode cX0_carveS 21 = .ok (.iload_n 2, 1) := by decide +kernel
theorem dX0_carveS_22 : decode cX0_carveS 22 = .ok (.invokevirtual 121, 3) := by decide +kernel
theorem dX0_carveS_25 : decode cX0_carveS 25 = .ok (.istore 6, 2) := by decide +kernel
theorem dX0_carveS_27 : decode cX0_carveS 27 = .ok (.iload_n 3, 1) := by decide +kernel
theorem dX0_carveS_28 : decode cX0_carveS 28 = .ok (.iload 5, 2) := by decide +kernel
theorem dX0_carveS_30 : decode cX0_carveS 30 = .ok (.if_icmp .ge 24, 3) := by decide +kernel
theorem dX0_carveS_33 : decode cX0_carveS 33 = .ok (.aload_n 0, 1) := by decide +kernel
theorem dX0_carveS_34 : decode cX0_carveS 34 = .ok (.iload_n 1, 1) := by decide +kernel
theorem dX0_carveS_35 : decode cX0_carveS 35 = .ok (.iload_n 3, 1) := by decide +kernel
theorem dX0_carveS_36 : decode cX0_carveS 36 = .ok (.iload 5, 2) := by decide +kernel
theorem dX0_carveS_38 : decode cX0_carveS 38 = .ok (.iconst 1, 1) := by decide +kernel
theorem dX0_carveS_39 : decode cX0_carveS 39 = .ok (.isub, 1) := by decide +kernel
theorem dX0_carveS_40 : decode cX0_carveS 40 = .ok (.invokevirtual 124, 3) := by decide +kernel
theorem dX0_carveS_43 : decode cX0_carveS 43 = .ok (.istore 7, 2) := by decide +kernel
theorem dX0_carveS_45 : decode cX0_carveS 45 = .ok (.aload_n 0, 1) := by decide +kernel
theorem dX0_carveS_46 : decode cX0_carveS 46 = .ok (.iload 7, 2) := by decide +kernel
theorem dX0_carveS_48 : decode cX0_carveS 48 = .ok (.invokevirtual 108, 3) := by decide +kernel
theorem dX0_carveS_51 : decode cX0_carveS 51 = .ok (.iload 5, 2) := by decide +kernel
theorem dX0_carveS_53 : decode cX0_carveS 53 = .ok (.istore_n 3, 1) := by decide +kernel
theorem dX0_carveS_54 : decode cX0_carveS 54 = .ok (.iload 4, 2) := by decide +kernel
theorem dX0_carveS_56 : decode cX0_carveS 56 = .ok (.iload 6, 2) := by decide +kernel
theorem dX0_carveS_58 : decode cX0_carveS 58 = .ok (.if_icmp .le 26, 3) := by decide +kernel
theorem dX0_carveS_61 : decode cX0_carveS 61 = .ok (.aload_n 0, 1) := by decide +kernel
theorem dX0_carveS_62 : decode cX0_carveS 62 = .ok (.iload_n 1, 1) := by decide +kernel
theorem dX0_carveS_63 : decode cX0_carveS 63 = .ok (.iload 6, 2) := by decide +kernel
theorem dX0_carveS_65 : decode cX0_carveS 65 = .ok (.iconst 1, 1) := by decide +kernel
theorem dX0_carveS_66 : decode cX0_carveS 66 = .ok (.iadd, 1) := by decide +kernel
theorem dX0_carveS_67 : decode cX0_carveS 67 = .ok (.iload 4, 2) := by decide +kernel
theorem dX0_carveS_69 : decode cX0_carveS 69 = .ok (.invokevirtual 124, 3) := by decide +kernel
theorem dX0_carveS_72 : decode cX0_carveS 72 = .ok (.istore 7, 2) := by decide +kernel
theorem dX0_carveS_74 : decode cX0_carveS 74 = .ok (.aload_n 0, 1) := by decide +kernel
theorem dX0_carveS_75 : decode cX0_carveS 75 = .ok (.iload 7, 2) := by decide +kernel
theorem dX0_carveS_77 : decode cX0_carveS 77 = .ok (.invokevirtual 108, 3) := by decide +kernel
theorem dX0_carveS_80 : decode cX0_carveS 80 = .ok (.iload 6, 2) := by decide +kernel
theorem dX0_carveS_82 : decode cX0_carveS 82 = .ok (.istore 4, 2) := by decide +kernel
theorem dX0_carveS_84 : decode cX0_carveS 84 = .ok (.aload_n 0, 1) := by decide +kernel
theorem dX0_carveS_85 : decode cX0_carveS 85 = .ok (.iload_n 1, 1) := by decide +kernel
theorem dX0_carveS_86 : decode cX0_carveS 86 = .ok (.iload_n 3, 1) := by decide +kernel
theorem dX0_carveS_87 : decode cX0_carveS 87 = .ok (.iload 4, 2) := by decide +kernel
theorem dX0_carveS_89 : decode cX0_carveS 89 = .ok (.invokevirtual 124, 3) := by decide +kernel
theorem dX0_carveS_92 : decode cX0_carveS 92 = .ok (.ireturn, 1) := by decide +kernel
abbrev cX0_withS : ByteArray := prog_1_method_34_code
def yX0_withS : MethodName := ⟨RX0, "withS", "(III)I"⟩
theorem dX0_withS_0 : decode cX0_withS 0 = .ok (.iload_n 1, 1) := by decide +kernel
theorem dX0_withS_1 : decode cX0_withS 1 = .ok (.sipush 1023, 3) := by decide +kernel
theorem dX0_withS_4 : decode cX0_withS 4 = .ok (.iand, 1) := by decide +kernel
theorem dX0_withS_5 : decode cX0_withS 5 = .ok (.iload_n 2, 1) := by decide +kernel
theorem dX0_withS_6 : decode cX0_withS 6 = .ok (.bipush 14, 2) := by decide +kernel
theorem dX0_withS_8 : decode cX0_withS 8 = .ok (.ishl, 1) := by decide +kernel
theorem dX0_withS_9 : decode cX0_withS 9 = .ok (.ior, 1) := by decide +kernel
theorem dX0_withS_10 : decode cX0_withS 10 = .ok (.iload_n 3, 1) := by decide +kernel
theorem dX0_withS_11 : decode cX0_withS 11 = .ok (.bipush 10, 2) := by decide +kernel
theorem dX0_withS_13 : decode cX0_withS 13 = .ok (.ishl, 1) := by decide +kernel
theorem dX0_withS_14 : decode cX0_withS 14 = .ok (.ior, 1) := by decide +kernel
theorem dX0_withS_15 : decode cX0_withS 15 = .ok (.ireturn, 1) := by decide +kernel
abbrev cX0_addPiece : ByteArray := prog_1_method_24_code
def yX0_addPiece : MethodName := ⟨RX0, "addPiece", "(I)V"⟩
theorem dX0_addPiece_0 : decode cX0_addPiece 0 = .ok (.aload_n 0, 1) := by decide +kernel
theorem dX0_addPiece_1 : decode cX0_addPiece 1 = .ok (.getfield 20, 3) := by decide +kernel
theorem dX0_addPiece_4 : decode cX0_addPiece 4 = .ok (.aload_n 0, 1) := by decide +kernel
theorem dX0_addPiece_5 : decode cX0_addPiece 5 = .ok (.getfield 101, 3) := by decide +kernel
theorem dX0_addPiece_8 : decode cX0_addPiece 8 = .ok (.iload_n 1, 1) := by decide +kernel
theorem dX0_addPiece_9 : decode cX0_addPiece 9 = .ok (.iastore, 1) := by decide +kernel
theorem dX0_addPiece_10 : decode cX0_addPiece 10 = .ok (.aload_n 0, 1) := by decide +kernel
theorem dX0_addPiece_11 : decode cX0_addPiece 11 = .ok (.dup, 1) := by decide +kernel
theorem dX0_addPiece_12 : decode cX0_addPiece 12 = .ok (.getfield 101, 3) := by decide +kernel
theorem dX0_addPiece_15 : decode cX0_addPiece 15 = .ok (.iconst 1, 1) := by decide +kernel
theorem dX0_addPiece_16 : decode cX0_addPiece 16 = .ok (.iadd, 1) := by decide +kernel
theorem dX0_addPiece_17 : decode cX0_addPiece 17 = .ok (.putfield 101, 3) := by decide +kernel
theorem dX0_addPiece_20 : decode cX0_addPiece 20 = .ok (.return_, 1) := by decide +kernel
abbrev cX0_carveD : ByteArray := prog_1_method_27_code
def yX0_carveD : MethodName := ⟨RX0, "carveD", "(II)I"⟩
theorem dX0_carveD_0 : decode cX0_carveD 0 = .ok (.aload_n 0, 1) := by decide +kernel
theorem dX0_carveD_1 : decode cX0_carveD 1 = .ok (.iload_n 1, 1) := by decide +kernel
theorem dX0_carveD_2 : decode cX0_carveD 2 = .ok (.invokevirtual 95, 3) := by decide +kernel
theorem dX0_carveD_5 : decode cX0_carveD 5 = .ok (.istore_n 3, 1) := by decide +kernel
theorem dX0_carveD_6 : decode cX0_carveD 6 = .ok (.aload_n 0, 1) := by decide +kernel
theorem dX0_carveD_7 : decode cX0_carveD 7 = .ok (.iload_n 1, 1) := by decide +kernel
theorem dX0_carveD_8 : decode cX0_carveD 8 = .ok (.invokevirtual 128, 3) := by decide +kernel
theorem dX0_carveD_11 : decode cX0_carveD 11 = .ok (.istore 4, 2) := by decide +kernel
theorem dX0_carveD_13 : decode cX0_carveD 13 = .ok (.aload_n 0, 1) := by decide +kernel
theorem dX0_carveD_14 : decode cX0_carveD 14 = .ok (.iload_n 2, 1) := by decide +kernel
theorem dX0_carveD_15 : decode cX0_carveD 15 = .ok (.invokevirtual 95, 3) := by decide +kernel
theorem dX0_carveD_18 : decode cX0_carveD 18 = .ok (.istore 5, 2) := by decide +kernel
theorem dX0_carveD_20 : decode cX0_carveD 20 = .ok (.aload_n 0, 1) := by decide +kernel
theorem dX0_carveD_21 : decode cX0_carveD 21 = .ok (.iload_n 2, 1) := by decide +kernel
theorem dX0_carveD_22 : decode cX0_carveD 22 = .ok (.invokevirtual 128, 3) := by decide +kernel
theorem dX0_carveD_25 : decode cX0_carveD 25 = .ok (.istore 6, 2) := by decide +kernel
theorem dX0_carveD_27 : decode cX0_carveD 27 = .ok (.iload_n 3, 1) := by decide +kernel
theorem dX0_carveD_28 : decode cX0_carveD 28 = .ok (.iload 5, 2) := by decide +kernel
theorem dX0_carveD_30 : decode cX0_carveD 30 = .ok (.if_icmp .ge 24, 3) := by decide +kernel
theorem dX0_carveD_33 : decode cX0_carveD 33 = .ok (.aload_n 0, 1) := by decide +kernel
theorem dX0_carveD_34 : decode cX0_carveD 34 = .ok (.iload_n 1, 1) := by decide +kernel
theorem dX0_carveD_35 : decode cX0_carveD 35 = .ok (.iload_n 3, 1) := by decide +kernel
theorem dX0_carveD_36 : decode cX0_carveD 36 = .ok (.iload 5, 2) := by decide +kernel
theorem dX0_carveD_38 : decode cX0_carveD 38 = .ok (.iconst 1, 1) := by decide +kernel
theorem dX0_carveD_39 : decode cX0_carveD 39 = .ok (.isub, 1) := by decide +kernel
theorem dX0_carveD_40 : decode cX0_carveD 40 = .ok (.invokevirtual 131, 3) := by decide +kernel
theorem dX0_carveD_43 : decode cX0_carveD 43 = .ok (.istore 7, 2) := by decide +kernel
theorem dX0_carveD_45 : decode cX0_carveD 45 = .ok (.aload_n 0, 1) := by decide +kernel
theorem dX0_carveD_46 : decode cX0_carveD 46 = .ok (.iload 7, 2) := by decide +kernel
theorem dX0_carveD_48 : decode cX0_carveD 48 = .ok (.invokevirtual 108, 3) := by decide +kernel
theorem dX0_carveD_51 : decode cX0_carveD 51 = .ok (.iload 5, 2) := by decide +kernel
theorem dX0_carveD_53 : decode cX0_carveD 53 = .ok (.istore_n 3, 1) := by decide +kernel
theorem dX0_carveD_54 : decode cX0_carveD 54 = .ok (.iload 4, 2) := by decide +kernel
theorem dX0_carveD_56 : decode cX0_carveD 56 = .ok (.iload 6, 2) := by decide +kernel
theorem dX0_carveD_58 : decode cX0_carveD 58 = .ok (.if_icmp .le 26, 3) := by decide +kernel
theorem dX0_carveD_61 : decode cX0_carveD 61 = .ok (.aload_n 0, 1) := by decide +kernel
theorem dX0_carveD_62 : decode cX0_carveD 62 = .ok (.iload_n 1, 1) := by decide +kernel
theorem dX0_carveD_63 : decode cX0_carveD 63 = .ok (.iload 6, 2) := by decide +kernel
theorem dX0_carveD_65 : decode cX0_carveD 65 = .ok (.iconst 1, 1) := by decide +kernel
theorem dX0_carveD_66 : decode cX0_carveD 66 = .ok (.iadd, 1) := by decide +kernel
theorem dX0_carveD_67 : decode cX0_carveD 67 = .ok (.iload 4, 2) := by decide +kernel
theorem dX0_carveD_69 : decode cX0_carveD 69 = .ok (.invokevirtual 131, 3) := by decide +kernel
theorem dX0_carveD_72 : decode cX0_carveD 72 = .ok (.istore 7, 2) := by decide +kernel
theorem dX0_carveD_74 : decode cX0_carveD 74 = .ok (.aload_n 0, 1) := by decide +kernel
theorem dX0_carveD_75 : decode cX0_carveD 75 = .ok (.iload 7, 2) := by decide +kernel
theorem dX0_carveD_77 : decode cX0_carveD 77 = .ok (.invokevirtual 108, 3) := by decide +kernel
theorem dX0_carveD_80 : decode cX0_carveD 80 = .ok (.iload 6, 2) := by decide +kernel
theorem dX0_carveD_82 : decode cX0_carveD 82 = .ok (.istore 4, 2) := by decide +kernel
theorem dX0_carveD_84 : decode cX0_carveD 84 = .ok (.aload_n 0, 1) := by decide +kernel
theorem dX0_carveD_85 : decode cX0_carveD 85 = .ok (.iload_n 1, 1) := by decide +kernel
theorem dX0_carveD_86 : decode cX0_carveD 86 = .ok (.iload_n 3, 1) := by decide +kernel
theorem dX0_carveD_87 : decode cX0_carveD 87 = .ok (.iload 4, 2) := by decide +kernel
theorem dX0_carveD_89 : decode cX0_carveD 89 = .ok (.invokevirtual 131, 3) := by decide +kernel
theorem dX0_carveD_92 : decode cX0_carveD 92 = .ok (.ireturn, 1) := by decide +kernel
abbrev cX0_withD : ByteArray := prog_1_method_35_code
def yX0_withD : MethodName := ⟨RX0, "withD", "(III)I"⟩
theorem dX0_withD_0 : decode cX0_withD 0 = .ok (.iload_n 1, 1) := by decide +kernel
theorem dX0_withD_1 : decode cX0_withD 1 = .ok (.sipush (-1021), 3) := by decide +kernel
theorem dX0_withD_4 : decode cX0_withD 4 = .ok (.iand, 1) := by decide +kernel
theorem dX0_withD_5 : decode cX0_withD 5 = .ok (.iload_n 2, 1) := by decide +kernel
theorem dX0_withD_6 : decode cX0_withD 6 = .ok (.bipush 6, 2) := by decide +kernel
theorem dX0_withD_8 : decode cX0_withD 8 = .ok (.ishl, 1) := by decide +kernel
theorem dX0_withD_9 : decode cX0_withD 9 = .ok (.ior, 1) := by decide +kernel
theorem dX0_withD_10 : decode cX0_withD 10 = .ok (.iload_n 3, 1) := by decide +kernel
theorem dX0_withD_11 : decode cX0_withD 11 = .ok (.iconst 2, 1) := by decide +kernel
theorem dX0_withD_12 : decode cX0_withD 12 = .ok (.ishl, 1) := by decide +kernel
theorem dX0_withD_13 : decode cX0_withD 13 = .ok (.ior, 1) := by decide +kernel
theorem dX0_withD_14 : decode cX0_withD 14 = .ok (.ireturn, 1) := by decide +kernel
abbrev cX0_volumeOfWork : ByteArray := prog_1_method_21_code
def yX0_volumeOfWork : MethodName := ⟨RX0, "volumeOfWork", "()I"⟩
theorem dX0_volumeOfWork_0 : decode cX0_volumeOfWork 0 = .ok (.iconst 0, 1) := by decide +kernel
theorem dX0_volumeOfWork_1 : decode cX0_volumeOfWork 1 = .ok (.istore_n 1, 1) := by decide +kernel
theorem dX0_volumeOfWork_2 : decode cX0_volumeOfWork 2 = .ok (.iconst 0, 1) := by decide +kernel
theorem dX0_volumeOfWork_3 : decode cX0_volumeOfWork 3 = .ok (.istore_n 2, 1) := by decide +kernel
theorem dX0_volumeOfWork_4 : decode cX0_volumeOfWork 4 = .ok (.iload_n 2, 1) := by decide +kernel
theorem dX0_volumeOfWork_5 : decode cX0_volumeOfWork 5 = .ok (.aload_n 0, 1) := by decide +kernel
theorem dX0_volumeOfWork_6 : decode cX0_volumeOfWork 6 = .ok (.getfield 56, 3) := by decide +kernel
theorem dX0_volumeOfWork_9 : decode cX0_volumeOfWork 9 = .ok (.if_icmp .ge 22, 3) := by decide +kernel
theorem dX0_volumeOfWork_12 : decode cX0_volumeOfWork 12 = .ok (.iload_n 1, 1) := by decide +kernel
theorem dX0_volumeOfWork_13 : decode cX0_volumeOfWork 13 = .ok (.aload_n 0, 1) := by decide +kernel
theorem dX0_volumeOfWork_14 : decode cX0_volumeOfWork 14 = .ok (.aload_n 0, 1) := by decide +kernel
theorem dX0_volumeOfWork_15 : decode cX0_volumeOfWork 15 = .ok (.getfield 17, 3) := by decide +kernel
theorem dX0_volumeOfWork_18 : decode cX0_volumeOfWork 18 = .ok (.iload_n 2, 1) := by decide +kernel
theorem dX0_volumeOfWork_19 : decode cX0_volumeOfWork 19 = .ok (.iaload, 1) := by decide +kernel
theorem dX0_volumeOfWork_20 : decode cX0_volumeOfWork 20 = .ok (.invokevirtual 74, 3) := by decide +kernel
theorem dX0_volumeOfWork_23 : decode cX0_volumeOfWork 23 = .ok (.iadd, 1) := by decide +kernel
theorem dX0_volumeOfWork_24 : decode cX0_volumeOfWork 24 = .ok (.istore_n 1, 1) := by decide +kernel
theorem dX0_volumeOfWork_25 : decode cX0_volumeOfWork 25 = .ok (.iinc 2 1, 3) := by decide +kernel
theorem dX0_volumeOfWork_28 : decode cX0_volumeOfWork 28 = .ok (.goto (-24), 3) := by decide +kernel
theorem dX0_volumeOfWork_31 : decode cX0_volumeOfWork 31 = .ok (.iload_n 1, 1) := by decide +kernel
theorem dX0_volumeOfWork_32 : decode cX0_volumeOfWork 32 = .ok (.ireturn, 1) := by decide +kernel
abbrev cX0_volume : ByteArray := prog_1_method_36_code
def yX0_volume : MethodName := ⟨RX0, "volume", "(I)I"⟩
theorem dX0_volume_0 : decode cX0_volume 0 = .ok (.aload_n 0, 1) := by decide +kernel
theorem dX0_volume_1 : decode cX0_volume 1 = .ok (.iload_n 1, 1) := by decide +kernel
theorem dX0_volume_2 : decode cX0_volume 2 = .ok (.invokevirtual 121, 3) := by decide +kernel
theorem dX0_volume_5 : decode cX0_volume 5 = .ok (.aload_n 0, 1) := by decide +kernel
theorem dX0_volume_6 : decode cX0_volume 6 = .ok (.iload_n 1, 1) := by decide +kernel
theorem dX0_volume_7 : decode cX0_volume 7 = .ok (.invokevirtual 92, 3) := by decide +kernel
theorem dX0_volume_10 : decode cX0_volume 10 = .ok (.isub, 1) := by decide +kernel
theorem dX0_volume_11 : decode cX0_volume 11 = .ok (.iconst 1, 1) := by decide +kernel
theorem dX0_volume_12 : decode cX0_volume 12 = .ok (.iadd, 1) := by decide +kernel
theorem dX0_volume_13 : decode cX0_volume 13 = .ok (.istore_n 2, 1) := by decide +kernel
theorem dX0_volume_14 : decode cX0_volume 14 = .ok (.aload_n 0, 1) := by decide +kernel
theorem dX0_volume_15 : decode cX0_volume 15 = .ok (.iload_n 1, 1) := by decide +kernel
theorem dX0_volume_16 : decode cX0_volume 16 = .ok (.invokevirtual 128, 3) := by decide +kernel
theorem dX0_volume_19 : decode cX0_volume 19 = .ok (.aload_n 0, 1) := by decide +kernel
theorem dX0_volume_20 : decode cX0_volume 20 = .ok (.iload_n 1, 1) := by decide +kernel
theorem dX0_volume_21 : decode cX0_volume 21 = .ok (.invokevirtual 95, 3) := by decide +kernel
theorem dX0_volume_24 : decode cX0_volume 24 = .ok (.isub, 1) := by decide +kernel
theorem dX0_volume_25 : decode cX0_volume 25 = .ok (.iconst 1, 1) := by decide +kernel
theorem dX0_volume_26 : decode cX0_volume 26 = .ok (.iadd, 1) := by decide +kernel
theorem dX0_volume_27 : decode cX0_volume 27 = .ok (.istore_n 3, 1) := by decide +kernel
theorem dX0_volume_28 : decode cX0_volume 28 = .ok (.aload_n 0, 1) := by decide +kernel
theorem dX0_volume_29 : decode cX0_volume 29 = .ok (.iload_n 1, 1) := by decide +kernel
theorem dX0_volume_30 : decode cX0_volume 30 = .ok (.invokevirtual 118, 3) := by decide +kernel
theorem dX0_volume_33 : decode cX0_volume 33 = .ok (.aload_n 0, 1) := by decide +kernel
theorem dX0_volume_34 : decode cX0_volume 34 = .ok (.iload_n 1, 1) := by decide +kernel
theorem dX0_volume_35 : decode cX0_volume 35 = .ok (.invokevirtual 98, 3) := by decide +kernel
theorem dX0_volume_38 : decode cX0_volume 38 = .ok (.isub, 1) := by decide +kernel
theorem dX0_volume_39 : decode cX0_volume 39 = .ok (.iconst 1, 1) := by decide +kernel
theorem dX0_volume_40 : decode cX0_volume 40 = .ok (.iadd, 1) := by decide +kernel
theorem dX0_volume_41 : decode cX0_volume 41 = .ok (.istore 4, 2) := by decide +kernel
theorem dX0_volume_43 : decode cX0_volume 43 = .ok (.iload_n 2, 1) := by decide +kernel
theorem dX0_volume_44 : decode cX0_volume 44 = .ok (.iload_n 3, 1) := by decide +kernel
theorem dX0_volume_45 : decode cX0_volume 45 = .ok (.imul, 1) := by decide +kernel
theorem dX0_volume_46 : decode cX0_volume 46 = .ok (.iload 4, 2) := by decide +kernel
theorem dX0_volume_48 : decode cX0_volume 48 = .ok (.imul, 1) := by decide +kernel
theorem dX0_volume_49 : decode cX0_volume 49 = .ok (.ireturn, 1) := by decide +kernel
abbrev cX0_firstOwned : ByteArray := prog_1_method_9_code
def yX0_firstOwned : MethodName := ⟨RX0, "firstOwned", "(I)I"⟩
theorem dX0_firstOwned_0 : decode cX0_firstOwned 0 = .ok (.aload_n 0, 1) := by decide +kernel
theorem dX0_firstOwned_1 : decode cX0_firstOwned 1 = .ok (.iload_n 1, 1) := by decide +kernel
theorem dX0_firstOwned_2 : decode cX0_firstOwned 2 = .ok (.invokevirtual 36, 3) := by decide +kernel
theorem dX0_firstOwned_5 : decode cX0_firstOwned 5 = .ok (.ifCond .ne 5, 3) := by decide +kernel
theorem dX0_firstOwned_8 : decode cX0_firstOwned 8 = .ok (.iconst (-1), 1) := by decide +kernel
theorem dX0_firstOwned_9 : decode cX0_firstOwned 9 = .ok (.ireturn, 1) := by decide +kernel
theorem dX0_firstOwned_10 : decode cX0_firstOwned 10 = .ok (.aload_n 0, 1) := by decide +kernel
theorem dX0_firstOwned_11 : decode cX0_firstOwned 11 = .ok (.iload_n 1, 1) := by decide +kernel
theorem dX0_firstOwned_12 : decode cX0_firstOwned 12 = .ok (.invokevirtual 44, 3) := by decide +kernel
theorem dX0_firstOwned_15 : decode cX0_firstOwned 15 = .ok (.aload_n 0, 1) := by decide +kernel
theorem dX0_firstOwned_16 : decode cX0_firstOwned 16 = .ok (.bipush (-3), 2) := by decide +kernel
theorem dX0_firstOwned_18 : decode cX0_firstOwned 18 = .ok (.invokevirtual 52, 3) := by decide +kernel
theorem dX0_firstOwned_21 : decode cX0_firstOwned 21 = .ok (.ireturn, 1) := by decide +kernel
abbrev cX0_lowestCorner : ByteArray := prog_1_method_22_code
def yX0_lowestCorner : MethodName := ⟨RX0, "lowestCorner", "(I)I"⟩
theorem dX0_lowestCorner_0 : decode cX0_lowestCorner 0 = .ok (.iload_n 1, 1) := by decide +kernel
theorem dX0_lowestCorner_1 : decode cX0_lowestCorner 1 = .ok (.istore_n 2, 1) := by decide +kernel
theorem dX0_lowestCorner_2 : decode cX0_lowestCorner 2 = .ok (.iconst 0, 1) := by decide +kernel
theorem dX0_lowestCorner_3 : decode cX0_lowestCorner 3 = .ok (.istore_n 3, 1) := by decide +kernel
theorem dX0_lowestCorner_4 : decode cX0_lowestCorner 4 = .ok (.iload_n 3, 1) := by decide +kernel
theorem dX0_lowestCorner_5 : decode cX0_lowestCorner 5 = .ok (.aload_n 0, 1) := by decide +kernel
theorem dX0_lowestCorner_6 : decode cX0_lowestCorner 6 = .ok (.getfield 56, 3) := by decide +kernel
theorem dX0_lowestCorner_9 : decode cX0_lowestCorner 9 = .ok (.if_icmp .ge 59, 3) := by decide +kernel
theorem dX0_lowestCorner_12 : decode cX0_lowestCorner 12 = .ok (.aload_n 0, 1) := by decide +kernel
theorem dX0_lowestCorner_13 : decode cX0_lowestCorner 13 = .ok (.getfield 17, 3) := by decide +kernel
theorem dX0_lowestCorner_16 : decode cX0_lowestCorner 16 = .ok (.iload_n 3, 1) := by decide +kernel
theorem dX0_lowestCorner_17 : decode cX0_lowestCorner 17 = .ok (.iaload, 1) := by decide +kernel
theorem dX0_lowestCorner_18 : decode cX0_lowestCorner 18 = .ok (.istore 4, 2) := by decide +kernel
theorem dX0_lowestCorner_20 : decode cX0_lowestCorner 20 = .ok (.bipush 32, 2) := by decide +kernel
theorem dX0_lowestCorner_22 : decode cX0_lowestCorner 22 = .ok (.aload_n 0, 1) := by decide +kernel
theorem dX0_lowestCorner_23 : decode cX0_lowestCorner 23 = .ok (.iload 4, 2) := by decide +kernel
theorem dX0_lowestCorner_25 : decode cX0_lowestCorner 25 = .ok (.invokevirtual 92, 3) := by decide +kernel
theorem dX0_lowestCorner_28 : decode cX0_lowestCorner 28 = .ok (.imul, 1) := by decide +kernel
theorem dX0_lowestCorner_29 : decode cX0_lowestCorner 29 = .ok (.iconst 2, 1) := by decide +kernel
theorem dX0_lowestCorner_30 : decode cX0_lowestCorner 30 = .ok (.aload_n 0, 1) := by decide +kernel
theorem dX0_lowestCorner_31 : decode cX0_lowestCorner 31 = .ok (.iload 4, 2) := by decide +kernel
theorem dX0_lowestCorner_33 : decode cX0_lowestCorner 33 = .ok (.invokevirtual 95, 3) := by decide +kernel
theorem dX0_lowestCorner_36 : decode cX0_lowestCorner 36 = .ok (.imul, 1) := by decide +kernel
theorem dX0_lowestCorner_37 : decode cX0_lowestCorner 37 = .ok (.iadd, 1) := by decide +kernel
theorem dX0_lowestCorner_38 : decode cX0_lowestCorner 38 = .ok (.aload_n 0, 1) := by decide +kernel
theorem dX0_lowestCorner_39 : decode cX0_lowestCorner 39 = .ok (.iload 4, 2) := by decide +kernel
theorem dX0_lowestCorner_41 : decode cX0_lowestCorner 41 = .ok (.invokevirtual 98, 3) := by decide +kernel
theorem dX0_lowestCorner_44 : decode cX0_lowestCorner 44 = .ok (.iadd, 1) := by decide +kernel
theorem dX0_lowestCorner_45 : decode cX0_lowestCorner 45 = .ok (.istore 5, 2) := by decide +kernel
theorem dX0_lowestCorner_47 : decode cX0_lowestCorner 47 = .ok (.iload_n 2, 1) := by decide +kernel
theorem dX0_lowestCorner_48 : decode cX0_lowestCorner 48 = .ok (.bipush (-3), 2) := by decide +kernel
theorem dX0_lowestCorner_50 : decode cX0_lowestCorner 50 = .ok (.if_icmp .eq 9, 3) := by decide +kernel
theorem dX0_lowestCorner_53 : decode cX0_lowestCorner 53 = .ok (.iload 5, 2) := by decide +kernel
theorem dX0_lowestCorner_55 : decode cX0_lowestCorner 55 = .ok (.iload_n 2, 1) := by decide +kernel
theorem dX0_lowestCorner_56 : decode cX0_lowestCorner 56 = .ok (.if_icmp .ge 6, 3) := by decide +kernel
theorem dX0_lowestCorner_59 : decode cX0_lowestCorner 59 = .ok (.iload 5, 2) := by decide +kernel
theorem dX0_lowestCorner_61 : decode cX0_lowestCorner 61 = .ok (.istore_n 2, 1) := by decide +kernel
theorem dX0_lowestCorner_62 : decode cX0_lowestCorner 62 = .ok (.iinc 3 1, 3) := by decide +kernel
theorem dX0_lowestCorner_65 : decode cX0_lowestCorner 65 = .ok (.goto (-61), 3) := by decide +kernel
theorem dX0_lowestCorner_68 : decode cX0_lowestCorner 68 = .ok (.iload_n 2, 1) := by decide +kernel
theorem dX0_lowestCorner_69 : decode cX0_lowestCorner 69 = .ok (.ireturn, 1) := by decide +kernel
end
section
set_option maxRecDepth 100000
abbrev cX0_fault : ByteArray := prog_1_method_10_code
def yX0_fault : MethodName := ⟨RX0, "fault", "(I)I"⟩
theorem dX0_fault_0 : decode cX0_fault 0 = .ok (.aload_n 0, 1) := by decide +kernel
theorem dX0_fault_1 : decode cX0_fault 1 = .ok (.iload_n 1, 1) := by decide +kernel
theorem dX0_fault_2 : decode cX0_fault 2 = .ok (.invokevirtual 36, 3) := by decide +kernel
theorem dX0_fault_5 : decode cX0_fault 5 = .ok (.ifCond .ne 5, 3) := by decide +kernel
theorem dX0_fault_8 : decode cX0_fault 8 = .ok (.iconst (-1), 1) := by decide +kernel
theorem dX0_fault_9 : decode cX0_fault 9 = .ok (.ireturn, 1) := by decide +kernel
theorem dX0_fault_10 : decode cX0_fault 10 = .ok (.aload_n 0, 1) := by decide +kernel
theorem dX0_fault_11 : decode cX0_fault 11 = .ok (.iload_n 1, 1) := by decide +kernel
theorem dX0_fault_12 : decode cX0_fault 12 = .ok (.invokevirtual 44, 3) := by decide +kernel
theorem dX0_fault_15 : decode cX0_fault 15 = .ok (.aload_n 0, 1) := by decide +kernel
theorem dX0_fault_16 : decode cX0_fault 16 = .ok (.getfield 56, 3) := by decide +kernel
theorem dX0_fault_19 : decode cX0_fault 19 = .ok (.ifCond .ne 17, 3) := by decide +kernel
theorem dX0_fault_22 : decode cX0_fault 22 = .ok (.aload_n 0, 1) := by decide +kernel
theorem dX0_fault_23 : decode cX0_fault 23 = .ok (.iload_n 1, 1) := by decide +kernel
theorem dX0_fault_24 : decode cX0_fault 24 = .ok (.invokevirtual 59, 3) := by decide +kernel
theorem dX0_fault_27 : decode cX0_fault 27 = .ok (.ifCond .eq 7, 3) := by decide +kernel
theorem dX0_fault_30 : decode cX0_fault 30 = .ok (.iconst 1, 1) := by decide +kernel
theorem dX0_fault_31 : decode cX0_fault 31 = .ok (.goto 4, 3) := by decide +kernel
theorem dX0_fault_34 : decode cX0_fault 34 = .ok (.iconst 2, 1) := by decide +kernel
theorem dX0_fault_35 : decode cX0_fault 35 = .ok (.ireturn, 1) := by decide +kernel
theorem dX0_fault_36 : decode cX0_fault 36 = .ok (.aload_n 0, 1) := by decide +kernel
theorem dX0_fault_37 : decode cX0_fault 37 = .ok (.iload_n 1, 1) := by decide +kernel
theorem dX0_fault_38 : decode cX0_fault 38 = .ok (.invokevirtual 62, 3) := by decide +kernel
theorem dX0_fault_41 : decode cX0_fault 41 = .ok (.ifCond .eq 5, 3) := by decide +kernel
theorem dX0_fault_44 : decode cX0_fault 44 = .ok (.iconst 3, 1) := by decide +kernel
theorem dX0_fault_45 : decode cX0_fault 45 = .ok (.ireturn, 1) := by decide +kernel
theorem dX0_fault_46 : decode cX0_fault 46 = .ok (.iconst 0, 1) := by decide +kernel
theorem dX0_fault_47 : decode cX0_fault 47 = .ok (.istore_n 2, 1) := by decide +kernel
theorem dX0_fault_48 : decode cX0_fault 48 = .ok (.iconst 0, 1) := by decide +kernel
theorem dX0_fault_49 : decode cX0_fault 49 = .ok (.istore_n 3, 1) := by decide +kernel
theorem dX0_fault_50 : decode cX0_fault 50 = .ok (.iload_n 3, 1) := by decide +kernel
theorem dX0_fault_51 : decode cX0_fault 51 = .ok (.iload_n 1, 1) := by decide +kernel
theorem dX0_fault_52 : decode cX0_fault 52 = .ok (.if_icmp .ge 91, 3) := by decide +kernel
theorem dX0_fault_55 : decode cX0_fault 55 = .ok (.aload_n 0, 1) := by decide +kernel
theorem dX0_fault_56 : decode cX0_fault 56 = .ok (.getfield 13, 3) := by decide +kernel
theorem dX0_fault_59 : decode cX0_fault 59 = .ok (.iload_n 3, 1) := by decide +kernel
theorem dX0_fault_60 : decode cX0_fault 60 = .ok (.baload, 1) := by decide +kernel
theorem dX0_fault_61 : decode cX0_fault 61 = .ok (.aload_n 0, 1) := by decide +kernel
theorem dX0_fault_62 : decode cX0_fault 62 = .ok (.getfield 13, 3) := by decide +kernel
theorem dX0_fault_65 : decode cX0_fault 65 = .ok (.iload_n 1, 1) := by decide +kernel
theorem dX0_fault_66 : decode cX0_fault 66 = .ok (.baload, 1) := by decide +kernel
theorem dX0_fault_67 : decode cX0_fault 67 = .ok (.if_icmp .eq 70, 3) := by decide +kernel
theorem dX0_fault_70 : decode cX0_fault 70 = .ok (.aload_n 0, 1) := by decide +kernel
theorem dX0_fault_71 : decode cX0_fault 71 = .ok (.aload_n 0, 1) := by decide +kernel
theorem dX0_fault_72 : decode cX0_fault 72 = .ok (.getfield 7, 3) := by decide +kernel
theorem dX0_fault_75 : decode cX0_fault 75 = .ok (.iload_n 1, 1) := by decide +kernel
theorem dX0_fault_76 : decode cX0_fault 76 = .ok (.iaload, 1) := by decide +kernel
theorem dX0_fault_77 : decode cX0_fault 77 = .ok (.aload_n 0, 1) := by decide +kernel
theorem dX0_fault_78 : decode cX0_fault 78 = .ok (.getfield 7, 3) := by decide +kernel
theorem dX0_fault_81 : decode cX0_fault 81 = .ok (.iload_n 3, 1) := by decide +kernel
theorem dX0_fault_82 : decode cX0_fault 82 = .ok (.iaload, 1) := by decide +kernel
theorem dX0_fault_83 : decode cX0_fault 83 = .ok (.invokevirtual 40, 3) := by decide +kernel
theorem dX0_fault_86 : decode cX0_fault 86 = .ok (.ifCond .ne 6, 3) := by decide +kernel
theorem dX0_fault_89 : decode cX0_fault 89 = .ok (.goto 48, 3) := by decide +kernel
theorem dX0_fault_92 : decode cX0_fault 92 = .ok (.aload_n 0, 1) := by decide +kernel
theorem dX0_fault_93 : decode cX0_fault 93 = .ok (.aload_n 0, 1) := by decide +kernel
theorem dX0_fault_94 : decode cX0_fault 94 = .ok (.getfield 7, 3) := by decide +kernel
theorem dX0_fault_97 : decode cX0_fault 97 = .ok (.iload_n 3, 1) := by decide +kernel
theorem dX0_fault_98 : decode cX0_fault 98 = .ok (.iaload, 1) := by decide +kernel
theorem dX0_fault_99 : decode cX0_fault 99 = .ok (.aload_n 0, 1) := by decide +kernel
theorem dX0_fault_100 : decode cX0_fault 100 = .ok (.getfield 7, 3) := by decide +kernel
theorem dX0_fault_103 : decode cX0_fault 103 = .ok (.iload_n 1, 1) := by decide +kernel
theorem dX0_fault_104 : decode cX0_fault 104 = .ok (.iaload, 1) := by decide +kernel
theorem dX0_fault_105 : decode cX0_fault 105 = .ok (.invokevirtual 65, 3) := by decide +kernel
theorem dX0_fault_108 : decode cX0_fault 108 = .ok (.ifCond .eq 8, 3) := by decide +kernel
theorem dX0_fault_111 : decode cX0_fault 111 = .ok (.iconst 1, 1) := by decide +kernel
theorem dX0_fault_112 : decode cX0_fault 112 = .ok (.istore_n 2, 1) := by decide +kernel
theorem dX0_fault_113 : decode cX0_fault 113 = .ok (.goto 24, 3) := by decide +kernel
theorem dX0_fault_116 : decode cX0_fault 116 = .ok (.aload_n 0, 1) := by decide +kernel
theorem dX0_fault_117 : decode cX0_fault 117 = .ok (.aload_n 0, 1) := by decide +kernel
theorem dX0_fault_118 : decode cX0_fault 118 = .ok (.getfield 7, 3) := by decide +kernel
theorem dX0_fault_121 : decode cX0_fault 121 = .ok (.iload_n 1, 1) := by decide +kernel
theorem dX0_fault_122 : decode cX0_fault 122 = .ok (.iaload, 1) := by decide +kernel
theorem dX0_fault_123 : decode cX0_fault 123 = .ok (.aload_n 0, 1) := by decide +kernel
theorem dX0_fault_124 : decode cX0_fault 124 = .ok (.getfield 7, 3) := by decide +kernel
theorem dX0_fault_127 : decode cX0_fault 127 = .ok (.iload_n 3, 1) := by decide +kernel
theorem dX0_fault_128 : decode cX0_fault 128 = .ok (.iaload, 1) := by decide +kernel
theorem dX0_fault_129 : decode cX0_fault 129 = .ok (.invokevirtual 65, 3) := by decide +kernel
theorem dX0_fault_132 : decode cX0_fault 132 = .ok (.ifCond .ne 5, 3) := by decide +kernel
theorem dX0_fault_135 : decode cX0_fault 135 = .ok (.iconst 4, 1) := by decide +kernel
theorem dX0_fault_136 : decode cX0_fault 136 = .ok (.ireturn, 1) := by decide +kernel
theorem dX0_fault_137 : decode cX0_fault 137 = .ok (.iinc 3 1, 3) := by decide +kernel
theorem dX0_fault_140 : decode cX0_fault 140 = .ok (.goto (-90), 3) := by decide +kernel
theorem dX0_fault_143 : decode cX0_fault 143 = .ok (.iload_n 2, 1) := by decide +kernel
theorem dX0_fault_144 : decode cX0_fault 144 = .ok (.ifCond .eq 7, 3) := by decide +kernel
theorem dX0_fault_147 : decode cX0_fault 147 = .ok (.iconst 5, 1) := by decide +kernel
theorem dX0_fault_148 : decode cX0_fault 148 = .ok (.goto 4, 3) := by decide +kernel
theorem dX0_fault_151 : decode cX0_fault 151 = .ok (.iconst 0, 1) := by decide +kernel
theorem dX0_fault_152 : decode cX0_fault 152 = .ok (.ireturn, 1) := by decide +kernel
abbrev cX0_overruled : ByteArray := prog_1_method_14_code
def yX0_overruled : MethodName := ⟨RX0, "overruled", "(I)Z"⟩
theorem dX0_overruled_0 : decode cX0_overruled 0 = .ok (.iconst 0, 1) := by decide +kernel
theorem dX0_overruled_1 : decode cX0_overruled 1 = .ok (.istore_n 2, 1) := by decide +kernel
theorem dX0_overruled_2 : decode cX0_overruled 2 = .ok (.iload_n 2, 1) := by decide +kernel
theorem dX0_overruled_3 : decode cX0_overruled 3 = .ok (.iload_n 1, 1) := by decide +kernel
theorem dX0_overruled_4 : decode cX0_overruled 4 = .ok (.if_icmp .ge 69, 3) := by decide +kernel
theorem dX0_overruled_7 : decode cX0_overruled 7 = .ok (.aload_n 0, 1) := by decide +kernel
theorem dX0_overruled_8 : decode cX0_overruled 8 = .ok (.getfield 13, 3) := by decide +kernel
theorem dX0_overruled_11 : decode cX0_overruled 11 = .ok (.iload_n 2, 1) := by decide +kernel
theorem dX0_overruled_12 : decode cX0_overruled 12 = .ok (.baload, 1) := by decide +kernel
theorem dX0_overruled_13 : decode cX0_overruled 13 = .ok (.aload_n 0, 1) := by decide +kernel
theorem dX0_overruled_14 : decode cX0_overruled 14 = .ok (.getfield 13, 3) := by decide +kernel
theorem dX0_overruled_17 : decode cX0_overruled 17 = .ok (.iload_n 1, 1) := by decide +kernel
theorem dX0_overruled_18 : decode cX0_overruled 18 = .ok (.baload, 1) := by decide +kernel
theorem dX0_overruled_19 : decode cX0_overruled 19 = .ok (.if_icmp .ne 6, 3) := by decide +kernel
theorem dX0_overruled_22 : decode cX0_overruled 22 = .ok (.goto 45, 3) := by decide +kernel
theorem dX0_overruled_25 : decode cX0_overruled 25 = .ok (.aload_n 0, 1) := by decide +kernel
theorem dX0_overruled_26 : decode cX0_overruled 26 = .ok (.iload_n 2, 1) := by decide +kernel
theorem dX0_overruled_27 : decode cX0_overruled 27 = .ok (.invokevirtual 44, 3) := by decide +kernel
theorem dX0_overruled_30 : decode cX0_overruled 30 = .ok (.iconst 0, 1) := by decide +kernel
theorem dX0_overruled_31 : decode cX0_overruled 31 = .ok (.istore_n 3, 1) := by decide +kernel
theorem dX0_overruled_32 : decode cX0_overruled 32 = .ok (.iload_n 3, 1) := by decide +kernel
theorem dX0_overruled_33 : decode cX0_overruled 33 = .ok (.aload_n 0, 1) := by decide +kernel
theorem dX0_overruled_34 : decode cX0_overruled 34 = .ok (.getfield 56, 3) := by decide +kernel
theorem dX0_overruled_37 : decode cX0_overruled 37 = .ok (.if_icmp .ge 30, 3) := by decide +kernel
theorem dX0_overruled_40 : decode cX0_overruled 40 = .ok (.aload_n 0, 1) := by decide +kernel
theorem dX0_overruled_41 : decode cX0_overruled 41 = .ok (.aload_n 0, 1) := by decide +kernel
theorem dX0_overruled_42 : decode cX0_overruled 42 = .ok (.getfield 17, 3) := by decide +kernel
theorem dX0_overruled_45 : decode cX0_overruled 45 = .ok (.iload_n 3, 1) := by decide +kernel
theorem dX0_overruled_46 : decode cX0_overruled 46 = .ok (.iaload, 1) := by decide +kernel
theorem dX0_overruled_47 : decode cX0_overruled 47 = .ok (.aload_n 0, 1) := by decide +kernel
theorem dX0_overruled_48 : decode cX0_overruled 48 = .ok (.getfield 7, 3) := by decide +kernel
theorem dX0_overruled_51 : decode cX0_overruled 51 = .ok (.iload_n 1, 1) := by decide +kernel
theorem dX0_overruled_52 : decode cX0_overruled 52 = .ok (.iaload, 1) := by decide +kernel
theorem dX0_overruled_53 : decode cX0_overruled 53 = .ok (.invokevirtual 40, 3) := by decide +kernel
theorem dX0_overruled_56 : decode cX0_overruled 56 = .ok (.ifCond .eq 5, 3) := by decide +kernel
theorem dX0_overruled_59 : decode cX0_overruled 59 = .ok (.iconst 1, 1) := by decide +kernel
theorem dX0_overruled_60 : decode cX0_overruled 60 = .ok (.ireturn, 1) := by decide +kernel
theorem dX0_overruled_61 : decode cX0_overruled 61 = .ok (.iinc 3 1, 3) := by decide +kernel
theorem dX0_overruled_64 : decode cX0_overruled 64 = .ok (.goto (-32), 3) := by decide +kernel
theorem dX0_overruled_67 : decode cX0_overruled 67 = .ok (.iinc 2 1, 3) := by decide +kernel
theorem dX0_overruled_70 : decode cX0_overruled 70 = .ok (.goto (-68), 3) := by decide +kernel
theorem dX0_overruled_73 : decode cX0_overruled 73 = .ok (.iconst 0, 1) := by decide +kernel
theorem dX0_overruled_74 : decode cX0_overruled 74 = .ok (.ireturn, 1) := by decide +kernel
abbrev cX0_replaceable : ByteArray := prog_1_method_15_code
def yX0_replaceable : MethodName := ⟨RX0, "replaceable", "(I)Z"⟩
theorem dX0_replaceable_0 : decode cX0_replaceable 0 = .ok (.iload_n 1, 1) := by decide +kernel
theorem dX0_replaceable_1 : decode cX0_replaceable 1 = .ok (.iconst 1, 1) := by decide +kernel
theorem dX0_replaceable_2 : decode cX0_replaceable 2 = .ok (.iadd, 1) := by decide +kernel
theorem dX0_replaceable_3 : decode cX0_replaceable 3 = .ok (.istore_n 2, 1) := by decide +kernel
theorem dX0_replaceable_4 : decode cX0_replaceable 4 = .ok (.iload_n 2, 1) := by decide +kernel
theorem dX0_replaceable_5 : decode cX0_replaceable 5 = .ok (.aload_n 0, 1) := by decide +kernel
theorem dX0_replaceable_6 : decode cX0_replaceable 6 = .ok (.getfield 33, 3) := by decide +kernel
theorem dX0_replaceable_9 : decode cX0_replaceable 9 = .ok (.if_icmp .ge 71, 3) := by decide +kernel
theorem dX0_replaceable_12 : decode cX0_replaceable 12 = .ok (.aload_n 0, 1) := by decide +kernel
theorem dX0_replaceable_13 : decode cX0_replaceable 13 = .ok (.getfield 13, 3) := by decide +kernel
theorem dX0_replaceable_16 : decode cX0_replaceable 16 = .ok (.iload_n 2, 1) := by decide +kernel
theorem dX0_replaceable_17 : decode cX0_replaceable 17 = .ok (.baload, 1) := by decide +kernel
theorem dX0_replaceable_18 : decode cX0_replaceable 18 = .ok (.aload_n 0, 1) := by decide +kernel
theorem dX0_replaceable_19 : decode cX0_replaceable 19 = .ok (.getfield 13, 3) := by decide +kernel
theorem dX0_replaceable_22 : decode cX0_replaceable 22 = .ok (.iload_n 1, 1) := by decide +kernel
theorem dX0_replaceable_23 : decode cX0_replaceable 23 = .ok (.baload, 1) := by decide +kernel
theorem dX0_replaceable_24 : decode cX0_replaceable 24 = .ok (.if_icmp .eq 40, 3) := by decide +kernel
theorem dX0_replaceable_27 : decode cX0_replaceable 27 = .ok (.iconst 0, 1) := by decide +kernel
theorem dX0_replaceable_28 : decode cX0_replaceable 28 = .ok (.istore_n 3, 1) := by decide +kernel
theorem dX0_replaceable_29 : decode cX0_replaceable 29 = .ok (.iload_n 3, 1) := by decide +kernel
theorem dX0_replaceable_30 : decode cX0_replaceable 30 = .ok (.aload_n 0, 1) := by decide +kernel
theorem dX0_replaceable_31 : decode cX0_replaceable 31 = .ok (.getfield 56, 3) := by decide +kernel
theorem dX0_replaceable_34 : decode cX0_replaceable 34 = .ok (.if_icmp .ge 30, 3) := by decide +kernel
theorem dX0_replaceable_37 : decode cX0_replaceable 37 = .ok (.aload_n 0, 1) := by decide +kernel
theorem dX0_replaceable_38 : decode cX0_replaceable 38 = .ok (.aload_n 0, 1) := by decide +kernel
theorem dX0_replaceable_39 : decode cX0_replaceable 39 = .ok (.getfield 17, 3) := by decide +kernel
theorem dX0_replaceable_42 : decode cX0_replaceable 42 = .ok (.iload_n 3, 1) := by decide +kernel
theorem dX0_replaceable_43 : decode cX0_replaceable 43 = .ok (.iaload, 1) := by decide +kernel
theorem dX0_replaceable_44 : decode cX0_replaceable 44 = .ok (.aload_n 0, 1) := by decide +kernel
theorem dX0_replaceable_45 : decode cX0_replaceable 45 = .ok (.getfield 7, 3) := by decide +kernel
theorem dX0_replaceable_48 : decode cX0_replaceable 48 = .ok (.iload_n 2, 1) := by decide +kernel
theorem dX0_replaceable_49 : decode cX0_replaceable 49 = .ok (.iaload, 1) := by decide +kernel
theorem dX0_replaceable_50 : decode cX0_replaceable 50 = .ok (.invokevirtual 40, 3) := by decide +kernel
theorem dX0_replaceable_53 : decode cX0_replaceable 53 = .ok (.ifCond .eq 5, 3) := by decide +kernel
theorem dX0_replaceable_56 : decode cX0_replaceable 56 = .ok (.iconst 0, 1) := by decide +kernel
theorem dX0_replaceable_57 : decode cX0_replaceable 57 = .ok (.ireturn, 1) := by decide +kernel
theorem dX0_replaceable_58 : decode cX0_replaceable 58 = .ok (.iinc 3 1, 3) := by decide +kernel
theorem dX0_replaceable_61 : decode cX0_replaceable 61 = .ok (.goto (-32), 3) := by decide +kernel
theorem dX0_replaceable_64 : decode cX0_replaceable 64 = .ok (.aload_n 0, 1) := by decide +kernel
theorem dX0_replaceable_65 : decode cX0_replaceable 65 = .ok (.aload_n 0, 1) := by decide +kernel
theorem dX0_replaceable_66 : decode cX0_replaceable 66 = .ok (.getfield 7, 3) := by decide +kernel
theorem dX0_replaceable_69 : decode cX0_replaceable 69 = .ok (.iload_n 2, 1) := by decide +kernel
theorem dX0_replaceable_70 : decode cX0_replaceable 70 = .ok (.iaload, 1) := by decide +kernel
theorem dX0_replaceable_71 : decode cX0_replaceable 71 = .ok (.invokevirtual 86, 3) := by decide +kernel
theorem dX0_replaceable_74 : decode cX0_replaceable 74 = .ok (.iinc 2 1, 3) := by decide +kernel
theorem dX0_replaceable_77 : decode cX0_replaceable 77 = .ok (.goto (-73), 3) := by decide +kernel
theorem dX0_replaceable_80 : decode cX0_replaceable 80 = .ok (.aload_n 0, 1) := by decide +kernel
theorem dX0_replaceable_81 : decode cX0_replaceable 81 = .ok (.getfield 56, 3) := by decide +kernel
theorem dX0_replaceable_84 : decode cX0_replaceable 84 = .ok (.ifCond .eq 12, 3) := by decide +kernel
theorem dX0_replaceable_87 : decode cX0_replaceable 87 = .ok (.aload_n 0, 1) := by decide +kernel
theorem dX0_replaceable_88 : decode cX0_replaceable 88 = .ok (.getfield 13, 3) := by decide +kernel
theorem dX0_replaceable_91 : decode cX0_replaceable 91 = .ok (.iload_n 1, 1) := by decide +kernel
theorem dX0_replaceable_92 : decode cX0_replaceable 92 = .ok (.baload, 1) := by decide +kernel
theorem dX0_replaceable_93 : decode cX0_replaceable 93 = .ok (.ifCond .ne 7, 3) := by decide +kernel
theorem dX0_replaceable_96 : decode cX0_replaceable 96 = .ok (.iconst 1, 1) := by decide +kernel
theorem dX0_replaceable_97 : decode cX0_replaceable 97 = .ok (.goto 4, 3) := by decide +kernel
theorem dX0_replaceable_100 : decode cX0_replaceable 100 = .ok (.iconst 0, 1) := by decide +kernel
theorem dX0_replaceable_101 : decode cX0_replaceable 101 = .ok (.ireturn, 1) := by decide +kernel
abbrev cX0_within : ByteArray := prog_1_method_38_code
def yX0_within : MethodName := ⟨RX0, "within", "(II)Z"⟩
theorem dX0_within_0 : decode cX0_within 0 = .ok (.aload_n 0, 1) := by decide +kernel
theorem dX0_within_1 : decode cX0_within 1 = .ok (.iload_n 1, 1) := by decide +kernel
theorem dX0_within_2 : decode cX0_within 2 = .ok (.invokevirtual 92, 3) := by decide +kernel
theorem dX0_within_5 : decode cX0_within 5 = .ok (.aload_n 0, 1) := by decide +kernel
theorem dX0_within_6 : decode cX0_within 6 = .ok (.iload_n 2, 1) := by decide +kernel
theorem dX0_within_7 : decode cX0_within 7 = .ok (.invokevirtual 92, 3) := by decide +kernel
theorem dX0_within_10 : decode cX0_within 10 = .ok (.if_icmp .lt 16, 3) := by decide +kernel
theorem dX0_within_13 : decode cX0_within 13 = .ok (.aload_n 0, 1) := by decide +kernel
theorem dX0_within_14 : decode cX0_within 14 = .ok (.iload_n 1, 1) := by decide +kernel
theorem dX0_within_15 : decode cX0_within 15 = .ok (.invokevirtual 121, 3) := by decide +kernel
theorem dX0_within_18 : decode cX0_within 18 = .ok (.aload_n 0, 1) := by decide +kernel
theorem dX0_within_19 : decode cX0_within 19 = .ok (.iload_n 2, 1) := by decide +kernel
theorem dX0_within_20 : decode cX0_within 20 = .ok (.invokevirtual 121, 3) := by decide +kernel
theorem dX0_within_23 : decode cX0_within 23 = .ok (.if_icmp .le 5, 3) := by decide +kernel
theorem dX0_within_26 : decode cX0_within 26 = .ok (.iconst 0, 1) := by decide +kernel
theorem dX0_within_27 : decode cX0_within 27 = .ok (.ireturn, 1) := by decide +kernel
theorem dX0_within_28 : decode cX0_within 28 = .ok (.aload_n 0, 1) := by decide +kernel
theorem dX0_within_29 : decode cX0_within 29 = .ok (.iload_n 1, 1) := by decide +kernel
theorem dX0_within_30 : decode cX0_within 30 = .ok (.invokevirtual 95, 3) := by decide +kernel
theorem dX0_within_33 : decode cX0_within 33 = .ok (.aload_n 0, 1) := by decide +kernel
theorem dX0_within_34 : decode cX0_within 34 = .ok (.iload_n 2, 1) := by decide +kernel
theorem dX0_within_35 : decode cX0_within 35 = .ok (.invokevirtual 95, 3) := by decide +kernel
theorem dX0_within_38 : decode cX0_within 38 = .ok (.if_icmp .lt 16, 3) := by decide +kernel
theorem dX0_within_41 : decode cX0_within 41 = .ok (.aload_n 0, 1) := by decide +kernel
theorem dX0_within_42 : decode cX0_within 42 = .ok (.iload_n 1, 1) := by decide +kernel
theorem dX0_within_43 : decode cX0_within 43 = .ok (.invokevirtual 128, 3) := by decide +kernel
theorem dX0_within_46 : decode cX0_within 46 = .ok (.aload_n 0, 1) := by decide +kernel
theorem dX0_within_47 : decode cX0_within 47 = .ok (.iload_n 2, 1) := by decide +kernel
theorem dX0_within_48 : decode cX0_within 48 = .ok (.invokevirtual 128, 3) := by decide +kernel
theorem dX0_within_51 : decode cX0_within 51 = .ok (.if_icmp .le 5, 3) := by decide +kernel
theorem dX0_within_54 : decode cX0_within 54 = .ok (.iconst 0, 1) := by decide +kernel
theorem dX0_within_55 : decode cX0_within 55 = .ok (.ireturn, 1) := by decide +kernel
theorem dX0_within_56 : decode cX0_within 56 = .ok (.aload_n 0, 1) := by decide +kernel
theorem dX0_within_57 : decode cX0_within 57 = .ok (.iload_n 1, 1) := by decide +kernel
theorem dX0_within_58 : decode cX0_within 58 = .ok (.invokevirtual 98, 3) := by decide +kernel
theorem dX0_within_61 : decode cX0_within 61 = .ok (.aload_n 0, 1) := by decide +kernel
theorem dX0_within_62 : decode cX0_within 62 = .ok (.iload_n 2, 1) := by decide +kernel
theorem dX0_within_63 : decode cX0_within 63 = .ok (.invokevirtual 98, 3) := by decide +kernel
theorem dX0_within_66 : decode cX0_within 66 = .ok (.if_icmp .lt 20, 3) := by decide +kernel
theorem dX0_within_69 : decode cX0_within 69 = .ok (.aload_n 0, 1) := by decide +kernel
theorem dX0_within_70 : decode cX0_within 70 = .ok (.iload_n 1, 1) := by decide +kernel
theorem dX0_within_71 : decode cX0_within 71 = .ok (.invokevirtual 118, 3) := by decide +kernel
theorem dX0_within_74 : decode cX0_within 74 = .ok (.aload_n 0, 1) := by decide +kernel
theorem dX0_within_75 : decode cX0_within 75 = .ok (.iload_n 2, 1) := by decide +kernel
theorem dX0_within_76 : decode cX0_within 76 = .ok (.invokevirtual 118, 3) := by decide +kernel
theorem dX0_within_79 : decode cX0_within 79 = .ok (.if_icmp .gt 7, 3) := by decide +kernel
theorem dX0_within_82 : decode cX0_within 82 = .ok (.iconst 1, 1) := by decide +kernel
theorem dX0_within_83 : decode cX0_within 83 = .ok (.goto 4, 3) := by decide +kernel
theorem dX0_within_86 : decode cX0_within 86 = .ok (.iconst 0, 1) := by decide +kernel
theorem dX0_within_87 : decode cX0_within 87 = .ok (.ireturn, 1) := by decide +kernel
abbrev cX0_save : ByteArray := prog_1_method_11_code
def yX0_save : MethodName := ⟨RX0, "save", "()I"⟩
theorem dX0_save_0 : decode cX0_save 0 = .ok (.aload_n 0, 1) := by decide +kernel
theorem dX0_save_1 : decode cX0_save 1 = .ok (.invokevirtual 68, 3) := by decide +kernel
theorem dX0_save_4 : decode cX0_save 4 = .ok (.iconst 0, 1) := by decide +kernel
theorem dX0_save_5 : decode cX0_save 5 = .ok (.istore_n 1, 1) := by decide +kernel
theorem dX0_save_6 : decode cX0_save 6 = .ok (.iconst 0, 1) := by decide +kernel
theorem dX0_save_7 : decode cX0_save 7 = .ok (.istore_n 2, 1) := by decide +kernel
theorem dX0_save_8 : decode cX0_save 8 = .ok (.iload_n 2, 1) := by decide +kernel
theorem dX0_save_9 : decode cX0_save 9 = .ok (.aload_n 0, 1) := by decide +kernel
theorem dX0_save_10 : decode cX0_save 10 = .ok (.getfield 71, 3) := by decide +kernel
theorem dX0_save_13 : decode cX0_save 13 = .ok (.if_icmp .ge 34, 3) := by decide +kernel
theorem dX0_save_16 : decode cX0_save 16 = .ok (.aload_n 0, 1) := by decide +kernel
theorem dX0_save_17 : decode cX0_save 17 = .ok (.getfield 26, 3) := by decide +kernel
theorem dX0_save_20 : decode cX0_save 20 = .ok (.iload_n 2, 1) := by decide +kernel
theorem dX0_save_21 : decode cX0_save 21 = .ok (.aload_n 0, 1) := by decide +kernel
theorem dX0_save_22 : decode cX0_save 22 = .ok (.getfield 23, 3) := by decide +kernel
theorem dX0_save_25 : decode cX0_save 25 = .ok (.iload_n 2, 1) := by decide +kernel
theorem dX0_save_26 : decode cX0_save 26 = .ok (.iaload, 1) := by decide +kernel
theorem dX0_save_27 : decode cX0_save 27 = .ok (.iastore, 1) := by decide +kernel
theorem dX0_save_28 : decode cX0_save 28 = .ok (.iload_n 1, 1) := by decide +kernel
theorem dX0_save_29 : decode cX0_save 29 = .ok (.aload_n 0, 1) := by decide +kernel
theorem dX0_save_30 : decode cX0_save 30 = .ok (.aload_n 0, 1) := by decide +kernel
theorem dX0_save_31 : decode cX0_save 31 = .ok (.getfield 23, 3) := by decide +kernel
theorem dX0_save_34 : decode cX0_save 34 = .ok (.iload_n 2, 1) := by decide +kernel
theorem dX0_save_35 : decode cX0_save 35 = .ok (.iaload, 1) := by decide +kernel
theorem dX0_save_36 : decode cX0_save 36 = .ok (.invokevirtual 74, 3) := by decide +kernel
theorem dX0_save_39 : decode cX0_save 39 = .ok (.iadd, 1) := by decide +kernel
theorem dX0_save_40 : decode cX0_save 40 = .ok (.istore_n 1, 1) := by decide +kernel
theorem dX0_save_41 : decode cX0_save 41 = .ok (.iinc 2 1, 3) := by decide +kernel
theorem dX0_save_44 : decode cX0_save 44 = .ok (.goto (-36), 3) := by decide +kernel
theorem dX0_save_47 : decode cX0_save 47 = .ok (.aload_n 0, 1) := by decide +kernel
theorem dX0_save_48 : decode cX0_save 48 = .ok (.aload_n 0, 1) := by decide +kernel
theorem dX0_save_49 : decode cX0_save 49 = .ok (.getfield 71, 3) := by decide +kernel
theorem dX0_save_52 : decode cX0_save 52 = .ok (.putfield 77, 3) := by decide +kernel
theorem dX0_save_55 : decode cX0_save 55 = .ok (.iload_n 1, 1) := by decide +kernel
theorem dX0_save_56 : decode cX0_save 56 = .ok (.ireturn, 1) := by decide +kernel
abbrev cX0_gatherAllowed : ByteArray := prog_1_method_18_code
def yX0_gatherAllowed : MethodName := ⟨RX0, "gatherAllowed", "()V"⟩
theorem dX0_gatherAllowed_0 : decode cX0_gatherAllowed 0 = .ok (.aload_n 0, 1) := by decide +kernel
theorem dX0_gatherAllowed_1 : decode cX0_gatherAllowed 1 = .ok (.iconst 0, 1) := by decide +kernel
theorem dX0_gatherAllowed_2 : decode cX0_gatherAllowed 2 = .ok (.putfield 71, 3) := by decide +kernel
theorem dX0_gatherAllowed_5 : decode cX0_gatherAllowed 5 = .ok (.iconst 0, 1) := by decide +kernel
theorem dX0_gatherAllowed_6 : decode cX0_gatherAllowed 6 = .ok (.istore_n 1, 1) := by decide +kernel
theorem dX0_gatherAllowed_7 : decode cX0_gatherAllowed 7 = .ok (.iload_n 1, 1) := by decide +kernel
theorem dX0_gatherAllowed_8 : decode cX0_gatherAllowed 8 = .ok (.aload_n 0, 1) := by decide +kernel
theorem dX0_gatherAllowed_9 : decode cX0_gatherAllowed 9 = .ok (.getfield 33, 3) := by decide +kernel
theorem dX0_gatherAllowed_12 : decode cX0_gatherAllowed 12 = .ok (.if_icmp .ge 67, 3) := by decide +kernel
theorem dX0_gatherAllowed_15 : decode cX0_gatherAllowed 15 = .ok (.aload_n 0, 1) := by decide +kernel
theorem dX0_gatherAllowed_16 : decode cX0_gatherAllowed 16 = .ok (.getfield 13, 3) := by decide +kernel
theorem dX0_gatherAllowed_19 : decode cX0_gatherAllowed 19 = .ok (.iload_n 1, 1) := by decide +kernel
theorem dX0_gatherAllowed_20 : decode cX0_gatherAllowed 20 = .ok (.baload, 1) := by decide +kernel
theorem dX0_gatherAllowed_21 : decode cX0_gatherAllowed 21 = .ok (.ifCond .ne 6, 3) := by decide +kernel
theorem dX0_gatherAllowed_24 : decode cX0_gatherAllowed 24 = .ok (.goto 49, 3) := by decide +kernel
theorem dX0_gatherAllowed_27 : decode cX0_gatherAllowed 27 = .ok (.aload_n 0, 1) := by decide +kernel
theorem dX0_gatherAllowed_28 : decode cX0_gatherAllowed 28 = .ok (.iload_n 1, 1) := by decide +kernel
theorem dX0_gatherAllowed_29 : decode cX0_gatherAllowed 29 = .ok (.invokevirtual 44, 3) := by decide +kernel
theorem dX0_gatherAllowed_32 : decode cX0_gatherAllowed 32 = .ok (.iconst 0, 1) := by decide +kernel
theorem dX0_gatherAllowed_33 : decode cX0_gatherAllowed 33 = .ok (.istore_n 2, 1) := by decide +kernel
theorem dX0_gatherAllowed_34 : decode cX0_gatherAllowed 34 = .ok (.iload_n 2, 1) := by decide +kernel
theorem dX0_gatherAllowed_35 : decode cX0_gatherAllowed 35 = .ok (.aload_n 0, 1) := by decide +kernel
theorem dX0_gatherAllowed_36 : decode cX0_gatherAllowed 36 = .ok (.getfield 56, 3) := by decide +kernel
theorem dX0_gatherAllowed_39 : decode cX0_gatherAllowed 39 = .ok (.if_icmp .ge 34, 3) := by decide +kernel
theorem dX0_gatherAllowed_42 : decode cX0_gatherAllowed 42 = .ok (.aload_n 0, 1) := by decide +kernel
theorem dX0_gatherAllowed_43 : decode cX0_gatherAllowed 43 = .ok (.getfield 23, 3) := by decide +kernel
theorem dX0_gatherAllowed_46 : decode cX0_gatherAllowed 46 = .ok (.aload_n 0, 1) := by decide +kernel
theorem dX0_gatherAllowed_47 : decode cX0_gatherAllowed 47 = .ok (.getfield 71, 3) := by decide +kernel
theorem dX0_gatherAllowed_50 : decode cX0_gatherAllowed 50 = .ok (.aload_n 0, 1) := by decide +kernel
theorem dX0_gatherAllowed_51 : decode cX0_gatherAllowed 51 = .ok (.getfield 17, 3) := by decide +kernel
theorem dX0_gatherAllowed_54 : decode cX0_gatherAllowed 54 = .ok (.iload_n 2, 1) := by decide +kernel
theorem dX0_gatherAllowed_55 : decode cX0_gatherAllowed 55 = .ok (.iaload, 1) := by decide +kernel
theorem dX0_gatherAllowed_56 : decode cX0_gatherAllowed 56 = .ok (.iastore, 1) := by decide +kernel
theorem dX0_gatherAllowed_57 : decode cX0_gatherAllowed 57 = .ok (.aload_n 0, 1) := by decide +kernel
theorem dX0_gatherAllowed_58 : decode cX0_gatherAllowed 58 = .ok (.dup, 1) := by decide +kernel
theorem dX0_gatherAllowed_59 : decode cX0_gatherAllowed 59 = .ok (.getfield 71, 3) := by decide +kernel
theorem dX0_gatherAllowed_62 : decode cX0_gatherAllowed 62 = .ok (.iconst 1, 1) := by decide +kernel
theorem dX0_gatherAllowed_63 : decode cX0_gatherAllowed 63 = .ok (.iadd, 1) := by decide +kernel
theorem dX0_gatherAllowed_64 : decode cX0_gatherAllowed 64 = .ok (.putfield 71, 3) := by decide +kernel
theorem dX0_gatherAllowed_67 : decode cX0_gatherAllowed 67 = .ok (.iinc 2 1, 3) := by decide +kernel
theorem dX0_gatherAllowed_70 : decode cX0_gatherAllowed 70 = .ok (.goto (-36), 3) := by decide +kernel
theorem dX0_gatherAllowed_73 : decode cX0_gatherAllowed 73 = .ok (.iinc 1 1, 3) := by decide +kernel
theorem dX0_gatherAllowed_76 : decode cX0_gatherAllowed 76 = .ok (.goto (-69), 3) := by decide +kernel
theorem dX0_gatherAllowed_79 : decode cX0_gatherAllowed 79 = .ok (.return_, 1) := by decide +kernel
abbrev cX0_changed : ByteArray := prog_1_method_12_code
def yX0_changed : MethodName := ⟨RX0, "changed", "()I"⟩
theorem dX0_changed_0 : decode cX0_changed 0 = .ok (.aload_n 0, 1) := by decide +kernel
theorem dX0_changed_1 : decode cX0_changed 1 = .ok (.invokevirtual 68, 3) := by decide +kernel
theorem dX0_changed_4 : decode cX0_changed 4 = .ok (.aload_n 0, 1) := by decide +kernel
theorem dX0_changed_5 : decode cX0_changed 5 = .ok (.invokevirtual 80, 3) := by decide +kernel
theorem dX0_changed_8 : decode cX0_changed 8 = .ok (.aload_n 0, 1) := by decide +kernel
theorem dX0_changed_9 : decode cX0_changed 9 = .ok (.invokevirtual 48, 3) := by decide +kernel
theorem dX0_changed_12 : decode cX0_changed 12 = .ok (.istore_n 1, 1) := by decide +kernel
theorem dX0_changed_13 : decode cX0_changed 13 = .ok (.aload_n 0, 1) := by decide +kernel
theorem dX0_changed_14 : decode cX0_changed 14 = .ok (.invokevirtual 83, 3) := by decide +kernel
theorem dX0_changed_17 : decode cX0_changed 17 = .ok (.iload_n 1, 1) := by decide +kernel
theorem dX0_changed_18 : decode cX0_changed 18 = .ok (.aload_n 0, 1) := by decide +kernel
theorem dX0_changed_19 : decode cX0_changed 19 = .ok (.invokevirtual 48, 3) := by decide +kernel
theorem dX0_changed_22 : decode cX0_changed 22 = .ok (.iadd, 1) := by decide +kernel
theorem dX0_changed_23 : decode cX0_changed 23 = .ok (.ireturn, 1) := by decide +kernel
abbrev cX0_carveNewlyAllowed : ByteArray := prog_1_method_19_code
def yX0_carveNewlyAllowed : MethodName := ⟨RX0, "carveNewlyAllowed", "()V"⟩
theorem dX0_carveNewlyAllowed_0 : decode cX0_carveNewlyAllowed 0 = .ok (.iconst 0, 1) := by decide +kernel
theorem dX0_carveNewlyAllowed_1 : decode cX0_carveNewlyAllowed 1 = .ok (.istore_n 1, 1) := by decide +kernel
theorem dX0_carveNewlyAllowed_2 : decode cX0_carveNewlyAllowed 2 = .ok (.iload_n 1, 1) := by decide +kernel
theorem dX0_carveNewlyAllowed_3 : decode cX0_carveNewlyAllowed 3 = .ok (.aload_n 0, 1) := by decide +kernel
theorem dX0_carveNewlyAllowed_4 : decode cX0_carveNewlyAllowed 4 = .ok (.getfield 71, 3) := by decide +kernel
theorem dX0_carveNewlyAllowed_7 : decode cX0_carveNewlyAllowed 7 = .ok (.if_icmp .ge 21, 3) := by decide +kernel
theorem dX0_carveNewlyAllowed_10 : decode cX0_carveNewlyAllowed 10 = .ok (.aload_n 0, 1) := by decide +kernel
theorem dX0_carveNewlyAllowed_11 : decode cX0_carveNewlyAllowed 11 = .ok (.getfield 17, 3) := by decide +kernel
theorem dX0_carveNewlyAllowed_14 : decode cX0_carveNewlyAllowed 14 = .ok (.iload_n 1, 1) := by decide +kernel
theorem dX0_carveNewlyAllowed_15 : decode cX0_carveNewlyAllowed 15 = .ok (.aload_n 0, 1) := by decide +kernel
theorem dX0_carveNewlyAllowed_16 : decode cX0_carveNewlyAllowed 16 = .ok (.getfield 23, 3) := by decide +kernel
theorem dX0_carveNewlyAllowed_19 : decode cX0_carveNewlyAllowed 19 = .ok (.iload_n 1, 1) := by decide +kernel
theorem dX0_carveNewlyAllowed_20 : decode cX0_carveNewlyAllowed 20 = .ok (.iaload, 1) := by decide +kernel
theorem dX0_carveNewlyAllowed_21 : decode cX0_carveNewlyAllowed 21 = .ok (.iastore, 1) := by decide +kernel
theorem dX0_carveNewlyAllowed_22 : decode cX0_carveNewlyAllowed 22 = .ok (.iinc 1 1, 3) := by decide +kernel
theorem dX0_carveNewlyAllowed_25 : decode cX0_carveNewlyAllowed 25 = .ok (.goto (-23), 3) := by decide +kernel
theorem dX0_carveNewlyAllowed_28 : decode cX0_carveNewlyAllowed 28 = .ok (.aload_n 0, 1) := by decide +kernel
theorem dX0_carveNewlyAllowed_29 : decode cX0_carveNewlyAllowed 29 = .ok (.aload_n 0, 1) := by decide +kernel
theorem dX0_carveNewlyAllowed_30 : decode cX0_carveNewlyAllowed 30 = .ok (.getfield 71, 3) := by decide +kernel
theorem dX0_carveNewlyAllowed_33 : decode cX0_carveNewlyAllowed 33 = .ok (.putfield 56, 3) := by decide +kernel
theorem dX0_carveNewlyAllowed_36 : decode cX0_carveNewlyAllowed 36 = .ok (.iconst 0, 1) := by decide +kernel
theorem dX0_carveNewlyAllowed_37 : decode cX0_carveNewlyAllowed 37 = .ok (.istore_n 1, 1) := by decide +kernel
theorem dX0_carveNewlyAllowed_38 : decode cX0_carveNewlyAllowed 38 = .ok (.iload_n 1, 1) := by decide +kernel
theorem dX0_carveNewlyAllowed_39 : decode cX0_carveNewlyAllowed 39 = .ok (.aload_n 0, 1) := by decide +kernel
theorem dX0_carveNewlyAllowed_40 : decode cX0_carveNewlyAllowed 40 = .ok (.getfield 77, 3) := by decide +kernel
theorem dX0_carveNewlyAllowed_43 : decode cX0_carveNewlyAllowed 43 = .ok (.if_icmp .ge 26, 3) := by decide +kernel
theorem dX0_carveNewlyAllowed_46 : decode cX0_carveNewlyAllowed 46 = .ok (.aload_n 0, 1) := by decide +kernel
theorem dX0_carveNewlyAllowed_47 : decode cX0_carveNewlyAllowed 47 = .ok (.getfield 56, 3) := by decide +kernel
theorem dX0_carveNewlyAllowed_50 : decode cX0_carveNewlyAllowed 50 = .ok (.ifCond .le 19, 3) := by decide +kernel
theorem dX0_carveNewlyAllowed_53 : decode cX0_carveNewlyAllowed 53 = .ok (.aload_n 0, 1) := by decide +kernel
theorem dX0_carveNewlyAllowed_54 : decode cX0_carveNewlyAllowed 54 = .ok (.aload_n 0, 1) := by decide +kernel
theorem dX0_carveNewlyAllowed_55 : decode cX0_carveNewlyAllowed 55 = .ok (.getfield 26, 3) := by decide +kernel
theorem dX0_carveNewlyAllowed_58 : decode cX0_carveNewlyAllowed 58 = .ok (.iload_n 1, 1) := by decide +kernel
theorem dX0_carveNewlyAllowed_59 : decode cX0_carveNewlyAllowed 59 = .ok (.iaload, 1) := by decide +kernel
theorem dX0_carveNewlyAllowed_60 : decode cX0_carveNewlyAllowed 60 = .ok (.invokevirtual 86, 3) := by decide +kernel
theorem dX0_carveNewlyAllowed_63 : decode cX0_carveNewlyAllowed 63 = .ok (.iinc 1 1, 3) := by decide +kernel
theorem dX0_carveNewlyAllowed_66 : decode cX0_carveNewlyAllowed 66 = .ok (.goto (-28), 3) := by decide +kernel
theorem dX0_carveNewlyAllowed_69 : decode cX0_carveNewlyAllowed 69 = .ok (.return_, 1) := by decide +kernel
abbrev cX0_carveNoLongerAllowed : ByteArray := prog_1_method_20_code
def yX0_carveNoLongerAllowed : MethodName := ⟨RX0, "carveNoLongerAllowed", "()V"⟩
theorem dX0_carveNoLongerAllowed_0 : decode cX0_carveNoLongerAllowed 0 = .ok (.iconst 0, 1) := by decide +kernel
theorem dX0_carveNoLongerAllowed_1 : decode cX0_carveNoLongerAllowed 1 = .ok (.istore_n 1, 1) := by decide +kernel
theorem dX0_carveNoLongerAllowed_2 : decode cX0_carveNoLongerAllowed 2 = .ok (.iload_n 1, 1) := by decide +kernel
theorem dX0_carveNoLongerAllowed_3 : decode cX0_carveNoLongerAllowed 3 = .ok (.aload_n 0, 1) := by decide +kernel
theorem dX0_carveNoLongerAllowed_4 : decode cX0_carveNoLongerAllowed 4 = .ok (.getfield 77, 3) := by decide +kernel
theorem dX0_carveNoLongerAllowed_7 : decode cX0_carveNoLongerAllowed 7 = .ok (.if_icmp .ge 21, 3) := by decide +kernel
theorem dX0_carveNoLongerAllowed_10 : decode cX0_carveNoLongerAllowed 10 = .ok (.aload_n 0, 1) := by decide +kernel
theorem dX0_carveNoLongerAllowed_11 : decode cX0_carveNoLongerAllowed 11 = .ok (.getfield 17, 3) := by decide +kernel
theorem dX0_carveNoLongerAllowed_14 : decode cX0_carveNoLongerAllowed 14 = .ok (.iload_n 1, 1) := by decide +kernel
theorem dX0_carveNoLongerAllowed_15 : decode cX0_carveNoLongerAllowed 15 = .ok (.aload_n 0, 1) := by decide +kernel
theorem dX0_carveNoLongerAllowed_16 : decode cX0_carveNoLongerAllowed 16 = .ok (.getfield 26, 3) := by decide +kernel
theorem dX0_carveNoLongerAllowed_19 : decode cX0_carveNoLongerAllowed 19 = .ok (.iload_n 1, 1) := by decide +kernel
theorem dX0_carveNoLongerAllowed_20 : decode cX0_carveNoLongerAllowed 20 = .ok (.iaload, 1) := by decide +kernel
theorem dX0_carveNoLongerAllowed_21 : decode cX0_carveNoLongerAllowed 21 = .ok (.iastore, 1) := by decide +kernel
theorem dX0_carveNoLongerAllowed_22 : decode cX0_carveNoLongerAllowed 22 = .ok (.iinc 1 1, 3) := by decide +kernel
theorem dX0_carveNoLongerAllowed_25 : decode cX0_carveNoLongerAllowed 25 = .ok (.goto (-23), 3) := by decide +kernel
theorem dX0_carveNoLongerAllowed_28 : decode cX0_carveNoLongerAllowed 28 = .ok (.aload_n 0, 1) := by decide +kernel
theorem dX0_carveNoLongerAllowed_29 : decode cX0_carveNoLongerAllowed 29 = .ok (.aload_n 0, 1) := by decide +kernel
theorem dX0_carveNoLongerAllowed_30 : decode cX0_carveNoLongerAllowed 30 = .ok (.getfield 77, 3) := by decide +kernel
theorem dX0_carveNoLongerAllowed_33 : decode cX0_carveNoLongerAllowed 33 = .ok (.putfield 56, 3) := by decide +kernel
theorem dX0_carveNoLongerAllowed_36 : decode cX0_carveNoLongerAllowed 36 = .ok (.iconst 0, 1) := by decide +kernel
theorem dX0_carveNoLongerAllowed_37 : decode cX0_carveNoLongerAllowed 37 = .ok (.istore_n 1, 1) := by decide +kernel
theorem dX0_carveNoLongerAllowed_38 : decode cX0_carveNoLongerAllowed 38 = .ok (.iload_n 1, 1) := by decide +kernel
theorem dX0_carveNoLongerAllowed_39 : decode cX0_carveNoLongerAllowed 39 = .ok (.aload_n 0, 1) := by decide +kernel
theorem dX0_carveNoLongerAllowed_40 : decode cX0_carveNoLongerAllowed 40 = .ok (.getfield 71, 3) := by decide +kernel
theorem dX0_carveNoLongerAllowed_43 : decode cX0_carveNoLongerAllowed 43 = .ok (.if_icmp .ge 26, 3) := by decide +kernel
theorem dX0_carveNoLongerAllowed_46 : decode cX0_carveNoLongerAllowed 46 = .ok (.aload_n 0, 1) := by decide +kernel
theorem dX0_carveNoLongerAllowed_47 : decode cX0_carveNoLongerAllowed 47 = .ok (.getfield 56, 3) := by decide +kernel
theorem dX0_carveNoLongerAllowed_50 : decode cX0_carveNoLongerAllowed 50 = .ok (.ifCond .le 19, 3) := by decide +kernel
theorem dX0_carveNoLongerAllowed_53 : decode cX0_carveNoLongerAllowed 53 = .ok (.aload_n 0, 1) := by decide +kernel
theorem dX0_carveNoLongerAllowed_54 : decode cX0_carveNoLongerAllowed 54 = .ok (.aload_n 0, 1) := by decide +kernel
theorem dX0_carveNoLongerAllowed_55 : decode cX0_carveNoLongerAllowed 55 = .ok (.getfield 23, 3) := by decide +kernel
theorem dX0_carveNoLongerAllowed_58 : decode cX0_carveNoLongerAllowed 58 = .ok (.iload_n 1, 1) := by decide +kernel
theorem dX0_carveNoLongerAllowed_59 : decode cX0_carveNoLongerAllowed 59 = .ok (.iaload, 1) := by decide +kernel
theorem dX0_carveNoLongerAllowed_60 : decode cX0_carveNoLongerAllowed 60 = .ok (.invokevirtual 86, 3) := by decide +kernel
theorem dX0_carveNoLongerAllowed_63 : decode cX0_carveNoLongerAllowed 63 = .ok (.iinc 1 1, 3) := by decide +kernel
theorem dX0_carveNoLongerAllowed_66 : decode cX0_carveNoLongerAllowed 66 = .ok (.goto (-28), 3) := by decide +kernel
theorem dX0_carveNoLongerAllowed_69 : decode cX0_carveNoLongerAllowed 69 = .ok (.return_, 1) := by decide +kernel
abbrev cX0_firstChanged : ByteArray := prog_1_method_13_code
def yX0_firstChanged : MethodName := ⟨RX0, "firstChanged", "()I"⟩
theorem dX0_firstChanged_0 : decode cX0_firstChanged 0 = .ok (.aload_n 0, 1) := by decide +kernel
theorem dX0_firstChanged_1 : decode cX0_firstChanged 1 = .ok (.invokevirtual 68, 3) := by decide +kernel
theorem dX0_firstChanged_4 : decode cX0_firstChanged 4 = .ok (.aload_n 0, 1) := by decide +kernel
theorem dX0_firstChanged_5 : decode cX0_firstChanged 5 = .ok (.invokevirtual 80, 3) := by decide +kernel
theorem dX0_firstChanged_8 : decode cX0_firstChanged 8 = .ok (.aload_n 0, 1) := by decide +kernel
theorem dX0_firstChanged_9 : decode cX0_firstChanged 9 = .ok (.bipush (-3), 2) := by decide +kernel
theorem dX0_firstChanged_11 : decode cX0_firstChanged 11 = .ok (.invokevirtual 52, 3) := by decide +kernel
theorem dX0_firstChanged_14 : decode cX0_firstChanged 14 = .ok (.istore_n 1, 1) := by decide +kernel
theorem dX0_firstChanged_15 : decode cX0_firstChanged 15 = .ok (.aload_n 0, 1) := by decide +kernel
theorem dX0_firstChanged_16 : decode cX0_firstChanged 16 = .ok (.invokevirtual 83, 3) := by decide +kernel
theorem dX0_firstChanged_19 : decode cX0_firstChanged 19 = .ok (.aload_n 0, 1) := by decide +kernel
theorem dX0_firstChanged_20 : decode cX0_firstChanged 20 = .ok (.iload_n 1, 1) := by decide +kernel
theorem dX0_firstChanged_21 : decode cX0_firstChanged 21 = .ok (.invokevirtual 52, 3) := by decide +kernel
theorem dX0_firstChanged_24 : decode cX0_firstChanged 24 = .ok (.ireturn, 1) := by decide +kernel
end
section
set_option maxRecDepth 100000
theorem q37 : (Jvm.Cond.initialized "RuleAnomaly") ∈ lw_all := lw_g (lw_at lw_m1 1 rfl) rfl
theorem q40 : (Jvm.Cond.instantiable "RuleAnomaly" (12 : Nat)) ∈ lw_all := lw_g (lw_at lw_m1 4 rfl) rfl
theorem q42 : (Jvm.Cond.instanceMethod ({ cls := "RuleAnomaly", name := "<init>", desc := "()V" } : Jvm.MethodName)) ∈ lw_all := lw_g (lw_at lw_m1 6 rfl) rfl
theorem q43 : (Jvm.Cond.code ({ cls := "RuleAnomaly", name := "<init>", desc := "()V" } : Jvm.MethodName) prog_1_method_1_code (1 : Nat) (Option.none : Option Jvm.ClassFile.FieldType)) ∈ lw_all := lw_g (lw_at lw_m1 7 rfl) rfl
theorem q44 : (Jvm.Cond.methodLink "RuleAnomaly" (1 : Nat) ({ cls := "java/lang/Object", name := "<init>", desc := "()V" } : Jvm.MethodName)) ∈ lw_all := lw_g (lw_at lw_m1 8 rfl) rfl
theorem q47 : (Jvm.Cond.fieldLink "RuleAnomaly" (29 : Nat) "RuleAnomaly" "draft" "I") ∈ lw_all := lw_g (lw_at lw_m1 11 rfl) rfl
theorem q48 : (Jvm.Cond.fieldLink "RuleAnomaly" (33 : Nat) "RuleAnomaly" "ruleCount" "I") ∈ lw_all := lw_g (lw_at lw_m1 12 rfl) rfl
theorem q49 : (Jvm.Cond.fieldLink "RuleAnomaly" (7 : Nat) "RuleAnomaly" "ruleBox" "[I") ∈ lw_all := lw_g (lw_at lw_m1 13 rfl) rfl
theorem q50 : (Jvm.Cond.fieldLink "RuleAnomaly" (13 : Nat) "RuleAnomaly" "ruleAction" "[B") ∈ lw_all := lw_g (lw_at lw_m1 14 rfl) rfl
theorem q51 : (Jvm.Cond.fieldLink "RuleAnomaly" (17 : Nat) "RuleAnomaly" "work" "[I") ∈ lw_all := lw_g (lw_at lw_m1 15 rfl) rfl
theorem q52 : (Jvm.Cond.fieldLink "RuleAnomaly" (56 : Nat) "RuleAnomaly" "workCount" "I") ∈ lw_all := lw_g (lw_at lw_m1 16 rfl) rfl
theorem q53 : (Jvm.Cond.fieldLink "RuleAnomaly" (20 : Nat) "RuleAnomaly" "pieces" "[I") ∈ lw_all := lw_g (lw_at lw_m1 17 rfl) rfl
theorem q54 : (Jvm.Cond.fieldLink "RuleAnomaly" (101 : Nat) "RuleAnomaly" "pieceCount" "I") ∈ lw_all := lw_g (lw_at lw_m1 18 rfl) rfl
theorem q55 : (Jvm.Cond.fieldLink "RuleAnomaly" (23 : Nat) "RuleAnomaly" "allowed" "[I") ∈ lw_all := lw_g (lw_at lw_m1 19 rfl) rfl
theorem q56 : (Jvm.Cond.fieldLink "RuleAnomaly" (71 : Nat) "RuleAnomaly" "allowedCount" "I") ∈ lw_all := lw_g (lw_at lw_m1 20 rfl) rfl
theorem q57 : (Jvm.Cond.fieldLink "RuleAnomaly" (26 : Nat) "RuleAnomaly" "saved" "[I") ∈ lw_all := lw_g (lw_at lw_m1 21 rfl) rfl
theorem q58 : (Jvm.Cond.fieldLink "RuleAnomaly" (77 : Nat) "RuleAnomaly" "savedCount" "I") ∈ lw_all := lw_g (lw_at lw_m1 22 rfl) rfl
theorem q59 : (Jvm.Cond.lays "RuleAnomaly" "RuleAnomaly" "draft" "I") ∈ lw_all := lw_g (lw_at lw_m1 23 rfl) rfl
theorem q60 : (Jvm.Cond.soleField "RuleAnomaly" "draft") ∈ lw_all := lw_g (lw_at lw_m1 24 rfl) rfl
theorem q61 : (Jvm.Cond.lays "RuleAnomaly" "RuleAnomaly" "ruleCount" "I") ∈ lw_all := lw_g (lw_at lw_m1 25 rfl) rfl
theorem q62 : (Jvm.Cond.soleField "RuleAnomaly" "ruleCount") ∈ lw_all := lw_g (lw_at lw_m1 26 rfl) rfl
theorem q63 : (Jvm.Cond.laysFinal "RuleAnomaly" "RuleAnomaly" "ruleBox" "[I") ∈ lw_all := lw_g (lw_at lw_m1 27 rfl) rfl
theorem q64 : (Jvm.Cond.soleField "RuleAnomaly" "ruleBox") ∈ lw_all := lw_g (lw_at lw_m1 28 rfl) rfl
theorem q65 : (Jvm.Cond.laysFinal "RuleAnomaly" "RuleAnomaly" "ruleAction" "[B") ∈ lw_all := lw_g (lw_at lw_m1 29 rfl) rfl
theorem q66 : (Jvm.Cond.soleField "RuleAnomaly" "ruleAction") ∈ lw_all := lw_g (lw_at lw_m1 30 rfl) rfl
theorem q67 : (Jvm.Cond.laysFinal "RuleAnomaly" "RuleAnomaly" "work" "[I") ∈ lw_all := lw_g (lw_at lw_m1 31 rfl) rfl
theorem q68 : (Jvm.Cond.soleField "RuleAnomaly" "work") ∈ lw_all := lw_g (lw_at lw_m1 32 rfl) rfl
theorem q69 : (Jvm.Cond.lays "RuleAnomaly" "RuleAnomaly" "workCount" "I") ∈ lw_all := lw_g (lw_at lw_m1 33 rfl) rfl
theorem q70 : (Jvm.Cond.soleField "RuleAnomaly" "workCount") ∈ lw_all := lw_g (lw_at lw_m1 34 rfl) rfl
theorem q71 : (Jvm.Cond.laysFinal "RuleAnomaly" "RuleAnomaly" "pieces" "[I") ∈ lw_all := lw_g (lw_at lw_m1 35 rfl) rfl
theorem q72 : (Jvm.Cond.soleField "RuleAnomaly" "pieces") ∈ lw_all := lw_g (lw_at lw_m1 36 rfl) rfl
theorem q73 : (Jvm.Cond.lays "RuleAnomaly" "RuleAnomaly" "pieceCount" "I") ∈ lw_all := lw_g (lw_at lw_m1 37 rfl) rfl
theorem q74 : (Jvm.Cond.soleField "RuleAnomaly" "pieceCount") ∈ lw_all := lw_g (lw_at lw_m1 38 rfl) rfl
theorem q75 : (Jvm.Cond.laysFinal "RuleAnomaly" "RuleAnomaly" "allowed" "[I") ∈ lw_all := lw_g (lw_at lw_m1 39 rfl) rfl
theorem q76 : (Jvm.Cond.soleField "RuleAnomaly" "allowed") ∈ lw_all := lw_g (lw_at lw_m1 40 rfl) rfl
theorem q77 : (Jvm.Cond.lays "RuleAnomaly" "RuleAnomaly" "allowedCount" "I") ∈ lw_all := lw_g (lw_at lw_m1 41 rfl) rfl
theorem q78 : (Jvm.Cond.soleField "RuleAnomaly" "allowedCount") ∈ lw_all := lw_g (lw_at lw_m1 42 rfl) rfl
theorem q79 : (Jvm.Cond.laysFinal "RuleAnomaly" "RuleAnomaly" "saved" "[I") ∈ lw_all := lw_g (lw_at lw_m1 43 rfl) rfl
theorem q80 : (Jvm.Cond.soleField "RuleAnomaly" "saved") ∈ lw_all := lw_g (lw_at lw_m1 44 rfl) rfl
theorem q81 : (Jvm.Cond.lays "RuleAnomaly" "RuleAnomaly" "savedCount" "I") ∈ lw_all := lw_g (lw_at lw_m1 45 rfl) rfl
theorem q82 : (Jvm.Cond.soleField "RuleAnomaly" "savedCount") ∈ lw_all := lw_g (lw_at lw_m1 46 rfl) rfl
theorem q83 : (Jvm.Cond.superclass "RuleAnomaly" "java/lang/Object") ∈ lw_all := lw_g (lw_at lw_m1 47 rfl) rfl
theorem q87 : (Jvm.Cond.instanceMethod ({ cls := "RuleAnomaly", name := "draftRange", desc := "(III)Z" } : Jvm.MethodName)) ∈ lw_all := lw_g (lw_at lw_m1 51 rfl) rfl
theorem q88 : (Jvm.Cond.selects "RuleAnomaly" ({ cls := "RuleAnomaly", name := "draftRange", desc := "(III)Z" } : Jvm.MethodName) ({ cls := "RuleAnomaly", name := "draftRange", desc := "(III)Z" } : Jvm.MethodName)) ∈ lw_all := lw_g (lw_at lw_m1 52 rfl) rfl
theorem q89 : (Jvm.Cond.code ({ cls := "RuleAnomaly", name := "draftRange", desc := "(III)Z" } : Jvm.MethodName) prog_1_method_2_code (5 : Nat) (Option.some Jvm.ClassFile.FieldType.boolean)) ∈ lw_all := lw_g (lw_at lw_m1 53 rfl) rfl
theorem q91 : (Jvm.Cond.instanceMethod ({ cls := "RuleAnomaly", name := "draftSet", desc := "(I)Z" } : Jvm.MethodName)) ∈ lw_all := lw_g (lw_at lw_m1 55 rfl) rfl
theorem q92 : (Jvm.Cond.selects "RuleAnomaly" ({ cls := "RuleAnomaly", name := "draftSet", desc := "(I)Z" } : Jvm.MethodName) ({ cls := "RuleAnomaly", name := "draftSet", desc := "(I)Z" } : Jvm.MethodName)) ∈ lw_all := lw_g (lw_at lw_m1 56 rfl) rfl
theorem q93 : (Jvm.Cond.code ({ cls := "RuleAnomaly", name := "draftSet", desc := "(I)Z" } : Jvm.MethodName) prog_1_method_3_code (3 : Nat) (Option.some Jvm.ClassFile.FieldType.boolean)) ∈ lw_all := lw_g (lw_at lw_m1 57 rfl) rfl
theorem q95 : (Jvm.Cond.instanceMethod ({ cls := "RuleAnomaly", name := "insert", desc := "(II)I" } : Jvm.MethodName)) ∈ lw_all := lw_g (lw_at lw_m1 59 rfl) rfl
theorem q96 : (Jvm.Cond.selects "RuleAnomaly" ({ cls := "RuleAnomaly", name := "insert", desc := "(II)I" } : Jvm.MethodName) ({ cls := "RuleAnomaly", name := "insert", desc := "(II)I" } : Jvm.MethodName)) ∈ lw_all := lw_g (lw_at lw_m1 60 rfl) rfl
theorem q97 : (Jvm.Cond.code ({ cls := "RuleAnomaly", name := "insert", desc := "(II)I" } : Jvm.MethodName) prog_1_method_4_code (4 : Nat) (Option.some Jvm.ClassFile.FieldType.int)) ∈ lw_all := lw_g (lw_at lw_m1 61 rfl) rfl
theorem q99 : (Jvm.Cond.instanceMethod ({ cls := "RuleAnomaly", name := "remove", desc := "(I)I" } : Jvm.MethodName)) ∈ lw_all := lw_g (lw_at lw_m1 63 rfl) rfl
theorem q100 : (Jvm.Cond.selects "RuleAnomaly" ({ cls := "RuleAnomaly", name := "remove", desc := "(I)I" } : Jvm.MethodName) ({ cls := "RuleAnomaly", name := "remove", desc := "(I)I" } : Jvm.MethodName)) ∈ lw_all := lw_g (lw_at lw_m1 64 rfl) rfl
theorem q101 : (Jvm.Cond.code ({ cls := "RuleAnomaly", name := "remove", desc := "(I)I" } : Jvm.MethodName) prog_1_method_5_code (3 : Nat) (Option.some Jvm.ClassFile.FieldType.int)) ∈ lw_all := lw_g (lw_at lw_m1 65 rfl) rfl
theorem q102 : (Jvm.Cond.methodLink "RuleAnomaly" (36 : Nat) ({ cls := "RuleAnomaly", name := "isRule", desc := "(I)Z" } : Jvm.MethodName)) ∈ lw_all := lw_g (lw_at lw_m1 66 rfl) rfl
theorem q103 : (Jvm.Cond.privateMethod ({ cls := "RuleAnomaly", name := "isRule", desc := "(I)Z" } : Jvm.MethodName)) ∈ lw_tbl := lw_at lw_m1 67 rfl
theorem q104 : (Jvm.Cond.instanceMethod ({ cls := "RuleAnomaly", name := "isRule", desc := "(I)Z" } : Jvm.MethodName)) ∈ lw_all := lw_g (lw_at lw_m1 68 rfl) rfl
theorem q105 : (Jvm.Cond.code ({ cls := "RuleAnomaly", name := "isRule", desc := "(I)Z" } : Jvm.MethodName) prog_1_method_6_code (2 : Nat) (Option.some Jvm.ClassFile.FieldType.boolean)) ∈ lw_all := lw_g (lw_at lw_m1 69 rfl) rfl
theorem q107 : (Jvm.Cond.instanceMethod ({ cls := "RuleAnomaly", name := "decider", desc := "(III)I" } : Jvm.MethodName)) ∈ lw_all := lw_g (lw_at lw_m1 71 rfl) rfl
theorem q108 : (Jvm.Cond.selects "RuleAnomaly" ({ cls := "RuleAnomaly", name := "decider", desc := "(III)I" } : Jvm.MethodName) ({ cls := "RuleAnomaly", name := "decider", desc := "(III)I" } : Jvm.MethodName)) ∈ lw_all := lw_g (lw_at lw_m1 72 rfl) rfl
theorem q109 : (Jvm.Cond.code ({ cls := "RuleAnomaly", name := "decider", desc := "(III)I" } : Jvm.MethodName) prog_1_method_7_code (6 : Nat) (Option.some Jvm.ClassFile.FieldType.int)) ∈ lw_all := lw_g (lw_at lw_m1 73 rfl) rfl
theorem q110 : (Jvm.Cond.methodLink "RuleAnomaly" (40 : Nat) ({ cls := "RuleAnomaly", name := "meets", desc := "(II)Z" } : Jvm.MethodName)) ∈ lw_all := lw_g (lw_at lw_m1 74 rfl) rfl
theorem q111 : (Jvm.Cond.privateMethod ({ cls := "RuleAnomaly", name := "meets", desc := "(II)Z" } : Jvm.MethodName)) ∈ lw_tbl := lw_at lw_m1 75 rfl
theorem q112 : (Jvm.Cond.instanceMethod ({ cls := "RuleAnomaly", name := "meets", desc := "(II)Z" } : Jvm.MethodName)) ∈ lw_all := lw_g (lw_at lw_m1 76 rfl) rfl
theorem q113 : (Jvm.Cond.code ({ cls := "RuleAnomaly", name := "meets", desc := "(II)Z" } : Jvm.MethodName) prog_1_method_37_code (3 : Nat) (Option.some Jvm.ClassFile.FieldType.boolean)) ∈ lw_all := lw_g (lw_at lw_m1 77 rfl) rfl
theorem q114 : (Jvm.Cond.methodLink "RuleAnomaly" (92 : Nat) ({ cls := "RuleAnomaly", name := "fromS", desc := "(I)I" } : Jvm.MethodName)) ∈ lw_all := lw_g (lw_at lw_m1 78 rfl) rfl
theorem q115 : (Jvm.Cond.privateMethod ({ cls := "RuleAnomaly", name := "fromS", desc := "(I)I" } : Jvm.MethodName)) ∈ lw_tbl := lw_at lw_m1 79 rfl
theorem q116 : (Jvm.Cond.instanceMethod ({ cls := "RuleAnomaly", name := "fromS", desc := "(I)I" } : Jvm.MethodName)) ∈ lw_all := lw_g (lw_at lw_m1 80 rfl) rfl
theorem q117 : (Jvm.Cond.code ({ cls := "RuleAnomaly", name := "fromS", desc := "(I)I" } : Jvm.MethodName) prog_1_method_28_code (2 : Nat) (Option.some Jvm.ClassFile.FieldType.int)) ∈ lw_all := lw_g (lw_at lw_m1 81 rfl) rfl
theorem q118 : (Jvm.Cond.methodLink "RuleAnomaly" (121 : Nat) ({ cls := "RuleAnomaly", name := "toS", desc := "(I)I" } : Jvm.MethodName)) ∈ lw_all := lw_g (lw_at lw_m1 82 rfl) rfl
theorem q119 : (Jvm.Cond.privateMethod ({ cls := "RuleAnomaly", name := "toS", desc := "(I)I" } : Jvm.MethodName)) ∈ lw_tbl := lw_at lw_m1 83 rfl
theorem q120 : (Jvm.Cond.instanceMethod ({ cls := "RuleAnomaly", name := "toS", desc := "(I)I" } : Jvm.MethodName)) ∈ lw_all := lw_g (lw_at lw_m1 84 rfl) rfl
theorem q121 : (Jvm.Cond.code ({ cls := "RuleAnomaly", name := "toS", desc := "(I)I" } : Jvm.MethodName) prog_1_method_29_code (2 : Nat) (Option.some Jvm.ClassFile.FieldType.int)) ∈ lw_all := lw_g (lw_at lw_m1 85 rfl) rfl
theorem q122 : (Jvm.Cond.methodLink "RuleAnomaly" (95 : Nat) ({ cls := "RuleAnomaly", name := "fromD", desc := "(I)I" } : Jvm.MethodName)) ∈ lw_all := lw_g (lw_at lw_m1 86 rfl) rfl
theorem q123 : (Jvm.Cond.privateMethod ({ cls := "RuleAnomaly", name := "fromD", desc := "(I)I" } : Jvm.MethodName)) ∈ lw_tbl := lw_at lw_m1 87 rfl
theorem q124 : (Jvm.Cond.instanceMethod ({ cls := "RuleAnomaly", name := "fromD", desc := "(I)I" } : Jvm.MethodName)) ∈ lw_all := lw_g (lw_at lw_m1 88 rfl) rfl
theorem q125 : (Jvm.Cond.code ({ cls := "RuleAnomaly", name := "fromD", desc := "(I)I" } : Jvm.MethodName) prog_1_method_30_code (2 : Nat) (Option.some Jvm.ClassFile.FieldType.int)) ∈ lw_all := lw_g (lw_at lw_m1 89 rfl) rfl
theorem q126 : (Jvm.Cond.methodLink "RuleAnomaly" (128 : Nat) ({ cls := "RuleAnomaly", name := "toD", desc := "(I)I" } : Jvm.MethodName)) ∈ lw_all := lw_g (lw_at lw_m1 90 rfl) rfl
theorem q127 : (Jvm.Cond.privateMethod ({ cls := "RuleAnomaly", name := "toD", desc := "(I)I" } : Jvm.MethodName)) ∈ lw_tbl := lw_at lw_m1 91 rfl
theorem q128 : (Jvm.Cond.instanceMethod ({ cls := "RuleAnomaly", name := "toD", desc := "(I)I" } : Jvm.MethodName)) ∈ lw_all := lw_g (lw_at lw_m1 92 rfl) rfl
theorem q129 : (Jvm.Cond.code ({ cls := "RuleAnomaly", name := "toD", desc := "(I)I" } : Jvm.MethodName) prog_1_method_31_code (2 : Nat) (Option.some Jvm.ClassFile.FieldType.int)) ∈ lw_all := lw_g (lw_at lw_m1 93 rfl) rfl
theorem q130 : (Jvm.Cond.methodLink "RuleAnomaly" (98 : Nat) ({ cls := "RuleAnomaly", name := "fromP", desc := "(I)I" } : Jvm.MethodName)) ∈ lw_all := lw_g (lw_at lw_m1 94 rfl) rfl
theorem q131 : (Jvm.Cond.privateMethod ({ cls := "RuleAnomaly", name := "fromP", desc := "(I)I" } : Jvm.MethodName)) ∈ lw_tbl := lw_at lw_m1 95 rfl
theorem q132 : (Jvm.Cond.instanceMethod ({ cls := "RuleAnomaly", name := "fromP", desc := "(I)I" } : Jvm.MethodName)) ∈ lw_all := lw_g (lw_at lw_m1 96 rfl) rfl
theorem q133 : (Jvm.Cond.code ({ cls := "RuleAnomaly", name := "fromP", desc := "(I)I" } : Jvm.MethodName) prog_1_method_32_code (2 : Nat) (Option.some Jvm.ClassFile.FieldType.int)) ∈ lw_all := lw_g (lw_at lw_m1 97 rfl) rfl
theorem q134 : (Jvm.Cond.methodLink "RuleAnomaly" (118 : Nat) ({ cls := "RuleAnomaly", name := "toP", desc := "(I)I" } : Jvm.MethodName)) ∈ lw_all := lw_g (lw_at lw_m1 98 rfl) rfl
theorem q135 : (Jvm.Cond.privateMethod ({ cls := "RuleAnomaly", name := "toP", desc := "(I)I" } : Jvm.MethodName)) ∈ lw_tbl := lw_at lw_m1 99 rfl
theorem q136 : (Jvm.Cond.instanceMethod ({ cls := "RuleAnomaly", name := "toP", desc := "(I)I" } : Jvm.MethodName)) ∈ lw_all := lw_g (lw_at lw_m1 100 rfl) rfl
theorem q137 : (Jvm.Cond.code ({ cls := "RuleAnomaly", name := "toP", desc := "(I)I" } : Jvm.MethodName) prog_1_method_33_code (2 : Nat) (Option.some Jvm.ClassFile.FieldType.int)) ∈ lw_all := lw_g (lw_at lw_m1 101 rfl) rfl
theorem q139 : (Jvm.Cond.instanceMethod ({ cls := "RuleAnomaly", name := "owned", desc := "(I)I" } : Jvm.MethodName)) ∈ lw_all := lw_g (lw_at lw_m1 103 rfl) rfl
theorem q140 : (Jvm.Cond.selects "RuleAnomaly" ({ cls := "RuleAnomaly", name := "owned", desc := "(I)I" } : Jvm.MethodName) ({ cls := "RuleAnomaly", name := "owned", desc := "(I)I" } : Jvm.MethodName)) ∈ lw_all := lw_g (lw_at lw_m1 104 rfl) rfl
theorem q141 : (Jvm.Cond.code ({ cls := "RuleAnomaly", name := "owned", desc := "(I)I" } : Jvm.MethodName) prog_1_method_8_code (2 : Nat) (Option.some Jvm.ClassFile.FieldType.int)) ∈ lw_all := lw_g (lw_at lw_m1 105 rfl) rfl
theorem q142 : (Jvm.Cond.methodLink "RuleAnomaly" (44 : Nat) ({ cls := "RuleAnomaly", name := "carveOwned", desc := "(I)V" } : Jvm.MethodName)) ∈ lw_all := lw_g (lw_at lw_m1 106 rfl) rfl
theorem q143 : (Jvm.Cond.privateMethod ({ cls := "RuleAnomaly", name := "carveOwned", desc := "(I)V" } : Jvm.MethodName)) ∈ lw_tbl := lw_at lw_m1 107 rfl
theorem q144 : (Jvm.Cond.instanceMethod ({ cls := "RuleAnomaly", name := "carveOwned", desc := "(I)V" } : Jvm.MethodName)) ∈ lw_all := lw_g (lw_at lw_m1 108 rfl) rfl
theorem q145 : (Jvm.Cond.code ({ cls := "RuleAnomaly", name := "carveOwned", desc := "(I)V" } : Jvm.MethodName) prog_1_method_17_code (3 : Nat) (Option.none : Option Jvm.ClassFile.FieldType)) ∈ lw_all := lw_g (lw_at lw_m1 109 rfl) rfl
theorem q146 : (Jvm.Cond.methodLink "RuleAnomaly" (89 : Nat) ({ cls := "RuleAnomaly", name := "startWork", desc := "(I)V" } : Jvm.MethodName)) ∈ lw_all := lw_g (lw_at lw_m1 110 rfl) rfl
theorem q147 : (Jvm.Cond.privateMethod ({ cls := "RuleAnomaly", name := "startWork", desc := "(I)V" } : Jvm.MethodName)) ∈ lw_tbl := lw_at lw_m1 111 rfl
theorem q148 : (Jvm.Cond.instanceMethod ({ cls := "RuleAnomaly", name := "startWork", desc := "(I)V" } : Jvm.MethodName)) ∈ lw_all := lw_g (lw_at lw_m1 112 rfl) rfl
theorem q149 : (Jvm.Cond.code ({ cls := "RuleAnomaly", name := "startWork", desc := "(I)V" } : Jvm.MethodName) prog_1_method_16_code (2 : Nat) (Option.none : Option Jvm.ClassFile.FieldType)) ∈ lw_all := lw_g (lw_at lw_m1 113 rfl) rfl
theorem q150 : (Jvm.Cond.methodLink "RuleAnomaly" (86 : Nat) ({ cls := "RuleAnomaly", name := "subtract", desc := "(I)V" } : Jvm.MethodName)) ∈ lw_all := lw_g (lw_at lw_m1 114 rfl) rfl
theorem q151 : (Jvm.Cond.privateMethod ({ cls := "RuleAnomaly", name := "subtract", desc := "(I)V" } : Jvm.MethodName)) ∈ lw_tbl := lw_at lw_m1 115 rfl
theorem q152 : (Jvm.Cond.instanceMethod ({ cls := "RuleAnomaly", name := "subtract", desc := "(I)V" } : Jvm.MethodName)) ∈ lw_all := lw_g (lw_at lw_m1 116 rfl) rfl
theorem q153 : (Jvm.Cond.code ({ cls := "RuleAnomaly", name := "subtract", desc := "(I)V" } : Jvm.MethodName) prog_1_method_23_code (3 : Nat) (Option.none : Option Jvm.ClassFile.FieldType)) ∈ lw_all := lw_g (lw_at lw_m1 117 rfl) rfl
theorem q154 : (Jvm.Cond.methodLink "RuleAnomaly" (104 : Nat) ({ cls := "RuleAnomaly", name := "carve", desc := "(II)V" } : Jvm.MethodName)) ∈ lw_all := lw_g (lw_at lw_m1 118 rfl) rfl
theorem q155 : (Jvm.Cond.privateMethod ({ cls := "RuleAnomaly", name := "carve", desc := "(II)V" } : Jvm.MethodName)) ∈ lw_tbl := lw_at lw_m1 119 rfl
theorem q156 : (Jvm.Cond.instanceMethod ({ cls := "RuleAnomaly", name := "carve", desc := "(II)V" } : Jvm.MethodName)) ∈ lw_all := lw_g (lw_at lw_m1 120 rfl) rfl
theorem q157 : (Jvm.Cond.code ({ cls := "RuleAnomaly", name := "carve", desc := "(II)V" } : Jvm.MethodName) prog_1_method_25_code (4 : Nat) (Option.none : Option Jvm.ClassFile.FieldType)) ∈ lw_all := lw_g (lw_at lw_m1 121 rfl) rfl
theorem q158 : (Jvm.Cond.methodLink "RuleAnomaly" (111 : Nat) ({ cls := "RuleAnomaly", name := "carveS", desc := "(II)I" } : Jvm.MethodName)) ∈ lw_all := lw_g (lw_at lw_m1 122 rfl) rfl
theorem q159 : (Jvm.Cond.privateMethod ({ cls := "RuleAnomaly", name := "carveS", desc := "(II)I" } : Jvm.MethodName)) ∈ lw_tbl := lw_at lw_m1 123 rfl
theorem q160 : (Jvm.Cond.instanceMethod ({ cls := "RuleAnomaly", name := "carveS", desc := "(II)I" } : Jvm.MethodName)) ∈ lw_all := lw_g (lw_at lw_m1 124 rfl) rfl
theorem q161 : (Jvm.Cond.code ({ cls := "RuleAnomaly", name := "carveS", desc := "(II)I" } : Jvm.MethodName) prog_1_method_26_code (8 : Nat) (Option.some Jvm.ClassFile.FieldType.int)) ∈ lw_all := lw_g (lw_at lw_m1 125 rfl) rfl
theorem q162 : (Jvm.Cond.methodLink "RuleAnomaly" (124 : Nat) ({ cls := "RuleAnomaly", name := "withS", desc := "(III)I" } : Jvm.MethodName)) ∈ lw_all := lw_g (lw_at lw_m1 126 rfl) rfl
theorem q163 : (Jvm.Cond.privateMethod ({ cls := "RuleAnomaly", name := "withS", desc := "(III)I" } : Jvm.MethodName)) ∈ lw_tbl := lw_at lw_m1 127 rfl
theorem q164 : (Jvm.Cond.instanceMethod ({ cls := "RuleAnomaly", name := "withS", desc := "(III)I" } : Jvm.MethodName)) ∈ lw_all := lw_g (lw_at lw_m1 128 rfl) rfl
theorem q165 : (Jvm.Cond.code ({ cls := "RuleAnomaly", name := "withS", desc := "(III)I" } : Jvm.MethodName) prog_1_method_34_code (4 : Nat) (Option.some Jvm.ClassFile.FieldType.int)) ∈ lw_all := lw_g (lw_at lw_m1 129 rfl) rfl
theorem q166 : (Jvm.Cond.methodLink "RuleAnomaly" (108 : Nat) ({ cls := "RuleAnomaly", name := "addPiece", desc := "(I)V" } : Jvm.MethodName)) ∈ lw_all := lw_g (lw_at lw_m1 130 rfl) rfl
theorem q167 : (Jvm.Cond.privateMethod ({ cls := "RuleAnomaly", name := "addPiece", desc := "(I)V" } : Jvm.MethodName)) ∈ lw_tbl := lw_at lw_m1 131 rfl
theorem q168 : (Jvm.Cond.instanceMethod ({ cls := "RuleAnomaly", name := "addPiece", desc := "(I)V" } : Jvm.MethodName)) ∈ lw_all := lw_g (lw_at lw_m1 132 rfl) rfl
theorem q169 : (Jvm.Cond.code ({ cls := "RuleAnomaly", name := "addPiece", desc := "(I)V" } : Jvm.MethodName) prog_1_method_24_code (2 : Nat) (Option.none : Option Jvm.ClassFile.FieldType)) ∈ lw_all := lw_g (lw_at lw_m1 133 rfl) rfl
theorem q170 : (Jvm.Cond.methodLink "RuleAnomaly" (115 : Nat) ({ cls := "RuleAnomaly", name := "carveD", desc := "(II)I" } : Jvm.MethodName)) ∈ lw_all := lw_g (lw_at lw_m1 134 rfl) rfl
theorem q171 : (Jvm.Cond.privateMethod ({ cls := "RuleAnomaly", name := "carveD", desc := "(II)I" } : Jvm.MethodName)) ∈ lw_tbl := lw_at lw_m1 135 rfl
theorem q172 : (Jvm.Cond.instanceMethod ({ cls := "RuleAnomaly", name := "carveD", desc := "(II)I" } : Jvm.MethodName)) ∈ lw_all := lw_g (lw_at lw_m1 136 rfl) rfl
theorem q173 : (Jvm.Cond.code ({ cls := "RuleAnomaly", name := "carveD", desc := "(II)I" } : Jvm.MethodName) prog_1_method_27_code (8 : Nat) (Option.some Jvm.ClassFile.FieldType.int)) ∈ lw_all := lw_g (lw_at lw_m1 137 rfl) rfl
theorem q174 : (Jvm.Cond.methodLink "RuleAnomaly" (131 : Nat) ({ cls := "RuleAnomaly", name := "withD", desc := "(III)I" } : Jvm.MethodName)) ∈ lw_all := lw_g (lw_at lw_m1 138 rfl) rfl
theorem q175 : (Jvm.Cond.privateMethod ({ cls := "RuleAnomaly", name := "withD", desc := "(III)I" } : Jvm.MethodName)) ∈ lw_tbl := lw_at lw_m1 139 rfl
theorem q176 : (Jvm.Cond.instanceMethod ({ cls := "RuleAnomaly", name := "withD", desc := "(III)I" } : Jvm.MethodName)) ∈ lw_all := lw_g (lw_at lw_m1 140 rfl) rfl
theorem q177 : (Jvm.Cond.code ({ cls := "RuleAnomaly", name := "withD", desc := "(III)I" } : Jvm.MethodName) prog_1_method_35_code (4 : Nat) (Option.some Jvm.ClassFile.FieldType.int)) ∈ lw_all := lw_g (lw_at lw_m1 141 rfl) rfl
theorem q178 : (Jvm.Cond.methodLink "RuleAnomaly" (48 : Nat) ({ cls := "RuleAnomaly", name := "volumeOfWork", desc := "()I" } : Jvm.MethodName)) ∈ lw_all := lw_g (lw_at lw_m1 142 rfl) rfl
theorem q179 : (Jvm.Cond.privateMethod ({ cls := "RuleAnomaly", name := "volumeOfWork", desc := "()I" } : Jvm.MethodName)) ∈ lw_tbl := lw_at lw_m1 143 rfl
theorem q180 : (Jvm.Cond.instanceMethod ({ cls := "RuleAnomaly", name := "volumeOfWork", desc := "()I" } : Jvm.MethodName)) ∈ lw_all := lw_g (lw_at lw_m1 144 rfl) rfl
theorem q181 : (Jvm.Cond.code ({ cls := "RuleAnomaly", name := "volumeOfWork", desc := "()I" } : Jvm.MethodName) prog_1_method_21_code (3 : Nat) (Option.some Jvm.ClassFile.FieldType.int)) ∈ lw_all := lw_g (lw_at lw_m1 145 rfl) rfl
theorem q182 : (Jvm.Cond.methodLink "RuleAnomaly" (74 : Nat) ({ cls := "RuleAnomaly", name := "volume", desc := "(I)I" } : Jvm.MethodName)) ∈ lw_all := lw_g (lw_at lw_m1 146 rfl) rfl
theorem q183 : (Jvm.Cond.privateMethod ({ cls := "RuleAnomaly", name := "volume", desc := "(I)I" } : Jvm.MethodName)) ∈ lw_tbl := lw_at lw_m1 147 rfl
theorem q184 : (Jvm.Cond.instanceMethod ({ cls := "RuleAnomaly", name := "volume", desc := "(I)I" } : Jvm.MethodName)) ∈ lw_all := lw_g (lw_at lw_m1 148 rfl) rfl
theorem q185 : (Jvm.Cond.code ({ cls := "RuleAnomaly", name := "volume", desc := "(I)I" } : Jvm.MethodName) prog_1_method_36_code (5 : Nat) (Option.some Jvm.ClassFile.FieldType.int)) ∈ lw_all := lw_g (lw_at lw_m1 149 rfl) rfl
theorem q187 : (Jvm.Cond.instanceMethod ({ cls := "RuleAnomaly", name := "firstOwned", desc := "(I)I" } : Jvm.MethodName)) ∈ lw_all := lw_g (lw_at lw_m1 151 rfl) rfl
theorem q188 : (Jvm.Cond.selects "RuleAnomaly" ({ cls := "RuleAnomaly", name := "firstOwned", desc := "(I)I" } : Jvm.MethodName) ({ cls := "RuleAnomaly", name := "firstOwned", desc := "(I)I" } : Jvm.MethodName)) ∈ lw_all := lw_g (lw_at lw_m1 152 rfl) rfl
theorem q189 : (Jvm.Cond.code ({ cls := "RuleAnomaly", name := "firstOwned", desc := "(I)I" } : Jvm.MethodName) prog_1_method_9_code (2 : Nat) (Option.some Jvm.ClassFile.FieldType.int)) ∈ lw_all := lw_g (lw_at lw_m1 153 rfl) rfl
theorem q190 : (Jvm.Cond.methodLink "RuleAnomaly" (52 : Nat) ({ cls := "RuleAnomaly", name := "lowestCorner", desc := "(I)I" } : Jvm.MethodName)) ∈ lw_all := lw_g (lw_at lw_m1 154 rfl) rfl
theorem q191 : (Jvm.Cond.privateMethod ({ cls := "RuleAnomaly", name := "lowestCorner", desc := "(I)I" } : Jvm.MethodName)) ∈ lw_tbl := lw_at lw_m1 155 rfl
theorem q192 : (Jvm.Cond.instanceMethod ({ cls := "RuleAnomaly", name := "lowestCorner", desc := "(I)I" } : Jvm.MethodName)) ∈ lw_all := lw_g (lw_at lw_m1 156 rfl) rfl
theorem q193 : (Jvm.Cond.code ({ cls := "RuleAnomaly", name := "lowestCorner", desc := "(I)I" } : Jvm.MethodName) prog_1_method_22_code (6 : Nat) (Option.some Jvm.ClassFile.FieldType.int)) ∈ lw_all := lw_g (lw_at lw_m1 157 rfl) rfl
theorem q195 : (Jvm.Cond.instanceMethod ({ cls := "RuleAnomaly", name := "fault", desc := "(I)I" } : Jvm.MethodName)) ∈ lw_all := lw_g (lw_at lw_m1 159 rfl) rfl
theorem q196 : (Jvm.Cond.selects "RuleAnomaly" ({ cls := "RuleAnomaly", name := "fault", desc := "(I)I" } : Jvm.MethodName) ({ cls := "RuleAnomaly", name := "fault", desc := "(I)I" } : Jvm.MethodName)) ∈ lw_all := lw_g (lw_at lw_m1 160 rfl) rfl
theorem q197 : (Jvm.Cond.code ({ cls := "RuleAnomaly", name := "fault", desc := "(I)I" } : Jvm.MethodName) prog_1_method_10_code (4 : Nat) (Option.some Jvm.ClassFile.FieldType.int)) ∈ lw_all := lw_g (lw_at lw_m1 161 rfl) rfl
theorem q198 : (Jvm.Cond.methodLink "RuleAnomaly" (59 : Nat) ({ cls := "RuleAnomaly", name := "overruled", desc := "(I)Z" } : Jvm.MethodName)) ∈ lw_all := lw_g (lw_at lw_m1 162 rfl) rfl
theorem q199 : (Jvm.Cond.privateMethod ({ cls := "RuleAnomaly", name := "overruled", desc := "(I)Z" } : Jvm.MethodName)) ∈ lw_tbl := lw_at lw_m1 163 rfl
theorem q200 : (Jvm.Cond.instanceMethod ({ cls := "RuleAnomaly", name := "overruled", desc := "(I)Z" } : Jvm.MethodName)) ∈ lw_all := lw_g (lw_at lw_m1 164 rfl) rfl
theorem q201 : (Jvm.Cond.code ({ cls := "RuleAnomaly", name := "overruled", desc := "(I)Z" } : Jvm.MethodName) prog_1_method_14_code (4 : Nat) (Option.some Jvm.ClassFile.FieldType.boolean)) ∈ lw_all := lw_g (lw_at lw_m1 165 rfl) rfl
theorem q202 : (Jvm.Cond.methodLink "RuleAnomaly" (62 : Nat) ({ cls := "RuleAnomaly", name := "replaceable", desc := "(I)Z" } : Jvm.MethodName)) ∈ lw_all := lw_g (lw_at lw_m1 166 rfl) rfl
theorem q203 : (Jvm.Cond.privateMethod ({ cls := "RuleAnomaly", name := "replaceable", desc := "(I)Z" } : Jvm.MethodName)) ∈ lw_tbl := lw_at lw_m1 167 rfl
theorem q204 : (Jvm.Cond.instanceMethod ({ cls := "RuleAnomaly", name := "replaceable", desc := "(I)Z" } : Jvm.MethodName)) ∈ lw_all := lw_g (lw_at lw_m1 168 rfl) rfl
theorem q205 : (Jvm.Cond.code ({ cls := "RuleAnomaly", name := "replaceable", desc := "(I)Z" } : Jvm.MethodName) prog_1_method_15_code (4 : Nat) (Option.some Jvm.ClassFile.FieldType.boolean)) ∈ lw_all := lw_g (lw_at lw_m1 169 rfl) rfl
theorem q206 : (Jvm.Cond.methodLink "RuleAnomaly" (65 : Nat) ({ cls := "RuleAnomaly", name := "within", desc := "(II)Z" } : Jvm.MethodName)) ∈ lw_all := lw_g (lw_at lw_m1 170 rfl) rfl
theorem q207 : (Jvm.Cond.privateMethod ({ cls := "RuleAnomaly", name := "within", desc := "(II)Z" } : Jvm.MethodName)) ∈ lw_tbl := lw_at lw_m1 171 rfl
theorem q208 : (Jvm.Cond.instanceMethod ({ cls := "RuleAnomaly", name := "within", desc := "(II)Z" } : Jvm.MethodName)) ∈ lw_all := lw_g (lw_at lw_m1 172 rfl) rfl
theorem q209 : (Jvm.Cond.code ({ cls := "RuleAnomaly", name := "within", desc := "(II)Z" } : Jvm.MethodName) prog_1_method_38_code (3 : Nat) (Option.some Jvm.ClassFile.FieldType.boolean)) ∈ lw_all := lw_g (lw_at lw_m1 173 rfl) rfl
theorem q211 : (Jvm.Cond.instanceMethod ({ cls := "RuleAnomaly", name := "save", desc := "()I" } : Jvm.MethodName)) ∈ lw_all := lw_g (lw_at lw_m1 175 rfl) rfl
theorem q212 : (Jvm.Cond.selects "RuleAnomaly" ({ cls := "RuleAnomaly", name := "save", desc := "()I" } : Jvm.MethodName) ({ cls := "RuleAnomaly", name := "save", desc := "()I" } : Jvm.MethodName)) ∈ lw_all := lw_g (lw_at lw_m1 176 rfl) rfl
theorem q213 : (Jvm.Cond.code ({ cls := "RuleAnomaly", name := "save", desc := "()I" } : Jvm.MethodName) prog_1_method_11_code (3 : Nat) (Option.some Jvm.ClassFile.FieldType.int)) ∈ lw_all := lw_g (lw_at lw_m1 177 rfl) rfl
theorem q214 : (Jvm.Cond.methodLink "RuleAnomaly" (68 : Nat) ({ cls := "RuleAnomaly", name := "gatherAllowed", desc := "()V" } : Jvm.MethodName)) ∈ lw_all := lw_g (lw_at lw_m1 178 rfl) rfl
theorem q215 : (Jvm.Cond.privateMethod ({ cls := "RuleAnomaly", name := "gatherAllowed", desc := "()V" } : Jvm.MethodName)) ∈ lw_tbl := lw_at lw_m1 179 rfl
theorem q216 : (Jvm.Cond.instanceMethod ({ cls := "RuleAnomaly", name := "gatherAllowed", desc := "()V" } : Jvm.MethodName)) ∈ lw_all := lw_g (lw_at lw_m1 180 rfl) rfl
theorem q217 : (Jvm.Cond.code ({ cls := "RuleAnomaly", name := "gatherAllowed", desc := "()V" } : Jvm.MethodName) prog_1_method_18_code (3 : Nat) (Option.none : Option Jvm.ClassFile.FieldType)) ∈ lw_all := lw_g (lw_at lw_m1 181 rfl) rfl
theorem q219 : (Jvm.Cond.instanceMethod ({ cls := "RuleAnomaly", name := "changed", desc := "()I" } : Jvm.MethodName)) ∈ lw_all := lw_g (lw_at lw_m1 183 rfl) rfl
theorem q220 : (Jvm.Cond.selects "RuleAnomaly" ({ cls := "RuleAnomaly", name := "changed", desc := "()I" } : Jvm.MethodName) ({ cls := "RuleAnomaly", name := "changed", desc := "()I" } : Jvm.MethodName)) ∈ lw_all := lw_g (lw_at lw_m1 184 rfl) rfl
theorem q221 : (Jvm.Cond.code ({ cls := "RuleAnomaly", name := "changed", desc := "()I" } : Jvm.MethodName) prog_1_method_12_code (2 : Nat) (Option.some Jvm.ClassFile.FieldType.int)) ∈ lw_all := lw_g (lw_at lw_m1 185 rfl) rfl
theorem q222 : (Jvm.Cond.methodLink "RuleAnomaly" (80 : Nat) ({ cls := "RuleAnomaly", name := "carveNewlyAllowed", desc := "()V" } : Jvm.MethodName)) ∈ lw_all := lw_g (lw_at lw_m1 186 rfl) rfl
theorem q223 : (Jvm.Cond.privateMethod ({ cls := "RuleAnomaly", name := "carveNewlyAllowed", desc := "()V" } : Jvm.MethodName)) ∈ lw_tbl := lw_at lw_m1 187 rfl
theorem q224 : (Jvm.Cond.instanceMethod ({ cls := "RuleAnomaly", name := "carveNewlyAllowed", desc := "()V" } : Jvm.MethodName)) ∈ lw_all := lw_g (lw_at lw_m1 188 rfl) rfl
theorem q225 : (Jvm.Cond.code ({ cls := "RuleAnomaly", name := "carveNewlyAllowed", desc := "()V" } : Jvm.MethodName) prog_1_method_19_code (2 : Nat) (Option.none : Option Jvm.ClassFile.FieldType)) ∈ lw_all := lw_g (lw_at lw_m1 189 rfl) rfl
theorem q226 : (Jvm.Cond.methodLink "RuleAnomaly" (83 : Nat) ({ cls := "RuleAnomaly", name := "carveNoLongerAllowed", desc := "()V" } : Jvm.MethodName)) ∈ lw_all := lw_g (lw_at lw_m1 190 rfl) rfl
theorem q227 : (Jvm.Cond.privateMethod ({ cls := "RuleAnomaly", name := "carveNoLongerAllowed", desc := "()V" } : Jvm.MethodName)) ∈ lw_tbl := lw_at lw_m1 191 rfl
theorem q228 : (Jvm.Cond.instanceMethod ({ cls := "RuleAnomaly", name := "carveNoLongerAllowed", desc := "()V" } : Jvm.MethodName)) ∈ lw_all := lw_g (lw_at lw_m1 192 rfl) rfl
theorem q229 : (Jvm.Cond.code ({ cls := "RuleAnomaly", name := "carveNoLongerAllowed", desc := "()V" } : Jvm.MethodName) prog_1_method_20_code (2 : Nat) (Option.none : Option Jvm.ClassFile.FieldType)) ∈ lw_all := lw_g (lw_at lw_m1 193 rfl) rfl
theorem q231 : (Jvm.Cond.instanceMethod ({ cls := "RuleAnomaly", name := "firstChanged", desc := "()I" } : Jvm.MethodName)) ∈ lw_all := lw_g (lw_at lw_m1 195 rfl) rfl
theorem q232 : (Jvm.Cond.selects "RuleAnomaly" ({ cls := "RuleAnomaly", name := "firstChanged", desc := "()I" } : Jvm.MethodName) ({ cls := "RuleAnomaly", name := "firstChanged", desc := "()I" } : Jvm.MethodName)) ∈ lw_all := lw_g (lw_at lw_m1 196 rfl) rfl
theorem q233 : (Jvm.Cond.code ({ cls := "RuleAnomaly", name := "firstChanged", desc := "()I" } : Jvm.MethodName) prog_1_method_13_code (2 : Nat) (Option.some Jvm.ClassFile.FieldType.int)) ∈ lw_all := lw_g (lw_at lw_m1 197 rfl) rfl
theorem in_X0 : ∀ w ∈ wsX00, w ∈ lw_all := lw_in wsX00 [59, 61, 63, 65, 67, 69, 71, 73, 75, 77, 79, 81] (by decide +kernel) (by decide +kernel)
theorem q36 : (Jvm.Cond.initialized "RuleAnomalyLaw") ∈ lw_all := lw_g (lw_at lw_m1 0 rfl) rfl
theorem q39 : (Jvm.Cond.classLink "RuleAnomalyLaw" (7 : Nat) "RuleAnomaly") ∈ lw_all := lw_g (lw_at lw_m1 3 rfl) rfl
theorem q41 : (Jvm.Cond.methodLink "RuleAnomalyLaw" (9 : Nat) ({ cls := "RuleAnomaly", name := "<init>", desc := "()V" } : Jvm.MethodName)) ∈ lw_all := lw_g (lw_at lw_m1 5 rfl) rfl
theorem q86 : (Jvm.Cond.methodLink "RuleAnomalyLaw" (13 : Nat) ({ cls := "RuleAnomaly", name := "draftRange", desc := "(III)Z" } : Jvm.MethodName)) ∈ lw_all := lw_g (lw_at lw_m1 50 rfl) rfl
theorem q90 : (Jvm.Cond.methodLink "RuleAnomalyLaw" (18 : Nat) ({ cls := "RuleAnomaly", name := "draftSet", desc := "(I)Z" } : Jvm.MethodName)) ∈ lw_all := lw_g (lw_at lw_m1 54 rfl) rfl
theorem q94 : (Jvm.Cond.methodLink "RuleAnomalyLaw" (23 : Nat) ({ cls := "RuleAnomaly", name := "insert", desc := "(II)I" } : Jvm.MethodName)) ∈ lw_all := lw_g (lw_at lw_m1 58 rfl) rfl
theorem q98 : (Jvm.Cond.methodLink "RuleAnomalyLaw" (28 : Nat) ({ cls := "RuleAnomaly", name := "remove", desc := "(I)I" } : Jvm.MethodName)) ∈ lw_all := lw_g (lw_at lw_m1 62 rfl) rfl
theorem q106 : (Jvm.Cond.methodLink "RuleAnomalyLaw" (33 : Nat) ({ cls := "RuleAnomaly", name := "decider", desc := "(III)I" } : Jvm.MethodName)) ∈ lw_all := lw_g (lw_at lw_m1 70 rfl) rfl
theorem q138 : (Jvm.Cond.methodLink "RuleAnomalyLaw" (38 : Nat) ({ cls := "RuleAnomaly", name := "owned", desc := "(I)I" } : Jvm.MethodName)) ∈ lw_all := lw_g (lw_at lw_m1 102 rfl) rfl
theorem q186 : (Jvm.Cond.methodLink "RuleAnomalyLaw" (42 : Nat) ({ cls := "RuleAnomaly", name := "firstOwned", desc := "(I)I" } : Jvm.MethodName)) ∈ lw_all := lw_g (lw_at lw_m1 150 rfl) rfl
theorem q194 : (Jvm.Cond.methodLink "RuleAnomalyLaw" (46 : Nat) ({ cls := "RuleAnomaly", name := "fault", desc := "(I)I" } : Jvm.MethodName)) ∈ lw_all := lw_g (lw_at lw_m1 158 rfl) rfl
theorem q210 : (Jvm.Cond.methodLink "RuleAnomalyLaw" (50 : Nat) ({ cls := "RuleAnomaly", name := "save", desc := "()I" } : Jvm.MethodName)) ∈ lw_all := lw_g (lw_at lw_m1 174 rfl) rfl
theorem q218 : (Jvm.Cond.methodLink "RuleAnomalyLaw" (55 : Nat) ({ cls := "RuleAnomaly", name := "changed", desc := "()I" } : Jvm.MethodName)) ∈ lw_all := lw_g (lw_at lw_m1 182 rfl) rfl
theorem q230 : (Jvm.Cond.methodLink "RuleAnomalyLaw" (59 : Nat) ({ cls := "RuleAnomaly", name := "firstChanged", desc := "()I" } : Jvm.MethodName)) ∈ lw_all := lw_g (lw_at lw_m1 194 rfl) rfl
theorem q234 : (Jvm.Cond.classLink "RuleAnomalyLaw" (10 : Nat) "RuleAnomalyModel") ∈ lw_all := lw_g (lw_at lw_m1 198 rfl) rfl
theorem q236 : (Jvm.Cond.methodLink "RuleAnomalyLaw" (12 : Nat) ({ cls := "RuleAnomalyModel", name := "<init>", desc := "()V" } : Jvm.MethodName)) ∈ lw_all := lw_g (lw_at lw_m1 200 rfl) rfl
theorem q265 : (Jvm.Cond.methodLink "RuleAnomalyLaw" (17 : Nat) ({ cls := "RuleAnomalyModel", name := "draftRange", desc := "(III)Z" } : Jvm.MethodName)) ∈ lw_all := lw_g (lw_at lw_m1 229 rfl) rfl
theorem q269 : (Jvm.Cond.methodLink "RuleAnomalyLaw" (22 : Nat) ({ cls := "RuleAnomalyModel", name := "draftSet", desc := "(I)Z" } : Jvm.MethodName)) ∈ lw_all := lw_g (lw_at lw_m1 233 rfl) rfl
theorem q273 : (Jvm.Cond.methodLink "RuleAnomalyLaw" (27 : Nat) ({ cls := "RuleAnomalyModel", name := "insert", desc := "(II)I" } : Jvm.MethodName)) ∈ lw_all := lw_g (lw_at lw_m1 237 rfl) rfl
theorem q281 : (Jvm.Cond.methodLink "RuleAnomalyLaw" (32 : Nat) ({ cls := "RuleAnomalyModel", name := "remove", desc := "(I)I" } : Jvm.MethodName)) ∈ lw_all := lw_g (lw_at lw_m2 5 rfl) rfl
theorem q289 : (Jvm.Cond.methodLink "RuleAnomalyLaw" (37 : Nat) ({ cls := "RuleAnomalyModel", name := "decider", desc := "(III)I" } : Jvm.MethodName)) ∈ lw_all := lw_g (lw_at lw_m2 13 rfl) rfl
theorem q301 : (Jvm.Cond.methodLink "RuleAnomalyLaw" (41 : Nat) ({ cls := "RuleAnomalyModel", name := "owned", desc := "(I)I" } : Jvm.MethodName)) ∈ lw_all := lw_g (lw_at lw_m2 25 rfl) rfl
theorem q305 : (Jvm.Cond.methodLink "RuleAnomalyLaw" (45 : Nat) ({ cls := "RuleAnomalyModel", name := "firstOwned", desc := "(I)I" } : Jvm.MethodName)) ∈ lw_all := lw_g (lw_at lw_m2 29 rfl) rfl
theorem q309 : (Jvm.Cond.methodLink "RuleAnomalyLaw" (49 : Nat) ({ cls := "RuleAnomalyModel", name := "fault", desc := "(I)I" } : Jvm.MethodName)) ∈ lw_all := lw_g (lw_at lw_m2 33 rfl) rfl
theorem q338 : (Jvm.Cond.methodLink "RuleAnomalyLaw" (54 : Nat) ({ cls := "RuleAnomalyModel", name := "save", desc := "()I" } : Jvm.MethodName)) ∈ lw_all := lw_g (lw_at lw_m2 62 rfl) rfl
theorem q342 : (Jvm.Cond.methodLink "RuleAnomalyLaw" (58 : Nat) ({ cls := "RuleAnomalyModel", name := "changed", desc := "()I" } : Jvm.MethodName)) ∈ lw_all := lw_g (lw_at lw_m2 66 rfl) rfl
theorem q346 : (Jvm.Cond.methodLink "RuleAnomalyLaw" (62 : Nat) ({ cls := "RuleAnomalyModel", name := "firstChanged", desc := "()I" } : Jvm.MethodName)) ∈ lw_all := lw_g (lw_at lw_m2 70 rfl) rfl
theorem q84 : (Jvm.Cond.arrayClass Jvm.ClassFile.FieldType.int) ∈ lw_all := lw_g (lw_at lw_m1 48 rfl) rfl
theorem q85 : (Jvm.Cond.arrayClass Jvm.ClassFile.FieldType.byte) ∈ lw_all := lw_g (lw_at lw_m1 49 rfl) rfl
/-! java/lang/Object -/
def RJ0 : String := "java/lang/Object"
abbrev cJ0_init : ByteArray := object_method_1_code
def yJ0_init : MethodName := ⟨RJ0, "<init>", "()V"⟩
theorem dJ0_init_0 : decode cJ0_init 0 = .ok (.return_, 1) := by decide +kernel
theorem q45 : (Jvm.Cond.instanceMethod ({ cls := "java/lang/Object", name := "<init>", desc := "()V" } : Jvm.MethodName)) ∈ lw_all := lw_g (lw_at lw_m1 9 rfl) rfl
theorem q46 : (Jvm.Cond.code ({ cls := "java/lang/Object", name := "<init>", desc := "()V" } : Jvm.MethodName) object_method_1_code (1 : Nat) (Option.none : Option Jvm.ClassFile.FieldType)) ∈ lw_all := lw_g (lw_at lw_m1 10 rfl) rfl
end
section
/-! RuleAnomalyModel -/
set_option maxRecDepth 100000
def RX1 : String := "RuleAnomalyModel"
def TX1 : u_T := fun k => match k with
  | 0 => ("RuleAnomalyModel", "n", "I", false)
  | 1 => ("RuleAnomalyModel", "fromS", "[I", false)
  | 2 => ("RuleAnomalyModel", "toS", "[I", false)
  | 3 => ("RuleAnomalyModel", "fromD", "[I", false)
  | 4 => ("RuleAnomalyModel", "toD", "[I", false)
  | 5 => ("RuleAnomalyModel", "which", "[I", false)
  | 6 => ("RuleAnomalyModel", "action", "[I", false)
  | _ => ("RuleAnomalyModel", "saved", "[I", false)
def tyX1 : Nat → FieldType := fun k => match k with
  | 0 => .int
  | 1 => .array .int
  | 2 => .array .int
  | 3 => .array .int
  | 4 => .array .int
  | 5 => .array .int
  | 6 => .array .int
  | _ => .array .int
abbrev wsX10 : List Cond := u_ws RX1 TX1 8
theorem nmX1 : ∀ a, a < 8 → ∀ b, b < 8 → a ≠ b → (TX1 a).2.1 ≠ (TX1 b).2.1 := by decide +kernel
theorem tyX1_ok : ∀ k, k < 8 → parseFieldDescriptor (TX1 k).2.2.1 = some (tyX1 k) := by decide +kernel
abbrev cX1_init : ByteArray := prog_3_method_1_code
def yX1_init : MethodName := ⟨RX1, "<init>", "()V"⟩
theorem dX1_init_0 : decode cX1_init 0 = .ok (.aload_n 0, 1) := by decide +kernel
theorem dX1_init_1 : decode cX1_init 1 = .ok (.invokespecial 1, 3) := by decide +kernel
theorem dX1_init_4 : decode cX1_init 4 = .ok (.aload_n 0, 1) := by decide +kernel
theorem dX1_init_5 : decode cX1_init 5 = .ok (.iconst 0, 1) := by decide +kernel
theorem dX1_init_6 : decode cX1_init 6 = .ok (.putfield 7, 3) := by decide +kernel
theorem dX1_init_9 : decode cX1_init 9 = .ok (.aload_n 0, 1) := by decide +kernel
theorem dX1_init_10 : decode cX1_init 10 = .ok (.bipush 11, 2) := by decide +kernel
theorem dX1_init_12 : decode cX1_init 12 = .ok (.newarray .int, 2) := by decide +kernel
theorem dX1_init_14 : decode cX1_init 14 = .ok (.putfield 13, 3) := by decide +kernel
theorem dX1_init_17 : decode cX1_init 17 = .ok (.aload_n 0, 1) := by decide +kernel
theorem dX1_init_18 : decode cX1_init 18 = .ok (.bipush 11, 2) := by decide +kernel
theorem dX1_init_20 : decode cX1_init 20 = .ok (.newarray .int, 2) := by decide +kernel
theorem dX1_init_22 : decode cX1_init 22 = .ok (.putfield 17, 3) := by decide +kernel
theorem dX1_init_25 : decode cX1_init 25 = .ok (.aload_n 0, 1) := by decide +kernel
theorem dX1_init_26 : decode cX1_init 26 = .ok (.bipush 11, 2) := by decide +kernel
theorem dX1_init_28 : decode cX1_init 28 = .ok (.newarray .int, 2) := by decide +kernel
theorem dX1_init_30 : decode cX1_init 30 = .ok (.putfield 20, 3) := by decide +kernel
theorem dX1_init_33 : decode cX1_init 33 = .ok (.aload_n 0, 1) := by decide +kernel
theorem dX1_init_34 : decode cX1_init 34 = .ok (.bipush 11, 2) := by decide +kernel
theorem dX1_init_36 : decode cX1_init 36 = .ok (.newarray .int, 2) := by decide +kernel
theorem dX1_init_38 : decode cX1_init 38 = .ok (.putfield 23, 3) := by decide +kernel
theorem dX1_init_41 : decode cX1_init 41 = .ok (.aload_n 0, 1) := by decide +kernel
theorem dX1_init_42 : decode cX1_init 42 = .ok (.bipush 11, 2) := by decide +kernel
theorem dX1_init_44 : decode cX1_init 44 = .ok (.newarray .int, 2) := by decide +kernel
theorem dX1_init_46 : decode cX1_init 46 = .ok (.putfield 26, 3) := by decide +kernel
theorem dX1_init_49 : decode cX1_init 49 = .ok (.aload_n 0, 1) := by decide +kernel
theorem dX1_init_50 : decode cX1_init 50 = .ok (.bipush 11, 2) := by decide +kernel
theorem dX1_init_52 : decode cX1_init 52 = .ok (.newarray .int, 2) := by decide +kernel
theorem dX1_init_54 : decode cX1_init 54 = .ok (.putfield 29, 3) := by decide +kernel
theorem dX1_init_57 : decode cX1_init 57 = .ok (.aload_n 0, 1) := by decide +kernel
theorem dX1_init_58 : decode cX1_init 58 = .ok (.sipush 512, 3) := by decide +kernel
theorem dX1_init_61 : decode cX1_init 61 = .ok (.newarray .int, 2) := by decide +kernel
theorem dX1_init_63 : decode cX1_init 63 = .ok (.putfield 32, 3) := by decide +kernel
theorem dX1_init_66 : decode cX1_init 66 = .ok (.aload_n 0, 1) := by decide +kernel
theorem dX1_init_67 : decode cX1_init 67 = .ok (.getfield 17, 3) := by decide +kernel
theorem dX1_init_70 : decode cX1_init 70 = .ok (.bipush 10, 2) := by decide +kernel
theorem dX1_init_72 : decode cX1_init 72 = .ok (.bipush 15, 2) := by decide +kernel
theorem dX1_init_74 : decode cX1_init 74 = .ok (.iastore, 1) := by decide +kernel
theorem dX1_init_75 : decode cX1_init 75 = .ok (.aload_n 0, 1) := by decide +kernel
theorem dX1_init_76 : decode cX1_init 76 = .ok (.getfield 23, 3) := by decide +kernel
theorem dX1_init_79 : decode cX1_init 79 = .ok (.bipush 10, 2) := by decide +kernel
theorem dX1_init_81 : decode cX1_init 81 = .ok (.bipush 15, 2) := by decide +kernel
theorem dX1_init_83 : decode cX1_init 83 = .ok (.iastore, 1) := by decide +kernel
theorem dX1_init_84 : decode cX1_init 84 = .ok (.aload_n 0, 1) := by decide +kernel
theorem dX1_init_85 : decode cX1_init 85 = .ok (.getfield 26, 3) := by decide +kernel
theorem dX1_init_88 : decode cX1_init 88 = .ok (.bipush 10, 2) := by decide +kernel
theorem dX1_init_90 : decode cX1_init 90 = .ok (.iconst 2, 1) := by decide +kernel
theorem dX1_init_91 : decode cX1_init 91 = .ok (.iastore, 1) := by decide +kernel
theorem dX1_init_92 : decode cX1_init 92 = .ok (.return_, 1) := by decide +kernel
abbrev cX1_draftRange : ByteArray := prog_3_method_2_code
def yX1_draftRange : MethodName := ⟨RX1, "draftRange", "(III)Z"⟩
theorem dX1_draftRange_0 : decode cX1_draftRange 0 = .ok (.iload_n 1, 1) := by decide +kernel
theorem dX1_draftRange_1 : decode cX1_draftRange 1 = .ok (.ifCond .lt 33, 3) := by decide +kernel
theorem dX1_draftRange_4 : decode cX1_draftRange 4 = .ok (.iload_n 1, 1) := by decide +kernel
theorem dX1_draftRange_5 : decode cX1_draftRange 5 = .ok (.iconst 1, 1) := by decide +kernel
theorem dX1_draftRange_6 : decode cX1_draftRange 6 = .ok (.if_icmp .gt 28, 3) := by decide +kernel
theorem dX1_draftRange_9 : decode cX1_draftRange 9 = .ok (.iload_n 2, 1) := by decide +kernel
theorem dX1_draftRange_10 : decode cX1_draftRange 10 = .ok (.ifCond .lt 24, 3) := by decide +kernel
theorem dX1_draftRange_13 : decode cX1_draftRange 13 = .ok (.iload_n 2, 1) := by decide +kernel
theorem dX1_draftRange_14 : decode cX1_draftRange 14 = .ok (.bipush 15, 2) := by decide +kernel
theorem dX1_draftRange_16 : decode cX1_draftRange 16 = .ok (.if_icmp .gt 18, 3) := by decide +kernel
theorem dX1_draftRange_19 : decode cX1_draftRange 19 = .ok (.iload_n 3, 1) := by decide +kernel
theorem dX1_draftRange_20 : decode cX1_draftRange 20 = .ok (.ifCond .lt 14, 3) := by decide +kernel
theorem dX1_draftRange_23 : decode cX1_draftRange 23 = .ok (.iload_n 3, 1) := by decide +kernel
theorem dX1_draftRange_24 : decode cX1_draftRange 24 = .ok (.bipush 15, 2) := by decide +kernel
theorem dX1_draftRange_26 : decode cX1_draftRange 26 = .ok (.if_icmp .gt 8, 3) := by decide +kernel
theorem dX1_draftRange_29 : decode cX1_draftRange 29 = .ok (.iload_n 2, 1) := by decide +kernel
theorem dX1_draftRange_30 : decode cX1_draftRange 30 = .ok (.iload_n 3, 1) := by decide +kernel
theorem dX1_draftRange_31 : decode cX1_draftRange 31 = .ok (.if_icmp .le 5, 3) := by decide +kernel
theorem dX1_draftRange_34 : decode cX1_draftRange 34 = .ok (.iconst 0, 1) := by decide +kernel
theorem dX1_draftRange_35 : decode cX1_draftRange 35 = .ok (.ireturn, 1) := by decide +kernel
theorem dX1_draftRange_36 : decode cX1_draftRange 36 = .ok (.iload_n 1, 1) := by decide +kernel
theorem dX1_draftRange_37 : decode cX1_draftRange 37 = .ok (.ifCond .ne 22, 3) := by decide +kernel
theorem dX1_draftRange_40 : decode cX1_draftRange 40 = .ok (.aload_n 0, 1) := by decide +kernel
theorem dX1_draftRange_41 : decode cX1_draftRange 41 = .ok (.getfield 13, 3) := by decide +kernel
theorem dX1_draftRange_44 : decode cX1_draftRange 44 = .ok (.bipush 10, 2) := by decide +kernel
theorem dX1_draftRange_46 : decode cX1_draftRange 46 = .ok (.iload_n 2, 1) := by decide +kernel
theorem dX1_draftRange_47 : decode cX1_draftRange 47 = .ok (.iastore, 1) := by decide +kernel
theorem dX1_draftRange_48 : decode cX1_draftRange 48 = .ok (.aload_n 0, 1) := by decide +kernel
theorem dX1_draftRange_49 : decode cX1_draftRange 49 = .ok (.getfield 17, 3) := by decide +kernel
theorem dX1_draftRange_52 : decode cX1_draftRange 52 = .ok (.bipush 10, 2) := by decide +kernel
theorem dX1_draftRange_54 : decode cX1_draftRange 54 = .ok (.iload_n 3, 1) := by decide +kernel
theorem dX1_draftRange_55 : decode cX1_draftRange 55 = .ok (.iastore, 1) := by decide +kernel
theorem dX1_draftRange_56 : decode cX1_draftRange 56 = .ok (.goto 19, 3) := by decide +kernel
theorem dX1_draftRange_59 : decode cX1_draftRange 59 = .ok (.aload_n 0, 1) := by decide +kernel
theorem dX1_draftRange_60 : decode cX1_draftRange 60 = .ok (.getfield 20, 3) := by decide +kernel
theorem dX1_draftRange_63 : decode cX1_draftRange 63 = .ok (.bipush 10, 2) := by decide +kernel
theorem dX1_draftRange_65 : decode cX1_draftRange 65 = .ok (.iload_n 2, 1) := by decide +kernel
theorem dX1_draftRange_66 : decode cX1_draftRange 66 = .ok (.iastore, 1) := by decide +kernel
theorem dX1_draftRange_67 : decode cX1_draftRange 67 = .ok (.aload_n 0, 1) := by decide +kernel
theorem dX1_draftRange_68 : decode cX1_draftRange 68 = .ok (.getfield 23, 3) := by decide +kernel
theorem dX1_draftRange_71 : decode cX1_draftRange 71 = .ok (.bipush 10, 2) := by decide +kernel
theorem dX1_draftRange_73 : decode cX1_draftRange 73 = .ok (.iload_n 3, 1) := by decide +kernel
theorem dX1_draftRange_74 : decode cX1_draftRange 74 = .ok (.iastore, 1) := by decide +kernel
theorem dX1_draftRange_75 : decode cX1_draftRange 75 = .ok (.iconst 1, 1) := by decide +kernel
theorem dX1_draftRange_76 : decode cX1_draftRange 76 = .ok (.ireturn, 1) := by decide +kernel
abbrev cX1_draftSet : ByteArray := prog_3_method_3_code
def yX1_draftSet : MethodName := ⟨RX1, "draftSet", "(I)Z"⟩
theorem dX1_draftSet_0 : decode cX1_draftSet 0 = .ok (.iload_n 1, 1) := by decide +kernel
theorem dX1_draftSet_1 : decode cX1_draftSet 1 = .ok (.ifCond .lt 8, 3) := by decide +kernel
theorem dX1_draftSet_4 : decode cX1_draftSet 4 = .ok (.iload_n 1, 1) := by decide +kernel
theorem dX1_draftSet_5 : decode cX1_draftSet 5 = .ok (.iconst 2, 1) := by decide +kernel
theorem dX1_draftSet_6 : decode cX1_draftSet 6 = .ok (.if_icmp .le 5, 3) := by decide +kernel
theorem dX1_draftSet_9 : decode cX1_draftSet 9 = .ok (.iconst 0, 1) := by decide +kernel
theorem dX1_draftSet_10 : decode cX1_draftSet 10 = .ok (.ireturn, 1) := by decide +kernel
theorem dX1_draftSet_11 : decode cX1_draftSet 11 = .ok (.aload_n 0, 1) := by decide +kernel
theorem dX1_draftSet_12 : decode cX1_draftSet 12 = .ok (.getfield 26, 3) := by decide +kernel
theorem dX1_draftSet_15 : decode cX1_draftSet 15 = .ok (.bipush 10, 2) := by decide +kernel
theorem dX1_draftSet_17 : decode cX1_draftSet 17 = .ok (.iload_n 1, 1) := by decide +kernel
theorem dX1_draftSet_18 : decode cX1_draftSet 18 = .ok (.iastore, 1) := by decide +kernel
theorem dX1_draftSet_19 : decode cX1_draftSet 19 = .ok (.iconst 1, 1) := by decide +kernel
theorem dX1_draftSet_20 : decode cX1_draftSet 20 = .ok (.ireturn, 1) := by decide +kernel
abbrev cX1_insert : ByteArray := prog_3_method_5_code
def yX1_insert : MethodName := ⟨RX1, "insert", "(II)I"⟩
theorem dX1_insert_0 : decode cX1_insert 0 = .ok (.aload_n 0, 1) := by decide +kernel
theorem dX1_insert_1 : decode cX1_insert 1 = .ok (.getfield 7, 3) := by decide +kernel
theorem dX1_insert_4 : decode cX1_insert 4 = .ok (.bipush 10, 2) := by decide +kernel
theorem dX1_insert_6 : decode cX1_insert 6 = .ok (.if_icmp .ne 6, 3) := by decide +kernel
theorem dX1_insert_9 : decode cX1_insert 9 = .ok (.bipush (-2), 2) := by decide +kernel
theorem dX1_insert_11 : decode cX1_insert 11 = .ok (.ireturn, 1) := by decide +kernel
theorem dX1_insert_12 : decode cX1_insert 12 = .ok (.iload_n 1, 1) := by decide +kernel
theorem dX1_insert_13 : decode cX1_insert 13 = .ok (.ifCond .lt 20, 3) := by decide +kernel
theorem dX1_insert_16 : decode cX1_insert 16 = .ok (.iload_n 1, 1) := by decide +kernel
theorem dX1_insert_17 : decode cX1_insert 17 = .ok (.aload_n 0, 1) := by decide +kernel
theorem dX1_insert_18 : decode cX1_insert 18 = .ok (.getfield 7, 3) := by decide +kernel
theorem dX1_insert_21 : decode cX1_insert 21 = .ok (.if_icmp .gt 12, 3) := by decide +kernel
theorem dX1_insert_24 : decode cX1_insert 24 = .ok (.iload_n 2, 1) := by decide +kernel
theorem dX1_insert_25 : decode cX1_insert 25 = .ok (.ifCond .lt 8, 3) := by decide +kernel
theorem dX1_insert_28 : decode cX1_insert 28 = .ok (.iload_n 2, 1) := by decide +kernel
theorem dX1_insert_29 : decode cX1_insert 29 = .ok (.iconst 1, 1) := by decide +kernel
theorem dX1_insert_30 : decode cX1_insert 30 = .ok (.if_icmp .le 5, 3) := by decide +kernel
theorem dX1_insert_33 : decode cX1_insert 33 = .ok (.iconst (-1), 1) := by decide +kernel
theorem dX1_insert_34 : decode cX1_insert 34 = .ok (.ireturn, 1) := by decide +kernel
theorem dX1_insert_35 : decode cX1_insert 35 = .ok (.aload_n 0, 1) := by decide +kernel
theorem dX1_insert_36 : decode cX1_insert 36 = .ok (.getfield 7, 3) := by decide +kernel
theorem dX1_insert_39 : decode cX1_insert 39 = .ok (.istore_n 3, 1) := by decide +kernel
theorem dX1_insert_40 : decode cX1_insert 40 = .ok (.iload_n 3, 1) := by decide +kernel
theorem dX1_insert_41 : decode cX1_insert 41 = .ok (.iload_n 1, 1) := by decide +kernel
theorem dX1_insert_42 : decode cX1_insert 42 = .ok (.if_icmp .le 17, 3) := by decide +kernel
theorem dX1_insert_45 : decode cX1_insert 45 = .ok (.aload_n 0, 1) := by decide +kernel
theorem dX1_insert_46 : decode cX1_insert 46 = .ok (.iload_n 3, 1) := by decide +kernel
theorem dX1_insert_47 : decode cX1_insert 47 = .ok (.iconst 1, 1) := by decide +kernel
theorem dX1_insert_48 : decode cX1_insert 48 = .ok (.isub, 1) := by decide +kernel
theorem dX1_insert_49 : decode cX1_insert 49 = .ok (.iload_n 3, 1) := by decide +kernel
theorem dX1_insert_50 : decode cX1_insert 50 = .ok (.invokevirtual 35, 3) := by decide +kernel
theorem dX1_insert_53 : decode cX1_insert 53 = .ok (.iinc 3 (-1), 3) := by decide +kernel
theorem dX1_insert_56 : decode cX1_insert 56 = .ok (.goto (-16), 3) := by decide +kernel
theorem dX1_insert_59 : decode cX1_insert 59 = .ok (.aload_n 0, 1) := by decide +kernel
theorem dX1_insert_60 : decode cX1_insert 60 = .ok (.bipush 10, 2) := by decide +kernel
theorem dX1_insert_62 : decode cX1_insert 62 = .ok (.iload_n 1, 1) := by decide +kernel
theorem dX1_insert_63 : decode cX1_insert 63 = .ok (.invokevirtual 35, 3) := by decide +kernel
theorem dX1_insert_66 : decode cX1_insert 66 = .ok (.aload_n 0, 1) := by decide +kernel
theorem dX1_insert_67 : decode cX1_insert 67 = .ok (.getfield 29, 3) := by decide +kernel
theorem dX1_insert_70 : decode cX1_insert 70 = .ok (.iload_n 1, 1) := by decide +kernel
theorem dX1_insert_71 : decode cX1_insert 71 = .ok (.iload_n 2, 1) := by decide +kernel
theorem dX1_insert_72 : decode cX1_insert 72 = .ok (.iastore, 1) := by decide +kernel
theorem dX1_insert_73 : decode cX1_insert 73 = .ok (.aload_n 0, 1) := by decide +kernel
theorem dX1_insert_74 : decode cX1_insert 74 = .ok (.dup, 1) := by decide +kernel
theorem dX1_insert_75 : decode cX1_insert 75 = .ok (.getfield 7, 3) := by decide +kernel
theorem dX1_insert_78 : decode cX1_insert 78 = .ok (.iconst 1, 1) := by decide +kernel
theorem dX1_insert_79 : decode cX1_insert 79 = .ok (.iadd, 1) := by decide +kernel
theorem dX1_insert_80 : decode cX1_insert 80 = .ok (.putfield 7, 3) := by decide +kernel
theorem dX1_insert_83 : decode cX1_insert 83 = .ok (.aload_n 0, 1) := by decide +kernel
theorem dX1_insert_84 : decode cX1_insert 84 = .ok (.getfield 7, 3) := by decide +kernel
theorem dX1_insert_87 : decode cX1_insert 87 = .ok (.ireturn, 1) := by decide +kernel
abbrev cX1_copy : ByteArray := prog_3_method_4_code
def yX1_copy : MethodName := ⟨RX1, "copy", "(II)V"⟩
theorem dX1_copy_0 : decode cX1_copy 0 = .ok (.aload_n 0, 1) := by decide +kernel
theorem dX1_copy_1 : decode cX1_copy 1 = .ok (.getfield 13, 3) := by decide +kernel
theorem dX1_copy_4 : decode cX1_copy 4 = .ok (.iload_n 2, 1) := by decide +kernel
theorem dX1_copy_5 : decode cX1_copy 5 = .ok (.aload_n 0, 1) := by decide +kernel
theorem dX1_copy_6 : decode cX1_copy 6 = .ok (.getfield 13, 3) := by decide +kernel
theorem dX1_copy_9 : decode cX1_copy 9 = .ok (.iload_n 1, 1) := by decide +kernel
theorem dX1_copy_10 : decode cX1_copy 10 = .ok (.iaload, 1) := by decide +kernel
theorem dX1_copy_11 : decode cX1_copy 11 = .ok (.iastore, 1) := by decide +kernel
theorem dX1_copy_12 : decode cX1_copy 12 = .ok (.aload_n 0, 1) := by decide +kernel
theorem dX1_copy_13 : decode cX1_copy 13 = .ok (.getfield 17, 3) := by decide +kernel
theorem dX1_copy_16 : decode cX1_copy 16 = .ok (.iload_n 2, 1) := by decide +kernel
theorem dX1_copy_17 : decode cX1_copy 17 = .ok (.aload_n 0, 1) := by decide +kernel
theorem dX1_copy_18 : decode cX1_copy 18 = .ok (.getfield 17, 3) := by decide +kernel
theorem dX1_copy_21 : decode cX1_copy 21 = .ok (.iload_n 1, 1) := by decide +kernel
theorem dX1_copy_22 : decode cX1_copy 22 = .ok (.iaload, 1) := by decide +kernel
theorem dX1_copy_23 : decode cX1_copy 23 = .ok (.iastore, 1) := by decide +kernel
theorem dX1_copy_24 : decode cX1_copy 24 = .ok (.aload_n 0, 1) := by decide +kernel
theorem dX1_copy_25 : decode cX1_copy 25 = .ok (.getfield 20, 3) := by decide +kernel
theorem dX1_copy_28 : decode cX1_copy 28 = .ok (.iload_n 2, 1) := by decide +kernel
theorem dX1_copy_29 : decode cX1_copy 29 = .ok (.aload_n 0, 1) := by decide +kernel
theorem dX1_copy_30 : decode cX1_copy 30 = .ok (.getfield 20, 3) := by decide +kernel
theorem dX1_copy_33 : decode cX1_copy 33 = .ok (.iload_n 1, 1) := by decide +kernel
theorem dX1_copy_34 : decode cX1_copy 34 = .ok (.iaload, 1) := by decide +kernel
theorem dX1_copy_35 : decode cX1_copy 35 = .ok (.iastore, 1) := by decide +kernel
theorem dX1_copy_36 : decode cX1_copy 36 = .ok (.aload_n 0, 1) := by decide +kernel
theorem dX1_copy_37 : decode cX1_copy 37 = .ok (.getfield 23, 3) := by decide +kernel
theorem dX1_copy_40 : decode cX1_copy 40 = .ok (.iload_n 2, 1) := by decide +kernel
theorem dX1_copy_41 : decode cX1_copy 41 = .ok (.aload_n 0, 1) := by decide +kernel
theorem dX1_copy_42 : decode cX1_copy 42 = .ok (.getfield 23, 3) := by decide +kernel
theorem dX1_copy_45 : decode cX1_copy 45 = .ok (.iload_n 1, 1) := by decide +kernel
theorem dX1_copy_46 : decode cX1_copy 46 = .ok (.iaload, 1) := by decide +kernel
theorem dX1_copy_47 : decode cX1_copy 47 = .ok (.iastore, 1) := by decide +kernel
theorem dX1_copy_48 : decode cX1_copy 48 = .ok (.aload_n 0, 1) := by decide +kernel
theorem dX1_copy_49 : decode cX1_copy 49 = .ok (.getfield 26, 3) := by decide +kernel
theorem dX1_copy_52 : decode cX1_copy 52 = .ok (.iload_n 2, 1) := by decide +kernel
theorem dX1_copy_53 : decode cX1_copy 53 = .ok (.aload_n 0, 1) := by decide +kernel
theorem dX1_copy_54 : decode cX1_copy 54 = .ok (.getfield 26, 3) := by decide +kernel
theorem dX1_copy_57 : decode cX1_copy 57 = .ok (.iload_n 1, 1) := by decide +kernel
theorem dX1_copy_58 : decode cX1_copy 58 = .ok (.iaload, 1) := by decide +kernel
theorem dX1_copy_59 : decode cX1_copy 59 = .ok (.iastore, 1) := by decide +kernel
theorem dX1_copy_60 : decode cX1_copy 60 = .ok (.aload_n 0, 1) := by decide +kernel
theorem dX1_copy_61 : decode cX1_copy 61 = .ok (.getfield 29, 3) := by decide +kernel
theorem dX1_copy_64 : decode cX1_copy 64 = .ok (.iload_n 2, 1) := by decide +kernel
theorem dX1_copy_65 : decode cX1_copy 65 = .ok (.aload_n 0, 1) := by decide +kernel
theorem dX1_copy_66 : decode cX1_copy 66 = .ok (.getfield 29, 3) := by decide +kernel
theorem dX1_copy_69 : decode cX1_copy 69 = .ok (.iload_n 1, 1) := by decide +kernel
theorem dX1_copy_70 : decode cX1_copy 70 = .ok (.iaload, 1) := by decide +kernel
theorem dX1_copy_71 : decode cX1_copy 71 = .ok (.iastore, 1) := by decide +kernel
theorem dX1_copy_72 : decode cX1_copy 72 = .ok (.return_, 1) := by decide +kernel
abbrev cX1_remove : ByteArray := prog_3_method_7_code
def yX1_remove : MethodName := ⟨RX1, "remove", "(I)I"⟩
theorem dX1_remove_0 : decode cX1_remove 0 = .ok (.aload_n 0, 1) := by decide +kernel
theorem dX1_remove_1 : decode cX1_remove 1 = .ok (.iload_n 1, 1) := by decide +kernel
theorem dX1_remove_2 : decode cX1_remove 2 = .ok (.invokevirtual 39, 3) := by decide +kernel
theorem dX1_remove_5 : decode cX1_remove 5 = .ok (.ifCond .ne 5, 3) := by decide +kernel
theorem dX1_remove_8 : decode cX1_remove 8 = .ok (.iconst (-1), 1) := by decide +kernel
theorem dX1_remove_9 : decode cX1_remove 9 = .ok (.ireturn, 1) := by decide +kernel
theorem dX1_remove_10 : decode cX1_remove 10 = .ok (.iload_n 1, 1) := by decide +kernel
theorem dX1_remove_11 : decode cX1_remove 11 = .ok (.istore_n 2, 1) := by decide +kernel
theorem dX1_remove_12 : decode cX1_remove 12 = .ok (.iload_n 2, 1) := by decide +kernel
theorem dX1_remove_13 : decode cX1_remove 13 = .ok (.aload_n 0, 1) := by decide +kernel
theorem dX1_remove_14 : decode cX1_remove 14 = .ok (.getfield 7, 3) := by decide +kernel
theorem dX1_remove_17 : decode cX1_remove 17 = .ok (.iconst 1, 1) := by decide +kernel
theorem dX1_remove_18 : decode cX1_remove 18 = .ok (.isub, 1) := by decide +kernel
theorem dX1_remove_19 : decode cX1_remove 19 = .ok (.if_icmp .ge 17, 3) := by decide +kernel
theorem dX1_remove_22 : decode cX1_remove 22 = .ok (.aload_n 0, 1) := by decide +kernel
theorem dX1_remove_23 : decode cX1_remove 23 = .ok (.iload_n 2, 1) := by decide +kernel
theorem dX1_remove_24 : decode cX1_remove 24 = .ok (.iconst 1, 1) := by decide +kernel
theorem dX1_remove_25 : decode cX1_remove 25 = .ok (.iadd, 1) := by decide +kernel
theorem dX1_remove_26 : decode cX1_remove 26 = .ok (.iload_n 2, 1) := by decide +kernel
theorem dX1_remove_27 : decode cX1_remove 27 = .ok (.invokevirtual 35, 3) := by decide +kernel
theorem dX1_remove_30 : decode cX1_remove 30 = .ok (.iinc 2 1, 3) := by decide +kernel
theorem dX1_remove_33 : decode cX1_remove 33 = .ok (.goto (-21), 3) := by decide +kernel
theorem dX1_remove_36 : decode cX1_remove 36 = .ok (.aload_n 0, 1) := by decide +kernel
theorem dX1_remove_37 : decode cX1_remove 37 = .ok (.dup, 1) := by decide +kernel
theorem dX1_remove_38 : decode cX1_remove 38 = .ok (.getfield 7, 3) := by decide +kernel
theorem dX1_remove_41 : decode cX1_remove 41 = .ok (.iconst 1, 1) := by decide +kernel
theorem dX1_remove_42 : decode cX1_remove 42 = .ok (.isub, 1) := by decide +kernel
theorem dX1_remove_43 : decode cX1_remove 43 = .ok (.putfield 7, 3) := by decide +kernel
theorem dX1_remove_46 : decode cX1_remove 46 = .ok (.aload_n 0, 1) := by decide +kernel
theorem dX1_remove_47 : decode cX1_remove 47 = .ok (.getfield 7, 3) := by decide +kernel
theorem dX1_remove_50 : decode cX1_remove 50 = .ok (.ireturn, 1) := by decide +kernel
abbrev cX1_isRule : ByteArray := prog_3_method_6_code
def yX1_isRule : MethodName := ⟨RX1, "isRule", "(I)Z"⟩
theorem dX1_isRule_0 : decode cX1_isRule 0 = .ok (.iload_n 1, 1) := by decide +kernel
theorem dX1_isRule_1 : decode cX1_isRule 1 = .ok (.ifCond .lt 15, 3) := by decide +kernel
theorem dX1_isRule_4 : decode cX1_isRule 4 = .ok (.iload_n 1, 1) := by decide +kernel
theorem dX1_isRule_5 : decode cX1_isRule 5 = .ok (.aload_n 0, 1) := by decide +kernel
theorem dX1_isRule_6 : decode cX1_isRule 6 = .ok (.getfield 7, 3) := by decide +kernel
theorem dX1_isRule_9 : decode cX1_isRule 9 = .ok (.if_icmp .ge 7, 3) := by decide +kernel
theorem dX1_isRule_12 : decode cX1_isRule 12 = .ok (.iconst 1, 1) := by decide +kernel
theorem dX1_isRule_13 : decode cX1_isRule 13 = .ok (.goto 4, 3) := by decide +kernel
theorem dX1_isRule_16 : decode cX1_isRule 16 = .ok (.iconst 0, 1) := by decide +kernel
theorem dX1_isRule_17 : decode cX1_isRule 17 = .ok (.ireturn, 1) := by decide +kernel
abbrev cX1_decider : ByteArray := prog_3_method_11_code
def yX1_decider : MethodName := ⟨RX1, "decider", "(III)I"⟩
theorem dX1_decider_0 : decode cX1_decider 0 = .ok (.iload_n 1, 1) := by decide +kernel
theorem dX1_decider_1 : decode cX1_decider 1 = .ok (.ifCond .lt 28, 3) := by decide +kernel
theorem dX1_decider_4 : decode cX1_decider 4 = .ok (.iload_n 1, 1) := by decide +kernel
theorem dX1_decider_5 : decode cX1_decider 5 = .ok (.bipush 15, 2) := by decide +kernel
theorem dX1_decider_7 : decode cX1_decider 7 = .ok (.if_icmp .gt 22, 3) := by decide +kernel
theorem dX1_decider_10 : decode cX1_decider 10 = .ok (.iload_n 2, 1) := by decide +kernel
theorem dX1_decider_11 : decode cX1_decider 11 = .ok (.ifCond .lt 18, 3) := by decide +kernel
theorem dX1_decider_14 : decode cX1_decider 14 = .ok (.iload_n 2, 1) := by decide +kernel
theorem dX1_decider_15 : decode cX1_decider 15 = .ok (.bipush 15, 2) := by decide +kernel
theorem dX1_decider_17 : decode cX1_decider 17 = .ok (.if_icmp .gt 12, 3) := by decide +kernel
theorem dX1_decider_20 : decode cX1_decider 20 = .ok (.iload_n 3, 1) := by decide +kernel
theorem dX1_decider_21 : decode cX1_decider 21 = .ok (.ifCond .lt 8, 3) := by decide +kernel
theorem dX1_decider_24 : decode cX1_decider 24 = .ok (.iload_n 3, 1) := by decide +kernel
theorem dX1_decider_25 : decode cX1_decider 25 = .ok (.iconst 1, 1) := by decide +kernel
theorem dX1_decider_26 : decode cX1_decider 26 = .ok (.if_icmp .le 5, 3) := by decide +kernel
theorem dX1_decider_29 : decode cX1_decider 29 = .ok (.iconst (-1), 1) := by decide +kernel
theorem dX1_decider_30 : decode cX1_decider 30 = .ok (.ireturn, 1) := by decide +kernel
theorem dX1_decider_31 : decode cX1_decider 31 = .ok (.aload_n 0, 1) := by decide +kernel
theorem dX1_decider_32 : decode cX1_decider 32 = .ok (.bipush 32, 2) := by decide +kernel
theorem dX1_decider_34 : decode cX1_decider 34 = .ok (.iload_n 1, 1) := by decide +kernel
theorem dX1_decider_35 : decode cX1_decider 35 = .ok (.imul, 1) := by decide +kernel
theorem dX1_decider_36 : decode cX1_decider 36 = .ok (.iconst 2, 1) := by decide +kernel
theorem dX1_decider_37 : decode cX1_decider 37 = .ok (.iload_n 2, 1) := by decide +kernel
theorem dX1_decider_38 : decode cX1_decider 38 = .ok (.imul, 1) := by decide +kernel
theorem dX1_decider_39 : decode cX1_decider 39 = .ok (.iadd, 1) := by decide +kernel
theorem dX1_decider_40 : decode cX1_decider 40 = .ok (.iload_n 3, 1) := by decide +kernel
theorem dX1_decider_41 : decode cX1_decider 41 = .ok (.iadd, 1) := by decide +kernel
theorem dX1_decider_42 : decode cX1_decider 42 = .ok (.iconst (-1), 1) := by decide +kernel
theorem dX1_decider_43 : decode cX1_decider 43 = .ok (.invokevirtual 47, 3) := by decide +kernel
theorem dX1_decider_46 : decode cX1_decider 46 = .ok (.ireturn, 1) := by decide +kernel
abbrev cX1_first : ByteArray := prog_3_method_9_code
def yX1_first : MethodName := ⟨RX1, "first", "(II)I"⟩
theorem dX1_first_0 : decode cX1_first 0 = .ok (.iconst 0, 1) := by decide +kernel
theorem dX1_first_1 : decode cX1_first 1 = .ok (.istore_n 3, 1) := by decide +kernel
theorem dX1_first_2 : decode cX1_first 2 = .ok (.iload_n 3, 1) := by decide +kernel
theorem dX1_first_3 : decode cX1_first 3 = .ok (.aload_n 0, 1) := by decide +kernel
theorem dX1_first_4 : decode cX1_first 4 = .ok (.getfield 7, 3) := by decide +kernel
theorem dX1_first_7 : decode cX1_first 7 = .ok (.if_icmp .ge 25, 3) := by decide +kernel
theorem dX1_first_10 : decode cX1_first 10 = .ok (.iload_n 3, 1) := by decide +kernel
theorem dX1_first_11 : decode cX1_first 11 = .ok (.iload_n 2, 1) := by decide +kernel
theorem dX1_first_12 : decode cX1_first 12 = .ok (.if_icmp .eq 14, 3) := by decide +kernel
theorem dX1_first_15 : decode cX1_first 15 = .ok (.aload_n 0, 1) := by decide +kernel
theorem dX1_first_16 : decode cX1_first 16 = .ok (.iload_n 3, 1) := by decide +kernel
theorem dX1_first_17 : decode cX1_first 17 = .ok (.iload_n 1, 1) := by decide +kernel
theorem dX1_first_18 : decode cX1_first 18 = .ok (.invokevirtual 43, 3) := by decide +kernel
theorem dX1_first_21 : decode cX1_first 21 = .ok (.ifCond .eq 5, 3) := by decide +kernel
theorem dX1_first_24 : decode cX1_first 24 = .ok (.iload_n 3, 1) := by decide +kernel
theorem dX1_first_25 : decode cX1_first 25 = .ok (.ireturn, 1) := by decide +kernel
theorem dX1_first_26 : decode cX1_first 26 = .ok (.iinc 3 1, 3) := by decide +kernel
theorem dX1_first_29 : decode cX1_first 29 = .ok (.goto (-27), 3) := by decide +kernel
theorem dX1_first_32 : decode cX1_first 32 = .ok (.bipush (-3), 2) := by decide +kernel
theorem dX1_first_34 : decode cX1_first 34 = .ok (.ireturn, 1) := by decide +kernel
abbrev cX1_matches : ByteArray := prog_3_method_8_code
def yX1_matches : MethodName := ⟨RX1, "matches", "(II)Z"⟩
theorem dX1_matches_0 : decode cX1_matches 0 = .ok (.iload_n 2, 1) := by decide +kernel
theorem dX1_matches_1 : decode cX1_matches 1 = .ok (.iconst 5, 1) := by decide +kernel
theorem dX1_matches_2 : decode cX1_matches 2 = .ok (.ishr, 1) := by decide +kernel
theorem dX1_matches_3 : decode cX1_matches 3 = .ok (.istore_n 3, 1) := by decide +kernel
theorem dX1_matches_4 : decode cX1_matches 4 = .ok (.iload_n 2, 1) := by decide +kernel
theorem dX1_matches_5 : decode cX1_matches 5 = .ok (.iconst 1, 1) := by decide +kernel
theorem dX1_matches_6 : decode cX1_matches 6 = .ok (.ishr, 1) := by decide +kernel
theorem dX1_matches_7 : decode cX1_matches 7 = .ok (.bipush 15, 2) := by decide +kernel
theorem dX1_matches_9 : decode cX1_matches 9 = .ok (.iand, 1) := by decide +kernel
theorem dX1_matches_10 : decode cX1_matches 10 = .ok (.istore 4, 2) := by decide +kernel
theorem dX1_matches_12 : decode cX1_matches 12 = .ok (.iload_n 2, 1) := by decide +kernel
theorem dX1_matches_13 : decode cX1_matches 13 = .ok (.iconst 1, 1) := by decide +kernel
theorem dX1_matches_14 : decode cX1_matches 14 = .ok (.iand, 1) := by decide +kernel
theorem dX1_matches_15 : decode cX1_matches 15 = .ok (.istore 5, 2) := by decide +kernel
theorem dX1_matches_17 : decode cX1_matches 17 = .ok (.aload_n 0, 1) := by decide +kernel
theorem dX1_matches_18 : decode cX1_matches 18 = .ok (.getfield 13, 3) := by decide +kernel
theorem dX1_matches_21 : decode cX1_matches 21 = .ok (.iload_n 1, 1) := by decide +kernel
theorem dX1_matches_22 : decode cX1_matches 22 = .ok (.iaload, 1) := by decide +kernel
theorem dX1_matches_23 : decode cX1_matches 23 = .ok (.iload_n 3, 1) := by decide +kernel
theorem dX1_matches_24 : decode cX1_matches 24 = .ok (.if_icmp .gt 60, 3) := by decide +kernel
theorem dX1_matches_27 : decode cX1_matches 27 = .ok (.iload_n 3, 1) := by decide +kernel
theorem dX1_matches_28 : decode cX1_matches 28 = .ok (.aload_n 0, 1) := by decide +kernel
theorem dX1_matches_29 : decode cX1_matches 29 = .ok (.getfield 17, 3) := by decide +kernel
theorem dX1_matches_32 : decode cX1_matches 32 = .ok (.iload_n 1, 1) := by decide +kernel
theorem dX1_matches_33 : decode cX1_matches 33 = .ok (.iaload, 1) := by decide +kernel
theorem dX1_matches_34 : decode cX1_matches 34 = .ok (.if_icmp .gt 50, 3) := by decide +kernel
theorem dX1_matches_37 : decode cX1_matches 37 = .ok (.aload_n 0, 1) := by decide +kernel
theorem dX1_matches_38 : decode cX1_matches 38 = .ok (.getfield 20, 3) := by decide +kernel
theorem dX1_matches_41 : decode cX1_matches 41 = .ok (.iload_n 1, 1) := by decide +kernel
theorem dX1_matches_42 : decode cX1_matches 42 = .ok (.iaload, 1) := by decide +kernel
theorem dX1_matches_43 : decode cX1_matches 43 = .ok (.iload 4, 2) := by decide +kernel
theorem dX1_matches_45 : decode cX1_matches 45 = .ok (.if_icmp .gt 39, 3) := by decide +kernel
theorem dX1_matches_48 : decode cX1_matches 48 = .ok (.iload 4, 2) := by decide +kernel
theorem dX1_matches_50 : decode cX1_matches 50 = .ok (.aload_n 0, 1) := by decide +kernel
theorem dX1_matches_51 : decode cX1_matches 51 = .ok (.getfield 23, 3) := by decide +kernel
theorem dX1_matches_54 : decode cX1_matches 54 = .ok (.iload_n 1, 1) := by decide +kernel
theorem dX1_matches_55 : decode cX1_matches 55 = .ok (.iaload, 1) := by decide +kernel
theorem dX1_matches_56 : decode cX1_matches 56 = .ok (.if_icmp .gt 28, 3) := by decide +kernel
theorem dX1_matches_59 : decode cX1_matches 59 = .ok (.aload_n 0, 1) := by decide +kernel
theorem dX1_matches_60 : decode cX1_matches 60 = .ok (.getfield 26, 3) := by decide +kernel
theorem dX1_matches_63 : decode cX1_matches 63 = .ok (.iload_n 1, 1) := by decide +kernel
theorem dX1_matches_64 : decode cX1_matches 64 = .ok (.iaload, 1) := by decide +kernel
theorem dX1_matches_65 : decode cX1_matches 65 = .ok (.iconst 2, 1) := by decide +kernel
theorem dX1_matches_66 : decode cX1_matches 66 = .ok (.if_icmp .eq 14, 3) := by decide +kernel
theorem dX1_matches_69 : decode cX1_matches 69 = .ok (.aload_n 0, 1) := by decide +kernel
theorem dX1_matches_70 : decode cX1_matches 70 = .ok (.getfield 26, 3) := by decide +kernel
theorem dX1_matches_73 : decode cX1_matches 73 = .ok (.iload_n 1, 1) := by decide +kernel
theorem dX1_matches_74 : decode cX1_matches 74 = .ok (.iaload, 1) := by decide +kernel
theorem dX1_matches_75 : decode cX1_matches 75 = .ok (.iload 5, 2) := by decide +kernel
theorem dX1_matches_77 : decode cX1_matches 77 = .ok (.if_icmp .ne 7, 3) := by decide +kernel
theorem dX1_matches_80 : decode cX1_matches 80 = .ok (.iconst 1, 1) := by decide +kernel
theorem dX1_matches_81 : decode cX1_matches 81 = .ok (.goto 4, 3) := by decide +kernel
theorem dX1_matches_84 : decode cX1_matches 84 = .ok (.iconst 0, 1) := by decide +kernel
theorem dX1_matches_85 : decode cX1_matches 85 = .ok (.ireturn, 1) := by decide +kernel
abbrev cX1_owned : ByteArray := prog_3_method_12_code
def yX1_owned : MethodName := ⟨RX1, "owned", "(I)I"⟩
theorem dX1_owned_0 : decode cX1_owned 0 = .ok (.aload_n 0, 1) := by decide +kernel
theorem dX1_owned_1 : decode cX1_owned 1 = .ok (.iload_n 1, 1) := by decide +kernel
theorem dX1_owned_2 : decode cX1_owned 2 = .ok (.invokevirtual 39, 3) := by decide +kernel
theorem dX1_owned_5 : decode cX1_owned 5 = .ok (.ifCond .ne 5, 3) := by decide +kernel
theorem dX1_owned_8 : decode cX1_owned 8 = .ok (.iconst (-1), 1) := by decide +kernel
theorem dX1_owned_9 : decode cX1_owned 9 = .ok (.ireturn, 1) := by decide +kernel
theorem dX1_owned_10 : decode cX1_owned 10 = .ok (.iconst 0, 1) := by decide +kernel
theorem dX1_owned_11 : decode cX1_owned 11 = .ok (.istore_n 2, 1) := by decide +kernel
theorem dX1_owned_12 : decode cX1_owned 12 = .ok (.iconst 0, 1) := by decide +kernel
theorem dX1_owned_13 : decode cX1_owned 13 = .ok (.istore_n 3, 1) := by decide +kernel
theorem dX1_owned_14 : decode cX1_owned 14 = .ok (.iload_n 3, 1) := by decide +kernel
theorem dX1_owned_15 : decode cX1_owned 15 = .ok (.sipush 512, 3) := by decide +kernel
theorem dX1_owned_18 : decode cX1_owned 18 = .ok (.if_icmp .ge 26, 3) := by decide +kernel
theorem dX1_owned_21 : decode cX1_owned 21 = .ok (.aload_n 0, 1) := by decide +kernel
theorem dX1_owned_22 : decode cX1_owned 22 = .ok (.iload_n 3, 1) := by decide +kernel
theorem dX1_owned_23 : decode cX1_owned 23 = .ok (.iconst (-1), 1) := by decide +kernel
theorem dX1_owned_24 : decode cX1_owned 24 = .ok (.invokevirtual 47, 3) := by decide +kernel
theorem dX1_owned_27 : decode cX1_owned 27 = .ok (.istore 4, 2) := by decide +kernel
theorem dX1_owned_29 : decode cX1_owned 29 = .ok (.iload 4, 2) := by decide +kernel
theorem dX1_owned_31 : decode cX1_owned 31 = .ok (.iload_n 1, 1) := by decide +kernel
theorem dX1_owned_32 : decode cX1_owned 32 = .ok (.if_icmp .ne 6, 3) := by decide +kernel
theorem dX1_owned_35 : decode cX1_owned 35 = .ok (.iinc 2 1, 3) := by decide +kernel
theorem dX1_owned_38 : decode cX1_owned 38 = .ok (.iinc 3 1, 3) := by decide +kernel
theorem dX1_owned_41 : decode cX1_owned 41 = .ok (.goto (-27), 3) := by decide +kernel
theorem dX1_owned_44 : decode cX1_owned 44 = .ok (.iload_n 2, 1) := by decide +kernel
theorem dX1_owned_45 : decode cX1_owned 45 = .ok (.ireturn, 1) := by decide +kernel
end
section
set_option maxRecDepth 100000
abbrev cX1_firstOwned : ByteArray := prog_3_method_13_code
def yX1_firstOwned : MethodName := ⟨RX1, "firstOwned", "(I)I"⟩
theorem dX1_firstOwned_0 : decode cX1_firstOwned 0 = .ok (.aload_n 0, 1) := by decide +kernel
theorem dX1_firstOwned_1 : decode cX1_firstOwned 1 = .ok (.iload_n 1, 1) := by decide +kernel
theorem dX1_firstOwned_2 : decode cX1_firstOwned 2 = .ok (.invokevirtual 39, 3) := by decide +kernel
theorem dX1_firstOwned_5 : decode cX1_firstOwned 5 = .ok (.ifCond .ne 5, 3) := by decide +kernel
theorem dX1_firstOwned_8 : decode cX1_firstOwned 8 = .ok (.iconst (-1), 1) := by decide +kernel
theorem dX1_firstOwned_9 : decode cX1_firstOwned 9 = .ok (.ireturn, 1) := by decide +kernel
theorem dX1_firstOwned_10 : decode cX1_firstOwned 10 = .ok (.iconst 0, 1) := by decide +kernel
theorem dX1_firstOwned_11 : decode cX1_firstOwned 11 = .ok (.istore_n 2, 1) := by decide +kernel
theorem dX1_firstOwned_12 : decode cX1_firstOwned 12 = .ok (.iload_n 2, 1) := by decide +kernel
theorem dX1_firstOwned_13 : decode cX1_firstOwned 13 = .ok (.sipush 512, 3) := by decide +kernel
theorem dX1_firstOwned_16 : decode cX1_firstOwned 16 = .ok (.if_icmp .ge 23, 3) := by decide +kernel
theorem dX1_firstOwned_19 : decode cX1_firstOwned 19 = .ok (.aload_n 0, 1) := by decide +kernel
theorem dX1_firstOwned_20 : decode cX1_firstOwned 20 = .ok (.iload_n 2, 1) := by decide +kernel
theorem dX1_firstOwned_21 : decode cX1_firstOwned 21 = .ok (.iconst (-1), 1) := by decide +kernel
theorem dX1_firstOwned_22 : decode cX1_firstOwned 22 = .ok (.invokevirtual 47, 3) := by decide +kernel
theorem dX1_firstOwned_25 : decode cX1_firstOwned 25 = .ok (.istore_n 3, 1) := by decide +kernel
theorem dX1_firstOwned_26 : decode cX1_firstOwned 26 = .ok (.iload_n 3, 1) := by decide +kernel
theorem dX1_firstOwned_27 : decode cX1_firstOwned 27 = .ok (.iload_n 1, 1) := by decide +kernel
theorem dX1_firstOwned_28 : decode cX1_firstOwned 28 = .ok (.if_icmp .ne 5, 3) := by decide +kernel
theorem dX1_firstOwned_31 : decode cX1_firstOwned 31 = .ok (.iload_n 2, 1) := by decide +kernel
theorem dX1_firstOwned_32 : decode cX1_firstOwned 32 = .ok (.ireturn, 1) := by decide +kernel
theorem dX1_firstOwned_33 : decode cX1_firstOwned 33 = .ok (.iinc 2 1, 3) := by decide +kernel
theorem dX1_firstOwned_36 : decode cX1_firstOwned 36 = .ok (.goto (-24), 3) := by decide +kernel
theorem dX1_firstOwned_39 : decode cX1_firstOwned 39 = .ok (.bipush (-3), 2) := by decide +kernel
theorem dX1_firstOwned_41 : decode cX1_firstOwned 41 = .ok (.ireturn, 1) := by decide +kernel
abbrev cX1_fault : ByteArray := prog_3_method_19_code
def yX1_fault : MethodName := ⟨RX1, "fault", "(I)I"⟩
theorem dX1_fault_0 : decode cX1_fault 0 = .ok (.aload_n 0, 1) := by decide +kernel
theorem dX1_fault_1 : decode cX1_fault 1 = .ok (.iload_n 1, 1) := by decide +kernel
theorem dX1_fault_2 : decode cX1_fault 2 = .ok (.invokevirtual 39, 3) := by decide +kernel
theorem dX1_fault_5 : decode cX1_fault 5 = .ok (.ifCond .ne 5, 3) := by decide +kernel
theorem dX1_fault_8 : decode cX1_fault 8 = .ok (.iconst (-1), 1) := by decide +kernel
theorem dX1_fault_9 : decode cX1_fault 9 = .ok (.ireturn, 1) := by decide +kernel
theorem dX1_fault_10 : decode cX1_fault 10 = .ok (.aload_n 0, 1) := by decide +kernel
theorem dX1_fault_11 : decode cX1_fault 11 = .ok (.iload_n 1, 1) := by decide +kernel
theorem dX1_fault_12 : decode cX1_fault 12 = .ok (.invokevirtual 58, 3) := by decide +kernel
theorem dX1_fault_15 : decode cX1_fault 15 = .ok (.istore_n 2, 1) := by decide +kernel
theorem dX1_fault_16 : decode cX1_fault 16 = .ok (.iload_n 2, 1) := by decide +kernel
theorem dX1_fault_17 : decode cX1_fault 17 = .ok (.ifCond .ne 17, 3) := by decide +kernel
theorem dX1_fault_20 : decode cX1_fault 20 = .ok (.aload_n 0, 1) := by decide +kernel
theorem dX1_fault_21 : decode cX1_fault 21 = .ok (.iload_n 1, 1) := by decide +kernel
theorem dX1_fault_22 : decode cX1_fault 22 = .ok (.invokevirtual 62, 3) := by decide +kernel
theorem dX1_fault_25 : decode cX1_fault 25 = .ok (.ifCond .eq 7, 3) := by decide +kernel
theorem dX1_fault_28 : decode cX1_fault 28 = .ok (.iconst 1, 1) := by decide +kernel
theorem dX1_fault_29 : decode cX1_fault 29 = .ok (.goto 4, 3) := by decide +kernel
theorem dX1_fault_32 : decode cX1_fault 32 = .ok (.iconst 2, 1) := by decide +kernel
theorem dX1_fault_33 : decode cX1_fault 33 = .ok (.ireturn, 1) := by decide +kernel
theorem dX1_fault_34 : decode cX1_fault 34 = .ok (.aload_n 0, 1) := by decide +kernel
theorem dX1_fault_35 : decode cX1_fault 35 = .ok (.iload_n 1, 1) := by decide +kernel
theorem dX1_fault_36 : decode cX1_fault 36 = .ok (.invokevirtual 65, 3) := by decide +kernel
theorem dX1_fault_39 : decode cX1_fault 39 = .ok (.ifCond .ne 5, 3) := by decide +kernel
theorem dX1_fault_42 : decode cX1_fault 42 = .ok (.iconst 3, 1) := by decide +kernel
theorem dX1_fault_43 : decode cX1_fault 43 = .ok (.ireturn, 1) := by decide +kernel
theorem dX1_fault_44 : decode cX1_fault 44 = .ok (.aload_n 0, 1) := by decide +kernel
theorem dX1_fault_45 : decode cX1_fault 45 = .ok (.iload_n 1, 1) := by decide +kernel
theorem dX1_fault_46 : decode cX1_fault 46 = .ok (.invokevirtual 68, 3) := by decide +kernel
theorem dX1_fault_49 : decode cX1_fault 49 = .ok (.ifCond .eq 5, 3) := by decide +kernel
theorem dX1_fault_52 : decode cX1_fault 52 = .ok (.iconst 4, 1) := by decide +kernel
theorem dX1_fault_53 : decode cX1_fault 53 = .ok (.ireturn, 1) := by decide +kernel
theorem dX1_fault_54 : decode cX1_fault 54 = .ok (.aload_n 0, 1) := by decide +kernel
theorem dX1_fault_55 : decode cX1_fault 55 = .ok (.iload_n 1, 1) := by decide +kernel
theorem dX1_fault_56 : decode cX1_fault 56 = .ok (.invokevirtual 71, 3) := by decide +kernel
theorem dX1_fault_59 : decode cX1_fault 59 = .ok (.ifCond .eq 7, 3) := by decide +kernel
theorem dX1_fault_62 : decode cX1_fault 62 = .ok (.iconst 5, 1) := by decide +kernel
theorem dX1_fault_63 : decode cX1_fault 63 = .ok (.goto 4, 3) := by decide +kernel
theorem dX1_fault_66 : decode cX1_fault 66 = .ok (.iconst 0, 1) := by decide +kernel
theorem dX1_fault_67 : decode cX1_fault 67 = .ok (.ireturn, 1) := by decide +kernel
abbrev cX1_contradicted : ByteArray := prog_3_method_14_code
def yX1_contradicted : MethodName := ⟨RX1, "contradicted", "(I)Z"⟩
theorem dX1_contradicted_0 : decode cX1_contradicted 0 = .ok (.iconst 0, 1) := by decide +kernel
theorem dX1_contradicted_1 : decode cX1_contradicted 1 = .ok (.istore_n 2, 1) := by decide +kernel
theorem dX1_contradicted_2 : decode cX1_contradicted 2 = .ok (.iload_n 2, 1) := by decide +kernel
theorem dX1_contradicted_3 : decode cX1_contradicted 3 = .ok (.sipush 512, 3) := by decide +kernel
theorem dX1_contradicted_6 : decode cX1_contradicted 6 = .ok (.if_icmp .ge 35, 3) := by decide +kernel
theorem dX1_contradicted_9 : decode cX1_contradicted 9 = .ok (.aload_n 0, 1) := by decide +kernel
theorem dX1_contradicted_10 : decode cX1_contradicted 10 = .ok (.iload_n 1, 1) := by decide +kernel
theorem dX1_contradicted_11 : decode cX1_contradicted 11 = .ok (.iload_n 2, 1) := by decide +kernel
theorem dX1_contradicted_12 : decode cX1_contradicted 12 = .ok (.invokevirtual 43, 3) := by decide +kernel
theorem dX1_contradicted_15 : decode cX1_contradicted 15 = .ok (.ifCond .eq 20, 3) := by decide +kernel
theorem dX1_contradicted_18 : decode cX1_contradicted 18 = .ok (.aload_n 0, 1) := by decide +kernel
theorem dX1_contradicted_19 : decode cX1_contradicted 19 = .ok (.iload_n 2, 1) := by decide +kernel
theorem dX1_contradicted_20 : decode cX1_contradicted 20 = .ok (.iconst (-1), 1) := by decide +kernel
theorem dX1_contradicted_21 : decode cX1_contradicted 21 = .ok (.invokevirtual 51, 3) := by decide +kernel
theorem dX1_contradicted_24 : decode cX1_contradicted 24 = .ok (.aload_n 0, 1) := by decide +kernel
theorem dX1_contradicted_25 : decode cX1_contradicted 25 = .ok (.getfield 29, 3) := by decide +kernel
theorem dX1_contradicted_28 : decode cX1_contradicted 28 = .ok (.iload_n 1, 1) := by decide +kernel
theorem dX1_contradicted_29 : decode cX1_contradicted 29 = .ok (.iaload, 1) := by decide +kernel
theorem dX1_contradicted_30 : decode cX1_contradicted 30 = .ok (.if_icmp .eq 5, 3) := by decide +kernel
theorem dX1_contradicted_33 : decode cX1_contradicted 33 = .ok (.iconst 1, 1) := by decide +kernel
theorem dX1_contradicted_34 : decode cX1_contradicted 34 = .ok (.ireturn, 1) := by decide +kernel
theorem dX1_contradicted_35 : decode cX1_contradicted 35 = .ok (.iinc 2 1, 3) := by decide +kernel
theorem dX1_contradicted_38 : decode cX1_contradicted 38 = .ok (.goto (-36), 3) := by decide +kernel
theorem dX1_contradicted_41 : decode cX1_contradicted 41 = .ok (.iconst 0, 1) := by decide +kernel
theorem dX1_contradicted_42 : decode cX1_contradicted 42 = .ok (.ireturn, 1) := by decide +kernel
abbrev cX1_decision : ByteArray := prog_3_method_10_code
def yX1_decision : MethodName := ⟨RX1, "decision", "(II)I"⟩
theorem dX1_decision_0 : decode cX1_decision 0 = .ok (.aload_n 0, 1) := by decide +kernel
theorem dX1_decision_1 : decode cX1_decision 1 = .ok (.iload_n 1, 1) := by decide +kernel
theorem dX1_decision_2 : decode cX1_decision 2 = .ok (.iload_n 2, 1) := by decide +kernel
theorem dX1_decision_3 : decode cX1_decision 3 = .ok (.invokevirtual 47, 3) := by decide +kernel
theorem dX1_decision_6 : decode cX1_decision 6 = .ok (.istore_n 3, 1) := by decide +kernel
theorem dX1_decision_7 : decode cX1_decision 7 = .ok (.iload_n 3, 1) := by decide +kernel
theorem dX1_decision_8 : decode cX1_decision 8 = .ok (.bipush (-3), 2) := by decide +kernel
theorem dX1_decision_10 : decode cX1_decision 10 = .ok (.if_icmp .ne 7, 3) := by decide +kernel
theorem dX1_decision_13 : decode cX1_decision 13 = .ok (.iconst 0, 1) := by decide +kernel
theorem dX1_decision_14 : decode cX1_decision 14 = .ok (.goto 9, 3) := by decide +kernel
theorem dX1_decision_17 : decode cX1_decision 17 = .ok (.aload_n 0, 1) := by decide +kernel
theorem dX1_decision_18 : decode cX1_decision 18 = .ok (.getfield 29, 3) := by decide +kernel
theorem dX1_decision_21 : decode cX1_decision 21 = .ok (.iload_n 3, 1) := by decide +kernel
theorem dX1_decision_22 : decode cX1_decision 22 = .ok (.iaload, 1) := by decide +kernel
theorem dX1_decision_23 : decode cX1_decision 23 = .ok (.ireturn, 1) := by decide +kernel
abbrev cX1_missed : ByteArray := prog_3_method_15_code
def yX1_missed : MethodName := ⟨RX1, "missed", "(I)Z"⟩
theorem dX1_missed_0 : decode cX1_missed 0 = .ok (.iconst 0, 1) := by decide +kernel
theorem dX1_missed_1 : decode cX1_missed 1 = .ok (.istore_n 2, 1) := by decide +kernel
theorem dX1_missed_2 : decode cX1_missed 2 = .ok (.iload_n 2, 1) := by decide +kernel
theorem dX1_missed_3 : decode cX1_missed 3 = .ok (.sipush 512, 3) := by decide +kernel
theorem dX1_missed_6 : decode cX1_missed 6 = .ok (.if_icmp .ge 26, 3) := by decide +kernel
theorem dX1_missed_9 : decode cX1_missed 9 = .ok (.aload_n 0, 1) := by decide +kernel
theorem dX1_missed_10 : decode cX1_missed 10 = .ok (.iload_n 2, 1) := by decide +kernel
theorem dX1_missed_11 : decode cX1_missed 11 = .ok (.iconst (-1), 1) := by decide +kernel
theorem dX1_missed_12 : decode cX1_missed 12 = .ok (.invokevirtual 51, 3) := by decide +kernel
theorem dX1_missed_15 : decode cX1_missed 15 = .ok (.aload_n 0, 1) := by decide +kernel
theorem dX1_missed_16 : decode cX1_missed 16 = .ok (.iload_n 2, 1) := by decide +kernel
theorem dX1_missed_17 : decode cX1_missed 17 = .ok (.iload_n 1, 1) := by decide +kernel
theorem dX1_missed_18 : decode cX1_missed 18 = .ok (.invokevirtual 51, 3) := by decide +kernel
theorem dX1_missed_21 : decode cX1_missed 21 = .ok (.if_icmp .eq 5, 3) := by decide +kernel
theorem dX1_missed_24 : decode cX1_missed 24 = .ok (.iconst 1, 1) := by decide +kernel
theorem dX1_missed_25 : decode cX1_missed 25 = .ok (.ireturn, 1) := by decide +kernel
theorem dX1_missed_26 : decode cX1_missed 26 = .ok (.iinc 2 1, 3) := by decide +kernel
theorem dX1_missed_29 : decode cX1_missed 29 = .ok (.goto (-27), 3) := by decide +kernel
theorem dX1_missed_32 : decode cX1_missed 32 = .ok (.iconst 0, 1) := by decide +kernel
theorem dX1_missed_33 : decode cX1_missed 33 = .ok (.ireturn, 1) := by decide +kernel
abbrev cX1_correlated : ByteArray := prog_3_method_17_code
def yX1_correlated : MethodName := ⟨RX1, "correlated", "(I)Z"⟩
theorem dX1_correlated_0 : decode cX1_correlated 0 = .ok (.iconst 0, 1) := by decide +kernel
theorem dX1_correlated_1 : decode cX1_correlated 1 = .ok (.istore_n 2, 1) := by decide +kernel
theorem dX1_correlated_2 : decode cX1_correlated 2 = .ok (.iload_n 2, 1) := by decide +kernel
theorem dX1_correlated_3 : decode cX1_correlated 3 = .ok (.iload_n 1, 1) := by decide +kernel
theorem dX1_correlated_4 : decode cX1_correlated 4 = .ok (.if_icmp .ge 59, 3) := by decide +kernel
theorem dX1_correlated_7 : decode cX1_correlated 7 = .ok (.aload_n 0, 1) := by decide +kernel
theorem dX1_correlated_8 : decode cX1_correlated 8 = .ok (.getfield 29, 3) := by decide +kernel
theorem dX1_correlated_11 : decode cX1_correlated 11 = .ok (.iload_n 2, 1) := by decide +kernel
theorem dX1_correlated_12 : decode cX1_correlated 12 = .ok (.iaload, 1) := by decide +kernel
theorem dX1_correlated_13 : decode cX1_correlated 13 = .ok (.aload_n 0, 1) := by decide +kernel
theorem dX1_correlated_14 : decode cX1_correlated 14 = .ok (.getfield 29, 3) := by decide +kernel
theorem dX1_correlated_17 : decode cX1_correlated 17 = .ok (.iload_n 1, 1) := by decide +kernel
theorem dX1_correlated_18 : decode cX1_correlated 18 = .ok (.iaload, 1) := by decide +kernel
theorem dX1_correlated_19 : decode cX1_correlated 19 = .ok (.if_icmp .eq 38, 3) := by decide +kernel
theorem dX1_correlated_22 : decode cX1_correlated 22 = .ok (.aload_n 0, 1) := by decide +kernel
theorem dX1_correlated_23 : decode cX1_correlated 23 = .ok (.iload_n 1, 1) := by decide +kernel
theorem dX1_correlated_24 : decode cX1_correlated 24 = .ok (.iconst 1, 1) := by decide +kernel
theorem dX1_correlated_25 : decode cX1_correlated 25 = .ok (.iload_n 2, 1) := by decide +kernel
theorem dX1_correlated_26 : decode cX1_correlated 26 = .ok (.iconst 1, 1) := by decide +kernel
theorem dX1_correlated_27 : decode cX1_correlated 27 = .ok (.invokevirtual 54, 3) := by decide +kernel
theorem dX1_correlated_30 : decode cX1_correlated 30 = .ok (.ifCond .eq 27, 3) := by decide +kernel
theorem dX1_correlated_33 : decode cX1_correlated 33 = .ok (.aload_n 0, 1) := by decide +kernel
theorem dX1_correlated_34 : decode cX1_correlated 34 = .ok (.iload_n 1, 1) := by decide +kernel
theorem dX1_correlated_35 : decode cX1_correlated 35 = .ok (.iconst 1, 1) := by decide +kernel
theorem dX1_correlated_36 : decode cX1_correlated 36 = .ok (.iload_n 2, 1) := by decide +kernel
theorem dX1_correlated_37 : decode cX1_correlated 37 = .ok (.iconst 0, 1) := by decide +kernel
theorem dX1_correlated_38 : decode cX1_correlated 38 = .ok (.invokevirtual 54, 3) := by decide +kernel
theorem dX1_correlated_41 : decode cX1_correlated 41 = .ok (.ifCond .eq 16, 3) := by decide +kernel
theorem dX1_correlated_44 : decode cX1_correlated 44 = .ok (.aload_n 0, 1) := by decide +kernel
theorem dX1_correlated_45 : decode cX1_correlated 45 = .ok (.iload_n 1, 1) := by decide +kernel
theorem dX1_correlated_46 : decode cX1_correlated 46 = .ok (.iconst 0, 1) := by decide +kernel
theorem dX1_correlated_47 : decode cX1_correlated 47 = .ok (.iload_n 2, 1) := by decide +kernel
theorem dX1_correlated_48 : decode cX1_correlated 48 = .ok (.iconst 1, 1) := by decide +kernel
theorem dX1_correlated_49 : decode cX1_correlated 49 = .ok (.invokevirtual 54, 3) := by decide +kernel
theorem dX1_correlated_52 : decode cX1_correlated 52 = .ok (.ifCond .eq 5, 3) := by decide +kernel
theorem dX1_correlated_55 : decode cX1_correlated 55 = .ok (.iconst 1, 1) := by decide +kernel
theorem dX1_correlated_56 : decode cX1_correlated 56 = .ok (.ireturn, 1) := by decide +kernel
theorem dX1_correlated_57 : decode cX1_correlated 57 = .ok (.iinc 2 1, 3) := by decide +kernel
theorem dX1_correlated_60 : decode cX1_correlated 60 = .ok (.goto (-58), 3) := by decide +kernel
theorem dX1_correlated_63 : decode cX1_correlated 63 = .ok (.iconst 0, 1) := by decide +kernel
theorem dX1_correlated_64 : decode cX1_correlated 64 = .ok (.ireturn, 1) := by decide +kernel
abbrev cX1_some : ByteArray := prog_3_method_16_code
def yX1_some : MethodName := ⟨RX1, "some", "(IZIZ)Z"⟩
theorem dX1_some_0 : decode cX1_some 0 = .ok (.iconst 0, 1) := by decide +kernel
theorem dX1_some_1 : decode cX1_some 1 = .ok (.istore 5, 2) := by decide +kernel
theorem dX1_some_3 : decode cX1_some 3 = .ok (.iload 5, 2) := by decide +kernel
theorem dX1_some_5 : decode cX1_some 5 = .ok (.sipush 512, 3) := by decide +kernel
theorem dX1_some_8 : decode cX1_some 8 = .ok (.if_icmp .ge 34, 3) := by decide +kernel
theorem dX1_some_11 : decode cX1_some 11 = .ok (.aload_n 0, 1) := by decide +kernel
theorem dX1_some_12 : decode cX1_some 12 = .ok (.iload_n 1, 1) := by decide +kernel
theorem dX1_some_13 : decode cX1_some 13 = .ok (.iload 5, 2) := by decide +kernel
theorem dX1_some_15 : decode cX1_some 15 = .ok (.invokevirtual 43, 3) := by decide +kernel
theorem dX1_some_18 : decode cX1_some 18 = .ok (.iload_n 2, 1) := by decide +kernel
theorem dX1_some_19 : decode cX1_some 19 = .ok (.if_icmp .ne 17, 3) := by decide +kernel
theorem dX1_some_22 : decode cX1_some 22 = .ok (.aload_n 0, 1) := by decide +kernel
theorem dX1_some_23 : decode cX1_some 23 = .ok (.iload_n 3, 1) := by decide +kernel
theorem dX1_some_24 : decode cX1_some 24 = .ok (.iload 5, 2) := by decide +kernel
theorem dX1_some_26 : decode cX1_some 26 = .ok (.invokevirtual 43, 3) := by decide +kernel
theorem dX1_some_29 : decode cX1_some 29 = .ok (.iload 4, 2) := by decide +kernel
theorem dX1_some_31 : decode cX1_some 31 = .ok (.if_icmp .ne 5, 3) := by decide +kernel
theorem dX1_some_34 : decode cX1_some 34 = .ok (.iconst 1, 1) := by decide +kernel
theorem dX1_some_35 : decode cX1_some 35 = .ok (.ireturn, 1) := by decide +kernel
theorem dX1_some_36 : decode cX1_some 36 = .ok (.iinc 5 1, 3) := by decide +kernel
theorem dX1_some_39 : decode cX1_some 39 = .ok (.goto (-36), 3) := by decide +kernel
theorem dX1_some_42 : decode cX1_some 42 = .ok (.iconst 0, 1) := by decide +kernel
theorem dX1_some_43 : decode cX1_some 43 = .ok (.ireturn, 1) := by decide +kernel
abbrev cX1_general : ByteArray := prog_3_method_18_code
def yX1_general : MethodName := ⟨RX1, "general", "(I)Z"⟩
theorem dX1_general_0 : decode cX1_general 0 = .ok (.iconst 0, 1) := by decide +kernel
theorem dX1_general_1 : decode cX1_general 1 = .ok (.istore_n 2, 1) := by decide +kernel
theorem dX1_general_2 : decode cX1_general 2 = .ok (.iload_n 2, 1) := by decide +kernel
theorem dX1_general_3 : decode cX1_general 3 = .ok (.iload_n 1, 1) := by decide +kernel
theorem dX1_general_4 : decode cX1_general 4 = .ok (.if_icmp .ge 37, 3) := by decide +kernel
theorem dX1_general_7 : decode cX1_general 7 = .ok (.aload_n 0, 1) := by decide +kernel
theorem dX1_general_8 : decode cX1_general 8 = .ok (.getfield 29, 3) := by decide +kernel
theorem dX1_general_11 : decode cX1_general 11 = .ok (.iload_n 2, 1) := by decide +kernel
theorem dX1_general_12 : decode cX1_general 12 = .ok (.iaload, 1) := by decide +kernel
theorem dX1_general_13 : decode cX1_general 13 = .ok (.aload_n 0, 1) := by decide +kernel
theorem dX1_general_14 : decode cX1_general 14 = .ok (.getfield 29, 3) := by decide +kernel
theorem dX1_general_17 : decode cX1_general 17 = .ok (.iload_n 1, 1) := by decide +kernel
theorem dX1_general_18 : decode cX1_general 18 = .ok (.iaload, 1) := by decide +kernel
theorem dX1_general_19 : decode cX1_general 19 = .ok (.if_icmp .eq 16, 3) := by decide +kernel
theorem dX1_general_22 : decode cX1_general 22 = .ok (.aload_n 0, 1) := by decide +kernel
theorem dX1_general_23 : decode cX1_general 23 = .ok (.iload_n 1, 1) := by decide +kernel
theorem dX1_general_24 : decode cX1_general 24 = .ok (.iconst 0, 1) := by decide +kernel
theorem dX1_general_25 : decode cX1_general 25 = .ok (.iload_n 2, 1) := by decide +kernel
theorem dX1_general_26 : decode cX1_general 26 = .ok (.iconst 1, 1) := by decide +kernel
theorem dX1_general_27 : decode cX1_general 27 = .ok (.invokevirtual 54, 3) := by decide +kernel
theorem dX1_general_30 : decode cX1_general 30 = .ok (.ifCond .ne 5, 3) := by decide +kernel
theorem dX1_general_33 : decode cX1_general 33 = .ok (.iconst 1, 1) := by decide +kernel
theorem dX1_general_34 : decode cX1_general 34 = .ok (.ireturn, 1) := by decide +kernel
theorem dX1_general_35 : decode cX1_general 35 = .ok (.iinc 2 1, 3) := by decide +kernel
theorem dX1_general_38 : decode cX1_general 38 = .ok (.goto (-36), 3) := by decide +kernel
theorem dX1_general_41 : decode cX1_general 41 = .ok (.iconst 0, 1) := by decide +kernel
theorem dX1_general_42 : decode cX1_general 42 = .ok (.ireturn, 1) := by decide +kernel
abbrev cX1_save : ByteArray := prog_3_method_20_code
def yX1_save : MethodName := ⟨RX1, "save", "()I"⟩
theorem dX1_save_0 : decode cX1_save 0 = .ok (.iconst 0, 1) := by decide +kernel
theorem dX1_save_1 : decode cX1_save 1 = .ok (.istore_n 1, 1) := by decide +kernel
theorem dX1_save_2 : decode cX1_save 2 = .ok (.iconst 0, 1) := by decide +kernel
theorem dX1_save_3 : decode cX1_save 3 = .ok (.istore_n 2, 1) := by decide +kernel
theorem dX1_save_4 : decode cX1_save 4 = .ok (.iload_n 2, 1) := by decide +kernel
theorem dX1_save_5 : decode cX1_save 5 = .ok (.sipush 512, 3) := by decide +kernel
theorem dX1_save_8 : decode cX1_save 8 = .ok (.if_icmp .ge 30, 3) := by decide +kernel
theorem dX1_save_11 : decode cX1_save 11 = .ok (.aload_n 0, 1) := by decide +kernel
theorem dX1_save_12 : decode cX1_save 12 = .ok (.getfield 32, 3) := by decide +kernel
theorem dX1_save_15 : decode cX1_save 15 = .ok (.iload_n 2, 1) := by decide +kernel
theorem dX1_save_16 : decode cX1_save 16 = .ok (.aload_n 0, 1) := by decide +kernel
theorem dX1_save_17 : decode cX1_save 17 = .ok (.iload_n 2, 1) := by decide +kernel
theorem dX1_save_18 : decode cX1_save 18 = .ok (.iconst (-1), 1) := by decide +kernel
theorem dX1_save_19 : decode cX1_save 19 = .ok (.invokevirtual 51, 3) := by decide +kernel
theorem dX1_save_22 : decode cX1_save 22 = .ok (.iastore, 1) := by decide +kernel
theorem dX1_save_23 : decode cX1_save 23 = .ok (.iload_n 1, 1) := by decide +kernel
theorem dX1_save_24 : decode cX1_save 24 = .ok (.aload_n 0, 1) := by decide +kernel
theorem dX1_save_25 : decode cX1_save 25 = .ok (.getfield 32, 3) := by decide +kernel
theorem dX1_save_28 : decode cX1_save 28 = .ok (.iload_n 2, 1) := by decide +kernel
theorem dX1_save_29 : decode cX1_save 29 = .ok (.iaload, 1) := by decide +kernel
theorem dX1_save_30 : decode cX1_save 30 = .ok (.iadd, 1) := by decide +kernel
theorem dX1_save_31 : decode cX1_save 31 = .ok (.istore_n 1, 1) := by decide +kernel
theorem dX1_save_32 : decode cX1_save 32 = .ok (.iinc 2 1, 3) := by decide +kernel
theorem dX1_save_35 : decode cX1_save 35 = .ok (.goto (-31), 3) := by decide +kernel
theorem dX1_save_38 : decode cX1_save 38 = .ok (.iload_n 1, 1) := by decide +kernel
theorem dX1_save_39 : decode cX1_save 39 = .ok (.ireturn, 1) := by decide +kernel
abbrev cX1_changed : ByteArray := prog_3_method_21_code
def yX1_changed : MethodName := ⟨RX1, "changed", "()I"⟩
theorem dX1_changed_0 : decode cX1_changed 0 = .ok (.iconst 0, 1) := by decide +kernel
theorem dX1_changed_1 : decode cX1_changed 1 = .ok (.istore_n 1, 1) := by decide +kernel
theorem dX1_changed_2 : decode cX1_changed 2 = .ok (.iconst 0, 1) := by decide +kernel
theorem dX1_changed_3 : decode cX1_changed 3 = .ok (.istore_n 2, 1) := by decide +kernel
theorem dX1_changed_4 : decode cX1_changed 4 = .ok (.iload_n 2, 1) := by decide +kernel
theorem dX1_changed_5 : decode cX1_changed 5 = .ok (.sipush 512, 3) := by decide +kernel
theorem dX1_changed_8 : decode cX1_changed 8 = .ok (.if_icmp .ge 29, 3) := by decide +kernel
theorem dX1_changed_11 : decode cX1_changed 11 = .ok (.aload_n 0, 1) := by decide +kernel
theorem dX1_changed_12 : decode cX1_changed 12 = .ok (.iload_n 2, 1) := by decide +kernel
theorem dX1_changed_13 : decode cX1_changed 13 = .ok (.iconst (-1), 1) := by decide +kernel
theorem dX1_changed_14 : decode cX1_changed 14 = .ok (.invokevirtual 51, 3) := by decide +kernel
theorem dX1_changed_17 : decode cX1_changed 17 = .ok (.istore_n 3, 1) := by decide +kernel
theorem dX1_changed_18 : decode cX1_changed 18 = .ok (.iload_n 3, 1) := by decide +kernel
theorem dX1_changed_19 : decode cX1_changed 19 = .ok (.aload_n 0, 1) := by decide +kernel
theorem dX1_changed_20 : decode cX1_changed 20 = .ok (.getfield 32, 3) := by decide +kernel
theorem dX1_changed_23 : decode cX1_changed 23 = .ok (.iload_n 2, 1) := by decide +kernel
theorem dX1_changed_24 : decode cX1_changed 24 = .ok (.iaload, 1) := by decide +kernel
theorem dX1_changed_25 : decode cX1_changed 25 = .ok (.if_icmp .eq 6, 3) := by decide +kernel
theorem dX1_changed_28 : decode cX1_changed 28 = .ok (.iinc 1 1, 3) := by decide +kernel
theorem dX1_changed_31 : decode cX1_changed 31 = .ok (.iinc 2 1, 3) := by decide +kernel
theorem dX1_changed_34 : decode cX1_changed 34 = .ok (.goto (-30), 3) := by decide +kernel
theorem dX1_changed_37 : decode cX1_changed 37 = .ok (.iload_n 1, 1) := by decide +kernel
theorem dX1_changed_38 : decode cX1_changed 38 = .ok (.ireturn, 1) := by decide +kernel
abbrev cX1_firstChanged : ByteArray := prog_3_method_22_code
def yX1_firstChanged : MethodName := ⟨RX1, "firstChanged", "()I"⟩
theorem dX1_firstChanged_0 : decode cX1_firstChanged 0 = .ok (.iconst 0, 1) := by decide +kernel
theorem dX1_firstChanged_1 : decode cX1_firstChanged 1 = .ok (.istore_n 1, 1) := by decide +kernel
theorem dX1_firstChanged_2 : decode cX1_firstChanged 2 = .ok (.iload_n 1, 1) := by decide +kernel
theorem dX1_firstChanged_3 : decode cX1_firstChanged 3 = .ok (.sipush 512, 3) := by decide +kernel
theorem dX1_firstChanged_6 : decode cX1_firstChanged 6 = .ok (.if_icmp .ge 28, 3) := by decide +kernel
theorem dX1_firstChanged_9 : decode cX1_firstChanged 9 = .ok (.aload_n 0, 1) := by decide +kernel
theorem dX1_firstChanged_10 : decode cX1_firstChanged 10 = .ok (.iload_n 1, 1) := by decide +kernel
theorem dX1_firstChanged_11 : decode cX1_firstChanged 11 = .ok (.iconst (-1), 1) := by decide +kernel
theorem dX1_firstChanged_12 : decode cX1_firstChanged 12 = .ok (.invokevirtual 51, 3) := by decide +kernel
theorem dX1_firstChanged_15 : decode cX1_firstChanged 15 = .ok (.istore_n 2, 1) := by decide +kernel
theorem dX1_firstChanged_16 : decode cX1_firstChanged 16 = .ok (.iload_n 2, 1) := by decide +kernel
theorem dX1_firstChanged_17 : decode cX1_firstChanged 17 = .ok (.aload_n 0, 1) := by decide +kernel
theorem dX1_firstChanged_18 : decode cX1_firstChanged 18 = .ok (.getfield 32, 3) := by decide +kernel
theorem dX1_firstChanged_21 : decode cX1_firstChanged 21 = .ok (.iload_n 1, 1) := by decide +kernel
theorem dX1_firstChanged_22 : decode cX1_firstChanged 22 = .ok (.iaload, 1) := by decide +kernel
theorem dX1_firstChanged_23 : decode cX1_firstChanged 23 = .ok (.if_icmp .eq 5, 3) := by decide +kernel
theorem dX1_firstChanged_26 : decode cX1_firstChanged 26 = .ok (.iload_n 1, 1) := by decide +kernel
theorem dX1_firstChanged_27 : decode cX1_firstChanged 27 = .ok (.ireturn, 1) := by decide +kernel
theorem dX1_firstChanged_28 : decode cX1_firstChanged 28 = .ok (.iinc 1 1, 3) := by decide +kernel
theorem dX1_firstChanged_31 : decode cX1_firstChanged 31 = .ok (.goto (-29), 3) := by decide +kernel
theorem dX1_firstChanged_34 : decode cX1_firstChanged 34 = .ok (.bipush (-3), 2) := by decide +kernel
theorem dX1_firstChanged_36 : decode cX1_firstChanged 36 = .ok (.ireturn, 1) := by decide +kernel
theorem q38 : (Jvm.Cond.initialized "RuleAnomalyModel") ∈ lw_all := lw_g (lw_at lw_m1 2 rfl) rfl
theorem q235 : (Jvm.Cond.instantiable "RuleAnomalyModel" (8 : Nat)) ∈ lw_all := lw_g (lw_at lw_m1 199 rfl) rfl
theorem q237 : (Jvm.Cond.instanceMethod ({ cls := "RuleAnomalyModel", name := "<init>", desc := "()V" } : Jvm.MethodName)) ∈ lw_all := lw_g (lw_at lw_m1 201 rfl) rfl
theorem q238 : (Jvm.Cond.code ({ cls := "RuleAnomalyModel", name := "<init>", desc := "()V" } : Jvm.MethodName) prog_3_method_1_code (1 : Nat) (Option.none : Option Jvm.ClassFile.FieldType)) ∈ lw_all := lw_g (lw_at lw_m1 202 rfl) rfl
theorem q239 : (Jvm.Cond.methodLink "RuleAnomalyModel" (1 : Nat) ({ cls := "java/lang/Object", name := "<init>", desc := "()V" } : Jvm.MethodName)) ∈ lw_all := lw_g (lw_at lw_m1 203 rfl) rfl
theorem q240 : (Jvm.Cond.fieldLink "RuleAnomalyModel" (7 : Nat) "RuleAnomalyModel" "n" "I") ∈ lw_all := lw_g (lw_at lw_m1 204 rfl) rfl
theorem q241 : (Jvm.Cond.fieldLink "RuleAnomalyModel" (13 : Nat) "RuleAnomalyModel" "fromS" "[I") ∈ lw_all := lw_g (lw_at lw_m1 205 rfl) rfl
theorem q242 : (Jvm.Cond.fieldLink "RuleAnomalyModel" (17 : Nat) "RuleAnomalyModel" "toS" "[I") ∈ lw_all := lw_g (lw_at lw_m1 206 rfl) rfl
theorem q243 : (Jvm.Cond.fieldLink "RuleAnomalyModel" (20 : Nat) "RuleAnomalyModel" "fromD" "[I") ∈ lw_all := lw_g (lw_at lw_m1 207 rfl) rfl
theorem q244 : (Jvm.Cond.fieldLink "RuleAnomalyModel" (23 : Nat) "RuleAnomalyModel" "toD" "[I") ∈ lw_all := lw_g (lw_at lw_m1 208 rfl) rfl
theorem q245 : (Jvm.Cond.fieldLink "RuleAnomalyModel" (26 : Nat) "RuleAnomalyModel" "which" "[I") ∈ lw_all := lw_g (lw_at lw_m1 209 rfl) rfl
theorem q246 : (Jvm.Cond.fieldLink "RuleAnomalyModel" (29 : Nat) "RuleAnomalyModel" "action" "[I") ∈ lw_all := lw_g (lw_at lw_m1 210 rfl) rfl
theorem q247 : (Jvm.Cond.fieldLink "RuleAnomalyModel" (32 : Nat) "RuleAnomalyModel" "saved" "[I") ∈ lw_all := lw_g (lw_at lw_m1 211 rfl) rfl
theorem q248 : (Jvm.Cond.lays "RuleAnomalyModel" "RuleAnomalyModel" "n" "I") ∈ lw_all := lw_g (lw_at lw_m1 212 rfl) rfl
theorem q249 : (Jvm.Cond.soleField "RuleAnomalyModel" "n") ∈ lw_all := lw_g (lw_at lw_m1 213 rfl) rfl
theorem q250 : (Jvm.Cond.lays "RuleAnomalyModel" "RuleAnomalyModel" "fromS" "[I") ∈ lw_all := lw_g (lw_at lw_m1 214 rfl) rfl
theorem q251 : (Jvm.Cond.soleField "RuleAnomalyModel" "fromS") ∈ lw_all := lw_g (lw_at lw_m1 215 rfl) rfl
theorem q252 : (Jvm.Cond.lays "RuleAnomalyModel" "RuleAnomalyModel" "toS" "[I") ∈ lw_all := lw_g (lw_at lw_m1 216 rfl) rfl
theorem q253 : (Jvm.Cond.soleField "RuleAnomalyModel" "toS") ∈ lw_all := lw_g (lw_at lw_m1 217 rfl) rfl
theorem q254 : (Jvm.Cond.lays "RuleAnomalyModel" "RuleAnomalyModel" "fromD" "[I") ∈ lw_all := lw_g (lw_at lw_m1 218 rfl) rfl
theorem q255 : (Jvm.Cond.soleField "RuleAnomalyModel" "fromD") ∈ lw_all := lw_g (lw_at lw_m1 219 rfl) rfl
theorem q256 : (Jvm.Cond.lays "RuleAnomalyModel" "RuleAnomalyModel" "toD" "[I") ∈ lw_all := lw_g (lw_at lw_m1 220 rfl) rfl
theorem q257 : (Jvm.Cond.soleField "RuleAnomalyModel" "toD") ∈ lw_all := lw_g (lw_at lw_m1 221 rfl) rfl
theorem q258 : (Jvm.Cond.lays "RuleAnomalyModel" "RuleAnomalyModel" "which" "[I") ∈ lw_all := lw_g (lw_at lw_m1 222 rfl) rfl
theorem q259 : (Jvm.Cond.soleField "RuleAnomalyModel" "which") ∈ lw_all := lw_g (lw_at lw_m1 223 rfl) rfl
theorem q260 : (Jvm.Cond.lays "RuleAnomalyModel" "RuleAnomalyModel" "action" "[I") ∈ lw_all := lw_g (lw_at lw_m1 224 rfl) rfl
theorem q261 : (Jvm.Cond.soleField "RuleAnomalyModel" "action") ∈ lw_all := lw_g (lw_at lw_m1 225 rfl) rfl
theorem q262 : (Jvm.Cond.lays "RuleAnomalyModel" "RuleAnomalyModel" "saved" "[I") ∈ lw_all := lw_g (lw_at lw_m1 226 rfl) rfl
theorem q263 : (Jvm.Cond.soleField "RuleAnomalyModel" "saved") ∈ lw_all := lw_g (lw_at lw_m1 227 rfl) rfl
theorem q264 : (Jvm.Cond.superclass "RuleAnomalyModel" "java/lang/Object") ∈ lw_all := lw_g (lw_at lw_m1 228 rfl) rfl
theorem q266 : (Jvm.Cond.instanceMethod ({ cls := "RuleAnomalyModel", name := "draftRange", desc := "(III)Z" } : Jvm.MethodName)) ∈ lw_all := lw_g (lw_at lw_m1 230 rfl) rfl
theorem q267 : (Jvm.Cond.selects "RuleAnomalyModel" ({ cls := "RuleAnomalyModel", name := "draftRange", desc := "(III)Z" } : Jvm.MethodName) ({ cls := "RuleAnomalyModel", name := "draftRange", desc := "(III)Z" } : Jvm.MethodName)) ∈ lw_all := lw_g (lw_at lw_m1 231 rfl) rfl
theorem q268 : (Jvm.Cond.code ({ cls := "RuleAnomalyModel", name := "draftRange", desc := "(III)Z" } : Jvm.MethodName) prog_3_method_2_code (4 : Nat) (Option.some Jvm.ClassFile.FieldType.boolean)) ∈ lw_all := lw_g (lw_at lw_m1 232 rfl) rfl
theorem q270 : (Jvm.Cond.instanceMethod ({ cls := "RuleAnomalyModel", name := "draftSet", desc := "(I)Z" } : Jvm.MethodName)) ∈ lw_all := lw_g (lw_at lw_m1 234 rfl) rfl
theorem q271 : (Jvm.Cond.selects "RuleAnomalyModel" ({ cls := "RuleAnomalyModel", name := "draftSet", desc := "(I)Z" } : Jvm.MethodName) ({ cls := "RuleAnomalyModel", name := "draftSet", desc := "(I)Z" } : Jvm.MethodName)) ∈ lw_all := lw_g (lw_at lw_m1 235 rfl) rfl
theorem q272 : (Jvm.Cond.code ({ cls := "RuleAnomalyModel", name := "draftSet", desc := "(I)Z" } : Jvm.MethodName) prog_3_method_3_code (2 : Nat) (Option.some Jvm.ClassFile.FieldType.boolean)) ∈ lw_all := lw_g (lw_at lw_m1 236 rfl) rfl
theorem q274 : (Jvm.Cond.instanceMethod ({ cls := "RuleAnomalyModel", name := "insert", desc := "(II)I" } : Jvm.MethodName)) ∈ lw_all := lw_g (lw_at lw_m1 238 rfl) rfl
theorem q275 : (Jvm.Cond.selects "RuleAnomalyModel" ({ cls := "RuleAnomalyModel", name := "insert", desc := "(II)I" } : Jvm.MethodName) ({ cls := "RuleAnomalyModel", name := "insert", desc := "(II)I" } : Jvm.MethodName)) ∈ lw_all := lw_g (lw_at lw_m1 239 rfl) rfl
theorem q276 : (Jvm.Cond.code ({ cls := "RuleAnomalyModel", name := "insert", desc := "(II)I" } : Jvm.MethodName) prog_3_method_5_code (4 : Nat) (Option.some Jvm.ClassFile.FieldType.int)) ∈ lw_all := lw_g (lw_at lw_m2 0 rfl) rfl
theorem q277 : (Jvm.Cond.methodLink "RuleAnomalyModel" (35 : Nat) ({ cls := "RuleAnomalyModel", name := "copy", desc := "(II)V" } : Jvm.MethodName)) ∈ lw_all := lw_g (lw_at lw_m2 1 rfl) rfl
theorem q278 : (Jvm.Cond.privateMethod ({ cls := "RuleAnomalyModel", name := "copy", desc := "(II)V" } : Jvm.MethodName)) ∈ lw_tbl := lw_at lw_m2 2 rfl
theorem q279 : (Jvm.Cond.instanceMethod ({ cls := "RuleAnomalyModel", name := "copy", desc := "(II)V" } : Jvm.MethodName)) ∈ lw_all := lw_g (lw_at lw_m2 3 rfl) rfl
theorem q280 : (Jvm.Cond.code ({ cls := "RuleAnomalyModel", name := "copy", desc := "(II)V" } : Jvm.MethodName) prog_3_method_4_code (3 : Nat) (Option.none : Option Jvm.ClassFile.FieldType)) ∈ lw_all := lw_g (lw_at lw_m2 4 rfl) rfl
theorem q282 : (Jvm.Cond.instanceMethod ({ cls := "RuleAnomalyModel", name := "remove", desc := "(I)I" } : Jvm.MethodName)) ∈ lw_all := lw_g (lw_at lw_m2 6 rfl) rfl
theorem q283 : (Jvm.Cond.selects "RuleAnomalyModel" ({ cls := "RuleAnomalyModel", name := "remove", desc := "(I)I" } : Jvm.MethodName) ({ cls := "RuleAnomalyModel", name := "remove", desc := "(I)I" } : Jvm.MethodName)) ∈ lw_all := lw_g (lw_at lw_m2 7 rfl) rfl
theorem q284 : (Jvm.Cond.code ({ cls := "RuleAnomalyModel", name := "remove", desc := "(I)I" } : Jvm.MethodName) prog_3_method_7_code (3 : Nat) (Option.some Jvm.ClassFile.FieldType.int)) ∈ lw_all := lw_g (lw_at lw_m2 8 rfl) rfl
theorem q285 : (Jvm.Cond.methodLink "RuleAnomalyModel" (39 : Nat) ({ cls := "RuleAnomalyModel", name := "isRule", desc := "(I)Z" } : Jvm.MethodName)) ∈ lw_all := lw_g (lw_at lw_m2 9 rfl) rfl
theorem q286 : (Jvm.Cond.privateMethod ({ cls := "RuleAnomalyModel", name := "isRule", desc := "(I)Z" } : Jvm.MethodName)) ∈ lw_tbl := lw_at lw_m2 10 rfl
theorem q287 : (Jvm.Cond.instanceMethod ({ cls := "RuleAnomalyModel", name := "isRule", desc := "(I)Z" } : Jvm.MethodName)) ∈ lw_all := lw_g (lw_at lw_m2 11 rfl) rfl
theorem q288 : (Jvm.Cond.code ({ cls := "RuleAnomalyModel", name := "isRule", desc := "(I)Z" } : Jvm.MethodName) prog_3_method_6_code (2 : Nat) (Option.some Jvm.ClassFile.FieldType.boolean)) ∈ lw_all := lw_g (lw_at lw_m2 12 rfl) rfl
theorem q290 : (Jvm.Cond.instanceMethod ({ cls := "RuleAnomalyModel", name := "decider", desc := "(III)I" } : Jvm.MethodName)) ∈ lw_all := lw_g (lw_at lw_m2 14 rfl) rfl
theorem q291 : (Jvm.Cond.selects "RuleAnomalyModel" ({ cls := "RuleAnomalyModel", name := "decider", desc := "(III)I" } : Jvm.MethodName) ({ cls := "RuleAnomalyModel", name := "decider", desc := "(III)I" } : Jvm.MethodName)) ∈ lw_all := lw_g (lw_at lw_m2 15 rfl) rfl
theorem q292 : (Jvm.Cond.code ({ cls := "RuleAnomalyModel", name := "decider", desc := "(III)I" } : Jvm.MethodName) prog_3_method_11_code (4 : Nat) (Option.some Jvm.ClassFile.FieldType.int)) ∈ lw_all := lw_g (lw_at lw_m2 16 rfl) rfl
theorem q293 : (Jvm.Cond.methodLink "RuleAnomalyModel" (47 : Nat) ({ cls := "RuleAnomalyModel", name := "first", desc := "(II)I" } : Jvm.MethodName)) ∈ lw_all := lw_g (lw_at lw_m2 17 rfl) rfl
theorem q294 : (Jvm.Cond.privateMethod ({ cls := "RuleAnomalyModel", name := "first", desc := "(II)I" } : Jvm.MethodName)) ∈ lw_tbl := lw_at lw_m2 18 rfl
theorem q295 : (Jvm.Cond.instanceMethod ({ cls := "RuleAnomalyModel", name := "first", desc := "(II)I" } : Jvm.MethodName)) ∈ lw_all := lw_g (lw_at lw_m2 19 rfl) rfl
theorem q296 : (Jvm.Cond.code ({ cls := "RuleAnomalyModel", name := "first", desc := "(II)I" } : Jvm.MethodName) prog_3_method_9_code (4 : Nat) (Option.some Jvm.ClassFile.FieldType.int)) ∈ lw_all := lw_g (lw_at lw_m2 20 rfl) rfl
theorem q297 : (Jvm.Cond.methodLink "RuleAnomalyModel" (43 : Nat) ({ cls := "RuleAnomalyModel", name := "matches", desc := "(II)Z" } : Jvm.MethodName)) ∈ lw_all := lw_g (lw_at lw_m2 21 rfl) rfl
theorem q298 : (Jvm.Cond.privateMethod ({ cls := "RuleAnomalyModel", name := "matches", desc := "(II)Z" } : Jvm.MethodName)) ∈ lw_tbl := lw_at lw_m2 22 rfl
theorem q299 : (Jvm.Cond.instanceMethod ({ cls := "RuleAnomalyModel", name := "matches", desc := "(II)Z" } : Jvm.MethodName)) ∈ lw_all := lw_g (lw_at lw_m2 23 rfl) rfl
theorem q300 : (Jvm.Cond.code ({ cls := "RuleAnomalyModel", name := "matches", desc := "(II)Z" } : Jvm.MethodName) prog_3_method_8_code (6 : Nat) (Option.some Jvm.ClassFile.FieldType.boolean)) ∈ lw_all := lw_g (lw_at lw_m2 24 rfl) rfl
theorem q302 : (Jvm.Cond.instanceMethod ({ cls := "RuleAnomalyModel", name := "owned", desc := "(I)I" } : Jvm.MethodName)) ∈ lw_all := lw_g (lw_at lw_m2 26 rfl) rfl
theorem q303 : (Jvm.Cond.selects "RuleAnomalyModel" ({ cls := "RuleAnomalyModel", name := "owned", desc := "(I)I" } : Jvm.MethodName) ({ cls := "RuleAnomalyModel", name := "owned", desc := "(I)I" } : Jvm.MethodName)) ∈ lw_all := lw_g (lw_at lw_m2 27 rfl) rfl
theorem q304 : (Jvm.Cond.code ({ cls := "RuleAnomalyModel", name := "owned", desc := "(I)I" } : Jvm.MethodName) prog_3_method_12_code (5 : Nat) (Option.some Jvm.ClassFile.FieldType.int)) ∈ lw_all := lw_g (lw_at lw_m2 28 rfl) rfl
theorem q306 : (Jvm.Cond.instanceMethod ({ cls := "RuleAnomalyModel", name := "firstOwned", desc := "(I)I" } : Jvm.MethodName)) ∈ lw_all := lw_g (lw_at lw_m2 30 rfl) rfl
theorem q307 : (Jvm.Cond.selects "RuleAnomalyModel" ({ cls := "RuleAnomalyModel", name := "firstOwned", desc := "(I)I" } : Jvm.MethodName) ({ cls := "RuleAnomalyModel", name := "firstOwned", desc := "(I)I" } : Jvm.MethodName)) ∈ lw_all := lw_g (lw_at lw_m2 31 rfl) rfl
theorem q308 : (Jvm.Cond.code ({ cls := "RuleAnomalyModel", name := "firstOwned", desc := "(I)I" } : Jvm.MethodName) prog_3_method_13_code (4 : Nat) (Option.some Jvm.ClassFile.FieldType.int)) ∈ lw_all := lw_g (lw_at lw_m2 32 rfl) rfl
theorem q310 : (Jvm.Cond.instanceMethod ({ cls := "RuleAnomalyModel", name := "fault", desc := "(I)I" } : Jvm.MethodName)) ∈ lw_all := lw_g (lw_at lw_m2 34 rfl) rfl
theorem q311 : (Jvm.Cond.selects "RuleAnomalyModel" ({ cls := "RuleAnomalyModel", name := "fault", desc := "(I)I" } : Jvm.MethodName) ({ cls := "RuleAnomalyModel", name := "fault", desc := "(I)I" } : Jvm.MethodName)) ∈ lw_all := lw_g (lw_at lw_m2 35 rfl) rfl
theorem q312 : (Jvm.Cond.code ({ cls := "RuleAnomalyModel", name := "fault", desc := "(I)I" } : Jvm.MethodName) prog_3_method_19_code (3 : Nat) (Option.some Jvm.ClassFile.FieldType.int)) ∈ lw_all := lw_g (lw_at lw_m2 36 rfl) rfl
theorem q313 : (Jvm.Cond.methodLink "RuleAnomalyModel" (58 : Nat) ({ cls := "RuleAnomalyModel", name := "owned", desc := "(I)I" } : Jvm.MethodName)) ∈ lw_all := lw_g (lw_at lw_m2 37 rfl) rfl
theorem q314 : (Jvm.Cond.methodLink "RuleAnomalyModel" (62 : Nat) ({ cls := "RuleAnomalyModel", name := "contradicted", desc := "(I)Z" } : Jvm.MethodName)) ∈ lw_all := lw_g (lw_at lw_m2 38 rfl) rfl
theorem q315 : (Jvm.Cond.privateMethod ({ cls := "RuleAnomalyModel", name := "contradicted", desc := "(I)Z" } : Jvm.MethodName)) ∈ lw_tbl := lw_at lw_m2 39 rfl
theorem q316 : (Jvm.Cond.instanceMethod ({ cls := "RuleAnomalyModel", name := "contradicted", desc := "(I)Z" } : Jvm.MethodName)) ∈ lw_all := lw_g (lw_at lw_m2 40 rfl) rfl
theorem q317 : (Jvm.Cond.code ({ cls := "RuleAnomalyModel", name := "contradicted", desc := "(I)Z" } : Jvm.MethodName) prog_3_method_14_code (3 : Nat) (Option.some Jvm.ClassFile.FieldType.boolean)) ∈ lw_all := lw_g (lw_at lw_m2 41 rfl) rfl
theorem q318 : (Jvm.Cond.methodLink "RuleAnomalyModel" (51 : Nat) ({ cls := "RuleAnomalyModel", name := "decision", desc := "(II)I" } : Jvm.MethodName)) ∈ lw_all := lw_g (lw_at lw_m2 42 rfl) rfl
theorem q319 : (Jvm.Cond.privateMethod ({ cls := "RuleAnomalyModel", name := "decision", desc := "(II)I" } : Jvm.MethodName)) ∈ lw_tbl := lw_at lw_m2 43 rfl
theorem q320 : (Jvm.Cond.instanceMethod ({ cls := "RuleAnomalyModel", name := "decision", desc := "(II)I" } : Jvm.MethodName)) ∈ lw_all := lw_g (lw_at lw_m2 44 rfl) rfl
theorem q321 : (Jvm.Cond.code ({ cls := "RuleAnomalyModel", name := "decision", desc := "(II)I" } : Jvm.MethodName) prog_3_method_10_code (4 : Nat) (Option.some Jvm.ClassFile.FieldType.int)) ∈ lw_all := lw_g (lw_at lw_m2 45 rfl) rfl
theorem q322 : (Jvm.Cond.methodLink "RuleAnomalyModel" (65 : Nat) ({ cls := "RuleAnomalyModel", name := "missed", desc := "(I)Z" } : Jvm.MethodName)) ∈ lw_all := lw_g (lw_at lw_m2 46 rfl) rfl
theorem q323 : (Jvm.Cond.privateMethod ({ cls := "RuleAnomalyModel", name := "missed", desc := "(I)Z" } : Jvm.MethodName)) ∈ lw_tbl := lw_at lw_m2 47 rfl
theorem q324 : (Jvm.Cond.instanceMethod ({ cls := "RuleAnomalyModel", name := "missed", desc := "(I)Z" } : Jvm.MethodName)) ∈ lw_all := lw_g (lw_at lw_m2 48 rfl) rfl
theorem q325 : (Jvm.Cond.code ({ cls := "RuleAnomalyModel", name := "missed", desc := "(I)Z" } : Jvm.MethodName) prog_3_method_15_code (3 : Nat) (Option.some Jvm.ClassFile.FieldType.boolean)) ∈ lw_all := lw_g (lw_at lw_m2 49 rfl) rfl
theorem q326 : (Jvm.Cond.methodLink "RuleAnomalyModel" (68 : Nat) ({ cls := "RuleAnomalyModel", name := "correlated", desc := "(I)Z" } : Jvm.MethodName)) ∈ lw_all := lw_g (lw_at lw_m2 50 rfl) rfl
theorem q327 : (Jvm.Cond.privateMethod ({ cls := "RuleAnomalyModel", name := "correlated", desc := "(I)Z" } : Jvm.MethodName)) ∈ lw_tbl := lw_at lw_m2 51 rfl
theorem q328 : (Jvm.Cond.instanceMethod ({ cls := "RuleAnomalyModel", name := "correlated", desc := "(I)Z" } : Jvm.MethodName)) ∈ lw_all := lw_g (lw_at lw_m2 52 rfl) rfl
theorem q329 : (Jvm.Cond.code ({ cls := "RuleAnomalyModel", name := "correlated", desc := "(I)Z" } : Jvm.MethodName) prog_3_method_17_code (3 : Nat) (Option.some Jvm.ClassFile.FieldType.boolean)) ∈ lw_all := lw_g (lw_at lw_m2 53 rfl) rfl
theorem q330 : (Jvm.Cond.methodLink "RuleAnomalyModel" (54 : Nat) ({ cls := "RuleAnomalyModel", name := "some", desc := "(IZIZ)Z" } : Jvm.MethodName)) ∈ lw_all := lw_g (lw_at lw_m2 54 rfl) rfl
theorem q331 : (Jvm.Cond.privateMethod ({ cls := "RuleAnomalyModel", name := "some", desc := "(IZIZ)Z" } : Jvm.MethodName)) ∈ lw_tbl := lw_at lw_m2 55 rfl
theorem q332 : (Jvm.Cond.instanceMethod ({ cls := "RuleAnomalyModel", name := "some", desc := "(IZIZ)Z" } : Jvm.MethodName)) ∈ lw_all := lw_g (lw_at lw_m2 56 rfl) rfl
theorem q333 : (Jvm.Cond.code ({ cls := "RuleAnomalyModel", name := "some", desc := "(IZIZ)Z" } : Jvm.MethodName) prog_3_method_16_code (6 : Nat) (Option.some Jvm.ClassFile.FieldType.boolean)) ∈ lw_all := lw_g (lw_at lw_m2 57 rfl) rfl
theorem q334 : (Jvm.Cond.methodLink "RuleAnomalyModel" (71 : Nat) ({ cls := "RuleAnomalyModel", name := "general", desc := "(I)Z" } : Jvm.MethodName)) ∈ lw_all := lw_g (lw_at lw_m2 58 rfl) rfl
theorem q335 : (Jvm.Cond.privateMethod ({ cls := "RuleAnomalyModel", name := "general", desc := "(I)Z" } : Jvm.MethodName)) ∈ lw_tbl := lw_at lw_m2 59 rfl
theorem q336 : (Jvm.Cond.instanceMethod ({ cls := "RuleAnomalyModel", name := "general", desc := "(I)Z" } : Jvm.MethodName)) ∈ lw_all := lw_g (lw_at lw_m2 60 rfl) rfl
theorem q337 : (Jvm.Cond.code ({ cls := "RuleAnomalyModel", name := "general", desc := "(I)Z" } : Jvm.MethodName) prog_3_method_18_code (3 : Nat) (Option.some Jvm.ClassFile.FieldType.boolean)) ∈ lw_all := lw_g (lw_at lw_m2 61 rfl) rfl
theorem q339 : (Jvm.Cond.instanceMethod ({ cls := "RuleAnomalyModel", name := "save", desc := "()I" } : Jvm.MethodName)) ∈ lw_all := lw_g (lw_at lw_m2 63 rfl) rfl
theorem q340 : (Jvm.Cond.selects "RuleAnomalyModel" ({ cls := "RuleAnomalyModel", name := "save", desc := "()I" } : Jvm.MethodName) ({ cls := "RuleAnomalyModel", name := "save", desc := "()I" } : Jvm.MethodName)) ∈ lw_all := lw_g (lw_at lw_m2 64 rfl) rfl
theorem q341 : (Jvm.Cond.code ({ cls := "RuleAnomalyModel", name := "save", desc := "()I" } : Jvm.MethodName) prog_3_method_20_code (3 : Nat) (Option.some Jvm.ClassFile.FieldType.int)) ∈ lw_all := lw_g (lw_at lw_m2 65 rfl) rfl
theorem q343 : (Jvm.Cond.instanceMethod ({ cls := "RuleAnomalyModel", name := "changed", desc := "()I" } : Jvm.MethodName)) ∈ lw_all := lw_g (lw_at lw_m2 67 rfl) rfl
theorem q344 : (Jvm.Cond.selects "RuleAnomalyModel" ({ cls := "RuleAnomalyModel", name := "changed", desc := "()I" } : Jvm.MethodName) ({ cls := "RuleAnomalyModel", name := "changed", desc := "()I" } : Jvm.MethodName)) ∈ lw_all := lw_g (lw_at lw_m2 68 rfl) rfl
theorem q345 : (Jvm.Cond.code ({ cls := "RuleAnomalyModel", name := "changed", desc := "()I" } : Jvm.MethodName) prog_3_method_21_code (4 : Nat) (Option.some Jvm.ClassFile.FieldType.int)) ∈ lw_all := lw_g (lw_at lw_m2 69 rfl) rfl
theorem q347 : (Jvm.Cond.instanceMethod ({ cls := "RuleAnomalyModel", name := "firstChanged", desc := "()I" } : Jvm.MethodName)) ∈ lw_all := lw_g (lw_at lw_m2 71 rfl) rfl
theorem q348 : (Jvm.Cond.selects "RuleAnomalyModel" ({ cls := "RuleAnomalyModel", name := "firstChanged", desc := "()I" } : Jvm.MethodName) ({ cls := "RuleAnomalyModel", name := "firstChanged", desc := "()I" } : Jvm.MethodName)) ∈ lw_all := lw_g (lw_at lw_m2 72 rfl) rfl
theorem q349 : (Jvm.Cond.code ({ cls := "RuleAnomalyModel", name := "firstChanged", desc := "()I" } : Jvm.MethodName) prog_3_method_22_code (3 : Nat) (Option.some Jvm.ClassFile.FieldType.int)) ∈ lw_all := lw_g (lw_at lw_m2 73 rfl) rfl
theorem in_X1 : ∀ w ∈ wsX10, w ∈ lw_all := lw_in wsX10 [248, 250, 252, 254, 256, 258, 260, 262] (by decide +kernel) (by decide +kernel)
end
section
/-! the law's own entry -/
set_option maxRecDepth 100000
abbrev cL_law : ByteArray := code
theorem dL_law_0 : decode cL_law 0 = .ok (.new 7, 3) := by decide +kernel
theorem dL_law_3 : decode cL_law 3 = .ok (.dup, 1) := by decide +kernel
theorem dL_law_4 : decode cL_law 4 = .ok (.invokespecial 9, 3) := by decide +kernel
theorem dL_law_7 : decode cL_law 7 = .ok (.astore_n 1, 1) := by decide +kernel
theorem dL_law_8 : decode cL_law 8 = .ok (.new 10, 3) := by decide +kernel
theorem dL_law_11 : decode cL_law 11 = .ok (.dup, 1) := by decide +kernel
theorem dL_law_12 : decode cL_law 12 = .ok (.invokespecial 12, 3) := by decide +kernel
theorem dL_law_15 : decode cL_law 15 = .ok (.astore_n 2, 1) := by decide +kernel
theorem dL_law_16 : decode cL_law 16 = .ok (.iconst 0, 1) := by decide +kernel
theorem dL_law_17 : decode cL_law 17 = .ok (.istore_n 3, 1) := by decide +kernel
theorem dL_law_18 : decode cL_law 18 = .ok (.iload_n 3, 1) := by decide +kernel
theorem dL_law_19 : decode cL_law 19 = .ok (.aload_n 0, 1) := by decide +kernel
theorem dL_law_20 : decode cL_law 20 = .ok (.arraylength, 1) := by decide +kernel
theorem dL_law_21 : decode cL_law 21 = .ok (.iconst 4, 1) := by decide +kernel
theorem dL_law_22 : decode cL_law 22 = .ok (.isub, 1) := by decide +kernel
theorem dL_law_23 : decode cL_law 23 = .ok (.if_icmp .gt 348, 3) := by decide +kernel
theorem dL_law_26 : decode cL_law 26 = .ok (.aload_n 0, 1) := by decide +kernel
theorem dL_law_27 : decode cL_law 27 = .ok (.iload_n 3, 1) := by decide +kernel
theorem dL_law_28 : decode cL_law 28 = .ok (.iaload, 1) := by decide +kernel
theorem dL_law_29 : decode cL_law 29 = .ok (.bipush 15, 2) := by decide +kernel
theorem dL_law_31 : decode cL_law 31 = .ok (.iand, 1) := by decide +kernel
theorem dL_law_32 : decode cL_law 32 = .ok (.tableswitch 333 0 10 #[60, 103, 126, 159, 182, 225, 248, 271, 294, 307, 320], 60) := by decide +kernel
theorem dL_law_92 : decode cL_law 92 = .ok (.aload_n 1, 1) := by decide +kernel
theorem dL_law_93 : decode cL_law 93 = .ok (.aload_n 0, 1) := by decide +kernel
theorem dL_law_94 : decode cL_law 94 = .ok (.iload_n 3, 1) := by decide +kernel
theorem dL_law_95 : decode cL_law 95 = .ok (.iconst 1, 1) := by decide +kernel
theorem dL_law_96 : decode cL_law 96 = .ok (.iadd, 1) := by decide +kernel
theorem dL_law_97 : decode cL_law 97 = .ok (.iaload, 1) := by decide +kernel
theorem dL_law_98 : decode cL_law 98 = .ok (.aload_n 0, 1) := by decide +kernel
theorem dL_law_99 : decode cL_law 99 = .ok (.iload_n 3, 1) := by decide +kernel
theorem dL_law_100 : decode cL_law 100 = .ok (.iconst 2, 1) := by decide +kernel
theorem dL_law_101 : decode cL_law 101 = .ok (.iadd, 1) := by decide +kernel
theorem dL_law_102 : decode cL_law 102 = .ok (.iaload, 1) := by decide +kernel
theorem dL_law_103 : decode cL_law 103 = .ok (.aload_n 0, 1) := by decide +kernel
theorem dL_law_104 : decode cL_law 104 = .ok (.iload_n 3, 1) := by decide +kernel
theorem dL_law_105 : decode cL_law 105 = .ok (.iconst 3, 1) := by decide +kernel
theorem dL_law_106 : decode cL_law 106 = .ok (.iadd, 1) := by decide +kernel
theorem dL_law_107 : decode cL_law 107 = .ok (.iaload, 1) := by decide +kernel
theorem dL_law_108 : decode cL_law 108 = .ok (.invokevirtual 13, 3) := by decide +kernel
theorem dL_law_111 : decode cL_law 111 = .ok (.aload_n 2, 1) := by decide +kernel
theorem dL_law_112 : decode cL_law 112 = .ok (.aload_n 0, 1) := by decide +kernel
theorem dL_law_113 : decode cL_law 113 = .ok (.iload_n 3, 1) := by decide +kernel
theorem dL_law_114 : decode cL_law 114 = .ok (.iconst 1, 1) := by decide +kernel
theorem dL_law_115 : decode cL_law 115 = .ok (.iadd, 1) := by decide +kernel
theorem dL_law_116 : decode cL_law 116 = .ok (.iaload, 1) := by decide +kernel
theorem dL_law_117 : decode cL_law 117 = .ok (.aload_n 0, 1) := by decide +kernel
theorem dL_law_118 : decode cL_law 118 = .ok (.iload_n 3, 1) := by decide +kernel
theorem dL_law_119 : decode cL_law 119 = .ok (.iconst 2, 1) := by decide +kernel
theorem dL_law_120 : decode cL_law 120 = .ok (.iadd, 1) := by decide +kernel
theorem dL_law_121 : decode cL_law 121 = .ok (.iaload, 1) := by decide +kernel
theorem dL_law_122 : decode cL_law 122 = .ok (.aload_n 0, 1) := by decide +kernel
theorem dL_law_123 : decode cL_law 123 = .ok (.iload_n 3, 1) := by decide +kernel
theorem dL_law_124 : decode cL_law 124 = .ok (.iconst 3, 1) := by decide +kernel
theorem dL_law_125 : decode cL_law 125 = .ok (.iadd, 1) := by decide +kernel
theorem dL_law_126 : decode cL_law 126 = .ok (.iaload, 1) := by decide +kernel
theorem dL_law_127 : decode cL_law 127 = .ok (.invokevirtual 17, 3) := by decide +kernel
theorem dL_law_130 : decode cL_law 130 = .ok (.if_icmp .eq 235, 3) := by decide +kernel
theorem dL_law_133 : decode cL_law 133 = .ok (.iconst 0, 1) := by decide +kernel
theorem dL_law_134 : decode cL_law 134 = .ok (.ireturn, 1) := by decide +kernel
theorem dL_law_135 : decode cL_law 135 = .ok (.aload_n 1, 1) := by decide +kernel
theorem dL_law_136 : decode cL_law 136 = .ok (.aload_n 0, 1) := by decide +kernel
theorem dL_law_137 : decode cL_law 137 = .ok (.iload_n 3, 1) := by decide +kernel
theorem dL_law_138 : decode cL_law 138 = .ok (.iconst 1, 1) := by decide +kernel
theorem dL_law_139 : decode cL_law 139 = .ok (.iadd, 1) := by decide +kernel
theorem dL_law_140 : decode cL_law 140 = .ok (.iaload, 1) := by decide +kernel
theorem dL_law_141 : decode cL_law 141 = .ok (.invokevirtual 18, 3) := by decide +kernel
theorem dL_law_144 : decode cL_law 144 = .ok (.aload_n 2, 1) := by decide +kernel
theorem dL_law_145 : decode cL_law 145 = .ok (.aload_n 0, 1) := by decide +kernel
theorem dL_law_146 : decode cL_law 146 = .ok (.iload_n 3, 1) := by decide +kernel
theorem dL_law_147 : decode cL_law 147 = .ok (.iconst 1, 1) := by decide +kernel
theorem dL_law_148 : decode cL_law 148 = .ok (.iadd, 1) := by decide +kernel
theorem dL_law_149 : decode cL_law 149 = .ok (.iaload, 1) := by decide +kernel
theorem dL_law_150 : decode cL_law 150 = .ok (.invokevirtual 22, 3) := by decide +kernel
theorem dL_law_153 : decode cL_law 153 = .ok (.if_icmp .eq 212, 3) := by decide +kernel
theorem dL_law_156 : decode cL_law 156 = .ok (.iconst 0, 1) := by decide +kernel
theorem dL_law_157 : decode cL_law 157 = .ok (.ireturn, 1) := by decide +kernel
theorem dL_law_158 : decode cL_law 158 = .ok (.aload_n 1, 1) := by decide +kernel
theorem dL_law_159 : decode cL_law 159 = .ok (.aload_n 0, 1) := by decide +kernel
theorem dL_law_160 : decode cL_law 160 = .ok (.iload_n 3, 1) := by decide +kernel
theorem dL_law_161 : decode cL_law 161 = .ok (.iconst 1, 1) := by decide +kernel
theorem dL_law_162 : decode cL_law 162 = .ok (.iadd, 1) := by decide +kernel
theorem dL_law_163 : decode cL_law 163 = .ok (.iaload, 1) := by decide +kernel
theorem dL_law_164 : decode cL_law 164 = .ok (.aload_n 0, 1) := by decide +kernel
theorem dL_law_165 : decode cL_law 165 = .ok (.iload_n 3, 1) := by decide +kernel
theorem dL_law_166 : decode cL_law 166 = .ok (.iconst 2, 1) := by decide +kernel
theorem dL_law_167 : decode cL_law 167 = .ok (.iadd, 1) := by decide +kernel
theorem dL_law_168 : decode cL_law 168 = .ok (.iaload, 1) := by decide +kernel
theorem dL_law_169 : decode cL_law 169 = .ok (.invokevirtual 23, 3) := by decide +kernel
theorem dL_law_172 : decode cL_law 172 = .ok (.aload_n 2, 1) := by decide +kernel
theorem dL_law_173 : decode cL_law 173 = .ok (.aload_n 0, 1) := by decide +kernel
theorem dL_law_174 : decode cL_law 174 = .ok (.iload_n 3, 1) := by decide +kernel
theorem dL_law_175 : decode cL_law 175 = .ok (.iconst 1, 1) := by decide +kernel
theorem dL_law_176 : decode cL_law 176 = .ok (.iadd, 1) := by decide +kernel
theorem dL_law_177 : decode cL_law 177 = .ok (.iaload, 1) := by decide +kernel
theorem dL_law_178 : decode cL_law 178 = .ok (.aload_n 0, 1) := by decide +kernel
theorem dL_law_179 : decode cL_law 179 = .ok (.iload_n 3, 1) := by decide +kernel
theorem dL_law_180 : decode cL_law 180 = .ok (.iconst 2, 1) := by decide +kernel
theorem dL_law_181 : decode cL_law 181 = .ok (.iadd, 1) := by decide +kernel
theorem dL_law_182 : decode cL_law 182 = .ok (.iaload, 1) := by decide +kernel
theorem dL_law_183 : decode cL_law 183 = .ok (.invokevirtual 27, 3) := by decide +kernel
theorem dL_law_186 : decode cL_law 186 = .ok (.if_icmp .eq 179, 3) := by decide +kernel
theorem dL_law_189 : decode cL_law 189 = .ok (.iconst 0, 1) := by decide +kernel
theorem dL_law_190 : decode cL_law 190 = .ok (.ireturn, 1) := by decide +kernel
theorem dL_law_191 : decode cL_law 191 = .ok (.aload_n 1, 1) := by decide +kernel
theorem dL_law_192 : decode cL_law 192 = .ok (.aload_n 0, 1) := by decide +kernel
theorem dL_law_193 : decode cL_law 193 = .ok (.iload_n 3, 1) := by decide +kernel
theorem dL_law_194 : decode cL_law 194 = .ok (.iconst 1, 1) := by decide +kernel
theorem dL_law_195 : decode cL_law 195 = .ok (.iadd, 1) := by decide +kernel
theorem dL_law_196 : decode cL_law 196 = .ok (.iaload, 1) := by decide +kernel
theorem dL_law_197 : decode cL_law 197 = .ok (.invokevirtual 28, 3) := by decide +kernel
theorem dL_law_200 : decode cL_law 200 = .ok (.aload_n 2, 1) := by decide +kernel
theorem dL_law_201 : decode cL_law 201 = .ok (.aload_n 0, 1) := by decide +kernel
theorem dL_law_202 : decode cL_law 202 = .ok (.iload_n 3, 1) := by decide +kernel
theorem dL_law_203 : decode cL_law 203 = .ok (.iconst 1, 1) := by decide +kernel
theorem dL_law_204 : decode cL_law 204 = .ok (.iadd, 1) := by decide +kernel
theorem dL_law_205 : decode cL_law 205 = .ok (.iaload, 1) := by decide +kernel
theorem dL_law_206 : decode cL_law 206 = .ok (.invokevirtual 32, 3) := by decide +kernel
theorem dL_law_209 : decode cL_law 209 = .ok (.if_icmp .eq 156, 3) := by decide +kernel
theorem dL_law_212 : decode cL_law 212 = .ok (.iconst 0, 1) := by decide +kernel
theorem dL_law_213 : decode cL_law 213 = .ok (.ireturn, 1) := by decide +kernel
theorem dL_law_214 : decode cL_law 214 = .ok (.aload_n 1, 1) := by decide +kernel
theorem dL_law_215 : decode cL_law 215 = .ok (.aload_n 0, 1) := by decide +kernel
theorem dL_law_216 : decode cL_law 216 = .ok (.iload_n 3, 1) := by decide +kernel
theorem dL_law_217 : decode cL_law 217 = .ok (.iconst 1, 1) := by decide +kernel
theorem dL_law_218 : decode cL_law 218 = .ok (.iadd, 1) := by decide +kernel
theorem dL_law_219 : decode cL_law 219 = .ok (.iaload, 1) := by decide +kernel
theorem dL_law_220 : decode cL_law 220 = .ok (.aload_n 0, 1) := by decide +kernel
theorem dL_law_221 : decode cL_law 221 = .ok (.iload_n 3, 1) := by decide +kernel
theorem dL_law_222 : decode cL_law 222 = .ok (.iconst 2, 1) := by decide +kernel
theorem dL_law_223 : decode cL_law 223 = .ok (.iadd, 1) := by decide +kernel
theorem dL_law_224 : decode cL_law 224 = .ok (.iaload, 1) := by decide +kernel
theorem dL_law_225 : decode cL_law 225 = .ok (.aload_n 0, 1) := by decide +kernel
theorem dL_law_226 : decode cL_law 226 = .ok (.iload_n 3, 1) := by decide +kernel
theorem dL_law_227 : decode cL_law 227 = .ok (.iconst 3, 1) := by decide +kernel
theorem dL_law_228 : decode cL_law 228 = .ok (.iadd, 1) := by decide +kernel
theorem dL_law_229 : decode cL_law 229 = .ok (.iaload, 1) := by decide +kernel
theorem dL_law_230 : decode cL_law 230 = .ok (.invokevirtual 33, 3) := by decide +kernel
theorem dL_law_233 : decode cL_law 233 = .ok (.aload_n 2, 1) := by decide +kernel
theorem dL_law_234 : decode cL_law 234 = .ok (.aload_n 0, 1) := by decide +kernel
theorem dL_law_235 : decode cL_law 235 = .ok (.iload_n 3, 1) := by decide +kernel
theorem dL_law_236 : decode cL_law 236 = .ok (.iconst 1, 1) := by decide +kernel
theorem dL_law_237 : decode cL_law 237 = .ok (.iadd, 1) := by decide +kernel
theorem dL_law_238 : decode cL_law 238 = .ok (.iaload, 1) := by decide +kernel
theorem dL_law_239 : decode cL_law 239 = .ok (.aload_n 0, 1) := by decide +kernel
theorem dL_law_240 : decode cL_law 240 = .ok (.iload_n 3, 1) := by decide +kernel
theorem dL_law_241 : decode cL_law 241 = .ok (.iconst 2, 1) := by decide +kernel
theorem dL_law_242 : decode cL_law 242 = .ok (.iadd, 1) := by decide +kernel
theorem dL_law_243 : decode cL_law 243 = .ok (.iaload, 1) := by decide +kernel
theorem dL_law_244 : decode cL_law 244 = .ok (.aload_n 0, 1) := by decide +kernel
theorem dL_law_245 : decode cL_law 245 = .ok (.iload_n 3, 1) := by decide +kernel
theorem dL_law_246 : decode cL_law 246 = .ok (.iconst 3, 1) := by decide +kernel
theorem dL_law_247 : decode cL_law 247 = .ok (.iadd, 1) := by decide +kernel
theorem dL_law_248 : decode cL_law 248 = .ok (.iaload, 1) := by decide +kernel
theorem dL_law_249 : decode cL_law 249 = .ok (.invokevirtual 37, 3) := by decide +kernel
theorem dL_law_252 : decode cL_law 252 = .ok (.if_icmp .eq 113, 3) := by decide +kernel
theorem dL_law_255 : decode cL_law 255 = .ok (.iconst 0, 1) := by decide +kernel
theorem dL_law_256 : decode cL_law 256 = .ok (.ireturn, 1) := by decide +kernel
theorem dL_law_257 : decode cL_law 257 = .ok (.aload_n 1, 1) := by decide +kernel
theorem dL_law_258 : decode cL_law 258 = .ok (.aload_n 0, 1) := by decide +kernel
theorem dL_law_259 : decode cL_law 259 = .ok (.iload_n 3, 1) := by decide +kernel
theorem dL_law_260 : decode cL_law 260 = .ok (.iconst 1, 1) := by decide +kernel
theorem dL_law_261 : decode cL_law 261 = .ok (.iadd, 1) := by decide +kernel
theorem dL_law_262 : decode cL_law 262 = .ok (.iaload, 1) := by decide +kernel
theorem dL_law_263 : decode cL_law 263 = .ok (.invokevirtual 38, 3) := by decide +kernel
theorem dL_law_266 : decode cL_law 266 = .ok (.aload_n 2, 1) := by decide +kernel
theorem dL_law_267 : decode cL_law 267 = .ok (.aload_n 0, 1) := by decide +kernel
theorem dL_law_268 : decode cL_law 268 = .ok (.iload_n 3, 1) := by decide +kernel
theorem dL_law_269 : decode cL_law 269 = .ok (.iconst 1, 1) := by decide +kernel
theorem dL_law_270 : decode cL_law 270 = .ok (.iadd, 1) := by decide +kernel
theorem dL_law_271 : decode cL_law 271 = .ok (.iaload, 1) := by decide +kernel
theorem dL_law_272 : decode cL_law 272 = .ok (.invokevirtual 41, 3) := by decide +kernel
theorem dL_law_275 : decode cL_law 275 = .ok (.if_icmp .eq 90, 3) := by decide +kernel
theorem dL_law_278 : decode cL_law 278 = .ok (.iconst 0, 1) := by decide +kernel
theorem dL_law_279 : decode cL_law 279 = .ok (.ireturn, 1) := by decide +kernel
theorem dL_law_280 : decode cL_law 280 = .ok (.aload_n 1, 1) := by decide +kernel
theorem dL_law_281 : decode cL_law 281 = .ok (.aload_n 0, 1) := by decide +kernel
theorem dL_law_282 : decode cL_law 282 = .ok (.iload_n 3, 1) := by decide +kernel
theorem dL_law_283 : decode cL_law 283 = .ok (.iconst 1, 1) := by decide +kernel
theorem dL_law_284 : decode cL_law 284 = .ok (.iadd, 1) := by decide +kernel
theorem dL_law_285 : decode cL_law 285 = .ok (.iaload, 1) := by decide +kernel
theorem dL_law_286 : decode cL_law 286 = .ok (.invokevirtual 42, 3) := by decide +kernel
theorem dL_law_289 : decode cL_law 289 = .ok (.aload_n 2, 1) := by decide +kernel
theorem dL_law_290 : decode cL_law 290 = .ok (.aload_n 0, 1) := by decide +kernel
theorem dL_law_291 : decode cL_law 291 = .ok (.iload_n 3, 1) := by decide +kernel
theorem dL_law_292 : decode cL_law 292 = .ok (.iconst 1, 1) := by decide +kernel
theorem dL_law_293 : decode cL_law 293 = .ok (.iadd, 1) := by decide +kernel
theorem dL_law_294 : decode cL_law 294 = .ok (.iaload, 1) := by decide +kernel
theorem dL_law_295 : decode cL_law 295 = .ok (.invokevirtual 45, 3) := by decide +kernel
theorem dL_law_298 : decode cL_law 298 = .ok (.if_icmp .eq 67, 3) := by decide +kernel
theorem dL_law_301 : decode cL_law 301 = .ok (.iconst 0, 1) := by decide +kernel
theorem dL_law_302 : decode cL_law 302 = .ok (.ireturn, 1) := by decide +kernel
theorem dL_law_303 : decode cL_law 303 = .ok (.aload_n 1, 1) := by decide +kernel
theorem dL_law_304 : decode cL_law 304 = .ok (.aload_n 0, 1) := by decide +kernel
theorem dL_law_305 : decode cL_law 305 = .ok (.iload_n 3, 1) := by decide +kernel
theorem dL_law_306 : decode cL_law 306 = .ok (.iconst 1, 1) := by decide +kernel
theorem dL_law_307 : decode cL_law 307 = .ok (.iadd, 1) := by decide +kernel
theorem dL_law_308 : decode cL_law 308 = .ok (.iaload, 1) := by decide +kernel
theorem dL_law_309 : decode cL_law 309 = .ok (.invokevirtual 46, 3) := by decide +kernel
theorem dL_law_312 : decode cL_law 312 = .ok (.aload_n 2, 1) := by decide +kernel
theorem dL_law_313 : decode cL_law 313 = .ok (.aload_n 0, 1) := by decide +kernel
theorem dL_law_314 : decode cL_law 314 = .ok (.iload_n 3, 1) := by decide +kernel
theorem dL_law_315 : decode cL_law 315 = .ok (.iconst 1, 1) := by decide +kernel
theorem dL_law_316 : decode cL_law 316 = .ok (.iadd, 1) := by decide +kernel
theorem dL_law_317 : decode cL_law 317 = .ok (.iaload, 1) := by decide +kernel
theorem dL_law_318 : decode cL_law 318 = .ok (.invokevirtual 49, 3) := by decide +kernel
theorem dL_law_321 : decode cL_law 321 = .ok (.if_icmp .eq 44, 3) := by decide +kernel
theorem dL_law_324 : decode cL_law 324 = .ok (.iconst 0, 1) := by decide +kernel
theorem dL_law_325 : decode cL_law 325 = .ok (.ireturn, 1) := by decide +kernel
theorem dL_law_326 : decode cL_law 326 = .ok (.aload_n 1, 1) := by decide +kernel
theorem dL_law_327 : decode cL_law 327 = .ok (.invokevirtual 50, 3) := by decide +kernel
theorem dL_law_330 : decode cL_law 330 = .ok (.aload_n 2, 1) := by decide +kernel
theorem dL_law_331 : decode cL_law 331 = .ok (.invokevirtual 54, 3) := by decide +kernel
theorem dL_law_334 : decode cL_law 334 = .ok (.if_icmp .eq 31, 3) := by decide +kernel
theorem dL_law_337 : decode cL_law 337 = .ok (.iconst 0, 1) := by decide +kernel
theorem dL_law_338 : decode cL_law 338 = .ok (.ireturn, 1) := by decide +kernel
theorem dL_law_339 : decode cL_law 339 = .ok (.aload_n 1, 1) := by decide +kernel
theorem dL_law_340 : decode cL_law 340 = .ok (.invokevirtual 55, 3) := by decide +kernel
theorem dL_law_343 : decode cL_law 343 = .ok (.aload_n 2, 1) := by decide +kernel
theorem dL_law_344 : decode cL_law 344 = .ok (.invokevirtual 58, 3) := by decide +kernel
theorem dL_law_347 : decode cL_law 347 = .ok (.if_icmp .eq 18, 3) := by decide +kernel
theorem dL_law_350 : decode cL_law 350 = .ok (.iconst 0, 1) := by decide +kernel
theorem dL_law_351 : decode cL_law 351 = .ok (.ireturn, 1) := by decide +kernel
theorem dL_law_352 : decode cL_law 352 = .ok (.aload_n 1, 1) := by decide +kernel
theorem dL_law_353 : decode cL_law 353 = .ok (.invokevirtual 59, 3) := by decide +kernel
theorem dL_law_356 : decode cL_law 356 = .ok (.aload_n 2, 1) := by decide +kernel
theorem dL_law_357 : decode cL_law 357 = .ok (.invokevirtual 62, 3) := by decide +kernel
theorem dL_law_360 : decode cL_law 360 = .ok (.if_icmp .eq 5, 3) := by decide +kernel
theorem dL_law_363 : decode cL_law 363 = .ok (.iconst 0, 1) := by decide +kernel
theorem dL_law_364 : decode cL_law 364 = .ok (.ireturn, 1) := by decide +kernel
theorem dL_law_365 : decode cL_law 365 = .ok (.iinc 3 4, 3) := by decide +kernel
theorem dL_law_368 : decode cL_law 368 = .ok (.goto (-350), 3) := by decide +kernel
theorem dL_law_371 : decode cL_law 371 = .ok (.iconst 1, 1) := by decide +kernel
theorem dL_law_372 : decode cL_law 372 = .ok (.ireturn, 1) := by decide +kernel
end
section
/-! THE WORLDS of RuleAnomaly (X0) and RuleAnomalyModel (X1): their cells, what a method's contract says, a row a field, a row an array, calls between methods of one class -/
set_option maxRecDepth 100000
abbrev vwCl : List vw_C := [(RX0, TX0, 12), (RX1, TX1, 8)]
/-- D, addresses, class of int[], class of byte[] -/
abbrev GT : Type := va_G × (Nat → Nat) × ClassId × ClassId
abbrev rmd (d : Nat) : Room := { frames := d, cells := 0, slots := 0, locals := 30 * d }
def RL (R : Room) (d : Nat) : Prop := d ≤ R.frames ∧ 30 * d ≤ R.locals
theorem RL.le {R : Room} {d d' : Nat} (h : RL R d) (k : d' ≤ d) : RL R d' := ⟨by have := h.1; omega, by have := h.2; omega⟩
theorem RL.rm (d : Nat) : RL (rmd d) d := ⟨Nat.le_refl _, Nat.le_refl _⟩
def gI {S : Type} (D : va_G) (Wd : S → va_W) (A : Nat → Prop) (s : State) (u : S) (H : Heap) (locs : List Loc) : Prop := va_P D vwCl (Wd u) H ∧ va_S A s.heap H locs
def gC {S : Type} (p : Program) (s : State) (m : MethodId) (args : Array Value) (c : Code) (cc : ByteArray) (nL : Nat) (Rn : String) (D : va_G) (tys : List (ClassId × FieldType)) (Wd : S → va_W) (A : Nat → Prop) : Prop := CallFix p m c cc nL s args lw_all Rn ∧ va_K D vwCl tys s ∧ ∀ u : S, va_D A (Wd u)
def gPc {S : Type} (D : va_G) (tys : List (ClassId × FieldType)) (Wd : S → va_W) (h : Nat) (u : S) (As : List Value) : Array Value → State → Prop := va_Pc (.ref h :: As) (fun U => va_K D vwCl tys U ∧ va_P D vwCl (Wd u) U.heap)
theorem gPc_blind {S : Type} (D : va_G) (tys : List (ClassId × FieldType)) (Wd : S → va_W) (h : Nat) (u : S) (As : List Value) : FrameBlind (gPc D tys Wd h u As) := fun a U g mk q => by
  obtain ⟨q0, qK, qP⟩ := q
  exact ⟨q0, va_K.moved (u := U) (U := U.calling g mk a) (Vm.Alike.refl U.vm) qK, qP⟩
def gQv {S : Type} (D : va_G) (Wd : S → va_W) (A : Nat → Prop) (post : S → Prop) : Array Value → State → Outcome → State → Prop := va_Qv post (fun u t => va_P D vwCl (Wd u) t.heap) A
def gQi {S : Type} (D : va_G) (Wd : S → va_W) (A : Nat → Prop) (post : Int32 → S → Prop) : Array Value → State → Outcome → State → Prop := va_Qi post (fun u t => va_P D vwCl (Wd u) t.heap) A
/-- a contract out of its body's walk -/
theorem gMet {S : Type} {l : Launch} {y : MethodName} {cc : ByteArray} {maxL : Nat} {ret : Option FieldType} {rm : Room} {Qc : Array Value → State → Outcome → State → Prop} {free : Addr → Prop} {Rn : String} {D : va_G} {tys : List (ClassId × FieldType)} {Wd : S → va_W} {A : Nat → Prop} {h : Nat} {u : S} {As : List Value} (hy : plainName y.cls = true) (hcls : y.cls = Rn) (hlen : (lg_sl (Value.ref h :: As)).length ≤ maxL) (hD : ∀ u : S, va_D A (Wd u))
    (body : ∀ (p : Program) (e : Env) (s : State) (m : MethodId) (below : List Frame) (meth : Method) (c : Code) (ls : Array Slot), gC p s m (Value.ref h :: As).toArray c cc maxL Rn D tys Wd A → meth.sig.returnType = ret → meth.locks = false → gI D Wd A s u s.heap [] → lv_has ls maxL (lv_args 0 (Value.ref h :: As)) → W p l e rm s m (Value.ref h :: As).toArray below meth c s.heap [] 0 0 (MQ below Qc (Value.ref h :: As).toArray s 0 0 free) (F0 m 0 ls [])) : Met l y (ws_ y cc maxL ret) rm (gPc D tys Wd h u As) Qc 0 0 free := by
  refine Met.ofW (cc := cc) (maxL := maxL) (ret := ret) hy rfl ?_
  intro p e s m args below meth c s₁ B hml hv
  obtain ⟨rfl, hK, hP⟩ := hv
  have hts := atoms_spec (ws := ws_ y cc maxL ret) B.pre
  have hts : ∀ w ∈ lw_all, w.before _ s = true := fun w h => hts w (List.mem_cons_of_mem _ h)
  have hown : s.vm.findClass y.cls = some m.cls := findClass_of_methodNamed B.named
  rw [hcls] at hown
  rw [lg_entry_eq]
  exact body p e s m below meth c _ ⟨⟨B.exec, B.bytes, hml, hown, hts⟩, hK, hD⟩ B.returns B.notSynchronized ⟨hP, va_S.rf⟩ (lv_entry _ hlen)
section GC
variable {S : Type} {p : Program} {l : Launch} {e : Env} {R : Room} {s : State} {m : MethodId} {args : Array Value} {below : List Frame} {meth : Method} {c : Code} {H : Heap} {locs : List Loc} {Q : State → Prop} {cc bytes : ByteArray} {nL maxL idx n h ci pc : Nat} {ret : Option FieldType} {rm : Room} {Rn : String} {D : va_G} {tys : List (ClassId × FieldType)} {Wd : S → va_W} {A : Nat → Prop} {u : S} {As rest st0 : List Value} {y : MethodName} {ls : Array Slot} {fs : List Value} {q : vw_C}
theorem gPre (C : gC p s m args c cc nL Rn D tys Wd A) (hI : gI D Wd A s u H locs) (hr : (Wd u)[0]? = some (h, .inr (ci, fs))) (hci : vwCl[ci]? = some q) (hq : q.1 = Rn) : PreV s H Rn h (gPc D tys Wd h u As) As := by
  subst hq
  exact ⟨gPc_blind D tys Wd h u As, va_recv C.2.1 hI.1 hci hr, fun U hU hW => ⟨rfl, va_K.moved hW.alike C.2.1, by rw [hU]; exact hI.1⟩⟩
theorem g_pure {r : Int32} (hM : Met l y (ws_ y bytes maxL ret) rm (gPc D tys Wd h u As) (QcRead r) 0 0 (fun _ => False)) (C : gC p s m args c cc nL Rn D tys Wd A) (hI : gI D Wd A s u H locs) (hr : (Wd u)[0]? = some (h, .inr (ci, fs))) (hci : vwCl[ci]? = some q) (hq : q.1 = Rn) (hV : GoodIn lw_all (wsV Rn idx Rn y (ws_ y bytes maxL ret)))
    (hd0 : y.cls = Rn ∧ y.cls ≠ "java/lang/invoke/MethodHandle" ∧ y.cls ≠ "java/lang/invoke/VarHandle" ∧ (parseMethodDescriptor y.desc).map (fun d => d.parameters.length) = some n) (hn : As.length = n) (hrc : rm.cells = 0) (hrs : rm.slots = 0) (hR : rm.frames + 1 ≤ R.frames ∧ 8 + (maxL + 11) + rm.locals ≤ R.locals) (hz : ls.size = nL) (hst : st0 = As.reverse ++ .ref h :: rest) (hrm : (rest.map fun v => v.category).sum ≤ 8) (hd : decode cc pc = .ok (.invokevirtual idx, 3))
    (kk : W p l e R s m args below meth c H locs 0 0 Q (F0 m (pc + 3) ls (.int r :: rest))) : W p l e R s m args below meth c H locs 0 0 Q (F0 m pc ls st0) :=
  W.callR (W.runV (As := As) (rest := rest) C.1 hM (cwV n C.1.2.2.2.2 hV rfl hrc hrs hd0 hR) (gPre C hI hr hci hq) rfl hn hz hst (lv_room hrm) hd ⟨Nat.zero_le _, Nat.zero_le _⟩) kk
theorem g_v {post : S → Prop} (hM : Met l y (ws_ y bytes maxL ret) rm (gPc D tys Wd h u As) (gQv D Wd A post) 0 0 A) (C : gC p s m args c cc nL Rn D tys Wd A) (hI : gI D Wd A s u H locs) (hr : (Wd u)[0]? = some (h, .inr (ci, fs))) (hci : vwCl[ci]? = some q) (hq : q.1 = Rn) (hV : GoodIn lw_all (wsV Rn idx Rn y (ws_ y bytes maxL ret)))
    (hd0 : y.cls = Rn ∧ y.cls ≠ "java/lang/invoke/MethodHandle" ∧ y.cls ≠ "java/lang/invoke/VarHandle" ∧ (parseMethodDescriptor y.desc).map (fun d => d.parameters.length) = some n) (hn : As.length = n) (hrc : rm.cells = 0) (hrs : rm.slots = 0) (hR : rm.frames + 1 ≤ R.frames ∧ 8 + (maxL + 11) + rm.locals ≤ R.locals) (hz : ls.size = nL) (hst : st0 = As.reverse ++ .ref h :: rest) (hrm : (rest.map fun v => v.category).sum ≤ 8) (hd : decode cc pc = .ok (.invokevirtual idx, 3))
    (kk : ∀ (u1 : S) (H1 : Heap) (locs1 : List Loc), post u1 → gI D Wd A s u1 H1 locs1 → W p l e R s m args below meth c H1 locs1 0 0 Q (F0 m (pc + 3) ls rest)) : W p l e R s m args below meth c H locs 0 0 Q (F0 m pc ls st0) :=
  va_callv (va_runV (As := As) (rest := rest) C.1 hM (cwV n C.1.2.2.2.2 hV rfl hrc hrs hd0 hR) (gPre C hI hr hci hq) rfl hn hz hst (lv_room hrm) hd ⟨Nat.zero_le _, Nat.zero_le _⟩) hI.2 (fun q _ h => h) (fun q h => h) (fun u1 t H1 locs1 ht hvm hp hB hz1 hk1 hS => kk u1 H1 locs1 hp ⟨by rw [← ht]; exact hB, hS⟩)
theorem g_i {post : Int32 → S → Prop} (hM : Met l y (ws_ y bytes maxL ret) rm (gPc D tys Wd h u As) (gQi D Wd A post) 0 0 A) (C : gC p s m args c cc nL Rn D tys Wd A) (hI : gI D Wd A s u H locs) (hr : (Wd u)[0]? = some (h, .inr (ci, fs))) (hci : vwCl[ci]? = some q) (hq : q.1 = Rn) (hV : GoodIn lw_all (wsV Rn idx Rn y (ws_ y bytes maxL ret)))
    (hd0 : y.cls = Rn ∧ y.cls ≠ "java/lang/invoke/MethodHandle" ∧ y.cls ≠ "java/lang/invoke/VarHandle" ∧ (parseMethodDescriptor y.desc).map (fun d => d.parameters.length) = some n) (hn : As.length = n) (hrc : rm.cells = 0) (hrs : rm.slots = 0) (hR : rm.frames + 1 ≤ R.frames ∧ 8 + (maxL + 11) + rm.locals ≤ R.locals) (hz : ls.size = nL) (hst : st0 = As.reverse ++ .ref h :: rest) (hrm : (rest.map fun v => v.category).sum ≤ 8) (hd : decode cc pc = .ok (.invokevirtual idx, 3))
    (kk : ∀ (r1 : Int32) (u1 : S) (H1 : Heap) (locs1 : List Loc), post r1 u1 → gI D Wd A s u1 H1 locs1 → W p l e R s m args below meth c H1 locs1 0 0 Q (F0 m (pc + 3) ls (.int r1 :: rest))) : W p l e R s m args below meth c H locs 0 0 Q (F0 m pc ls st0) :=
  va_calli (va_runV (As := As) (rest := rest) C.1 hM (cwV n C.1.2.2.2.2 hV rfl hrc hrs hd0 hR) (gPre C hI hr hci hq) rfl hn hz hst (lv_room hrm) hd ⟨Nat.zero_le _, Nat.zero_le _⟩) hI.2 (fun q _ h => h) (fun q h => h) (fun r1 u1 t H1 locs1 ht hvm hp hB hz1 hk1 hS => kk r1 u1 H1 locs1 hp ⟨by rw [← ht]; exact hB, hS⟩)
/-- ends: a read-only method's int, boolean; a writing method's void, int, boolean -/
theorem e_read {cc : ByteArray} {v r : Int32} (hx : p.tables.exec = Jvm.exec) (hb : c.code = cc) (hr : meth.sig.returnType = some .int) (hlocks : meth.locks = false) (hv : v = r) (hdg : decode cc pc = .ok (.ireturn, 1)) : W p l e R s m args below meth c s.heap [] 0 0 (MQ below (QcRead r) args s 0 0 (fun _ => False)) (F0 m pc ls [.int v]) :=
  W.iret hx hb hr (fun t ht _ => ⟨by rw [hv], ht⟩) (fun _ h => by cases h) hdg hlocks
theorem e_readz {cc : ByteArray} {v r : Int32} (hx : p.tables.exec = Jvm.exec) (hb : c.code = cc) (hr : meth.sig.returnType = some .boolean) (hlocks : meth.locks = false) (hn : narrow .boolean (.int v) = .int v) (hv : v = r) (hdg : decode cc pc = .ok (.ireturn, 1)) : W p l e R s m args below meth c s.heap [] 0 0 (MQ below (QcRead r) args s 0 0 (fun _ => False)) (F0 m pc ls [.int v]) :=
  W.zret hx hb hr hn (fun t ht _ => ⟨by rw [hv], ht⟩) (fun _ h => by cases h) hdg hlocks
theorem e_void {cc : ByteArray} {post : S → Prop} (hI : gI D Wd A s u H locs) (hx : p.tables.exec = Jvm.exec) (hb : c.code = cc) (hr : meth.sig.returnType = none) (hlocks : meth.locks = false) (hp : post u) (hdg : decode cc pc = .ok (.return_, 1)) : W p l e R s m args below meth c H locs 0 0 (MQ below (gQv D Wd A post) args s 0 0 A) (F0 m pc ls []) :=
  W.vret hx hb hr (fun t ht _ => ⟨⟨u, rfl, hp, by show va_P D vwCl (Wd u) t.heap; rw [ht]; exact hI.1⟩, hI.2.F ht⟩) hI.2.2.2 hdg hlocks
theorem e_int {cc : ByteArray} {v : Int32} {post : Int32 → S → Prop} (hI : gI D Wd A s u H locs) (hx : p.tables.exec = Jvm.exec) (hb : c.code = cc) (hr : meth.sig.returnType = some .int) (hlocks : meth.locks = false) (hp : post v u) (hdg : decode cc pc = .ok (.ireturn, 1)) : W p l e R s m args below meth c H locs 0 0 (MQ below (gQi D Wd A post) args s 0 0 A) (F0 m pc ls [.int v]) :=
  W.iret hx hb hr (fun t ht _ => ⟨⟨v, u, rfl, hp, by show va_P D vwCl (Wd u) t.heap; rw [ht]; exact hI.1⟩, hI.2.F ht⟩) hI.2.2.2 hdg hlocks
theorem e_bool {cc : ByteArray} {v : Int32} {post : Int32 → S → Prop} (hI : gI D Wd A s u H locs) (hx : p.tables.exec = Jvm.exec) (hb : c.code = cc) (hr : meth.sig.returnType = some .boolean) (hlocks : meth.locks = false) (hn : narrow .boolean (.int v) = .int v) (hp : post v u) (hdg : decode cc pc = .ok (.ireturn, 1)) : W p l e R s m args below meth c H locs 0 0 (MQ below (gQi D Wd A post) args s 0 0 A) (F0 m pc ls [.int v]) :=
  W.zret hx hb hr hn (fun t ht _ => ⟨⟨v, u, rfl, hp, by show va_P D vwCl (Wd u) t.heap; rw [ht]; exact hI.1⟩, hI.2.F ht⟩) hI.2.2.2 hdg hlocks
end GC
abbrev XS : Type := Int32 × Int32 × (Nat → Int32) × (Nat → Int32) × (Nat → Int32) × Int32 × (Nat → Int32) × Int32 × (Nat → Int32) × Int32 × (Nat → Int32) × Int32
def XW (G : GT) (u : XS) : va_W := [(G.2.1 0, .inr (0, [.int u.1, .int u.2.1, .ref (G.2.1 1), .ref (G.2.1 2), .ref (G.2.1 3), .int u.2.2.2.2.2.1, .ref (G.2.1 4), .int u.2.2.2.2.2.2.2.1, .ref (G.2.1 5), .int u.2.2.2.2.2.2.2.2.2.1, .ref (G.2.1 6), .int u.2.2.2.2.2.2.2.2.2.2.2])), (G.2.1 1, .inl (G.2.2.1, 10, .inl u.2.2.1)), (G.2.1 2, .inl (G.2.2.2, 10, .inl u.2.2.2.1)), (G.2.1 3, .inl (G.2.2.1, 512, .inl u.2.2.2.2.1)), (G.2.1 4, .inl (G.2.2.1, 512, .inl u.2.2.2.2.2.2.1)), (G.2.1 5, .inl (G.2.2.1, 512, .inl u.2.2.2.2.2.2.2.2.1)), (G.2.1 6, .inl (G.2.2.1, 512, .inl u.2.2.2.2.2.2.2.2.2.2.1))]
def xA (G : GT) : Nat → Prop := fun q => q = G.2.1 0 ∨ q = G.2.1 1 ∨ q = G.2.1 2 ∨ q = G.2.1 3 ∨ q = G.2.1 4 ∨ q = G.2.1 5 ∨ q = G.2.1 6
abbrev xT (G : GT) : List (ClassId × FieldType) := [(G.2.2.1, .int), (G.2.2.2, .byte)]
abbrev XI (G : GT) (s : State) (u : XS) (H : Heap) (locs : List Loc) : Prop := gI G.1 (XW G) (xA G) s u H locs
abbrev XC (p : Program) (s : State) (m : MethodId) (args : Array Value) (c : Code) (cc : ByteArray) (nL : Nat) (G : GT) : Prop := gC p s m args c cc nL RX0 G.1 (xT G) (XW G) (xA G)
abbrev xPc (G : GT) (u : XS) (As : List Value) : Array Value → State → Prop := gPc G.1 (xT G) (XW G) (G.2.1 0) u As
abbrev XD (G : GT) : Prop := ∀ u : XS, va_D (xA G) (XW G u)
abbrev xQv (G : GT) (post : XS → Prop) := gQv G.1 (XW G) (xA G) post
abbrev xQi (G : GT) (post : Int32 → XS → Prop) := gQi G.1 (XW G) (xA G) post
section RX
variable {p : Program} {l : Launch} {e : Env} {R : Room} {s : State} {m : MethodId} {args : Array Value} {below : List Frame} {meth : Method} {c : Code} {H : Heap} {locs : List Loc} {cells slots : Nat} {Q : State → Prop} {cc : ByteArray} {nL pc : Nat} {ls : Array Slot} {rest : List Value} {G : GT} {f0 : Int32} {f1 : Int32} {B : Nat → Int32} {K : Nat → Int32} {w : Nat → Int32} {wc : Int32} {q : Nat → Int32} {qc : Int32} {a : Nat → Int32} {ac : Int32} {v : Nat → Int32} {vc : Int32}
theorem xg0 (C : XC p s m args c cc nL G) (hI : XI G s (f0, f1, B, K, w, wc, q, qc, a, ac, v, vc) H locs) (hd : decode cc pc = .ok (.getfield 29, 3)) (kk : W p l e R s m args below meth c H locs cells slots Q (F0 m (pc + 3) ls (.int f0 :: rest))) : W p l e R s m args below meth c H locs cells slots Q (F0 m pc ls (.ref (G.2.1 0) :: rest)) :=
  va_get (D := G.1) (ci := 0) (v := .int f0) (C := RX0) (T := TX0) (N := 12) C.1.1 C.1.2.1 C.1.2.2.2.2 in_X0 C.1.2.2.2.1 C.2.1 hI.1 0 rfl rfl 0 (by decide) (C.1.2.2.2.2 _ q47) (fun _ h9 => h9) rfl hd kk
theorem xp0 {x : Int32} (C : XC p s m args c cc nL G) (hI : XI G s (f0, f1, B, K, w, wc, q, qc, a, ac, v, vc) H locs) (hd : decode cc pc = .ok (.putfield 29, 3)) (kk : ∀ (H : Heap) (locs : List Loc), XI G s (x, f1, B, K, w, wc, q, qc, a, ac, v, vc) H locs → W p l e R s m args below meth c H locs cells slots Q (F0 m (pc + 3) ls rest)) : W p l e R s m args below meth c H locs cells slots Q (F0 m pc ls (.int x :: .ref (G.2.1 0) :: rest)) :=
  va_put (D := G.1) (ci := 0) (v := .int x) (ty := .int) (C := RX0) (T := TX0) (N := 12) C.1.1 C.1.2.1 C.1.2.2.2.2 in_X0 tyX0 tyX0_ok nmX0 C.1.2.2.2.1 C.2.1 hI.1 (C.2.2 _) hI.2 0 rfl rfl 0 (by decide) (C.1.2.2.2.2 _ q47) (fun _ h9 => h9) rfl (by decide +kernel) rfl rfl (Nat.le_of_ble_eq_true rfl) hd (fun H locs hP hD hS => kk H locs ⟨hP, hS⟩)
theorem xg1 (C : XC p s m args c cc nL G) (hI : XI G s (f0, f1, B, K, w, wc, q, qc, a, ac, v, vc) H locs) (hd : decode cc pc = .ok (.getfield 33, 3)) (kk : W p l e R s m args below meth c H locs cells slots Q (F0 m (pc + 3) ls (.int f1 :: rest))) : W p l e R s m args below meth c H locs cells slots Q (F0 m pc ls (.ref (G.2.1 0) :: rest)) :=
  va_get (D := G.1) (ci := 0) (v := .int f1) (C := RX0) (T := TX0) (N := 12) C.1.1 C.1.2.1 C.1.2.2.2.2 in_X0 C.1.2.2.2.1 C.2.1 hI.1 0 rfl rfl 1 (by decide) (C.1.2.2.2.2 _ q48) (fun _ h9 => h9) rfl hd kk
theorem xp1 {x : Int32} (C : XC p s m args c cc nL G) (hI : XI G s (f0, f1, B, K, w, wc, q, qc, a, ac, v, vc) H locs) (hd : decode cc pc = .ok (.putfield 33, 3)) (kk : ∀ (H : Heap) (locs : List Loc), XI G s (f0, x, B, K, w, wc, q, qc, a, ac, v, vc) H locs → W p l e R s m args below meth c H locs cells slots Q (F0 m (pc + 3) ls rest)) : W p l e R s m args below meth c H locs cells slots Q (F0 m pc ls (.int x :: .ref (G.2.1 0) :: rest)) :=
  va_put (D := G.1) (ci := 0) (v := .int x) (ty := .int) (C := RX0) (T := TX0) (N := 12) C.1.1 C.1.2.1 C.1.2.2.2.2 in_X0 tyX0 tyX0_ok nmX0 C.1.2.2.2.1 C.2.1 hI.1 (C.2.2 _) hI.2 0 rfl rfl 1 (by decide) (C.1.2.2.2.2 _ q48) (fun _ h9 => h9) rfl (by decide +kernel) rfl rfl (Nat.le_of_ble_eq_true rfl) hd (fun H locs hP hD hS => kk H locs ⟨hP, hS⟩)
theorem xg2 (C : XC p s m args c cc nL G) (hI : XI G s (f0, f1, B, K, w, wc, q, qc, a, ac, v, vc) H locs) (hd : decode cc pc = .ok (.getfield 7, 3)) (kk : W p l e R s m args below meth c H locs cells slots Q (F0 m (pc + 3) ls (.ref (G.2.1 1) :: rest))) : W p l e R s m args below meth c H locs cells slots Q (F0 m pc ls (.ref (G.2.1 0) :: rest)) :=
  va_get (D := G.1) (ci := 0) (v := .ref (G.2.1 1)) (C := RX0) (T := TX0) (N := 12) C.1.1 C.1.2.1 C.1.2.2.2.2 in_X0 C.1.2.2.2.1 C.2.1 hI.1 0 rfl rfl 2 (by decide) (C.1.2.2.2.2 _ q49) (fun _ h9 => h9) rfl hd kk
theorem xl1 {x : Int32} {i : Nat} (C : XC p s m args c cc nL G) (hI : XI G s (f0, f1, B, K, w, wc, q, qc, a, ac, v, vc) H locs) (hx : x = nI i) (hi : i < 10) (hd : decode cc pc = .ok (.iaload, 1)) (kk : W p l e R s m args below meth c H locs cells slots Q (F0 m (pc + 1) ls (.int (B i) :: rest))) : W p l e R s m args below meth c H locs cells slots Q (F0 m pc ls (.int x :: .ref (G.2.1 1) :: rest)) := by
  subst hx
  refine va_iald C.1.1 C.1.2.1 C.2.1 hI.1 1 0 rfl rfl (vp_in_nI hi (by decide)) hd ?_
  rw [nI_clamp (Nat.lt_trans hi (by decide))]
  exact kk
theorem xs1 {x z : Int32} {i : Nat} (C : XC p s m args c cc nL G) (hI : XI G s (f0, f1, B, K, w, wc, q, qc, a, ac, v, vc) H locs) (hx : x = nI i) (hi : i < 10) (hd : decode cc pc = .ok (.iastore, 1)) (kk : ∀ (H : Heap) (locs : List Loc), XI G s (f0, f1, upd B i z, K, w, wc, q, qc, a, ac, v, vc) H locs → W p l e R s m args below meth c H locs cells slots Q (F0 m (pc + 1) ls rest)) : W p l e R s m args below meth c H locs cells slots Q (F0 m pc ls (.int z :: .int x :: .ref (G.2.1 1) :: rest)) := by
  subst hx
  refine va_iast C.1.1 C.1.2.1 C.2.1 hI.1 (C.2.2 _) hI.2 1 0 rfl rfl (vp_in_nI hi (by decide)) hd ?_
  rw [nI_clamp (Nat.lt_trans hi (by decide))]
  exact fun H locs hP hD hS => kk H locs ⟨hP, hS⟩
theorem xg3 (C : XC p s m args c cc nL G) (hI : XI G s (f0, f1, B, K, w, wc, q, qc, a, ac, v, vc) H locs) (hd : decode cc pc = .ok (.getfield 13, 3)) (kk : W p l e R s m args below meth c H locs cells slots Q (F0 m (pc + 3) ls (.ref (G.2.1 2) :: rest))) : W p l e R s m args below meth c H locs cells slots Q (F0 m pc ls (.ref (G.2.1 0) :: rest)) :=
  va_get (D := G.1) (ci := 0) (v := .ref (G.2.1 2)) (C := RX0) (T := TX0) (N := 12) C.1.1 C.1.2.1 C.1.2.2.2.2 in_X0 C.1.2.2.2.1 C.2.1 hI.1 0 rfl rfl 3 (by decide) (C.1.2.2.2.2 _ q50) (fun _ h9 => h9) rfl hd kk
theorem xl2 {x : Int32} {i : Nat} (C : XC p s m args c cc nL G) (hI : XI G s (f0, f1, B, K, w, wc, q, qc, a, ac, v, vc) H locs) (hx : x = nI i) (hi : i < 10) (hd : decode cc pc = .ok (.baload, 1)) (kk : W p l e R s m args below meth c H locs cells slots Q (F0 m (pc + 1) ls (.int (K i) :: rest))) : W p l e R s m args below meth c H locs cells slots Q (F0 m pc ls (.int x :: .ref (G.2.1 2) :: rest)) := by
  subst hx
  refine va_bald C.1.1 C.1.2.1 C.2.1 hI.1 2 1 rfl rfl (vp_in_nI hi (by decide)) hd ?_
  rw [nI_clamp (Nat.lt_trans hi (by decide))]
  exact kk
theorem xs2 {x y z : Int32} {i : Nat} (C : XC p s m args c cc nL G) (hI : XI G s (f0, f1, B, K, w, wc, q, qc, a, ac, v, vc) H locs) (hx : x = nI i) (hi : i < 10) (hy : vp_nar .byte z = y) (hd : decode cc pc = .ok (.bastore, 1)) (kk : ∀ (H : Heap) (locs : List Loc), XI G s (f0, f1, B, upd K i y, w, wc, q, qc, a, ac, v, vc) H locs → W p l e R s m args below meth c H locs cells slots Q (F0 m (pc + 1) ls rest)) : W p l e R s m args below meth c H locs cells slots Q (F0 m pc ls (.int z :: .int x :: .ref (G.2.1 2) :: rest)) := by
  subst hx
  subst hy
  refine va_bast C.1.1 C.1.2.1 C.2.1 hI.1 (C.2.2 _) hI.2 2 1 rfl rfl (vp_in_nI hi (by decide)) hd ?_
  rw [nI_clamp (Nat.lt_trans hi (by decide))]
  exact fun H locs hP hD hS => kk H locs ⟨hP, hS⟩
theorem xg4 (C : XC p s m args c cc nL G) (hI : XI G s (f0, f1, B, K, w, wc, q, qc, a, ac, v, vc) H locs) (hd : decode cc pc = .ok (.getfield 17, 3)) (kk : W p l e R s m args below meth c H locs cells slots Q (F0 m (pc + 3) ls (.ref (G.2.1 3) :: rest))) : W p l e R s m args below meth c H locs cells slots Q (F0 m pc ls (.ref (G.2.1 0) :: rest)) :=
  va_get (D := G.1) (ci := 0) (v := .ref (G.2.1 3)) (C := RX0) (T := TX0) (N := 12) C.1.1 C.1.2.1 C.1.2.2.2.2 in_X0 C.1.2.2.2.1 C.2.1 hI.1 0 rfl rfl 4 (by decide) (C.1.2.2.2.2 _ q51) (fun _ h9 => h9) rfl hd kk
theorem xl3 {x : Int32} {i : Nat} (C : XC p s m args c cc nL G) (hI : XI G s (f0, f1, B, K, w, wc, q, qc, a, ac, v, vc) H locs) (hx : x = nI i) (hi : i < 512) (hd : decode cc pc = .ok (.iaload, 1)) (kk : W p l e R s m args below meth c H locs cells slots Q (F0 m (pc + 1) ls (.int (w i) :: rest))) : W p l e R s m args below meth c H locs cells slots Q (F0 m pc ls (.int x :: .ref (G.2.1 3) :: rest)) := by
  subst hx
  refine va_iald C.1.1 C.1.2.1 C.2.1 hI.1 3 0 rfl rfl (vp_in_nI hi (by decide)) hd ?_
  rw [nI_clamp (Nat.lt_trans hi (by decide))]
  exact kk
theorem xs3 {x z : Int32} {i : Nat} (C : XC p s m args c cc nL G) (hI : XI G s (f0, f1, B, K, w, wc, q, qc, a, ac, v, vc) H locs) (hx : x = nI i) (hi : i < 512) (hd : decode cc pc = .ok (.iastore, 1)) (kk : ∀ (H : Heap) (locs : List Loc), XI G s (f0, f1, B, K, upd w i z, wc, q, qc, a, ac, v, vc) H locs → W p l e R s m args below meth c H locs cells slots Q (F0 m (pc + 1) ls rest)) : W p l e R s m args below meth c H locs cells slots Q (F0 m pc ls (.int z :: .int x :: .ref (G.2.1 3) :: rest)) := by
  subst hx
  refine va_iast C.1.1 C.1.2.1 C.2.1 hI.1 (C.2.2 _) hI.2 3 0 rfl rfl (vp_in_nI hi (by decide)) hd ?_
  rw [nI_clamp (Nat.lt_trans hi (by decide))]
  exact fun H locs hP hD hS => kk H locs ⟨hP, hS⟩
theorem xg5 (C : XC p s m args c cc nL G) (hI : XI G s (f0, f1, B, K, w, wc, q, qc, a, ac, v, vc) H locs) (hd : decode cc pc = .ok (.getfield 56, 3)) (kk : W p l e R s m args below meth c H locs cells slots Q (F0 m (pc + 3) ls (.int wc :: rest))) : W p l e R s m args below meth c H locs cells slots Q (F0 m pc ls (.ref (G.2.1 0) :: rest)) :=
  va_get (D := G.1) (ci := 0) (v := .int wc) (C := RX0) (T := TX0) (N := 12) C.1.1 C.1.2.1 C.1.2.2.2.2 in_X0 C.1.2.2.2.1 C.2.1 hI.1 0 rfl rfl 5 (by decide) (C.1.2.2.2.2 _ q52) (fun _ h9 => h9) rfl hd kk
theorem xp5 {x : Int32} (C : XC p s m args c cc nL G) (hI : XI G s (f0, f1, B, K, w, wc, q, qc, a, ac, v, vc) H locs) (hd : decode cc pc = .ok (.putfield 56, 3)) (kk : ∀ (H : Heap) (locs : List Loc), XI G s (f0, f1, B, K, w, x, q, qc, a, ac, v, vc) H locs → W p l e R s m args below meth c H locs cells slots Q (F0 m (pc + 3) ls rest)) : W p l e R s m args below meth c H locs cells slots Q (F0 m pc ls (.int x :: .ref (G.2.1 0) :: rest)) :=
  va_put (D := G.1) (ci := 0) (v := .int x) (ty := .int) (C := RX0) (T := TX0) (N := 12) C.1.1 C.1.2.1 C.1.2.2.2.2 in_X0 tyX0 tyX0_ok nmX0 C.1.2.2.2.1 C.2.1 hI.1 (C.2.2 _) hI.2 0 rfl rfl 5 (by decide) (C.1.2.2.2.2 _ q52) (fun _ h9 => h9) rfl (by decide +kernel) rfl rfl (Nat.le_of_ble_eq_true rfl) hd (fun H locs hP hD hS => kk H locs ⟨hP, hS⟩)
theorem xg6 (C : XC p s m args c cc nL G) (hI : XI G s (f0, f1, B, K, w, wc, q, qc, a, ac, v, vc) H locs) (hd : decode cc pc = .ok (.getfield 20, 3)) (kk : W p l e R s m args below meth c H locs cells slots Q (F0 m (pc + 3) ls (.ref (G.2.1 4) :: rest))) : W p l e R s m args below meth c H locs cells slots Q (F0 m pc ls (.ref (G.2.1 0) :: rest)) :=
  va_get (D := G.1) (ci := 0) (v := .ref (G.2.1 4)) (C := RX0) (T := TX0) (N := 12) C.1.1 C.1.2.1 C.1.2.2.2.2 in_X0 C.1.2.2.2.1 C.2.1 hI.1 0 rfl rfl 6 (by decide) (C.1.2.2.2.2 _ q53) (fun _ h9 => h9) rfl hd kk
theorem xl4 {x : Int32} {i : Nat} (C : XC p s m args c cc nL G) (hI : XI G s (f0, f1, B, K, w, wc, q, qc, a, ac, v, vc) H locs) (hx : x = nI i) (hi : i < 512) (hd : decode cc pc = .ok (.iaload, 1)) (kk : W p l e R s m args below meth c H locs cells slots Q (F0 m (pc + 1) ls (.int (q i) :: rest))) : W p l e R s m args below meth c H locs cells slots Q (F0 m pc ls (.int x :: .ref (G.2.1 4) :: rest)) := by
  subst hx
  refine va_iald C.1.1 C.1.2.1 C.2.1 hI.1 4 0 rfl rfl (vp_in_nI hi (by decide)) hd ?_
  rw [nI_clamp (Nat.lt_trans hi (by decide))]
  exact kk
theorem xs4 {x z : Int32} {i : Nat} (C : XC p s m args c cc nL G) (hI : XI G s (f0, f1, B, K, w, wc, q, qc, a, ac, v, vc) H locs) (hx : x = nI i) (hi : i < 512) (hd : decode cc pc = .ok (.iastore, 1)) (kk : ∀ (H : Heap) (locs : List Loc), XI G s (f0, f1, B, K, w, wc, upd q i z, qc, a, ac, v, vc) H locs → W p l e R s m args below meth c H locs cells slots Q (F0 m (pc + 1) ls rest)) : W p l e R s m args below meth c H locs cells slots Q (F0 m pc ls (.int z :: .int x :: .ref (G.2.1 4) :: rest)) := by
  subst hx
  refine va_iast C.1.1 C.1.2.1 C.2.1 hI.1 (C.2.2 _) hI.2 4 0 rfl rfl (vp_in_nI hi (by decide)) hd ?_
  rw [nI_clamp (Nat.lt_trans hi (by decide))]
  exact fun H locs hP hD hS => kk H locs ⟨hP, hS⟩
theorem xg7 (C : XC p s m args c cc nL G) (hI : XI G s (f0, f1, B, K, w, wc, q, qc, a, ac, v, vc) H locs) (hd : decode cc pc = .ok (.getfield 101, 3)) (kk : W p l e R s m args below meth c H locs cells slots Q (F0 m (pc + 3) ls (.int qc :: rest))) : W p l e R s m args below meth c H locs cells slots Q (F0 m pc ls (.ref (G.2.1 0) :: rest)) :=
  va_get (D := G.1) (ci := 0) (v := .int qc) (C := RX0) (T := TX0) (N := 12) C.1.1 C.1.2.1 C.1.2.2.2.2 in_X0 C.1.2.2.2.1 C.2.1 hI.1 0 rfl rfl 7 (by decide) (C.1.2.2.2.2 _ q54) (fun _ h9 => h9) rfl hd kk
theorem xp7 {x : Int32} (C : XC p s m args c cc nL G) (hI : XI G s (f0, f1, B, K, w, wc, q, qc, a, ac, v, vc) H locs) (hd : decode cc pc = .ok (.putfield 101, 3)) (kk : ∀ (H : Heap) (locs : List Loc), XI G s (f0, f1, B, K, w, wc, q, x, a, ac, v, vc) H locs → W p l e R s m args below meth c H locs cells slots Q (F0 m (pc + 3) ls rest)) : W p l e R s m args below meth c H locs cells slots Q (F0 m pc ls (.int x :: .ref (G.2.1 0) :: rest)) :=
  va_put (D := G.1) (ci := 0) (v := .int x) (ty := .int) (C := RX0) (T := TX0) (N := 12) C.1.1 C.1.2.1 C.1.2.2.2.2 in_X0 tyX0 tyX0_ok nmX0 C.1.2.2.2.1 C.2.1 hI.1 (C.2.2 _) hI.2 0 rfl rfl 7 (by decide) (C.1.2.2.2.2 _ q54) (fun _ h9 => h9) rfl (by decide +kernel) rfl rfl (Nat.le_of_ble_eq_true rfl) hd (fun H locs hP hD hS => kk H locs ⟨hP, hS⟩)
theorem xg8 (C : XC p s m args c cc nL G) (hI : XI G s (f0, f1, B, K, w, wc, q, qc, a, ac, v, vc) H locs) (hd : decode cc pc = .ok (.getfield 23, 3)) (kk : W p l e R s m args below meth c H locs cells slots Q (F0 m (pc + 3) ls (.ref (G.2.1 5) :: rest))) : W p l e R s m args below meth c H locs cells slots Q (F0 m pc ls (.ref (G.2.1 0) :: rest)) :=
  va_get (D := G.1) (ci := 0) (v := .ref (G.2.1 5)) (C := RX0) (T := TX0) (N := 12) C.1.1 C.1.2.1 C.1.2.2.2.2 in_X0 C.1.2.2.2.1 C.2.1 hI.1 0 rfl rfl 8 (by decide) (C.1.2.2.2.2 _ q55) (fun _ h9 => h9) rfl hd kk
theorem xl5 {x : Int32} {i : Nat} (C : XC p s m args c cc nL G) (hI : XI G s (f0, f1, B, K, w, wc, q, qc, a, ac, v, vc) H locs) (hx : x = nI i) (hi : i < 512) (hd : decode cc pc = .ok (.iaload, 1)) (kk : W p l e R s m args below meth c H locs cells slots Q (F0 m (pc + 1) ls (.int (a i) :: rest))) : W p l e R s m args below meth c H locs cells slots Q (F0 m pc ls (.int x :: .ref (G.2.1 5) :: rest)) := by
  subst hx
  refine va_iald C.1.1 C.1.2.1 C.2.1 hI.1 5 0 rfl rfl (vp_in_nI hi (by decide)) hd ?_
  rw [nI_clamp (Nat.lt_trans hi (by decide))]
  exact kk
theorem xs5 {x z : Int32} {i : Nat} (C : XC p s m args c cc nL G) (hI : XI G s (f0, f1, B, K, w, wc, q, qc, a, ac, v, vc) H locs) (hx : x = nI i) (hi : i < 512) (hd : decode cc pc = .ok (.iastore, 1)) (kk : ∀ (H : Heap) (locs : List Loc), XI G s (f0, f1, B, K, w, wc, q, qc, upd a i z, ac, v, vc) H locs → W p l e R s m args below meth c H locs cells slots Q (F0 m (pc + 1) ls rest)) : W p l e R s m args below meth c H locs cells slots Q (F0 m pc ls (.int z :: .int x :: .ref (G.2.1 5) :: rest)) := by
  subst hx
  refine va_iast C.1.1 C.1.2.1 C.2.1 hI.1 (C.2.2 _) hI.2 5 0 rfl rfl (vp_in_nI hi (by decide)) hd ?_
  rw [nI_clamp (Nat.lt_trans hi (by decide))]
  exact fun H locs hP hD hS => kk H locs ⟨hP, hS⟩
theorem xg9 (C : XC p s m args c cc nL G) (hI : XI G s (f0, f1, B, K, w, wc, q, qc, a, ac, v, vc) H locs) (hd : decode cc pc = .ok (.getfield 71, 3)) (kk : W p l e R s m args below meth c H locs cells slots Q (F0 m (pc + 3) ls (.int ac :: rest))) : W p l e R s m args below meth c H locs cells slots Q (F0 m pc ls (.ref (G.2.1 0) :: rest)) :=
  va_get (D := G.1) (ci := 0) (v := .int ac) (C := RX0) (T := TX0) (N := 12) C.1.1 C.1.2.1 C.1.2.2.2.2 in_X0 C.1.2.2.2.1 C.2.1 hI.1 0 rfl rfl 9 (by decide) (C.1.2.2.2.2 _ q56) (fun _ h9 => h9) rfl hd kk
theorem xp9 {x : Int32} (C : XC p s m args c cc nL G) (hI : XI G s (f0, f1, B, K, w, wc, q, qc, a, ac, v, vc) H locs) (hd : decode cc pc = .ok (.putfield 71, 3)) (kk : ∀ (H : Heap) (locs : List Loc), XI G s (f0, f1, B, K, w, wc, q, qc, a, x, v, vc) H locs → W p l e R s m args below meth c H locs cells slots Q (F0 m (pc + 3) ls rest)) : W p l e R s m args below meth c H locs cells slots Q (F0 m pc ls (.int x :: .ref (G.2.1 0) :: rest)) :=
  va_put (D := G.1) (ci := 0) (v := .int x) (ty := .int) (C := RX0) (T := TX0) (N := 12) C.1.1 C.1.2.1 C.1.2.2.2.2 in_X0 tyX0 tyX0_ok nmX0 C.1.2.2.2.1 C.2.1 hI.1 (C.2.2 _) hI.2 0 rfl rfl 9 (by decide) (C.1.2.2.2.2 _ q56) (fun _ h9 => h9) rfl (by decide +kernel) rfl rfl (Nat.le_of_ble_eq_true rfl) hd (fun H locs hP hD hS => kk H locs ⟨hP, hS⟩)
theorem xg10 (C : XC p s m args c cc nL G) (hI : XI G s (f0, f1, B, K, w, wc, q, qc, a, ac, v, vc) H locs) (hd : decode cc pc = .ok (.getfield 26, 3)) (kk : W p l e R s m args below meth c H locs cells slots Q (F0 m (pc + 3) ls (.ref (G.2.1 6) :: rest))) : W p l e R s m args below meth c H locs cells slots Q (F0 m pc ls (.ref (G.2.1 0) :: rest)) :=
  va_get (D := G.1) (ci := 0) (v := .ref (G.2.1 6)) (C := RX0) (T := TX0) (N := 12) C.1.1 C.1.2.1 C.1.2.2.2.2 in_X0 C.1.2.2.2.1 C.2.1 hI.1 0 rfl rfl 10 (by decide) (C.1.2.2.2.2 _ q57) (fun _ h9 => h9) rfl hd kk
theorem xl6 {x : Int32} {i : Nat} (C : XC p s m args c cc nL G) (hI : XI G s (f0, f1, B, K, w, wc, q, qc, a, ac, v, vc) H locs) (hx : x = nI i) (hi : i < 512) (hd : decode cc pc = .ok (.iaload, 1)) (kk : W p l e R s m args below meth c H locs cells slots Q (F0 m (pc + 1) ls (.int (v i) :: rest))) : W p l e R s m args below meth c H locs cells slots Q (F0 m pc ls (.int x :: .ref (G.2.1 6) :: rest)) := by
  subst hx
  refine va_iald C.1.1 C.1.2.1 C.2.1 hI.1 6 0 rfl rfl (vp_in_nI hi (by decide)) hd ?_
  rw [nI_clamp (Nat.lt_trans hi (by decide))]
  exact kk
theorem xs6 {x z : Int32} {i : Nat} (C : XC p s m args c cc nL G) (hI : XI G s (f0, f1, B, K, w, wc, q, qc, a, ac, v, vc) H locs) (hx : x = nI i) (hi : i < 512) (hd : decode cc pc = .ok (.iastore, 1)) (kk : ∀ (H : Heap) (locs : List Loc), XI G s (f0, f1, B, K, w, wc, q, qc, a, ac, upd v i z, vc) H locs → W p l e R s m args below meth c H locs cells slots Q (F0 m (pc + 1) ls rest)) : W p l e R s m args below meth c H locs cells slots Q (F0 m pc ls (.int z :: .int x :: .ref (G.2.1 6) :: rest)) := by
  subst hx
  refine va_iast C.1.1 C.1.2.1 C.2.1 hI.1 (C.2.2 _) hI.2 6 0 rfl rfl (vp_in_nI hi (by decide)) hd ?_
  rw [nI_clamp (Nat.lt_trans hi (by decide))]
  exact fun H locs hP hD hS => kk H locs ⟨hP, hS⟩
theorem xg11 (C : XC p s m args c cc nL G) (hI : XI G s (f0, f1, B, K, w, wc, q, qc, a, ac, v, vc) H locs) (hd : decode cc pc = .ok (.getfield 77, 3)) (kk : W p l e R s m args below meth c H locs cells slots Q (F0 m (pc + 3) ls (.int vc :: rest))) : W p l e R s m args below meth c H locs cells slots Q (F0 m pc ls (.ref (G.2.1 0) :: rest)) :=
  va_get (D := G.1) (ci := 0) (v := .int vc) (C := RX0) (T := TX0) (N := 12) C.1.1 C.1.2.1 C.1.2.2.2.2 in_X0 C.1.2.2.2.1 C.2.1 hI.1 0 rfl rfl 11 (by decide) (C.1.2.2.2.2 _ q58) (fun _ h9 => h9) rfl hd kk
theorem xp11 {x : Int32} (C : XC p s m args c cc nL G) (hI : XI G s (f0, f1, B, K, w, wc, q, qc, a, ac, v, vc) H locs) (hd : decode cc pc = .ok (.putfield 77, 3)) (kk : ∀ (H : Heap) (locs : List Loc), XI G s (f0, f1, B, K, w, wc, q, qc, a, ac, v, x) H locs → W p l e R s m args below meth c H locs cells slots Q (F0 m (pc + 3) ls rest)) : W p l e R s m args below meth c H locs cells slots Q (F0 m pc ls (.int x :: .ref (G.2.1 0) :: rest)) :=
  va_put (D := G.1) (ci := 0) (v := .int x) (ty := .int) (C := RX0) (T := TX0) (N := 12) C.1.1 C.1.2.1 C.1.2.2.2.2 in_X0 tyX0 tyX0_ok nmX0 C.1.2.2.2.1 C.2.1 hI.1 (C.2.2 _) hI.2 0 rfl rfl 11 (by decide) (C.1.2.2.2.2 _ q58) (fun _ h9 => h9) rfl (by decide +kernel) rfl rfl (Nat.le_of_ble_eq_true rfl) hd (fun H locs hP hD hS => kk H locs ⟨hP, hS⟩)
end RX
abbrev MS : Type := Int32 × (Nat → Int32) × (Nat → Int32) × (Nat → Int32) × (Nat → Int32) × (Nat → Int32) × (Nat → Int32) × (Nat → Int32)
def MW (G : GT) (u : MS) : va_W := [(G.2.1 0, .inr (1, [.int u.1, .ref (G.2.1 1), .ref (G.2.1 2), .ref (G.2.1 3), .ref (G.2.1 4), .ref (G.2.1 5), .ref (G.2.1 6), .ref (G.2.1 7)])), (G.2.1 1, .inl (G.2.2.1, 11, .inl u.2.1)), (G.2.1 2, .inl (G.2.2.1, 11, .inl u.2.2.1)), (G.2.1 3, .inl (G.2.2.1, 11, .inl u.2.2.2.1)), (G.2.1 4, .inl (G.2.2.1, 11, .inl u.2.2.2.2.1)), (G.2.1 5, .inl (G.2.2.1, 11, .inl u.2.2.2.2.2.1)), (G.2.1 6, .inl (G.2.2.1, 11, .inl u.2.2.2.2.2.2.1)), (G.2.1 7, .inl (G.2.2.1, 512, .inl u.2.2.2.2.2.2.2))]
def mA (G : GT) : Nat → Prop := fun q => q = G.2.1 0 ∨ q = G.2.1 1 ∨ q = G.2.1 2 ∨ q = G.2.1 3 ∨ q = G.2.1 4 ∨ q = G.2.1 5 ∨ q = G.2.1 6 ∨ q = G.2.1 7
abbrev mT (G : GT) : List (ClassId × FieldType) := [(G.2.2.1, .int)]
abbrev MI (G : GT) (s : State) (u : MS) (H : Heap) (locs : List Loc) : Prop := gI G.1 (MW G) (mA G) s u H locs
abbrev MC (p : Program) (s : State) (m : MethodId) (args : Array Value) (c : Code) (cc : ByteArray) (nL : Nat) (G : GT) : Prop := gC p s m args c cc nL RX1 G.1 (mT G) (MW G) (mA G)
abbrev mPc (G : GT) (u : MS) (As : List Value) : Array Value → State → Prop := gPc G.1 (mT G) (MW G) (G.2.1 0) u As
abbrev MD (G : GT) : Prop := ∀ u : MS, va_D (mA G) (MW G u)
abbrev mQv (G : GT) (post : MS → Prop) := gQv G.1 (MW G) (mA G) post
abbrev mQi (G : GT) (post : Int32 → MS → Prop) := gQi G.1 (MW G) (mA G) post
section RM
variable {p : Program} {l : Launch} {e : Env} {R : Room} {s : State} {m : MethodId} {args : Array Value} {below : List Frame} {meth : Method} {c : Code} {H : Heap} {locs : List Loc} {cells slots : Nat} {Q : State → Prop} {cc : ByteArray} {nL pc : Nat} {ls : Array Slot} {rest : List Value} {G : GT} {n : Int32} {fs : Nat → Int32} {ts : Nat → Int32} {fd : Nat → Int32} {td : Nat → Int32} {wh : Nat → Int32} {ak : Nat → Int32} {sv : Nat → Int32}
theorem mg0 (C : MC p s m args c cc nL G) (hI : MI G s (n, fs, ts, fd, td, wh, ak, sv) H locs) (hd : decode cc pc = .ok (.getfield 7, 3)) (kk : W p l e R s m args below meth c H locs cells slots Q (F0 m (pc + 3) ls (.int n :: rest))) : W p l e R s m args below meth c H locs cells slots Q (F0 m pc ls (.ref (G.2.1 0) :: rest)) :=
  va_get (D := G.1) (ci := 1) (v := .int n) (C := RX1) (T := TX1) (N := 8) C.1.1 C.1.2.1 C.1.2.2.2.2 in_X1 C.1.2.2.2.1 C.2.1 hI.1 0 rfl rfl 0 (by decide) (C.1.2.2.2.2 _ q240) (fun _ h9 => h9) rfl hd kk
theorem mp0 {x : Int32} (C : MC p s m args c cc nL G) (hI : MI G s (n, fs, ts, fd, td, wh, ak, sv) H locs) (hd : decode cc pc = .ok (.putfield 7, 3)) (kk : ∀ (H : Heap) (locs : List Loc), MI G s (x, fs, ts, fd, td, wh, ak, sv) H locs → W p l e R s m args below meth c H locs cells slots Q (F0 m (pc + 3) ls rest)) : W p l e R s m args below meth c H locs cells slots Q (F0 m pc ls (.int x :: .ref (G.2.1 0) :: rest)) :=
  va_put (D := G.1) (ci := 1) (v := .int x) (ty := .int) (C := RX1) (T := TX1) (N := 8) C.1.1 C.1.2.1 C.1.2.2.2.2 in_X1 tyX1 tyX1_ok nmX1 C.1.2.2.2.1 C.2.1 hI.1 (C.2.2 _) hI.2 0 rfl rfl 0 (by decide) (C.1.2.2.2.2 _ q240) (fun _ h9 => h9) rfl (by decide +kernel) rfl rfl (Nat.le_of_ble_eq_true rfl) hd (fun H locs hP hD hS => kk H locs ⟨hP, hS⟩)
theorem mg1 (C : MC p s m args c cc nL G) (hI : MI G s (n, fs, ts, fd, td, wh, ak, sv) H locs) (hd : decode cc pc = .ok (.getfield 13, 3)) (kk : W p l e R s m args below meth c H locs cells slots Q (F0 m (pc + 3) ls (.ref (G.2.1 1) :: rest))) : W p l e R s m args below meth c H locs cells slots Q (F0 m pc ls (.ref (G.2.1 0) :: rest)) :=
  va_get (D := G.1) (ci := 1) (v := .ref (G.2.1 1)) (C := RX1) (T := TX1) (N := 8) C.1.1 C.1.2.1 C.1.2.2.2.2 in_X1 C.1.2.2.2.1 C.2.1 hI.1 0 rfl rfl 1 (by decide) (C.1.2.2.2.2 _ q241) (fun _ h9 => h9) rfl hd kk
theorem ml1 {x : Int32} {i : Nat} (C : MC p s m args c cc nL G) (hI : MI G s (n, fs, ts, fd, td, wh, ak, sv) H locs) (hx : x = nI i) (hi : i < 11) (hd : decode cc pc = .ok (.iaload, 1)) (kk : W p l e R s m args below meth c H locs cells slots Q (F0 m (pc + 1) ls (.int (fs i) :: rest))) : W p l e R s m args below meth c H locs cells slots Q (F0 m pc ls (.int x :: .ref (G.2.1 1) :: rest)) := by
  subst hx
  refine va_iald C.1.1 C.1.2.1 C.2.1 hI.1 1 0 rfl rfl (vp_in_nI hi (by decide)) hd ?_
  rw [nI_clamp (Nat.lt_trans hi (by decide))]
  exact kk
theorem ms1 {x z : Int32} {i : Nat} (C : MC p s m args c cc nL G) (hI : MI G s (n, fs, ts, fd, td, wh, ak, sv) H locs) (hx : x = nI i) (hi : i < 11) (hd : decode cc pc = .ok (.iastore, 1)) (kk : ∀ (H : Heap) (locs : List Loc), MI G s (n, upd fs i z, ts, fd, td, wh, ak, sv) H locs → W p l e R s m args below meth c H locs cells slots Q (F0 m (pc + 1) ls rest)) : W p l e R s m args below meth c H locs cells slots Q (F0 m pc ls (.int z :: .int x :: .ref (G.2.1 1) :: rest)) := by
  subst hx
  refine va_iast C.1.1 C.1.2.1 C.2.1 hI.1 (C.2.2 _) hI.2 1 0 rfl rfl (vp_in_nI hi (by decide)) hd ?_
  rw [nI_clamp (Nat.lt_trans hi (by decide))]
  exact fun H locs hP hD hS => kk H locs ⟨hP, hS⟩
theorem mg2 (C : MC p s m args c cc nL G) (hI : MI G s (n, fs, ts, fd, td, wh, ak, sv) H locs) (hd : decode cc pc = .ok (.getfield 17, 3)) (kk : W p l e R s m args below meth c H locs cells slots Q (F0 m (pc + 3) ls (.ref (G.2.1 2) :: rest))) : W p l e R s m args below meth c H locs cells slots Q (F0 m pc ls (.ref (G.2.1 0) :: rest)) :=
  va_get (D := G.1) (ci := 1) (v := .ref (G.2.1 2)) (C := RX1) (T := TX1) (N := 8) C.1.1 C.1.2.1 C.1.2.2.2.2 in_X1 C.1.2.2.2.1 C.2.1 hI.1 0 rfl rfl 2 (by decide) (C.1.2.2.2.2 _ q242) (fun _ h9 => h9) rfl hd kk
theorem ml2 {x : Int32} {i : Nat} (C : MC p s m args c cc nL G) (hI : MI G s (n, fs, ts, fd, td, wh, ak, sv) H locs) (hx : x = nI i) (hi : i < 11) (hd : decode cc pc = .ok (.iaload, 1)) (kk : W p l e R s m args below meth c H locs cells slots Q (F0 m (pc + 1) ls (.int (ts i) :: rest))) : W p l e R s m args below meth c H locs cells slots Q (F0 m pc ls (.int x :: .ref (G.2.1 2) :: rest)) := by
  subst hx
  refine va_iald C.1.1 C.1.2.1 C.2.1 hI.1 2 0 rfl rfl (vp_in_nI hi (by decide)) hd ?_
  rw [nI_clamp (Nat.lt_trans hi (by decide))]
  exact kk
theorem ms2 {x z : Int32} {i : Nat} (C : MC p s m args c cc nL G) (hI : MI G s (n, fs, ts, fd, td, wh, ak, sv) H locs) (hx : x = nI i) (hi : i < 11) (hd : decode cc pc = .ok (.iastore, 1)) (kk : ∀ (H : Heap) (locs : List Loc), MI G s (n, fs, upd ts i z, fd, td, wh, ak, sv) H locs → W p l e R s m args below meth c H locs cells slots Q (F0 m (pc + 1) ls rest)) : W p l e R s m args below meth c H locs cells slots Q (F0 m pc ls (.int z :: .int x :: .ref (G.2.1 2) :: rest)) := by
  subst hx
  refine va_iast C.1.1 C.1.2.1 C.2.1 hI.1 (C.2.2 _) hI.2 2 0 rfl rfl (vp_in_nI hi (by decide)) hd ?_
  rw [nI_clamp (Nat.lt_trans hi (by decide))]
  exact fun H locs hP hD hS => kk H locs ⟨hP, hS⟩
theorem mg3 (C : MC p s m args c cc nL G) (hI : MI G s (n, fs, ts, fd, td, wh, ak, sv) H locs) (hd : decode cc pc = .ok (.getfield 20, 3)) (kk : W p l e R s m args below meth c H locs cells slots Q (F0 m (pc + 3) ls (.ref (G.2.1 3) :: rest))) : W p l e R s m args below meth c H locs cells slots Q (F0 m pc ls (.ref (G.2.1 0) :: rest)) :=
  va_get (D := G.1) (ci := 1) (v := .ref (G.2.1 3)) (C := RX1) (T := TX1) (N := 8) C.1.1 C.1.2.1 C.1.2.2.2.2 in_X1 C.1.2.2.2.1 C.2.1 hI.1 0 rfl rfl 3 (by decide) (C.1.2.2.2.2 _ q243) (fun _ h9 => h9) rfl hd kk
theorem ml3 {x : Int32} {i : Nat} (C : MC p s m args c cc nL G) (hI : MI G s (n, fs, ts, fd, td, wh, ak, sv) H locs) (hx : x = nI i) (hi : i < 11) (hd : decode cc pc = .ok (.iaload, 1)) (kk : W p l e R s m args below meth c H locs cells slots Q (F0 m (pc + 1) ls (.int (fd i) :: rest))) : W p l e R s m args below meth c H locs cells slots Q (F0 m pc ls (.int x :: .ref (G.2.1 3) :: rest)) := by
  subst hx
  refine va_iald C.1.1 C.1.2.1 C.2.1 hI.1 3 0 rfl rfl (vp_in_nI hi (by decide)) hd ?_
  rw [nI_clamp (Nat.lt_trans hi (by decide))]
  exact kk
theorem ms3 {x z : Int32} {i : Nat} (C : MC p s m args c cc nL G) (hI : MI G s (n, fs, ts, fd, td, wh, ak, sv) H locs) (hx : x = nI i) (hi : i < 11) (hd : decode cc pc = .ok (.iastore, 1)) (kk : ∀ (H : Heap) (locs : List Loc), MI G s (n, fs, ts, upd fd i z, td, wh, ak, sv) H locs → W p l e R s m args below meth c H locs cells slots Q (F0 m (pc + 1) ls rest)) : W p l e R s m args below meth c H locs cells slots Q (F0 m pc ls (.int z :: .int x :: .ref (G.2.1 3) :: rest)) := by
  subst hx
  refine va_iast C.1.1 C.1.2.1 C.2.1 hI.1 (C.2.2 _) hI.2 3 0 rfl rfl (vp_in_nI hi (by decide)) hd ?_
  rw [nI_clamp (Nat.lt_trans hi (by decide))]
  exact fun H locs hP hD hS => kk H locs ⟨hP, hS⟩
theorem mg4 (C : MC p s m args c cc nL G) (hI : MI G s (n, fs, ts, fd, td, wh, ak, sv) H locs) (hd : decode cc pc = .ok (.getfield 23, 3)) (kk : W p l e R s m args below meth c H locs cells slots Q (F0 m (pc + 3) ls (.ref (G.2.1 4) :: rest))) : W p l e R s m args below meth c H locs cells slots Q (F0 m pc ls (.ref (G.2.1 0) :: rest)) :=
  va_get (D := G.1) (ci := 1) (v := .ref (G.2.1 4)) (C := RX1) (T := TX1) (N := 8) C.1.1 C.1.2.1 C.1.2.2.2.2 in_X1 C.1.2.2.2.1 C.2.1 hI.1 0 rfl rfl 4 (by decide) (C.1.2.2.2.2 _ q244) (fun _ h9 => h9) rfl hd kk
theorem ml4 {x : Int32} {i : Nat} (C : MC p s m args c cc nL G) (hI : MI G s (n, fs, ts, fd, td, wh, ak, sv) H locs) (hx : x = nI i) (hi : i < 11) (hd : decode cc pc = .ok (.iaload, 1)) (kk : W p l e R s m args below meth c H locs cells slots Q (F0 m (pc + 1) ls (.int (td i) :: rest))) : W p l e R s m args below meth c H locs cells slots Q (F0 m pc ls (.int x :: .ref (G.2.1 4) :: rest)) := by
  subst hx
  refine va_iald C.1.1 C.1.2.1 C.2.1 hI.1 4 0 rfl rfl (vp_in_nI hi (by decide)) hd ?_
  rw [nI_clamp (Nat.lt_trans hi (by decide))]
  exact kk
theorem ms4 {x z : Int32} {i : Nat} (C : MC p s m args c cc nL G) (hI : MI G s (n, fs, ts, fd, td, wh, ak, sv) H locs) (hx : x = nI i) (hi : i < 11) (hd : decode cc pc = .ok (.iastore, 1)) (kk : ∀ (H : Heap) (locs : List Loc), MI G s (n, fs, ts, fd, upd td i z, wh, ak, sv) H locs → W p l e R s m args below meth c H locs cells slots Q (F0 m (pc + 1) ls rest)) : W p l e R s m args below meth c H locs cells slots Q (F0 m pc ls (.int z :: .int x :: .ref (G.2.1 4) :: rest)) := by
  subst hx
  refine va_iast C.1.1 C.1.2.1 C.2.1 hI.1 (C.2.2 _) hI.2 4 0 rfl rfl (vp_in_nI hi (by decide)) hd ?_
  rw [nI_clamp (Nat.lt_trans hi (by decide))]
  exact fun H locs hP hD hS => kk H locs ⟨hP, hS⟩
theorem mg5 (C : MC p s m args c cc nL G) (hI : MI G s (n, fs, ts, fd, td, wh, ak, sv) H locs) (hd : decode cc pc = .ok (.getfield 26, 3)) (kk : W p l e R s m args below meth c H locs cells slots Q (F0 m (pc + 3) ls (.ref (G.2.1 5) :: rest))) : W p l e R s m args below meth c H locs cells slots Q (F0 m pc ls (.ref (G.2.1 0) :: rest)) :=
  va_get (D := G.1) (ci := 1) (v := .ref (G.2.1 5)) (C := RX1) (T := TX1) (N := 8) C.1.1 C.1.2.1 C.1.2.2.2.2 in_X1 C.1.2.2.2.1 C.2.1 hI.1 0 rfl rfl 5 (by decide) (C.1.2.2.2.2 _ q245) (fun _ h9 => h9) rfl hd kk
theorem ml5 {x : Int32} {i : Nat} (C : MC p s m args c cc nL G) (hI : MI G s (n, fs, ts, fd, td, wh, ak, sv) H locs) (hx : x = nI i) (hi : i < 11) (hd : decode cc pc = .ok (.iaload, 1)) (kk : W p l e R s m args below meth c H locs cells slots Q (F0 m (pc + 1) ls (.int (wh i) :: rest))) : W p l e R s m args below meth c H locs cells slots Q (F0 m pc ls (.int x :: .ref (G.2.1 5) :: rest)) := by
  subst hx
  refine va_iald C.1.1 C.1.2.1 C.2.1 hI.1 5 0 rfl rfl (vp_in_nI hi (by decide)) hd ?_
  rw [nI_clamp (Nat.lt_trans hi (by decide))]
  exact kk
theorem ms5 {x z : Int32} {i : Nat} (C : MC p s m args c cc nL G) (hI : MI G s (n, fs, ts, fd, td, wh, ak, sv) H locs) (hx : x = nI i) (hi : i < 11) (hd : decode cc pc = .ok (.iastore, 1)) (kk : ∀ (H : Heap) (locs : List Loc), MI G s (n, fs, ts, fd, td, upd wh i z, ak, sv) H locs → W p l e R s m args below meth c H locs cells slots Q (F0 m (pc + 1) ls rest)) : W p l e R s m args below meth c H locs cells slots Q (F0 m pc ls (.int z :: .int x :: .ref (G.2.1 5) :: rest)) := by
  subst hx
  refine va_iast C.1.1 C.1.2.1 C.2.1 hI.1 (C.2.2 _) hI.2 5 0 rfl rfl (vp_in_nI hi (by decide)) hd ?_
  rw [nI_clamp (Nat.lt_trans hi (by decide))]
  exact fun H locs hP hD hS => kk H locs ⟨hP, hS⟩
theorem mg6 (C : MC p s m args c cc nL G) (hI : MI G s (n, fs, ts, fd, td, wh, ak, sv) H locs) (hd : decode cc pc = .ok (.getfield 29, 3)) (kk : W p l e R s m args below meth c H locs cells slots Q (F0 m (pc + 3) ls (.ref (G.2.1 6) :: rest))) : W p l e R s m args below meth c H locs cells slots Q (F0 m pc ls (.ref (G.2.1 0) :: rest)) :=
  va_get (D := G.1) (ci := 1) (v := .ref (G.2.1 6)) (C := RX1) (T := TX1) (N := 8) C.1.1 C.1.2.1 C.1.2.2.2.2 in_X1 C.1.2.2.2.1 C.2.1 hI.1 0 rfl rfl 6 (by decide) (C.1.2.2.2.2 _ q246) (fun _ h9 => h9) rfl hd kk
theorem ml6 {x : Int32} {i : Nat} (C : MC p s m args c cc nL G) (hI : MI G s (n, fs, ts, fd, td, wh, ak, sv) H locs) (hx : x = nI i) (hi : i < 11) (hd : decode cc pc = .ok (.iaload, 1)) (kk : W p l e R s m args below meth c H locs cells slots Q (F0 m (pc + 1) ls (.int (ak i) :: rest))) : W p l e R s m args below meth c H locs cells slots Q (F0 m pc ls (.int x :: .ref (G.2.1 6) :: rest)) := by
  subst hx
  refine va_iald C.1.1 C.1.2.1 C.2.1 hI.1 6 0 rfl rfl (vp_in_nI hi (by decide)) hd ?_
  rw [nI_clamp (Nat.lt_trans hi (by decide))]
  exact kk
theorem ms6 {x z : Int32} {i : Nat} (C : MC p s m args c cc nL G) (hI : MI G s (n, fs, ts, fd, td, wh, ak, sv) H locs) (hx : x = nI i) (hi : i < 11) (hd : decode cc pc = .ok (.iastore, 1)) (kk : ∀ (H : Heap) (locs : List Loc), MI G s (n, fs, ts, fd, td, wh, upd ak i z, sv) H locs → W p l e R s m args below meth c H locs cells slots Q (F0 m (pc + 1) ls rest)) : W p l e R s m args below meth c H locs cells slots Q (F0 m pc ls (.int z :: .int x :: .ref (G.2.1 6) :: rest)) := by
  subst hx
  refine va_iast C.1.1 C.1.2.1 C.2.1 hI.1 (C.2.2 _) hI.2 6 0 rfl rfl (vp_in_nI hi (by decide)) hd ?_
  rw [nI_clamp (Nat.lt_trans hi (by decide))]
  exact fun H locs hP hD hS => kk H locs ⟨hP, hS⟩
theorem mg7 (C : MC p s m args c cc nL G) (hI : MI G s (n, fs, ts, fd, td, wh, ak, sv) H locs) (hd : decode cc pc = .ok (.getfield 32, 3)) (kk : W p l e R s m args below meth c H locs cells slots Q (F0 m (pc + 3) ls (.ref (G.2.1 7) :: rest))) : W p l e R s m args below meth c H locs cells slots Q (F0 m pc ls (.ref (G.2.1 0) :: rest)) :=
  va_get (D := G.1) (ci := 1) (v := .ref (G.2.1 7)) (C := RX1) (T := TX1) (N := 8) C.1.1 C.1.2.1 C.1.2.2.2.2 in_X1 C.1.2.2.2.1 C.2.1 hI.1 0 rfl rfl 7 (by decide) (C.1.2.2.2.2 _ q247) (fun _ h9 => h9) rfl hd kk
theorem ml7 {x : Int32} {i : Nat} (C : MC p s m args c cc nL G) (hI : MI G s (n, fs, ts, fd, td, wh, ak, sv) H locs) (hx : x = nI i) (hi : i < 512) (hd : decode cc pc = .ok (.iaload, 1)) (kk : W p l e R s m args below meth c H locs cells slots Q (F0 m (pc + 1) ls (.int (sv i) :: rest))) : W p l e R s m args below meth c H locs cells slots Q (F0 m pc ls (.int x :: .ref (G.2.1 7) :: rest)) := by
  subst hx
  refine va_iald C.1.1 C.1.2.1 C.2.1 hI.1 7 0 rfl rfl (vp_in_nI hi (by decide)) hd ?_
  rw [nI_clamp (Nat.lt_trans hi (by decide))]
  exact kk
theorem ms7 {x z : Int32} {i : Nat} (C : MC p s m args c cc nL G) (hI : MI G s (n, fs, ts, fd, td, wh, ak, sv) H locs) (hx : x = nI i) (hi : i < 512) (hd : decode cc pc = .ok (.iastore, 1)) (kk : ∀ (H : Heap) (locs : List Loc), MI G s (n, fs, ts, fd, td, wh, ak, upd sv i z) H locs → W p l e R s m args below meth c H locs cells slots Q (F0 m (pc + 1) ls rest)) : W p l e R s m args below meth c H locs cells slots Q (F0 m pc ls (.int z :: .int x :: .ref (G.2.1 7) :: rest)) := by
  subst hx
  refine va_iast C.1.1 C.1.2.1 C.2.1 hI.1 (C.2.2 _) hI.2 7 0 rfl rfl (vp_in_nI hi (by decide)) hd ?_
  rw [nI_clamp (Nat.lt_trans hi (by decide))]
  exact fun H locs hP hD hS => kk H locs ⟨hP, hS⟩
end RM
end
section
/-! WHAT X0's METHODS COMPUTE, over Int32: boxes as numbers, lists of boxes -/
theorem i_lt (a b : Int32) : a < b ↔ a.toInt < b.toInt := Int32.lt_iff_toInt_lt
theorem i_le (a b : Int32) : a ≤ b ↔ a.toInt ≤ b.toInt := Int32.le_iff_toInt_le
theorem i_le_nlt0 {x : Int32} (h : 0 ≤ x) : ¬ x < 0 := by rw [i_le] at h; rw [i_lt]; omega
theorem i_eq (a b : Int32) : a = b ↔ a.toInt = b.toInt := Int32.toInt_inj.symm
def bFs (x : Int32) : Int32 := (x >>> ((14 : Int32) &&& 31)) &&& 15
def bTs (x : Int32) : Int32 := (x >>> ((10 : Int32) &&& 31)) &&& 15
def bFd (x : Int32) : Int32 := (x >>> ((6 : Int32) &&& 31)) &&& 15
def bTd (x : Int32) : Int32 := (x >>> ((2 : Int32) &&& 31)) &&& 15
def bFp (x : Int32) : Int32 := (x >>> ((1 : Int32) &&& 31)) &&& 1
def bTp (x : Int32) : Int32 := x &&& 1
def bWs (x f t : Int32) : Int32 := ((x &&& 1023) ||| (f <<< ((14 : Int32) &&& 31))) ||| (t <<< ((10 : Int32) &&& 31))
def bWd (x f t : Int32) : Int32 := ((x &&& (-1021)) ||| (f <<< ((6 : Int32) &&& 31))) ||| (t <<< ((2 : Int32) &&& 31))
def bVol (x : Int32) : Int32 := (((bTs x - bFs x) + 1) * ((bTd x - bFd x) + 1)) * ((bTp x - bFp x) + 1)
def bCor (x : Int32) : Int32 := ((32 * bFs x) + (2 * bFd x)) + bFp x
abbrev bMt (a b : Int32) : Prop := bFs a ≤ bTs b ∧ bFs b ≤ bTs a ∧ bFd a ≤ bTd b ∧ bFd b ≤ bTd a ∧ bFp a ≤ bTp b ∧ bFp b ≤ bTp a
abbrev bIn (a b : Int32) : Prop := bFs b ≤ bFs a ∧ bTs a ≤ bTs b ∧ bFd b ≤ bFd a ∧ bTd a ≤ bTd b ∧ bFp b ≤ bFp a ∧ bTp a ≤ bTp b
/-- an array's first places hold a list -/
def hL (f : Nat → Int32) (L : List Int32) : Prop := ∀ k, k < L.length → f k = L.getD k 0
theorem hL_nil (f : Nat → Int32) : hL f [] := fun k h => absurd h (Nat.not_lt_zero k)
theorem hL_push {f : Nat → Int32} {L : List Int32} (h : hL f L) (x : Int32) : hL (upd f L.length x) (L ++ [x]) := by
  intro k hk
  rw [List.length_append, List.length_singleton] at hk
  by_cases e : k = L.length
  · subst e
    simp [upd]
  · have hk' : k < L.length := by omega
    rw [upd, if_neg e, h k hk']
    simp [List.getD, List.getElem?_append_left hk']
theorem hL_up {f : Nat → Int32} {L : List Int32} {n : Nat} (h : hL f L) (x : Int32) (hn : L.length ≤ n) : hL (upd f n x) L := by
  intro k hk
  rw [upd, if_neg (by omega), h k hk]
theorem hL_take {f : Nat → Int32} {L : List Int32} (h : hL f L) (n : Nat) : hL f (L.take n) := by
  intro k hk
  rw [List.length_take] at hk
  rw [h k (by omega)]
  simp only [List.getD, List.getElem?_take]
  rw [if_pos (by omega)]
theorem take_s {L : List Int32} {i : Nat} (h : i < L.length) : L.take (i + 1) = L.take i ++ [L.getD i 0] := by
  rw [List.take_add_one, List.getD, List.getElem?_eq_getElem h]
  rfl
/-- what carving leaves of a box, field by field -/
def cS (x c : Int32) : List Int32 := (if bFs x < bFs c then [bWs x (bFs x) (bFs c - 1)] else []) ++ (if bTs c < bTs x then [bWs x (bTs c + 1) (bTs x)] else [])
def rS (x c : Int32) : Int32 := bWs x (if bFs x < bFs c then bFs c else bFs x) (if bTs c < bTs x then bTs c else bTs x)
def cD (x c : Int32) : List Int32 := (if bFd x < bFd c then [bWd x (bFd x) (bFd c - 1)] else []) ++ (if bTd c < bTd x then [bWd x (bTd c + 1) (bTd x)] else [])
def rD (x c : Int32) : Int32 := bWd x (if bFd x < bFd c then bFd c else bFd x) (if bTd c < bTd x then bTd c else bTd x)
def cP (x c : Int32) : List Int32 := (if bFp x < bFp c then [x &&& (-4)] else []) ++ (if bTp c < bTp x then [x ||| 3] else [])
def carL (x c : Int32) : List Int32 := cS x c ++ (cD (rS x c) c ++ cP (rD (rS x c) c) c)
def sub1 (c x : Int32) : List Int32 := if bMt x c then carL x c else [x]
def subL (L : List Int32) (c : Int32) : List Int32 := L.flatMap (sub1 c)
/-- rule i's own packets, the first j rules carved away -/
def ownJ (B : Nat → Int32) (i : Nat) : Nat → List Int32
  | 0 => [B i]
  | j + 1 => subL (ownJ B i j) (B j)
def ownL (B : Nat → Int32) (i : Nat) : List Int32 := ownJ B i i
/-- the allowed packets of the first n rules -/
def gatL (B K : Nat → Int32) : Nat → List Int32
  | 0 => []
  | n + 1 => gatL B K n ++ (if K n = 0 then [] else ownL B n)
/-- L, the first k boxes of M carved away -/
def difJ (L M : List Int32) : Nat → List Int32
  | 0 => L
  | k + 1 => subL (difJ L M k) (M.getD k 0)
def difL (L M : List Int32) : List Int32 := difJ L M M.length
def volL : List Int32 → Int32
  | [] => 0
  | x :: L => bVol x + volL L
/-- the loop's own sum, from the front -/
def volA (L : List Int32) : Nat → Int32
  | 0 => 0
  | k + 1 => volA L k + bVol (L.getD k 0)
def lowA (g : Int32) (L : List Int32) : Nat → Int32
  | 0 => g
  | k + 1 => if lowA g L k = (-3) ∨ bCor (L.getD k 0) < lowA g L k then bCor (L.getD k 0) else lowA g L k
theorem subL_take {L : List Int32} {i : Nat} (c : Int32) (h : i < L.length) : subL (L.take (i + 1)) c = subL (L.take i) c ++ sub1 c (L.getD i 0) := by
  rw [take_s h, subL, subL, List.flatMap_append]
  simp
theorem subL_pre {L : List Int32} (c : Int32) (i : Nat) : (subL (L.take i) c).length ≤ (subL L c).length := by
  have h : subL L c = subL (L.take i) c ++ subL (L.drop i) c := by
    rw [subL, subL, subL, ← List.flatMap_append, List.take_append_drop]
  rw [h, List.length_append]
  omega
/-- the first place from i on, of n, that p takes; else -3 -/
def fsm (p : Nat → Bool) : Nat → Nat → Int32
  | _, 0 => (-3)
  | i, n + 1 => if p i = true then nI i else fsm p (i + 1) n
/-- whether p takes one of n places from i on -/
def anb (p : Nat → Bool) : Nat → Nat → Bool
  | _, 0 => false
  | i, n + 1 => p i || anb p (i + 1) n
theorem fsm_t {p : Nat → Bool} {i : Nat} (n : Nat) (h : p i = true) : fsm p i (n + 1) = nI i := by rw [fsm, if_pos h]
theorem fsm_f {p : Nat → Bool} {i : Nat} (n : Nat) (h : ¬ p i = true) : fsm p i (n + 1) = fsm p (i + 1) n := by rw [fsm, if_neg h]
theorem anb_t {p : Nat → Bool} {i : Nat} (n : Nat) (h : p i = true) : anb p i (n + 1) = true := by rw [anb, h, Bool.true_or]
theorem anb_f {p : Nat → Bool} {i : Nat} (n : Nat) (h : ¬ p i = true) : anb p i (n + 1) = anb p (i + 1) n := by rw [anb, Bool.eq_false_iff.mpr h, Bool.false_or]
theorem anb_iff (p : Nat → Bool) : ∀ n i, anb p i n = true ↔ ∃ k, i ≤ k ∧ k < i + n ∧ p k = true
  | 0, i => by simp only [anb, Bool.false_eq_true, false_iff]; rintro ⟨k, h1, h2, -⟩; omega
  | n + 1, i => by
    rw [anb, Bool.or_eq_true, anb_iff p n (i + 1)]
    constructor
    · rintro (h | ⟨k, h1, h2, h3⟩)
      · exact ⟨i, Nat.le_refl _, by omega, h⟩
      · exact ⟨k, by omega, by omega, h3⟩
    · rintro ⟨k, h1, h2, h3⟩
      by_cases e : k = i
      · exact Or.inl (e ▸ h3)
      · exact Or.inr ⟨k, by omega, by omega, h3⟩
theorem anb_0 {p : Nat → Bool} {n : Nat} : anb p 0 n = true ↔ ∃ k, k < n ∧ p k = true := by
  rw [anb_iff]
  constructor
  · rintro ⟨k, -, h2, h3⟩; exact ⟨k, by omega, h3⟩
  · rintro ⟨k, h2, h3⟩; exact ⟨k, Nat.zero_le _, by omega, h3⟩
def smA (f : Nat → Int32) : Nat → Int32
  | 0 => 0
  | k + 1 => smA f k + f k
/-- rule i's packets, carved by the rules behind it -/
def repJ (B : Nat → Int32) (L : List Int32) (i : Nat) : Nat → List Int32
  | 0 => L
  | m + 1 => subL (repJ B L i m) (B (i + 1 + m))
abbrev hits (L : List Int32) (b : Int32) : Bool := anb (fun t => decide (bMt (L.getD t 0) b)) 0 L.length
def ovrB (B K : Nat → Int32) (i : Nat) : Bool := anb (fun j => !decide (K j = K i) && hits (ownL B j) (B i)) 0 i
def badB (B K : Nat → Int32) (L : List Int32) (i n : Nat) : Bool := anb (fun m => !decide (K (i + 1 + m) = K i) && hits (repJ B L i m) (B (i + 1 + m))) 0 (n - (i + 1))
def repB (B K : Nat → Int32) (L : List Int32) (i n : Nat) : Bool := !badB B K L i n && (decide (repJ B L i (n - (i + 1)) = []) || decide (K i = 0))
def corB (B K : Nat → Int32) (i : Nat) : Bool := anb (fun j => !decide (K j = K i) && decide (bMt (B i) (B j)) && !decide (bIn (B j) (B i)) && !decide (bIn (B i) (B j))) 0 i
def genB (B K : Nat → Int32) (i : Nat) : Bool := anb (fun j => !decide (K j = K i) && decide (bMt (B i) (B j)) && decide (bIn (B j) (B i))) 0 i
def fltB (e o r c g : Bool) : Int32 := if e = true then (if o = true then 1 else 2) else if r = true then 3 else if c = true then 4 else if g = true then 5 else 0
def ptx (x y z : Int32) : Int32 := ((((((x <<< ((14 : Int32) &&& 31)) ||| (x <<< ((10 : Int32) &&& 31))) ||| (y <<< ((6 : Int32) &&& 31))) ||| (y <<< ((2 : Int32) &&& 31))) ||| (z <<< ((1 : Int32) &&& 31))) ||| z)
theorem difJ_nil {L M : List Int32} {k : Nat} (h : difJ L M k = []) : ∀ d, difJ L M (k + d) = []
  | 0 => h
  | d + 1 => by
    rw [← Nat.add_assoc, difJ, difJ_nil h d]
    rfl
theorem nI_len0 {L : List Int32} (h : L.length ≤ 512) : nI L.length = 0 ↔ L = [] := by
  rw [← nI_0, nI_eq (by omega) (by omega)]
  exact List.length_eq_zero_iff
abbrev isR (x : Int32) (N : Nat) : Prop := 0 ≤ x ∧ x < nI N
theorem isR_ix {x : Int32} {N : Nat} (hN : N ≤ 10) (h : isR x N) : ∃ i : Nat, i < N ∧ x = nI i := by
  obtain ⟨j, hj, rfl⟩ := nI_of (x := x) (i_le_nlt0 h.1)
  exact ⟨j, (nI_ltI hj (by omega)).mp h.2, rfl⟩
abbrev ix (x : Int32) : Nat := x.toNatClampNeg
theorem ix_nI {i : Nat} (h : i < 10) : ix (nI i) = i := nI_clamp (by omega)
def okR (x y z : Int32) : Prop := 0 ≤ x ∧ x ≤ 1 ∧ 0 ≤ y ∧ y ≤ 15 ∧ 0 ≤ z ∧ z ≤ 15 ∧ y ≤ z
def okI (x y : Int32) (N : Nat) : Prop := 0 ≤ x ∧ x ≤ nI N ∧ 0 ≤ y ∧ y ≤ 1
def drx (d x y z : Int32) : Int32 := if x = 0 then (((d &&& (((255 : Int32) <<< ((10 : Int32) &&& 31)) ^^^ (-1))) ||| (y <<< ((10 + 4 : Int32) &&& 31))) ||| (z <<< ((10 : Int32) &&& 31))) else (((d &&& (((255 : Int32) <<< ((2 : Int32) &&& 31)) ^^^ (-1))) ||| (y <<< ((2 + 4 : Int32) &&& 31))) ||| (z <<< ((2 : Int32) &&& 31)))
def dsx (d x : Int32) : Int32 := (d &&& (-4)) ||| (if x = 0 then 0 else if x = 1 then 3 else 1)
theorem i01 {y : Int32} (h1 : 0 ≤ y) (h2 : y ≤ 1) : y = 0 ∨ y = 1 := by
  rw [i_le] at h1 h2
  have e0 : (0 : Int32).toInt = 0 := by decide
  have e1 : (1 : Int32).toInt = 1 := by decide
  have h5 : y.toInt = 0 ∨ y.toInt = 1 := by omega
  rcases h5 with h5 | h5
  · exact Or.inl (Int32.toInt_inj.mp (by rw [h5, e0]))
  · exact Or.inr (Int32.toInt_inj.mp (by rw [h5, e1]))
end
section
/-! X0: the box methods (they read nothing but their arguments) -/
set_option maxRecDepth 100000
set_option maxHeartbeats 4000000 in
theorem metx_fromS (l : Launch) (G : GT) (hD : XD G) (f0 : Int32) (f1 : Int32) (B : Nat → Int32) (K : Nat → Int32) (w : Nat → Int32) (wc : Int32) (q : Nat → Int32) (qc : Int32) (a : Nat → Int32) (ac : Int32) (v : Nat → Int32) (vc : Int32) (b : Int32)   : Met l yX0_fromS (ws_ yX0_fromS cX0_fromS 2 (some .int)) (rmd 0) (xPc G (f0, f1, B, K, w, wc, q, qc, a, ac, v, vc) [.int b]) (QcRead (bFs b)) 0 0 (fun _ => False) := by
  refine gMet (Rn := RX0) (by decide +kernel) rfl (Nat.le_of_ble_eq_true rfl) hD ?_
  intro p e s m below meth c ls C hr hlocks hI hl
  have hR := RL.rm 0
  have hx := C.1.1
  have hb := C.1.2.1
  have hl : lv_has ls 2 [(0, .ref (G.2.1 0)), (1, .int b)] := hl
  refine lv_iload_n hx hb dX0_fromS_0 rfl (lv_at hl 1 rfl) ?_
  refine lv_bipush (v := 14) hx hb dX0_fromS_1 (by decide) ?_
  refine lv_ishr hx hb dX0_fromS_3 ?_
  refine lv_bipush (v := 15) hx hb dX0_fromS_4 (by decide) ?_
  refine lv_iand hx hb dX0_fromS_6 ?_
  exact e_read hx hb hr hlocks rfl dX0_fromS_7
set_option maxHeartbeats 4000000 in
theorem metx_toS (l : Launch) (G : GT) (hD : XD G) (f0 : Int32) (f1 : Int32) (B : Nat → Int32) (K : Nat → Int32) (w : Nat → Int32) (wc : Int32) (q : Nat → Int32) (qc : Int32) (a : Nat → Int32) (ac : Int32) (v : Nat → Int32) (vc : Int32) (b : Int32)   : Met l yX0_toS (ws_ yX0_toS cX0_toS 2 (some .int)) (rmd 0) (xPc G (f0, f1, B, K, w, wc, q, qc, a, ac, v, vc) [.int b]) (QcRead (bTs b)) 0 0 (fun _ => False) := by
  refine gMet (Rn := RX0) (by decide +kernel) rfl (Nat.le_of_ble_eq_true rfl) hD ?_
  intro p e s m below meth c ls C hr hlocks hI hl
  have hR := RL.rm 0
  have hx := C.1.1
  have hb := C.1.2.1
  have hl : lv_has ls 2 [(0, .ref (G.2.1 0)), (1, .int b)] := hl
  refine lv_iload_n hx hb dX0_toS_0 rfl (lv_at hl 1 rfl) ?_
  refine lv_bipush (v := 10) hx hb dX0_toS_1 (by decide) ?_
  refine lv_ishr hx hb dX0_toS_3 ?_
  refine lv_bipush (v := 15) hx hb dX0_toS_4 (by decide) ?_
  refine lv_iand hx hb dX0_toS_6 ?_
  exact e_read hx hb hr hlocks rfl dX0_toS_7
set_option maxHeartbeats 4000000 in
theorem metx_fromD (l : Launch) (G : GT) (hD : XD G) (f0 : Int32) (f1 : Int32) (B : Nat → Int32) (K : Nat → Int32) (w : Nat → Int32) (wc : Int32) (q : Nat → Int32) (qc : Int32) (a : Nat → Int32) (ac : Int32) (v : Nat → Int32) (vc : Int32) (b : Int32)   : Met l yX0_fromD (ws_ yX0_fromD cX0_fromD 2 (some .int)) (rmd 0) (xPc G (f0, f1, B, K, w, wc, q, qc, a, ac, v, vc) [.int b]) (QcRead (bFd b)) 0 0 (fun _ => False) := by
  refine gMet (Rn := RX0) (by decide +kernel) rfl (Nat.le_of_ble_eq_true rfl) hD ?_
  intro p e s m below meth c ls C hr hlocks hI hl
  have hR := RL.rm 0
  have hx := C.1.1
  have hb := C.1.2.1
  have hl : lv_has ls 2 [(0, .ref (G.2.1 0)), (1, .int b)] := hl
  refine lv_iload_n hx hb dX0_fromD_0 rfl (lv_at hl 1 rfl) ?_
  refine lv_bipush (v := 6) hx hb dX0_fromD_1 (by decide) ?_
  refine lv_ishr hx hb dX0_fromD_3 ?_
  refine lv_bipush (v := 15) hx hb dX0_fromD_4 (by decide) ?_
  refine lv_iand hx hb dX0_fromD_6 ?_
  exact e_read hx hb hr hlocks rfl dX0_fromD_7
set_option maxHeartbeats 4000000 in
theorem metx_toD (l : Launch) (G : GT) (hD : XD G) (f0 : Int32) (f1 : Int32) (B : Nat → Int32) (K : Nat → Int32) (w : Nat → Int32) (wc : Int32) (q : Nat → Int32) (qc : Int32) (a : Nat → Int32) (ac : Int32) (v : Nat → Int32) (vc : Int32) (b : Int32)   : Met l yX0_toD (ws_ yX0_toD cX0_toD 2 (some .int)) (rmd 0) (xPc G (f0, f1, B, K, w, wc, q, qc, a, ac, v, vc) [.int b]) (QcRead (bTd b)) 0 0 (fun _ => False) := by
  refine gMet (Rn := RX0) (by decide +kernel) rfl (Nat.le_of_ble_eq_true rfl) hD ?_
  intro p e s m below meth c ls C hr hlocks hI hl
  have hR := RL.rm 0
  have hx := C.1.1
  have hb := C.1.2.1
  have hl : lv_has ls 2 [(0, .ref (G.2.1 0)), (1, .int b)] := hl
  refine lv_iload_n hx hb dX0_toD_0 rfl (lv_at hl 1 rfl) ?_
  refine lv_iconst (v := 2) hx hb dX0_toD_1 (by decide) ?_
  refine lv_ishr hx hb dX0_toD_2 ?_
  refine lv_bipush (v := 15) hx hb dX0_toD_3 (by decide) ?_
  refine lv_iand hx hb dX0_toD_5 ?_
  exact e_read hx hb hr hlocks rfl dX0_toD_6
set_option maxHeartbeats 4000000 in
theorem metx_fromP (l : Launch) (G : GT) (hD : XD G) (f0 : Int32) (f1 : Int32) (B : Nat → Int32) (K : Nat → Int32) (w : Nat → Int32) (wc : Int32) (q : Nat → Int32) (qc : Int32) (a : Nat → Int32) (ac : Int32) (v : Nat → Int32) (vc : Int32) (b : Int32)   : Met l yX0_fromP (ws_ yX0_fromP cX0_fromP 2 (some .int)) (rmd 0) (xPc G (f0, f1, B, K, w, wc, q, qc, a, ac, v, vc) [.int b]) (QcRead (bFp b)) 0 0 (fun _ => False) := by
  refine gMet (Rn := RX0) (by decide +kernel) rfl (Nat.le_of_ble_eq_true rfl) hD ?_
  intro p e s m below meth c ls C hr hlocks hI hl
  have hR := RL.rm 0
  have hx := C.1.1
  have hb := C.1.2.1
  have hl : lv_has ls 2 [(0, .ref (G.2.1 0)), (1, .int b)] := hl
  refine lv_iload_n hx hb dX0_fromP_0 rfl (lv_at hl 1 rfl) ?_
  refine lv_iconst (v := 1) hx hb dX0_fromP_1 (by decide) ?_
  refine lv_ishr hx hb dX0_fromP_2 ?_
  refine lv_iconst (v := 1) hx hb dX0_fromP_3 (by decide) ?_
  refine lv_iand hx hb dX0_fromP_4 ?_
  exact e_read hx hb hr hlocks rfl dX0_fromP_5
set_option maxHeartbeats 4000000 in
theorem metx_toP (l : Launch) (G : GT) (hD : XD G) (f0 : Int32) (f1 : Int32) (B : Nat → Int32) (K : Nat → Int32) (w : Nat → Int32) (wc : Int32) (q : Nat → Int32) (qc : Int32) (a : Nat → Int32) (ac : Int32) (v : Nat → Int32) (vc : Int32) (b : Int32)   : Met l yX0_toP (ws_ yX0_toP cX0_toP 2 (some .int)) (rmd 0) (xPc G (f0, f1, B, K, w, wc, q, qc, a, ac, v, vc) [.int b]) (QcRead (bTp b)) 0 0 (fun _ => False) := by
  refine gMet (Rn := RX0) (by decide +kernel) rfl (Nat.le_of_ble_eq_true rfl) hD ?_
  intro p e s m below meth c ls C hr hlocks hI hl
  have hR := RL.rm 0
  have hx := C.1.1
  have hb := C.1.2.1
  have hl : lv_has ls 2 [(0, .ref (G.2.1 0)), (1, .int b)] := hl
  refine lv_iload_n hx hb dX0_toP_0 rfl (lv_at hl 1 rfl) ?_
  refine lv_iconst (v := 1) hx hb dX0_toP_1 (by decide) ?_
  refine lv_iand hx hb dX0_toP_2 ?_
  exact e_read hx hb hr hlocks rfl dX0_toP_3
set_option maxHeartbeats 4000000 in
theorem metx_withS (l : Launch) (G : GT) (hD : XD G) (f0 : Int32) (f1 : Int32) (B : Nat → Int32) (K : Nat → Int32) (w : Nat → Int32) (wc : Int32) (q : Nat → Int32) (qc : Int32) (a : Nat → Int32) (ac : Int32) (v : Nat → Int32) (vc : Int32) (b : Int32) (f : Int32) (t : Int32)   : Met l yX0_withS (ws_ yX0_withS cX0_withS 4 (some .int)) (rmd 0) (xPc G (f0, f1, B, K, w, wc, q, qc, a, ac, v, vc) [.int b, .int f, .int t]) (QcRead (bWs b f t)) 0 0 (fun _ => False) := by
  refine gMet (Rn := RX0) (by decide +kernel) rfl (Nat.le_of_ble_eq_true rfl) hD ?_
  intro p e s m below meth c ls C hr hlocks hI hl
  have hR := RL.rm 0
  have hx := C.1.1
  have hb := C.1.2.1
  have hl : lv_has ls 4 [(0, .ref (G.2.1 0)), (1, .int b), (2, .int f), (3, .int t)] := hl
  refine lv_iload_n hx hb dX0_withS_0 rfl (lv_at hl 1 rfl) ?_
  refine lv_sipush (v := 1023) hx hb dX0_withS_1 (by decide) ?_
  refine lv_iand hx hb dX0_withS_4 ?_
  refine lv_iload_n hx hb dX0_withS_5 rfl (lv_at hl 2 rfl) ?_
  refine lv_bipush (v := 14) hx hb dX0_withS_6 (by decide) ?_
  refine lv_ishl hx hb dX0_withS_8 ?_
  refine lv_ior hx hb dX0_withS_9 ?_
  refine lv_iload_n hx hb dX0_withS_10 rfl (lv_at hl 3 rfl) ?_
  refine lv_bipush (v := 10) hx hb dX0_withS_11 (by decide) ?_
  refine lv_ishl hx hb dX0_withS_13 ?_
  refine lv_ior hx hb dX0_withS_14 ?_
  exact e_read hx hb hr hlocks rfl dX0_withS_15
set_option maxHeartbeats 4000000 in
theorem metx_withD (l : Launch) (G : GT) (hD : XD G) (f0 : Int32) (f1 : Int32) (B : Nat → Int32) (K : Nat → Int32) (w : Nat → Int32) (wc : Int32) (q : Nat → Int32) (qc : Int32) (a : Nat → Int32) (ac : Int32) (v : Nat → Int32) (vc : Int32) (b : Int32) (f : Int32) (t : Int32)   : Met l yX0_withD (ws_ yX0_withD cX0_withD 4 (some .int)) (rmd 0) (xPc G (f0, f1, B, K, w, wc, q, qc, a, ac, v, vc) [.int b, .int f, .int t]) (QcRead (bWd b f t)) 0 0 (fun _ => False) := by
  refine gMet (Rn := RX0) (by decide +kernel) rfl (Nat.le_of_ble_eq_true rfl) hD ?_
  intro p e s m below meth c ls C hr hlocks hI hl
  have hR := RL.rm 0
  have hx := C.1.1
  have hb := C.1.2.1
  have hl : lv_has ls 4 [(0, .ref (G.2.1 0)), (1, .int b), (2, .int f), (3, .int t)] := hl
  refine lv_iload_n hx hb dX0_withD_0 rfl (lv_at hl 1 rfl) ?_
  refine lv_sipush (v := (-1021 : Int32)) hx hb dX0_withD_1 (by decide) ?_
  refine lv_iand hx hb dX0_withD_4 ?_
  refine lv_iload_n hx hb dX0_withD_5 rfl (lv_at hl 2 rfl) ?_
  refine lv_bipush (v := 6) hx hb dX0_withD_6 (by decide) ?_
  refine lv_ishl hx hb dX0_withD_8 ?_
  refine lv_ior hx hb dX0_withD_9 ?_
  refine lv_iload_n hx hb dX0_withD_10 rfl (lv_at hl 3 rfl) ?_
  refine lv_iconst (v := 2) hx hb dX0_withD_11 (by decide) ?_
  refine lv_ishl hx hb dX0_withD_12 ?_
  refine lv_ior hx hb dX0_withD_13 ?_
  exact e_read hx hb hr hlocks rfl dX0_withD_14
section KA
variable {p : Program} {l : Launch} {e : Env} {R : Room} {s : State} {m : MethodId} {args : Array Value} {below : List Frame} {meth : Method} {c : Code} {H : Heap} {locs : List Loc} {Q : State → Prop} {G : GT}
theorem kx_fromS {cc : ByteArray} {nL pc : Nat} {ls : Array Slot} {rest : List Value} {f0 : Int32} {f1 : Int32} {B : Nat → Int32} {K : Nat → Int32} {w : Nat → Int32} {wc : Int32} {q : Nat → Int32} {qc : Int32} {a : Nat → Int32} {ac : Int32} {v : Nat → Int32} {vc : Int32} {b : Int32}   (C : XC p s m args c cc nL G) (hI : XI G s (f0, f1, B, K, w, wc, q, qc, a, ac, v, vc) H locs) (hR : RL R 1) (hz : ls.size = nL) (hrm : (rest.map fun v => v.category).sum ≤ 8) (hd : decode cc pc = .ok (.invokevirtual 92, 3)) (kk : W p l e R s m args below meth c H locs 0 0 Q (F0 m (pc + 3) ls (.int (bFs b) :: rest))) : W p l e R s m args below meth c H locs 0 0 Q (F0 m pc ls (.int b :: .ref (G.2.1 0) :: rest)) :=
  g_pure (n := 1) (metx_fromS l G C.2.2 f0 f1 B K w wc q qc a ac v vc b) C hI rfl rfl rfl (lw_V q114 q116 qs2 q37 q117) (by decide +kernel) rfl rfl rfl ⟨hR.1, by have := hR.2; show 8 + (2 + 11) + 30 * 0 ≤ R.locals; omega⟩ hz rfl hrm hd kk
theorem kx_toS {cc : ByteArray} {nL pc : Nat} {ls : Array Slot} {rest : List Value} {f0 : Int32} {f1 : Int32} {B : Nat → Int32} {K : Nat → Int32} {w : Nat → Int32} {wc : Int32} {q : Nat → Int32} {qc : Int32} {a : Nat → Int32} {ac : Int32} {v : Nat → Int32} {vc : Int32} {b : Int32}   (C : XC p s m args c cc nL G) (hI : XI G s (f0, f1, B, K, w, wc, q, qc, a, ac, v, vc) H locs) (hR : RL R 1) (hz : ls.size = nL) (hrm : (rest.map fun v => v.category).sum ≤ 8) (hd : decode cc pc = .ok (.invokevirtual 121, 3)) (kk : W p l e R s m args below meth c H locs 0 0 Q (F0 m (pc + 3) ls (.int (bTs b) :: rest))) : W p l e R s m args below meth c H locs 0 0 Q (F0 m pc ls (.int b :: .ref (G.2.1 0) :: rest)) :=
  g_pure (n := 1) (metx_toS l G C.2.2 f0 f1 B K w wc q qc a ac v vc b) C hI rfl rfl rfl (lw_V q118 q120 qs3 q37 q121) (by decide +kernel) rfl rfl rfl ⟨hR.1, by have := hR.2; show 8 + (2 + 11) + 30 * 0 ≤ R.locals; omega⟩ hz rfl hrm hd kk
theorem kx_fromD {cc : ByteArray} {nL pc : Nat} {ls : Array Slot} {rest : List Value} {f0 : Int32} {f1 : Int32} {B : Nat → Int32} {K : Nat → Int32} {w : Nat → Int32} {wc : Int32} {q : Nat → Int32} {qc : Int32} {a : Nat → Int32} {ac : Int32} {v : Nat → Int32} {vc : Int32} {b : Int32}   (C : XC p s m args c cc nL G) (hI : XI G s (f0, f1, B, K, w, wc, q, qc, a, ac, v, vc) H locs) (hR : RL R 1) (hz : ls.size = nL) (hrm : (rest.map fun v => v.category).sum ≤ 8) (hd : decode cc pc = .ok (.invokevirtual 95, 3)) (kk : W p l e R s m args below meth c H locs 0 0 Q (F0 m (pc + 3) ls (.int (bFd b) :: rest))) : W p l e R s m args below meth c H locs 0 0 Q (F0 m pc ls (.int b :: .ref (G.2.1 0) :: rest)) :=
  g_pure (n := 1) (metx_fromD l G C.2.2 f0 f1 B K w wc q qc a ac v vc b) C hI rfl rfl rfl (lw_V q122 q124 qs4 q37 q125) (by decide +kernel) rfl rfl rfl ⟨hR.1, by have := hR.2; show 8 + (2 + 11) + 30 * 0 ≤ R.locals; omega⟩ hz rfl hrm hd kk
theorem kx_toD {cc : ByteArray} {nL pc : Nat} {ls : Array Slot} {rest : List Value} {f0 : Int32} {f1 : Int32} {B : Nat → Int32} {K : Nat → Int32} {w : Nat → Int32} {wc : Int32} {q : Nat → Int32} {qc : Int32} {a : Nat → Int32} {ac : Int32} {v : Nat → Int32} {vc : Int32} {b : Int32}   (C : XC p s m args c cc nL G) (hI : XI G s (f0, f1, B, K, w, wc, q, qc, a, ac, v, vc) H locs) (hR : RL R 1) (hz : ls.size = nL) (hrm : (rest.map fun v => v.category).sum ≤ 8) (hd : decode cc pc = .ok (.invokevirtual 128, 3)) (kk : W p l e R s m args below meth c H locs 0 0 Q (F0 m (pc + 3) ls (.int (bTd b) :: rest))) : W p l e R s m args below meth c H locs 0 0 Q (F0 m pc ls (.int b :: .ref (G.2.1 0) :: rest)) :=
  g_pure (n := 1) (metx_toD l G C.2.2 f0 f1 B K w wc q qc a ac v vc b) C hI rfl rfl rfl (lw_V q126 q128 qs5 q37 q129) (by decide +kernel) rfl rfl rfl ⟨hR.1, by have := hR.2; show 8 + (2 + 11) + 30 * 0 ≤ R.locals; omega⟩ hz rfl hrm hd kk
theorem kx_fromP {cc : ByteArray} {nL pc : Nat} {ls : Array Slot} {rest : List Value} {f0 : Int32} {f1 : Int32} {B : Nat → Int32} {K : Nat → Int32} {w : Nat → Int32} {wc : Int32} {q : Nat → Int32} {qc : Int32} {a : Nat → Int32} {ac : Int32} {v : Nat → Int32} {vc : Int32} {b : Int32}   (C : XC p s m args c cc nL G) (hI : XI G s (f0, f1, B, K, w, wc, q, qc, a, ac, v, vc) H locs) (hR : RL R 1) (hz : ls.size = nL) (hrm : (rest.map fun v => v.category).sum ≤ 8) (hd : decode cc pc = .ok (.invokevirtual 98, 3)) (kk : W p l e R s m args below meth c H locs 0 0 Q (F0 m (pc + 3) ls (.int (bFp b) :: rest))) : W p l e R s m args below meth c H locs 0 0 Q (F0 m pc ls (.int b :: .ref (G.2.1 0) :: rest)) :=
  g_pure (n := 1) (metx_fromP l G C.2.2 f0 f1 B K w wc q qc a ac v vc b) C hI rfl rfl rfl (lw_V q130 q132 qs6 q37 q133) (by decide +kernel) rfl rfl rfl ⟨hR.1, by have := hR.2; show 8 + (2 + 11) + 30 * 0 ≤ R.locals; omega⟩ hz rfl hrm hd kk
theorem kx_toP {cc : ByteArray} {nL pc : Nat} {ls : Array Slot} {rest : List Value} {f0 : Int32} {f1 : Int32} {B : Nat → Int32} {K : Nat → Int32} {w : Nat → Int32} {wc : Int32} {q : Nat → Int32} {qc : Int32} {a : Nat → Int32} {ac : Int32} {v : Nat → Int32} {vc : Int32} {b : Int32}   (C : XC p s m args c cc nL G) (hI : XI G s (f0, f1, B, K, w, wc, q, qc, a, ac, v, vc) H locs) (hR : RL R 1) (hz : ls.size = nL) (hrm : (rest.map fun v => v.category).sum ≤ 8) (hd : decode cc pc = .ok (.invokevirtual 118, 3)) (kk : W p l e R s m args below meth c H locs 0 0 Q (F0 m (pc + 3) ls (.int (bTp b) :: rest))) : W p l e R s m args below meth c H locs 0 0 Q (F0 m pc ls (.int b :: .ref (G.2.1 0) :: rest)) :=
  g_pure (n := 1) (metx_toP l G C.2.2 f0 f1 B K w wc q qc a ac v vc b) C hI rfl rfl rfl (lw_V q134 q136 qs7 q37 q137) (by decide +kernel) rfl rfl rfl ⟨hR.1, by have := hR.2; show 8 + (2 + 11) + 30 * 0 ≤ R.locals; omega⟩ hz rfl hrm hd kk
theorem kx_withS {cc : ByteArray} {nL pc : Nat} {ls : Array Slot} {rest : List Value} {f0 : Int32} {f1 : Int32} {B : Nat → Int32} {K : Nat → Int32} {w : Nat → Int32} {wc : Int32} {q : Nat → Int32} {qc : Int32} {a : Nat → Int32} {ac : Int32} {v : Nat → Int32} {vc : Int32} {b : Int32} {f : Int32} {t : Int32}   (C : XC p s m args c cc nL G) (hI : XI G s (f0, f1, B, K, w, wc, q, qc, a, ac, v, vc) H locs) (hR : RL R 1) (hz : ls.size = nL) (hrm : (rest.map fun v => v.category).sum ≤ 8) (hd : decode cc pc = .ok (.invokevirtual 124, 3)) (kk : W p l e R s m args below meth c H locs 0 0 Q (F0 m (pc + 3) ls (.int (bWs b f t) :: rest))) : W p l e R s m args below meth c H locs 0 0 Q (F0 m pc ls (.int t :: .int f :: .int b :: .ref (G.2.1 0) :: rest)) :=
  g_pure (n := 3) (metx_withS l G C.2.2 f0 f1 B K w wc q qc a ac v vc b f t) C hI rfl rfl rfl (lw_V q162 q164 qs13 q37 q165) (by decide +kernel) rfl rfl rfl ⟨hR.1, by have := hR.2; show 8 + (4 + 11) + 30 * 0 ≤ R.locals; omega⟩ hz rfl hrm hd kk
theorem kx_withD {cc : ByteArray} {nL pc : Nat} {ls : Array Slot} {rest : List Value} {f0 : Int32} {f1 : Int32} {B : Nat → Int32} {K : Nat → Int32} {w : Nat → Int32} {wc : Int32} {q : Nat → Int32} {qc : Int32} {a : Nat → Int32} {ac : Int32} {v : Nat → Int32} {vc : Int32} {b : Int32} {f : Int32} {t : Int32}   (C : XC p s m args c cc nL G) (hI : XI G s (f0, f1, B, K, w, wc, q, qc, a, ac, v, vc) H locs) (hR : RL R 1) (hz : ls.size = nL) (hrm : (rest.map fun v => v.category).sum ≤ 8) (hd : decode cc pc = .ok (.invokevirtual 131, 3)) (kk : W p l e R s m args below meth c H locs 0 0 Q (F0 m (pc + 3) ls (.int (bWd b f t) :: rest))) : W p l e R s m args below meth c H locs 0 0 Q (F0 m pc ls (.int t :: .int f :: .int b :: .ref (G.2.1 0) :: rest)) :=
  g_pure (n := 3) (metx_withD l G C.2.2 f0 f1 B K w wc q qc a ac v vc b f t) C hI rfl rfl rfl (lw_V q174 q176 qs16 q37 q177) (by decide +kernel) rfl rfl rfl ⟨hR.1, by have := hR.2; show 8 + (4 + 11) + 30 * 0 ≤ R.locals; omega⟩ hz rfl hrm hd kk
end KA
set_option maxHeartbeats 4000000 in
theorem metx_volume (l : Launch) (G : GT) (hD : XD G) (f0 : Int32) (f1 : Int32) (B : Nat → Int32) (K : Nat → Int32) (w : Nat → Int32) (wc : Int32) (q : Nat → Int32) (qc : Int32) (a : Nat → Int32) (ac : Int32) (v : Nat → Int32) (vc : Int32) (b : Int32)   : Met l yX0_volume (ws_ yX0_volume cX0_volume 5 (some .int)) (rmd 1) (xPc G (f0, f1, B, K, w, wc, q, qc, a, ac, v, vc) [.int b]) (QcRead (bVol b)) 0 0 (fun _ => False) := by
  refine gMet (Rn := RX0) (by decide +kernel) rfl (Nat.le_of_ble_eq_true rfl) hD ?_
  intro p e s m below meth c ls C hr hlocks hI hl
  have hR := RL.rm 1
  have hx := C.1.1
  have hb := C.1.2.1
  have hl : lv_has ls 5 [(0, .ref (G.2.1 0)), (1, .int b)] := hl
  refine lv_aload_n hx hb dX0_volume_0 rfl (lv_at hl 0 rfl) ?_
  refine lv_iload_n hx hb dX0_volume_1 rfl (lv_at hl 1 rfl) ?_
  refine kx_toS C hI (hR.le (by decide)) hl.1 (Nat.le_of_ble_eq_true rfl) dX0_volume_2 ?_
  refine lv_aload_n hx hb dX0_volume_5 rfl (lv_at hl 0 rfl) ?_
  refine lv_iload_n hx hb dX0_volume_6 rfl (lv_at hl 1 rfl) ?_
  refine kx_fromS C hI (hR.le (by decide)) hl.1 (Nat.le_of_ble_eq_true rfl) dX0_volume_7 ?_
  refine lv_isub hx hb dX0_volume_10 ?_
  refine lv_iconst (v := 1) hx hb dX0_volume_11 (by decide) ?_
  refine lv_iadd hx hb dX0_volume_12 ?_
  refine lv_istore_n (lv' := [(2, .int (((bTs b) - (bFs b)) + 1)), (0, .ref (G.2.1 0)), (1, .int b)]) hx hb dX0_volume_13 rfl hl (by decide) rfl (fun ls hl => ?_)
  refine lv_aload_n hx hb dX0_volume_14 rfl (lv_at hl 1 rfl) ?_
  refine lv_iload_n hx hb dX0_volume_15 rfl (lv_at hl 2 rfl) ?_
  refine kx_toD C hI (hR.le (by decide)) hl.1 (Nat.le_of_ble_eq_true rfl) dX0_volume_16 ?_
  refine lv_aload_n hx hb dX0_volume_19 rfl (lv_at hl 1 rfl) ?_
  refine lv_iload_n hx hb dX0_volume_20 rfl (lv_at hl 2 rfl) ?_
  refine kx_fromD C hI (hR.le (by decide)) hl.1 (Nat.le_of_ble_eq_true rfl) dX0_volume_21 ?_
  refine lv_isub hx hb dX0_volume_24 ?_
  refine lv_iconst (v := 1) hx hb dX0_volume_25 (by decide) ?_
  refine lv_iadd hx hb dX0_volume_26 ?_
  refine lv_istore_n (lv' := [(3, .int (((bTd b) - (bFd b)) + 1)), (2, .int (((bTs b) - (bFs b)) + 1)), (0, .ref (G.2.1 0)), (1, .int b)]) hx hb dX0_volume_27 rfl hl (by decide) rfl (fun ls hl => ?_)
  refine lv_aload_n hx hb dX0_volume_28 rfl (lv_at hl 2 rfl) ?_
  refine lv_iload_n hx hb dX0_volume_29 rfl (lv_at hl 3 rfl) ?_
  refine kx_toP C hI (hR.le (by decide)) hl.1 (Nat.le_of_ble_eq_true rfl) dX0_volume_30 ?_
  refine lv_aload_n hx hb dX0_volume_33 rfl (lv_at hl 2 rfl) ?_
  refine lv_iload_n hx hb dX0_volume_34 rfl (lv_at hl 3 rfl) ?_
  refine kx_fromP C hI (hR.le (by decide)) hl.1 (Nat.le_of_ble_eq_true rfl) dX0_volume_35 ?_
  refine lv_isub hx hb dX0_volume_38 ?_
  refine lv_iconst (v := 1) hx hb dX0_volume_39 (by decide) ?_
  refine lv_iadd hx hb dX0_volume_40 ?_
  refine lv_istore (lv' := [(4, .int (((bTp b) - (bFp b)) + 1)), (3, .int (((bTd b) - (bFd b)) + 1)), (2, .int (((bTs b) - (bFs b)) + 1)), (0, .ref (G.2.1 0)), (1, .int b)]) hx hb dX0_volume_41 hl (by decide) rfl (fun ls hl => ?_)
  refine lv_iload_n hx hb dX0_volume_43 rfl (lv_at hl 2 rfl) ?_
  refine lv_iload_n hx hb dX0_volume_44 rfl (lv_at hl 1 rfl) ?_
  refine lv_imul hx hb dX0_volume_45 ?_
  refine lv_iload hx hb dX0_volume_46 (lv_at hl 0 rfl) ?_
  refine lv_imul hx hb dX0_volume_48 ?_
  exact e_read hx hb hr hlocks rfl dX0_volume_49
set_option maxHeartbeats 4000000 in
theorem metx_meets (l : Launch) (G : GT) (hD : XD G) (f0 : Int32) (f1 : Int32) (B : Nat → Int32) (K : Nat → Int32) (w : Nat → Int32) (wc : Int32) (q : Nat → Int32) (qc : Int32) (a : Nat → Int32) (ac : Int32) (v : Nat → Int32) (vc : Int32) (b : Int32) (k : Int32)   : Met l yX0_meets (ws_ yX0_meets cX0_meets 3 (some .boolean)) (rmd 1) (xPc G (f0, f1, B, K, w, wc, q, qc, a, ac, v, vc) [.int b, .int k]) (QcRead (if bMt b k then 1 else 0)) 0 0 (fun _ => False) := by
  refine gMet (Rn := RX0) (by decide +kernel) rfl (Nat.le_of_ble_eq_true rfl) hD ?_
  intro p e s m below meth c ls C hr hlocks hI hl
  have hR := RL.rm 1
  have hx := C.1.1
  have hb := C.1.2.1
  have hl : lv_has ls 3 [(0, .ref (G.2.1 0)), (1, .int b), (2, .int k)] := hl
  refine lv_aload_n hx hb dX0_meets_0 rfl (lv_at hl 0 rfl) ?_
  refine lv_iload_n hx hb dX0_meets_1 rfl (lv_at hl 1 rfl) ?_
  refine kx_fromS C hI (hR.le (by decide)) hl.1 (Nat.le_of_ble_eq_true rfl) dX0_meets_2 ?_
  refine lv_aload_n hx hb dX0_meets_5 rfl (lv_at hl 0 rfl) ?_
  refine lv_iload_n hx hb dX0_meets_6 rfl (lv_at hl 2 rfl) ?_
  refine kx_toS C hI (hR.le (by decide)) hl.1 (Nat.le_of_ble_eq_true rfl) dX0_meets_7 ?_
  refine lv_icmp_gt (tgt := 26) hx hb dX0_meets_10 (by decide) (fun c1 => ?_) (fun c1 => ?_)
  · refine lv_iconst (v := 0) hx hb dX0_meets_26 (by decide) ?_
    exact e_readz hx hb hr hlocks rfl (by rw [if_neg (by intro h; simp only [bMt, i_le, i_lt] at h c1; omega)]) dX0_meets_27
  · refine lv_aload_n hx hb dX0_meets_13 rfl (lv_at hl 0 rfl) ?_
    refine lv_iload_n hx hb dX0_meets_14 rfl (lv_at hl 2 rfl) ?_
    refine kx_fromS C hI (hR.le (by decide)) hl.1 (Nat.le_of_ble_eq_true rfl) dX0_meets_15 ?_
    refine lv_aload_n hx hb dX0_meets_18 rfl (lv_at hl 0 rfl) ?_
    refine lv_iload_n hx hb dX0_meets_19 rfl (lv_at hl 1 rfl) ?_
    refine kx_toS C hI (hR.le (by decide)) hl.1 (Nat.le_of_ble_eq_true rfl) dX0_meets_20 ?_
    refine lv_icmp_le (tgt := 28) hx hb dX0_meets_23 (by decide) (fun c2 => ?_) (fun c2 => ?_)
    · refine lv_aload_n hx hb dX0_meets_28 rfl (lv_at hl 0 rfl) ?_
      refine lv_iload_n hx hb dX0_meets_29 rfl (lv_at hl 1 rfl) ?_
      refine kx_fromD C hI (hR.le (by decide)) hl.1 (Nat.le_of_ble_eq_true rfl) dX0_meets_30 ?_
      refine lv_aload_n hx hb dX0_meets_33 rfl (lv_at hl 0 rfl) ?_
      refine lv_iload_n hx hb dX0_meets_34 rfl (lv_at hl 2 rfl) ?_
      refine kx_toD C hI (hR.le (by decide)) hl.1 (Nat.le_of_ble_eq_true rfl) dX0_meets_35 ?_
      refine lv_icmp_gt (tgt := 54) hx hb dX0_meets_38 (by decide) (fun c3 => ?_) (fun c3 => ?_)
      · refine lv_iconst (v := 0) hx hb dX0_meets_54 (by decide) ?_
        exact e_readz hx hb hr hlocks rfl (by rw [if_neg (by intro h; simp only [bMt, i_le, i_lt] at h c1 c2 c3; omega)]) dX0_meets_55
      · refine lv_aload_n hx hb dX0_meets_41 rfl (lv_at hl 0 rfl) ?_
        refine lv_iload_n hx hb dX0_meets_42 rfl (lv_at hl 2 rfl) ?_
        refine kx_fromD C hI (hR.le (by decide)) hl.1 (Nat.le_of_ble_eq_true rfl) dX0_meets_43 ?_
        refine lv_aload_n hx hb dX0_meets_46 rfl (lv_at hl 0 rfl) ?_
        refine lv_iload_n hx hb dX0_meets_47 rfl (lv_at hl 1 rfl) ?_
        refine kx_toD C hI (hR.le (by decide)) hl.1 (Nat.le_of_ble_eq_true rfl) dX0_meets_48 ?_
        refine lv_icmp_le (tgt := 56) hx hb dX0_meets_51 (by decide) (fun c4 => ?_) (fun c4 => ?_)
        · refine lv_aload_n hx hb dX0_meets_56 rfl (lv_at hl 0 rfl) ?_
          refine lv_iload_n hx hb dX0_meets_57 rfl (lv_at hl 1 rfl) ?_
          refine kx_fromP C hI (hR.le (by decide)) hl.1 (Nat.le_of_ble_eq_true rfl) dX0_meets_58 ?_
          refine lv_aload_n hx hb dX0_meets_61 rfl (lv_at hl 0 rfl) ?_
          refine lv_iload_n hx hb dX0_meets_62 rfl (lv_at hl 2 rfl) ?_
          refine kx_toP C hI (hR.le (by decide)) hl.1 (Nat.le_of_ble_eq_true rfl) dX0_meets_63 ?_
          refine lv_icmp_gt (tgt := 86) hx hb dX0_meets_66 (by decide) (fun c5 => ?_) (fun c5 => ?_)
          · refine lv_iconst (v := 0) hx hb dX0_meets_86 (by decide) ?_
            exact e_readz hx hb hr hlocks rfl (by rw [if_neg (by intro h; simp only [bMt, i_le, i_lt] at h c1 c2 c3 c4 c5; omega)]) dX0_meets_87
          · refine lv_aload_n hx hb dX0_meets_69 rfl (lv_at hl 0 rfl) ?_
            refine lv_iload_n hx hb dX0_meets_70 rfl (lv_at hl 2 rfl) ?_
            refine kx_fromP C hI (hR.le (by decide)) hl.1 (Nat.le_of_ble_eq_true rfl) dX0_meets_71 ?_
            refine lv_aload_n hx hb dX0_meets_74 rfl (lv_at hl 0 rfl) ?_
            refine lv_iload_n hx hb dX0_meets_75 rfl (lv_at hl 1 rfl) ?_
            refine kx_toP C hI (hR.le (by decide)) hl.1 (Nat.le_of_ble_eq_true rfl) dX0_meets_76 ?_
            refine lv_icmp_gt (tgt := 86) hx hb dX0_meets_79 (by decide) (fun c6 => ?_) (fun c6 => ?_)
            · refine lv_iconst (v := 0) hx hb dX0_meets_86 (by decide) ?_
              exact e_readz hx hb hr hlocks rfl (by rw [if_neg (by intro h; simp only [bMt, i_le, i_lt] at h c1 c2 c3 c4 c5 c6; omega)]) dX0_meets_87
            · refine lv_iconst (v := 1) hx hb dX0_meets_82 (by decide) ?_
              refine lv_goto (tgt := 87) hx hb dX0_meets_83 (by decide) ?_
              exact e_readz hx hb hr hlocks rfl (by rw [if_pos (by simp only [bMt, i_le, i_lt] at c1 c2 c3 c4 c5 c6 ⊢; omega)]) dX0_meets_87
        · refine lv_iconst (v := 0) hx hb dX0_meets_54 (by decide) ?_
          exact e_readz hx hb hr hlocks rfl (by rw [if_neg (by intro h; simp only [bMt, i_le, i_lt] at h c1 c2 c3 c4; omega)]) dX0_meets_55
    · refine lv_iconst (v := 0) hx hb dX0_meets_26 (by decide) ?_
      exact e_readz hx hb hr hlocks rfl (by rw [if_neg (by intro h; simp only [bMt, i_le, i_lt] at h c1 c2; omega)]) dX0_meets_27
set_option maxHeartbeats 4000000 in
theorem metx_within (l : Launch) (G : GT) (hD : XD G) (f0 : Int32) (f1 : Int32) (B : Nat → Int32) (K : Nat → Int32) (w : Nat → Int32) (wc : Int32) (q : Nat → Int32) (qc : Int32) (a : Nat → Int32) (ac : Int32) (v : Nat → Int32) (vc : Int32) (b : Int32) (k : Int32)   : Met l yX0_within (ws_ yX0_within cX0_within 3 (some .boolean)) (rmd 1) (xPc G (f0, f1, B, K, w, wc, q, qc, a, ac, v, vc) [.int b, .int k]) (QcRead (if bIn b k then 1 else 0)) 0 0 (fun _ => False) := by
  refine gMet (Rn := RX0) (by decide +kernel) rfl (Nat.le_of_ble_eq_true rfl) hD ?_
  intro p e s m below meth c ls C hr hlocks hI hl
  have hR := RL.rm 1
  have hx := C.1.1
  have hb := C.1.2.1
  have hl : lv_has ls 3 [(0, .ref (G.2.1 0)), (1, .int b), (2, .int k)] := hl
  refine lv_aload_n hx hb dX0_within_0 rfl (lv_at hl 0 rfl) ?_
  refine lv_iload_n hx hb dX0_within_1 rfl (lv_at hl 1 rfl) ?_
  refine kx_fromS C hI (hR.le (by decide)) hl.1 (Nat.le_of_ble_eq_true rfl) dX0_within_2 ?_
  refine lv_aload_n hx hb dX0_within_5 rfl (lv_at hl 0 rfl) ?_
  refine lv_iload_n hx hb dX0_within_6 rfl (lv_at hl 2 rfl) ?_
  refine kx_fromS C hI (hR.le (by decide)) hl.1 (Nat.le_of_ble_eq_true rfl) dX0_within_7 ?_
  refine lv_icmp_lt (tgt := 26) hx hb dX0_within_10 (by decide) (fun c1 => ?_) (fun c1 => ?_)
  · refine lv_iconst (v := 0) hx hb dX0_within_26 (by decide) ?_
    exact e_readz hx hb hr hlocks rfl (by rw [if_neg (by intro h; simp only [bIn, i_le, i_lt] at h c1; omega)]) dX0_within_27
  · refine lv_aload_n hx hb dX0_within_13 rfl (lv_at hl 0 rfl) ?_
    refine lv_iload_n hx hb dX0_within_14 rfl (lv_at hl 1 rfl) ?_
    refine kx_toS C hI (hR.le (by decide)) hl.1 (Nat.le_of_ble_eq_true rfl) dX0_within_15 ?_
    refine lv_aload_n hx hb dX0_within_18 rfl (lv_at hl 0 rfl) ?_
    refine lv_iload_n hx hb dX0_within_19 rfl (lv_at hl 2 rfl) ?_
    refine kx_toS C hI (hR.le (by decide)) hl.1 (Nat.le_of_ble_eq_true rfl) dX0_within_20 ?_
    refine lv_icmp_le (tgt := 28) hx hb dX0_within_23 (by decide) (fun c2 => ?_) (fun c2 => ?_)
    · refine lv_aload_n hx hb dX0_within_28 rfl (lv_at hl 0 rfl) ?_
      refine lv_iload_n hx hb dX0_within_29 rfl (lv_at hl 1 rfl) ?_
      refine kx_fromD C hI (hR.le (by decide)) hl.1 (Nat.le_of_ble_eq_true rfl) dX0_within_30 ?_
      refine lv_aload_n hx hb dX0_within_33 rfl (lv_at hl 0 rfl) ?_
      refine lv_iload_n hx hb dX0_within_34 rfl (lv_at hl 2 rfl) ?_
      refine kx_fromD C hI (hR.le (by decide)) hl.1 (Nat.le_of_ble_eq_true rfl) dX0_within_35 ?_
      refine lv_icmp_lt (tgt := 54) hx hb dX0_within_38 (by decide) (fun c3 => ?_) (fun c3 => ?_)
      · refine lv_iconst (v := 0) hx hb dX0_within_54 (by decide) ?_
        exact e_readz hx hb hr hlocks rfl (by rw [if_neg (by intro h; simp only [bIn, i_le, i_lt] at h c1 c2 c3; omega)]) dX0_within_55
      · refine lv_aload_n hx hb dX0_within_41 rfl (lv_at hl 0 rfl) ?_
        refine lv_iload_n hx hb dX0_within_42 rfl (lv_at hl 1 rfl) ?_
        refine kx_toD C hI (hR.le (by decide)) hl.1 (Nat.le_of_ble_eq_true rfl) dX0_within_43 ?_
        refine lv_aload_n hx hb dX0_within_46 rfl (lv_at hl 0 rfl) ?_
        refine lv_iload_n hx hb dX0_within_47 rfl (lv_at hl 2 rfl) ?_
        refine kx_toD C hI (hR.le (by decide)) hl.1 (Nat.le_of_ble_eq_true rfl) dX0_within_48 ?_
        refine lv_icmp_le (tgt := 56) hx hb dX0_within_51 (by decide) (fun c4 => ?_) (fun c4 => ?_)
        · refine lv_aload_n hx hb dX0_within_56 rfl (lv_at hl 0 rfl) ?_
          refine lv_iload_n hx hb dX0_within_57 rfl (lv_at hl 1 rfl) ?_
          refine kx_fromP C hI (hR.le (by decide)) hl.1 (Nat.le_of_ble_eq_true rfl) dX0_within_58 ?_
          refine lv_aload_n hx hb dX0_within_61 rfl (lv_at hl 0 rfl) ?_
          refine lv_iload_n hx hb dX0_within_62 rfl (lv_at hl 2 rfl) ?_
          refine kx_fromP C hI (hR.le (by decide)) hl.1 (Nat.le_of_ble_eq_true rfl) dX0_within_63 ?_
          refine lv_icmp_lt (tgt := 86) hx hb dX0_within_66 (by decide) (fun c5 => ?_) (fun c5 => ?_)
          · refine lv_iconst (v := 0) hx hb dX0_within_86 (by decide) ?_
            exact e_readz hx hb hr hlocks rfl (by rw [if_neg (by intro h; simp only [bIn, i_le, i_lt] at h c1 c2 c3 c4 c5; omega)]) dX0_within_87
          · refine lv_aload_n hx hb dX0_within_69 rfl (lv_at hl 0 rfl) ?_
            refine lv_iload_n hx hb dX0_within_70 rfl (lv_at hl 1 rfl) ?_
            refine kx_toP C hI (hR.le (by decide)) hl.1 (Nat.le_of_ble_eq_true rfl) dX0_within_71 ?_
            refine lv_aload_n hx hb dX0_within_74 rfl (lv_at hl 0 rfl) ?_
            refine lv_iload_n hx hb dX0_within_75 rfl (lv_at hl 2 rfl) ?_
            refine kx_toP C hI (hR.le (by decide)) hl.1 (Nat.le_of_ble_eq_true rfl) dX0_within_76 ?_
            refine lv_icmp_gt (tgt := 86) hx hb dX0_within_79 (by decide) (fun c6 => ?_) (fun c6 => ?_)
            · refine lv_iconst (v := 0) hx hb dX0_within_86 (by decide) ?_
              exact e_readz hx hb hr hlocks rfl (by rw [if_neg (by intro h; simp only [bIn, i_le, i_lt] at h c1 c2 c3 c4 c5 c6; omega)]) dX0_within_87
            · refine lv_iconst (v := 1) hx hb dX0_within_82 (by decide) ?_
              refine lv_goto (tgt := 87) hx hb dX0_within_83 (by decide) ?_
              exact e_readz hx hb hr hlocks rfl (by rw [if_pos (by simp only [bIn, i_le, i_lt] at c1 c2 c3 c4 c5 c6 ⊢; omega)]) dX0_within_87
        · refine lv_iconst (v := 0) hx hb dX0_within_54 (by decide) ?_
          exact e_readz hx hb hr hlocks rfl (by rw [if_neg (by intro h; simp only [bIn, i_le, i_lt] at h c1 c2 c3 c4; omega)]) dX0_within_55
    · refine lv_iconst (v := 0) hx hb dX0_within_26 (by decide) ?_
      exact e_readz hx hb hr hlocks rfl (by rw [if_neg (by intro h; simp only [bIn, i_le, i_lt] at h c1 c2; omega)]) dX0_within_27
set_option maxHeartbeats 4000000 in
theorem metx_isRule (l : Launch) (G : GT) (hD : XD G) (f0 : Int32) (f1 : Int32) (B : Nat → Int32) (K : Nat → Int32) (w : Nat → Int32) (wc : Int32) (q : Nat → Int32) (qc : Int32) (a : Nat → Int32) (ac : Int32) (v : Nat → Int32) (vc : Int32) (i : Int32)   : Met l yX0_isRule (ws_ yX0_isRule cX0_isRule 2 (some .boolean)) (rmd 0) (xPc G (f0, f1, B, K, w, wc, q, qc, a, ac, v, vc) [.int i]) (QcRead (if 0 ≤ i ∧ i < f1 then 1 else 0)) 0 0 (fun _ => False) := by
  refine gMet (Rn := RX0) (by decide +kernel) rfl (Nat.le_of_ble_eq_true rfl) hD ?_
  intro p e s m below meth c ls C hr hlocks hI hl
  have hR := RL.rm 0
  have hx := C.1.1
  have hb := C.1.2.1
  have hl : lv_has ls 2 [(0, .ref (G.2.1 0)), (1, .int i)] := hl
  refine lv_iload_n hx hb dX0_isRule_0 rfl (lv_at hl 1 rfl) ?_
  refine lv_if_lt (tgt := 16) hx hb dX0_isRule_1 (by decide) (fun c1 => ?_) (fun c1 => ?_)
  · refine lv_iconst (v := 0) hx hb dX0_isRule_16 (by decide) ?_
    exact e_readz hx hb hr hlocks rfl (by rw [if_neg (by intro h; simp only [i_le, i_lt] at h c1; simp at h c1; omega)]) dX0_isRule_17
  · refine lv_iload_n hx hb dX0_isRule_4 rfl (lv_at hl 1 rfl) ?_
    refine lv_aload_n hx hb dX0_isRule_5 rfl (lv_at hl 0 rfl) ?_
    refine xg1 C hI dX0_isRule_6 ?_
    refine lv_icmp_ge (tgt := 16) hx hb dX0_isRule_9 (by decide) (fun c2 => ?_) (fun c2 => ?_)
    · refine lv_iconst (v := 0) hx hb dX0_isRule_16 (by decide) ?_
      exact e_readz hx hb hr hlocks rfl (by rw [if_neg (by intro h; simp only [i_le, i_lt] at h c1 c2; simp at h c1 c2; omega)]) dX0_isRule_17
    · refine lv_iconst (v := 1) hx hb dX0_isRule_12 (by decide) ?_
      refine lv_goto (tgt := 17) hx hb dX0_isRule_13 (by decide) ?_
      exact e_readz hx hb hr hlocks rfl (by rw [if_pos (by simp only [i_le, i_lt] at c1 c2 ⊢; simp at c1 c2 ⊢; omega)]) dX0_isRule_17
section KB
variable {p : Program} {l : Launch} {e : Env} {R : Room} {s : State} {m : MethodId} {args : Array Value} {below : List Frame} {meth : Method} {c : Code} {H : Heap} {locs : List Loc} {Q : State → Prop} {G : GT}
theorem kx_volume {cc : ByteArray} {nL pc : Nat} {ls : Array Slot} {rest : List Value} {f0 : Int32} {f1 : Int32} {B : Nat → Int32} {K : Nat → Int32} {w : Nat → Int32} {wc : Int32} {q : Nat → Int32} {qc : Int32} {a : Nat → Int32} {ac : Int32} {v : Nat → Int32} {vc : Int32} {b : Int32}   (C : XC p s m args c cc nL G) (hI : XI G s (f0, f1, B, K, w, wc, q, qc, a, ac, v, vc) H locs) (hR : RL R 2) (hz : ls.size = nL) (hrm : (rest.map fun v => v.category).sum ≤ 8) (hd : decode cc pc = .ok (.invokevirtual 74, 3)) (kk : W p l e R s m args below meth c H locs 0 0 Q (F0 m (pc + 3) ls (.int (bVol b) :: rest))) : W p l e R s m args below meth c H locs 0 0 Q (F0 m pc ls (.int b :: .ref (G.2.1 0) :: rest)) :=
  g_pure (n := 1) (metx_volume l G C.2.2 f0 f1 B K w wc q qc a ac v vc b) C hI rfl rfl rfl (lw_V q182 q184 qs18 q37 q185) (by decide +kernel) rfl rfl rfl ⟨hR.1, by have := hR.2; show 8 + (5 + 11) + 30 * 1 ≤ R.locals; omega⟩ hz rfl hrm hd kk
theorem kx_meets {cc : ByteArray} {nL pc : Nat} {ls : Array Slot} {rest : List Value} {f0 : Int32} {f1 : Int32} {B : Nat → Int32} {K : Nat → Int32} {w : Nat → Int32} {wc : Int32} {q : Nat → Int32} {qc : Int32} {a : Nat → Int32} {ac : Int32} {v : Nat → Int32} {vc : Int32} {b : Int32} {k : Int32}   (C : XC p s m args c cc nL G) (hI : XI G s (f0, f1, B, K, w, wc, q, qc, a, ac, v, vc) H locs) (hR : RL R 2) (hz : ls.size = nL) (hrm : (rest.map fun v => v.category).sum ≤ 8) (hd : decode cc pc = .ok (.invokevirtual 40, 3)) (kk : W p l e R s m args below meth c H locs 0 0 Q (F0 m (pc + 3) ls (.int (if bMt b k then 1 else 0) :: rest))) : W p l e R s m args below meth c H locs 0 0 Q (F0 m pc ls (.int k :: .int b :: .ref (G.2.1 0) :: rest)) :=
  g_pure (n := 2) (metx_meets l G C.2.2 f0 f1 B K w wc q qc a ac v vc b k) C hI rfl rfl rfl (lw_V q110 q112 qs1 q37 q113) (by decide +kernel) rfl rfl rfl ⟨hR.1, by have := hR.2; show 8 + (3 + 11) + 30 * 1 ≤ R.locals; omega⟩ hz rfl hrm hd kk
theorem kx_within {cc : ByteArray} {nL pc : Nat} {ls : Array Slot} {rest : List Value} {f0 : Int32} {f1 : Int32} {B : Nat → Int32} {K : Nat → Int32} {w : Nat → Int32} {wc : Int32} {q : Nat → Int32} {qc : Int32} {a : Nat → Int32} {ac : Int32} {v : Nat → Int32} {vc : Int32} {b : Int32} {k : Int32}   (C : XC p s m args c cc nL G) (hI : XI G s (f0, f1, B, K, w, wc, q, qc, a, ac, v, vc) H locs) (hR : RL R 2) (hz : ls.size = nL) (hrm : (rest.map fun v => v.category).sum ≤ 8) (hd : decode cc pc = .ok (.invokevirtual 65, 3)) (kk : W p l e R s m args below meth c H locs 0 0 Q (F0 m (pc + 3) ls (.int (if bIn b k then 1 else 0) :: rest))) : W p l e R s m args below meth c H locs 0 0 Q (F0 m pc ls (.int k :: .int b :: .ref (G.2.1 0) :: rest)) :=
  g_pure (n := 2) (metx_within l G C.2.2 f0 f1 B K w wc q qc a ac v vc b k) C hI rfl rfl rfl (lw_V q206 q208 qs22 q37 q209) (by decide +kernel) rfl rfl rfl ⟨hR.1, by have := hR.2; show 8 + (3 + 11) + 30 * 1 ≤ R.locals; omega⟩ hz rfl hrm hd kk
theorem kx_isRule {cc : ByteArray} {nL pc : Nat} {ls : Array Slot} {rest : List Value} {f0 : Int32} {f1 : Int32} {B : Nat → Int32} {K : Nat → Int32} {w : Nat → Int32} {wc : Int32} {q : Nat → Int32} {qc : Int32} {a : Nat → Int32} {ac : Int32} {v : Nat → Int32} {vc : Int32} {i : Int32}   (C : XC p s m args c cc nL G) (hI : XI G s (f0, f1, B, K, w, wc, q, qc, a, ac, v, vc) H locs) (hR : RL R 1) (hz : ls.size = nL) (hrm : (rest.map fun v => v.category).sum ≤ 8) (hd : decode cc pc = .ok (.invokevirtual 36, 3)) (kk : W p l e R s m args below meth c H locs 0 0 Q (F0 m (pc + 3) ls (.int (if 0 ≤ i ∧ i < f1 then 1 else 0) :: rest))) : W p l e R s m args below meth c H locs 0 0 Q (F0 m pc ls (.int i :: .ref (G.2.1 0) :: rest)) :=
  g_pure (n := 1) (metx_isRule l G C.2.2 f0 f1 B K w wc q qc a ac v vc i) C hI rfl rfl rfl (lw_V q102 q104 qs0 q37 q105) (by decide +kernel) rfl rfl rfl ⟨hR.1, by have := hR.2; show 8 + (2 + 11) + 30 * 0 ≤ R.locals; omega⟩ hz rfl hrm hd kk
end KB
end
section
/-! X0: pieces, carving one box -/
set_option maxRecDepth 100000
theorem if0 {P : Prop} [Decidable P] (h : (if P then (1 : Int32) else 0) = 0) : ¬ P := fun hp => by rw [if_pos hp] at h; exact absurd h (by decide)
theorem if1 {P : Prop} [Decidable P] (h : ¬ (if P then (1 : Int32) else 0) = 0) : P := Classical.byContradiction fun hp => h (by rw [if_neg hp])
theorem i_nle {a b : Int32} (h : ¬ a ≤ b) : b < a := by rw [i_le] at h; rw [i_lt]; omega
theorem i_nlt {a b : Int32} (h : ¬ a < b) : b ≤ a := by rw [i_lt] at h; rw [i_le]; omega
theorem i_le_nlt {a b : Int32} (h : a ≤ b) : ¬ b < a := by rw [i_le] at h; rw [i_lt]; omega
set_option maxHeartbeats 4000000 in
theorem metx_addPiece (l : Launch) (G : GT) (hD : XD G) (f0 : Int32) (f1 : Int32) (B : Nat → Int32) (K : Nat → Int32) (w : Nat → Int32) (wc : Int32) (q : Nat → Int32) (a : Nat → Int32) (ac : Int32) (v : Nat → Int32) (vc : Int32) (b : Int32) (k : Nat) (hk : k < 512) : Met l yX0_addPiece (ws_ yX0_addPiece cX0_addPiece 2 none) (rmd 0) (xPc G (f0, f1, B, K, w, wc, q, (nI k), a, ac, v, vc) [.int b]) (xQv G (fun u1 => u1 = (f0, f1, B, K, w, wc, upd q k b, nI (k + 1), a, ac, v, vc))) 0 0 (xA G) := by
  refine gMet (Rn := RX0) (by decide +kernel) rfl (Nat.le_of_ble_eq_true rfl) hD ?_
  intro p e s m below meth c ls C hr hlocks hI hl
  have hR := RL.rm 0
  have hx := C.1.1
  have hb := C.1.2.1
  have hl : lv_has ls 2 [(0, .ref (G.2.1 0)), (1, .int b)] := hl
  refine lv_aload_n hx hb dX0_addPiece_0 rfl (lv_at hl 0 rfl) ?_
  refine xg6 C hI dX0_addPiece_1 ?_
  refine lv_aload_n hx hb dX0_addPiece_4 rfl (lv_at hl 0 rfl) ?_
  refine xg7 C hI dX0_addPiece_5 ?_
  refine lv_iload_n hx hb dX0_addPiece_8 rfl (lv_at hl 1 rfl) ?_
  refine xs4 (i := k) C hI rfl hk dX0_addPiece_9 (fun H locs hI => ?_)
  refine lv_aload_n hx hb dX0_addPiece_10 rfl (lv_at hl 0 rfl) ?_
  refine lv_dup hx hb dX0_addPiece_11 rfl ?_
  refine xg7 C hI dX0_addPiece_12 ?_
  refine lv_iconst (v := 1) hx hb dX0_addPiece_15 (by decide) ?_
  refine lv_iadd hx hb dX0_addPiece_16 ?_
  refine xp7 C hI dX0_addPiece_17 (fun H locs hI => ?_)
  exact e_void hI hx hb hr hlocks (by rw [nI_1]) dX0_addPiece_20
set_option maxHeartbeats 4000000 in
theorem metx_startWork (l : Launch) (G : GT) (hD : XD G) (f0 : Int32) (f1 : Int32) (B : Nat → Int32) (K : Nat → Int32) (w : Nat → Int32) (wc : Int32) (q : Nat → Int32) (qc : Int32) (a : Nat → Int32) (ac : Int32) (v : Nat → Int32) (vc : Int32) (b : Int32)   : Met l yX0_startWork (ws_ yX0_startWork cX0_startWork 2 none) (rmd 0) (xPc G (f0, f1, B, K, w, wc, q, qc, a, ac, v, vc) [.int b]) (xQv G (fun u1 => u1 = (f0, f1, B, K, upd w 0 b, 1, q, qc, a, ac, v, vc))) 0 0 (xA G) := by
  refine gMet (Rn := RX0) (by decide +kernel) rfl (Nat.le_of_ble_eq_true rfl) hD ?_
  intro p e s m below meth c ls C hr hlocks hI hl
  have hR := RL.rm 0
  have hx := C.1.1
  have hb := C.1.2.1
  have hl : lv_has ls 2 [(0, .ref (G.2.1 0)), (1, .int b)] := hl
  refine lv_aload_n hx hb dX0_startWork_0 rfl (lv_at hl 0 rfl) ?_
  refine xg4 C hI dX0_startWork_1 ?_
  refine lv_iconst (v := 0) hx hb dX0_startWork_4 (by decide) ?_
  refine lv_iload_n hx hb dX0_startWork_5 rfl (lv_at hl 1 rfl) ?_
  refine xs3 (i := 0) C hI nI_0.symm (by decide) dX0_startWork_6 (fun H locs hI => ?_)
  refine lv_aload_n hx hb dX0_startWork_7 rfl (lv_at hl 0 rfl) ?_
  refine lv_iconst (v := 1) hx hb dX0_startWork_8 (by decide) ?_
  refine xp5 C hI dX0_startWork_9 (fun H locs hI => ?_)
  exact e_void hI hx hb hr hlocks rfl dX0_startWork_12
section KC
variable {p : Program} {l : Launch} {e : Env} {R : Room} {s : State} {m : MethodId} {args : Array Value} {below : List Frame} {meth : Method} {c : Code} {H : Heap} {locs : List Loc} {Q : State → Prop} {G : GT}
theorem kx_addPiece {cc : ByteArray} {nL pc : Nat} {ls : Array Slot} {rest : List Value} {f0 : Int32} {f1 : Int32} {B : Nat → Int32} {K : Nat → Int32} {w : Nat → Int32} {wc : Int32} {q : Nat → Int32} {a : Nat → Int32} {ac : Int32} {v : Nat → Int32} {vc : Int32} {b : Int32} {P : List Int32} (hq : hL q P) (hk : P.length < 512) (C : XC p s m args c cc nL G) (hI : XI G s (f0, f1, B, K, w, wc, q, nI P.length, a, ac, v, vc) H locs) (hR : RL R 1) (hz : ls.size = nL) (hrm : (rest.map fun v => v.category).sum ≤ 8) (hd : decode cc pc = .ok (.invokevirtual 108, 3)) (kk : ∀ (q1 : Nat → Int32) (H1 : Heap) (locs1 : List Loc), hL q1 (P ++ [b]) → XI G s (f0, f1, B, K, w, wc, q1, nI (P ++ [b]).length, a, ac, v, vc) H1 locs1 → W p l e R s m args below meth c H1 locs1 0 0 Q (F0 m (pc + 3) ls rest)) : W p l e R s m args below meth c H locs 0 0 Q (F0 m pc ls (.int b :: .ref (G.2.1 0) :: rest)) :=
  g_v (n := 1) (metx_addPiece l G C.2.2 f0 f1 B K w wc q a ac v vc b P.length hk) C hI rfl rfl rfl (lw_V q166 q168 qs14 q37 q169) (by decide +kernel) rfl rfl rfl ⟨hR.1, by have := hR.2; show 8 + (2 + 11) + 30 * 0 ≤ R.locals; omega⟩ hz rfl hrm hd (fun u1 H1 locs1 hp hI => by subst hp; exact kk _ H1 locs1 (hL_push hq b) (by rw [List.length_append, List.length_singleton]; exact hI))
theorem kx_startWork {cc : ByteArray} {nL pc : Nat} {ls : Array Slot} {rest : List Value} {f0 : Int32} {f1 : Int32} {B : Nat → Int32} {K : Nat → Int32} {w : Nat → Int32} {wc : Int32} {q : Nat → Int32} {qc : Int32} {a : Nat → Int32} {ac : Int32} {v : Nat → Int32} {vc : Int32} {b : Int32}   (C : XC p s m args c cc nL G) (hI : XI G s (f0, f1, B, K, w, wc, q, qc, a, ac, v, vc) H locs) (hR : RL R 1) (hz : ls.size = nL) (hrm : (rest.map fun v => v.category).sum ≤ 8) (hd : decode cc pc = .ok (.invokevirtual 89, 3)) (kk : ∀ (w1 : Nat → Int32) (H1 : Heap) (locs1 : List Loc), hL w1 [b] → XI G s (f0, f1, B, K, w1, nI [b].length, q, qc, a, ac, v, vc) H1 locs1 → W p l e R s m args below meth c H1 locs1 0 0 Q (F0 m (pc + 3) ls rest)) : W p l e R s m args below meth c H locs 0 0 Q (F0 m pc ls (.int b :: .ref (G.2.1 0) :: rest)) :=
  g_v (n := 1) (metx_startWork l G C.2.2 f0 f1 B K w wc q qc a ac v vc b) C hI rfl rfl rfl (lw_V q146 q148 qs9 q37 q149) (by decide +kernel) rfl rfl rfl ⟨hR.1, by have := hR.2; show 8 + (2 + 11) + 30 * 0 ≤ R.locals; omega⟩ hz rfl hrm hd (fun u1 H1 locs1 hp hI => by subst hp; exact kk _ H1 locs1 (hL_push (hL_nil w) b) hI)
end KC
set_option maxHeartbeats 4000000 in
theorem metx_carveS (l : Launch) (G : GT) (hD : XD G) (f0 : Int32) (f1 : Int32) (B : Nat → Int32) (K : Nat → Int32) (w : Nat → Int32) (wc : Int32) (q : Nat → Int32) (a : Nat → Int32) (ac : Int32) (v : Nat → Int32) (vc : Int32) (b : Int32) (k : Int32) (P : List Int32) (hq : hL q P) (hlen : (P ++ cS b k).length ≤ 512) : Met l yX0_carveS (ws_ yX0_carveS cX0_carveS 8 (some .int)) (rmd 1) (xPc G (f0, f1, B, K, w, wc, q, (nI P.length), a, ac, v, vc) [.int b, .int k]) (xQi G (fun r u1 => r = rS b k ∧ ∃ q1, u1 = (f0, f1, B, K, w, wc, q1, nI (P ++ cS b k).length, a, ac, v, vc) ∧ hL q1 (P ++ cS b k))) 0 0 (xA G) := by
  refine gMet (Rn := RX0) (by decide +kernel) rfl (Nat.le_of_ble_eq_true rfl) hD ?_
  intro p e s m below meth c ls C hr hlocks hI hl
  have hR := RL.rm 1
  have hx := C.1.1
  have hb := C.1.2.1
  have hl : lv_has ls 8 [(0, .ref (G.2.1 0)), (1, .int b), (2, .int k)] := hl
  refine lv_aload_n hx hb dX0_carveS_0 rfl (lv_at hl 0 rfl) ?_
  refine lv_iload_n hx hb dX0_carveS_1 rfl (lv_at hl 1 rfl) ?_
  refine kx_fromS C hI (hR.le (by decide)) hl.1 (Nat.le_of_ble_eq_true rfl) dX0_carveS_2 ?_
  refine lv_istore_n (lv' := [(3, .int (bFs b)), (0, .ref (G.2.1 0)), (1, .int b), (2, .int k)]) hx hb dX0_carveS_5 rfl hl (by decide) rfl (fun ls hl => ?_)
  refine lv_aload_n hx hb dX0_carveS_6 rfl (lv_at hl 1 rfl) ?_
  refine lv_iload_n hx hb dX0_carveS_7 rfl (lv_at hl 2 rfl) ?_
  refine kx_toS C hI (hR.le (by decide)) hl.1 (Nat.le_of_ble_eq_true rfl) dX0_carveS_8 ?_
  refine lv_istore (lv' := [(4, .int (bTs b)), (3, .int (bFs b)), (0, .ref (G.2.1 0)), (1, .int b), (2, .int k)]) hx hb dX0_carveS_11 hl (by decide) rfl (fun ls hl => ?_)
  refine lv_aload_n hx hb dX0_carveS_13 rfl (lv_at hl 2 rfl) ?_
  refine lv_iload_n hx hb dX0_carveS_14 rfl (lv_at hl 4 rfl) ?_
  refine kx_fromS C hI (hR.le (by decide)) hl.1 (Nat.le_of_ble_eq_true rfl) dX0_carveS_15 ?_
  refine lv_istore (lv' := [(5, .int (bFs k)), (4, .int (bTs b)), (3, .int (bFs b)), (0, .ref (G.2.1 0)), (1, .int b), (2, .int k)]) hx hb dX0_carveS_18 hl (by decide) rfl (fun ls hl => ?_)
  refine lv_aload_n hx hb dX0_carveS_20 rfl (lv_at hl 3 rfl) ?_
  refine lv_iload_n hx hb dX0_carveS_21 rfl (lv_at hl 5 rfl) ?_
  refine kx_toS C hI (hR.le (by decide)) hl.1 (Nat.le_of_ble_eq_true rfl) dX0_carveS_22 ?_
  refine lv_istore (lv' := [(6, .int (bTs k)), (5, .int (bFs k)), (4, .int (bTs b)), (3, .int (bFs b)), (0, .ref (G.2.1 0)), (1, .int b), (2, .int k)]) hx hb dX0_carveS_25 hl (by decide) rfl (fun ls hl => ?_)
  refine lv_iload_n hx hb dX0_carveS_27 rfl (lv_at hl 3 rfl) ?_
  refine lv_iload hx hb dX0_carveS_28 (lv_at hl 1 rfl) ?_
  refine lv_icmp_ge (tgt := 54) hx hb dX0_carveS_30 (by decide) (fun c1 => ?_) (fun c1 => ?_)
  · have e1 := i_le_nlt c1
    refine lv_iload hx hb dX0_carveS_54 (lv_at hl 2 rfl) ?_
    refine lv_iload hx hb dX0_carveS_56 (lv_at hl 0 rfl) ?_
    refine lv_icmp_le (tgt := 84) hx hb dX0_carveS_58 (by decide) (fun d2 => ?_) (fun d2 => ?_)
    · have e2 := i_le_nlt d2
      refine lv_aload_n hx hb dX0_carveS_84 rfl (lv_at hl 4 rfl) ?_
      refine lv_iload_n hx hb dX0_carveS_85 rfl (lv_at hl 5 rfl) ?_
      refine lv_iload_n hx hb dX0_carveS_86 rfl (lv_at hl 3 rfl) ?_
      refine lv_iload hx hb dX0_carveS_87 (lv_at hl 2 rfl) ?_
      refine kx_withS C hI (hR.le (by decide)) hl.1 (Nat.le_of_ble_eq_true rfl) dX0_carveS_89 ?_
      have ec : P = P ++ cS b k := by simp only [cS, if_neg e1, if_neg e2, List.append_nil, List.nil_append, List.append_assoc]
      exact e_int hI hx hb hr hlocks ⟨by simp only [rS, if_neg e1, if_neg e2], q, by rw [← ec], by rw [← ec]; exact hq⟩ dX0_carveS_92
    · have e2 := i_nle d2
      refine lv_aload_n hx hb dX0_carveS_61 rfl (lv_at hl 4 rfl) ?_
      refine lv_iload_n hx hb dX0_carveS_62 rfl (lv_at hl 5 rfl) ?_
      refine lv_iload hx hb dX0_carveS_63 (lv_at hl 0 rfl) ?_
      refine lv_iconst (v := 1) hx hb dX0_carveS_65 (by decide) ?_
      refine lv_iadd hx hb dX0_carveS_66 ?_
      refine lv_iload hx hb dX0_carveS_67 (lv_at hl 2 rfl) ?_
      refine kx_withS C hI (hR.le (by decide)) hl.1 (Nat.le_of_ble_eq_true rfl) dX0_carveS_69 ?_
      refine lv_istore (lv' := [(7, .int (bWs b ((bTs k) + 1) (bTs b))), (6, .int (bTs k)), (5, .int (bFs k)), (4, .int (bTs b)), (3, .int (bFs b)), (0, .ref (G.2.1 0)), (1, .int b), (2, .int k)]) hx hb dX0_carveS_72 hl (by decide) rfl (fun ls hl => ?_)
      refine lv_aload_n hx hb dX0_carveS_74 rfl (lv_at hl 5 rfl) ?_
      refine lv_iload hx hb dX0_carveS_75 (lv_at hl 0 rfl) ?_
      refine kx_addPiece (P := P) hq (by have h := hlen; simp only [cS, if_neg e1, if_pos e2, List.length_append, List.length_singleton, List.length_nil] at h ⊢; omega) C hI (hR.le (by decide)) hl.1 (Nat.le_of_ble_eq_true rfl) dX0_carveS_77 (fun q2 H locs hq2 hI => ?_)
      refine lv_iload hx hb dX0_carveS_80 (lv_at hl 1 rfl) ?_
      refine lv_istore (lv' := [(4, .int (bTs k)), (7, .int (bWs b ((bTs k) + 1) (bTs b))), (6, .int (bTs k)), (5, .int (bFs k)), (3, .int (bFs b)), (0, .ref (G.2.1 0)), (1, .int b), (2, .int k)]) hx hb dX0_carveS_82 hl (by decide) rfl (fun ls hl => ?_)
      refine lv_aload_n hx hb dX0_carveS_84 rfl (lv_at hl 5 rfl) ?_
      refine lv_iload_n hx hb dX0_carveS_85 rfl (lv_at hl 6 rfl) ?_
      refine lv_iload_n hx hb dX0_carveS_86 rfl (lv_at hl 4 rfl) ?_
      refine lv_iload hx hb dX0_carveS_87 (lv_at hl 0 rfl) ?_
      refine kx_withS C hI (hR.le (by decide)) hl.1 (Nat.le_of_ble_eq_true rfl) dX0_carveS_89 ?_
      have ec : P ++ [bWs b (bTs k + 1) (bTs b)] = P ++ cS b k := by simp only [cS, if_neg e1, if_pos e2, List.append_nil, List.nil_append, List.append_assoc]
      exact e_int hI hx hb hr hlocks ⟨by simp only [rS, if_neg e1, if_pos e2], q2, by rw [← ec], by rw [← ec]; exact hq2⟩ dX0_carveS_92
  · have e1 := i_nle c1
    refine lv_aload_n hx hb dX0_carveS_33 rfl (lv_at hl 4 rfl) ?_
    refine lv_iload_n hx hb dX0_carveS_34 rfl (lv_at hl 5 rfl) ?_
    refine lv_iload_n hx hb dX0_carveS_35 rfl (lv_at hl 3 rfl) ?_
    refine lv_iload hx hb dX0_carveS_36 (lv_at hl 1 rfl) ?_
    refine lv_iconst (v := 1) hx hb dX0_carveS_38 (by decide) ?_
    refine lv_isub hx hb dX0_carveS_39 ?_
    refine kx_withS C hI (hR.le (by decide)) hl.1 (Nat.le_of_ble_eq_true rfl) dX0_carveS_40 ?_
    refine lv_istore (lv' := [(7, .int (bWs b (bFs b) ((bFs k) - 1))), (6, .int (bTs k)), (5, .int (bFs k)), (4, .int (bTs b)), (3, .int (bFs b)), (0, .ref (G.2.1 0)), (1, .int b), (2, .int k)]) hx hb dX0_carveS_43 hl (by decide) rfl (fun ls hl => ?_)
    refine lv_aload_n hx hb dX0_carveS_45 rfl (lv_at hl 5 rfl) ?_
    refine lv_iload hx hb dX0_carveS_46 (lv_at hl 0 rfl) ?_
    refine kx_addPiece (P := P) hq (by have h := hlen; simp only [cS, if_pos e1, List.length_append, List.length_singleton, List.length_nil] at h ⊢; omega) C hI (hR.le (by decide)) hl.1 (Nat.le_of_ble_eq_true rfl) dX0_carveS_48 (fun q1 H locs hq1 hI => ?_)
    refine lv_iload hx hb dX0_carveS_51 (lv_at hl 2 rfl) ?_
    refine lv_istore_n (lv' := [(3, .int (bFs k)), (7, .int (bWs b (bFs b) ((bFs k) - 1))), (6, .int (bTs k)), (5, .int (bFs k)), (4, .int (bTs b)), (0, .ref (G.2.1 0)), (1, .int b), (2, .int k)]) hx hb dX0_carveS_53 rfl hl (by decide) rfl (fun ls hl => ?_)
    refine lv_iload hx hb dX0_carveS_54 (lv_at hl 4 rfl) ?_
    refine lv_iload hx hb dX0_carveS_56 (lv_at hl 2 rfl) ?_
    refine lv_icmp_le (tgt := 84) hx hb dX0_carveS_58 (by decide) (fun c2 => ?_) (fun c2 => ?_)
    · have e2 := i_le_nlt c2
      refine lv_aload_n hx hb dX0_carveS_84 rfl (lv_at hl 5 rfl) ?_
      refine lv_iload_n hx hb dX0_carveS_85 rfl (lv_at hl 6 rfl) ?_
      refine lv_iload_n hx hb dX0_carveS_86 rfl (lv_at hl 0 rfl) ?_
      refine lv_iload hx hb dX0_carveS_87 (lv_at hl 4 rfl) ?_
      refine kx_withS C hI (hR.le (by decide)) hl.1 (Nat.le_of_ble_eq_true rfl) dX0_carveS_89 ?_
      have ec : (P ++ [bWs b (bFs b) (bFs k - 1)]) = P ++ cS b k := by simp only [cS, if_pos e1, if_neg e2, List.append_nil, List.nil_append, List.append_assoc]
      exact e_int hI hx hb hr hlocks ⟨by simp only [rS, if_pos e1, if_neg e2], q1, by rw [← ec], by rw [← ec]; exact hq1⟩ dX0_carveS_92
    · have e2 := i_nle c2
      refine lv_aload_n hx hb dX0_carveS_61 rfl (lv_at hl 5 rfl) ?_
      refine lv_iload_n hx hb dX0_carveS_62 rfl (lv_at hl 6 rfl) ?_
      refine lv_iload hx hb dX0_carveS_63 (lv_at hl 2 rfl) ?_
      refine lv_iconst (v := 1) hx hb dX0_carveS_65 (by decide) ?_
      refine lv_iadd hx hb dX0_carveS_66 ?_
      refine lv_iload hx hb dX0_carveS_67 (lv_at hl 4 rfl) ?_
      refine kx_withS C hI (hR.le (by decide)) hl.1 (Nat.le_of_ble_eq_true rfl) dX0_carveS_69 ?_
      refine lv_istore (lv' := [(7, .int (bWs b ((bTs k) + 1) (bTs b))), (3, .int (bFs k)), (6, .int (bTs k)), (5, .int (bFs k)), (4, .int (bTs b)), (0, .ref (G.2.1 0)), (1, .int b), (2, .int k)]) hx hb dX0_carveS_72 hl (by decide) rfl (fun ls hl => ?_)
      refine lv_aload_n hx hb dX0_carveS_74 rfl (lv_at hl 5 rfl) ?_
      refine lv_iload hx hb dX0_carveS_75 (lv_at hl 0 rfl) ?_
      refine kx_addPiece (P := (P ++ [bWs b (bFs b) (bFs k - 1)])) hq1 (by have h := hlen; simp only [cS, if_pos e1, if_pos e2, List.length_append, List.length_singleton, List.length_nil] at h ⊢; omega) C hI (hR.le (by decide)) hl.1 (Nat.le_of_ble_eq_true rfl) dX0_carveS_77 (fun q2 H locs hq2 hI => ?_)
      refine lv_iload hx hb dX0_carveS_80 (lv_at hl 2 rfl) ?_
      refine lv_istore (lv' := [(4, .int (bTs k)), (7, .int (bWs b ((bTs k) + 1) (bTs b))), (3, .int (bFs k)), (6, .int (bTs k)), (5, .int (bFs k)), (0, .ref (G.2.1 0)), (1, .int b), (2, .int k)]) hx hb dX0_carveS_82 hl (by decide) rfl (fun ls hl => ?_)
      refine lv_aload_n hx hb dX0_carveS_84 rfl (lv_at hl 5 rfl) ?_
      refine lv_iload_n hx hb dX0_carveS_85 rfl (lv_at hl 6 rfl) ?_
      refine lv_iload_n hx hb dX0_carveS_86 rfl (lv_at hl 2 rfl) ?_
      refine lv_iload hx hb dX0_carveS_87 (lv_at hl 0 rfl) ?_
      refine kx_withS C hI (hR.le (by decide)) hl.1 (Nat.le_of_ble_eq_true rfl) dX0_carveS_89 ?_
      have ec : (P ++ [bWs b (bFs b) (bFs k - 1)]) ++ [bWs b (bTs k + 1) (bTs b)] = P ++ cS b k := by simp only [cS, if_pos e1, if_pos e2, List.append_nil, List.nil_append, List.append_assoc]
      exact e_int hI hx hb hr hlocks ⟨by simp only [rS, if_pos e1, if_pos e2], q2, by rw [← ec], by rw [← ec]; exact hq2⟩ dX0_carveS_92
set_option maxHeartbeats 4000000 in
theorem metx_carveD (l : Launch) (G : GT) (hD : XD G) (f0 : Int32) (f1 : Int32) (B : Nat → Int32) (K : Nat → Int32) (w : Nat → Int32) (wc : Int32) (q : Nat → Int32) (a : Nat → Int32) (ac : Int32) (v : Nat → Int32) (vc : Int32) (b : Int32) (k : Int32) (P : List Int32) (hq : hL q P) (hlen : (P ++ cD b k).length ≤ 512) : Met l yX0_carveD (ws_ yX0_carveD cX0_carveD 8 (some .int)) (rmd 1) (xPc G (f0, f1, B, K, w, wc, q, (nI P.length), a, ac, v, vc) [.int b, .int k]) (xQi G (fun r u1 => r = rD b k ∧ ∃ q1, u1 = (f0, f1, B, K, w, wc, q1, nI (P ++ cD b k).length, a, ac, v, vc) ∧ hL q1 (P ++ cD b k))) 0 0 (xA G) := by
  refine gMet (Rn := RX0) (by decide +kernel) rfl (Nat.le_of_ble_eq_true rfl) hD ?_
  intro p e s m below meth c ls C hr hlocks hI hl
  have hR := RL.rm 1
  have hx := C.1.1
  have hb := C.1.2.1
  have hl : lv_has ls 8 [(0, .ref (G.2.1 0)), (1, .int b), (2, .int k)] := hl
  refine lv_aload_n hx hb dX0_carveD_0 rfl (lv_at hl 0 rfl) ?_
  refine lv_iload_n hx hb dX0_carveD_1 rfl (lv_at hl 1 rfl) ?_
  refine kx_fromD C hI (hR.le (by decide)) hl.1 (Nat.le_of_ble_eq_true rfl) dX0_carveD_2 ?_
  refine lv_istore_n (lv' := [(3, .int (bFd b)), (0, .ref (G.2.1 0)), (1, .int b), (2, .int k)]) hx hb dX0_carveD_5 rfl hl (by decide) rfl (fun ls hl => ?_)
  refine lv_aload_n hx hb dX0_carveD_6 rfl (lv_at hl 1 rfl) ?_
  refine lv_iload_n hx hb dX0_carveD_7 rfl (lv_at hl 2 rfl) ?_
  refine kx_toD C hI (hR.le (by decide)) hl.1 (Nat.le_of_ble_eq_true rfl) dX0_carveD_8 ?_
  refine lv_istore (lv' := [(4, .int (bTd b)), (3, .int (bFd b)), (0, .ref (G.2.1 0)), (1, .int b), (2, .int k)]) hx hb dX0_carveD_11 hl (by decide) rfl (fun ls hl => ?_)
  refine lv_aload_n hx hb dX0_carveD_13 rfl (lv_at hl 2 rfl) ?_
  refine lv_iload_n hx hb dX0_carveD_14 rfl (lv_at hl 4 rfl) ?_
  refine kx_fromD C hI (hR.le (by decide)) hl.1 (Nat.le_of_ble_eq_true rfl) dX0_carveD_15 ?_
  refine lv_istore (lv' := [(5, .int (bFd k)), (4, .int (bTd b)), (3, .int (bFd b)), (0, .ref (G.2.1 0)), (1, .int b), (2, .int k)]) hx hb dX0_carveD_18 hl (by decide) rfl (fun ls hl => ?_)
  refine lv_aload_n hx hb dX0_carveD_20 rfl (lv_at hl 3 rfl) ?_
  refine lv_iload_n hx hb dX0_carveD_21 rfl (lv_at hl 5 rfl) ?_
  refine kx_toD C hI (hR.le (by decide)) hl.1 (Nat.le_of_ble_eq_true rfl) dX0_carveD_22 ?_
  refine lv_istore (lv' := [(6, .int (bTd k)), (5, .int (bFd k)), (4, .int (bTd b)), (3, .int (bFd b)), (0, .ref (G.2.1 0)), (1, .int b), (2, .int k)]) hx hb dX0_carveD_25 hl (by decide) rfl (fun ls hl => ?_)
  refine lv_iload_n hx hb dX0_carveD_27 rfl (lv_at hl 3 rfl) ?_
  refine lv_iload hx hb dX0_carveD_28 (lv_at hl 1 rfl) ?_
  refine lv_icmp_ge (tgt := 54) hx hb dX0_carveD_30 (by decide) (fun c1 => ?_) (fun c1 => ?_)
  · have e1 := i_le_nlt c1
    refine lv_iload hx hb dX0_carveD_54 (lv_at hl 2 rfl) ?_
    refine lv_iload hx hb dX0_carveD_56 (lv_at hl 0 rfl) ?_
    refine lv_icmp_le (tgt := 84) hx hb dX0_carveD_58 (by decide) (fun d2 => ?_) (fun d2 => ?_)
    · have e2 := i_le_nlt d2
      refine lv_aload_n hx hb dX0_carveD_84 rfl (lv_at hl 4 rfl) ?_
      refine lv_iload_n hx hb dX0_carveD_85 rfl (lv_at hl 5 rfl) ?_
      refine lv_iload_n hx hb dX0_carveD_86 rfl (lv_at hl 3 rfl) ?_
      refine lv_iload hx hb dX0_carveD_87 (lv_at hl 2 rfl) ?_
      refine kx_withD C hI (hR.le (by decide)) hl.1 (Nat.le_of_ble_eq_true rfl) dX0_carveD_89 ?_
      have ec : P = P ++ cD b k := by simp only [cD, if_neg e1, if_neg e2, List.append_nil, List.nil_append, List.append_assoc]
      exact e_int hI hx hb hr hlocks ⟨by simp only [rD, if_neg e1, if_neg e2], q, by rw [← ec], by rw [← ec]; exact hq⟩ dX0_carveD_92
    · have e2 := i_nle d2
      refine lv_aload_n hx hb dX0_carveD_61 rfl (lv_at hl 4 rfl) ?_
      refine lv_iload_n hx hb dX0_carveD_62 rfl (lv_at hl 5 rfl) ?_
      refine lv_iload hx hb dX0_carveD_63 (lv_at hl 0 rfl) ?_
      refine lv_iconst (v := 1) hx hb dX0_carveD_65 (by decide) ?_
      refine lv_iadd hx hb dX0_carveD_66 ?_
      refine lv_iload hx hb dX0_carveD_67 (lv_at hl 2 rfl) ?_
      refine kx_withD C hI (hR.le (by decide)) hl.1 (Nat.le_of_ble_eq_true rfl) dX0_carveD_69 ?_
      refine lv_istore (lv' := [(7, .int (bWd b ((bTd k) + 1) (bTd b))), (6, .int (bTd k)), (5, .int (bFd k)), (4, .int (bTd b)), (3, .int (bFd b)), (0, .ref (G.2.1 0)), (1, .int b), (2, .int k)]) hx hb dX0_carveD_72 hl (by decide) rfl (fun ls hl => ?_)
      refine lv_aload_n hx hb dX0_carveD_74 rfl (lv_at hl 5 rfl) ?_
      refine lv_iload hx hb dX0_carveD_75 (lv_at hl 0 rfl) ?_
      refine kx_addPiece (P := P) hq (by have h := hlen; simp only [cD, if_neg e1, if_pos e2, List.length_append, List.length_singleton, List.length_nil] at h ⊢; omega) C hI (hR.le (by decide)) hl.1 (Nat.le_of_ble_eq_true rfl) dX0_carveD_77 (fun q2 H locs hq2 hI => ?_)
      refine lv_iload hx hb dX0_carveD_80 (lv_at hl 1 rfl) ?_
      refine lv_istore (lv' := [(4, .int (bTd k)), (7, .int (bWd b ((bTd k) + 1) (bTd b))), (6, .int (bTd k)), (5, .int (bFd k)), (3, .int (bFd b)), (0, .ref (G.2.1 0)), (1, .int b), (2, .int k)]) hx hb dX0_carveD_82 hl (by decide) rfl (fun ls hl => ?_)
      refine lv_aload_n hx hb dX0_carveD_84 rfl (lv_at hl 5 rfl) ?_
      refine lv_iload_n hx hb dX0_carveD_85 rfl (lv_at hl 6 rfl) ?_
      refine lv_iload_n hx hb dX0_carveD_86 rfl (lv_at hl 4 rfl) ?_
      refine lv_iload hx hb dX0_carveD_87 (lv_at hl 0 rfl) ?_
      refine kx_withD C hI (hR.le (by decide)) hl.1 (Nat.le_of_ble_eq_true rfl) dX0_carveD_89 ?_
      have ec : P ++ [bWd b (bTd k + 1) (bTd b)] = P ++ cD b k := by simp only [cD, if_neg e1, if_pos e2, List.append_nil, List.nil_append, List.append_assoc]
      exact e_int hI hx hb hr hlocks ⟨by simp only [rD, if_neg e1, if_pos e2], q2, by rw [← ec], by rw [← ec]; exact hq2⟩ dX0_carveD_92
  · have e1 := i_nle c1
    refine lv_aload_n hx hb dX0_carveD_33 rfl (lv_at hl 4 rfl) ?_
    refine lv_iload_n hx hb dX0_carveD_34 rfl (lv_at hl 5 rfl) ?_
    refine lv_iload_n hx hb dX0_carveD_35 rfl (lv_at hl 3 rfl) ?_
    refine lv_iload hx hb dX0_carveD_36 (lv_at hl 1 rfl) ?_
    refine lv_iconst (v := 1) hx hb dX0_carveD_38 (by decide) ?_
    refine lv_isub hx hb dX0_carveD_39 ?_
    refine kx_withD C hI (hR.le (by decide)) hl.1 (Nat.le_of_ble_eq_true rfl) dX0_carveD_40 ?_
    refine lv_istore (lv' := [(7, .int (bWd b (bFd b) ((bFd k) - 1))), (6, .int (bTd k)), (5, .int (bFd k)), (4, .int (bTd b)), (3, .int (bFd b)), (0, .ref (G.2.1 0)), (1, .int b), (2, .int k)]) hx hb dX0_carveD_43 hl (by decide) rfl (fun ls hl => ?_)
    refine lv_aload_n hx hb dX0_carveD_45 rfl (lv_at hl 5 rfl) ?_
    refine lv_iload hx hb dX0_carveD_46 (lv_at hl 0 rfl) ?_
    refine kx_addPiece (P := P) hq (by have h := hlen; simp only [cD, if_pos e1, List.length_append, List.length_singleton, List.length_nil] at h ⊢; omega) C hI (hR.le (by decide)) hl.1 (Nat.le_of_ble_eq_true rfl) dX0_carveD_48 (fun q1 H locs hq1 hI => ?_)
    refine lv_iload hx hb dX0_carveD_51 (lv_at hl 2 rfl) ?_
    refine lv_istore_n (lv' := [(3, .int (bFd k)), (7, .int (bWd b (bFd b) ((bFd k) - 1))), (6, .int (bTd k)), (5, .int (bFd k)), (4, .int (bTd b)), (0, .ref (G.2.1 0)), (1, .int b), (2, .int k)]) hx hb dX0_carveD_53 rfl hl (by decide) rfl (fun ls hl => ?_)
    refine lv_iload hx hb dX0_carveD_54 (lv_at hl 4 rfl) ?_
    refine lv_iload hx hb dX0_carveD_56 (lv_at hl 2 rfl) ?_
    refine lv_icmp_le (tgt := 84) hx hb dX0_carveD_58 (by decide) (fun c2 => ?_) (fun c2 => ?_)
    · have e2 := i_le_nlt c2
      refine lv_aload_n hx hb dX0_carveD_84 rfl (lv_at hl 5 rfl) ?_
      refine lv_iload_n hx hb dX0_carveD_85 rfl (lv_at hl 6 rfl) ?_
      refine lv_iload_n hx hb dX0_carveD_86 rfl (lv_at hl 0 rfl) ?_
      refine lv_iload hx hb dX0_carveD_87 (lv_at hl 4 rfl) ?_
      refine kx_withD C hI (hR.le (by decide)) hl.1 (Nat.le_of_ble_eq_true rfl) dX0_carveD_89 ?_
      have ec : (P ++ [bWd b (bFd b) (bFd k - 1)]) = P ++ cD b k := by simp only [cD, if_pos e1, if_neg e2, List.append_nil, List.nil_append, List.append_assoc]
      exact e_int hI hx hb hr hlocks ⟨by simp only [rD, if_pos e1, if_neg e2], q1, by rw [← ec], by rw [← ec]; exact hq1⟩ dX0_carveD_92
    · have e2 := i_nle c2
      refine lv_aload_n hx hb dX0_carveD_61 rfl (lv_at hl 5 rfl) ?_
      refine lv_iload_n hx hb dX0_carveD_62 rfl (lv_at hl 6 rfl) ?_
      refine lv_iload hx hb dX0_carveD_63 (lv_at hl 2 rfl) ?_
      refine lv_iconst (v := 1) hx hb dX0_carveD_65 (by decide) ?_
      refine lv_iadd hx hb dX0_carveD_66 ?_
      refine lv_iload hx hb dX0_carveD_67 (lv_at hl 4 rfl) ?_
      refine kx_withD C hI (hR.le (by decide)) hl.1 (Nat.le_of_ble_eq_true rfl) dX0_carveD_69 ?_
      refine lv_istore (lv' := [(7, .int (bWd b ((bTd k) + 1) (bTd b))), (3, .int (bFd k)), (6, .int (bTd k)), (5, .int (bFd k)), (4, .int (bTd b)), (0, .ref (G.2.1 0)), (1, .int b), (2, .int k)]) hx hb dX0_carveD_72 hl (by decide) rfl (fun ls hl => ?_)
      refine lv_aload_n hx hb dX0_carveD_74 rfl (lv_at hl 5 rfl) ?_
      refine lv_iload hx hb dX0_carveD_75 (lv_at hl 0 rfl) ?_
      refine kx_addPiece (P := (P ++ [bWd b (bFd b) (bFd k - 1)])) hq1 (by have h := hlen; simp only [cD, if_pos e1, if_pos e2, List.length_append, List.length_singleton, List.length_nil] at h ⊢; omega) C hI (hR.le (by decide)) hl.1 (Nat.le_of_ble_eq_true rfl) dX0_carveD_77 (fun q2 H locs hq2 hI => ?_)
      refine lv_iload hx hb dX0_carveD_80 (lv_at hl 2 rfl) ?_
      refine lv_istore (lv' := [(4, .int (bTd k)), (7, .int (bWd b ((bTd k) + 1) (bTd b))), (3, .int (bFd k)), (6, .int (bTd k)), (5, .int (bFd k)), (0, .ref (G.2.1 0)), (1, .int b), (2, .int k)]) hx hb dX0_carveD_82 hl (by decide) rfl (fun ls hl => ?_)
      refine lv_aload_n hx hb dX0_carveD_84 rfl (lv_at hl 5 rfl) ?_
      refine lv_iload_n hx hb dX0_carveD_85 rfl (lv_at hl 6 rfl) ?_
      refine lv_iload_n hx hb dX0_carveD_86 rfl (lv_at hl 2 rfl) ?_
      refine lv_iload hx hb dX0_carveD_87 (lv_at hl 0 rfl) ?_
      refine kx_withD C hI (hR.le (by decide)) hl.1 (Nat.le_of_ble_eq_true rfl) dX0_carveD_89 ?_
      have ec : (P ++ [bWd b (bFd b) (bFd k - 1)]) ++ [bWd b (bTd k + 1) (bTd b)] = P ++ cD b k := by simp only [cD, if_pos e1, if_pos e2, List.append_nil, List.nil_append, List.append_assoc]
      exact e_int hI hx hb hr hlocks ⟨by simp only [rD, if_pos e1, if_pos e2], q2, by rw [← ec], by rw [← ec]; exact hq2⟩ dX0_carveD_92
section KD
variable {p : Program} {l : Launch} {e : Env} {R : Room} {s : State} {m : MethodId} {args : Array Value} {below : List Frame} {meth : Method} {c : Code} {H : Heap} {locs : List Loc} {Q : State → Prop} {G : GT}
theorem kx_carveS {cc : ByteArray} {nL pc : Nat} {ls : Array Slot} {rest : List Value} {f0 : Int32} {f1 : Int32} {B : Nat → Int32} {K : Nat → Int32} {w : Nat → Int32} {wc : Int32} {q : Nat → Int32} {a : Nat → Int32} {ac : Int32} {v : Nat → Int32} {vc : Int32} {b : Int32} {k : Int32} {P : List Int32} (hq : hL q P) (hlen : (P ++ cS b k).length ≤ 512) (C : XC p s m args c cc nL G) (hI : XI G s (f0, f1, B, K, w, wc, q, nI P.length, a, ac, v, vc) H locs) (hR : RL R 2) (hz : ls.size = nL) (hrm : (rest.map fun v => v.category).sum ≤ 8) (hd : decode cc pc = .ok (.invokevirtual 111, 3)) (kk : ∀ (q1 : Nat → Int32) (H1 : Heap) (locs1 : List Loc), hL q1 (P ++ cS b k) → XI G s (f0, f1, B, K, w, wc, q1, nI (P ++ cS b k).length, a, ac, v, vc) H1 locs1 → W p l e R s m args below meth c H1 locs1 0 0 Q (F0 m (pc + 3) ls (.int (rS b k) :: rest))) : W p l e R s m args below meth c H locs 0 0 Q (F0 m pc ls (.int k :: .int b :: .ref (G.2.1 0) :: rest)) :=
  g_i (n := 2) (metx_carveS l G C.2.2 f0 f1 B K w wc q a ac v vc b k P hq hlen) C hI rfl rfl rfl (lw_V q158 q160 qs12 q37 q161) (by decide +kernel) rfl rfl rfl ⟨hR.1, by have := hR.2; show 8 + (8 + 11) + 30 * 1 ≤ R.locals; omega⟩ hz rfl hrm hd (fun r1 u1 H1 locs1 hp hI => by obtain ⟨rfl, q1, rfl, hq1⟩ := hp; exact kk q1 H1 locs1 hq1 hI)
theorem kx_carveD {cc : ByteArray} {nL pc : Nat} {ls : Array Slot} {rest : List Value} {f0 : Int32} {f1 : Int32} {B : Nat → Int32} {K : Nat → Int32} {w : Nat → Int32} {wc : Int32} {q : Nat → Int32} {a : Nat → Int32} {ac : Int32} {v : Nat → Int32} {vc : Int32} {b : Int32} {k : Int32} {P : List Int32} (hq : hL q P) (hlen : (P ++ cD b k).length ≤ 512) (C : XC p s m args c cc nL G) (hI : XI G s (f0, f1, B, K, w, wc, q, nI P.length, a, ac, v, vc) H locs) (hR : RL R 2) (hz : ls.size = nL) (hrm : (rest.map fun v => v.category).sum ≤ 8) (hd : decode cc pc = .ok (.invokevirtual 115, 3)) (kk : ∀ (q1 : Nat → Int32) (H1 : Heap) (locs1 : List Loc), hL q1 (P ++ cD b k) → XI G s (f0, f1, B, K, w, wc, q1, nI (P ++ cD b k).length, a, ac, v, vc) H1 locs1 → W p l e R s m args below meth c H1 locs1 0 0 Q (F0 m (pc + 3) ls (.int (rD b k) :: rest))) : W p l e R s m args below meth c H locs 0 0 Q (F0 m pc ls (.int k :: .int b :: .ref (G.2.1 0) :: rest)) :=
  g_i (n := 2) (metx_carveD l G C.2.2 f0 f1 B K w wc q a ac v vc b k P hq hlen) C hI rfl rfl rfl (lw_V q170 q172 qs15 q37 q173) (by decide +kernel) rfl rfl rfl ⟨hR.1, by have := hR.2; show 8 + (8 + 11) + 30 * 1 ≤ R.locals; omega⟩ hz rfl hrm hd (fun r1 u1 H1 locs1 hp hI => by obtain ⟨rfl, q1, rfl, hq1⟩ := hp; exact kk q1 H1 locs1 hq1 hI)
end KD
set_option maxHeartbeats 4000000 in
theorem metx_carve (l : Launch) (G : GT) (hD : XD G) (f0 : Int32) (f1 : Int32) (B : Nat → Int32) (K : Nat → Int32) (w : Nat → Int32) (wc : Int32) (q : Nat → Int32) (a : Nat → Int32) (ac : Int32) (v : Nat → Int32) (vc : Int32) (b : Int32) (k : Int32) (P : List Int32) (hq : hL q P) (hlen : (P ++ carL b k).length ≤ 512) : Met l yX0_carve (ws_ yX0_carve cX0_carve 4 none) (rmd 2) (xPc G (f0, f1, B, K, w, wc, q, (nI P.length), a, ac, v, vc) [.int b, .int k]) (xQv G (fun u1 => ∃ q1, u1 = (f0, f1, B, K, w, wc, q1, nI (P ++ carL b k).length, a, ac, v, vc) ∧ hL q1 (P ++ carL b k))) 0 0 (xA G) := by
  refine gMet (Rn := RX0) (by decide +kernel) rfl (Nat.le_of_ble_eq_true rfl) hD ?_
  intro p e s m below meth c ls C hr hlocks hI hl
  have hR := RL.rm 2
  have hx := C.1.1
  have hb := C.1.2.1
  have hl : lv_has ls 4 [(0, .ref (G.2.1 0)), (1, .int b), (2, .int k)] := hl
  refine lv_aload_n hx hb dX0_carve_0 rfl (lv_at hl 0 rfl) ?_
  refine lv_iload_n hx hb dX0_carve_1 rfl (lv_at hl 1 rfl) ?_
  refine lv_iload_n hx hb dX0_carve_2 rfl (lv_at hl 2 rfl) ?_
  refine kx_carveS (P := P) hq (by have h := hlen; simp only [carL, List.length_append, List.length_singleton, List.length_nil] at h ⊢; omega) C hI (hR.le (by decide)) hl.1 (Nat.le_of_ble_eq_true rfl) dX0_carve_3 (fun q1 H locs hq1 hI => ?_)
  refine lv_istore_n (lv' := [(3, .int (rS b k)), (0, .ref (G.2.1 0)), (1, .int b), (2, .int k)]) hx hb dX0_carve_6 rfl hl (by decide) rfl (fun ls hl => ?_)
  refine lv_aload_n hx hb dX0_carve_7 rfl (lv_at hl 1 rfl) ?_
  refine lv_iload_n hx hb dX0_carve_8 rfl (lv_at hl 0 rfl) ?_
  refine lv_iload_n hx hb dX0_carve_9 rfl (lv_at hl 3 rfl) ?_
  refine kx_carveD (P := P ++ cS b k) hq1 (by have h := hlen; simp only [carL, List.length_append, List.length_singleton, List.length_nil] at h ⊢; omega) C hI (hR.le (by decide)) hl.1 (Nat.le_of_ble_eq_true rfl) dX0_carve_10 (fun q2 H locs hq2 hI => ?_)
  refine lv_istore_n (lv' := [(3, .int (rD (rS b k) k)), (0, .ref (G.2.1 0)), (1, .int b), (2, .int k)]) hx hb dX0_carve_13 rfl hl (by decide) rfl (fun ls hl => ?_)
  refine lv_aload_n hx hb dX0_carve_14 rfl (lv_at hl 1 rfl) ?_
  refine lv_iload_n hx hb dX0_carve_15 rfl (lv_at hl 0 rfl) ?_
  refine kx_fromP C hI (hR.le (by decide)) hl.1 (Nat.le_of_ble_eq_true rfl) dX0_carve_16 ?_
  refine lv_aload_n hx hb dX0_carve_19 rfl (lv_at hl 1 rfl) ?_
  refine lv_iload_n hx hb dX0_carve_20 rfl (lv_at hl 3 rfl) ?_
  refine kx_fromP C hI (hR.le (by decide)) hl.1 (Nat.le_of_ble_eq_true rfl) dX0_carve_21 ?_
  refine lv_icmp_ge (tgt := 35) hx hb dX0_carve_24 (by decide) (fun c1 => ?_) (fun c1 => ?_)
  · have e1 := i_le_nlt c1
    refine lv_aload_n hx hb dX0_carve_35 rfl (lv_at hl 1 rfl) ?_
    refine lv_iload_n hx hb dX0_carve_36 rfl (lv_at hl 0 rfl) ?_
    refine kx_toP C hI (hR.le (by decide)) hl.1 (Nat.le_of_ble_eq_true rfl) dX0_carve_37 ?_
    refine lv_aload_n hx hb dX0_carve_40 rfl (lv_at hl 1 rfl) ?_
    refine lv_iload_n hx hb dX0_carve_41 rfl (lv_at hl 3 rfl) ?_
    refine kx_toP C hI (hR.le (by decide)) hl.1 (Nat.le_of_ble_eq_true rfl) dX0_carve_42 ?_
    refine lv_icmp_le (tgt := 55) hx hb dX0_carve_45 (by decide) (fun d2 => ?_) (fun d2 => ?_)
    · have e2 := i_le_nlt d2
      have ec : (P ++ cS b k ++ cD (rS b k) k) = P ++ carL b k := by simp only [carL, cP, if_neg e1, if_neg e2, List.append_nil, List.nil_append, List.append_assoc]
      exact e_void hI hx hb hr hlocks ⟨q2, by rw [← ec], by rw [← ec]; exact hq2⟩ dX0_carve_55
    · have e2 := i_nle d2
      refine lv_aload_n hx hb dX0_carve_48 rfl (lv_at hl 1 rfl) ?_
      refine lv_iload_n hx hb dX0_carve_49 rfl (lv_at hl 0 rfl) ?_
      refine lv_iconst (v := 3) hx hb dX0_carve_50 (by decide) ?_
      refine lv_ior hx hb dX0_carve_51 ?_
      refine kx_addPiece (P := (P ++ cS b k ++ cD (rS b k) k)) hq2 (by have h := hlen; simp only [carL, cP, if_neg e1, if_pos e2, List.length_append, List.length_singleton, List.length_nil] at h ⊢; omega) C hI (hR.le (by decide)) hl.1 (Nat.le_of_ble_eq_true rfl) dX0_carve_52 (fun q4 H locs hq4 hI => ?_)
      have ec : (P ++ cS b k ++ cD (rS b k) k) ++ [(rD (rS b k) k) ||| 3] = P ++ carL b k := by simp only [carL, cP, if_neg e1, if_pos e2, List.append_nil, List.nil_append, List.append_assoc]
      exact e_void hI hx hb hr hlocks ⟨q4, by rw [← ec], by rw [← ec]; exact hq4⟩ dX0_carve_55
  · have e1 := i_nle c1
    refine lv_aload_n hx hb dX0_carve_27 rfl (lv_at hl 1 rfl) ?_
    refine lv_iload_n hx hb dX0_carve_28 rfl (lv_at hl 0 rfl) ?_
    refine lv_bipush (v := (-4 : Int32)) hx hb dX0_carve_29 (by decide) ?_
    refine lv_iand hx hb dX0_carve_31 ?_
    refine kx_addPiece (P := (P ++ cS b k ++ cD (rS b k) k)) hq2 (by have h := hlen; simp only [carL, cP, if_pos e1, List.length_append, List.length_singleton, List.length_nil] at h ⊢; omega) C hI (hR.le (by decide)) hl.1 (Nat.le_of_ble_eq_true rfl) dX0_carve_32 (fun q3 H locs hq3 hI => ?_)
    refine lv_aload_n hx hb dX0_carve_35 rfl (lv_at hl 1 rfl) ?_
    refine lv_iload_n hx hb dX0_carve_36 rfl (lv_at hl 0 rfl) ?_
    refine kx_toP C hI (hR.le (by decide)) hl.1 (Nat.le_of_ble_eq_true rfl) dX0_carve_37 ?_
    refine lv_aload_n hx hb dX0_carve_40 rfl (lv_at hl 1 rfl) ?_
    refine lv_iload_n hx hb dX0_carve_41 rfl (lv_at hl 3 rfl) ?_
    refine kx_toP C hI (hR.le (by decide)) hl.1 (Nat.le_of_ble_eq_true rfl) dX0_carve_42 ?_
    refine lv_icmp_le (tgt := 55) hx hb dX0_carve_45 (by decide) (fun c2 => ?_) (fun c2 => ?_)
    · have e2 := i_le_nlt c2
      have ec : ((P ++ cS b k ++ cD (rS b k) k) ++ [(rD (rS b k) k) &&& (-4)]) = P ++ carL b k := by simp only [carL, cP, if_pos e1, if_neg e2, List.append_nil, List.nil_append, List.append_assoc]
      exact e_void hI hx hb hr hlocks ⟨q3, by rw [← ec], by rw [← ec]; exact hq3⟩ dX0_carve_55
    · have e2 := i_nle c2
      refine lv_aload_n hx hb dX0_carve_48 rfl (lv_at hl 1 rfl) ?_
      refine lv_iload_n hx hb dX0_carve_49 rfl (lv_at hl 0 rfl) ?_
      refine lv_iconst (v := 3) hx hb dX0_carve_50 (by decide) ?_
      refine lv_ior hx hb dX0_carve_51 ?_
      refine kx_addPiece (P := ((P ++ cS b k ++ cD (rS b k) k) ++ [(rD (rS b k) k) &&& (-4)])) hq3 (by have h := hlen; simp only [carL, cP, if_pos e1, if_pos e2, List.length_append, List.length_singleton, List.length_nil] at h ⊢; omega) C hI (hR.le (by decide)) hl.1 (Nat.le_of_ble_eq_true rfl) dX0_carve_52 (fun q4 H locs hq4 hI => ?_)
      have ec : ((P ++ cS b k ++ cD (rS b k) k) ++ [(rD (rS b k) k) &&& (-4)]) ++ [(rD (rS b k) k) ||| 3] = P ++ carL b k := by simp only [carL, cP, if_pos e1, if_pos e2, List.append_nil, List.nil_append, List.append_assoc]
      exact e_void hI hx hb hr hlocks ⟨q4, by rw [← ec], by rw [← ec]; exact hq4⟩ dX0_carve_55
section KE
variable {p : Program} {l : Launch} {e : Env} {R : Room} {s : State} {m : MethodId} {args : Array Value} {below : List Frame} {meth : Method} {c : Code} {H : Heap} {locs : List Loc} {Q : State → Prop} {G : GT}
theorem kx_carve {cc : ByteArray} {nL pc : Nat} {ls : Array Slot} {rest : List Value} {f0 : Int32} {f1 : Int32} {B : Nat → Int32} {K : Nat → Int32} {w : Nat → Int32} {wc : Int32} {q : Nat → Int32} {a : Nat → Int32} {ac : Int32} {v : Nat → Int32} {vc : Int32} {b : Int32} {k : Int32} {P : List Int32} (hq : hL q P) (hlen : (P ++ carL b k).length ≤ 512) (C : XC p s m args c cc nL G) (hI : XI G s (f0, f1, B, K, w, wc, q, nI P.length, a, ac, v, vc) H locs) (hR : RL R 3) (hz : ls.size = nL) (hrm : (rest.map fun v => v.category).sum ≤ 8) (hd : decode cc pc = .ok (.invokevirtual 104, 3)) (kk : ∀ (q1 : Nat → Int32) (H1 : Heap) (locs1 : List Loc), hL q1 (P ++ carL b k) → XI G s (f0, f1, B, K, w, wc, q1, nI (P ++ carL b k).length, a, ac, v, vc) H1 locs1 → W p l e R s m args below meth c H1 locs1 0 0 Q (F0 m (pc + 3) ls rest)) : W p l e R s m args below meth c H locs 0 0 Q (F0 m pc ls (.int k :: .int b :: .ref (G.2.1 0) :: rest)) :=
  g_v (n := 2) (metx_carve l G C.2.2 f0 f1 B K w wc q a ac v vc b k P hq hlen) C hI rfl rfl rfl (lw_V q154 q156 qs11 q37 q157) (by decide +kernel) rfl rfl rfl ⟨hR.1, by have := hR.2; show 8 + (4 + 11) + 30 * 2 ≤ R.locals; omega⟩ hz rfl hrm hd (fun u1 H1 locs1 hp hI => by obtain ⟨q1, rfl, hq1⟩ := hp; exact kk q1 H1 locs1 hq1 hI)
end KE
end
section
/-! X0: lists of boxes carved -/
set_option maxRecDepth 100000
section LA
variable {p : Program} {l : Launch} {e : Env} {R : Room} {s : State} {m : MethodId} {args : Array Value} {below : List Frame} {meth : Method} {c : Code} {H : Heap} {locs : List Loc} {Q : State → Prop} {G : GT}
theorem nl_lt {a b : Nat} (ha : a < 2 ^ 31) (hb : b < 2 ^ 31) (h : ¬ nI a ≤ nI b) : b < a := Nat.not_le.mp fun q => h ((nI_leI ha hb).mpr q)
theorem nl_le {a b : Nat} (ha : a < 2 ^ 31) (hb : b < 2 ^ 31) (h : nI a ≤ nI b) : a ≤ b := (nI_leI ha hb).mp h
set_option maxHeartbeats 4000000 in
theorem sub_l1 {f0 : Int32} {f1 : Int32} {B : Nat → Int32} {K : Nat → Int32} {w : Nat → Int32} {a : Nat → Int32} {ac : Int32} {v : Nat → Int32} {vc : Int32} {L : List Int32} {k : Int32} (C : XC p s m args c cX0_subtract 3 G) (hR : RL R 3) (hLn : L.length ≤ 512) (hS : (subL L k).length ≤ 512) (hw : hL w L)
    (kk : ∀ (q : Nat → Int32) (H : Heap) (locs : List Loc) (ls : Array Slot), hL q (subL L k) → XI G s (f0, f1, B, K, w, nI L.length, q, nI (subL L k).length, a, ac, v, vc) H locs → lv_has ls 3 [(0, .ref (G.2.1 0)), (1, .int k)] → W p l e R s m args below meth c H locs 0 0 Q (F0 m 59 ls [])) :
    ∀ (n : Nat) (i : Nat) (q : Nat → Int32) (H : Heap) (locs : List Loc) (ls : Array Slot), i + n = L.length → hL q (subL (L.take i) k) → XI G s (f0, f1, B, K, w, (nI L.length), q, (nI (subL (L.take i) k).length), a, ac, v, vc) H locs → lv_has ls 3 [(2, .int (nI i)), (0, .ref (G.2.1 0)), (1, .int k)] → W p l e R s m args below meth c H locs 0 0 Q (F0 m 7 ls []) := by
  have hx := C.1.1
  have hb := C.1.2.1
  intro n
  induction n with
  | zero =>
    intro i q H locs ls hi hq hI hl
    refine lv_iload_n hx hb dX0_subtract_7 rfl (lv_at hl 0 rfl) ?_
    refine lv_aload_n hx hb dX0_subtract_8 rfl (lv_at hl 1 rfl) ?_
    refine xg5 C hI dX0_subtract_9 ?_
    refine lv_icmp_ge (tgt := 59) hx hb dX0_subtract_12 (by decide) (fun c1 => ?_) (fun c1 => ?_)
    · have e1 : L.take i = L := List.take_of_length_le (by omega)
      rw [e1] at hq hI
      exact kk q H locs ls hq hI (lv_sub hl [1, 2] rfl)
    · exact absurd (nl_lt (by omega) (by omega) c1) (by omega)
  | succ n ih =>
    intro i q H locs ls hi hq hI hl
    refine lv_iload_n hx hb dX0_subtract_7 rfl (lv_at hl 0 rfl) ?_
    refine lv_aload_n hx hb dX0_subtract_8 rfl (lv_at hl 1 rfl) ?_
    refine xg5 C hI dX0_subtract_9 ?_
    refine lv_icmp_ge (tgt := 59) hx hb dX0_subtract_12 (by decide) (fun c1 => ?_) (fun c1 => ?_)
    · exact absurd (nl_le (by omega) (by omega) c1) (by omega)
    · have hlt : i < L.length := nl_lt (by omega) (by omega) c1
      have hpre := subL_pre (L := L) k (i + 1)
      rw [subL_take k hlt] at hpre
      refine lv_aload_n hx hb dX0_subtract_15 rfl (lv_at hl 1 rfl) ?_
      refine lv_aload_n hx hb dX0_subtract_16 rfl (lv_at hl 1 rfl) ?_
      refine xg4 C hI dX0_subtract_17 ?_
      refine lv_iload_n hx hb dX0_subtract_20 rfl (lv_at hl 0 rfl) ?_
      refine xl3 (i := i) C hI rfl (by omega) dX0_subtract_21 ?_
      rw [hw i hlt]
      refine lv_iload_n hx hb dX0_subtract_22 rfl (lv_at hl 2 rfl) ?_
      refine kx_meets C hI (hR.le (by decide)) hl.1 (Nat.le_of_ble_eq_true rfl) dX0_subtract_23 ?_
      refine lv_if_eq (tgt := 43) hx hb dX0_subtract_26 (by decide) (fun c2 => ?_) (fun c2 => ?_)
      · have c2 := if0 c2
        have es : sub1 k (L.getD i 0) = [L.getD i 0] := if_neg c2
        refine lv_aload_n hx hb dX0_subtract_43 rfl (lv_at hl 1 rfl) ?_
        refine lv_aload_n hx hb dX0_subtract_44 rfl (lv_at hl 1 rfl) ?_
        refine xg4 C hI dX0_subtract_45 ?_
        refine lv_iload_n hx hb dX0_subtract_48 rfl (lv_at hl 0 rfl) ?_
        refine xl3 (i := i) C hI rfl (by omega) dX0_subtract_49 ?_
        rw [hw i hlt]
        refine kx_addPiece (P := subL (L.take i) k) hq (by rw [es, List.length_append, List.length_singleton] at hpre; omega) C hI (hR.le (by decide)) hl.1 (Nat.le_of_ble_eq_true rfl) dX0_subtract_50 (fun q1 H locs hq1 hI => ?_)
        rw [← es, ← subL_take k hlt] at hq1 hI
        refine lv_iinc (v := nI (i + 1)) (lv' := [(2, .int (nI (i + 1))), (0, .ref (G.2.1 0)), (1, .int k)]) hx hb dX0_subtract_53 hl (k := 0) rfl (nI_1 i) (by decide) rfl (fun ls hl => ?_)
        refine lv_goto (tgt := 7) hx hb dX0_subtract_56 (by decide) ?_
        exact ih (i + 1) q1 H locs ls (by omega) hq1 hI hl
      · have c2 := if1 c2
        have es : sub1 k (L.getD i 0) = carL (L.getD i 0) k := if_pos c2
        refine lv_aload_n hx hb dX0_subtract_29 rfl (lv_at hl 1 rfl) ?_
        refine lv_aload_n hx hb dX0_subtract_30 rfl (lv_at hl 1 rfl) ?_
        refine xg4 C hI dX0_subtract_31 ?_
        refine lv_iload_n hx hb dX0_subtract_34 rfl (lv_at hl 0 rfl) ?_
        refine xl3 (i := i) C hI rfl (by omega) dX0_subtract_35 ?_
        rw [hw i hlt]
        refine lv_iload_n hx hb dX0_subtract_36 rfl (lv_at hl 2 rfl) ?_
        refine kx_carve (P := subL (L.take i) k) hq (by rw [es] at hpre; omega) C hI (hR.le (by decide)) hl.1 (Nat.le_of_ble_eq_true rfl) dX0_subtract_37 (fun q1 H locs hq1 hI => ?_)
        rw [← es, ← subL_take k hlt] at hq1 hI
        refine lv_goto (tgt := 53) hx hb dX0_subtract_40 (by decide) ?_
        refine lv_iinc (v := nI (i + 1)) (lv' := [(2, .int (nI (i + 1))), (0, .ref (G.2.1 0)), (1, .int k)]) hx hb dX0_subtract_53 hl (k := 0) rfl (nI_1 i) (by decide) rfl (fun ls hl => ?_)
        refine lv_goto (tgt := 7) hx hb dX0_subtract_56 (by decide) ?_
        exact ih (i + 1) q1 H locs ls (by omega) hq1 hI hl
set_option maxHeartbeats 4000000 in
theorem sub_l2 {f0 : Int32} {f1 : Int32} {B : Nat → Int32} {K : Nat → Int32} {wc : Int32} {q : Nat → Int32} {a : Nat → Int32} {ac : Int32} {v : Nat → Int32} {vc : Int32} {M : List Int32} (C : XC p s m args c cX0_subtract 3 G) (hR : RL R 3) (hM : M.length ≤ 512) (hq : hL q M)
    (kk : ∀ (w : Nat → Int32) (H : Heap) (locs : List Loc) (ls : Array Slot), hL w M → XI G s (f0, f1, B, K, w, wc, q, nI M.length, a, ac, v, vc) H locs → lv_has ls 3 [(0, .ref (G.2.1 0))] → W p l e R s m args below meth c H locs 0 0 Q (F0 m 87 ls [])) :
    ∀ (n : Nat) (i : Nat) (w : Nat → Int32) (H : Heap) (locs : List Loc) (ls : Array Slot), i + n = M.length → hL w (M.take i) → XI G s (f0, f1, B, K, w, wc, q, (nI M.length), a, ac, v, vc) H locs → lv_has ls 3 [(2, .int (nI i)), (0, .ref (G.2.1 0))] → W p l e R s m args below meth c H locs 0 0 Q (F0 m 61 ls []) := by
  have hx := C.1.1
  have hb := C.1.2.1
  intro n
  induction n with
  | zero =>
    intro i w H locs ls hi hw hI hl
    refine lv_iload_n hx hb dX0_subtract_61 rfl (lv_at hl 0 rfl) ?_
    refine lv_aload_n hx hb dX0_subtract_62 rfl (lv_at hl 1 rfl) ?_
    refine xg7 C hI dX0_subtract_63 ?_
    refine lv_icmp_ge (tgt := 87) hx hb dX0_subtract_66 (by decide) (fun c1 => ?_) (fun c1 => ?_)
    · have e1 : M.take i = M := List.take_of_length_le (by omega)
      rw [e1] at hw
      exact kk w H locs ls hw hI (lv_sub hl [1] rfl)
    · exact absurd (nl_lt (by omega) (by omega) c1) (by omega)
  | succ n ih =>
    intro i w H locs ls hi hw hI hl
    refine lv_iload_n hx hb dX0_subtract_61 rfl (lv_at hl 0 rfl) ?_
    refine lv_aload_n hx hb dX0_subtract_62 rfl (lv_at hl 1 rfl) ?_
    refine xg7 C hI dX0_subtract_63 ?_
    refine lv_icmp_ge (tgt := 87) hx hb dX0_subtract_66 (by decide) (fun c1 => ?_) (fun c1 => ?_)
    · exact absurd (nl_le (by omega) (by omega) c1) (by omega)
    · have hlt : i < M.length := nl_lt (by omega) (by omega) c1
      refine lv_aload_n hx hb dX0_subtract_69 rfl (lv_at hl 1 rfl) ?_
      refine xg4 C hI dX0_subtract_70 ?_
      refine lv_iload_n hx hb dX0_subtract_73 rfl (lv_at hl 0 rfl) ?_
      refine lv_aload_n hx hb dX0_subtract_74 rfl (lv_at hl 1 rfl) ?_
      refine xg6 C hI dX0_subtract_75 ?_
      refine lv_iload_n hx hb dX0_subtract_78 rfl (lv_at hl 0 rfl) ?_
      refine xl4 (i := i) C hI rfl (by omega) dX0_subtract_79 ?_
      refine xs3 (i := i) C hI rfl (by omega) dX0_subtract_80 (fun H locs hI => ?_)
      have hw1 := hL_push hw (q i)
      rw [List.length_take, Nat.min_eq_left (by omega), hq i hlt, ← take_s hlt] at hw1
      refine lv_iinc (v := nI (i + 1)) (lv' := [(2, .int (nI (i + 1))), (0, .ref (G.2.1 0))]) hx hb dX0_subtract_81 hl (k := 0) rfl (nI_1 i) (by decide) rfl (fun ls hl => ?_)
      refine lv_goto (tgt := 61) hx hb dX0_subtract_84 (by decide) ?_
      rw [hq i hlt] at hI
      exact ih (i + 1) _ H locs ls (by omega) hw1 hI (lv_sub hl [0, 1] rfl)
end LA
set_option maxHeartbeats 4000000 in
theorem metx_subtract (l : Launch) (G : GT) (hD : XD G) (f0 : Int32) (f1 : Int32) (B : Nat → Int32) (K : Nat → Int32) (w : Nat → Int32) (q : Nat → Int32) (qc : Int32) (a : Nat → Int32) (ac : Int32) (v : Nat → Int32) (vc : Int32) (k : Int32) (L : List Int32) (hw : hL w L) (hLn : L.length ≤ 512) (hS : (subL L k).length ≤ 512) : Met l yX0_subtract (ws_ yX0_subtract cX0_subtract 3 none) (rmd 3) (xPc G (f0, f1, B, K, w, (nI L.length), q, qc, a, ac, v, vc) [.int k]) (xQv G (fun u1 => ∃ w1 q1 qc1, u1 = (f0, f1, B, K, w1, nI (subL L k).length, q1, qc1, a, ac, v, vc) ∧ hL w1 (subL L k))) 0 0 (xA G) := by
  refine gMet (Rn := RX0) (by decide +kernel) rfl (Nat.le_of_ble_eq_true rfl) hD ?_
  intro p e s m below meth c ls C hr hlocks hI hl
  have hR := RL.rm 3
  have hx := C.1.1
  have hb := C.1.2.1
  have hl : lv_has ls 3 [(0, .ref (G.2.1 0)), (1, .int k)] := hl
  refine lv_aload_n hx hb dX0_subtract_0 rfl (lv_at hl 0 rfl) ?_
  refine lv_iconst (v := 0) hx hb dX0_subtract_1 (by decide) ?_
  refine xp7 C hI dX0_subtract_2 (fun H locs hI => ?_)
  refine lv_iconst (v := 0) hx hb dX0_subtract_5 (by decide) ?_
  refine lv_istore_n (lv' := [(2, .int 0), (0, .ref (G.2.1 0)), (1, .int k)]) hx hb dX0_subtract_6 rfl hl (by decide) rfl (fun ls hl => ?_)
  refine sub_l1 C hR hLn hS hw (fun q1 H locs ls hq1 hI hl => ?_) L.length 0 q _ _ ls (by omega) (hL_nil q) hI (lv_sub hl [0, 1, 2] rfl)
  refine lv_iconst (v := 0) hx hb dX0_subtract_59 (by decide) ?_
  refine lv_istore_n (lv' := [(2, .int 0), (0, .ref (G.2.1 0)), (1, .int k)]) hx hb dX0_subtract_60 rfl hl (by decide) rfl (fun ls hl => ?_)
  refine sub_l2 C hR hS hq1 (fun w1 H locs ls hw1 hI hl => ?_) (subL L k).length 0 w _ _ ls (by omega) (hL_nil w) hI (lv_sub hl [0, 1] rfl)
  refine lv_aload_n hx hb dX0_subtract_87 rfl (lv_at hl 0 rfl) ?_
  refine lv_aload_n hx hb dX0_subtract_88 rfl (lv_at hl 0 rfl) ?_
  refine xg7 C hI dX0_subtract_89 ?_
  refine xp5 C hI dX0_subtract_92 (fun H locs hI => ?_)
  exact e_void hI hx hb hr hlocks ⟨w1, q1, _, rfl, hw1⟩ dX0_subtract_95
section KF
variable {p : Program} {l : Launch} {e : Env} {R : Room} {s : State} {m : MethodId} {args : Array Value} {below : List Frame} {meth : Method} {c : Code} {H : Heap} {locs : List Loc} {Q : State → Prop} {G : GT}
theorem kx_subtract {cc : ByteArray} {nL pc : Nat} {ls : Array Slot} {rest : List Value} {f0 : Int32} {f1 : Int32} {B : Nat → Int32} {K : Nat → Int32} {w : Nat → Int32} {q : Nat → Int32} {qc : Int32} {a : Nat → Int32} {ac : Int32} {v : Nat → Int32} {vc : Int32} {k : Int32} {L : List Int32} (hw : hL w L) (hLn : L.length ≤ 512) (hS : (subL L k).length ≤ 512) (C : XC p s m args c cc nL G) (hI : XI G s (f0, f1, B, K, w, nI L.length, q, qc, a, ac, v, vc) H locs) (hR : RL R 4) (hz : ls.size = nL) (hrm : (rest.map fun v => v.category).sum ≤ 8) (hd : decode cc pc = .ok (.invokevirtual 86, 3)) (kk : ∀ (w1 q1 : Nat → Int32) (qc1 : Int32) (H1 : Heap) (locs1 : List Loc), hL w1 (subL L k) → XI G s (f0, f1, B, K, w1, nI (subL L k).length, q1, qc1, a, ac, v, vc) H1 locs1 → W p l e R s m args below meth c H1 locs1 0 0 Q (F0 m (pc + 3) ls rest)) : W p l e R s m args below meth c H locs 0 0 Q (F0 m pc ls (.int k :: .ref (G.2.1 0) :: rest)) :=
  g_v (n := 1) (metx_subtract l G C.2.2 f0 f1 B K w q qc a ac v vc k L hw hLn hS) C hI rfl rfl rfl (lw_V q150 q152 qs10 q37 q153) (by decide +kernel) rfl rfl rfl ⟨hR.1, by have := hR.2; show 8 + (3 + 11) + 30 * 3 ≤ R.locals; omega⟩ hz rfl hrm hd (fun u1 H1 locs1 hp hI => by obtain ⟨w1, q1, qc1, rfl, hw1⟩ := hp; exact kk w1 q1 qc1 H1 locs1 hw1 hI)
set_option maxHeartbeats 4000000 in
theorem own_l {f0 : Int32} {f1 : Int32} {B : Nat → Int32} {K : Nat → Int32} {a : Nat → Int32} {ac : Int32} {v : Nat → Int32} {vc : Int32} {i : Nat} (C : XC p s m args c cX0_carveOwned 3 G) (hR : RL R 4) (hi : i < 10) (hb1 : ∀ j, j ≤ i → (ownJ B i j).length ≤ 512)
    (kk : ∀ (w q : Nat → Int32) (qc : Int32) (H : Heap) (locs : List Loc) (ls : Array Slot), hL w (ownL B i) → XI G s (f0, f1, B, K, w, nI (ownL B i).length, q, qc, a, ac, v, vc) H locs → lv_has ls 3 [(0, .ref (G.2.1 0))] → W p l e R s m args below meth c H locs 0 0 Q (F0 m 33 ls [])) :
    ∀ (n : Nat) (j : Nat) (w : Nat → Int32) (q : Nat → Int32) (qc : Int32) (H : Heap) (locs : List Loc) (ls : Array Slot), j + n = i → hL w (ownJ B i j) → XI G s (f0, f1, B, K, w, (nI (ownJ B i j).length), q, qc, a, ac, v, vc) H locs → lv_has ls 3 [(2, .int (nI j)), (0, .ref (G.2.1 0)), (1, .int (nI i))] → W p l e R s m args below meth c H locs 0 0 Q (F0 m 12 ls []) := by
  have hx := C.1.1
  have hb := C.1.2.1
  intro n
  induction n with
  | zero =>
    intro j w q qc H locs ls hj hw hI hl
    refine lv_iload_n hx hb dX0_carveOwned_12 rfl (lv_at hl 0 rfl) ?_
    refine lv_iload_n hx hb dX0_carveOwned_13 rfl (lv_at hl 2 rfl) ?_
    refine lv_icmp_ge (tgt := 33) hx hb dX0_carveOwned_14 (by decide) (fun c1 => ?_) (fun c1 => ?_)
    · have e1 : j = i := by omega
      subst e1
      exact kk w q qc H locs ls hw hI (lv_sub hl [1] rfl)
    · exact absurd (nl_lt (by omega) (by omega) c1) (by omega)
  | succ n ih =>
    intro j w q qc H locs ls hj hw hI hl
    refine lv_iload_n hx hb dX0_carveOwned_12 rfl (lv_at hl 0 rfl) ?_
    refine lv_iload_n hx hb dX0_carveOwned_13 rfl (lv_at hl 2 rfl) ?_
    refine lv_icmp_ge (tgt := 33) hx hb dX0_carveOwned_14 (by decide) (fun c1 => ?_) (fun c1 => ?_)
    · exact absurd (nl_le (by omega) (by omega) c1) (by omega)
    · refine lv_aload_n hx hb dX0_carveOwned_17 rfl (lv_at hl 1 rfl) ?_
      refine lv_aload_n hx hb dX0_carveOwned_18 rfl (lv_at hl 1 rfl) ?_
      refine xg2 C hI dX0_carveOwned_19 ?_
      refine lv_iload_n hx hb dX0_carveOwned_22 rfl (lv_at hl 0 rfl) ?_
      refine xl1 (i := j) C hI rfl (by omega) dX0_carveOwned_23 ?_
      refine kx_subtract (L := ownJ B i j) hw (hb1 j (by omega)) (hb1 (j + 1) (by omega)) C hI (hR.le (by decide)) hl.1 (Nat.le_of_ble_eq_true rfl) dX0_carveOwned_24 (fun w1 q1 qc1 H locs hw1 hI => ?_)
      refine lv_iinc (v := nI (j + 1)) (lv' := [(2, .int (nI (j + 1))), (0, .ref (G.2.1 0)), (1, .int (nI i))]) hx hb dX0_carveOwned_27 hl (k := 0) rfl (nI_1 j) (by decide) rfl (fun ls hl => ?_)
      refine lv_goto (tgt := 12) hx hb dX0_carveOwned_30 (by decide) ?_
      exact ih (j + 1) w1 q1 qc1 H locs ls (by omega) hw1 hI (lv_sub hl [0, 1, 2] rfl)
end KF
set_option maxHeartbeats 4000000 in
theorem metx_carveOwned (l : Launch) (G : GT) (hD : XD G) (f0 : Int32) (f1 : Int32) (B : Nat → Int32) (K : Nat → Int32) (w : Nat → Int32) (wc : Int32) (q : Nat → Int32) (qc : Int32) (a : Nat → Int32) (ac : Int32) (v : Nat → Int32) (vc : Int32)  (i : Nat) (hi : i < 10) (hb1 : ∀ j, j ≤ i → (ownJ B i j).length ≤ 512) : Met l yX0_carveOwned (ws_ yX0_carveOwned cX0_carveOwned 3 none) (rmd 4) (xPc G (f0, f1, B, K, w, wc, q, qc, a, ac, v, vc) [.int ((nI i))]) (xQv G (fun u1 => ∃ w1 q1 qc1, u1 = (f0, f1, B, K, w1, nI (ownL B i).length, q1, qc1, a, ac, v, vc) ∧ hL w1 (ownL B i))) 0 0 (xA G) := by
  refine gMet (Rn := RX0) (by decide +kernel) rfl (Nat.le_of_ble_eq_true rfl) hD ?_
  intro p e s m below meth c ls C hr hlocks hI hl
  have hR := RL.rm 4
  have hx := C.1.1
  have hb := C.1.2.1
  have hl : lv_has ls 3 [(0, .ref (G.2.1 0)), (1, .int ((nI i)))] := hl
  refine lv_aload_n hx hb dX0_carveOwned_0 rfl (lv_at hl 0 rfl) ?_
  refine lv_aload_n hx hb dX0_carveOwned_1 rfl (lv_at hl 0 rfl) ?_
  refine xg2 C hI dX0_carveOwned_2 ?_
  refine lv_iload_n hx hb dX0_carveOwned_5 rfl (lv_at hl 1 rfl) ?_
  refine xl1 (i := i) C hI rfl hi dX0_carveOwned_6 ?_
  refine kx_startWork C hI (hR.le (by decide)) hl.1 (Nat.le_of_ble_eq_true rfl) dX0_carveOwned_7 (fun w1 H locs hw1 hI => ?_)
  refine lv_iconst (v := 0) hx hb dX0_carveOwned_10 (by decide) ?_
  refine lv_istore_n (lv' := [(2, .int 0), (0, .ref (G.2.1 0)), (1, .int ((nI i)))]) hx hb dX0_carveOwned_11 rfl hl (by decide) rfl (fun ls hl => ?_)
  refine own_l C hR hi hb1 (fun w2 q2 qc2 H locs ls hw2 hI hl => ?_) i 0 w1 q qc _ _ ls (by omega) hw1 hI (lv_sub hl [0, 1, 2] rfl)
  exact e_void hI hx hb hr hlocks ⟨w2, q2, qc2, rfl, hw2⟩ dX0_carveOwned_33
section KG
variable {p : Program} {l : Launch} {e : Env} {R : Room} {s : State} {m : MethodId} {args : Array Value} {below : List Frame} {meth : Method} {c : Code} {H : Heap} {locs : List Loc} {Q : State → Prop} {G : GT}
theorem kx_carveOwned {cc : ByteArray} {nL pc : Nat} {ls : Array Slot} {rest : List Value} {f0 : Int32} {f1 : Int32} {B : Nat → Int32} {K : Nat → Int32} {w : Nat → Int32} {wc : Int32} {q : Nat → Int32} {qc : Int32} {a : Nat → Int32} {ac : Int32} {v : Nat → Int32} {vc : Int32}  {i : Nat} (hi : i < 10) (hb1 : ∀ j, j ≤ i → (ownJ B i j).length ≤ 512) (C : XC p s m args c cc nL G) (hI : XI G s (f0, f1, B, K, w, wc, q, qc, a, ac, v, vc) H locs) (hR : RL R 5) (hz : ls.size = nL) (hrm : (rest.map fun v => v.category).sum ≤ 8) (hd : decode cc pc = .ok (.invokevirtual 44, 3)) (kk : ∀ (w1 q1 : Nat → Int32) (qc1 : Int32) (H1 : Heap) (locs1 : List Loc), hL w1 (ownL B i) → XI G s (f0, f1, B, K, w1, nI (ownL B i).length, q1, qc1, a, ac, v, vc) H1 locs1 → W p l e R s m args below meth c H1 locs1 0 0 Q (F0 m (pc + 3) ls rest)) : W p l e R s m args below meth c H locs 0 0 Q (F0 m pc ls (.int (nI i) :: .ref (G.2.1 0) :: rest)) :=
  g_v (n := 1) (metx_carveOwned l G C.2.2 f0 f1 B K w wc q qc a ac v vc i hi hb1) C hI rfl rfl rfl (lw_V q142 q144 qs8 q37 q145) (by decide +kernel) rfl rfl rfl ⟨hR.1, by have := hR.2; show 8 + (3 + 11) + 30 * 4 ≤ R.locals; omega⟩ hz rfl hrm hd (fun u1 H1 locs1 hp hI => by obtain ⟨w1, q1, qc1, rfl, hw1⟩ := hp; exact kk w1 q1 qc1 H1 locs1 hw1 hI)
end KG
end
section
/-! X0: sums and lowest corners of the work list; who decides a packet -/
set_option maxRecDepth 100000
section LB
variable {p : Program} {l : Launch} {e : Env} {R : Room} {s : State} {m : MethodId} {args : Array Value} {below : List Frame} {meth : Method} {c : Code} {H : Heap} {locs : List Loc} {Q : State → Prop} {G : GT}
set_option maxHeartbeats 4000000 in
theorem vol_l {f0 : Int32} {f1 : Int32} {B : Nat → Int32} {K : Nat → Int32} {w : Nat → Int32} {q : Nat → Int32} {qc : Int32} {a : Nat → Int32} {ac : Int32} {v : Nat → Int32} {vc : Int32} {L : List Int32} (C : XC p s m args c cX0_volumeOfWork 3 G) (hR : RL R 2) (hI : XI G s (f0, f1, B, K, w, (nI L.length), q, qc, a, ac, v, vc) s.heap []) (hLn : L.length ≤ 512) (hw : hL w L)
    (kk : ∀  (ls : Array Slot), lv_has ls 3 [(1, .int (volA L L.length))] → W p l e R s m args below meth c s.heap [] 0 0 Q (F0 m 31 ls [])) :
    ∀ (n_ : Nat) (i : Nat) (ls : Array Slot), i + n_ = L.length → lv_has ls 3 [(2, .int (nI i)), (1, .int (volA L i)), (0, .ref (G.2.1 0))] → W p l e R s m args below meth c s.heap [] 0 0 Q (F0 m 4 ls []) := by
  have hx := C.1.1
  have hb := C.1.2.1
  intro n_
  induction n_ with
  | zero =>
    intro i ls hi hl
    refine lv_iload_n hx hb dX0_volumeOfWork_4 rfl (lv_at hl 0 rfl) ?_
    refine lv_aload_n hx hb dX0_volumeOfWork_5 rfl (lv_at hl 2 rfl) ?_
    refine xg5 C hI dX0_volumeOfWork_6 ?_
    refine lv_icmp_ge (tgt := 31) hx hb dX0_volumeOfWork_9 (by decide) (fun c1 => ?_) (fun c1 => ?_)
    · have e1 : i = L.length := by omega
      subst e1
      exact kk ls (lv_sub hl [1] rfl)
    · exact absurd (nl_lt (by omega) (by omega) c1) (by omega)
  | succ n_ ih =>
    intro i ls hi hl
    refine lv_iload_n hx hb dX0_volumeOfWork_4 rfl (lv_at hl 0 rfl) ?_
    refine lv_aload_n hx hb dX0_volumeOfWork_5 rfl (lv_at hl 2 rfl) ?_
    refine xg5 C hI dX0_volumeOfWork_6 ?_
    refine lv_icmp_ge (tgt := 31) hx hb dX0_volumeOfWork_9 (by decide) (fun c1 => ?_) (fun c1 => ?_)
    · exact absurd (nl_le (by omega) (by omega) c1) (by omega)
    · have hlt : i < L.length := nl_lt (by omega) (by omega) c1
      refine lv_iload_n hx hb dX0_volumeOfWork_12 rfl (lv_at hl 1 rfl) ?_
      refine lv_aload_n hx hb dX0_volumeOfWork_13 rfl (lv_at hl 2 rfl) ?_
      refine lv_aload_n hx hb dX0_volumeOfWork_14 rfl (lv_at hl 2 rfl) ?_
      refine xg4 C hI dX0_volumeOfWork_15 ?_
      refine lv_iload_n hx hb dX0_volumeOfWork_18 rfl (lv_at hl 0 rfl) ?_
      refine xl3 (i := i) C hI rfl (by omega) dX0_volumeOfWork_19 ?_
      rw [hw i hlt]
      refine kx_volume C hI (hR.le (by decide)) hl.1 (Nat.le_of_ble_eq_true rfl) dX0_volumeOfWork_20 ?_
      refine lv_iadd hx hb dX0_volumeOfWork_23 ?_
      refine lv_istore_n (lv' := [(1, .int ((volA L i) + (bVol (L.getD i 0)))), (2, .int (nI i)), (0, .ref (G.2.1 0))]) hx hb dX0_volumeOfWork_24 rfl hl (by decide) rfl (fun ls hl => ?_)
      refine lv_iinc (v := nI (i + 1)) (lv' := [(2, .int (nI (i + 1))), (1, .int ((volA L i) + (bVol (L.getD i 0)))), (0, .ref (G.2.1 0))]) hx hb dX0_volumeOfWork_25 hl (k := 1) rfl (nI_1 i) (by decide) rfl (fun ls hl => ?_)
      refine lv_goto (tgt := 4) hx hb dX0_volumeOfWork_28 (by decide) ?_
      exact ih (i + 1) ls (by omega) (lv_sub hl [0, 1, 2] rfl)
set_option maxHeartbeats 4000000 in
theorem low_l {f0 : Int32} {f1 : Int32} {B : Nat → Int32} {K : Nat → Int32} {w : Nat → Int32} {q : Nat → Int32} {qc : Int32} {a : Nat → Int32} {ac : Int32} {v : Nat → Int32} {vc : Int32} {L : List Int32} {g : Int32} (C : XC p s m args c cX0_lowestCorner 6 G) (hR : RL R 1) (hI : XI G s (f0, f1, B, K, w, (nI L.length), q, qc, a, ac, v, vc) s.heap []) (hLn : L.length ≤ 512) (hw : hL w L)
    (kk : ∀  (ls : Array Slot), lv_has ls 6 [(2, .int (lowA g L L.length))] → W p l e R s m args below meth c s.heap [] 0 0 Q (F0 m 68 ls [])) :
    ∀ (n_ : Nat) (i : Nat) (ls : Array Slot), i + n_ = L.length → lv_has ls 6 [(3, .int (nI i)), (2, .int (lowA g L i)), (0, .ref (G.2.1 0))] → W p l e R s m args below meth c s.heap [] 0 0 Q (F0 m 4 ls []) := by
  have hx := C.1.1
  have hb := C.1.2.1
  intro n_
  induction n_ with
  | zero =>
    intro i ls hi hl
    refine lv_iload_n hx hb dX0_lowestCorner_4 rfl (lv_at hl 0 rfl) ?_
    refine lv_aload_n hx hb dX0_lowestCorner_5 rfl (lv_at hl 2 rfl) ?_
    refine xg5 C hI dX0_lowestCorner_6 ?_
    refine lv_icmp_ge (tgt := 68) hx hb dX0_lowestCorner_9 (by decide) (fun c1 => ?_) (fun c1 => ?_)
    · have e1 : i = L.length := by omega
      subst e1
      exact kk ls (lv_sub hl [1] rfl)
    · exact absurd (nl_lt (by omega) (by omega) c1) (by omega)
  | succ n_ ih =>
    intro i ls hi hl
    refine lv_iload_n hx hb dX0_lowestCorner_4 rfl (lv_at hl 0 rfl) ?_
    refine lv_aload_n hx hb dX0_lowestCorner_5 rfl (lv_at hl 2 rfl) ?_
    refine xg5 C hI dX0_lowestCorner_6 ?_
    refine lv_icmp_ge (tgt := 68) hx hb dX0_lowestCorner_9 (by decide) (fun c1 => ?_) (fun c1 => ?_)
    · exact absurd (nl_le (by omega) (by omega) c1) (by omega)
    · have hlt : i < L.length := nl_lt (by omega) (by omega) c1
      refine lv_aload_n hx hb dX0_lowestCorner_12 rfl (lv_at hl 2 rfl) ?_
      refine xg4 C hI dX0_lowestCorner_13 ?_
      refine lv_iload_n hx hb dX0_lowestCorner_16 rfl (lv_at hl 0 rfl) ?_
      refine xl3 (i := i) C hI rfl (by omega) dX0_lowestCorner_17 ?_
      rw [hw i hlt]
      refine lv_istore (lv' := [(4, .int (L.getD i 0)), (3, .int (nI i)), (2, .int (lowA g L i)), (0, .ref (G.2.1 0))]) hx hb dX0_lowestCorner_18 hl (by decide) rfl (fun ls hl => ?_)
      refine lv_bipush (v := 32) hx hb dX0_lowestCorner_20 (by decide) ?_
      refine lv_aload_n hx hb dX0_lowestCorner_22 rfl (lv_at hl 3 rfl) ?_
      refine lv_iload hx hb dX0_lowestCorner_23 (lv_at hl 0 rfl) ?_
      refine kx_fromS C hI (hR.le (by decide)) hl.1 (Nat.le_of_ble_eq_true rfl) dX0_lowestCorner_25 ?_
      refine lv_imul hx hb dX0_lowestCorner_28 ?_
      refine lv_iconst (v := 2) hx hb dX0_lowestCorner_29 (by decide) ?_
      refine lv_aload_n hx hb dX0_lowestCorner_30 rfl (lv_at hl 3 rfl) ?_
      refine lv_iload hx hb dX0_lowestCorner_31 (lv_at hl 0 rfl) ?_
      refine kx_fromD C hI (hR.le (by decide)) hl.1 (Nat.le_of_ble_eq_true rfl) dX0_lowestCorner_33 ?_
      refine lv_imul hx hb dX0_lowestCorner_36 ?_
      refine lv_iadd hx hb dX0_lowestCorner_37 ?_
      refine lv_aload_n hx hb dX0_lowestCorner_38 rfl (lv_at hl 3 rfl) ?_
      refine lv_iload hx hb dX0_lowestCorner_39 (lv_at hl 0 rfl) ?_
      refine kx_fromP C hI (hR.le (by decide)) hl.1 (Nat.le_of_ble_eq_true rfl) dX0_lowestCorner_41 ?_
      refine lv_iadd hx hb dX0_lowestCorner_44 ?_
      refine lv_istore (lv' := [(5, .int (((32 * (bFs (L.getD i 0))) + (2 * (bFd (L.getD i 0)))) + (bFp (L.getD i 0)))), (4, .int (L.getD i 0)), (3, .int (nI i)), (2, .int (lowA g L i)), (0, .ref (G.2.1 0))]) hx hb dX0_lowestCorner_45 hl (by decide) rfl (fun ls hl => ?_)
      refine lv_iload_n hx hb dX0_lowestCorner_47 rfl (lv_at hl 3 rfl) ?_
      refine lv_bipush (v := (-3 : Int32)) hx hb dX0_lowestCorner_48 (by decide) ?_
      refine lv_icmp_eq (tgt := 59) hx hb dX0_lowestCorner_50 (by decide) (fun c2 => ?_) (fun c2 => ?_)
      · refine lv_iload hx hb dX0_lowestCorner_59 (lv_at hl 0 rfl) ?_
        refine lv_istore_n (lv' := [(2, .int (((32 * (bFs (L.getD i 0))) + (2 * (bFd (L.getD i 0)))) + (bFp (L.getD i 0)))), (5, .int (((32 * (bFs (L.getD i 0))) + (2 * (bFd (L.getD i 0)))) + (bFp (L.getD i 0)))), (4, .int (L.getD i 0)), (3, .int (nI i)), (0, .ref (G.2.1 0))]) hx hb dX0_lowestCorner_61 rfl hl (by decide) rfl (fun ls hl => ?_)
        have e2 : lowA g L (i + 1) = (((32 * (bFs (L.getD i 0))) + (2 * (bFd (L.getD i 0)))) + (bFp (L.getD i 0))) := if_pos (Or.inl c2)
        refine lv_iinc (v := nI (i + 1)) (lv' := [(3, .int (nI (i + 1))), (2, .int (((32 * (bFs (L.getD i 0))) + (2 * (bFd (L.getD i 0)))) + (bFp (L.getD i 0)))), (5, .int (((32 * (bFs (L.getD i 0))) + (2 * (bFd (L.getD i 0)))) + (bFp (L.getD i 0)))), (4, .int (L.getD i 0)), (0, .ref (G.2.1 0))]) hx hb dX0_lowestCorner_62 hl (k := 3) rfl (nI_1 i) (by decide) rfl (fun ls hl => ?_)
        refine lv_goto (tgt := 4) hx hb dX0_lowestCorner_65 (by decide) ?_
        exact ih (i + 1) ls (by omega) (by rw [e2]; exact lv_sub hl [0, 1, 4] rfl)
      · refine lv_iload hx hb dX0_lowestCorner_53 (lv_at hl 0 rfl) ?_
        refine lv_iload_n hx hb dX0_lowestCorner_55 rfl (lv_at hl 3 rfl) ?_
        refine lv_icmp_ge (tgt := 62) hx hb dX0_lowestCorner_56 (by decide) (fun c3 => ?_) (fun c3 => ?_)
        · have e2 : lowA g L (i + 1) = (lowA g L i) := if_neg (fun h => h.elim c2 (fun h => i_le_nlt c3 h))
          refine lv_iinc (v := nI (i + 1)) (lv' := [(3, .int (nI (i + 1))), (5, .int (((32 * (bFs (L.getD i 0))) + (2 * (bFd (L.getD i 0)))) + (bFp (L.getD i 0)))), (4, .int (L.getD i 0)), (2, .int (lowA g L i)), (0, .ref (G.2.1 0))]) hx hb dX0_lowestCorner_62 hl (k := 2) rfl (nI_1 i) (by decide) rfl (fun ls hl => ?_)
          refine lv_goto (tgt := 4) hx hb dX0_lowestCorner_65 (by decide) ?_
          exact ih (i + 1) ls (by omega) (by rw [e2]; exact lv_sub hl [0, 3, 4] rfl)
        · refine lv_iload hx hb dX0_lowestCorner_59 (lv_at hl 0 rfl) ?_
          refine lv_istore_n (lv' := [(2, .int (((32 * (bFs (L.getD i 0))) + (2 * (bFd (L.getD i 0)))) + (bFp (L.getD i 0)))), (5, .int (((32 * (bFs (L.getD i 0))) + (2 * (bFd (L.getD i 0)))) + (bFp (L.getD i 0)))), (4, .int (L.getD i 0)), (3, .int (nI i)), (0, .ref (G.2.1 0))]) hx hb dX0_lowestCorner_61 rfl hl (by decide) rfl (fun ls hl => ?_)
          have e2 : lowA g L (i + 1) = (((32 * (bFs (L.getD i 0))) + (2 * (bFd (L.getD i 0)))) + (bFp (L.getD i 0))) := if_pos (Or.inr (i_nle c3))
          refine lv_iinc (v := nI (i + 1)) (lv' := [(3, .int (nI (i + 1))), (2, .int (((32 * (bFs (L.getD i 0))) + (2 * (bFd (L.getD i 0)))) + (bFp (L.getD i 0)))), (5, .int (((32 * (bFs (L.getD i 0))) + (2 * (bFd (L.getD i 0)))) + (bFp (L.getD i 0)))), (4, .int (L.getD i 0)), (0, .ref (G.2.1 0))]) hx hb dX0_lowestCorner_62 hl (k := 3) rfl (nI_1 i) (by decide) rfl (fun ls hl => ?_)
          refine lv_goto (tgt := 4) hx hb dX0_lowestCorner_65 (by decide) ?_
          exact ih (i + 1) ls (by omega) (by rw [e2]; exact lv_sub hl [0, 1, 4] rfl)
set_option maxHeartbeats 4000000 in
theorem dec_l {f0 : Int32} {B : Nat → Int32} {K : Nat → Int32} {w : Nat → Int32} {wc : Int32} {q : Nat → Int32} {qc : Int32} {a : Nat → Int32} {ac : Int32} {v : Nat → Int32} {vc : Int32} {N : Nat} {k r : Int32} (C : XC p s m args c cX0_decider 6 G) (hR : RL R 2) (hI : XI G s (f0, (nI N), B, K, w, wc, q, qc, a, ac, v, vc) s.heap []) (hN : N ≤ 10) (kn : ∀ ls : Array Slot, r = (-3) → lv_has ls 6 [(0, .ref (G.2.1 0))] → W p l e R s m args below meth c s.heap [] 0 0 Q (F0 m 94 ls [])) (ky : ∀ ls : Array Slot, W p l e R s m args below meth c s.heap [] 0 0 Q (F0 m 87 ls [.int r])) :
    ∀ (n_ : Nat) (i : Nat) (ls : Array Slot), i + n_ = N → fsm (fun j => decide (bMt (B j) k)) i n_ = r → lv_has ls 6 [(5, .int (nI i)), (0, .ref (G.2.1 0)), (4, .int k)] → W p l e R s m args below meth c s.heap [] 0 0 Q (F0 m 60 ls []) := by
  have hx := C.1.1
  have hb := C.1.2.1
  intro n_
  induction n_ with
  | zero =>
    intro i ls hi hr hl
    refine lv_iload hx hb dX0_decider_60 (lv_at hl 0 rfl) ?_
    refine lv_aload_n hx hb dX0_decider_62 rfl (lv_at hl 1 rfl) ?_
    refine xg1 C hI dX0_decider_63 ?_
    refine lv_icmp_ge (tgt := 94) hx hb dX0_decider_66 (by decide) (fun c1 => ?_) (fun c1 => ?_)
    · have e1 : r = (-3) := hr.symm
      exact kn ls e1 (lv_sub hl [1] rfl)
    · exact absurd (nl_lt (by omega) (by omega) c1) (by omega)
  | succ n_ ih =>
    intro i ls hi hr hl
    refine lv_iload hx hb dX0_decider_60 (lv_at hl 0 rfl) ?_
    refine lv_aload_n hx hb dX0_decider_62 rfl (lv_at hl 1 rfl) ?_
    refine xg1 C hI dX0_decider_63 ?_
    refine lv_icmp_ge (tgt := 94) hx hb dX0_decider_66 (by decide) (fun c1 => ?_) (fun c1 => ?_)
    · exact absurd (nl_le (by omega) (by omega) c1) (by omega)
    · have hlt : i < N := nl_lt (by omega) (by omega) c1
      refine lv_aload_n hx hb dX0_decider_69 rfl (lv_at hl 1 rfl) ?_
      refine lv_aload_n hx hb dX0_decider_70 rfl (lv_at hl 1 rfl) ?_
      refine xg2 C hI dX0_decider_71 ?_
      refine lv_iload hx hb dX0_decider_74 (lv_at hl 0 rfl) ?_
      refine xl1 (i := i) C hI rfl (by omega) dX0_decider_76 ?_
      refine lv_iload hx hb dX0_decider_77 (lv_at hl 2 rfl) ?_
      refine kx_meets C hI (hR.le (by decide)) hl.1 (Nat.le_of_ble_eq_true rfl) dX0_decider_79 ?_
      refine lv_if_eq (tgt := 88) hx hb dX0_decider_82 (by decide) (fun c2 => ?_) (fun c2 => ?_)
      · refine lv_iinc (v := nI (i + 1)) (lv' := [(5, .int (nI (i + 1))), (0, .ref (G.2.1 0)), (4, .int k)]) hx hb dX0_decider_88 hl (k := 0) rfl (nI_1 i) (by decide) rfl (fun ls hl => ?_)
        refine lv_goto (tgt := 60) hx hb dX0_decider_91 (by decide) ?_
        exact ih (i + 1) ls (by omega) (by rw [← hr]; exact (fsm_f n_ (by rw [decide_eq_true_iff]; exact if0 c2)).symm) hl
      · refine lv_iload hx hb dX0_decider_85 (lv_at hl 0 rfl) ?_
        have e1 : r = nI i := by rw [← hr]; exact fsm_t n_ (by rw [decide_eq_true_iff]; exact if1 c2)
        rw [← e1]
        exact ky ls
end LB
set_option maxHeartbeats 4000000 in
theorem metx_volumeOfWork (l : Launch) (G : GT) (hD : XD G) (f0 : Int32) (f1 : Int32) (B : Nat → Int32) (K : Nat → Int32) (w : Nat → Int32) (q : Nat → Int32) (qc : Int32) (a : Nat → Int32) (ac : Int32) (v : Nat → Int32) (vc : Int32)  (L : List Int32) (hw : hL w L) (hLn : L.length ≤ 512) : Met l yX0_volumeOfWork (ws_ yX0_volumeOfWork cX0_volumeOfWork 3 (some .int)) (rmd 2) (xPc G (f0, f1, B, K, w, (nI L.length), q, qc, a, ac, v, vc) []) (QcRead (volA L L.length)) 0 0 (fun _ => False) := by
  refine gMet (Rn := RX0) (by decide +kernel) rfl (Nat.le_of_ble_eq_true rfl) hD ?_
  intro p e s m below meth c ls C hr hlocks hI hl
  have hR := RL.rm 2
  have hx := C.1.1
  have hb := C.1.2.1
  have hl : lv_has ls 3 [(0, .ref (G.2.1 0))] := hl
  refine lv_iconst (v := 0) hx hb dX0_volumeOfWork_0 (by decide) ?_
  refine lv_istore_n (lv' := [(1, .int 0), (0, .ref (G.2.1 0))]) hx hb dX0_volumeOfWork_1 rfl hl (by decide) rfl (fun ls hl => ?_)
  refine lv_iconst (v := 0) hx hb dX0_volumeOfWork_2 (by decide) ?_
  refine lv_istore_n (lv' := [(2, .int 0), (1, .int 0), (0, .ref (G.2.1 0))]) hx hb dX0_volumeOfWork_3 rfl hl (by decide) rfl (fun ls hl => ?_)
  refine vol_l C hR hI hLn hw (fun ls hl => ?_) L.length 0 ls (by omega) (lv_sub hl [0, 1, 2] rfl)
  refine lv_iload_n hx hb dX0_volumeOfWork_31 rfl (lv_at hl 0 rfl) ?_
  exact e_read hx hb hr hlocks rfl dX0_volumeOfWork_32
set_option maxHeartbeats 4000000 in
theorem metx_lowestCorner (l : Launch) (G : GT) (hD : XD G) (f0 : Int32) (f1 : Int32) (B : Nat → Int32) (K : Nat → Int32) (w : Nat → Int32) (q : Nat → Int32) (qc : Int32) (a : Nat → Int32) (ac : Int32) (v : Nat → Int32) (vc : Int32) (g : Int32) (L : List Int32) (hw : hL w L) (hLn : L.length ≤ 512) : Met l yX0_lowestCorner (ws_ yX0_lowestCorner cX0_lowestCorner 6 (some .int)) (rmd 1) (xPc G (f0, f1, B, K, w, (nI L.length), q, qc, a, ac, v, vc) [.int g]) (QcRead (lowA g L L.length)) 0 0 (fun _ => False) := by
  refine gMet (Rn := RX0) (by decide +kernel) rfl (Nat.le_of_ble_eq_true rfl) hD ?_
  intro p e s m below meth c ls C hr hlocks hI hl
  have hR := RL.rm 1
  have hx := C.1.1
  have hb := C.1.2.1
  have hl : lv_has ls 6 [(0, .ref (G.2.1 0)), (1, .int g)] := hl
  refine lv_iload_n hx hb dX0_lowestCorner_0 rfl (lv_at hl 1 rfl) ?_
  refine lv_istore_n (lv' := [(2, .int g), (0, .ref (G.2.1 0)), (1, .int g)]) hx hb dX0_lowestCorner_1 rfl hl (by decide) rfl (fun ls hl => ?_)
  refine lv_iconst (v := 0) hx hb dX0_lowestCorner_2 (by decide) ?_
  refine lv_istore_n (lv' := [(3, .int 0), (2, .int g), (0, .ref (G.2.1 0)), (1, .int g)]) hx hb dX0_lowestCorner_3 rfl hl (by decide) rfl (fun ls hl => ?_)
  refine low_l C hR hI hLn hw (fun ls hl => ?_) L.length 0 ls (by omega) (lv_sub hl [0, 1, 2] rfl)
  refine lv_iload_n hx hb dX0_lowestCorner_68 rfl (lv_at hl 0 rfl) ?_
  exact e_read hx hb hr hlocks rfl dX0_lowestCorner_69
section KH
variable {p : Program} {l : Launch} {e : Env} {R : Room} {s : State} {m : MethodId} {args : Array Value} {below : List Frame} {meth : Method} {c : Code} {H : Heap} {locs : List Loc} {Q : State → Prop} {G : GT}
theorem kx_volumeOfWork {cc : ByteArray} {nL pc : Nat} {ls : Array Slot} {rest : List Value} {f0 : Int32} {f1 : Int32} {B : Nat → Int32} {K : Nat → Int32} {w : Nat → Int32} {q : Nat → Int32} {qc : Int32} {a : Nat → Int32} {ac : Int32} {v : Nat → Int32} {vc : Int32}  {L : List Int32} (hw : hL w L) (hLn : L.length ≤ 512) (C : XC p s m args c cc nL G) (hI : XI G s (f0, f1, B, K, w, nI L.length, q, qc, a, ac, v, vc) H locs) (hR : RL R 3) (hz : ls.size = nL) (hrm : (rest.map fun v => v.category).sum ≤ 8) (hd : decode cc pc = .ok (.invokevirtual 48, 3)) (kk : W p l e R s m args below meth c H locs 0 0 Q (F0 m (pc + 3) ls (.int (volA L L.length) :: rest))) : W p l e R s m args below meth c H locs 0 0 Q (F0 m pc ls (.ref (G.2.1 0) :: rest)) :=
  g_pure (n := 0) (metx_volumeOfWork l G C.2.2 f0 f1 B K w q qc a ac v vc L hw hLn) C hI rfl rfl rfl (lw_V q178 q180 qs17 q37 q181) (by decide +kernel) rfl rfl rfl ⟨hR.1, by have := hR.2; show 8 + (3 + 11) + 30 * 2 ≤ R.locals; omega⟩ hz rfl hrm hd kk
theorem kx_lowestCorner {cc : ByteArray} {nL pc : Nat} {ls : Array Slot} {rest : List Value} {f0 : Int32} {f1 : Int32} {B : Nat → Int32} {K : Nat → Int32} {w : Nat → Int32} {q : Nat → Int32} {qc : Int32} {a : Nat → Int32} {ac : Int32} {v : Nat → Int32} {vc : Int32} {g : Int32} {L : List Int32} (hw : hL w L) (hLn : L.length ≤ 512) (C : XC p s m args c cc nL G) (hI : XI G s (f0, f1, B, K, w, nI L.length, q, qc, a, ac, v, vc) H locs) (hR : RL R 2) (hz : ls.size = nL) (hrm : (rest.map fun v => v.category).sum ≤ 8) (hd : decode cc pc = .ok (.invokevirtual 52, 3)) (kk : W p l e R s m args below meth c H locs 0 0 Q (F0 m (pc + 3) ls (.int (lowA g L L.length) :: rest))) : W p l e R s m args below meth c H locs 0 0 Q (F0 m pc ls (.int g :: .ref (G.2.1 0) :: rest)) :=
  g_pure (n := 1) (metx_lowestCorner l G C.2.2 f0 f1 B K w q qc a ac v vc g L hw hLn) C hI rfl rfl rfl (lw_V q190 q192 qs19 q37 q193) (by decide +kernel) rfl rfl rfl ⟨hR.1, by have := hR.2; show 8 + (6 + 11) + 30 * 1 ≤ R.locals; omega⟩ hz rfl hrm hd kk
end KH
abbrev okP (x y z : Int32) : Prop := 0 ≤ x ∧ x ≤ 15 ∧ 0 ≤ y ∧ y ≤ 15 ∧ 0 ≤ z ∧ z ≤ 1
set_option maxHeartbeats 4000000 in
theorem metx_decider (l : Launch) (G : GT) (hD : XD G) (f0 : Int32) (B : Nat → Int32) (K : Nat → Int32) (w : Nat → Int32) (wc : Int32) (q : Nat → Int32) (qc : Int32) (a : Nat → Int32) (ac : Int32) (v : Nat → Int32) (vc : Int32) (x : Int32) (y : Int32) (z : Int32) (N : Nat) (hN : N ≤ 10) : Met l yX0_decider (ws_ yX0_decider cX0_decider 6 (some .int)) (rmd 2) (xPc G (f0, (nI N), B, K, w, wc, q, qc, a, ac, v, vc) [.int x, .int y, .int z]) (QcRead (if okP x y z then fsm (fun j => decide (bMt (B j) (ptx x y z))) 0 N else (-1))) 0 0 (fun _ => False) := by
  refine gMet (Rn := RX0) (by decide +kernel) rfl (Nat.le_of_ble_eq_true rfl) hD ?_
  intro p e s m below meth c ls C hr hlocks hI hl
  have hR := RL.rm 2
  have hx := C.1.1
  have hb := C.1.2.1
  have hl : lv_has ls 6 [(0, .ref (G.2.1 0)), (1, .int x), (2, .int y), (3, .int z)] := hl
  refine lv_iload_n hx hb dX0_decider_0 rfl (lv_at hl 1 rfl) ?_
  refine lv_if_lt (tgt := 29) hx hb dX0_decider_1 (by decide) (fun c1 => ?_) (fun c1 => ?_)
  · refine lv_iconst (v := (-1 : Int32)) hx hb dX0_decider_29 (by decide) ?_
    exact e_read hx hb hr hlocks (by rw [if_neg (by intro h; simp only [okP, i_le, i_lt] at h c1; omega)]) dX0_decider_30
  · refine lv_iload_n hx hb dX0_decider_4 rfl (lv_at hl 1 rfl) ?_
    refine lv_bipush (v := 15) hx hb dX0_decider_5 (by decide) ?_
    refine lv_icmp_gt (tgt := 29) hx hb dX0_decider_7 (by decide) (fun c2 => ?_) (fun c2 => ?_)
    · refine lv_iconst (v := (-1 : Int32)) hx hb dX0_decider_29 (by decide) ?_
      exact e_read hx hb hr hlocks (by rw [if_neg (by intro h; simp only [okP, i_le, i_lt] at h c1 c2; omega)]) dX0_decider_30
    · refine lv_iload_n hx hb dX0_decider_10 rfl (lv_at hl 2 rfl) ?_
      refine lv_if_lt (tgt := 29) hx hb dX0_decider_11 (by decide) (fun c3 => ?_) (fun c3 => ?_)
      · refine lv_iconst (v := (-1 : Int32)) hx hb dX0_decider_29 (by decide) ?_
        exact e_read hx hb hr hlocks (by rw [if_neg (by intro h; simp only [okP, i_le, i_lt] at h c1 c2 c3; omega)]) dX0_decider_30
      · refine lv_iload_n hx hb dX0_decider_14 rfl (lv_at hl 2 rfl) ?_
        refine lv_bipush (v := 15) hx hb dX0_decider_15 (by decide) ?_
        refine lv_icmp_gt (tgt := 29) hx hb dX0_decider_17 (by decide) (fun c4 => ?_) (fun c4 => ?_)
        · refine lv_iconst (v := (-1 : Int32)) hx hb dX0_decider_29 (by decide) ?_
          exact e_read hx hb hr hlocks (by rw [if_neg (by intro h; simp only [okP, i_le, i_lt] at h c1 c2 c3 c4; omega)]) dX0_decider_30
        · refine lv_iload_n hx hb dX0_decider_20 rfl (lv_at hl 3 rfl) ?_
          refine lv_if_lt (tgt := 29) hx hb dX0_decider_21 (by decide) (fun c5 => ?_) (fun c5 => ?_)
          · refine lv_iconst (v := (-1 : Int32)) hx hb dX0_decider_29 (by decide) ?_
            exact e_read hx hb hr hlocks (by rw [if_neg (by intro h; simp only [okP, i_le, i_lt] at h c1 c2 c3 c4 c5; omega)]) dX0_decider_30
          · refine lv_iload_n hx hb dX0_decider_24 rfl (lv_at hl 3 rfl) ?_
            refine lv_iconst (v := 1) hx hb dX0_decider_25 (by decide) ?_
            refine lv_icmp_le (tgt := 31) hx hb dX0_decider_26 (by decide) (fun c6 => ?_) (fun c6 => ?_)
            · have hok : okP x y z := by simp only [okP, i_le, i_lt] at c1 c2 c3 c4 c5 c6 ⊢; omega
              rw [if_pos hok]
              refine lv_iload_n hx hb dX0_decider_31 rfl (lv_at hl 1 rfl) ?_
              refine lv_bipush (v := 14) hx hb dX0_decider_32 (by decide) ?_
              refine lv_ishl hx hb dX0_decider_34 ?_
              refine lv_iload_n hx hb dX0_decider_35 rfl (lv_at hl 1 rfl) ?_
              refine lv_bipush (v := 10) hx hb dX0_decider_36 (by decide) ?_
              refine lv_ishl hx hb dX0_decider_38 ?_
              refine lv_ior hx hb dX0_decider_39 ?_
              refine lv_iload_n hx hb dX0_decider_40 rfl (lv_at hl 2 rfl) ?_
              refine lv_bipush (v := 6) hx hb dX0_decider_41 (by decide) ?_
              refine lv_ishl hx hb dX0_decider_43 ?_
              refine lv_ior hx hb dX0_decider_44 ?_
              refine lv_iload_n hx hb dX0_decider_45 rfl (lv_at hl 2 rfl) ?_
              refine lv_iconst (v := 2) hx hb dX0_decider_46 (by decide) ?_
              refine lv_ishl hx hb dX0_decider_47 ?_
              refine lv_ior hx hb dX0_decider_48 ?_
              refine lv_iload_n hx hb dX0_decider_49 rfl (lv_at hl 3 rfl) ?_
              refine lv_iconst (v := 1) hx hb dX0_decider_50 (by decide) ?_
              refine lv_ishl hx hb dX0_decider_51 ?_
              refine lv_ior hx hb dX0_decider_52 ?_
              refine lv_iload_n hx hb dX0_decider_53 rfl (lv_at hl 3 rfl) ?_
              refine lv_ior hx hb dX0_decider_54 ?_
              refine lv_istore (lv' := [(4, .int ((((((x <<< (14 &&& 31)) ||| (x <<< (10 &&& 31))) ||| (y <<< (6 &&& 31))) ||| (y <<< (2 &&& 31))) ||| (z <<< (1 &&& 31))) ||| z)), (0, .ref (G.2.1 0)), (1, .int x), (2, .int y), (3, .int z)]) hx hb dX0_decider_55 hl (by decide) rfl (fun ls hl => ?_)
              refine lv_iconst (v := 0) hx hb dX0_decider_57 (by decide) ?_
              refine lv_istore (lv' := [(5, .int 0), (4, .int ((((((x <<< (14 &&& 31)) ||| (x <<< (10 &&& 31))) ||| (y <<< (6 &&& 31))) ||| (y <<< (2 &&& 31))) ||| (z <<< (1 &&& 31))) ||| z)), (0, .ref (G.2.1 0)), (1, .int x), (2, .int y), (3, .int z)]) hx hb dX0_decider_58 hl (by decide) rfl (fun ls hl => ?_)
              refine dec_l (k := ptx x y z) (r := fsm (fun j => decide (bMt (B j) (ptx x y z))) 0 N) C hR hI hN (fun ls e1 hl => ?_) (fun ls => ?_) N 0 ls (by omega) rfl (lv_sub hl [0, 2, 1] rfl)
              · refine lv_bipush (v := (-3 : Int32)) hx hb dX0_decider_94 (by decide) ?_
                exact e_read hx hb hr hlocks e1.symm dX0_decider_96
              · exact e_read hx hb hr hlocks rfl dX0_decider_87
            · refine lv_iconst (v := (-1 : Int32)) hx hb dX0_decider_29 (by decide) ?_
              exact e_read hx hb hr hlocks (by rw [if_neg (by intro h; simp only [okP, i_le, i_lt] at h c1 c2 c3 c4 c5 c6; omega)]) dX0_decider_30
end
section
/-! X0: the allowed packets, differences -/
set_option maxRecDepth 100000
theorem gatL_pre (B K : Nat → Int32) {i n : Nat} (h : i ≤ n) : (gatL B K i).length ≤ (gatL B K n).length := by
  induction n with
  | zero => rw [Nat.le_zero.mp h]; exact Nat.le_refl _
  | succ n ih =>
    by_cases e : i = n + 1
    · rw [e]; exact Nat.le_refl _
    · refine Nat.le_trans (ih (by omega)) ?_
      rw [gatL, List.length_append]
      omega
section LC
variable {p : Program} {l : Launch} {e : Env} {R : Room} {s : State} {m : MethodId} {args : Array Value} {below : List Frame} {meth : Method} {c : Code} {H : Heap} {locs : List Loc} {Q : State → Prop} {G : GT}
set_option maxHeartbeats 4000000 in
theorem gat_in {f0 : Int32} {f1 : Int32} {B : Nat → Int32} {K : Nat → Int32} {w : Nat → Int32} {q : Nat → Int32} {qc : Int32} {v : Nat → Int32} {vc : Int32} {L Z : List Int32} {i : Nat} (C : XC p s m args c cX0_gatherAllowed 3 G) (hR : RL R 5) (hZ : (Z ++ L).length ≤ 512) (hLn : L.length ≤ 512) (hw : hL w L)
    (kk : ∀ (a : Nat → Int32) (H : Heap) (locs : List Loc) (ls : Array Slot), hL a (Z ++ L) → XI G s (f0, f1, B, K, w, nI L.length, q, qc, a, nI (Z ++ L).length, v, vc) H locs → lv_has ls 3 [(0, .ref (G.2.1 0)), (1, .int (nI i))] → W p l e R s m args below meth c H locs 0 0 Q (F0 m 73 ls [])) :
    ∀ (n : Nat) (t : Nat) (a : Nat → Int32) (H : Heap) (locs : List Loc) (ls : Array Slot), t + n = L.length → hL a (Z ++ L.take t) → XI G s (f0, f1, B, K, w, (nI L.length), q, qc, a, (nI (Z ++ L.take t).length), v, vc) H locs → lv_has ls 3 [(2, .int (nI t)), (0, .ref (G.2.1 0)), (1, .int (nI i))] → W p l e R s m args below meth c H locs 0 0 Q (F0 m 34 ls []) := by
  have hx := C.1.1
  have hb := C.1.2.1
  intro n
  induction n with
  | zero =>
    intro t a H locs ls ht ha hI hl
    refine lv_iload_n hx hb dX0_gatherAllowed_34 rfl (lv_at hl 0 rfl) ?_
    refine lv_aload_n hx hb dX0_gatherAllowed_35 rfl (lv_at hl 1 rfl) ?_
    refine xg5 C hI dX0_gatherAllowed_36 ?_
    refine lv_icmp_ge (tgt := 73) hx hb dX0_gatherAllowed_39 (by decide) (fun c1 => ?_) (fun c1 => ?_)
    · have e1 : L.take t = L := List.take_of_length_le (by omega)
      rw [e1] at ha hI
      exact kk a H locs ls ha hI (lv_sub hl [1, 2] rfl)
    · exact absurd (nl_lt (by omega) (by omega) c1) (by omega)
  | succ n ih =>
    intro t a H locs ls ht ha hI hl
    refine lv_iload_n hx hb dX0_gatherAllowed_34 rfl (lv_at hl 0 rfl) ?_
    refine lv_aload_n hx hb dX0_gatherAllowed_35 rfl (lv_at hl 1 rfl) ?_
    refine xg5 C hI dX0_gatherAllowed_36 ?_
    refine lv_icmp_ge (tgt := 73) hx hb dX0_gatherAllowed_39 (by decide) (fun c1 => ?_) (fun c1 => ?_)
    · exact absurd (nl_le (by omega) (by omega) c1) (by omega)
    · have hlt : t < L.length := nl_lt (by omega) (by omega) c1
      have hz : (Z ++ L.take t).length < 512 := by rw [List.length_append, List.length_take]; rw [List.length_append] at hZ; omega
      refine lv_aload_n hx hb dX0_gatherAllowed_42 rfl (lv_at hl 1 rfl) ?_
      refine xg8 C hI dX0_gatherAllowed_43 ?_
      refine lv_aload_n hx hb dX0_gatherAllowed_46 rfl (lv_at hl 1 rfl) ?_
      refine xg9 C hI dX0_gatherAllowed_47 ?_
      refine lv_aload_n hx hb dX0_gatherAllowed_50 rfl (lv_at hl 1 rfl) ?_
      refine xg4 C hI dX0_gatherAllowed_51 ?_
      refine lv_iload_n hx hb dX0_gatherAllowed_54 rfl (lv_at hl 0 rfl) ?_
      refine xl3 (i := t) C hI rfl (by omega) dX0_gatherAllowed_55 ?_
      refine xs5 (i := (Z ++ L.take t).length) C hI rfl hz dX0_gatherAllowed_56 (fun H locs hI => ?_)
      refine lv_aload_n hx hb dX0_gatherAllowed_57 rfl (lv_at hl 1 rfl) ?_
      refine lv_dup hx hb dX0_gatherAllowed_58 rfl ?_
      refine xg9 C hI dX0_gatherAllowed_59 ?_
      refine lv_iconst (v := 1) hx hb dX0_gatherAllowed_62 (by decide) ?_
      refine lv_iadd hx hb dX0_gatherAllowed_63 ?_
      refine xp9 C hI dX0_gatherAllowed_64 (fun H locs hI => ?_)
      have ha1 := hL_push ha (w t)
      rw [hw t hlt, List.append_assoc, ← take_s hlt] at ha1
      have en : (Z ++ L.take t).length + 1 = (Z ++ L.take (t + 1)).length := by simp only [List.length_append, List.length_take]; omega
      rw [nI_1, en, hw t hlt] at hI
      refine lv_iinc (v := nI (t + 1)) (lv' := [(2, .int (nI (t + 1))), (0, .ref (G.2.1 0)), (1, .int (nI i))]) hx hb dX0_gatherAllowed_67 hl (k := 0) rfl (nI_1 t) (by decide) rfl (fun ls hl => ?_)
      refine lv_goto (tgt := 34) hx hb dX0_gatherAllowed_70 (by decide) ?_
      exact ih (t + 1) _ H locs ls (by omega) ha1 hI hl
set_option maxHeartbeats 4000000 in
theorem gat_l {f0 : Int32} {B : Nat → Int32} {K : Nat → Int32} {v : Nat → Int32} {vc : Int32} {N : Nat} (C : XC p s m args c cX0_gatherAllowed 3 G) (hR : RL R 5) (hN : N ≤ 10) (hb1 : ∀ i, i < N → ∀ j, j ≤ i → (ownJ B i j).length ≤ 512) (hb2 : (gatL B K N).length ≤ 512)
    (kk : ∀ (w : Nat → Int32) (wc : Int32) (q : Nat → Int32) (qc : Int32) (a : Nat → Int32) (H : Heap) (locs : List Loc) (ls : Array Slot), hL a (gatL B K N) → XI G s (f0, nI N, B, K, w, wc, q, qc, a, nI (gatL B K N).length, v, vc) H locs → lv_has ls 3 [(0, .ref (G.2.1 0))] → W p l e R s m args below meth c H locs 0 0 Q (F0 m 79 ls [])) :
    ∀ (n : Nat) (i : Nat) (w : Nat → Int32) (wc : Int32) (q : Nat → Int32) (qc : Int32) (a : Nat → Int32) (H : Heap) (locs : List Loc) (ls : Array Slot), i + n = N → hL a (gatL B K i) → XI G s (f0, (nI N), B, K, w, wc, q, qc, a, (nI (gatL B K i).length), v, vc) H locs → lv_has ls 3 [(1, .int (nI i)), (0, .ref (G.2.1 0))] → W p l e R s m args below meth c H locs 0 0 Q (F0 m 7 ls []) := by
  have hx := C.1.1
  have hb := C.1.2.1
  intro n
  induction n with
  | zero =>
    intro i w wc q qc a H locs ls hi ha hI hl
    refine lv_iload_n hx hb dX0_gatherAllowed_7 rfl (lv_at hl 0 rfl) ?_
    refine lv_aload_n hx hb dX0_gatherAllowed_8 rfl (lv_at hl 1 rfl) ?_
    refine xg1 C hI dX0_gatherAllowed_9 ?_
    refine lv_icmp_ge (tgt := 79) hx hb dX0_gatherAllowed_12 (by decide) (fun c1 => ?_) (fun c1 => ?_)
    · have e1 : i = N := by omega
      subst e1
      exact kk w wc q qc a H locs ls ha hI (lv_sub hl [1] rfl)
    · exact absurd (nl_lt (by omega) (by omega) c1) (by omega)
  | succ n ih =>
    intro i w wc q qc a H locs ls hi ha hI hl
    refine lv_iload_n hx hb dX0_gatherAllowed_7 rfl (lv_at hl 0 rfl) ?_
    refine lv_aload_n hx hb dX0_gatherAllowed_8 rfl (lv_at hl 1 rfl) ?_
    refine xg1 C hI dX0_gatherAllowed_9 ?_
    refine lv_icmp_ge (tgt := 79) hx hb dX0_gatherAllowed_12 (by decide) (fun c1 => ?_) (fun c1 => ?_)
    · exact absurd (nl_le (by omega) (by omega) c1) (by omega)
    · have hlt : i < N := nl_lt (by omega) (by omega) c1
      have hpre := gatL_pre B K (i := i + 1) (n := N) (by omega)
      refine lv_aload_n hx hb dX0_gatherAllowed_15 rfl (lv_at hl 1 rfl) ?_
      refine xg3 C hI dX0_gatherAllowed_16 ?_
      refine lv_iload_n hx hb dX0_gatherAllowed_19 rfl (lv_at hl 0 rfl) ?_
      refine xl2 (i := i) C hI rfl (by omega) dX0_gatherAllowed_20 ?_
      refine lv_if_ne (tgt := 27) hx hb dX0_gatherAllowed_21 (by decide) (fun c2 => ?_) (fun c2 => ?_)
      · have eg : gatL B K (i + 1) = gatL B K i ++ ownL B i := by rw [gatL, if_neg c2]
        rw [eg] at hpre
        refine lv_aload_n hx hb dX0_gatherAllowed_27 rfl (lv_at hl 1 rfl) ?_
        refine lv_iload_n hx hb dX0_gatherAllowed_28 rfl (lv_at hl 0 rfl) ?_
        refine kx_carveOwned (i := i) (by omega) (hb1 i hlt) C hI (hR.le (by decide)) hl.1 (Nat.le_of_ble_eq_true rfl) dX0_gatherAllowed_29 (fun w1 q1 qc1 H locs hw1 hI => ?_)
        refine lv_iconst (v := 0) hx hb dX0_gatherAllowed_32 (by decide) ?_
        refine lv_istore_n (lv' := [(2, .int 0), (1, .int (nI i)), (0, .ref (G.2.1 0))]) hx hb dX0_gatherAllowed_33 rfl hl (by decide) rfl (fun ls hl => ?_)
        refine gat_in (L := ownL B i) (Z := gatL B K i) C hR (by omega) (hb1 i hlt i (Nat.le_refl _)) hw1 (fun a1 H locs ls ha1 hI hl => ?_) (ownL B i).length 0 a _ _ ls (by omega) (by rw [List.take_zero, List.append_nil]; exact ha) (by rw [List.take_zero, List.append_nil]; exact hI) (lv_sub hl [0, 2, 1] rfl)
        rw [← eg] at ha1 hI
        refine lv_iinc (v := nI (i + 1)) (lv' := [(1, .int (nI (i + 1))), (0, .ref (G.2.1 0))]) hx hb dX0_gatherAllowed_73 hl (k := 1) rfl (nI_1 i) (by decide) rfl (fun ls hl => ?_)
        refine lv_goto (tgt := 7) hx hb dX0_gatherAllowed_76 (by decide) ?_
        exact ih (i + 1) w1 _ q1 qc1 a1 H locs ls (by omega) ha1 hI hl
      · have eg : gatL B K (i + 1) = gatL B K i := by rw [gatL, if_pos c2, List.append_nil]
        rw [← eg] at ha hI
        refine lv_goto (tgt := 73) hx hb dX0_gatherAllowed_24 (by decide) ?_
        refine lv_iinc (v := nI (i + 1)) (lv' := [(1, .int (nI (i + 1))), (0, .ref (G.2.1 0))]) hx hb dX0_gatherAllowed_73 hl (k := 0) rfl (nI_1 i) (by decide) rfl (fun ls hl => ?_)
        refine lv_goto (tgt := 7) hx hb dX0_gatherAllowed_76 (by decide) ?_
        exact ih (i + 1) w wc q qc a H locs ls (by omega) ha hI hl
end LC
set_option maxHeartbeats 4000000 in
theorem metx_gatherAllowed (l : Launch) (G : GT) (hD : XD G) (f0 : Int32) (B : Nat → Int32) (K : Nat → Int32) (w : Nat → Int32) (wc : Int32) (q : Nat → Int32) (qc : Int32) (a : Nat → Int32) (ac : Int32) (v : Nat → Int32) (vc : Int32)  (N : Nat) (hN : N ≤ 10) (hb1 : ∀ i, i < N → ∀ j, j ≤ i → (ownJ B i j).length ≤ 512) (hb2 : (gatL B K N).length ≤ 512) : Met l yX0_gatherAllowed (ws_ yX0_gatherAllowed cX0_gatherAllowed 3 none) (rmd 5) (xPc G (f0, (nI N), B, K, w, wc, q, qc, a, ac, v, vc) []) (xQv G (fun u1 => ∃ w1 wc1 q1 qc1 a1, u1 = (f0, nI N, B, K, w1, wc1, q1, qc1, a1, nI (gatL B K N).length, v, vc) ∧ hL a1 (gatL B K N))) 0 0 (xA G) := by
  refine gMet (Rn := RX0) (by decide +kernel) rfl (Nat.le_of_ble_eq_true rfl) hD ?_
  intro p e s m below meth c ls C hr hlocks hI hl
  have hR := RL.rm 5
  have hx := C.1.1
  have hb := C.1.2.1
  have hl : lv_has ls 3 [(0, .ref (G.2.1 0))] := hl
  refine lv_aload_n hx hb dX0_gatherAllowed_0 rfl (lv_at hl 0 rfl) ?_
  refine lv_iconst (v := 0) hx hb dX0_gatherAllowed_1 (by decide) ?_
  refine xp9 C hI dX0_gatherAllowed_2 (fun H locs hI => ?_)
  refine lv_iconst (v := 0) hx hb dX0_gatherAllowed_5 (by decide) ?_
  refine lv_istore_n (lv' := [(1, .int 0), (0, .ref (G.2.1 0))]) hx hb dX0_gatherAllowed_6 rfl hl (by decide) rfl (fun ls hl => ?_)
  refine gat_l C hR hN hb1 hb2 (fun w1 wc1 q1 qc1 a1 H locs ls ha1 hI hl => ?_) N 0 w wc q qc a _ _ ls (by omega) (hL_nil a) hI hl
  exact e_void hI hx hb hr hlocks ⟨w1, wc1, q1, qc1, a1, rfl, ha1⟩ dX0_gatherAllowed_79
section KI
variable {p : Program} {l : Launch} {e : Env} {R : Room} {s : State} {m : MethodId} {args : Array Value} {below : List Frame} {meth : Method} {c : Code} {H : Heap} {locs : List Loc} {Q : State → Prop} {G : GT}
theorem kx_gatherAllowed {cc : ByteArray} {nL pc : Nat} {ls : Array Slot} {rest : List Value} {f0 : Int32} {B : Nat → Int32} {K : Nat → Int32} {w : Nat → Int32} {wc : Int32} {q : Nat → Int32} {qc : Int32} {a : Nat → Int32} {ac : Int32} {v : Nat → Int32} {vc : Int32}  {N : Nat} (hN : N ≤ 10) (hb1 : ∀ i, i < N → ∀ j, j ≤ i → (ownJ B i j).length ≤ 512) (hb2 : (gatL B K N).length ≤ 512) (C : XC p s m args c cc nL G) (hI : XI G s (f0, nI N, B, K, w, wc, q, qc, a, ac, v, vc) H locs) (hR : RL R 6) (hz : ls.size = nL) (hrm : (rest.map fun v => v.category).sum ≤ 8) (hd : decode cc pc = .ok (.invokevirtual 68, 3)) (kk : ∀ (w1 : Nat → Int32) (wc1 : Int32) (q1 : Nat → Int32) (qc1 : Int32) (a1 : Nat → Int32) (H1 : Heap) (locs1 : List Loc), hL a1 (gatL B K N) → XI G s (f0, nI N, B, K, w1, wc1, q1, qc1, a1, nI (gatL B K N).length, v, vc) H1 locs1 → W p l e R s m args below meth c H1 locs1 0 0 Q (F0 m (pc + 3) ls rest)) : W p l e R s m args below meth c H locs 0 0 Q (F0 m pc ls (.ref (G.2.1 0) :: rest)) :=
  g_v (n := 0) (metx_gatherAllowed l G C.2.2 f0 B K w wc q qc a ac v vc N hN hb1 hb2) C hI rfl rfl rfl (lw_V q214 q216 qs23 q37 q217) (by decide +kernel) rfl rfl rfl ⟨hR.1, by have := hR.2; show 8 + (3 + 11) + 30 * 5 ≤ R.locals; omega⟩ hz rfl hrm hd (fun u1 H1 locs1 hp hI => by obtain ⟨w1, wc1, q1, qc1, a1, rfl, ha1⟩ := hp; exact kk w1 wc1 q1 qc1 a1 H1 locs1 ha1 hI)
set_option maxHeartbeats 4000000 in
theorem new_cp {f0 : Int32} {f1 : Int32} {B : Nat → Int32} {K : Nat → Int32} {wc : Int32} {q : Nat → Int32} {qc : Int32} {a : Nat → Int32} {v : Nat → Int32} {vc : Int32} {Lx : List Int32} (C : XC p s m args c cX0_carveNewlyAllowed 2 G) (hR : RL R 4) (hLx : Lx.length ≤ 512) (hx1 : hL a Lx)
    (kk : ∀ (w : Nat → Int32) (H : Heap) (locs : List Loc) (ls : Array Slot), hL w Lx → XI G s (f0, f1, B, K, w, wc, q, qc, a, nI Lx.length, v, vc) H locs → lv_has ls 2 [(0, .ref (G.2.1 0))] → W p l e R s m args below meth c H locs 0 0 Q (F0 m 28 ls [])) :
    ∀ (n : Nat) (i : Nat) (w : Nat → Int32) (H : Heap) (locs : List Loc) (ls : Array Slot), i + n = Lx.length → hL w (Lx.take i) → XI G s (f0, f1, B, K, w, wc, q, qc, a, (nI Lx.length), v, vc) H locs → lv_has ls 2 [(1, .int (nI i)), (0, .ref (G.2.1 0))] → W p l e R s m args below meth c H locs 0 0 Q (F0 m 2 ls []) := by
  have hx := C.1.1
  have hb := C.1.2.1
  intro n
  induction n with
  | zero =>
    intro i w H locs ls hi hw hI hl
    refine lv_iload_n hx hb dX0_carveNewlyAllowed_2 rfl (lv_at hl 0 rfl) ?_
    refine lv_aload_n hx hb dX0_carveNewlyAllowed_3 rfl (lv_at hl 1 rfl) ?_
    refine xg9 C hI dX0_carveNewlyAllowed_4 ?_
    refine lv_icmp_ge (tgt := 28) hx hb dX0_carveNewlyAllowed_7 (by decide) (fun c1 => ?_) (fun c1 => ?_)
    · have e1 : Lx.take i = Lx := List.take_of_length_le (by omega)
      rw [e1] at hw
      exact kk w H locs ls hw hI (lv_sub hl [1] rfl)
    · exact absurd (nl_lt (by omega) (by omega) c1) (by omega)
  | succ n ih =>
    intro i w H locs ls hi hw hI hl
    refine lv_iload_n hx hb dX0_carveNewlyAllowed_2 rfl (lv_at hl 0 rfl) ?_
    refine lv_aload_n hx hb dX0_carveNewlyAllowed_3 rfl (lv_at hl 1 rfl) ?_
    refine xg9 C hI dX0_carveNewlyAllowed_4 ?_
    refine lv_icmp_ge (tgt := 28) hx hb dX0_carveNewlyAllowed_7 (by decide) (fun c1 => ?_) (fun c1 => ?_)
    · exact absurd (nl_le (by omega) (by omega) c1) (by omega)
    · have hlt : i < Lx.length := nl_lt (by omega) (by omega) c1
      refine lv_aload_n hx hb dX0_carveNewlyAllowed_10 rfl (lv_at hl 1 rfl) ?_
      refine xg4 C hI dX0_carveNewlyAllowed_11 ?_
      refine lv_iload_n hx hb dX0_carveNewlyAllowed_14 rfl (lv_at hl 0 rfl) ?_
      refine lv_aload_n hx hb dX0_carveNewlyAllowed_15 rfl (lv_at hl 1 rfl) ?_
      refine xg8 C hI dX0_carveNewlyAllowed_16 ?_
      refine lv_iload_n hx hb dX0_carveNewlyAllowed_19 rfl (lv_at hl 0 rfl) ?_
      refine xl5 (i := i) C hI rfl (by omega) dX0_carveNewlyAllowed_20 ?_
      refine xs3 (i := i) C hI rfl (by omega) dX0_carveNewlyAllowed_21 (fun H locs hI => ?_)
      have hw1 := hL_push hw (a i)
      rw [List.length_take, Nat.min_eq_left (by omega), hx1 i hlt, ← take_s hlt] at hw1
      rw [hx1 i hlt] at hI
      refine lv_iinc (v := nI (i + 1)) (lv' := [(1, .int (nI (i + 1))), (0, .ref (G.2.1 0))]) hx hb dX0_carveNewlyAllowed_22 hl (k := 0) rfl (nI_1 i) (by decide) rfl (fun ls hl => ?_)
      refine lv_goto (tgt := 2) hx hb dX0_carveNewlyAllowed_25 (by decide) ?_
      exact ih (i + 1) _ H locs ls (by omega) hw1 hI hl
set_option maxHeartbeats 4000000 in
theorem new_l {f0 : Int32} {f1 : Int32} {B : Nat → Int32} {K : Nat → Int32} {a : Nat → Int32} {ac : Int32} {v : Nat → Int32} {Lx Ly : List Int32} (C : XC p s m args c cX0_carveNewlyAllowed 2 G) (hR : RL R 4) (hLy : Ly.length ≤ 512) (hy1 : hL v Ly) (hb1 : ∀ j, j ≤ Ly.length → (difJ Lx Ly j).length ≤ 512)
    (kk : ∀ (w q : Nat → Int32) (qc : Int32) (H : Heap) (locs : List Loc) (ls : Array Slot), hL w (difL Lx Ly) → XI G s (f0, f1, B, K, w, nI (difL Lx Ly).length, q, qc, a, ac, v, nI Ly.length) H locs → lv_has ls 2 [(0, .ref (G.2.1 0))] → W p l e R s m args below meth c H locs 0 0 Q (F0 m 69 ls [])) :
    ∀ (n : Nat) (i : Nat) (w : Nat → Int32) (q : Nat → Int32) (qc : Int32) (H : Heap) (locs : List Loc) (ls : Array Slot), i + n = Ly.length → hL w (difJ Lx Ly i) → XI G s (f0, f1, B, K, w, (nI (difJ Lx Ly i).length), q, qc, a, ac, v, (nI Ly.length)) H locs → lv_has ls 2 [(1, .int (nI i)), (0, .ref (G.2.1 0))] → W p l e R s m args below meth c H locs 0 0 Q (F0 m 38 ls []) := by
  have hx := C.1.1
  have hb := C.1.2.1
  intro n
  induction n with
  | zero =>
    intro i w q qc H locs ls hi hw hI hl
    refine lv_iload_n hx hb dX0_carveNewlyAllowed_38 rfl (lv_at hl 0 rfl) ?_
    refine lv_aload_n hx hb dX0_carveNewlyAllowed_39 rfl (lv_at hl 1 rfl) ?_
    refine xg11 C hI dX0_carveNewlyAllowed_40 ?_
    refine lv_icmp_ge (tgt := 69) hx hb dX0_carveNewlyAllowed_43 (by decide) (fun c1 => ?_) (fun c1 => ?_)
    · have e1 : i = Ly.length := by omega
      subst e1
      exact kk w q qc H locs ls hw hI (lv_sub hl [1] rfl)
    · exact absurd (nl_lt (by omega) (by omega) c1) (by omega)
  | succ n ih =>
    intro i w q qc H locs ls hi hw hI hl
    refine lv_iload_n hx hb dX0_carveNewlyAllowed_38 rfl (lv_at hl 0 rfl) ?_
    refine lv_aload_n hx hb dX0_carveNewlyAllowed_39 rfl (lv_at hl 1 rfl) ?_
    refine xg11 C hI dX0_carveNewlyAllowed_40 ?_
    refine lv_icmp_ge (tgt := 69) hx hb dX0_carveNewlyAllowed_43 (by decide) (fun c1 => ?_) (fun c1 => ?_)
    · exact absurd (nl_le (by omega) (by omega) c1) (by omega)
    · have hlt : i < Ly.length := nl_lt (by omega) (by omega) c1
      have hb0 := hb1 i (by omega)
      refine lv_aload_n hx hb dX0_carveNewlyAllowed_46 rfl (lv_at hl 1 rfl) ?_
      refine xg5 C hI dX0_carveNewlyAllowed_47 ?_
      refine lv_if_le (tgt := 69) hx hb dX0_carveNewlyAllowed_50 (by decide) (fun c2 => ?_) (fun c2 => ?_)
      · have e0 : difJ Lx Ly i = [] := List.length_eq_zero_iff.mp (Nat.le_zero.mp ((nI_leI (by omega) (by decide)).mp c2))
        have e1 : difL Lx Ly = [] := by have := difJ_nil e0 (n + 1); rw [hi] at this; exact this
        rw [e0, ← e1] at hw hI
        exact kk w q qc H locs ls hw hI (lv_sub hl [1] rfl)
      · refine lv_aload_n hx hb dX0_carveNewlyAllowed_53 rfl (lv_at hl 1 rfl) ?_
        refine lv_aload_n hx hb dX0_carveNewlyAllowed_54 rfl (lv_at hl 1 rfl) ?_
        refine xg10 C hI dX0_carveNewlyAllowed_55 ?_
        refine lv_iload_n hx hb dX0_carveNewlyAllowed_58 rfl (lv_at hl 0 rfl) ?_
        refine xl6 (i := i) C hI rfl (by omega) dX0_carveNewlyAllowed_59 ?_
        rw [hy1 i hlt]
        refine kx_subtract (L := difJ Lx Ly i) hw hb0 (hb1 (i + 1) (by omega)) C hI (hR.le (by decide)) hl.1 (Nat.le_of_ble_eq_true rfl) dX0_carveNewlyAllowed_60 (fun w1 q1 qc1 H locs hw1 hI => ?_)
        refine lv_iinc (v := nI (i + 1)) (lv' := [(1, .int (nI (i + 1))), (0, .ref (G.2.1 0))]) hx hb dX0_carveNewlyAllowed_63 hl (k := 0) rfl (nI_1 i) (by decide) rfl (fun ls hl => ?_)
        refine lv_goto (tgt := 38) hx hb dX0_carveNewlyAllowed_66 (by decide) ?_
        exact ih (i + 1) w1 q1 qc1 H locs ls (by omega) hw1 hI hl
set_option maxHeartbeats 4000000 in
theorem old_cp {f0 : Int32} {f1 : Int32} {B : Nat → Int32} {K : Nat → Int32} {wc : Int32} {q : Nat → Int32} {qc : Int32} {a : Nat → Int32} {ac : Int32} {v : Nat → Int32} {Lx : List Int32} (C : XC p s m args c cX0_carveNoLongerAllowed 2 G) (hR : RL R 4) (hLx : Lx.length ≤ 512) (hx1 : hL v Lx)
    (kk : ∀ (w : Nat → Int32) (H : Heap) (locs : List Loc) (ls : Array Slot), hL w Lx → XI G s (f0, f1, B, K, w, wc, q, qc, a, ac, v, nI Lx.length) H locs → lv_has ls 2 [(0, .ref (G.2.1 0))] → W p l e R s m args below meth c H locs 0 0 Q (F0 m 28 ls [])) :
    ∀ (n : Nat) (i : Nat) (w : Nat → Int32) (H : Heap) (locs : List Loc) (ls : Array Slot), i + n = Lx.length → hL w (Lx.take i) → XI G s (f0, f1, B, K, w, wc, q, qc, a, ac, v, (nI Lx.length)) H locs → lv_has ls 2 [(1, .int (nI i)), (0, .ref (G.2.1 0))] → W p l e R s m args below meth c H locs 0 0 Q (F0 m 2 ls []) := by
  have hx := C.1.1
  have hb := C.1.2.1
  intro n
  induction n with
  | zero =>
    intro i w H locs ls hi hw hI hl
    refine lv_iload_n hx hb dX0_carveNoLongerAllowed_2 rfl (lv_at hl 0 rfl) ?_
    refine lv_aload_n hx hb dX0_carveNoLongerAllowed_3 rfl (lv_at hl 1 rfl) ?_
    refine xg11 C hI dX0_carveNoLongerAllowed_4 ?_
    refine lv_icmp_ge (tgt := 28) hx hb dX0_carveNoLongerAllowed_7 (by decide) (fun c1 => ?_) (fun c1 => ?_)
    · have e1 : Lx.take i = Lx := List.take_of_length_le (by omega)
      rw [e1] at hw
      exact kk w H locs ls hw hI (lv_sub hl [1] rfl)
    · exact absurd (nl_lt (by omega) (by omega) c1) (by omega)
  | succ n ih =>
    intro i w H locs ls hi hw hI hl
    refine lv_iload_n hx hb dX0_carveNoLongerAllowed_2 rfl (lv_at hl 0 rfl) ?_
    refine lv_aload_n hx hb dX0_carveNoLongerAllowed_3 rfl (lv_at hl 1 rfl) ?_
    refine xg11 C hI dX0_carveNoLongerAllowed_4 ?_
    refine lv_icmp_ge (tgt := 28) hx hb dX0_carveNoLongerAllowed_7 (by decide) (fun c1 => ?_) (fun c1 => ?_)
    · exact absurd (nl_le (by omega) (by omega) c1) (by omega)
    · have hlt : i < Lx.length := nl_lt (by omega) (by omega) c1
      refine lv_aload_n hx hb dX0_carveNoLongerAllowed_10 rfl (lv_at hl 1 rfl) ?_
      refine xg4 C hI dX0_carveNoLongerAllowed_11 ?_
      refine lv_iload_n hx hb dX0_carveNoLongerAllowed_14 rfl (lv_at hl 0 rfl) ?_
      refine lv_aload_n hx hb dX0_carveNoLongerAllowed_15 rfl (lv_at hl 1 rfl) ?_
      refine xg10 C hI dX0_carveNoLongerAllowed_16 ?_
      refine lv_iload_n hx hb dX0_carveNoLongerAllowed_19 rfl (lv_at hl 0 rfl) ?_
      refine xl6 (i := i) C hI rfl (by omega) dX0_carveNoLongerAllowed_20 ?_
      refine xs3 (i := i) C hI rfl (by omega) dX0_carveNoLongerAllowed_21 (fun H locs hI => ?_)
      have hw1 := hL_push hw (v i)
      rw [List.length_take, Nat.min_eq_left (by omega), hx1 i hlt, ← take_s hlt] at hw1
      rw [hx1 i hlt] at hI
      refine lv_iinc (v := nI (i + 1)) (lv' := [(1, .int (nI (i + 1))), (0, .ref (G.2.1 0))]) hx hb dX0_carveNoLongerAllowed_22 hl (k := 0) rfl (nI_1 i) (by decide) rfl (fun ls hl => ?_)
      refine lv_goto (tgt := 2) hx hb dX0_carveNoLongerAllowed_25 (by decide) ?_
      exact ih (i + 1) _ H locs ls (by omega) hw1 hI hl
set_option maxHeartbeats 4000000 in
theorem old_l {f0 : Int32} {f1 : Int32} {B : Nat → Int32} {K : Nat → Int32} {a : Nat → Int32} {v : Nat → Int32} {vc : Int32} {Lx Ly : List Int32} (C : XC p s m args c cX0_carveNoLongerAllowed 2 G) (hR : RL R 4) (hLy : Ly.length ≤ 512) (hy1 : hL a Ly) (hb1 : ∀ j, j ≤ Ly.length → (difJ Lx Ly j).length ≤ 512)
    (kk : ∀ (w q : Nat → Int32) (qc : Int32) (H : Heap) (locs : List Loc) (ls : Array Slot), hL w (difL Lx Ly) → XI G s (f0, f1, B, K, w, nI (difL Lx Ly).length, q, qc, a, nI Ly.length, v, vc) H locs → lv_has ls 2 [(0, .ref (G.2.1 0))] → W p l e R s m args below meth c H locs 0 0 Q (F0 m 69 ls [])) :
    ∀ (n : Nat) (i : Nat) (w : Nat → Int32) (q : Nat → Int32) (qc : Int32) (H : Heap) (locs : List Loc) (ls : Array Slot), i + n = Ly.length → hL w (difJ Lx Ly i) → XI G s (f0, f1, B, K, w, (nI (difJ Lx Ly i).length), q, qc, a, (nI Ly.length), v, vc) H locs → lv_has ls 2 [(1, .int (nI i)), (0, .ref (G.2.1 0))] → W p l e R s m args below meth c H locs 0 0 Q (F0 m 38 ls []) := by
  have hx := C.1.1
  have hb := C.1.2.1
  intro n
  induction n with
  | zero =>
    intro i w q qc H locs ls hi hw hI hl
    refine lv_iload_n hx hb dX0_carveNoLongerAllowed_38 rfl (lv_at hl 0 rfl) ?_
    refine lv_aload_n hx hb dX0_carveNoLongerAllowed_39 rfl (lv_at hl 1 rfl) ?_
    refine xg9 C hI dX0_carveNoLongerAllowed_40 ?_
    refine lv_icmp_ge (tgt := 69) hx hb dX0_carveNoLongerAllowed_43 (by decide) (fun c1 => ?_) (fun c1 => ?_)
    · have e1 : i = Ly.length := by omega
      subst e1
      exact kk w q qc H locs ls hw hI (lv_sub hl [1] rfl)
    · exact absurd (nl_lt (by omega) (by omega) c1) (by omega)
  | succ n ih =>
    intro i w q qc H locs ls hi hw hI hl
    refine lv_iload_n hx hb dX0_carveNoLongerAllowed_38 rfl (lv_at hl 0 rfl) ?_
    refine lv_aload_n hx hb dX0_carveNoLongerAllowed_39 rfl (lv_at hl 1 rfl) ?_
    refine xg9 C hI dX0_carveNoLongerAllowed_40 ?_
    refine lv_icmp_ge (tgt := 69) hx hb dX0_carveNoLongerAllowed_43 (by decide) (fun c1 => ?_) (fun c1 => ?_)
    · exact absurd (nl_le (by omega) (by omega) c1) (by omega)
    · have hlt : i < Ly.length := nl_lt (by omega) (by omega) c1
      have hb0 := hb1 i (by omega)
      refine lv_aload_n hx hb dX0_carveNoLongerAllowed_46 rfl (lv_at hl 1 rfl) ?_
      refine xg5 C hI dX0_carveNoLongerAllowed_47 ?_
      refine lv_if_le (tgt := 69) hx hb dX0_carveNoLongerAllowed_50 (by decide) (fun c2 => ?_) (fun c2 => ?_)
      · have e0 : difJ Lx Ly i = [] := List.length_eq_zero_iff.mp (Nat.le_zero.mp ((nI_leI (by omega) (by decide)).mp c2))
        have e1 : difL Lx Ly = [] := by have := difJ_nil e0 (n + 1); rw [hi] at this; exact this
        rw [e0, ← e1] at hw hI
        exact kk w q qc H locs ls hw hI (lv_sub hl [1] rfl)
      · refine lv_aload_n hx hb dX0_carveNoLongerAllowed_53 rfl (lv_at hl 1 rfl) ?_
        refine lv_aload_n hx hb dX0_carveNoLongerAllowed_54 rfl (lv_at hl 1 rfl) ?_
        refine xg8 C hI dX0_carveNoLongerAllowed_55 ?_
        refine lv_iload_n hx hb dX0_carveNoLongerAllowed_58 rfl (lv_at hl 0 rfl) ?_
        refine xl5 (i := i) C hI rfl (by omega) dX0_carveNoLongerAllowed_59 ?_
        rw [hy1 i hlt]
        refine kx_subtract (L := difJ Lx Ly i) hw hb0 (hb1 (i + 1) (by omega)) C hI (hR.le (by decide)) hl.1 (Nat.le_of_ble_eq_true rfl) dX0_carveNoLongerAllowed_60 (fun w1 q1 qc1 H locs hw1 hI => ?_)
        refine lv_iinc (v := nI (i + 1)) (lv' := [(1, .int (nI (i + 1))), (0, .ref (G.2.1 0))]) hx hb dX0_carveNoLongerAllowed_63 hl (k := 0) rfl (nI_1 i) (by decide) rfl (fun ls hl => ?_)
        refine lv_goto (tgt := 38) hx hb dX0_carveNoLongerAllowed_66 (by decide) ?_
        exact ih (i + 1) w1 q1 qc1 H locs ls (by omega) hw1 hI hl
end KI
set_option maxHeartbeats 4000000 in
theorem metx_carveNewlyAllowed (l : Launch) (G : GT) (hD : XD G) (f0 : Int32) (f1 : Int32) (B : Nat → Int32) (K : Nat → Int32) (w : Nat → Int32) (wc : Int32) (q : Nat → Int32) (qc : Int32) (a : Nat → Int32) (v : Nat → Int32)  (Lx Ly : List Int32) (hLx : Lx.length ≤ 512) (hx1 : hL a Lx) (hLy : Ly.length ≤ 512) (hy1 : hL v Ly) (hb1 : ∀ j, j ≤ Ly.length → (difJ Lx Ly j).length ≤ 512) : Met l yX0_carveNewlyAllowed (ws_ yX0_carveNewlyAllowed cX0_carveNewlyAllowed 2 none) (rmd 4) (xPc G (f0, f1, B, K, w, wc, q, qc, a, (nI Lx.length), v, (nI Ly.length)) []) (xQv G (fun u1 => ∃ w1 q1 qc1, u1 = (f0, f1, B, K, w1, nI (difL Lx Ly).length, q1, qc1, a, nI Lx.length, v, nI Ly.length) ∧ hL w1 (difL Lx Ly))) 0 0 (xA G) := by
  refine gMet (Rn := RX0) (by decide +kernel) rfl (Nat.le_of_ble_eq_true rfl) hD ?_
  intro p e s m below meth c ls C hr hlocks hI hl
  have hR := RL.rm 4
  have hx := C.1.1
  have hb := C.1.2.1
  have hl : lv_has ls 2 [(0, .ref (G.2.1 0))] := hl
  refine lv_iconst (v := 0) hx hb dX0_carveNewlyAllowed_0 (by decide) ?_
  refine lv_istore_n (lv' := [(1, .int 0), (0, .ref (G.2.1 0))]) hx hb dX0_carveNewlyAllowed_1 rfl hl (by decide) rfl (fun ls hl => ?_)
  refine new_cp C hR hLx hx1 (fun w1 H locs ls hw1 hI hl => ?_) Lx.length 0 w _ _ ls (by omega) (hL_nil w) hI hl
  refine lv_aload_n hx hb dX0_carveNewlyAllowed_28 rfl (lv_at hl 0 rfl) ?_
  refine lv_aload_n hx hb dX0_carveNewlyAllowed_29 rfl (lv_at hl 0 rfl) ?_
  refine xg9 C hI dX0_carveNewlyAllowed_30 ?_
  refine xp5 C hI dX0_carveNewlyAllowed_33 (fun H locs hI => ?_)
  refine lv_iconst (v := 0) hx hb dX0_carveNewlyAllowed_36 (by decide) ?_
  refine lv_istore_n (lv' := [(1, .int 0), (0, .ref (G.2.1 0))]) hx hb dX0_carveNewlyAllowed_37 rfl hl (by decide) rfl (fun ls hl => ?_)
  refine new_l (Lx := Lx) C hR hLy hy1 hb1 (fun w2 q2 qc2 H locs ls hw2 hI hl => ?_) Ly.length 0 w1 q qc _ _ ls (by omega) hw1 hI hl
  exact e_void hI hx hb hr hlocks ⟨w2, q2, qc2, rfl, hw2⟩ dX0_carveNewlyAllowed_69
section KJnew
variable {p : Program} {l : Launch} {e : Env} {R : Room} {s : State} {m : MethodId} {args : Array Value} {below : List Frame} {meth : Method} {c : Code} {H : Heap} {locs : List Loc} {Q : State → Prop} {G : GT}
theorem kx_carveNewlyAllowed {cc : ByteArray} {nL pc : Nat} {ls : Array Slot} {rest : List Value} {f0 : Int32} {f1 : Int32} {B : Nat → Int32} {K : Nat → Int32} {w : Nat → Int32} {wc : Int32} {q : Nat → Int32} {qc : Int32} {a : Nat → Int32} {v : Nat → Int32}  {Lx Ly : List Int32} (hLx : Lx.length ≤ 512) (hx1 : hL a Lx) (hLy : Ly.length ≤ 512) (hy1 : hL v Ly) (hb1 : ∀ j, j ≤ Ly.length → (difJ Lx Ly j).length ≤ 512) (C : XC p s m args c cc nL G) (hI : XI G s (f0, f1, B, K, w, wc, q, qc, a, nI Lx.length, v, nI Ly.length) H locs) (hR : RL R 5) (hz : ls.size = nL) (hrm : (rest.map fun v => v.category).sum ≤ 8) (hd : decode cc pc = .ok (.invokevirtual 80, 3)) (kk : ∀ (w1 q1 : Nat → Int32) (qc1 : Int32) (H1 : Heap) (locs1 : List Loc), hL w1 (difL Lx Ly) → XI G s (f0, f1, B, K, w1, nI (difL Lx Ly).length, q1, qc1, a, nI Lx.length, v, nI Ly.length) H1 locs1 → W p l e R s m args below meth c H1 locs1 0 0 Q (F0 m (pc + 3) ls rest)) : W p l e R s m args below meth c H locs 0 0 Q (F0 m pc ls (.ref (G.2.1 0) :: rest)) :=
  g_v (n := 0) (metx_carveNewlyAllowed l G C.2.2 f0 f1 B K w wc q qc a v Lx Ly hLx hx1 hLy hy1 hb1) C hI rfl rfl rfl (lw_V q222 q224 qs24 q37 q225) (by decide +kernel) rfl rfl rfl ⟨hR.1, by have := hR.2; show 8 + (2 + 11) + 30 * 4 ≤ R.locals; omega⟩ hz rfl hrm hd (fun u1 H1 locs1 hp hI => by obtain ⟨w1, q1, qc1, rfl, hw1⟩ := hp; exact kk w1 q1 qc1 H1 locs1 hw1 hI)
end KJnew
set_option maxHeartbeats 4000000 in
theorem metx_carveNoLongerAllowed (l : Launch) (G : GT) (hD : XD G) (f0 : Int32) (f1 : Int32) (B : Nat → Int32) (K : Nat → Int32) (w : Nat → Int32) (wc : Int32) (q : Nat → Int32) (qc : Int32) (a : Nat → Int32) (v : Nat → Int32)  (Lx Ly : List Int32) (hLx : Lx.length ≤ 512) (hx1 : hL v Lx) (hLy : Ly.length ≤ 512) (hy1 : hL a Ly) (hb1 : ∀ j, j ≤ Ly.length → (difJ Lx Ly j).length ≤ 512) : Met l yX0_carveNoLongerAllowed (ws_ yX0_carveNoLongerAllowed cX0_carveNoLongerAllowed 2 none) (rmd 4) (xPc G (f0, f1, B, K, w, wc, q, qc, a, (nI Ly.length), v, (nI Lx.length)) []) (xQv G (fun u1 => ∃ w1 q1 qc1, u1 = (f0, f1, B, K, w1, nI (difL Lx Ly).length, q1, qc1, a, nI Ly.length, v, nI Lx.length) ∧ hL w1 (difL Lx Ly))) 0 0 (xA G) := by
  refine gMet (Rn := RX0) (by decide +kernel) rfl (Nat.le_of_ble_eq_true rfl) hD ?_
  intro p e s m below meth c ls C hr hlocks hI hl
  have hR := RL.rm 4
  have hx := C.1.1
  have hb := C.1.2.1
  have hl : lv_has ls 2 [(0, .ref (G.2.1 0))] := hl
  refine lv_iconst (v := 0) hx hb dX0_carveNoLongerAllowed_0 (by decide) ?_
  refine lv_istore_n (lv' := [(1, .int 0), (0, .ref (G.2.1 0))]) hx hb dX0_carveNoLongerAllowed_1 rfl hl (by decide) rfl (fun ls hl => ?_)
  refine old_cp C hR hLx hx1 (fun w1 H locs ls hw1 hI hl => ?_) Lx.length 0 w _ _ ls (by omega) (hL_nil w) hI hl
  refine lv_aload_n hx hb dX0_carveNoLongerAllowed_28 rfl (lv_at hl 0 rfl) ?_
  refine lv_aload_n hx hb dX0_carveNoLongerAllowed_29 rfl (lv_at hl 0 rfl) ?_
  refine xg11 C hI dX0_carveNoLongerAllowed_30 ?_
  refine xp5 C hI dX0_carveNoLongerAllowed_33 (fun H locs hI => ?_)
  refine lv_iconst (v := 0) hx hb dX0_carveNoLongerAllowed_36 (by decide) ?_
  refine lv_istore_n (lv' := [(1, .int 0), (0, .ref (G.2.1 0))]) hx hb dX0_carveNoLongerAllowed_37 rfl hl (by decide) rfl (fun ls hl => ?_)
  refine old_l (Lx := Lx) C hR hLy hy1 hb1 (fun w2 q2 qc2 H locs ls hw2 hI hl => ?_) Ly.length 0 w1 q qc _ _ ls (by omega) hw1 hI hl
  exact e_void hI hx hb hr hlocks ⟨w2, q2, qc2, rfl, hw2⟩ dX0_carveNoLongerAllowed_69
section KJold
variable {p : Program} {l : Launch} {e : Env} {R : Room} {s : State} {m : MethodId} {args : Array Value} {below : List Frame} {meth : Method} {c : Code} {H : Heap} {locs : List Loc} {Q : State → Prop} {G : GT}
theorem kx_carveNoLongerAllowed {cc : ByteArray} {nL pc : Nat} {ls : Array Slot} {rest : List Value} {f0 : Int32} {f1 : Int32} {B : Nat → Int32} {K : Nat → Int32} {w : Nat → Int32} {wc : Int32} {q : Nat → Int32} {qc : Int32} {a : Nat → Int32} {v : Nat → Int32}  {Lx Ly : List Int32} (hLx : Lx.length ≤ 512) (hx1 : hL v Lx) (hLy : Ly.length ≤ 512) (hy1 : hL a Ly) (hb1 : ∀ j, j ≤ Ly.length → (difJ Lx Ly j).length ≤ 512) (C : XC p s m args c cc nL G) (hI : XI G s (f0, f1, B, K, w, wc, q, qc, a, nI Ly.length, v, nI Lx.length) H locs) (hR : RL R 5) (hz : ls.size = nL) (hrm : (rest.map fun v => v.category).sum ≤ 8) (hd : decode cc pc = .ok (.invokevirtual 83, 3)) (kk : ∀ (w1 q1 : Nat → Int32) (qc1 : Int32) (H1 : Heap) (locs1 : List Loc), hL w1 (difL Lx Ly) → XI G s (f0, f1, B, K, w1, nI (difL Lx Ly).length, q1, qc1, a, nI Ly.length, v, nI Lx.length) H1 locs1 → W p l e R s m args below meth c H1 locs1 0 0 Q (F0 m (pc + 3) ls rest)) : W p l e R s m args below meth c H locs 0 0 Q (F0 m pc ls (.ref (G.2.1 0) :: rest)) :=
  g_v (n := 0) (metx_carveNoLongerAllowed l G C.2.2 f0 f1 B K w wc q qc a v Lx Ly hLx hx1 hLy hy1 hb1) C hI rfl rfl rfl (lw_V q226 q228 qs25 q37 q229) (by decide +kernel) rfl rfl rfl ⟨hR.1, by have := hR.2; show 8 + (2 + 11) + 30 * 4 ≤ R.locals; omega⟩ hz rfl hrm hd (fun u1 H1 locs1 hp hI => by obtain ⟨w1, q1, qc1, rfl, hw1⟩ := hp; exact kk w1 q1 qc1 H1 locs1 hw1 hI)
end KJold
end
section
/-! X0: faults -/
set_option maxRecDepth 100000
section LD
variable {p : Program} {l : Launch} {e : Env} {R : Room} {s : State} {m : MethodId} {args : Array Value} {below : List Frame} {meth : Method} {c : Code} {H : Heap} {locs : List Loc} {Q : State → Prop} {G : GT}
set_option maxHeartbeats 4000000 in
theorem ovr_in {f0 : Int32} {f1 : Int32} {B : Nat → Int32} {K : Nat → Int32} {w : Nat → Int32} {q : Nat → Int32} {qc : Int32} {a : Nat → Int32} {ac : Int32} {v : Nat → Int32} {vc : Int32} {L : List Int32} {i j : Nat} (C : XC p s m args c cX0_overruled 4 G) (hR : RL R 5) (hLn : L.length ≤ 512) (hw : hL w L) (hi : i < 10) (hj : j < 10)
    (k0 : ∀  (H : Heap) (locs : List Loc) (ls : Array Slot), hits L (B i) = false → XI G s (f0, f1, B, K, w, nI L.length, q, qc, a, ac, v, vc) H locs → lv_has ls 4 [(0, .ref (G.2.1 0)), (1, .int (nI i)), (2, .int (nI j))] → W p l e R s m args below meth c H locs 0 0 Q (F0 m 67 ls []))
    (k1 : ∀  (H : Heap) (locs : List Loc) (ls : Array Slot), hits L (B i) = true → XI G s (f0, f1, B, K, w, nI L.length, q, qc, a, ac, v, vc) H locs → lv_has ls 4 [(0, .ref (G.2.1 0)), (1, .int (nI i)), (2, .int (nI j))] → W p l e R s m args below meth c H locs 0 0 Q (F0 m 59 ls [])) :
    ∀ (n : Nat) (t : Nat) (H : Heap) (locs : List Loc) (ls : Array Slot), t + n = L.length → anb (fun t => decide (bMt (L.getD t 0) (B i))) t n = hits L (B i) → XI G s (f0, f1, B, K, w, (nI L.length), q, qc, a, ac, v, vc) H locs → lv_has ls 4 [(3, .int (nI t)), (0, .ref (G.2.1 0)), (1, .int (nI i)), (2, .int (nI j))] → W p l e R s m args below meth c H locs 0 0 Q (F0 m 32 ls []) := by
  have hx := C.1.1
  have hb := C.1.2.1
  intro n
  induction n with
  | zero =>
    intro t H locs ls ht he hI hl
    refine lv_iload_n hx hb dX0_overruled_32 rfl (lv_at hl 0 rfl) ?_
    refine lv_aload_n hx hb dX0_overruled_33 rfl (lv_at hl 1 rfl) ?_
    refine xg5 C hI dX0_overruled_34 ?_
    refine lv_icmp_ge (tgt := 67) hx hb dX0_overruled_37 (by decide) (fun c1 => ?_) (fun c1 => ?_)
    · exact k0 H locs ls he.symm hI (lv_sub hl [1, 2, 3] rfl)
    · exact absurd (nl_lt (by omega) (by omega) c1) (by omega)
  | succ n ih =>
    intro t H locs ls ht he hI hl
    refine lv_iload_n hx hb dX0_overruled_32 rfl (lv_at hl 0 rfl) ?_
    refine lv_aload_n hx hb dX0_overruled_33 rfl (lv_at hl 1 rfl) ?_
    refine xg5 C hI dX0_overruled_34 ?_
    refine lv_icmp_ge (tgt := 67) hx hb dX0_overruled_37 (by decide) (fun c1 => ?_) (fun c1 => ?_)
    · exact absurd (nl_le (by omega) (by omega) c1) (by omega)
    · have hlt : t < L.length := nl_lt (by omega) (by omega) c1
      refine lv_aload_n hx hb dX0_overruled_40 rfl (lv_at hl 1 rfl) ?_
      refine lv_aload_n hx hb dX0_overruled_41 rfl (lv_at hl 1 rfl) ?_
      refine xg4 C hI dX0_overruled_42 ?_
      refine lv_iload_n hx hb dX0_overruled_45 rfl (lv_at hl 0 rfl) ?_
      refine xl3 (i := t) C hI rfl (by omega) dX0_overruled_46 ?_
      rw [hw t hlt]
      refine lv_aload_n hx hb dX0_overruled_47 rfl (lv_at hl 1 rfl) ?_
      refine xg2 C hI dX0_overruled_48 ?_
      refine lv_iload_n hx hb dX0_overruled_51 rfl (lv_at hl 2 rfl) ?_
      refine xl1 (i := i) C hI rfl (by omega) dX0_overruled_52 ?_
      refine kx_meets C hI (hR.le (by decide)) hl.1 (Nat.le_of_ble_eq_true rfl) dX0_overruled_53 ?_
      refine lv_if_eq (tgt := 61) hx hb dX0_overruled_56 (by decide) (fun c2 => ?_) (fun c2 => ?_)
      · refine lv_iinc (v := nI (t + 1)) (lv' := [(3, .int (nI (t + 1))), (0, .ref (G.2.1 0)), (1, .int (nI i)), (2, .int (nI j))]) hx hb dX0_overruled_61 hl (k := 0) rfl (nI_1 t) (by decide) rfl (fun ls hl => ?_)
        refine lv_goto (tgt := 32) hx hb dX0_overruled_64 (by decide) ?_
        exact ih (t + 1) H locs ls (by omega) (by rw [← he]; exact (anb_f n (by rw [decide_eq_true_iff]; exact if0 c2)).symm) hI hl
      · exact k1 H locs ls (by rw [← he]; exact anb_t n (by rw [decide_eq_true_iff]; exact if1 c2)) hI (lv_sub hl [1, 2, 3] rfl)
set_option maxHeartbeats 4000000 in
theorem ovr_l {f0 : Int32} {f1 : Int32} {B : Nat → Int32} {K : Nat → Int32} {a : Nat → Int32} {ac : Int32} {v : Nat → Int32} {vc : Int32} {i : Nat} (C : XC p s m args c cX0_overruled 4 G) (hR : RL R 5) (hi : i < 10) (hb1 : ∀ j, j < i → ∀ t, t ≤ j → (ownJ B j t).length ≤ 512)
    (k0 : ∀ (w : Nat → Int32) (wc : Int32) (q : Nat → Int32) (qc : Int32) (H : Heap) (locs : List Loc) (ls : Array Slot), ovrB B K i = false → XI G s (f0, f1, B, K, w, wc, q, qc, a, ac, v, vc) H locs → lv_has ls 4 [(0, .ref (G.2.1 0))] → W p l e R s m args below meth c H locs 0 0 Q (F0 m 73 ls []))
    (k1 : ∀ (w : Nat → Int32) (wc : Int32) (q : Nat → Int32) (qc : Int32) (H : Heap) (locs : List Loc) (ls : Array Slot), ovrB B K i = true → XI G s (f0, f1, B, K, w, wc, q, qc, a, ac, v, vc) H locs → lv_has ls 4 [(0, .ref (G.2.1 0))] → W p l e R s m args below meth c H locs 0 0 Q (F0 m 59 ls [])) :
    ∀ (n : Nat) (j : Nat) (w : Nat → Int32) (wc : Int32) (q : Nat → Int32) (qc : Int32) (H : Heap) (locs : List Loc) (ls : Array Slot), j + n = i → anb (fun j => !decide (K j = K i) && hits (ownL B j) (B i)) j n = ovrB B K i → XI G s (f0, f1, B, K, w, wc, q, qc, a, ac, v, vc) H locs → lv_has ls 4 [(2, .int (nI j)), (0, .ref (G.2.1 0)), (1, .int (nI i))] → W p l e R s m args below meth c H locs 0 0 Q (F0 m 2 ls []) := by
  have hx := C.1.1
  have hb := C.1.2.1
  intro n
  induction n with
  | zero =>
    intro j w wc q qc H locs ls hj he hI hl
    refine lv_iload_n hx hb dX0_overruled_2 rfl (lv_at hl 0 rfl) ?_
    refine lv_iload_n hx hb dX0_overruled_3 rfl (lv_at hl 2 rfl) ?_
    refine lv_icmp_ge (tgt := 73) hx hb dX0_overruled_4 (by decide) (fun c1 => ?_) (fun c1 => ?_)
    · exact k0 w wc q qc H locs ls he.symm hI (lv_sub hl [1] rfl)
    · exact absurd (nl_lt (by omega) (by omega) c1) (by omega)
  | succ n ih =>
    intro j w wc q qc H locs ls hj he hI hl
    refine lv_iload_n hx hb dX0_overruled_2 rfl (lv_at hl 0 rfl) ?_
    refine lv_iload_n hx hb dX0_overruled_3 rfl (lv_at hl 2 rfl) ?_
    refine lv_icmp_ge (tgt := 73) hx hb dX0_overruled_4 (by decide) (fun c1 => ?_) (fun c1 => ?_)
    · exact absurd (nl_le (by omega) (by omega) c1) (by omega)
    · have hlt : j < i := nl_lt (by omega) (by omega) c1
      refine lv_aload_n hx hb dX0_overruled_7 rfl (lv_at hl 1 rfl) ?_
      refine xg3 C hI dX0_overruled_8 ?_
      refine lv_iload_n hx hb dX0_overruled_11 rfl (lv_at hl 0 rfl) ?_
      refine xl2 (i := j) C hI rfl (by omega) dX0_overruled_12 ?_
      refine lv_aload_n hx hb dX0_overruled_13 rfl (lv_at hl 1 rfl) ?_
      refine xg3 C hI dX0_overruled_14 ?_
      refine lv_iload_n hx hb dX0_overruled_17 rfl (lv_at hl 2 rfl) ?_
      refine xl2 (i := i) C hI rfl (by omega) dX0_overruled_18 ?_
      refine lv_icmp_ne (tgt := 25) hx hb dX0_overruled_19 (by decide) (fun c2 => ?_) (fun c2 => ?_)
      · refine lv_aload_n hx hb dX0_overruled_25 rfl (lv_at hl 1 rfl) ?_
        refine lv_iload_n hx hb dX0_overruled_26 rfl (lv_at hl 0 rfl) ?_
        refine kx_carveOwned (i := j) (by omega) (hb1 j hlt) C hI (hR.le (by decide)) hl.1 (Nat.le_of_ble_eq_true rfl) dX0_overruled_27 (fun w1 q1 qc1 H locs hw1 hI => ?_)
        refine lv_iconst (v := 0) hx hb dX0_overruled_30 (by decide) ?_
        refine lv_istore_n (lv' := [(3, .int 0), (2, .int (nI j)), (0, .ref (G.2.1 0)), (1, .int (nI i))]) hx hb dX0_overruled_31 rfl hl (by decide) rfl (fun ls hl => ?_)
        refine ovr_in (L := ownL B j) (i := i) (j := j) C hR (hb1 j hlt j (Nat.le_refl _)) hw1 (by omega) (by omega) (fun H locs ls h0 hI hl => ?_) (fun H locs ls h0 hI hl => ?_) (ownL B j).length 0 _ _ ls (by omega) rfl hI (lv_sub hl [0, 2, 3, 1] rfl)
        · refine lv_iinc (v := nI (j + 1)) (lv' := [(2, .int (nI (j + 1))), (0, .ref (G.2.1 0)), (1, .int (nI i))]) hx hb dX0_overruled_67 hl (k := 2) rfl (nI_1 j) (by decide) rfl (fun ls hl => ?_)
          refine lv_goto (tgt := 2) hx hb dX0_overruled_70 (by decide) ?_
          exact ih (j + 1) w1 _ q1 qc1 H locs ls (by omega) (by rw [← he]; exact (anb_f n (by rw [h0, Bool.and_false]; exact Bool.false_ne_true)).symm) hI (lv_sub hl [0, 1, 2] rfl)
        · exact k1 w1 _ q1 qc1 H locs ls (by rw [← he]; exact anb_t n (by rw [h0, Bool.and_true, Bool.not_eq_true', decide_eq_false_iff_not]; exact c2)) hI (lv_sub hl [0] rfl)
      · refine lv_goto (tgt := 67) hx hb dX0_overruled_22 (by decide) ?_
        refine lv_iinc (v := nI (j + 1)) (lv' := [(2, .int (nI (j + 1))), (0, .ref (G.2.1 0)), (1, .int (nI i))]) hx hb dX0_overruled_67 hl (k := 0) rfl (nI_1 j) (by decide) rfl (fun ls hl => ?_)
        refine lv_goto (tgt := 2) hx hb dX0_overruled_70 (by decide) ?_
        exact ih (j + 1) w wc q qc H locs ls (by omega) (by rw [← he]; exact (anb_f n (by rw [decide_eq_true c2]; exact Bool.false_ne_true)).symm) hI hl
end LD
set_option maxHeartbeats 4000000 in
theorem metx_overruled (l : Launch) (G : GT) (hD : XD G) (f0 : Int32) (f1 : Int32) (B : Nat → Int32) (K : Nat → Int32) (w : Nat → Int32) (wc : Int32) (q : Nat → Int32) (qc : Int32) (a : Nat → Int32) (ac : Int32) (v : Nat → Int32) (vc : Int32)  (i : Nat) (hi : i < 10) (hb1 : ∀ j, j < i → ∀ t, t ≤ j → (ownJ B j t).length ≤ 512) : Met l yX0_overruled (ws_ yX0_overruled cX0_overruled 4 (some .boolean)) (rmd 5) (xPc G (f0, f1, B, K, w, wc, q, qc, a, ac, v, vc) [.int ((nI i))]) (xQi G (fun r u1 => r = (if ovrB B K i = true then 1 else 0) ∧ ∃ w1 wc1 q1 qc1, u1 = (f0, f1, B, K, w1, wc1, q1, qc1, a, ac, v, vc))) 0 0 (xA G) := by
  refine gMet (Rn := RX0) (by decide +kernel) rfl (Nat.le_of_ble_eq_true rfl) hD ?_
  intro p e s m below meth c ls C hr hlocks hI hl
  have hR := RL.rm 5
  have hx := C.1.1
  have hb := C.1.2.1
  have hl : lv_has ls 4 [(0, .ref (G.2.1 0)), (1, .int ((nI i)))] := hl
  refine lv_iconst (v := 0) hx hb dX0_overruled_0 (by decide) ?_
  refine lv_istore_n (lv' := [(2, .int 0), (0, .ref (G.2.1 0)), (1, .int ((nI i)))]) hx hb dX0_overruled_1 rfl hl (by decide) rfl (fun ls hl => ?_)
  refine ovr_l C hR hi hb1 (fun w1 wc1 q1 qc1 H locs ls h0 hI hl => ?_) (fun w1 wc1 q1 qc1 H locs ls h0 hI hl => ?_) i 0 w wc q qc _ _ ls (by omega) rfl hI hl
  · refine lv_iconst (v := 0) hx hb dX0_overruled_73 (by decide) ?_
    exact e_bool hI hx hb hr hlocks rfl ⟨by rw [h0]; rfl, w1, wc1, q1, qc1, rfl⟩ dX0_overruled_74
  · refine lv_iconst (v := 1) hx hb dX0_overruled_59 (by decide) ?_
    exact e_bool hI hx hb hr hlocks rfl ⟨by rw [h0]; rfl, w1, wc1, q1, qc1, rfl⟩ dX0_overruled_60
section LE
variable {p : Program} {l : Launch} {e : Env} {R : Room} {s : State} {m : MethodId} {args : Array Value} {below : List Frame} {meth : Method} {c : Code} {H : Heap} {locs : List Loc} {Q : State → Prop} {G : GT}
theorem kx_overruled {cc : ByteArray} {nL pc : Nat} {ls : Array Slot} {rest : List Value} {f0 : Int32} {f1 : Int32} {B : Nat → Int32} {K : Nat → Int32} {w : Nat → Int32} {wc : Int32} {q : Nat → Int32} {qc : Int32} {a : Nat → Int32} {ac : Int32} {v : Nat → Int32} {vc : Int32}  {i : Nat} (hi : i < 10) (hb1 : ∀ j, j < i → ∀ t, t ≤ j → (ownJ B j t).length ≤ 512) (C : XC p s m args c cc nL G) (hI : XI G s (f0, f1, B, K, w, wc, q, qc, a, ac, v, vc) H locs) (hR : RL R 6) (hz : ls.size = nL) (hrm : (rest.map fun v => v.category).sum ≤ 8) (hd : decode cc pc = .ok (.invokevirtual 59, 3)) (kk : ∀ (w1 : Nat → Int32) (wc1 : Int32) (q1 : Nat → Int32) (qc1 : Int32) (H1 : Heap) (locs1 : List Loc), XI G s (f0, f1, B, K, w1, wc1, q1, qc1, a, ac, v, vc) H1 locs1 → W p l e R s m args below meth c H1 locs1 0 0 Q (F0 m (pc + 3) ls (.int (if ovrB B K i = true then 1 else 0) :: rest))) : W p l e R s m args below meth c H locs 0 0 Q (F0 m pc ls (.int (nI i) :: .ref (G.2.1 0) :: rest)) :=
  g_i (n := 1) (metx_overruled l G C.2.2 f0 f1 B K w wc q qc a ac v vc i hi hb1) C hI rfl rfl rfl (lw_V q198 q200 qs20 q37 q201) (by decide +kernel) rfl rfl rfl ⟨hR.1, by have := hR.2; show 8 + (4 + 11) + 30 * 5 ≤ R.locals; omega⟩ hz rfl hrm hd (fun r1 u1 H1 locs1 hp hI => by obtain ⟨rfl, w1, wc1, q1, qc1, rfl⟩ := hp; exact kk w1 wc1 q1 qc1 H1 locs1 hI)
set_option maxHeartbeats 4000000 in
theorem rep_in {f0 : Int32} {f1 : Int32} {B : Nat → Int32} {K : Nat → Int32} {w : Nat → Int32} {q : Nat → Int32} {qc : Int32} {a : Nat → Int32} {ac : Int32} {v : Nat → Int32} {vc : Int32} {L : List Int32} {i j : Nat} (C : XC p s m args c cX0_replaceable 4 G) (hR : RL R 4) (hLn : L.length ≤ 512) (hw : hL w L) (hi : i < 10) (hj : j < 10)
    (k0 : ∀  (H : Heap) (locs : List Loc) (ls : Array Slot), hits L (B j) = false → XI G s (f0, f1, B, K, w, nI L.length, q, qc, a, ac, v, vc) H locs → lv_has ls 4 [(0, .ref (G.2.1 0)), (1, .int (nI i)), (2, .int (nI j))] → W p l e R s m args below meth c H locs 0 0 Q (F0 m 64 ls []))
    (k1 : ∀  (H : Heap) (locs : List Loc) (ls : Array Slot), hits L (B j) = true → XI G s (f0, f1, B, K, w, nI L.length, q, qc, a, ac, v, vc) H locs → lv_has ls 4 [(0, .ref (G.2.1 0)), (1, .int (nI i)), (2, .int (nI j))] → W p l e R s m args below meth c H locs 0 0 Q (F0 m 56 ls [])) :
    ∀ (n : Nat) (t : Nat) (H : Heap) (locs : List Loc) (ls : Array Slot), t + n = L.length → anb (fun t => decide (bMt (L.getD t 0) (B j))) t n = hits L (B j) → XI G s (f0, f1, B, K, w, (nI L.length), q, qc, a, ac, v, vc) H locs → lv_has ls 4 [(3, .int (nI t)), (0, .ref (G.2.1 0)), (1, .int (nI i)), (2, .int (nI j))] → W p l e R s m args below meth c H locs 0 0 Q (F0 m 29 ls []) := by
  have hx := C.1.1
  have hb := C.1.2.1
  intro n
  induction n with
  | zero =>
    intro t H locs ls ht he hI hl
    refine lv_iload_n hx hb dX0_replaceable_29 rfl (lv_at hl 0 rfl) ?_
    refine lv_aload_n hx hb dX0_replaceable_30 rfl (lv_at hl 1 rfl) ?_
    refine xg5 C hI dX0_replaceable_31 ?_
    refine lv_icmp_ge (tgt := 64) hx hb dX0_replaceable_34 (by decide) (fun c1 => ?_) (fun c1 => ?_)
    · exact k0 H locs ls he.symm hI (lv_sub hl [1, 2, 3] rfl)
    · exact absurd (nl_lt (by omega) (by omega) c1) (by omega)
  | succ n ih =>
    intro t H locs ls ht he hI hl
    refine lv_iload_n hx hb dX0_replaceable_29 rfl (lv_at hl 0 rfl) ?_
    refine lv_aload_n hx hb dX0_replaceable_30 rfl (lv_at hl 1 rfl) ?_
    refine xg5 C hI dX0_replaceable_31 ?_
    refine lv_icmp_ge (tgt := 64) hx hb dX0_replaceable_34 (by decide) (fun c1 => ?_) (fun c1 => ?_)
    · exact absurd (nl_le (by omega) (by omega) c1) (by omega)
    · have hlt : t < L.length := nl_lt (by omega) (by omega) c1
      refine lv_aload_n hx hb dX0_replaceable_37 rfl (lv_at hl 1 rfl) ?_
      refine lv_aload_n hx hb dX0_replaceable_38 rfl (lv_at hl 1 rfl) ?_
      refine xg4 C hI dX0_replaceable_39 ?_
      refine lv_iload_n hx hb dX0_replaceable_42 rfl (lv_at hl 0 rfl) ?_
      refine xl3 (i := t) C hI rfl (by omega) dX0_replaceable_43 ?_
      rw [hw t hlt]
      refine lv_aload_n hx hb dX0_replaceable_44 rfl (lv_at hl 1 rfl) ?_
      refine xg2 C hI dX0_replaceable_45 ?_
      refine lv_iload_n hx hb dX0_replaceable_48 rfl (lv_at hl 3 rfl) ?_
      refine xl1 (i := j) C hI rfl (by omega) dX0_replaceable_49 ?_
      refine kx_meets C hI (hR.le (by decide)) hl.1 (Nat.le_of_ble_eq_true rfl) dX0_replaceable_50 ?_
      refine lv_if_eq (tgt := 58) hx hb dX0_replaceable_53 (by decide) (fun c2 => ?_) (fun c2 => ?_)
      · refine lv_iinc (v := nI (t + 1)) (lv' := [(3, .int (nI (t + 1))), (0, .ref (G.2.1 0)), (1, .int (nI i)), (2, .int (nI j))]) hx hb dX0_replaceable_58 hl (k := 0) rfl (nI_1 t) (by decide) rfl (fun ls hl => ?_)
        refine lv_goto (tgt := 29) hx hb dX0_replaceable_61 (by decide) ?_
        exact ih (t + 1) H locs ls (by omega) (by rw [← he]; exact (anb_f n (by rw [decide_eq_true_iff]; exact if0 c2)).symm) hI hl
      · exact k1 H locs ls (by rw [← he]; exact anb_t n (by rw [decide_eq_true_iff]; exact if1 c2)) hI (lv_sub hl [1, 2, 3] rfl)
set_option maxHeartbeats 4000000 in
theorem rep_l {f0 : Int32} {B : Nat → Int32} {K : Nat → Int32} {a : Nat → Int32} {ac : Int32} {v : Nat → Int32} {vc : Int32} {L : List Int32} {i N : Nat} (C : XC p s m args c cX0_replaceable 4 G) (hR : RL R 4) (hi : i < N) (hN : N ≤ 10) (hb1 : ∀ k, i + 1 + k ≤ N → (repJ B L i k).length ≤ 512)
    (k0 : ∀ (w q : Nat → Int32) (qc : Int32) (H : Heap) (locs : List Loc) (ls : Array Slot), badB B K L i N = false → hL w (repJ B L i (N - (i + 1))) → XI G s (f0, nI N, B, K, w, nI (repJ B L i (N - (i + 1))).length, q, qc, a, ac, v, vc) H locs → lv_has ls 4 [(0, .ref (G.2.1 0)), (1, .int (nI i))] → W p l e R s m args below meth c H locs 0 0 Q (F0 m 80 ls []))
    (k1 : ∀ (w q : Nat → Int32) (qc wc : Int32) (H : Heap) (locs : List Loc) (ls : Array Slot), badB B K L i N = true → XI G s (f0, nI N, B, K, w, wc, q, qc, a, ac, v, vc) H locs → lv_has ls 4 [(0, .ref (G.2.1 0))] → W p l e R s m args below meth c H locs 0 0 Q (F0 m 56 ls [])) :
    ∀ (n : Nat) (k : Nat) (w : Nat → Int32) (q : Nat → Int32) (qc : Int32) (H : Heap) (locs : List Loc) (ls : Array Slot), i + 1 + k + n = N → anb (fun m => !decide (K (i + 1 + m) = K i) && hits (repJ B L i m) (B (i + 1 + m))) k n = badB B K L i N → hL w (repJ B L i k) → XI G s (f0, (nI N), B, K, w, (nI (repJ B L i k).length), q, qc, a, ac, v, vc) H locs → lv_has ls 4 [(2, .int (nI (i + 1 + k))), (0, .ref (G.2.1 0)), (1, .int (nI i))] → W p l e R s m args below meth c H locs 0 0 Q (F0 m 4 ls []) := by
  have hx := C.1.1
  have hb := C.1.2.1
  intro n
  induction n with
  | zero =>
    intro k w q qc H locs ls hk he hw hI hl
    refine lv_iload_n hx hb dX0_replaceable_4 rfl (lv_at hl 0 rfl) ?_
    refine lv_aload_n hx hb dX0_replaceable_5 rfl (lv_at hl 1 rfl) ?_
    refine xg1 C hI dX0_replaceable_6 ?_
    refine lv_icmp_ge (tgt := 80) hx hb dX0_replaceable_9 (by decide) (fun c1 => ?_) (fun c1 => ?_)
    · have e1 : k = N - (i + 1) := by omega
      subst e1
      exact k0 w q qc H locs ls he.symm hw hI (lv_sub hl [1, 2] rfl)
    · exact absurd (nl_lt (by omega) (by omega) c1) (by omega)
  | succ n ih =>
    intro k w q qc H locs ls hk he hw hI hl
    refine lv_iload_n hx hb dX0_replaceable_4 rfl (lv_at hl 0 rfl) ?_
    refine lv_aload_n hx hb dX0_replaceable_5 rfl (lv_at hl 1 rfl) ?_
    refine xg1 C hI dX0_replaceable_6 ?_
    refine lv_icmp_ge (tgt := 80) hx hb dX0_replaceable_9 (by decide) (fun c1 => ?_) (fun c1 => ?_)
    · exact absurd (nl_le (by omega) (by omega) c1) (by omega)
    · have hlt : i + 1 + k < N := nl_lt (by omega) (by omega) c1
      have hbk := hb1 k (by omega)
      refine lv_aload_n hx hb dX0_replaceable_12 rfl (lv_at hl 1 rfl) ?_
      refine xg3 C hI dX0_replaceable_13 ?_
      refine lv_iload_n hx hb dX0_replaceable_16 rfl (lv_at hl 0 rfl) ?_
      refine xl2 (i := i + 1 + k) C hI rfl (by omega) dX0_replaceable_17 ?_
      refine lv_aload_n hx hb dX0_replaceable_18 rfl (lv_at hl 1 rfl) ?_
      refine xg3 C hI dX0_replaceable_19 ?_
      refine lv_iload_n hx hb dX0_replaceable_22 rfl (lv_at hl 2 rfl) ?_
      refine xl2 (i := i) C hI rfl (by omega) dX0_replaceable_23 ?_
      refine lv_icmp_eq (tgt := 64) hx hb dX0_replaceable_24 (by decide) (fun c2 => ?_) (fun c2 => ?_)
      · refine lv_aload_n hx hb dX0_replaceable_64 rfl (lv_at hl 1 rfl) ?_
        refine lv_aload_n hx hb dX0_replaceable_65 rfl (lv_at hl 1 rfl) ?_
        refine xg2 C hI dX0_replaceable_66 ?_
        refine lv_iload_n hx hb dX0_replaceable_69 rfl (lv_at hl 0 rfl) ?_
        refine xl1 (i := i + 1 + k) C hI rfl (by omega) dX0_replaceable_70 ?_
        refine kx_subtract (L := repJ B L i k) hw hbk (hb1 (k + 1) (by omega)) C hI (hR.le (by decide)) hl.1 (Nat.le_of_ble_eq_true rfl) dX0_replaceable_71 (fun w1 q1 qc1 H locs hw1 hI => ?_)
        refine lv_iinc (v := nI (i + 1 + (k + 1))) (lv' := [(2, .int (nI (i + 1 + (k + 1)))), (0, .ref (G.2.1 0)), (1, .int (nI i))]) hx hb dX0_replaceable_74 hl (k := 0) rfl (nI_1 (i + 1 + k)) (by decide) rfl (fun ls hl => ?_)
        refine lv_goto (tgt := 4) hx hb dX0_replaceable_77 (by decide) ?_
        exact ih (k + 1) w1 q1 qc1 H locs ls (by omega) (by rw [← he]; exact (anb_f n (by rw [decide_eq_true c2]; exact Bool.false_ne_true)).symm) hw1 hI (lv_sub hl [0, 1, 2] rfl)
      · refine lv_iconst (v := 0) hx hb dX0_replaceable_27 (by decide) ?_
        refine lv_istore_n (lv' := [(3, .int 0), (2, .int (nI (i + 1 + k))), (0, .ref (G.2.1 0)), (1, .int (nI i))]) hx hb dX0_replaceable_28 rfl hl (by decide) rfl (fun ls hl => ?_)
        refine rep_in (L := repJ B L i k) (i := i) (j := i + 1 + k) C hR hbk hw (by omega) (by omega) (fun H locs ls h0 hI hl => ?_) (fun H locs ls h0 hI hl => ?_) (repJ B L i k).length 0 _ _ ls (by omega) rfl hI (lv_sub hl [0, 2, 3, 1] rfl)
        · refine lv_aload_n hx hb dX0_replaceable_64 rfl (lv_at hl 0 rfl) ?_
          refine lv_aload_n hx hb dX0_replaceable_65 rfl (lv_at hl 0 rfl) ?_
          refine xg2 C hI dX0_replaceable_66 ?_
          refine lv_iload_n hx hb dX0_replaceable_69 rfl (lv_at hl 2 rfl) ?_
          refine xl1 (i := i + 1 + k) C hI rfl (by omega) dX0_replaceable_70 ?_
          refine kx_subtract (L := repJ B L i k) hw hbk (hb1 (k + 1) (by omega)) C hI (hR.le (by decide)) hl.1 (Nat.le_of_ble_eq_true rfl) dX0_replaceable_71 (fun w1 q1 qc1 H locs hw1 hI => ?_)
          refine lv_iinc (v := nI (i + 1 + (k + 1))) (lv' := [(2, .int (nI (i + 1 + (k + 1)))), (0, .ref (G.2.1 0)), (1, .int (nI i))]) hx hb dX0_replaceable_74 hl (k := 2) rfl (nI_1 (i + 1 + k)) (by decide) rfl (fun ls hl => ?_)
          refine lv_goto (tgt := 4) hx hb dX0_replaceable_77 (by decide) ?_
          exact ih (k + 1) w1 q1 qc1 H locs ls (by omega) (by rw [← he]; exact (anb_f n (by rw [h0, Bool.and_false]; exact Bool.false_ne_true)).symm) hw1 hI (lv_sub hl [0, 1, 2] rfl)
        · exact k1 w q qc _ H locs ls (by rw [← he]; exact anb_t n (by rw [h0, Bool.and_true, Bool.not_eq_true', decide_eq_false_iff_not]; exact c2)) hI (lv_sub hl [0] rfl)
end LE
set_option maxHeartbeats 4000000 in
theorem metx_replaceable (l : Launch) (G : GT) (hD : XD G) (f0 : Int32) (B : Nat → Int32) (K : Nat → Int32) (w : Nat → Int32) (q : Nat → Int32) (qc : Int32) (a : Nat → Int32) (ac : Int32) (v : Nat → Int32) (vc : Int32)  (L : List Int32) (i N : Nat) (hi : i < N) (hN : N ≤ 10) (hw : hL w L) (hb1 : ∀ k, i + 1 + k ≤ N → (repJ B L i k).length ≤ 512) : Met l yX0_replaceable (ws_ yX0_replaceable cX0_replaceable 4 (some .boolean)) (rmd 4) (xPc G (f0, (nI N), B, K, w, (nI L.length), q, qc, a, ac, v, vc) [.int ((nI i))]) (xQi G (fun r u1 => r = (if repB B K L i N = true then 1 else 0) ∧ ∃ w1 wc1 q1 qc1, u1 = (f0, nI N, B, K, w1, wc1, q1, qc1, a, ac, v, vc))) 0 0 (xA G) := by
  refine gMet (Rn := RX0) (by decide +kernel) rfl (Nat.le_of_ble_eq_true rfl) hD ?_
  intro p e s m below meth c ls C hr hlocks hI hl
  have hR := RL.rm 4
  have hx := C.1.1
  have hb := C.1.2.1
  have hl : lv_has ls 4 [(0, .ref (G.2.1 0)), (1, .int ((nI i)))] := hl
  refine lv_iload_n hx hb dX0_replaceable_0 rfl (lv_at hl 1 rfl) ?_
  refine lv_iconst (v := 1) hx hb dX0_replaceable_1 (by decide) ?_
  refine lv_iadd hx hb dX0_replaceable_2 ?_
  rw [nI_1]
  refine lv_istore_n (lv' := [(2, .int (nI (i + 1))), (0, .ref (G.2.1 0)), (1, .int ((nI i)))]) hx hb dX0_replaceable_3 rfl hl (by decide) rfl (fun ls hl => ?_)
  refine rep_l (L := L) C hR hi hN hb1 (fun w1 q1 qc1 H locs ls h0 hw1 hI hl => ?_) (fun w1 q1 qc1 wc1 H locs ls h0 hI hl => ?_) (N - (i + 1)) 0 w q qc _ _ ls (by omega) rfl hw hI (lv_sub hl [0, 1, 2] rfl)
  · have hlen := hb1 (N - (i + 1)) (by omega)
    refine lv_aload_n hx hb dX0_replaceable_80 rfl (lv_at hl 0 rfl) ?_
    refine xg5 C hI dX0_replaceable_81 ?_
    refine lv_if_eq (tgt := 96) hx hb dX0_replaceable_84 (by decide) (fun c1 => ?_) (fun c1 => ?_)
    · have e1 := (nI_len0 hlen).mp c1
      refine lv_iconst (v := 1) hx hb dX0_replaceable_96 (by decide) ?_
      refine lv_goto (tgt := 101) hx hb dX0_replaceable_97 (by decide) ?_
      exact e_bool hI hx hb hr hlocks rfl ⟨by simp only [repB, h0, e1, decide_true, Bool.true_or, Bool.not_false, Bool.and_self, if_true], w1, _, q1, qc1, rfl⟩ dX0_replaceable_101
    · have e1 : ¬ repJ B L i (N - (i + 1)) = [] := fun h => c1 ((nI_len0 hlen).mpr h)
      refine lv_aload_n hx hb dX0_replaceable_87 rfl (lv_at hl 0 rfl) ?_
      refine xg3 C hI dX0_replaceable_88 ?_
      refine lv_iload_n hx hb dX0_replaceable_91 rfl (lv_at hl 1 rfl) ?_
      refine xl2 (i := i) C hI rfl (by omega) dX0_replaceable_92 ?_
      refine lv_if_ne (tgt := 100) hx hb dX0_replaceable_93 (by decide) (fun c2 => ?_) (fun c2 => ?_)
      · refine lv_iconst (v := 0) hx hb dX0_replaceable_100 (by decide) ?_
        exact e_bool hI hx hb hr hlocks rfl ⟨by simp only [repB, h0, e1, c2, decide_false, Bool.or_self, Bool.and_false, Bool.false_eq_true, if_false], w1, _, q1, qc1, rfl⟩ dX0_replaceable_101
      · refine lv_iconst (v := 1) hx hb dX0_replaceable_96 (by decide) ?_
        refine lv_goto (tgt := 101) hx hb dX0_replaceable_97 (by decide) ?_
        exact e_bool hI hx hb hr hlocks rfl ⟨by simp only [repB, h0, e1, c2, decide_false, decide_true, Bool.or_true, Bool.not_false, Bool.and_self, if_true], w1, _, q1, qc1, rfl⟩ dX0_replaceable_101
  · refine lv_iconst (v := 0) hx hb dX0_replaceable_56 (by decide) ?_
    exact e_bool hI hx hb hr hlocks rfl ⟨by simp only [repB, h0, Bool.not_true, Bool.false_and, Bool.false_eq_true, if_false], w1, wc1, q1, qc1, rfl⟩ dX0_replaceable_57
section LF
variable {p : Program} {l : Launch} {e : Env} {R : Room} {s : State} {m : MethodId} {args : Array Value} {below : List Frame} {meth : Method} {c : Code} {H : Heap} {locs : List Loc} {Q : State → Prop} {G : GT}
theorem kx_replaceable {cc : ByteArray} {nL pc : Nat} {ls : Array Slot} {rest : List Value} {f0 : Int32} {B : Nat → Int32} {K : Nat → Int32} {w : Nat → Int32} {q : Nat → Int32} {qc : Int32} {a : Nat → Int32} {ac : Int32} {v : Nat → Int32} {vc : Int32}  {L : List Int32} {i N : Nat} (hi : i < N) (hN : N ≤ 10) (hw : hL w L) (hb1 : ∀ k, i + 1 + k ≤ N → (repJ B L i k).length ≤ 512) (C : XC p s m args c cc nL G) (hI : XI G s (f0, nI N, B, K, w, nI L.length, q, qc, a, ac, v, vc) H locs) (hR : RL R 5) (hz : ls.size = nL) (hrm : (rest.map fun v => v.category).sum ≤ 8) (hd : decode cc pc = .ok (.invokevirtual 62, 3)) (kk : ∀ (w1 : Nat → Int32) (wc1 : Int32) (q1 : Nat → Int32) (qc1 : Int32) (H1 : Heap) (locs1 : List Loc), XI G s (f0, nI N, B, K, w1, wc1, q1, qc1, a, ac, v, vc) H1 locs1 → W p l e R s m args below meth c H1 locs1 0 0 Q (F0 m (pc + 3) ls (.int (if repB B K L i N = true then 1 else 0) :: rest))) : W p l e R s m args below meth c H locs 0 0 Q (F0 m pc ls (.int (nI i) :: .ref (G.2.1 0) :: rest)) :=
  g_i (n := 1) (metx_replaceable l G C.2.2 f0 B K w q qc a ac v vc L i N hi hN hw hb1) C hI rfl rfl rfl (lw_V q202 q204 qs21 q37 q205) (by decide +kernel) rfl rfl rfl ⟨hR.1, by have := hR.2; show 8 + (4 + 11) + 30 * 4 ≤ R.locals; omega⟩ hz rfl hrm hd (fun r1 u1 H1 locs1 hp hI => by obtain ⟨rfl, w1, wc1, q1, qc1, rfl⟩ := hp; exact kk w1 wc1 q1 qc1 H1 locs1 hI)
set_option maxHeartbeats 4000000 in
theorem flt_l {f0 : Int32} {f1 : Int32} {B : Nat → Int32} {K : Nat → Int32} {w : Nat → Int32} {wc : Int32} {q : Nat → Int32} {qc : Int32} {a : Nat → Int32} {ac : Int32} {v : Nat → Int32} {vc : Int32} {i : Nat} (C : XC p s m args c cX0_fault 4 G) (hR : RL R 6) (hi : i < 10)
    (k4 : ∀  (H : Heap) (locs : List Loc) (ls : Array Slot), corB B K i = true → XI G s (f0, f1, B, K, w, wc, q, qc, a, ac, v, vc) H locs → lv_has ls 4 [(0, .ref (G.2.1 0))] → W p l e R s m args below meth c H locs 0 0 Q (F0 m 135 ls []))
    (k5 : ∀  (H : Heap) (locs : List Loc) (ls : Array Slot), corB B K i = false → XI G s (f0, f1, B, K, w, wc, q, qc, a, ac, v, vc) H locs → lv_has ls 4 [(2, .int (if genB B K i = true then 1 else 0))] → W p l e R s m args below meth c H locs 0 0 Q (F0 m 143 ls [])) :
    ∀ (n : Nat) (j : Nat) (gb : Bool) (H : Heap) (locs : List Loc) (ls : Array Slot), j + n = i → anb (fun j => !decide (K j = K i) && decide (bMt (B i) (B j)) && !decide (bIn (B j) (B i)) && !decide (bIn (B i) (B j))) j n = corB B K i → (gb || anb (fun j => !decide (K j = K i) && decide (bMt (B i) (B j)) && decide (bIn (B j) (B i))) j n) = genB B K i → XI G s (f0, f1, B, K, w, wc, q, qc, a, ac, v, vc) H locs → lv_has ls 4 [(3, .int (nI j)), (2, .int (if gb = true then 1 else 0)), (0, .ref (G.2.1 0)), (1, .int (nI i))] → W p l e R s m args below meth c H locs 0 0 Q (F0 m 50 ls []) := by
  have hx := C.1.1
  have hb := C.1.2.1
  intro n
  induction n with
  | zero =>
    intro j gb H locs ls hj he hg hI hl
    refine lv_iload_n hx hb dX0_fault_50 rfl (lv_at hl 0 rfl) ?_
    refine lv_iload_n hx hb dX0_fault_51 rfl (lv_at hl 3 rfl) ?_
    refine lv_icmp_ge (tgt := 143) hx hb dX0_fault_52 (by decide) (fun c1 => ?_) (fun c1 => ?_)
    · have hg : gb = genB B K i := by rw [← hg]; exact (Bool.or_false gb).symm
      rw [hg] at hl
      exact k5 H locs ls he.symm hI (lv_sub hl [1] rfl)
    · exact absurd (nl_lt (by omega) (by omega) c1) (by omega)
  | succ n ih =>
    intro j gb H locs ls hj he hg hI hl
    refine lv_iload_n hx hb dX0_fault_50 rfl (lv_at hl 0 rfl) ?_
    refine lv_iload_n hx hb dX0_fault_51 rfl (lv_at hl 3 rfl) ?_
    refine lv_icmp_ge (tgt := 143) hx hb dX0_fault_52 (by decide) (fun c1 => ?_) (fun c1 => ?_)
    · exact absurd (nl_le (by omega) (by omega) c1) (by omega)
    · have hlt : j < i := nl_lt (by omega) (by omega) c1
      refine lv_aload_n hx hb dX0_fault_55 rfl (lv_at hl 2 rfl) ?_
      refine xg3 C hI dX0_fault_56 ?_
      refine lv_iload_n hx hb dX0_fault_59 rfl (lv_at hl 0 rfl) ?_
      refine xl2 (i := j) C hI rfl (by omega) dX0_fault_60 ?_
      refine lv_aload_n hx hb dX0_fault_61 rfl (lv_at hl 2 rfl) ?_
      refine xg3 C hI dX0_fault_62 ?_
      refine lv_iload_n hx hb dX0_fault_65 rfl (lv_at hl 3 rfl) ?_
      refine xl2 (i := i) C hI rfl (by omega) dX0_fault_66 ?_
      refine lv_icmp_eq (tgt := 137) hx hb dX0_fault_67 (by decide) (fun c2 => ?_) (fun c2 => ?_)
      · have hpg : (fun j => !decide (K j = K i) && decide (bMt (B i) (B j)) && decide (bIn (B j) (B i))) j = false := by simp [c2]
        have hpc : (fun j => !decide (K j = K i) && decide (bMt (B i) (B j)) && !decide (bIn (B j) (B i)) && !decide (bIn (B i) (B j))) j = false := by simp [c2]
        refine lv_iinc (v := nI (j + 1)) (lv' := [(3, .int (nI (j + 1))), (2, .int (if gb = true then 1 else 0)), (0, .ref (G.2.1 0)), (1, .int (nI i))]) hx hb dX0_fault_137 hl (k := 0) rfl (nI_1 j) (by decide) rfl (fun ls hl => ?_)
        refine lv_goto (tgt := 50) hx hb dX0_fault_140 (by decide) ?_
        exact ih (j + 1) gb H locs ls (by omega) (by rw [← he]; exact (anb_f n (Bool.eq_false_iff.mp hpc)).symm) (by rw [← hg]; exact congrArg (gb || ·) (anb_f n (Bool.eq_false_iff.mp hpg)).symm) hI (lv_sub hl [0, 1, 2, 3] rfl)
      · refine lv_aload_n hx hb dX0_fault_70 rfl (lv_at hl 2 rfl) ?_
        refine lv_aload_n hx hb dX0_fault_71 rfl (lv_at hl 2 rfl) ?_
        refine xg2 C hI dX0_fault_72 ?_
        refine lv_iload_n hx hb dX0_fault_75 rfl (lv_at hl 3 rfl) ?_
        refine xl1 (i := i) C hI rfl (by omega) dX0_fault_76 ?_
        refine lv_aload_n hx hb dX0_fault_77 rfl (lv_at hl 2 rfl) ?_
        refine xg2 C hI dX0_fault_78 ?_
        refine lv_iload_n hx hb dX0_fault_81 rfl (lv_at hl 0 rfl) ?_
        refine xl1 (i := j) C hI rfl (by omega) dX0_fault_82 ?_
        refine kx_meets C hI (hR.le (by decide)) hl.1 (Nat.le_of_ble_eq_true rfl) dX0_fault_83 ?_
        refine lv_if_ne (tgt := 92) hx hb dX0_fault_86 (by decide) (fun c3 => ?_) (fun c3 => ?_)
        · have c3 := if1 c3
          refine lv_aload_n hx hb dX0_fault_92 rfl (lv_at hl 2 rfl) ?_
          refine lv_aload_n hx hb dX0_fault_93 rfl (lv_at hl 2 rfl) ?_
          refine xg2 C hI dX0_fault_94 ?_
          refine lv_iload_n hx hb dX0_fault_97 rfl (lv_at hl 0 rfl) ?_
          refine xl1 (i := j) C hI rfl (by omega) dX0_fault_98 ?_
          refine lv_aload_n hx hb dX0_fault_99 rfl (lv_at hl 2 rfl) ?_
          refine xg2 C hI dX0_fault_100 ?_
          refine lv_iload_n hx hb dX0_fault_103 rfl (lv_at hl 3 rfl) ?_
          refine xl1 (i := i) C hI rfl (by omega) dX0_fault_104 ?_
          refine kx_within C hI (hR.le (by decide)) hl.1 (Nat.le_of_ble_eq_true rfl) dX0_fault_105 ?_
          refine lv_if_eq (tgt := 116) hx hb dX0_fault_108 (by decide) (fun c4 => ?_) (fun c4 => ?_)
          · have c4 := if0 c4
            refine lv_aload_n hx hb dX0_fault_116 rfl (lv_at hl 2 rfl) ?_
            refine lv_aload_n hx hb dX0_fault_117 rfl (lv_at hl 2 rfl) ?_
            refine xg2 C hI dX0_fault_118 ?_
            refine lv_iload_n hx hb dX0_fault_121 rfl (lv_at hl 3 rfl) ?_
            refine xl1 (i := i) C hI rfl (by omega) dX0_fault_122 ?_
            refine lv_aload_n hx hb dX0_fault_123 rfl (lv_at hl 2 rfl) ?_
            refine xg2 C hI dX0_fault_124 ?_
            refine lv_iload_n hx hb dX0_fault_127 rfl (lv_at hl 0 rfl) ?_
            refine xl1 (i := j) C hI rfl (by omega) dX0_fault_128 ?_
            refine kx_within C hI (hR.le (by decide)) hl.1 (Nat.le_of_ble_eq_true rfl) dX0_fault_129 ?_
            refine lv_if_ne (tgt := 137) hx hb dX0_fault_132 (by decide) (fun c5 => ?_) (fun c5 => ?_)
            · have c5 := if1 c5
              have hpg : (fun j => !decide (K j = K i) && decide (bMt (B i) (B j)) && decide (bIn (B j) (B i))) j = false := by simp [c4, c5]
              have hpc : (fun j => !decide (K j = K i) && decide (bMt (B i) (B j)) && !decide (bIn (B j) (B i)) && !decide (bIn (B i) (B j))) j = false := by simp [c4, c5]
              refine lv_iinc (v := nI (j + 1)) (lv' := [(3, .int (nI (j + 1))), (2, .int (if gb = true then 1 else 0)), (0, .ref (G.2.1 0)), (1, .int (nI i))]) hx hb dX0_fault_137 hl (k := 0) rfl (nI_1 j) (by decide) rfl (fun ls hl => ?_)
              refine lv_goto (tgt := 50) hx hb dX0_fault_140 (by decide) ?_
              exact ih (j + 1) gb H locs ls (by omega) (by rw [← he]; exact (anb_f n (Bool.eq_false_iff.mp hpc)).symm) (by rw [← hg]; exact congrArg (gb || ·) (anb_f n (Bool.eq_false_iff.mp hpg)).symm) hI (lv_sub hl [0, 1, 2, 3] rfl)
            · have c5 := if0 c5
              have hpc : (fun j => !decide (K j = K i) && decide (bMt (B i) (B j)) && !decide (bIn (B j) (B i)) && !decide (bIn (B i) (B j))) j = true := by
                show (!decide (K j = K i) && decide (bMt (B i) (B j)) && !decide (bIn (B j) (B i)) && !decide (bIn (B i) (B j))) = true
                rw [decide_eq_false c2, decide_eq_true c3, decide_eq_false c4, decide_eq_false c5]
                rfl
              exact k4 H locs ls (by rw [← he]; exact anb_t n hpc) hI (lv_sub hl [2] rfl)
          · have c4 := if1 c4
            have hpg : (fun j => !decide (K j = K i) && decide (bMt (B i) (B j)) && decide (bIn (B j) (B i))) j = true := by
              show (!decide (K j = K i) && decide (bMt (B i) (B j)) && decide (bIn (B j) (B i))) = true
              rw [decide_eq_false c2, decide_eq_true c3, decide_eq_true c4]
              rfl
            refine lv_iconst (v := 1) hx hb dX0_fault_111 (by decide) ?_
            refine lv_istore_n (lv' := [(2, .int 1), (3, .int (nI j)), (0, .ref (G.2.1 0)), (1, .int (nI i))]) hx hb dX0_fault_112 rfl hl (by decide) rfl (fun ls hl => ?_)
            refine lv_goto (tgt := 137) hx hb dX0_fault_113 (by decide) ?_
            have hpc : (fun j => !decide (K j = K i) && decide (bMt (B i) (B j)) && !decide (bIn (B j) (B i)) && !decide (bIn (B i) (B j))) j = false := by simp [c4]
            refine lv_iinc (v := nI (j + 1)) (lv' := [(3, .int (nI (j + 1))), (2, .int 1), (0, .ref (G.2.1 0)), (1, .int (nI i))]) hx hb dX0_fault_137 hl (k := 1) rfl (nI_1 j) (by decide) rfl (fun ls hl => ?_)
            refine lv_goto (tgt := 50) hx hb dX0_fault_140 (by decide) ?_
            exact ih (j + 1) true H locs ls (by omega) (by rw [← he]; exact (anb_f n (Bool.eq_false_iff.mp hpc)).symm) (by rw [← hg, anb_t n hpg, Bool.or_true, Bool.true_or]) hI (lv_sub hl [0, 1, 2, 3] rfl)
        · have c3 := if0 c3
          refine lv_goto (tgt := 137) hx hb dX0_fault_89 (by decide) ?_
          have hpg : (fun j => !decide (K j = K i) && decide (bMt (B i) (B j)) && decide (bIn (B j) (B i))) j = false := by simp [c3]
          have hpc : (fun j => !decide (K j = K i) && decide (bMt (B i) (B j)) && !decide (bIn (B j) (B i)) && !decide (bIn (B i) (B j))) j = false := by simp [c3]
          refine lv_iinc (v := nI (j + 1)) (lv' := [(3, .int (nI (j + 1))), (2, .int (if gb = true then 1 else 0)), (0, .ref (G.2.1 0)), (1, .int (nI i))]) hx hb dX0_fault_137 hl (k := 0) rfl (nI_1 j) (by decide) rfl (fun ls hl => ?_)
          refine lv_goto (tgt := 50) hx hb dX0_fault_140 (by decide) ?_
          exact ih (j + 1) gb H locs ls (by omega) (by rw [← he]; exact (anb_f n (Bool.eq_false_iff.mp hpc)).symm) (by rw [← hg]; exact congrArg (gb || ·) (anb_f n (Bool.eq_false_iff.mp hpg)).symm) hI (lv_sub hl [0, 1, 2, 3] rfl)
end LF
set_option maxHeartbeats 4000000 in
theorem metx_fault (l : Launch) (G : GT) (hD : XD G) (f0 : Int32) (B : Nat → Int32) (K : Nat → Int32) (w : Nat → Int32) (wc : Int32) (q : Nat → Int32) (qc : Int32) (a : Nat → Int32) (ac : Int32) (v : Nat → Int32) (vc : Int32) (x : Int32) (N : Nat) (hN : N ≤ 10) (hb1 : ∀ i, i < N → ∀ j, j ≤ i → (ownJ B i j).length ≤ 512) (hb3 : ∀ i, i < N → ∀ k, i + 1 + k ≤ N → (repJ B (ownL B i) i k).length ≤ 512) : Met l yX0_fault (ws_ yX0_fault cX0_fault 4 (some .int)) (rmd 6) (xPc G (f0, (nI N), B, K, w, wc, q, qc, a, ac, v, vc) [.int x]) (xQi G (fun r u1 => r = (if isR x N then fltB (decide (ownL B (ix x) = [])) (ovrB B K (ix x)) (repB B K (ownL B (ix x)) (ix x) N) (corB B K (ix x)) (genB B K (ix x)) else (-1)) ∧ ∃ w1 wc1 q1 qc1, u1 = (f0, nI N, B, K, w1, wc1, q1, qc1, a, ac, v, vc))) 0 0 (xA G) := by
  refine gMet (Rn := RX0) (by decide +kernel) rfl (Nat.le_of_ble_eq_true rfl) hD ?_
  intro p e s m below meth c ls C hr hlocks hI hl
  have hR := RL.rm 6
  have hx := C.1.1
  have hb := C.1.2.1
  have hl : lv_has ls 4 [(0, .ref (G.2.1 0)), (1, .int x)] := hl
  refine lv_aload_n hx hb dX0_fault_0 rfl (lv_at hl 0 rfl) ?_
  refine lv_iload_n hx hb dX0_fault_1 rfl (lv_at hl 1 rfl) ?_
  refine kx_isRule C hI (hR.le (by decide)) hl.1 (Nat.le_of_ble_eq_true rfl) dX0_fault_2 ?_
  refine lv_if_ne (tgt := 10) hx hb dX0_fault_5 (by decide) (fun c1 => ?_) (fun c1 => ?_)
  · have c1 := if1 c1
    obtain ⟨i, hi, rfl⟩ := isR_ix hN c1
    simp only [if_pos c1, ix_nI (show i < 10 by omega)]
    refine lv_aload_n hx hb dX0_fault_10 rfl (lv_at hl 0 rfl) ?_
    refine lv_iload_n hx hb dX0_fault_11 rfl (lv_at hl 1 rfl) ?_
    refine kx_carveOwned (i := i) (by omega) (hb1 i hi) C hI (hR.le (by decide)) hl.1 (Nat.le_of_ble_eq_true rfl) dX0_fault_12 (fun w1 q1 qc1 H locs hw1 hI => ?_)
    have hlen := hb1 i hi i (Nat.le_refl _)
    refine lv_aload_n hx hb dX0_fault_15 rfl (lv_at hl 0 rfl) ?_
    refine xg5 C hI dX0_fault_16 ?_
    refine lv_if_ne (tgt := 36) hx hb dX0_fault_19 (by decide) (fun c2 => ?_) (fun c2 => ?_)
    · have e1 : decide (ownL B i = []) = false := decide_eq_false (fun h => c2 ((nI_len0 hlen).mpr h))
      refine lv_aload_n hx hb dX0_fault_36 rfl (lv_at hl 0 rfl) ?_
      refine lv_iload_n hx hb dX0_fault_37 rfl (lv_at hl 1 rfl) ?_
      refine kx_replaceable (L := ownL B i) (i := i) (N := N) hi hN hw1 (hb3 i hi) C hI (hR.le (by decide)) hl.1 (Nat.le_of_ble_eq_true rfl) dX0_fault_38 (fun w2 wc2 q2 qc2 H locs hI => ?_)
      refine lv_if_eq (tgt := 46) hx hb dX0_fault_41 (by decide) (fun c3 => ?_) (fun c3 => ?_)
      · have e2 := Bool.eq_false_iff.mpr (if0 c3)
        refine lv_iconst (v := 0) hx hb dX0_fault_46 (by decide) ?_
        refine lv_istore_n (lv' := [(2, .int 0), (0, .ref (G.2.1 0)), (1, .int (nI i))]) hx hb dX0_fault_47 rfl hl (by decide) rfl (fun ls hl => ?_)
        refine lv_iconst (v := 0) hx hb dX0_fault_48 (by decide) ?_
        refine lv_istore_n (lv' := [(3, .int 0), (2, .int 0), (0, .ref (G.2.1 0)), (1, .int (nI i))]) hx hb dX0_fault_49 rfl hl (by decide) rfl (fun ls hl => ?_)
        refine flt_l (i := i) C hR (by omega) (fun H locs ls h0 hI hl => ?_) (fun H locs ls h0 hI hl => ?_) i 0 false _ _ ls (by omega) rfl (Bool.false_or _) hI (lv_sub hl [0, 1, 2, 3] rfl)
        · refine lv_iconst (v := 4) hx hb dX0_fault_135 (by decide) ?_
          exact e_int hI hx hb hr hlocks ⟨by simp only [fltB, e1, e2, h0, Bool.false_eq_true, if_false, if_true], w2, wc2, q2, qc2, rfl⟩ dX0_fault_136
        · refine lv_iload_n hx hb dX0_fault_143 rfl (lv_at hl 0 rfl) ?_
          refine lv_if_eq (tgt := 151) hx hb dX0_fault_144 (by decide) (fun c4 => ?_) (fun c4 => ?_)
          · have e3 := Bool.eq_false_iff.mpr (if0 c4)
            refine lv_iconst (v := 0) hx hb dX0_fault_151 (by decide) ?_
            exact e_int hI hx hb hr hlocks ⟨by simp only [fltB, e1, e2, h0, e3, Bool.false_eq_true, if_false], w2, wc2, q2, qc2, rfl⟩ dX0_fault_152
          · have e3 := if1 c4
            refine lv_iconst (v := 5) hx hb dX0_fault_147 (by decide) ?_
            refine lv_goto (tgt := 152) hx hb dX0_fault_148 (by decide) ?_
            exact e_int hI hx hb hr hlocks ⟨by simp only [fltB, e1, e2, h0, e3, Bool.false_eq_true, if_false, if_true], w2, wc2, q2, qc2, rfl⟩ dX0_fault_152
      · have e2 := if1 c3
        refine lv_iconst (v := 3) hx hb dX0_fault_44 (by decide) ?_
        exact e_int hI hx hb hr hlocks ⟨by simp only [fltB, e1, e2, Bool.false_eq_true, if_false, if_true], w2, wc2, q2, qc2, rfl⟩ dX0_fault_45
    · have e1 : decide (ownL B i = []) = true := decide_eq_true ((nI_len0 hlen).mp c2)
      refine lv_aload_n hx hb dX0_fault_22 rfl (lv_at hl 0 rfl) ?_
      refine lv_iload_n hx hb dX0_fault_23 rfl (lv_at hl 1 rfl) ?_
      refine kx_overruled (i := i) (by omega) (fun j hj => hb1 j (by omega)) C hI (hR.le (by decide)) hl.1 (Nat.le_of_ble_eq_true rfl) dX0_fault_24 (fun w2 wc2 q2 qc2 H locs hI => ?_)
      refine lv_if_eq (tgt := 34) hx hb dX0_fault_27 (by decide) (fun c3 => ?_) (fun c3 => ?_)
      · have e2 := Bool.eq_false_iff.mpr (if0 c3)
        refine lv_iconst (v := 2) hx hb dX0_fault_34 (by decide) ?_
        exact e_int hI hx hb hr hlocks ⟨by simp only [fltB, e1, e2, Bool.false_eq_true, if_false, if_true], w2, wc2, q2, qc2, rfl⟩ dX0_fault_35
      · have e2 := if1 c3
        refine lv_iconst (v := 1) hx hb dX0_fault_30 (by decide) ?_
        refine lv_goto (tgt := 35) hx hb dX0_fault_31 (by decide) ?_
        exact e_int hI hx hb hr hlocks ⟨by simp only [fltB, e1, e2, if_true], w2, wc2, q2, qc2, rfl⟩ dX0_fault_35
  · have c1 := if0 c1
    refine lv_iconst (v := (-1 : Int32)) hx hb dX0_fault_8 (by decide) ?_
    exact e_int hI hx hb hr hlocks ⟨by rw [if_neg c1], w, wc, q, qc, rfl⟩ dX0_fault_9
end
section
/-! X0: the public methods -/
set_option maxRecDepth 100000
set_option maxHeartbeats 4000000 in
theorem metx_owned (l : Launch) (G : GT) (hD : XD G) (f0 : Int32) (B : Nat → Int32) (K : Nat → Int32) (w : Nat → Int32) (wc : Int32) (q : Nat → Int32) (qc : Int32) (a : Nat → Int32) (ac : Int32) (v : Nat → Int32) (vc : Int32) (x : Int32) (N : Nat) (hN : N ≤ 10) (hb1 : ∀ i, i < N → ∀ j, j ≤ i → (ownJ B i j).length ≤ 512) : Met l yX0_owned (ws_ yX0_owned cX0_owned 2 (some .int)) (rmd 5) (xPc G (f0, (nI N), B, K, w, wc, q, qc, a, ac, v, vc) [.int x]) (xQi G (fun r u1 => r = (if isR x N then volA (ownL B (ix x)) (ownL B (ix x)).length else (-1)) ∧ ∃ w1 wc1 q1 qc1, u1 = (f0, nI N, B, K, w1, wc1, q1, qc1, a, ac, v, vc))) 0 0 (xA G) := by
  refine gMet (Rn := RX0) (by decide +kernel) rfl (Nat.le_of_ble_eq_true rfl) hD ?_
  intro p e s m below meth c ls C hr hlocks hI hl
  have hR := RL.rm 5
  have hx := C.1.1
  have hb := C.1.2.1
  have hl : lv_has ls 2 [(0, .ref (G.2.1 0)), (1, .int x)] := hl
  refine lv_aload_n hx hb dX0_owned_0 rfl (lv_at hl 0 rfl) ?_
  refine lv_iload_n hx hb dX0_owned_1 rfl (lv_at hl 1 rfl) ?_
  refine kx_isRule C hI (hR.le (by decide)) hl.1 (Nat.le_of_ble_eq_true rfl) dX0_owned_2 ?_
  refine lv_if_ne (tgt := 10) hx hb dX0_owned_5 (by decide) (fun c1 => ?_) (fun c1 => ?_)
  · have c1 := if1 c1
    obtain ⟨i, hi, rfl⟩ := isR_ix hN c1
    simp only [if_pos c1, ix_nI (show i < 10 by omega)]
    refine lv_aload_n hx hb dX0_owned_10 rfl (lv_at hl 0 rfl) ?_
    refine lv_iload_n hx hb dX0_owned_11 rfl (lv_at hl 1 rfl) ?_
    refine kx_carveOwned (i := i) (by omega) (hb1 i hi) C hI (hR.le (by decide)) hl.1 (Nat.le_of_ble_eq_true rfl) dX0_owned_12 (fun w1 q1 qc1 H locs hw1 hI => ?_)
    refine lv_aload_n hx hb dX0_owned_15 rfl (lv_at hl 0 rfl) ?_
    refine kx_volumeOfWork (L := ownL B i) hw1 (hb1 i hi i (Nat.le_refl _)) C hI (hR.le (by decide)) hl.1 (Nat.le_of_ble_eq_true rfl) dX0_owned_16 ?_
    exact e_int hI hx hb hr hlocks ⟨rfl, w1, _, q1, qc1, rfl⟩ dX0_owned_19
  · have c1 := if0 c1
    refine lv_iconst (v := (-1 : Int32)) hx hb dX0_owned_8 (by decide) ?_
    exact e_int hI hx hb hr hlocks ⟨by rw [if_neg c1], w, wc, q, qc, rfl⟩ dX0_owned_9
set_option maxHeartbeats 4000000 in
theorem metx_firstOwned (l : Launch) (G : GT) (hD : XD G) (f0 : Int32) (B : Nat → Int32) (K : Nat → Int32) (w : Nat → Int32) (wc : Int32) (q : Nat → Int32) (qc : Int32) (a : Nat → Int32) (ac : Int32) (v : Nat → Int32) (vc : Int32) (x : Int32) (N : Nat) (hN : N ≤ 10) (hb1 : ∀ i, i < N → ∀ j, j ≤ i → (ownJ B i j).length ≤ 512) : Met l yX0_firstOwned (ws_ yX0_firstOwned cX0_firstOwned 2 (some .int)) (rmd 5) (xPc G (f0, (nI N), B, K, w, wc, q, qc, a, ac, v, vc) [.int x]) (xQi G (fun r u1 => r = (if isR x N then lowA (-3) (ownL B (ix x)) (ownL B (ix x)).length else (-1)) ∧ ∃ w1 wc1 q1 qc1, u1 = (f0, nI N, B, K, w1, wc1, q1, qc1, a, ac, v, vc))) 0 0 (xA G) := by
  refine gMet (Rn := RX0) (by decide +kernel) rfl (Nat.le_of_ble_eq_true rfl) hD ?_
  intro p e s m below meth c ls C hr hlocks hI hl
  have hR := RL.rm 5
  have hx := C.1.1
  have hb := C.1.2.1
  have hl : lv_has ls 2 [(0, .ref (G.2.1 0)), (1, .int x)] := hl
  refine lv_aload_n hx hb dX0_firstOwned_0 rfl (lv_at hl 0 rfl) ?_
  refine lv_iload_n hx hb dX0_firstOwned_1 rfl (lv_at hl 1 rfl) ?_
  refine kx_isRule C hI (hR.le (by decide)) hl.1 (Nat.le_of_ble_eq_true rfl) dX0_firstOwned_2 ?_
  refine lv_if_ne (tgt := 10) hx hb dX0_firstOwned_5 (by decide) (fun c1 => ?_) (fun c1 => ?_)
  · have c1 := if1 c1
    obtain ⟨i, hi, rfl⟩ := isR_ix hN c1
    simp only [if_pos c1, ix_nI (show i < 10 by omega)]
    refine lv_aload_n hx hb dX0_firstOwned_10 rfl (lv_at hl 0 rfl) ?_
    refine lv_iload_n hx hb dX0_firstOwned_11 rfl (lv_at hl 1 rfl) ?_
    refine kx_carveOwned (i := i) (by omega) (hb1 i hi) C hI (hR.le (by decide)) hl.1 (Nat.le_of_ble_eq_true rfl) dX0_firstOwned_12 (fun w1 q1 qc1 H locs hw1 hI => ?_)
    refine lv_aload_n hx hb dX0_firstOwned_15 rfl (lv_at hl 0 rfl) ?_
    refine lv_bipush (v := (-3 : Int32)) hx hb dX0_firstOwned_16 (by decide) ?_
    refine kx_lowestCorner (L := ownL B i) hw1 (hb1 i hi i (Nat.le_refl _)) C hI (hR.le (by decide)) hl.1 (Nat.le_of_ble_eq_true rfl) dX0_firstOwned_18 ?_
    exact e_int hI hx hb hr hlocks ⟨rfl, w1, _, q1, qc1, rfl⟩ dX0_firstOwned_21
  · have c1 := if0 c1
    refine lv_iconst (v := (-1 : Int32)) hx hb dX0_firstOwned_8 (by decide) ?_
    exact e_int hI hx hb hr hlocks ⟨by rw [if_neg c1], w, wc, q, qc, rfl⟩ dX0_firstOwned_9
section LG
variable {p : Program} {l : Launch} {e : Env} {R : Room} {s : State} {m : MethodId} {args : Array Value} {below : List Frame} {meth : Method} {c : Code} {H : Heap} {locs : List Loc} {Q : State → Prop} {G : GT}
set_option maxHeartbeats 4000000 in
theorem sav_l {f0 : Int32} {f1 : Int32} {B : Nat → Int32} {K : Nat → Int32} {w : Nat → Int32} {wc : Int32} {q : Nat → Int32} {qc : Int32} {a : Nat → Int32} {vc : Int32} {L : List Int32} (C : XC p s m args c cX0_save 3 G) (hR : RL R 6) (hLn : L.length ≤ 512) (ha : hL a L)
    (kk : ∀ (v : Nat → Int32) (H : Heap) (locs : List Loc) (ls : Array Slot), hL v L → XI G s (f0, f1, B, K, w, wc, q, qc, a, nI L.length, v, vc) H locs → lv_has ls 3 [(1, .int (volA L L.length)), (0, .ref (G.2.1 0))] → W p l e R s m args below meth c H locs 0 0 Q (F0 m 47 ls [])) :
    ∀ (n : Nat) (i : Nat) (v : Nat → Int32) (H : Heap) (locs : List Loc) (ls : Array Slot), i + n = L.length → hL v (L.take i) → XI G s (f0, f1, B, K, w, wc, q, qc, a, (nI L.length), v, vc) H locs → lv_has ls 3 [(2, .int (nI i)), (1, .int (volA L i)), (0, .ref (G.2.1 0))] → W p l e R s m args below meth c H locs 0 0 Q (F0 m 8 ls []) := by
  have hx := C.1.1
  have hb := C.1.2.1
  intro n
  induction n with
  | zero =>
    intro i v H locs ls hi hv hI hl
    refine lv_iload_n hx hb dX0_save_8 rfl (lv_at hl 0 rfl) ?_
    refine lv_aload_n hx hb dX0_save_9 rfl (lv_at hl 2 rfl) ?_
    refine xg9 C hI dX0_save_10 ?_
    refine lv_icmp_ge (tgt := 47) hx hb dX0_save_13 (by decide) (fun c1 => ?_) (fun c1 => ?_)
    · have e1 : i = L.length := by omega
      subst e1
      rw [List.take_length] at hv
      exact kk v H locs ls hv hI (lv_sub hl [1, 2] rfl)
    · exact absurd (nl_lt (by omega) (by omega) c1) (by omega)
  | succ n ih =>
    intro i v H locs ls hi hv hI hl
    refine lv_iload_n hx hb dX0_save_8 rfl (lv_at hl 0 rfl) ?_
    refine lv_aload_n hx hb dX0_save_9 rfl (lv_at hl 2 rfl) ?_
    refine xg9 C hI dX0_save_10 ?_
    refine lv_icmp_ge (tgt := 47) hx hb dX0_save_13 (by decide) (fun c1 => ?_) (fun c1 => ?_)
    · exact absurd (nl_le (by omega) (by omega) c1) (by omega)
    · have hlt : i < L.length := nl_lt (by omega) (by omega) c1
      refine lv_aload_n hx hb dX0_save_16 rfl (lv_at hl 2 rfl) ?_
      refine xg10 C hI dX0_save_17 ?_
      refine lv_iload_n hx hb dX0_save_20 rfl (lv_at hl 0 rfl) ?_
      refine lv_aload_n hx hb dX0_save_21 rfl (lv_at hl 2 rfl) ?_
      refine xg8 C hI dX0_save_22 ?_
      refine lv_iload_n hx hb dX0_save_25 rfl (lv_at hl 0 rfl) ?_
      refine xl5 (i := i) C hI rfl (by omega) dX0_save_26 ?_
      rw [ha i hlt]
      refine xs6 (i := i) C hI rfl (by omega) dX0_save_27 (fun H locs hI => ?_)
      have hv1 := hL_push hv (L.getD i 0)
      rw [List.length_take, Nat.min_eq_left (by omega), ← take_s hlt] at hv1
      refine lv_iload_n hx hb dX0_save_28 rfl (lv_at hl 1 rfl) ?_
      refine lv_aload_n hx hb dX0_save_29 rfl (lv_at hl 2 rfl) ?_
      refine lv_aload_n hx hb dX0_save_30 rfl (lv_at hl 2 rfl) ?_
      refine xg8 C hI dX0_save_31 ?_
      refine lv_iload_n hx hb dX0_save_34 rfl (lv_at hl 0 rfl) ?_
      refine xl5 (i := i) C hI rfl (by omega) dX0_save_35 ?_
      rw [ha i hlt]
      refine kx_volume C hI (hR.le (by decide)) hl.1 (Nat.le_of_ble_eq_true rfl) dX0_save_36 ?_
      refine lv_iadd hx hb dX0_save_39 ?_
      refine lv_istore_n (lv' := [(1, .int ((volA L i) + (bVol (L.getD i 0)))), (2, .int (nI i)), (0, .ref (G.2.1 0))]) hx hb dX0_save_40 rfl hl (by decide) rfl (fun ls hl => ?_)
      refine lv_iinc (v := nI (i + 1)) (lv' := [(2, .int (nI (i + 1))), (1, .int ((volA L i) + (bVol (L.getD i 0)))), (0, .ref (G.2.1 0))]) hx hb dX0_save_41 hl (k := 1) rfl (nI_1 i) (by decide) rfl (fun ls hl => ?_)
      refine lv_goto (tgt := 8) hx hb dX0_save_44 (by decide) ?_
      exact ih (i + 1) _ H locs ls (by omega) hv1 hI (lv_sub hl [0, 1, 2] rfl)
end LG
set_option maxHeartbeats 4000000 in
theorem metx_save (l : Launch) (G : GT) (hD : XD G) (f0 : Int32) (B : Nat → Int32) (K : Nat → Int32) (w : Nat → Int32) (wc : Int32) (q : Nat → Int32) (qc : Int32) (a : Nat → Int32) (ac : Int32) (v : Nat → Int32) (vc : Int32)  (N : Nat) (hN : N ≤ 10) (hb1 : ∀ i, i < N → ∀ j, j ≤ i → (ownJ B i j).length ≤ 512) (hb2 : (gatL B K N).length ≤ 512) : Met l yX0_save (ws_ yX0_save cX0_save 3 (some .int)) (rmd 6) (xPc G (f0, (nI N), B, K, w, wc, q, qc, a, ac, v, vc) []) (xQi G (fun r u1 => r = volA (gatL B K N) (gatL B K N).length ∧ ∃ w1 wc1 q1 qc1 a1 v1, u1 = (f0, nI N, B, K, w1, wc1, q1, qc1, a1, nI (gatL B K N).length, v1, nI (gatL B K N).length) ∧ hL v1 (gatL B K N))) 0 0 (xA G) := by
  refine gMet (Rn := RX0) (by decide +kernel) rfl (Nat.le_of_ble_eq_true rfl) hD ?_
  intro p e s m below meth c ls C hr hlocks hI hl
  have hR := RL.rm 6
  have hx := C.1.1
  have hb := C.1.2.1
  have hl : lv_has ls 3 [(0, .ref (G.2.1 0))] := hl
  refine lv_aload_n hx hb dX0_save_0 rfl (lv_at hl 0 rfl) ?_
  refine kx_gatherAllowed (N := N) hN hb1 hb2 C hI (hR.le (by decide)) hl.1 (Nat.le_of_ble_eq_true rfl) dX0_save_1 (fun w1 wc1 q1 qc1 a1 H locs ha1 hI => ?_)
  refine lv_iconst (v := 0) hx hb dX0_save_4 (by decide) ?_
  refine lv_istore_n (lv' := [(1, .int 0), (0, .ref (G.2.1 0))]) hx hb dX0_save_5 rfl hl (by decide) rfl (fun ls hl => ?_)
  refine lv_iconst (v := 0) hx hb dX0_save_6 (by decide) ?_
  refine lv_istore_n (lv' := [(2, .int 0), (1, .int 0), (0, .ref (G.2.1 0))]) hx hb dX0_save_7 rfl hl (by decide) rfl (fun ls hl => ?_)
  refine sav_l (L := (gatL B K N)) C hR hb2 ha1 (fun v1 H locs ls hv1 hI hl => ?_) (gatL B K N).length 0 v _ _ ls (by omega) (hL_nil v) hI (lv_sub hl [0, 1, 2] rfl)
  refine lv_aload_n hx hb dX0_save_47 rfl (lv_at hl 1 rfl) ?_
  refine lv_aload_n hx hb dX0_save_48 rfl (lv_at hl 1 rfl) ?_
  refine xg9 C hI dX0_save_49 ?_
  refine xp11 C hI dX0_save_52 (fun H locs hI => ?_)
  refine lv_iload_n hx hb dX0_save_55 rfl (lv_at hl 0 rfl) ?_
  exact e_int hI hx hb hr hlocks ⟨rfl, w1, wc1, q1, qc1, a1, v1, rfl, hv1⟩ dX0_save_56
set_option maxHeartbeats 4000000 in
theorem metx_changed (l : Launch) (G : GT) (hD : XD G) (f0 : Int32) (B : Nat → Int32) (K : Nat → Int32) (w : Nat → Int32) (wc : Int32) (q : Nat → Int32) (qc : Int32) (a : Nat → Int32) (ac : Int32) (v : Nat → Int32)  (N : Nat) (V : List Int32) (hN : N ≤ 10) (hb1 : ∀ i, i < N → ∀ j, j ≤ i → (ownJ B i j).length ≤ 512) (hb2 : (gatL B K N).length ≤ 512) (hv : hL v V) (hV : V.length ≤ 512) (hd1 : ∀ j, j ≤ V.length → (difJ (gatL B K N) V j).length ≤ 512) (hd2 : ∀ j, j ≤ (gatL B K N).length → (difJ V (gatL B K N) j).length ≤ 512) : Met l yX0_changed (ws_ yX0_changed cX0_changed 2 (some .int)) (rmd 6) (xPc G (f0, (nI N), B, K, w, wc, q, qc, a, ac, v, (nI V.length)) []) (xQi G (fun r u1 => r = volA (difL (gatL B K N) V) (difL (gatL B K N) V).length + volA (difL V (gatL B K N)) (difL V (gatL B K N)).length ∧ ∃ w1 wc1 q1 qc1 a1 ac1, u1 = (f0, nI N, B, K, w1, wc1, q1, qc1, a1, ac1, v, nI V.length))) 0 0 (xA G) := by
  refine gMet (Rn := RX0) (by decide +kernel) rfl (Nat.le_of_ble_eq_true rfl) hD ?_
  intro p e s m below meth c ls C hr hlocks hI hl
  have hR := RL.rm 6
  have hx := C.1.1
  have hb := C.1.2.1
  have hl : lv_has ls 2 [(0, .ref (G.2.1 0))] := hl
  refine lv_aload_n hx hb dX0_changed_0 rfl (lv_at hl 0 rfl) ?_
  refine kx_gatherAllowed (N := N) hN hb1 hb2 C hI (hR.le (by decide)) hl.1 (Nat.le_of_ble_eq_true rfl) dX0_changed_1 (fun w1 wc1 q1 qc1 a1 H locs ha1 hI => ?_)
  refine lv_aload_n hx hb dX0_changed_4 rfl (lv_at hl 0 rfl) ?_
  refine kx_carveNewlyAllowed (Lx := (gatL B K N)) (Ly := V) hb2 ha1 hV hv hd1 C hI (hR.le (by decide)) hl.1 (Nat.le_of_ble_eq_true rfl) dX0_changed_5 (fun w2 q2 qc2 H locs hw2 hI => ?_)
  refine lv_aload_n hx hb dX0_changed_8 rfl (lv_at hl 0 rfl) ?_
  refine kx_volumeOfWork (L := (difL (gatL B K N) V)) hw2 (hd1 V.length (Nat.le_refl _)) C hI (hR.le (by decide)) hl.1 (Nat.le_of_ble_eq_true rfl) dX0_changed_9 ?_
  refine lv_istore_n (lv' := [(1, .int (volA (difL (gatL B K N) V) (difL (gatL B K N) V).length)), (0, .ref (G.2.1 0))]) hx hb dX0_changed_12 rfl hl (by decide) rfl (fun ls hl => ?_)
  refine lv_aload_n hx hb dX0_changed_13 rfl (lv_at hl 1 rfl) ?_
  refine kx_carveNoLongerAllowed (Lx := V) (Ly := (gatL B K N)) hV hv hb2 ha1 hd2 C hI (hR.le (by decide)) hl.1 (Nat.le_of_ble_eq_true rfl) dX0_changed_14 (fun w3 q3 qc3 H locs hw3 hI => ?_)
  refine lv_iload_n hx hb dX0_changed_17 rfl (lv_at hl 0 rfl) ?_
  refine lv_aload_n hx hb dX0_changed_18 rfl (lv_at hl 1 rfl) ?_
  refine kx_volumeOfWork (L := (difL V (gatL B K N))) hw3 (hd2 (gatL B K N).length (Nat.le_refl _)) C hI (hR.le (by decide)) hl.1 (Nat.le_of_ble_eq_true rfl) dX0_changed_19 ?_
  refine lv_iadd hx hb dX0_changed_22 ?_
  exact e_int hI hx hb hr hlocks ⟨rfl, w3, _, q3, qc3, a1, _, rfl⟩ dX0_changed_23
set_option maxHeartbeats 4000000 in
theorem metx_firstChanged (l : Launch) (G : GT) (hD : XD G) (f0 : Int32) (B : Nat → Int32) (K : Nat → Int32) (w : Nat → Int32) (wc : Int32) (q : Nat → Int32) (qc : Int32) (a : Nat → Int32) (ac : Int32) (v : Nat → Int32)  (N : Nat) (V : List Int32) (hN : N ≤ 10) (hb1 : ∀ i, i < N → ∀ j, j ≤ i → (ownJ B i j).length ≤ 512) (hb2 : (gatL B K N).length ≤ 512) (hv : hL v V) (hV : V.length ≤ 512) (hd1 : ∀ j, j ≤ V.length → (difJ (gatL B K N) V j).length ≤ 512) (hd2 : ∀ j, j ≤ (gatL B K N).length → (difJ V (gatL B K N) j).length ≤ 512) : Met l yX0_firstChanged (ws_ yX0_firstChanged cX0_firstChanged 2 (some .int)) (rmd 6) (xPc G (f0, (nI N), B, K, w, wc, q, qc, a, ac, v, (nI V.length)) []) (xQi G (fun r u1 => r = lowA (lowA (-3) (difL (gatL B K N) V) (difL (gatL B K N) V).length) (difL V (gatL B K N)) (difL V (gatL B K N)).length ∧ ∃ w1 wc1 q1 qc1 a1 ac1, u1 = (f0, nI N, B, K, w1, wc1, q1, qc1, a1, ac1, v, nI V.length))) 0 0 (xA G) := by
  refine gMet (Rn := RX0) (by decide +kernel) rfl (Nat.le_of_ble_eq_true rfl) hD ?_
  intro p e s m below meth c ls C hr hlocks hI hl
  have hR := RL.rm 6
  have hx := C.1.1
  have hb := C.1.2.1
  have hl : lv_has ls 2 [(0, .ref (G.2.1 0))] := hl
  refine lv_aload_n hx hb dX0_firstChanged_0 rfl (lv_at hl 0 rfl) ?_
  refine kx_gatherAllowed (N := N) hN hb1 hb2 C hI (hR.le (by decide)) hl.1 (Nat.le_of_ble_eq_true rfl) dX0_firstChanged_1 (fun w1 wc1 q1 qc1 a1 H locs ha1 hI => ?_)
  refine lv_aload_n hx hb dX0_firstChanged_4 rfl (lv_at hl 0 rfl) ?_
  refine kx_carveNewlyAllowed (Lx := (gatL B K N)) (Ly := V) hb2 ha1 hV hv hd1 C hI (hR.le (by decide)) hl.1 (Nat.le_of_ble_eq_true rfl) dX0_firstChanged_5 (fun w2 q2 qc2 H locs hw2 hI => ?_)
  refine lv_aload_n hx hb dX0_firstChanged_8 rfl (lv_at hl 0 rfl) ?_
  refine lv_bipush (v := (-3 : Int32)) hx hb dX0_firstChanged_9 (by decide) ?_
  refine kx_lowestCorner (L := (difL (gatL B K N) V)) hw2 (hd1 V.length (Nat.le_refl _)) C hI (hR.le (by decide)) hl.1 (Nat.le_of_ble_eq_true rfl) dX0_firstChanged_11 ?_
  refine lv_istore_n (lv' := [(1, .int (lowA (-3) (difL (gatL B K N) V) (difL (gatL B K N) V).length)), (0, .ref (G.2.1 0))]) hx hb dX0_firstChanged_14 rfl hl (by decide) rfl (fun ls hl => ?_)
  refine lv_aload_n hx hb dX0_firstChanged_15 rfl (lv_at hl 1 rfl) ?_
  refine kx_carveNoLongerAllowed (Lx := V) (Ly := (gatL B K N)) hV hv hb2 ha1 hd2 C hI (hR.le (by decide)) hl.1 (Nat.le_of_ble_eq_true rfl) dX0_firstChanged_16 (fun w3 q3 qc3 H locs hw3 hI => ?_)
  refine lv_aload_n hx hb dX0_firstChanged_19 rfl (lv_at hl 1 rfl) ?_
  refine lv_iload_n hx hb dX0_firstChanged_20 rfl (lv_at hl 0 rfl) ?_
  refine kx_lowestCorner (L := (difL V (gatL B K N))) hw3 (hd2 (gatL B K N).length (Nat.le_refl _)) C hI (hR.le (by decide)) hl.1 (Nat.le_of_ble_eq_true rfl) dX0_firstChanged_21 ?_
  exact e_int hI hx hb hr hlocks ⟨rfl, w3, _, q3, qc3, a1, _, rfl⟩ dX0_firstChanged_24
set_option maxHeartbeats 4000000 in
theorem metx_draftRange (l : Launch) (G : GT) (hD : XD G) (f0 : Int32) (f1 : Int32) (B : Nat → Int32) (K : Nat → Int32) (w : Nat → Int32) (wc : Int32) (q : Nat → Int32) (qc : Int32) (a : Nat → Int32) (ac : Int32) (v : Nat → Int32) (vc : Int32) (x : Int32) (y : Int32) (z : Int32)   : Met l yX0_draftRange (ws_ yX0_draftRange cX0_draftRange 5 (some .boolean)) (rmd 0) (xPc G (f0, f1, B, K, w, wc, q, qc, a, ac, v, vc) [.int x, .int y, .int z]) (xQi G (fun r u1 => (okR x y z ∧ r = 1 ∧ u1 = (drx f0 x y z, f1, B, K, w, wc, q, qc, a, ac, v, vc)) ∨ (¬ okR x y z ∧ r = 0 ∧ u1 = (f0, f1, B, K, w, wc, q, qc, a, ac, v, vc)))) 0 0 (xA G) := by
  refine gMet (Rn := RX0) (by decide +kernel) rfl (Nat.le_of_ble_eq_true rfl) hD ?_
  intro p e s m below meth c ls C hr hlocks hI hl
  have hR := RL.rm 0
  have hx := C.1.1
  have hb := C.1.2.1
  have hl : lv_has ls 5 [(0, .ref (G.2.1 0)), (1, .int x), (2, .int y), (3, .int z)] := hl
  refine lv_iload_n hx hb dX0_draftRange_0 rfl (lv_at hl 1 rfl) ?_
  refine lv_if_lt (tgt := 9) hx hb dX0_draftRange_1 (by decide) (fun c1 => ?_) (fun c1 => ?_)
  · refine lv_iconst (v := 0) hx hb dX0_draftRange_9 (by decide) ?_
    exact e_bool hI hx hb hr hlocks rfl (Or.inr ⟨(by intro h; simp only [okR, i_le, i_lt] at h c1; omega), rfl, rfl⟩) dX0_draftRange_10
  · refine lv_iload_n hx hb dX0_draftRange_4 rfl (lv_at hl 1 rfl) ?_
    refine lv_iconst (v := 1) hx hb dX0_draftRange_5 (by decide) ?_
    refine lv_icmp_le (tgt := 11) hx hb dX0_draftRange_6 (by decide) (fun c2 => ?_) (fun c2 => ?_)
    · refine lv_iload_n hx hb dX0_draftRange_11 rfl (lv_at hl 2 rfl) ?_
      refine lv_if_lt (tgt := 36) hx hb dX0_draftRange_12 (by decide) (fun c3 => ?_) (fun c3 => ?_)
      · refine lv_iconst (v := 0) hx hb dX0_draftRange_36 (by decide) ?_
        exact e_bool hI hx hb hr hlocks rfl (Or.inr ⟨(by intro h; simp only [okR, i_le, i_lt] at h c1 c2 c3; omega), rfl, rfl⟩) dX0_draftRange_37
      · refine lv_iload_n hx hb dX0_draftRange_15 rfl (lv_at hl 2 rfl) ?_
        refine lv_bipush (v := 15) hx hb dX0_draftRange_16 (by decide) ?_
        refine lv_icmp_gt (tgt := 36) hx hb dX0_draftRange_18 (by decide) (fun c4 => ?_) (fun c4 => ?_)
        · refine lv_iconst (v := 0) hx hb dX0_draftRange_36 (by decide) ?_
          exact e_bool hI hx hb hr hlocks rfl (Or.inr ⟨(by intro h; simp only [okR, i_le, i_lt] at h c1 c2 c3 c4; omega), rfl, rfl⟩) dX0_draftRange_37
        · refine lv_iload_n hx hb dX0_draftRange_21 rfl (lv_at hl 3 rfl) ?_
          refine lv_if_lt (tgt := 36) hx hb dX0_draftRange_22 (by decide) (fun c5 => ?_) (fun c5 => ?_)
          · refine lv_iconst (v := 0) hx hb dX0_draftRange_36 (by decide) ?_
            exact e_bool hI hx hb hr hlocks rfl (Or.inr ⟨(by intro h; simp only [okR, i_le, i_lt] at h c1 c2 c3 c4 c5; omega), rfl, rfl⟩) dX0_draftRange_37
          · refine lv_iload_n hx hb dX0_draftRange_25 rfl (lv_at hl 3 rfl) ?_
            refine lv_bipush (v := 15) hx hb dX0_draftRange_26 (by decide) ?_
            refine lv_icmp_gt (tgt := 36) hx hb dX0_draftRange_28 (by decide) (fun c6 => ?_) (fun c6 => ?_)
            · refine lv_iconst (v := 0) hx hb dX0_draftRange_36 (by decide) ?_
              exact e_bool hI hx hb hr hlocks rfl (Or.inr ⟨(by intro h; simp only [okR, i_le, i_lt] at h c1 c2 c3 c4 c5 c6; omega), rfl, rfl⟩) dX0_draftRange_37
            · refine lv_iload_n hx hb dX0_draftRange_31 rfl (lv_at hl 2 rfl) ?_
              refine lv_iload_n hx hb dX0_draftRange_32 rfl (lv_at hl 3 rfl) ?_
              refine lv_icmp_le (tgt := 38) hx hb dX0_draftRange_33 (by decide) (fun c7 => ?_) (fun c7 => ?_)
              · have hok : okR x y z := (by simp only [okR, i_le, i_lt] at c1 c2 c3 c4 c5 c6 c7 ⊢; omega)
                refine lv_iload_n hx hb dX0_draftRange_38 rfl (lv_at hl 1 rfl) ?_
                refine lv_if_ne (tgt := 47) hx hb dX0_draftRange_39 (by decide) (fun e1 => ?_) (fun e1 => ?_)
                · refine lv_iconst (v := 2) hx hb dX0_draftRange_47 (by decide) ?_
                  refine lv_istore (lv' := [(4, .int 2), (0, .ref (G.2.1 0)), (1, .int x), (2, .int y), (3, .int z)]) hx hb dX0_draftRange_48 hl (by decide) rfl (fun ls hl => ?_)
                  refine lv_aload_n hx hb dX0_draftRange_50 rfl (lv_at hl 1 rfl) ?_
                  refine lv_aload_n hx hb dX0_draftRange_51 rfl (lv_at hl 1 rfl) ?_
                  refine xg0 C hI dX0_draftRange_52 ?_
                  refine lv_sipush (v := 255) hx hb dX0_draftRange_55 (by decide) ?_
                  refine lv_iload hx hb dX0_draftRange_58 (lv_at hl 0 rfl) ?_
                  refine lv_ishl hx hb dX0_draftRange_60 ?_
                  refine lv_iconst (v := (-1 : Int32)) hx hb dX0_draftRange_61 (by decide) ?_
                  refine lv_ixor hx hb dX0_draftRange_62 ?_
                  refine lv_iand hx hb dX0_draftRange_63 ?_
                  refine lv_iload_n hx hb dX0_draftRange_64 rfl (lv_at hl 3 rfl) ?_
                  refine lv_iload hx hb dX0_draftRange_65 (lv_at hl 0 rfl) ?_
                  refine lv_iconst (v := 4) hx hb dX0_draftRange_67 (by decide) ?_
                  refine lv_iadd hx hb dX0_draftRange_68 ?_
                  refine lv_ishl hx hb dX0_draftRange_69 ?_
                  refine lv_ior hx hb dX0_draftRange_70 ?_
                  refine lv_iload_n hx hb dX0_draftRange_71 rfl (lv_at hl 4 rfl) ?_
                  refine lv_iload hx hb dX0_draftRange_72 (lv_at hl 0 rfl) ?_
                  refine lv_ishl hx hb dX0_draftRange_74 ?_
                  refine lv_ior hx hb dX0_draftRange_75 ?_
                  refine xp0 C hI dX0_draftRange_76 (fun H locs hI => ?_)
                  refine lv_iconst (v := 1) hx hb dX0_draftRange_79 (by decide) ?_
                  exact e_bool hI hx hb hr hlocks rfl (Or.inl ⟨hok, rfl, by rw [drx, if_neg e1]⟩) dX0_draftRange_80
                · refine lv_bipush (v := 10) hx hb dX0_draftRange_42 (by decide) ?_
                  refine lv_goto (tgt := 48) hx hb dX0_draftRange_44 (by decide) ?_
                  refine lv_istore (lv' := [(4, .int 10), (0, .ref (G.2.1 0)), (1, .int x), (2, .int y), (3, .int z)]) hx hb dX0_draftRange_48 hl (by decide) rfl (fun ls hl => ?_)
                  refine lv_aload_n hx hb dX0_draftRange_50 rfl (lv_at hl 1 rfl) ?_
                  refine lv_aload_n hx hb dX0_draftRange_51 rfl (lv_at hl 1 rfl) ?_
                  refine xg0 C hI dX0_draftRange_52 ?_
                  refine lv_sipush (v := 255) hx hb dX0_draftRange_55 (by decide) ?_
                  refine lv_iload hx hb dX0_draftRange_58 (lv_at hl 0 rfl) ?_
                  refine lv_ishl hx hb dX0_draftRange_60 ?_
                  refine lv_iconst (v := (-1 : Int32)) hx hb dX0_draftRange_61 (by decide) ?_
                  refine lv_ixor hx hb dX0_draftRange_62 ?_
                  refine lv_iand hx hb dX0_draftRange_63 ?_
                  refine lv_iload_n hx hb dX0_draftRange_64 rfl (lv_at hl 3 rfl) ?_
                  refine lv_iload hx hb dX0_draftRange_65 (lv_at hl 0 rfl) ?_
                  refine lv_iconst (v := 4) hx hb dX0_draftRange_67 (by decide) ?_
                  refine lv_iadd hx hb dX0_draftRange_68 ?_
                  refine lv_ishl hx hb dX0_draftRange_69 ?_
                  refine lv_ior hx hb dX0_draftRange_70 ?_
                  refine lv_iload_n hx hb dX0_draftRange_71 rfl (lv_at hl 4 rfl) ?_
                  refine lv_iload hx hb dX0_draftRange_72 (lv_at hl 0 rfl) ?_
                  refine lv_ishl hx hb dX0_draftRange_74 ?_
                  refine lv_ior hx hb dX0_draftRange_75 ?_
                  refine xp0 C hI dX0_draftRange_76 (fun H locs hI => ?_)
                  refine lv_iconst (v := 1) hx hb dX0_draftRange_79 (by decide) ?_
                  exact e_bool hI hx hb hr hlocks rfl (Or.inl ⟨hok, rfl, by rw [drx, if_pos e1]⟩) dX0_draftRange_80
              · refine lv_iconst (v := 0) hx hb dX0_draftRange_36 (by decide) ?_
                exact e_bool hI hx hb hr hlocks rfl (Or.inr ⟨(by intro h; simp only [okR, i_le, i_lt] at h c1 c2 c3 c4 c5 c6 c7; omega), rfl, rfl⟩) dX0_draftRange_37
    · refine lv_iconst (v := 0) hx hb dX0_draftRange_9 (by decide) ?_
      exact e_bool hI hx hb hr hlocks rfl (Or.inr ⟨(by intro h; simp only [okR, i_le, i_lt] at h c1 c2; omega), rfl, rfl⟩) dX0_draftRange_10
set_option maxHeartbeats 4000000 in
theorem metx_draftSet (l : Launch) (G : GT) (hD : XD G) (f0 : Int32) (f1 : Int32) (B : Nat → Int32) (K : Nat → Int32) (w : Nat → Int32) (wc : Int32) (q : Nat → Int32) (qc : Int32) (a : Nat → Int32) (ac : Int32) (v : Nat → Int32) (vc : Int32) (x : Int32)   : Met l yX0_draftSet (ws_ yX0_draftSet cX0_draftSet 3 (some .boolean)) (rmd 0) (xPc G (f0, f1, B, K, w, wc, q, qc, a, ac, v, vc) [.int x]) (xQi G (fun r u1 => ((0 ≤ x ∧ x ≤ 2) ∧ r = 1 ∧ u1 = (dsx f0 x, f1, B, K, w, wc, q, qc, a, ac, v, vc)) ∨ (¬ (0 ≤ x ∧ x ≤ 2) ∧ r = 0 ∧ u1 = (f0, f1, B, K, w, wc, q, qc, a, ac, v, vc)))) 0 0 (xA G) := by
  refine gMet (Rn := RX0) (by decide +kernel) rfl (Nat.le_of_ble_eq_true rfl) hD ?_
  intro p e s m below meth c ls C hr hlocks hI hl
  have hR := RL.rm 0
  have hx := C.1.1
  have hb := C.1.2.1
  have hl : lv_has ls 3 [(0, .ref (G.2.1 0)), (1, .int x)] := hl
  refine lv_iload_n hx hb dX0_draftSet_0 rfl (lv_at hl 1 rfl) ?_
  refine lv_if_lt (tgt := 9) hx hb dX0_draftSet_1 (by decide) (fun c1 => ?_) (fun c1 => ?_)
  · refine lv_iconst (v := 0) hx hb dX0_draftSet_9 (by decide) ?_
    exact e_bool hI hx hb hr hlocks rfl (Or.inr ⟨(by intro h; simp only [i_le, i_lt] at h c1; omega), rfl, rfl⟩) dX0_draftSet_10
  · refine lv_iload_n hx hb dX0_draftSet_4 rfl (lv_at hl 1 rfl) ?_
    refine lv_iconst (v := 2) hx hb dX0_draftSet_5 (by decide) ?_
    refine lv_icmp_le (tgt := 11) hx hb dX0_draftSet_6 (by decide) (fun c2 => ?_) (fun c2 => ?_)
    · have hok : 0 ≤ x ∧ x ≤ 2 := (by simp only [i_le, i_lt] at c1 c2 ⊢; omega)
      refine lv_iload_n hx hb dX0_draftSet_11 rfl (lv_at hl 1 rfl) ?_
      refine lv_if_ne (tgt := 19) hx hb dX0_draftSet_12 (by decide) (fun e1 => ?_) (fun e1 => ?_)
      · refine lv_iload_n hx hb dX0_draftSet_19 rfl (lv_at hl 1 rfl) ?_
        refine lv_iconst (v := 1) hx hb dX0_draftSet_20 (by decide) ?_
        refine lv_icmp_ne (tgt := 28) hx hb dX0_draftSet_21 (by decide) (fun e2 => ?_) (fun e2 => ?_)
        · refine lv_iconst (v := 1) hx hb dX0_draftSet_28 (by decide) ?_
          refine lv_istore_n (lv' := [(2, .int 1), (0, .ref (G.2.1 0)), (1, .int x)]) hx hb dX0_draftSet_29 rfl hl (by decide) rfl (fun ls hl => ?_)
          refine lv_aload_n hx hb dX0_draftSet_30 rfl (lv_at hl 1 rfl) ?_
          refine lv_aload_n hx hb dX0_draftSet_31 rfl (lv_at hl 1 rfl) ?_
          refine xg0 C hI dX0_draftSet_32 ?_
          refine lv_bipush (v := (-4 : Int32)) hx hb dX0_draftSet_35 (by decide) ?_
          refine lv_iand hx hb dX0_draftSet_37 ?_
          refine lv_iload_n hx hb dX0_draftSet_38 rfl (lv_at hl 0 rfl) ?_
          refine lv_ior hx hb dX0_draftSet_39 ?_
          refine xp0 C hI dX0_draftSet_40 (fun H locs hI => ?_)
          refine lv_iconst (v := 1) hx hb dX0_draftSet_43 (by decide) ?_
          exact e_bool hI hx hb hr hlocks rfl (Or.inl ⟨hok, rfl, by rw [dsx, if_neg e1, if_neg e2]⟩) dX0_draftSet_44
        · refine lv_iconst (v := 3) hx hb dX0_draftSet_24 (by decide) ?_
          refine lv_goto (tgt := 29) hx hb dX0_draftSet_25 (by decide) ?_
          refine lv_istore_n (lv' := [(2, .int 3), (0, .ref (G.2.1 0)), (1, .int x)]) hx hb dX0_draftSet_29 rfl hl (by decide) rfl (fun ls hl => ?_)
          refine lv_aload_n hx hb dX0_draftSet_30 rfl (lv_at hl 1 rfl) ?_
          refine lv_aload_n hx hb dX0_draftSet_31 rfl (lv_at hl 1 rfl) ?_
          refine xg0 C hI dX0_draftSet_32 ?_
          refine lv_bipush (v := (-4 : Int32)) hx hb dX0_draftSet_35 (by decide) ?_
          refine lv_iand hx hb dX0_draftSet_37 ?_
          refine lv_iload_n hx hb dX0_draftSet_38 rfl (lv_at hl 0 rfl) ?_
          refine lv_ior hx hb dX0_draftSet_39 ?_
          refine xp0 C hI dX0_draftSet_40 (fun H locs hI => ?_)
          refine lv_iconst (v := 1) hx hb dX0_draftSet_43 (by decide) ?_
          exact e_bool hI hx hb hr hlocks rfl (Or.inl ⟨hok, rfl, by rw [dsx, if_neg e1, if_pos e2]⟩) dX0_draftSet_44
      · refine lv_iconst (v := 0) hx hb dX0_draftSet_15 (by decide) ?_
        refine lv_goto (tgt := 29) hx hb dX0_draftSet_16 (by decide) ?_
        refine lv_istore_n (lv' := [(2, .int 0), (0, .ref (G.2.1 0)), (1, .int x)]) hx hb dX0_draftSet_29 rfl hl (by decide) rfl (fun ls hl => ?_)
        refine lv_aload_n hx hb dX0_draftSet_30 rfl (lv_at hl 1 rfl) ?_
        refine lv_aload_n hx hb dX0_draftSet_31 rfl (lv_at hl 1 rfl) ?_
        refine xg0 C hI dX0_draftSet_32 ?_
        refine lv_bipush (v := (-4 : Int32)) hx hb dX0_draftSet_35 (by decide) ?_
        refine lv_iand hx hb dX0_draftSet_37 ?_
        refine lv_iload_n hx hb dX0_draftSet_38 rfl (lv_at hl 0 rfl) ?_
        refine lv_ior hx hb dX0_draftSet_39 ?_
        refine xp0 C hI dX0_draftSet_40 (fun H locs hI => ?_)
        refine lv_iconst (v := 1) hx hb dX0_draftSet_43 (by decide) ?_
        exact e_bool hI hx hb hr hlocks rfl (Or.inl ⟨hok, rfl, by rw [dsx, if_pos e1]⟩) dX0_draftSet_44
    · refine lv_iconst (v := 0) hx hb dX0_draftSet_9 (by decide) ?_
      exact e_bool hI hx hb hr hlocks rfl (Or.inr ⟨(by intro h; simp only [i_le, i_lt] at h c1 c2; omega), rfl, rfl⟩) dX0_draftSet_10
theorem by01 {z : Int32} (h : z = 0 ∨ z = 1) : vp_nar .byte z = z := by rcases h with rfl | rfl <;> decide
section LH
variable {p : Program} {l : Launch} {e : Env} {R : Room} {s : State} {m : MethodId} {args : Array Value} {below : List Frame} {meth : Method} {c : Code} {H : Heap} {locs : List Loc} {Q : State → Prop} {G : GT}
set_option maxHeartbeats 4000000 in
theorem ins_l {f0 : Int32} {B : Nat → Int32} {K : Nat → Int32} {w : Nat → Int32} {wc : Int32} {q : Nat → Int32} {qc : Int32} {a : Nat → Int32} {ac : Int32} {v : Nat → Int32} {vc : Int32} {N i : Nat} {y : Int32} (C : XC p s m args c cX0_insert 4 G) (hR : RL R 0) (hN : N < 10) (hi : i ≤ N) (hK : ∀ k, k < N → K k = 0 ∨ K k = 1)
    (kk : ∀ (B1 K1 : Nat → Int32) (H : Heap) (locs : List Loc) (ls : Array Slot), (∀ k, k < i → B1 k = B k ∧ K1 k = K k) → (∀ k, i ≤ k → k < N → B1 (k + 1) = B k ∧ K1 (k + 1) = K k) → XI G s (f0, nI N, B1, K1, w, wc, q, qc, a, ac, v, vc) H locs → lv_has ls 4 [(0, .ref (G.2.1 0)), (1, .int (nI i)), (2, .int y)] → W p l e R s m args below meth c H locs 0 0 Q (F0 m 79 ls [])) :
    ∀ (n : Nat) (j : Nat) (B1 : Nat → Int32) (K1 : Nat → Int32) (H : Heap) (locs : List Loc) (ls : Array Slot), j = i + n → j ≤ N → (∀ k, k < j → B1 k = B k ∧ K1 k = K k) → (∀ k, j ≤ k → k < N → B1 (k + 1) = B k ∧ K1 (k + 1) = K k) → XI G s (f0, (nI N), B1, K1, w, wc, q, qc, a, ac, v, vc) H locs → lv_has ls 4 [(3, .int (nI j)), (0, .ref (G.2.1 0)), (1, .int (nI i)), (2, .int y)] → W p l e R s m args below meth c H locs 0 0 Q (F0 m 40 ls []) := by
  have hx := C.1.1
  have hb := C.1.2.1
  intro n
  induction n with
  | zero =>
    intro j B1 K1 H locs ls hj hjN h1 h2 hI hl
    refine lv_iload_n hx hb dX0_insert_40 rfl (lv_at hl 0 rfl) ?_
    refine lv_iload_n hx hb dX0_insert_41 rfl (lv_at hl 2 rfl) ?_
    refine lv_icmp_le (tgt := 79) hx hb dX0_insert_42 (by decide) (fun c1 => ?_) (fun c1 => ?_)
    · have e1 : j = i := by omega
      subst e1
      exact kk B1 K1 H locs ls h1 h2 hI (lv_sub hl [1, 2, 3] rfl)
    · exact absurd (nl_lt (by omega) (by omega) c1) (by omega)
  | succ n ih =>
    intro j B1 K1 H locs ls hj hjN h1 h2 hI hl
    refine lv_iload_n hx hb dX0_insert_40 rfl (lv_at hl 0 rfl) ?_
    refine lv_iload_n hx hb dX0_insert_41 rfl (lv_at hl 2 rfl) ?_
    refine lv_icmp_le (tgt := 79) hx hb dX0_insert_42 (by decide) (fun c1 => ?_) (fun c1 => ?_)
    · exact absurd (nl_le (by omega) (by omega) c1) (by omega)
    · obtain ⟨j, rfl⟩ : ∃ j', j = j' + 1 := ⟨i + n, by omega⟩
      refine lv_aload_n hx hb dX0_insert_45 rfl (lv_at hl 1 rfl) ?_
      refine xg2 C hI dX0_insert_46 ?_
      refine lv_iload_n hx hb dX0_insert_49 rfl (lv_at hl 0 rfl) ?_
      refine lv_aload_n hx hb dX0_insert_50 rfl (lv_at hl 1 rfl) ?_
      refine xg2 C hI dX0_insert_51 ?_
      refine lv_iload_n hx hb dX0_insert_54 rfl (lv_at hl 0 rfl) ?_
      refine lv_iconst (v := 1) hx hb dX0_insert_55 (by decide) ?_
      refine lv_isub hx hb dX0_insert_56 ?_
      refine xl1 (i := j) C hI (nI_pred j) (by omega) dX0_insert_57 ?_
      rw [(h1 j (by omega)).1]
      refine xs1 (i := j + 1) C hI rfl (by omega) dX0_insert_58 (fun H locs hI => ?_)
      refine lv_aload_n hx hb dX0_insert_59 rfl (lv_at hl 1 rfl) ?_
      refine xg3 C hI dX0_insert_60 ?_
      refine lv_iload_n hx hb dX0_insert_63 rfl (lv_at hl 0 rfl) ?_
      refine lv_aload_n hx hb dX0_insert_64 rfl (lv_at hl 1 rfl) ?_
      refine xg3 C hI dX0_insert_65 ?_
      refine lv_iload_n hx hb dX0_insert_68 rfl (lv_at hl 0 rfl) ?_
      refine lv_iconst (v := 1) hx hb dX0_insert_69 (by decide) ?_
      refine lv_isub hx hb dX0_insert_70 ?_
      refine xl2 (i := j) C hI (nI_pred j) (by omega) dX0_insert_71 ?_
      rw [(h1 j (by omega)).2]
      refine xs2 (i := j + 1) (y := (K j)) C hI rfl (by omega) (by01 (hK j (by omega))) dX0_insert_72 (fun H locs hI => ?_)
      refine lv_iinc (v := nI j) (lv' := [(3, .int (nI j)), (0, .ref (G.2.1 0)), (1, .int (nI i)), (2, .int y)]) hx hb dX0_insert_73 hl (k := 0) rfl (pk_m1 j) (by decide) rfl (fun ls hl => ?_)
      refine lv_goto (tgt := 40) hx hb dX0_insert_76 (by decide) ?_
      refine ih j _ _ H locs ls (by omega) (by omega) (fun k hk => ?_) (fun k hk hk2 => ?_) hI hl
      · rw [upd, upd, if_neg (by omega), if_neg (by omega)]
        exact h1 k (by omega)
      · by_cases e : k = j
        · subst e
          rw [upd, upd, if_pos rfl, if_pos rfl]
          exact ⟨rfl, rfl⟩
        · rw [upd, upd, if_neg (by omega), if_neg (by omega)]
          exact h2 k (by omega) hk2
set_option maxHeartbeats 4000000 in
theorem rem_l {f0 : Int32} {B : Nat → Int32} {K : Nat → Int32} {w : Nat → Int32} {wc : Int32} {q : Nat → Int32} {qc : Int32} {a : Nat → Int32} {ac : Int32} {v : Nat → Int32} {vc : Int32} {N i : Nat} (C : XC p s m args c cX0_remove 3 G) (hR : RL R 0) (hN : N < 10) (hK : ∀ k, k ≤ N → K k = 0 ∨ K k = 1)
    (kk : ∀ (B1 K1 : Nat → Int32) (H : Heap) (locs : List Loc) (ls : Array Slot), (∀ k, k < i → B1 k = B k ∧ K1 k = K k) → (∀ k, i ≤ k → k < N → B1 k = B (k + 1) ∧ K1 k = K (k + 1)) → XI G s (f0, nI N, B1, K1, w, wc, q, qc, a, ac, v, vc) H locs → lv_has ls 3 [(0, .ref (G.2.1 0))] → W p l e R s m args below meth c H locs 0 0 Q (F0 m 64 ls [])) :
    ∀ (n : Nat) (j : Nat) (B1 : Nat → Int32) (K1 : Nat → Int32) (H : Heap) (locs : List Loc) (ls : Array Slot), j + n = N → i ≤ j → (∀ k, k < i → B1 k = B k ∧ K1 k = K k) → (∀ k, i ≤ k → k < j → B1 k = B (k + 1) ∧ K1 k = K (k + 1)) → (∀ k, j ≤ k → B1 k = B k ∧ K1 k = K k) → XI G s (f0, (nI N), B1, K1, w, wc, q, qc, a, ac, v, vc) H locs → lv_has ls 3 [(2, .int (nI j)), (0, .ref (G.2.1 0))] → W p l e R s m args below meth c H locs 0 0 Q (F0 m 22 ls []) := by
  have hx := C.1.1
  have hb := C.1.2.1
  intro n
  induction n with
  | zero =>
    intro j B1 K1 H locs ls hj hji h1 h2 h3 hI hl
    refine lv_iload_n hx hb dX0_remove_22 rfl (lv_at hl 0 rfl) ?_
    refine lv_aload_n hx hb dX0_remove_23 rfl (lv_at hl 1 rfl) ?_
    refine xg1 C hI dX0_remove_24 ?_
    refine lv_icmp_ge (tgt := 64) hx hb dX0_remove_27 (by decide) (fun c1 => ?_) (fun c1 => ?_)
    · exact kk B1 K1 H locs ls h1 (fun k hk hk2 => h2 k hk (by omega)) hI (lv_sub hl [1] rfl)
    · exact absurd (nl_lt (by omega) (by omega) c1) (by omega)
  | succ n ih =>
    intro j B1 K1 H locs ls hj hji h1 h2 h3 hI hl
    refine lv_iload_n hx hb dX0_remove_22 rfl (lv_at hl 0 rfl) ?_
    refine lv_aload_n hx hb dX0_remove_23 rfl (lv_at hl 1 rfl) ?_
    refine xg1 C hI dX0_remove_24 ?_
    refine lv_icmp_ge (tgt := 64) hx hb dX0_remove_27 (by decide) (fun c1 => ?_) (fun c1 => ?_)
    · exact absurd (nl_le (by omega) (by omega) c1) (by omega)
    · refine lv_aload_n hx hb dX0_remove_30 rfl (lv_at hl 1 rfl) ?_
      refine xg2 C hI dX0_remove_31 ?_
      refine lv_iload_n hx hb dX0_remove_34 rfl (lv_at hl 0 rfl) ?_
      refine lv_aload_n hx hb dX0_remove_35 rfl (lv_at hl 1 rfl) ?_
      refine xg2 C hI dX0_remove_36 ?_
      refine lv_iload_n hx hb dX0_remove_39 rfl (lv_at hl 0 rfl) ?_
      refine lv_iconst (v := 1) hx hb dX0_remove_40 (by decide) ?_
      refine lv_iadd hx hb dX0_remove_41 ?_
      refine xl1 (i := j + 1) C hI (nI_1 j) (by omega) dX0_remove_42 ?_
      rw [(h3 (j + 1) (by omega)).1]
      refine xs1 (i := j) C hI rfl (by omega) dX0_remove_43 (fun H locs hI => ?_)
      refine lv_aload_n hx hb dX0_remove_44 rfl (lv_at hl 1 rfl) ?_
      refine xg3 C hI dX0_remove_45 ?_
      refine lv_iload_n hx hb dX0_remove_48 rfl (lv_at hl 0 rfl) ?_
      refine lv_aload_n hx hb dX0_remove_49 rfl (lv_at hl 1 rfl) ?_
      refine xg3 C hI dX0_remove_50 ?_
      refine lv_iload_n hx hb dX0_remove_53 rfl (lv_at hl 0 rfl) ?_
      refine lv_iconst (v := 1) hx hb dX0_remove_54 (by decide) ?_
      refine lv_iadd hx hb dX0_remove_55 ?_
      refine xl2 (i := j + 1) C hI (nI_1 j) (by omega) dX0_remove_56 ?_
      rw [(h3 (j + 1) (by omega)).2]
      refine xs2 (i := j) (y := (K (j + 1))) C hI rfl (by omega) (by01 (hK (j + 1) (by omega))) dX0_remove_57 (fun H locs hI => ?_)
      refine lv_iinc (v := nI (j + 1)) (lv' := [(2, .int (nI (j + 1))), (0, .ref (G.2.1 0))]) hx hb dX0_remove_58 hl (k := 0) rfl (nI_1 j) (by decide) rfl (fun ls hl => ?_)
      refine lv_goto (tgt := 22) hx hb dX0_remove_61 (by decide) ?_
      refine ih (j + 1) _ _ H locs ls (by omega) (by omega) (fun k hk => ?_) (fun k hk hk2 => ?_) (fun k hk => ?_) hI hl
      · rw [upd, upd, if_neg (by omega), if_neg (by omega)]
        exact h1 k hk
      · by_cases e : k = j
        · subst e
          rw [upd, upd, if_pos rfl, if_pos rfl]
          exact ⟨rfl, rfl⟩
        · rw [upd, upd, if_neg (by omega), if_neg (by omega)]
          exact h2 k hk (by omega)
      · rw [upd, upd, if_neg (by omega), if_neg (by omega)]
        exact h3 k (by omega)
end LH
set_option maxHeartbeats 4000000 in
theorem metx_insert (l : Launch) (G : GT) (hD : XD G) (f0 : Int32) (B : Nat → Int32) (K : Nat → Int32) (w : Nat → Int32) (wc : Int32) (q : Nat → Int32) (qc : Int32) (a : Nat → Int32) (ac : Int32) (v : Nat → Int32) (vc : Int32) (x : Int32) (y : Int32) (N : Nat) (hN : N ≤ 10) (hK : ∀ k, k < N → K k = 0 ∨ K k = 1) : Met l yX0_insert (ws_ yX0_insert cX0_insert 4 (some .int)) (rmd 0) (xPc G (f0, (nI N), B, K, w, wc, q, qc, a, ac, v, vc) [.int x, .int y]) (xQi G (fun r u1 => (10 ≤ N ∧ r = (-2) ∧ u1 = (f0, nI N, B, K, w, wc, q, qc, a, ac, v, vc)) ∨ (N < 10 ∧ ¬ okI x y N ∧ r = (-1) ∧ u1 = (f0, nI N, B, K, w, wc, q, qc, a, ac, v, vc)) ∨ (N < 10 ∧ okI x y N ∧ r = nI (N + 1) ∧ ∃ B1 K1, u1 = (f0, nI (N + 1), B1, K1, w, wc, q, qc, a, ac, v, vc) ∧ (∀ k, k < ix x → B1 k = B k ∧ K1 k = K k) ∧ (B1 (ix x) = f0 ∧ K1 (ix x) = y) ∧ ∀ k, ix x ≤ k → k < N → B1 (k + 1) = B k ∧ K1 (k + 1) = K k))) 0 0 (xA G) := by
  refine gMet (Rn := RX0) (by decide +kernel) rfl (Nat.le_of_ble_eq_true rfl) hD ?_
  intro p e s m below meth c ls C hr hlocks hI hl
  have hR := RL.rm 0
  have hx := C.1.1
  have hb := C.1.2.1
  have hl : lv_has ls 4 [(0, .ref (G.2.1 0)), (1, .int x), (2, .int y)] := hl
  refine lv_aload_n hx hb dX0_insert_0 rfl (lv_at hl 0 rfl) ?_
  refine xg1 C hI dX0_insert_1 ?_
  refine lv_bipush (v := 10) hx hb dX0_insert_4 (by decide) ?_
  refine lv_icmp_lt (tgt := 12) hx hb dX0_insert_6 (by decide) (fun c0 => ?_) (fun c0 => ?_)
  · have hlt : N < 10 := (nI_ltI (by omega) (by decide)).mp c0
    refine lv_iload_n hx hb dX0_insert_12 rfl (lv_at hl 1 rfl) ?_
    refine lv_if_lt (tgt := 33) hx hb dX0_insert_13 (by decide) (fun c1 => ?_) (fun c1 => ?_)
    · refine lv_iconst (v := (-1 : Int32)) hx hb dX0_insert_33 (by decide) ?_
      exact e_int hI hx hb hr hlocks (Or.inr (Or.inl ⟨hlt, (by intro h; simp only [okI, i_le, i_lt] at h c1; omega), rfl, rfl⟩)) dX0_insert_34
    · refine lv_iload_n hx hb dX0_insert_16 rfl (lv_at hl 1 rfl) ?_
      refine lv_aload_n hx hb dX0_insert_17 rfl (lv_at hl 0 rfl) ?_
      refine xg1 C hI dX0_insert_18 ?_
      refine lv_icmp_gt (tgt := 33) hx hb dX0_insert_21 (by decide) (fun c2 => ?_) (fun c2 => ?_)
      · refine lv_iconst (v := (-1 : Int32)) hx hb dX0_insert_33 (by decide) ?_
        exact e_int hI hx hb hr hlocks (Or.inr (Or.inl ⟨hlt, (by intro h; simp only [okI, i_le, i_lt] at h c1 c2; omega), rfl, rfl⟩)) dX0_insert_34
      · refine lv_iload_n hx hb dX0_insert_24 rfl (lv_at hl 2 rfl) ?_
        refine lv_if_lt (tgt := 33) hx hb dX0_insert_25 (by decide) (fun c3 => ?_) (fun c3 => ?_)
        · refine lv_iconst (v := (-1 : Int32)) hx hb dX0_insert_33 (by decide) ?_
          exact e_int hI hx hb hr hlocks (Or.inr (Or.inl ⟨hlt, (by intro h; simp only [okI, i_le, i_lt] at h c1 c2 c3; omega), rfl, rfl⟩)) dX0_insert_34
        · refine lv_iload_n hx hb dX0_insert_28 rfl (lv_at hl 2 rfl) ?_
          refine lv_iconst (v := 1) hx hb dX0_insert_29 (by decide) ?_
          refine lv_icmp_le (tgt := 35) hx hb dX0_insert_30 (by decide) (fun c4 => ?_) (fun c4 => ?_)
          · have hok : okI x y N := (by simp only [okI, i_le, i_lt] at c1 c2 c3 c4 ⊢; omega)
            obtain ⟨i, hi31, rfl⟩ := nI_of (x := x) (i_le_nlt0 hok.1)
            have hi : i ≤ N := (nI_leI hi31 (by omega)).mp hok.2.1
            have hy := i01 hok.2.2.1 hok.2.2.2
            refine lv_aload_n hx hb dX0_insert_35 rfl (lv_at hl 0 rfl) ?_
            refine xg1 C hI dX0_insert_36 ?_
            refine lv_istore_n (lv' := [(3, .int (nI N)), (0, .ref (G.2.1 0)), (1, .int (nI i)), (2, .int y)]) hx hb dX0_insert_39 rfl hl (by decide) rfl (fun ls hl => ?_)
            refine ins_l (N := N) (i := i) C hR hlt hi hK (fun B1 K1 H locs ls h1 h2 hI hl => ?_) (N - i) N B K _ _ ls (by omega) (Nat.le_refl _) (fun k _ => ⟨rfl, rfl⟩) (fun k h h9 => absurd h9 (by omega)) hI (lv_sub hl [0, 1, 2, 3] rfl)
            refine lv_aload_n hx hb dX0_insert_79 rfl (lv_at hl 0 rfl) ?_
            refine xg2 C hI dX0_insert_80 ?_
            refine lv_iload_n hx hb dX0_insert_83 rfl (lv_at hl 1 rfl) ?_
            refine lv_aload_n hx hb dX0_insert_84 rfl (lv_at hl 0 rfl) ?_
            refine xg0 C hI dX0_insert_85 ?_
            refine xs1 (i := i) C hI rfl (by omega) dX0_insert_88 (fun H locs hI => ?_)
            refine lv_aload_n hx hb dX0_insert_89 rfl (lv_at hl 0 rfl) ?_
            refine xg3 C hI dX0_insert_90 ?_
            refine lv_iload_n hx hb dX0_insert_93 rfl (lv_at hl 1 rfl) ?_
            refine lv_iload_n hx hb dX0_insert_94 rfl (lv_at hl 2 rfl) ?_
            refine lv_i2b (v := y.toInt8.toInt32) hx hb dX0_insert_95 rfl ?_
            have ey : y.toInt8.toInt32 = y := by rcases hy with rfl | rfl <;> decide
            refine xs2 (i := i) (y := y) C hI rfl (by omega) (by rw [ey]; exact by01 hy) dX0_insert_96 (fun H locs hI => ?_)
            refine lv_aload_n hx hb dX0_insert_97 rfl (lv_at hl 0 rfl) ?_
            refine lv_dup hx hb dX0_insert_98 rfl ?_
            refine xg1 C hI dX0_insert_99 ?_
            refine lv_iconst (v := 1) hx hb dX0_insert_102 (by decide) ?_
            refine lv_iadd hx hb dX0_insert_103 ?_
            refine xp1 C hI dX0_insert_104 (fun H locs hI => ?_)
            refine lv_aload_n hx hb dX0_insert_107 rfl (lv_at hl 0 rfl) ?_
            refine xg1 C hI dX0_insert_108 ?_
            refine e_int hI hx hb hr hlocks (Or.inr (Or.inr ⟨hlt, hok, nI_1 N, _, _, by rw [nI_1], fun k hk => ?_, ?_, fun k hk hk2 => ?_⟩)) dX0_insert_111
            · rw [ix_nI (by omega)] at hk
              rw [upd, upd, if_neg (by omega), if_neg (by omega)]
              exact h1 k hk
            · rw [ix_nI (by omega), upd, upd, if_pos rfl, if_pos rfl]
              exact ⟨rfl, rfl⟩
            · rw [ix_nI (by omega)] at hk
              rw [upd, upd, if_neg (by omega), if_neg (by omega)]
              exact h2 k hk hk2
          · refine lv_iconst (v := (-1 : Int32)) hx hb dX0_insert_33 (by decide) ?_
            exact e_int hI hx hb hr hlocks (Or.inr (Or.inl ⟨hlt, (by intro h; simp only [okI, i_le, i_lt] at h c1 c2 c3 c4; omega), rfl, rfl⟩)) dX0_insert_34
  · have hge : 10 ≤ N := Nat.not_lt.mp fun h => c0 ((nI_ltI (by omega) (by decide)).mpr h)
    refine lv_bipush (v := (-2 : Int32)) hx hb dX0_insert_9 (by decide) ?_
    exact e_int hI hx hb hr hlocks (Or.inl ⟨hge, rfl, rfl⟩) dX0_insert_11
set_option maxHeartbeats 4000000 in
theorem metx_remove (l : Launch) (G : GT) (hD : XD G) (f0 : Int32) (B : Nat → Int32) (K : Nat → Int32) (w : Nat → Int32) (wc : Int32) (q : Nat → Int32) (qc : Int32) (a : Nat → Int32) (ac : Int32) (v : Nat → Int32) (vc : Int32) (x : Int32) (N : Nat) (hN : N ≤ 10) (hK : ∀ k, k < N → K k = 0 ∨ K k = 1) : Met l yX0_remove (ws_ yX0_remove cX0_remove 3 (some .int)) (rmd 1) (xPc G (f0, (nI N), B, K, w, wc, q, qc, a, ac, v, vc) [.int x]) (xQi G (fun r u1 => (¬ isR x N ∧ r = (-1) ∧ u1 = (f0, nI N, B, K, w, wc, q, qc, a, ac, v, vc)) ∨ (isR x N ∧ r = nI (N - 1) ∧ ∃ B1 K1, u1 = (f0, nI (N - 1), B1, K1, w, wc, q, qc, a, ac, v, vc) ∧ (∀ k, k < ix x → B1 k = B k ∧ K1 k = K k) ∧ ∀ k, ix x ≤ k → k + 1 < N → B1 k = B (k + 1) ∧ K1 k = K (k + 1)))) 0 0 (xA G) := by
  refine gMet (Rn := RX0) (by decide +kernel) rfl (Nat.le_of_ble_eq_true rfl) hD ?_
  intro p e s m below meth c ls C hr hlocks hI hl
  have hR := RL.rm 1
  have hx := C.1.1
  have hb := C.1.2.1
  have hl : lv_has ls 3 [(0, .ref (G.2.1 0)), (1, .int x)] := hl
  refine lv_aload_n hx hb dX0_remove_0 rfl (lv_at hl 0 rfl) ?_
  refine lv_iload_n hx hb dX0_remove_1 rfl (lv_at hl 1 rfl) ?_
  refine kx_isRule C hI (hR.le (by decide)) hl.1 (Nat.le_of_ble_eq_true rfl) dX0_remove_2 ?_
  refine lv_if_ne (tgt := 10) hx hb dX0_remove_5 (by decide) (fun c1 => ?_) (fun c1 => ?_)
  · have c1 := if1 c1
    obtain ⟨i, hi, rfl⟩ := isR_ix hN c1
    obtain ⟨M, rfl⟩ : ∃ M, N = M + 1 := ⟨N - 1, by omega⟩
    refine lv_aload_n hx hb dX0_remove_10 rfl (lv_at hl 0 rfl) ?_
    refine lv_dup hx hb dX0_remove_11 rfl ?_
    refine xg1 C hI dX0_remove_12 ?_
    refine lv_iconst (v := 1) hx hb dX0_remove_15 (by decide) ?_
    refine lv_isub hx hb dX0_remove_16 ?_
    rw [nI_pred]
    refine xp1 C hI dX0_remove_17 (fun H locs hI => ?_)
    refine lv_iload_n hx hb dX0_remove_20 rfl (lv_at hl 1 rfl) ?_
    refine lv_istore_n (lv' := [(2, .int (nI i)), (0, .ref (G.2.1 0)), (1, .int (nI i))]) hx hb dX0_remove_21 rfl hl (by decide) rfl (fun ls hl => ?_)
    refine rem_l (N := M) (i := i) C (hR.le (by decide)) (by omega) (fun k hk => hK k (by omega)) (fun B1 K1 H locs ls h1 h2 hI hl => ?_) (M - i) i B K _ _ ls (by omega) (Nat.le_refl _) (fun k _ => ⟨rfl, rfl⟩) (fun k h h9 => absurd h9 (by omega)) (fun k _ => ⟨rfl, rfl⟩) hI (lv_sub hl [0, 1] rfl)
    refine lv_aload_n hx hb dX0_remove_64 rfl (lv_at hl 0 rfl) ?_
    refine xg1 C hI dX0_remove_65 ?_
    exact e_int hI hx hb hr hlocks (Or.inr ⟨c1, rfl, B1, K1, rfl, fun k hk => h1 k (by rw [ix_nI (by omega)] at hk; exact hk), fun k hk hk2 => h2 k (by rw [ix_nI (by omega)] at hk; exact hk) (by omega)⟩) dX0_remove_68
  · have c1 := if0 c1
    refine lv_iconst (v := (-1 : Int32)) hx hb dX0_remove_8 (by decide) ?_
    exact e_int hI hx hb hr hlocks (Or.inl ⟨c1, rfl, rfl⟩) dX0_remove_9
end
section
/-! WHAT X1's METHODS COMPUTE (the reference: a row of six numbers a rule, row 10 the draft) -/
abbrev mMt (fs ts fd td wh : Nat → Int32) (i : Nat) (k : Int32) : Prop := fs i ≤ (k >>> ((5 : Int32) &&& 31)) ∧ (k >>> ((5 : Int32) &&& 31)) ≤ ts i ∧ fd i ≤ ((k >>> ((1 : Int32) &&& 31)) &&& 15) ∧ ((k >>> ((1 : Int32) &&& 31)) &&& 15) ≤ td i ∧ (wh i = 2 ∨ wh i = (k &&& 1))
def mF (fs ts fd td wh : Nat → Int32) (N : Nat) (k o : Int32) : Int32 := fsm (fun j => !decide (nI j = o) && decide (mMt fs ts fd td wh j k)) 0 N
def mD (fs ts fd td wh ak : Nat → Int32) (N : Nat) (k o : Int32) : Int32 := if mF fs ts fd td wh N k o = (-3) then 0 else ak (ix (mF fs ts fd td wh N k o))
def ctb (p : Nat → Bool) : Nat → Nat
  | 0 => 0
  | n + 1 => ctb p n + (if p n = true then 1 else 0)
theorem ctb_t {p : Nat → Bool} {n : Nat} (h : p n = true) : ctb p (n + 1) = ctb p n + 1 := by rw [ctb, if_pos h]
theorem ctb_f {p : Nat → Bool} {n : Nat} (h : ¬ p n = true) : ctb p (n + 1) = ctb p n := by rw [ctb, if_neg h]; rfl
theorem ctb_le (p : Nat → Bool) : ∀ n, ctb p n ≤ n
  | 0 => Nat.le_refl _
  | n + 1 => by
    have := ctb_le p n
    rw [ctb]
    split <;> omega
def mOwn (fs ts fd td wh : Nat → Int32) (N : Nat) (x : Int32) : Nat → Bool := fun p => decide (mF fs ts fd td wh N (nI p) (-1) = x)
def mCon (fs ts fd td wh ak : Nat → Int32) (N i : Nat) : Nat → Bool := fun p => decide (mMt fs ts fd td wh i (nI p)) && !decide (mD fs ts fd td wh ak N (nI p) (-1) = ak i)
def mMis (fs ts fd td wh ak : Nat → Int32) (N i : Nat) : Nat → Bool := fun p => !decide (mD fs ts fd td wh ak N (nI p) (-1) = mD fs ts fd td wh ak N (nI p) (nI i))
def mSo (fs ts fd td wh : Nat → Int32) (i : Nat) (x : Int32) (j : Nat) (y : Int32) : Nat → Bool := fun p => decide ((if mMt fs ts fd td wh i (nI p) then (1 : Int32) else 0) = x) && decide ((if mMt fs ts fd td wh j (nI p) then (1 : Int32) else 0) = y)
abbrev mS (fs ts fd td wh : Nat → Int32) (i : Nat) (x : Int32) (j : Nat) (y : Int32) : Bool := anb (mSo fs ts fd td wh i x j y) 0 512
def mCo (fs ts fd td wh ak : Nat → Int32) (i : Nat) : Nat → Bool := fun j => !decide (ak j = ak i) && mS fs ts fd td wh i 1 j 1 && mS fs ts fd td wh i 1 j 0 && mS fs ts fd td wh i 0 j 1
def mGe (fs ts fd td wh ak : Nat → Int32) (i : Nat) : Nat → Bool := fun j => !decide (ak j = ak i) && !mS fs ts fd td wh i 0 j 1
def mCh (fs ts fd td wh ak sv : Nat → Int32) (N : Nat) : Nat → Bool := fun p => !decide (mD fs ts fd td wh ak N (nI p) (-1) = sv p)
abbrev R6 : Type := Int32 × Int32 × Int32 × Int32 × Int32 × Int32
def rw6 (fs ts fd td wh ak : Nat → Int32) (k : Nat) : R6 := (fs k, ts k, fd k, td k, wh k, ak k)
theorem rw6_up (fs ts fd td wh ak : Nat → Int32) (j i k : Nat) : rw6 (upd fs j (fs i)) (upd ts j (ts i)) (upd fd j (fd i)) (upd td j (td i)) (upd wh j (wh i)) (upd ak j (ak i)) k = if k = j then rw6 fs ts fd td wh ak i else rw6 fs ts fd td wh ak k := by
  by_cases e : k = j
  · simp only [rw6, upd, if_pos e]
  · simp only [rw6, upd, if_neg e]
theorem fsm_in (p : Nat → Bool) : ∀ n i, fsm p i n = (-3) ∨ ∃ j, i ≤ j ∧ j < i + n ∧ fsm p i n = nI j
  | 0, i => Or.inl rfl
  | n + 1, i => by
    by_cases h : p i = true
    · exact Or.inr ⟨i, Nat.le_refl _, by omega, fsm_t n h⟩
    · rw [fsm_f n h]
      rcases fsm_in p n (i + 1) with h2 | ⟨j, h3, h4, h5⟩
      · exact Or.inl h2
      · exact Or.inr ⟨j, by omega, by omega, h5⟩
theorem mF_in {fs ts fd td wh : Nat → Int32} {N : Nat} {k o : Int32} (hN : N ≤ 10) (h : ¬ mF fs ts fd td wh N k o = (-3)) : ∃ j, j < N ∧ mF fs ts fd td wh N k o = nI j := by
  rcases fsm_in (fun j => !decide (nI j = o) && decide (mMt fs ts fd td wh j k)) N 0 with h1 | ⟨j, -, h3, h4⟩
  · exact absurd h1 h
  · exact ⟨j, by omega, h4⟩
end
section
/-! X1: the reference, what only reads -/
set_option maxRecDepth 100000
set_option maxHeartbeats 4000000 in
theorem metm_isRule (l : Launch) (G : GT) (hD : MD G) (n : Int32) (fs : Nat → Int32) (ts : Nat → Int32) (fd : Nat → Int32) (td : Nat → Int32) (wh : Nat → Int32) (ak : Nat → Int32) (sv : Nat → Int32) (x : Int32)   : Met l yX1_isRule (ws_ yX1_isRule cX1_isRule 2 (some .boolean)) (rmd 0) (mPc G (n, fs, ts, fd, td, wh, ak, sv) [.int x]) (QcRead (if 0 ≤ x ∧ x < n then 1 else 0)) 0 0 (fun _ => False) := by
  refine gMet (Rn := RX1) (by decide +kernel) rfl (Nat.le_of_ble_eq_true rfl) hD ?_
  intro p e s m below meth c ls C hr hlocks hI hl
  have hR := RL.rm 0
  have hx := C.1.1
  have hb := C.1.2.1
  have hl : lv_has ls 2 [(0, .ref (G.2.1 0)), (1, .int x)] := hl
  refine lv_iload_n hx hb dX1_isRule_0 rfl (lv_at hl 1 rfl) ?_
  refine lv_if_lt (tgt := 16) hx hb dX1_isRule_1 (by decide) (fun c1 => ?_) (fun c1 => ?_)
  · refine lv_iconst (v := 0) hx hb dX1_isRule_16 (by decide) ?_
    exact e_readz hx hb hr hlocks rfl (by rw [if_neg (by intro h; simp only [i_le, i_lt] at h c1; simp at h c1; omega)]) dX1_isRule_17
  · refine lv_iload_n hx hb dX1_isRule_4 rfl (lv_at hl 1 rfl) ?_
    refine lv_aload_n hx hb dX1_isRule_5 rfl (lv_at hl 0 rfl) ?_
    refine mg0 C hI dX1_isRule_6 ?_
    refine lv_icmp_ge (tgt := 16) hx hb dX1_isRule_9 (by decide) (fun c2 => ?_) (fun c2 => ?_)
    · refine lv_iconst (v := 0) hx hb dX1_isRule_16 (by decide) ?_
      exact e_readz hx hb hr hlocks rfl (by rw [if_neg (by intro h; simp only [i_le, i_lt] at h c1 c2; simp at h c1 c2; omega)]) dX1_isRule_17
    · refine lv_iconst (v := 1) hx hb dX1_isRule_12 (by decide) ?_
      refine lv_goto (tgt := 17) hx hb dX1_isRule_13 (by decide) ?_
      exact e_readz hx hb hr hlocks rfl (by rw [if_pos (by simp only [i_le, i_lt] at c1 c2 ⊢; simp at c1 c2 ⊢; omega)]) dX1_isRule_17
set_option maxHeartbeats 4000000 in
theorem metm_matches (l : Launch) (G : GT) (hD : MD G) (n : Int32) (fs : Nat → Int32) (ts : Nat → Int32) (fd : Nat → Int32) (td : Nat → Int32) (wh : Nat → Int32) (ak : Nat → Int32) (sv : Nat → Int32) (k : Int32) (i : Nat) (hi : i < 11) : Met l yX1_matches (ws_ yX1_matches cX1_matches 6 (some .boolean)) (rmd 0) (mPc G (n, fs, ts, fd, td, wh, ak, sv) [.int ((nI i)), .int k]) (QcRead (if mMt fs ts fd td wh i k then 1 else 0)) 0 0 (fun _ => False) := by
  refine gMet (Rn := RX1) (by decide +kernel) rfl (Nat.le_of_ble_eq_true rfl) hD ?_
  intro p e s m below meth c ls C hr hlocks hI hl
  have hR := RL.rm 0
  have hx := C.1.1
  have hb := C.1.2.1
  have hl : lv_has ls 6 [(0, .ref (G.2.1 0)), (1, .int ((nI i))), (2, .int k)] := hl
  refine lv_iload_n hx hb dX1_matches_0 rfl (lv_at hl 2 rfl) ?_
  refine lv_iconst (v := 5) hx hb dX1_matches_1 (by decide) ?_
  refine lv_ishr hx hb dX1_matches_2 ?_
  refine lv_istore_n (lv' := [(3, .int (k >>> (5 &&& 31))), (0, .ref (G.2.1 0)), (1, .int ((nI i))), (2, .int k)]) hx hb dX1_matches_3 rfl hl (by decide) rfl (fun ls hl => ?_)
  refine lv_iload_n hx hb dX1_matches_4 rfl (lv_at hl 3 rfl) ?_
  refine lv_iconst (v := 1) hx hb dX1_matches_5 (by decide) ?_
  refine lv_ishr hx hb dX1_matches_6 ?_
  refine lv_bipush (v := 15) hx hb dX1_matches_7 (by decide) ?_
  refine lv_iand hx hb dX1_matches_9 ?_
  refine lv_istore (lv' := [(4, .int ((k >>> (1 &&& 31)) &&& 15)), (3, .int (k >>> (5 &&& 31))), (0, .ref (G.2.1 0)), (1, .int ((nI i))), (2, .int k)]) hx hb dX1_matches_10 hl (by decide) rfl (fun ls hl => ?_)
  refine lv_iload_n hx hb dX1_matches_12 rfl (lv_at hl 4 rfl) ?_
  refine lv_iconst (v := 1) hx hb dX1_matches_13 (by decide) ?_
  refine lv_iand hx hb dX1_matches_14 ?_
  refine lv_istore (lv' := [(5, .int (k &&& 1)), (4, .int ((k >>> (1 &&& 31)) &&& 15)), (3, .int (k >>> (5 &&& 31))), (0, .ref (G.2.1 0)), (1, .int ((nI i))), (2, .int k)]) hx hb dX1_matches_15 hl (by decide) rfl (fun ls hl => ?_)
  refine lv_aload_n hx hb dX1_matches_17 rfl (lv_at hl 3 rfl) ?_
  refine mg1 C hI dX1_matches_18 ?_
  refine lv_iload_n hx hb dX1_matches_21 rfl (lv_at hl 4 rfl) ?_
  refine ml1 (i := i) C hI rfl hi dX1_matches_22 ?_
  refine lv_iload_n hx hb dX1_matches_23 rfl (lv_at hl 2 rfl) ?_
  refine lv_icmp_gt (tgt := 84) hx hb dX1_matches_24 (by decide) (fun c1 => ?_) (fun c1 => ?_)
  · refine lv_iconst (v := 0) hx hb dX1_matches_84 (by decide) ?_
    exact e_readz hx hb hr hlocks rfl (by rw [if_neg (by intro h; have h := And.intro h.1 (And.intro h.2.1 (And.intro h.2.2.1 h.2.2.2.1)); simp only [i_le, i_lt] at h c1; omega)]) dX1_matches_85
  · refine lv_iload_n hx hb dX1_matches_27 rfl (lv_at hl 2 rfl) ?_
    refine lv_aload_n hx hb dX1_matches_28 rfl (lv_at hl 3 rfl) ?_
    refine mg2 C hI dX1_matches_29 ?_
    refine lv_iload_n hx hb dX1_matches_32 rfl (lv_at hl 4 rfl) ?_
    refine ml2 (i := i) C hI rfl hi dX1_matches_33 ?_
    refine lv_icmp_gt (tgt := 84) hx hb dX1_matches_34 (by decide) (fun c2 => ?_) (fun c2 => ?_)
    · refine lv_iconst (v := 0) hx hb dX1_matches_84 (by decide) ?_
      exact e_readz hx hb hr hlocks rfl (by rw [if_neg (by intro h; have h := And.intro h.1 (And.intro h.2.1 (And.intro h.2.2.1 h.2.2.2.1)); simp only [i_le, i_lt] at h c1 c2; omega)]) dX1_matches_85
    · refine lv_aload_n hx hb dX1_matches_37 rfl (lv_at hl 3 rfl) ?_
      refine mg3 C hI dX1_matches_38 ?_
      refine lv_iload_n hx hb dX1_matches_41 rfl (lv_at hl 4 rfl) ?_
      refine ml3 (i := i) C hI rfl hi dX1_matches_42 ?_
      refine lv_iload hx hb dX1_matches_43 (lv_at hl 1 rfl) ?_
      refine lv_icmp_gt (tgt := 84) hx hb dX1_matches_45 (by decide) (fun c3 => ?_) (fun c3 => ?_)
      · refine lv_iconst (v := 0) hx hb dX1_matches_84 (by decide) ?_
        exact e_readz hx hb hr hlocks rfl (by rw [if_neg (by intro h; have h := And.intro h.1 (And.intro h.2.1 (And.intro h.2.2.1 h.2.2.2.1)); simp only [i_le, i_lt] at h c1 c2 c3; omega)]) dX1_matches_85
      · refine lv_iload hx hb dX1_matches_48 (lv_at hl 1 rfl) ?_
        refine lv_aload_n hx hb dX1_matches_50 rfl (lv_at hl 3 rfl) ?_
        refine mg4 C hI dX1_matches_51 ?_
        refine lv_iload_n hx hb dX1_matches_54 rfl (lv_at hl 4 rfl) ?_
        refine ml4 (i := i) C hI rfl hi dX1_matches_55 ?_
        refine lv_icmp_gt (tgt := 84) hx hb dX1_matches_56 (by decide) (fun c4 => ?_) (fun c4 => ?_)
        · refine lv_iconst (v := 0) hx hb dX1_matches_84 (by decide) ?_
          exact e_readz hx hb hr hlocks rfl (by rw [if_neg (by intro h; have h := And.intro h.1 (And.intro h.2.1 (And.intro h.2.2.1 h.2.2.2.1)); simp only [i_le, i_lt] at h c1 c2 c3 c4; omega)]) dX1_matches_85
        · refine lv_aload_n hx hb dX1_matches_59 rfl (lv_at hl 3 rfl) ?_
          refine mg5 C hI dX1_matches_60 ?_
          refine lv_iload_n hx hb dX1_matches_63 rfl (lv_at hl 4 rfl) ?_
          refine ml5 (i := i) C hI rfl hi dX1_matches_64 ?_
          refine lv_iconst (v := 2) hx hb dX1_matches_65 (by decide) ?_
          refine lv_icmp_eq (tgt := 80) hx hb dX1_matches_66 (by decide) (fun e1 => ?_) (fun e1 => ?_)
          · refine lv_iconst (v := 1) hx hb dX1_matches_80 (by decide) ?_
            refine lv_goto (tgt := 85) hx hb dX1_matches_81 (by decide) ?_
            exact e_readz hx hb hr hlocks rfl (by rw [if_pos (by simp only [mMt, i_le, i_lt] at c1 c2 c3 c4 ⊢; exact ⟨by omega, by omega, by omega, by omega, Or.inl e1⟩)]) dX1_matches_85
          · refine lv_aload_n hx hb dX1_matches_69 rfl (lv_at hl 3 rfl) ?_
            refine mg5 C hI dX1_matches_70 ?_
            refine lv_iload_n hx hb dX1_matches_73 rfl (lv_at hl 4 rfl) ?_
            refine ml5 (i := i) C hI rfl hi dX1_matches_74 ?_
            refine lv_iload hx hb dX1_matches_75 (lv_at hl 0 rfl) ?_
            refine lv_icmp_ne (tgt := 84) hx hb dX1_matches_77 (by decide) (fun e2 => ?_) (fun e2 => ?_)
            · refine lv_iconst (v := 0) hx hb dX1_matches_84 (by decide) ?_
              exact e_readz hx hb hr hlocks rfl (by rw [if_neg (fun h => h.2.2.2.2.elim e1 e2)]) dX1_matches_85
            · refine lv_iconst (v := 1) hx hb dX1_matches_80 (by decide) ?_
              refine lv_goto (tgt := 85) hx hb dX1_matches_81 (by decide) ?_
              exact e_readz hx hb hr hlocks rfl (by rw [if_pos (by simp only [mMt, i_le, i_lt] at c1 c2 c3 c4 ⊢; exact ⟨by omega, by omega, by omega, by omega, Or.inr e2⟩)]) dX1_matches_85
section MB
variable {p : Program} {l : Launch} {e : Env} {R : Room} {s : State} {m : MethodId} {args : Array Value} {below : List Frame} {meth : Method} {c : Code} {H : Heap} {locs : List Loc} {Q : State → Prop} {G : GT}
theorem km_isRule {cc : ByteArray} {nL pc : Nat} {ls : Array Slot} {rest : List Value} {n : Int32} {fs : Nat → Int32} {ts : Nat → Int32} {fd : Nat → Int32} {td : Nat → Int32} {wh : Nat → Int32} {ak : Nat → Int32} {sv : Nat → Int32} {x : Int32}   (C : MC p s m args c cc nL G) (hI : MI G s (n, fs, ts, fd, td, wh, ak, sv) H locs) (hR : RL R 1) (hz : ls.size = nL) (hrm : (rest.map fun v => v.category).sum ≤ 8) (hd : decode cc pc = .ok (.invokevirtual 39, 3)) (kk : W p l e R s m args below meth c H locs 0 0 Q (F0 m (pc + 3) ls (.int (if 0 ≤ x ∧ x < n then 1 else 0) :: rest))) : W p l e R s m args below meth c H locs 0 0 Q (F0 m pc ls (.int x :: .ref (G.2.1 0) :: rest)) :=
  g_pure (n := 1) (metm_isRule l G C.2.2 n fs ts fd td wh ak sv x) C hI rfl rfl rfl (lw_V q285 q287 qs27 q38 q288) (by decide +kernel) rfl rfl rfl ⟨hR.1, by have := hR.2; show 8 + (2 + 11) + 30 * 0 ≤ R.locals; omega⟩ hz rfl hrm hd kk
theorem km_matches {cc : ByteArray} {nL pc : Nat} {ls : Array Slot} {rest : List Value} {n : Int32} {fs : Nat → Int32} {ts : Nat → Int32} {fd : Nat → Int32} {td : Nat → Int32} {wh : Nat → Int32} {ak : Nat → Int32} {sv : Nat → Int32} {k : Int32} {i : Nat} (hi : i < 11) (C : MC p s m args c cc nL G) (hI : MI G s (n, fs, ts, fd, td, wh, ak, sv) H locs) (hR : RL R 1) (hz : ls.size = nL) (hrm : (rest.map fun v => v.category).sum ≤ 8) (hd : decode cc pc = .ok (.invokevirtual 43, 3)) (kk : W p l e R s m args below meth c H locs 0 0 Q (F0 m (pc + 3) ls (.int (if mMt fs ts fd td wh i k then 1 else 0) :: rest))) : W p l e R s m args below meth c H locs 0 0 Q (F0 m pc ls (.int k :: .int (nI i) :: .ref (G.2.1 0) :: rest)) :=
  g_pure (n := 2) (metm_matches l G C.2.2 n fs ts fd td wh ak sv k i hi) C hI rfl rfl rfl (lw_V q297 q299 qs29 q38 q300) (by decide +kernel) rfl rfl rfl ⟨hR.1, by have := hR.2; show 8 + (6 + 11) + 30 * 0 ≤ R.locals; omega⟩ hz rfl hrm hd kk
set_option maxHeartbeats 4000000 in
theorem mfi_l {fs : Nat → Int32} {ts : Nat → Int32} {fd : Nat → Int32} {td : Nat → Int32} {wh : Nat → Int32} {ak : Nat → Int32} {sv : Nat → Int32} {N : Nat} {k o r : Int32} (C : MC p s m args c cX1_first 4 G) (hR : RL R 1) (hI : MI G s ((nI N), fs, ts, fd, td, wh, ak, sv) s.heap []) (hN : N ≤ 10) (kn : ∀ ls : Array Slot, r = (-3) → W p l e R s m args below meth c s.heap [] 0 0 Q (F0 m 32 ls [])) (ky : ∀ ls : Array Slot, W p l e R s m args below meth c s.heap [] 0 0 Q (F0 m 25 ls [.int r])) :
    ∀ (n_ : Nat) (j : Nat) (ls : Array Slot), j + n_ = N → fsm (fun j => !decide (nI j = o) && decide (mMt fs ts fd td wh j k)) j n_ = r → lv_has ls 4 [(3, .int (nI j)), (0, .ref (G.2.1 0)), (1, .int k), (2, .int o)] → W p l e R s m args below meth c s.heap [] 0 0 Q (F0 m 2 ls []) := by
  have hx := C.1.1
  have hb := C.1.2.1
  intro n_
  induction n_ with
  | zero =>
    intro j ls hj hr hl
    refine lv_iload_n hx hb dX1_first_2 rfl (lv_at hl 0 rfl) ?_
    refine lv_aload_n hx hb dX1_first_3 rfl (lv_at hl 1 rfl) ?_
    refine mg0 C hI dX1_first_4 ?_
    refine lv_icmp_ge (tgt := 32) hx hb dX1_first_7 (by decide) (fun c1 => ?_) (fun c1 => ?_)
    · exact kn ls hr.symm
    · exact absurd (nl_lt (by omega) (by omega) c1) (by omega)
  | succ n_ ih =>
    intro j ls hj hr hl
    refine lv_iload_n hx hb dX1_first_2 rfl (lv_at hl 0 rfl) ?_
    refine lv_aload_n hx hb dX1_first_3 rfl (lv_at hl 1 rfl) ?_
    refine mg0 C hI dX1_first_4 ?_
    refine lv_icmp_ge (tgt := 32) hx hb dX1_first_7 (by decide) (fun c1 => ?_) (fun c1 => ?_)
    · exact absurd (nl_le (by omega) (by omega) c1) (by omega)
    · have hlt : j < N := nl_lt (by omega) (by omega) c1
      refine lv_iload_n hx hb dX1_first_10 rfl (lv_at hl 0 rfl) ?_
      refine lv_iload_n hx hb dX1_first_11 rfl (lv_at hl 3 rfl) ?_
      refine lv_icmp_eq (tgt := 26) hx hb dX1_first_12 (by decide) (fun c2 => ?_) (fun c2 => ?_)
      · refine lv_iinc (v := nI (j + 1)) (lv' := [(3, .int (nI (j + 1))), (0, .ref (G.2.1 0)), (1, .int k), (2, .int o)]) hx hb dX1_first_26 hl (k := 0) rfl (nI_1 j) (by decide) rfl (fun ls hl => ?_)
        refine lv_goto (tgt := 2) hx hb dX1_first_29 (by decide) ?_
        exact ih (j + 1) ls (by omega) (by rw [← hr]; exact (fsm_f n_ (by rw [decide_eq_true c2]; exact Bool.false_ne_true)).symm) hl
      · refine lv_aload_n hx hb dX1_first_15 rfl (lv_at hl 1 rfl) ?_
        refine lv_iload_n hx hb dX1_first_16 rfl (lv_at hl 0 rfl) ?_
        refine lv_iload_n hx hb dX1_first_17 rfl (lv_at hl 2 rfl) ?_
        refine km_matches (i := j) (by omega) C hI (hR.le (by decide)) hl.1 (Nat.le_of_ble_eq_true rfl) dX1_first_18 ?_
        refine lv_if_eq (tgt := 26) hx hb dX1_first_21 (by decide) (fun c3 => ?_) (fun c3 => ?_)
        · refine lv_iinc (v := nI (j + 1)) (lv' := [(3, .int (nI (j + 1))), (0, .ref (G.2.1 0)), (1, .int k), (2, .int o)]) hx hb dX1_first_26 hl (k := 0) rfl (nI_1 j) (by decide) rfl (fun ls hl => ?_)
          refine lv_goto (tgt := 2) hx hb dX1_first_29 (by decide) ?_
          exact ih (j + 1) ls (by omega) (by rw [← hr]; exact (fsm_f n_ (by rw [decide_eq_false (if0 c3), Bool.and_false]; exact Bool.false_ne_true)).symm) hl
        · refine lv_iload_n hx hb dX1_first_24 rfl (lv_at hl 0 rfl) ?_
          have e1 : r = nI j := by rw [← hr]; exact fsm_t n_ (by rw [decide_eq_true (if1 c3), decide_eq_false c2]; rfl)
          rw [← e1]
          exact ky ls
end MB
set_option maxHeartbeats 4000000 in
theorem metm_first (l : Launch) (G : GT) (hD : MD G) (fs : Nat → Int32) (ts : Nat → Int32) (fd : Nat → Int32) (td : Nat → Int32) (wh : Nat → Int32) (ak : Nat → Int32) (sv : Nat → Int32) (k : Int32) (o : Int32) (N : Nat) (hN : N ≤ 10) : Met l yX1_first (ws_ yX1_first cX1_first 4 (some .int)) (rmd 1) (mPc G ((nI N), fs, ts, fd, td, wh, ak, sv) [.int k, .int o]) (QcRead (mF fs ts fd td wh N k o)) 0 0 (fun _ => False) := by
  refine gMet (Rn := RX1) (by decide +kernel) rfl (Nat.le_of_ble_eq_true rfl) hD ?_
  intro p e s m below meth c ls C hr hlocks hI hl
  have hR := RL.rm 1
  have hx := C.1.1
  have hb := C.1.2.1
  have hl : lv_has ls 4 [(0, .ref (G.2.1 0)), (1, .int k), (2, .int o)] := hl
  refine lv_iconst (v := 0) hx hb dX1_first_0 (by decide) ?_
  refine lv_istore_n (lv' := [(3, .int 0), (0, .ref (G.2.1 0)), (1, .int k), (2, .int o)]) hx hb dX1_first_1 rfl hl (by decide) rfl (fun ls hl => ?_)
  refine mfi_l (r := mF fs ts fd td wh N k o) C hR hI hN (fun ls e1 => ?_) (fun ls => ?_) N 0 ls (by omega) rfl hl
  · refine lv_bipush (v := (-3 : Int32)) hx hb dX1_first_32 (by decide) ?_
    exact e_read hx hb hr hlocks e1.symm dX1_first_34
  · exact e_read hx hb hr hlocks rfl dX1_first_25
section MC1
variable {p : Program} {l : Launch} {e : Env} {R : Room} {s : State} {m : MethodId} {args : Array Value} {below : List Frame} {meth : Method} {c : Code} {H : Heap} {locs : List Loc} {Q : State → Prop} {G : GT}
theorem km_first {cc : ByteArray} {nL pc : Nat} {ls : Array Slot} {rest : List Value} {fs : Nat → Int32} {ts : Nat → Int32} {fd : Nat → Int32} {td : Nat → Int32} {wh : Nat → Int32} {ak : Nat → Int32} {sv : Nat → Int32} {k : Int32} {o : Int32} {N : Nat} (hN : N ≤ 10) (C : MC p s m args c cc nL G) (hI : MI G s (nI N, fs, ts, fd, td, wh, ak, sv) H locs) (hR : RL R 2) (hz : ls.size = nL) (hrm : (rest.map fun v => v.category).sum ≤ 8) (hd : decode cc pc = .ok (.invokevirtual 47, 3)) (kk : W p l e R s m args below meth c H locs 0 0 Q (F0 m (pc + 3) ls (.int (mF fs ts fd td wh N k o) :: rest))) : W p l e R s m args below meth c H locs 0 0 Q (F0 m pc ls (.int o :: .int k :: .ref (G.2.1 0) :: rest)) :=
  g_pure (n := 2) (metm_first l G C.2.2 fs ts fd td wh ak sv k o N hN) C hI rfl rfl rfl (lw_V q293 q295 qs28 q38 q296) (by decide +kernel) rfl rfl rfl ⟨hR.1, by have := hR.2; show 8 + (4 + 11) + 30 * 1 ≤ R.locals; omega⟩ hz rfl hrm hd kk
end MC1
set_option maxHeartbeats 4000000 in
theorem metm_decision (l : Launch) (G : GT) (hD : MD G) (fs : Nat → Int32) (ts : Nat → Int32) (fd : Nat → Int32) (td : Nat → Int32) (wh : Nat → Int32) (ak : Nat → Int32) (sv : Nat → Int32) (k : Int32) (o : Int32) (N : Nat) (hN : N ≤ 10) : Met l yX1_decision (ws_ yX1_decision cX1_decision 4 (some .int)) (rmd 2) (mPc G ((nI N), fs, ts, fd, td, wh, ak, sv) [.int k, .int o]) (QcRead (mD fs ts fd td wh ak N k o)) 0 0 (fun _ => False) := by
  refine gMet (Rn := RX1) (by decide +kernel) rfl (Nat.le_of_ble_eq_true rfl) hD ?_
  intro p e s m below meth c ls C hr hlocks hI hl
  have hR := RL.rm 2
  have hx := C.1.1
  have hb := C.1.2.1
  have hl : lv_has ls 4 [(0, .ref (G.2.1 0)), (1, .int k), (2, .int o)] := hl
  refine lv_aload_n hx hb dX1_decision_0 rfl (lv_at hl 0 rfl) ?_
  refine lv_iload_n hx hb dX1_decision_1 rfl (lv_at hl 1 rfl) ?_
  refine lv_iload_n hx hb dX1_decision_2 rfl (lv_at hl 2 rfl) ?_
  refine km_first (N := N) hN C hI (hR.le (by decide)) hl.1 (Nat.le_of_ble_eq_true rfl) dX1_decision_3 ?_
  refine lv_istore_n (lv' := [(3, .int (mF fs ts fd td wh N k o)), (0, .ref (G.2.1 0)), (1, .int k), (2, .int o)]) hx hb dX1_decision_6 rfl hl (by decide) rfl (fun ls hl => ?_)
  refine lv_iload_n hx hb dX1_decision_7 rfl (lv_at hl 0 rfl) ?_
  refine lv_bipush (v := (-3 : Int32)) hx hb dX1_decision_8 (by decide) ?_
  refine lv_icmp_ne (tgt := 17) hx hb dX1_decision_10 (by decide) (fun c1 => ?_) (fun c1 => ?_)
  · obtain ⟨j, hj, ej⟩ := mF_in hN c1
    refine lv_aload_n hx hb dX1_decision_17 rfl (lv_at hl 1 rfl) ?_
    refine mg6 C hI dX1_decision_18 ?_
    refine lv_iload_n hx hb dX1_decision_21 rfl (lv_at hl 0 rfl) ?_
    refine ml6 (i := ix (mF fs ts fd td wh N k o)) C hI (by rw [ej, ix_nI (by omega)]) (by rw [ej, ix_nI (by omega)]; omega) dX1_decision_22 ?_
    exact e_read hx hb hr hlocks (by rw [mD, if_neg c1]) dX1_decision_23
  · refine lv_iconst (v := 0) hx hb dX1_decision_13 (by decide) ?_
    refine lv_goto (tgt := 23) hx hb dX1_decision_14 (by decide) ?_
    exact e_read hx hb hr hlocks (by rw [mD, if_pos c1]) dX1_decision_23
section MD1
variable {p : Program} {l : Launch} {e : Env} {R : Room} {s : State} {m : MethodId} {args : Array Value} {below : List Frame} {meth : Method} {c : Code} {H : Heap} {locs : List Loc} {Q : State → Prop} {G : GT}
theorem km_decision {cc : ByteArray} {nL pc : Nat} {ls : Array Slot} {rest : List Value} {fs : Nat → Int32} {ts : Nat → Int32} {fd : Nat → Int32} {td : Nat → Int32} {wh : Nat → Int32} {ak : Nat → Int32} {sv : Nat → Int32} {k : Int32} {o : Int32} {N : Nat} (hN : N ≤ 10) (C : MC p s m args c cc nL G) (hI : MI G s (nI N, fs, ts, fd, td, wh, ak, sv) H locs) (hR : RL R 3) (hz : ls.size = nL) (hrm : (rest.map fun v => v.category).sum ≤ 8) (hd : decode cc pc = .ok (.invokevirtual 51, 3)) (kk : W p l e R s m args below meth c H locs 0 0 Q (F0 m (pc + 3) ls (.int (mD fs ts fd td wh ak N k o) :: rest))) : W p l e R s m args below meth c H locs 0 0 Q (F0 m pc ls (.int o :: .int k :: .ref (G.2.1 0) :: rest)) :=
  g_pure (n := 2) (metm_decision l G C.2.2 fs ts fd td wh ak sv k o N hN) C hI rfl rfl rfl (lw_V q318 q320 qs31 q38 q321) (by decide +kernel) rfl rfl rfl ⟨hR.1, by have := hR.2; show 8 + (4 + 11) + 30 * 2 ≤ R.locals; omega⟩ hz rfl hrm hd kk
end MD1
set_option maxHeartbeats 4000000 in
theorem metm_decider (l : Launch) (G : GT) (hD : MD G) (fs : Nat → Int32) (ts : Nat → Int32) (fd : Nat → Int32) (td : Nat → Int32) (wh : Nat → Int32) (ak : Nat → Int32) (sv : Nat → Int32) (x : Int32) (y : Int32) (z : Int32) (N : Nat) (hN : N ≤ 10) : Met l yX1_decider (ws_ yX1_decider cX1_decider 4 (some .int)) (rmd 2) (mPc G ((nI N), fs, ts, fd, td, wh, ak, sv) [.int x, .int y, .int z]) (QcRead (if okP x y z then mF fs ts fd td wh N (((32 * x) + (2 * y)) + z) (-1) else (-1))) 0 0 (fun _ => False) := by
  refine gMet (Rn := RX1) (by decide +kernel) rfl (Nat.le_of_ble_eq_true rfl) hD ?_
  intro p e s m below meth c ls C hr hlocks hI hl
  have hR := RL.rm 2
  have hx := C.1.1
  have hb := C.1.2.1
  have hl : lv_has ls 4 [(0, .ref (G.2.1 0)), (1, .int x), (2, .int y), (3, .int z)] := hl
  refine lv_iload_n hx hb dX1_decider_0 rfl (lv_at hl 1 rfl) ?_
  refine lv_if_lt (tgt := 29) hx hb dX1_decider_1 (by decide) (fun c1 => ?_) (fun c1 => ?_)
  · refine lv_iconst (v := (-1 : Int32)) hx hb dX1_decider_29 (by decide) ?_
    exact e_read hx hb hr hlocks (by rw [if_neg (by intro h; simp only [okP, i_le, i_lt] at h c1; omega)]) dX1_decider_30
  · refine lv_iload_n hx hb dX1_decider_4 rfl (lv_at hl 1 rfl) ?_
    refine lv_bipush (v := 15) hx hb dX1_decider_5 (by decide) ?_
    refine lv_icmp_gt (tgt := 29) hx hb dX1_decider_7 (by decide) (fun c2 => ?_) (fun c2 => ?_)
    · refine lv_iconst (v := (-1 : Int32)) hx hb dX1_decider_29 (by decide) ?_
      exact e_read hx hb hr hlocks (by rw [if_neg (by intro h; simp only [okP, i_le, i_lt] at h c1 c2; omega)]) dX1_decider_30
    · refine lv_iload_n hx hb dX1_decider_10 rfl (lv_at hl 2 rfl) ?_
      refine lv_if_lt (tgt := 29) hx hb dX1_decider_11 (by decide) (fun c3 => ?_) (fun c3 => ?_)
      · refine lv_iconst (v := (-1 : Int32)) hx hb dX1_decider_29 (by decide) ?_
        exact e_read hx hb hr hlocks (by rw [if_neg (by intro h; simp only [okP, i_le, i_lt] at h c1 c2 c3; omega)]) dX1_decider_30
      · refine lv_iload_n hx hb dX1_decider_14 rfl (lv_at hl 2 rfl) ?_
        refine lv_bipush (v := 15) hx hb dX1_decider_15 (by decide) ?_
        refine lv_icmp_gt (tgt := 29) hx hb dX1_decider_17 (by decide) (fun c4 => ?_) (fun c4 => ?_)
        · refine lv_iconst (v := (-1 : Int32)) hx hb dX1_decider_29 (by decide) ?_
          exact e_read hx hb hr hlocks (by rw [if_neg (by intro h; simp only [okP, i_le, i_lt] at h c1 c2 c3 c4; omega)]) dX1_decider_30
        · refine lv_iload_n hx hb dX1_decider_20 rfl (lv_at hl 3 rfl) ?_
          refine lv_if_lt (tgt := 29) hx hb dX1_decider_21 (by decide) (fun c5 => ?_) (fun c5 => ?_)
          · refine lv_iconst (v := (-1 : Int32)) hx hb dX1_decider_29 (by decide) ?_
            exact e_read hx hb hr hlocks (by rw [if_neg (by intro h; simp only [okP, i_le, i_lt] at h c1 c2 c3 c4 c5; omega)]) dX1_decider_30
          · refine lv_iload_n hx hb dX1_decider_24 rfl (lv_at hl 3 rfl) ?_
            refine lv_iconst (v := 1) hx hb dX1_decider_25 (by decide) ?_
            refine lv_icmp_le (tgt := 31) hx hb dX1_decider_26 (by decide) (fun c6 => ?_) (fun c6 => ?_)
            · have hok : okP x y z := by simp only [okP, i_le, i_lt] at c1 c2 c3 c4 c5 c6 ⊢; omega
              rw [if_pos hok]
              refine lv_aload_n hx hb dX1_decider_31 rfl (lv_at hl 0 rfl) ?_
              refine lv_bipush (v := 32) hx hb dX1_decider_32 (by decide) ?_
              refine lv_iload_n hx hb dX1_decider_34 rfl (lv_at hl 1 rfl) ?_
              refine lv_imul hx hb dX1_decider_35 ?_
              refine lv_iconst (v := 2) hx hb dX1_decider_36 (by decide) ?_
              refine lv_iload_n hx hb dX1_decider_37 rfl (lv_at hl 2 rfl) ?_
              refine lv_imul hx hb dX1_decider_38 ?_
              refine lv_iadd hx hb dX1_decider_39 ?_
              refine lv_iload_n hx hb dX1_decider_40 rfl (lv_at hl 3 rfl) ?_
              refine lv_iadd hx hb dX1_decider_41 ?_
              refine lv_iconst (v := (-1 : Int32)) hx hb dX1_decider_42 (by decide) ?_
              refine km_first (N := N) hN C hI (hR.le (by decide)) hl.1 (Nat.le_of_ble_eq_true rfl) dX1_decider_43 ?_
              exact e_read hx hb hr hlocks rfl dX1_decider_46
            · refine lv_iconst (v := (-1 : Int32)) hx hb dX1_decider_29 (by decide) ?_
              exact e_read hx hb hr hlocks (by rw [if_neg (by intro h; simp only [okP, i_le, i_lt] at h c1 c2 c3 c4 c5 c6; omega)]) dX1_decider_30
section ME1
variable {p : Program} {l : Launch} {e : Env} {R : Room} {s : State} {m : MethodId} {args : Array Value} {below : List Frame} {meth : Method} {c : Code} {H : Heap} {locs : List Loc} {Q : State → Prop} {G : GT}
set_option maxHeartbeats 4000000 in
theorem mow_l {fs : Nat → Int32} {ts : Nat → Int32} {fd : Nat → Int32} {td : Nat → Int32} {wh : Nat → Int32} {ak : Nat → Int32} {sv : Nat → Int32} {N : Nat} {x : Int32} {P : Nat → Bool} (C : MC p s m args c cX1_owned 5 G) (hR : RL R 2) (hI : MI G s ((nI N), fs, ts, fd, td, wh, ak, sv) s.heap []) (hN : N ≤ 10) (hP : P = mOwn fs ts fd td wh N x)
    (kk : ∀  (ls : Array Slot), lv_has ls 5 [(2, .int (nI (ctb P 512)))] → W p l e R s m args below meth c s.heap [] 0 0 Q (F0 m 44 ls [])) :
    ∀ (n_ : Nat) (j : Nat) (ls : Array Slot), j + n_ = 512 → lv_has ls 5 [(3, .int (nI j)), (2, .int (nI (ctb P j))), (0, .ref (G.2.1 0)), (1, .int x)] → W p l e R s m args below meth c s.heap [] 0 0 Q (F0 m 14 ls []) := by
  have hx := C.1.1
  have hb := C.1.2.1
  intro n_
  induction n_ with
  | zero =>
    intro j ls hj hl
    refine lv_iload_n hx hb dX1_owned_14 rfl (lv_at hl 0 rfl) ?_
    refine lv_sipush (v := 512) hx hb dX1_owned_15 (by decide) ?_
    refine lv_icmp_ge (tgt := 44) hx hb dX1_owned_18 (by decide) (fun c1 => ?_) (fun c1 => ?_)
    · have e1 : j = 512 := by omega
      subst e1
      exact kk ls (lv_sub hl [1] rfl)
    · exact absurd (nl_lt (a := 512) (by decide) (by omega) c1) (by omega)
  | succ n_ ih =>
    intro j ls hj hl
    refine lv_iload_n hx hb dX1_owned_14 rfl (lv_at hl 0 rfl) ?_
    refine lv_sipush (v := 512) hx hb dX1_owned_15 (by decide) ?_
    refine lv_icmp_ge (tgt := 44) hx hb dX1_owned_18 (by decide) (fun c1 => ?_) (fun c1 => ?_)
    · exact absurd (nl_le (a := 512) (by decide) (by omega) c1) (by omega)
    · refine lv_aload_n hx hb dX1_owned_21 rfl (lv_at hl 2 rfl) ?_
      refine lv_iload_n hx hb dX1_owned_22 rfl (lv_at hl 0 rfl) ?_
      refine lv_iconst (v := (-1 : Int32)) hx hb dX1_owned_23 (by decide) ?_
      refine km_first (N := N) hN C hI (hR.le (by decide)) hl.1 (Nat.le_of_ble_eq_true rfl) dX1_owned_24 ?_
      refine lv_istore (lv' := [(4, .int (mF fs ts fd td wh N ((nI j)) ((-1)))), (3, .int (nI j)), (2, .int (nI (ctb P j))), (0, .ref (G.2.1 0)), (1, .int x)]) hx hb dX1_owned_27 hl (by decide) rfl (fun ls hl => ?_)
      refine lv_iload hx hb dX1_owned_29 (lv_at hl 0 rfl) ?_
      refine lv_iload_n hx hb dX1_owned_31 rfl (lv_at hl 4 rfl) ?_
      refine lv_icmp_ne (tgt := 38) hx hb dX1_owned_32 (by decide) (fun c2 => ?_) (fun c2 => ?_)
      · have e2 : ctb P (j + 1) = ctb P j := ctb_f (by rw [hP]; simp only [mOwn, decide_eq_true_iff]; exact c2)
        refine lv_iinc (v := nI (j + 1)) (lv' := [(3, .int (nI (j + 1))), (4, .int (mF fs ts fd td wh N ((nI j)) ((-1)))), (2, .int (nI (ctb P j))), (0, .ref (G.2.1 0)), (1, .int x)]) hx hb dX1_owned_38 hl (k := 1) rfl (nI_1 j) (by decide) rfl (fun ls hl => ?_)
        refine lv_goto (tgt := 14) hx hb dX1_owned_41 (by decide) ?_
        exact ih (j + 1) ls (by omega) (by rw [e2]; exact lv_sub hl [0, 2, 3, 4] rfl)
      · have e2 : ctb P (j + 1) = ctb P j + 1 := ctb_t (by rw [hP]; simp only [mOwn, decide_eq_true_iff]; exact c2)
        refine lv_iinc (v := nI (ctb P j + 1)) (lv' := [(2, .int (nI (ctb P j + 1))), (4, .int (mF fs ts fd td wh N ((nI j)) ((-1)))), (3, .int (nI j)), (0, .ref (G.2.1 0)), (1, .int x)]) hx hb dX1_owned_35 hl (k := 2) rfl (nI_1 (ctb P j)) (by decide) rfl (fun ls hl => ?_)
        refine lv_iinc (v := nI (j + 1)) (lv' := [(3, .int (nI (j + 1))), (2, .int (nI (ctb P j + 1))), (4, .int (mF fs ts fd td wh N ((nI j)) ((-1)))), (0, .ref (G.2.1 0)), (1, .int x)]) hx hb dX1_owned_38 hl (k := 2) rfl (nI_1 j) (by decide) rfl (fun ls hl => ?_)
        refine lv_goto (tgt := 14) hx hb dX1_owned_41 (by decide) ?_
        exact ih (j + 1) ls (by omega) (by rw [e2]; exact lv_sub hl [0, 1, 3, 4] rfl)
set_option maxHeartbeats 4000000 in
theorem mch_l {fs : Nat → Int32} {ts : Nat → Int32} {fd : Nat → Int32} {td : Nat → Int32} {wh : Nat → Int32} {ak : Nat → Int32} {sv : Nat → Int32} {N : Nat} {P : Nat → Bool} (C : MC p s m args c cX1_changed 4 G) (hR : RL R 3) (hI : MI G s ((nI N), fs, ts, fd, td, wh, ak, sv) s.heap []) (hN : N ≤ 10) (hP : P = mCh fs ts fd td wh ak sv N)
    (kk : ∀  (ls : Array Slot), lv_has ls 4 [(1, .int (nI (ctb P 512)))] → W p l e R s m args below meth c s.heap [] 0 0 Q (F0 m 37 ls [])) :
    ∀ (n_ : Nat) (j : Nat) (ls : Array Slot), j + n_ = 512 → lv_has ls 4 [(2, .int (nI j)), (1, .int (nI (ctb P j))), (0, .ref (G.2.1 0))] → W p l e R s m args below meth c s.heap [] 0 0 Q (F0 m 4 ls []) := by
  have hx := C.1.1
  have hb := C.1.2.1
  intro n_
  induction n_ with
  | zero =>
    intro j ls hj hl
    refine lv_iload_n hx hb dX1_changed_4 rfl (lv_at hl 0 rfl) ?_
    refine lv_sipush (v := 512) hx hb dX1_changed_5 (by decide) ?_
    refine lv_icmp_ge (tgt := 37) hx hb dX1_changed_8 (by decide) (fun c1 => ?_) (fun c1 => ?_)
    · have e1 : j = 512 := by omega
      subst e1
      exact kk ls (lv_sub hl [1] rfl)
    · exact absurd (nl_lt (a := 512) (by decide) (by omega) c1) (by omega)
  | succ n_ ih =>
    intro j ls hj hl
    refine lv_iload_n hx hb dX1_changed_4 rfl (lv_at hl 0 rfl) ?_
    refine lv_sipush (v := 512) hx hb dX1_changed_5 (by decide) ?_
    refine lv_icmp_ge (tgt := 37) hx hb dX1_changed_8 (by decide) (fun c1 => ?_) (fun c1 => ?_)
    · exact absurd (nl_le (a := 512) (by decide) (by omega) c1) (by omega)
    · refine lv_aload_n hx hb dX1_changed_11 rfl (lv_at hl 2 rfl) ?_
      refine lv_iload_n hx hb dX1_changed_12 rfl (lv_at hl 0 rfl) ?_
      refine lv_iconst (v := (-1 : Int32)) hx hb dX1_changed_13 (by decide) ?_
      refine km_decision (N := N) hN C hI (hR.le (by decide)) hl.1 (Nat.le_of_ble_eq_true rfl) dX1_changed_14 ?_
      refine lv_istore_n (lv' := [(3, .int (mD fs ts fd td wh ak N ((nI j)) ((-1)))), (2, .int (nI j)), (1, .int (nI (ctb P j))), (0, .ref (G.2.1 0))]) hx hb dX1_changed_17 rfl hl (by decide) rfl (fun ls hl => ?_)
      refine lv_iload_n hx hb dX1_changed_18 rfl (lv_at hl 0 rfl) ?_
      refine lv_aload_n hx hb dX1_changed_19 rfl (lv_at hl 3 rfl) ?_
      refine mg7 C hI dX1_changed_20 ?_
      refine lv_iload_n hx hb dX1_changed_23 rfl (lv_at hl 1 rfl) ?_
      refine ml7 (i := j) C hI rfl (by omega) dX1_changed_24 ?_
      refine lv_icmp_eq (tgt := 31) hx hb dX1_changed_25 (by decide) (fun c2 => ?_) (fun c2 => ?_)
      · have e2 : ctb P (j + 1) = ctb P j := ctb_f (by rw [hP]; simp only [mCh, decide_eq_true c2]; exact Bool.false_ne_true)
        refine lv_iinc (v := nI (j + 1)) (lv' := [(2, .int (nI (j + 1))), (3, .int (mD fs ts fd td wh ak N ((nI j)) ((-1)))), (1, .int (nI (ctb P j))), (0, .ref (G.2.1 0))]) hx hb dX1_changed_31 hl (k := 1) rfl (nI_1 j) (by decide) rfl (fun ls hl => ?_)
        refine lv_goto (tgt := 4) hx hb dX1_changed_34 (by decide) ?_
        exact ih (j + 1) ls (by omega) (by rw [e2]; exact lv_sub hl [0, 2, 3] rfl)
      · have e2 : ctb P (j + 1) = ctb P j + 1 := ctb_t (by rw [hP]; simp only [mCh, decide_eq_false c2]; rfl)
        refine lv_iinc (v := nI (ctb P j + 1)) (lv' := [(1, .int (nI (ctb P j + 1))), (3, .int (mD fs ts fd td wh ak N ((nI j)) ((-1)))), (2, .int (nI j)), (0, .ref (G.2.1 0))]) hx hb dX1_changed_28 hl (k := 2) rfl (nI_1 (ctb P j)) (by decide) rfl (fun ls hl => ?_)
        refine lv_iinc (v := nI (j + 1)) (lv' := [(2, .int (nI (j + 1))), (1, .int (nI (ctb P j + 1))), (3, .int (mD fs ts fd td wh ak N ((nI j)) ((-1)))), (0, .ref (G.2.1 0))]) hx hb dX1_changed_31 hl (k := 2) rfl (nI_1 j) (by decide) rfl (fun ls hl => ?_)
        refine lv_goto (tgt := 4) hx hb dX1_changed_34 (by decide) ?_
        exact ih (j + 1) ls (by omega) (by rw [e2]; exact lv_sub hl [0, 1, 3] rfl)
set_option maxHeartbeats 4000000 in
theorem mfo_l {fs : Nat → Int32} {ts : Nat → Int32} {fd : Nat → Int32} {td : Nat → Int32} {wh : Nat → Int32} {ak : Nat → Int32} {sv : Nat → Int32} {N : Nat} {r : Int32} {x : Int32} {P : Nat → Bool} (C : MC p s m args c cX1_firstOwned 4 G) (hR : RL R 2) (hI : MI G s ((nI N), fs, ts, fd, td, wh, ak, sv) s.heap []) (hN : N ≤ 10) (hP : P = mOwn fs ts fd td wh N x) (kn : ∀ ls : Array Slot, r = (-3) → W p l e R s m args below meth c s.heap [] 0 0 Q (F0 m 39 ls [])) (ky : ∀ ls : Array Slot, W p l e R s m args below meth c s.heap [] 0 0 Q (F0 m 32 ls [.int r])) :
    ∀ (n_ : Nat) (j : Nat) (ls : Array Slot), j + n_ = 512 → fsm P j n_ = r → lv_has ls 4 [(2, .int (nI j)), (0, .ref (G.2.1 0)), (1, .int x)] → W p l e R s m args below meth c s.heap [] 0 0 Q (F0 m 12 ls []) := by
  have hx := C.1.1
  have hb := C.1.2.1
  intro n_
  induction n_ with
  | zero =>
    intro j ls hj hr hl
    refine lv_iload_n hx hb dX1_firstOwned_12 rfl (lv_at hl 0 rfl) ?_
    refine lv_sipush (v := 512) hx hb dX1_firstOwned_13 (by decide) ?_
    refine lv_icmp_ge (tgt := 39) hx hb dX1_firstOwned_16 (by decide) (fun c1 => ?_) (fun c1 => ?_)
    · exact kn ls hr.symm
    · exact absurd (nl_lt (a := 512) (by decide) (by omega) c1) (by omega)
  | succ n_ ih =>
    intro j ls hj hr hl
    refine lv_iload_n hx hb dX1_firstOwned_12 rfl (lv_at hl 0 rfl) ?_
    refine lv_sipush (v := 512) hx hb dX1_firstOwned_13 (by decide) ?_
    refine lv_icmp_ge (tgt := 39) hx hb dX1_firstOwned_16 (by decide) (fun c1 => ?_) (fun c1 => ?_)
    · exact absurd (nl_le (a := 512) (by decide) (by omega) c1) (by omega)
    · refine lv_aload_n hx hb dX1_firstOwned_19 rfl (lv_at hl 1 rfl) ?_
      refine lv_iload_n hx hb dX1_firstOwned_20 rfl (lv_at hl 0 rfl) ?_
      refine lv_iconst (v := (-1 : Int32)) hx hb dX1_firstOwned_21 (by decide) ?_
      refine km_first (N := N) hN C hI (hR.le (by decide)) hl.1 (Nat.le_of_ble_eq_true rfl) dX1_firstOwned_22 ?_
      refine lv_istore_n (lv' := [(3, .int (mF fs ts fd td wh N ((nI j)) ((-1)))), (2, .int (nI j)), (0, .ref (G.2.1 0)), (1, .int x)]) hx hb dX1_firstOwned_25 rfl hl (by decide) rfl (fun ls hl => ?_)
      refine lv_iload_n hx hb dX1_firstOwned_26 rfl (lv_at hl 0 rfl) ?_
      refine lv_iload_n hx hb dX1_firstOwned_27 rfl (lv_at hl 3 rfl) ?_
      refine lv_icmp_ne (tgt := 33) hx hb dX1_firstOwned_28 (by decide) (fun c2 => ?_) (fun c2 => ?_)
      · refine lv_iinc (v := nI (j + 1)) (lv' := [(2, .int (nI (j + 1))), (3, .int (mF fs ts fd td wh N ((nI j)) ((-1)))), (0, .ref (G.2.1 0)), (1, .int x)]) hx hb dX1_firstOwned_33 hl (k := 1) rfl (nI_1 j) (by decide) rfl (fun ls hl => ?_)
        refine lv_goto (tgt := 12) hx hb dX1_firstOwned_36 (by decide) ?_
        exact ih (j + 1) ls (by omega) (by rw [← hr]; exact (fsm_f n_ (by rw [hP]; simp only [mOwn, decide_eq_true_iff]; exact c2)).symm) (lv_sub hl [0, 2, 3] rfl)
      · refine lv_iload_n hx hb dX1_firstOwned_31 rfl (lv_at hl 1 rfl) ?_
        have e1 : r = nI j := by rw [← hr]; exact fsm_t n_ (by rw [hP]; simp only [mOwn, decide_eq_true_iff]; exact c2)
        rw [← e1]
        exact ky ls
set_option maxHeartbeats 4000000 in
theorem mfc_l {fs : Nat → Int32} {ts : Nat → Int32} {fd : Nat → Int32} {td : Nat → Int32} {wh : Nat → Int32} {ak : Nat → Int32} {sv : Nat → Int32} {N : Nat} {r : Int32} {P : Nat → Bool} (C : MC p s m args c cX1_firstChanged 3 G) (hR : RL R 3) (hI : MI G s ((nI N), fs, ts, fd, td, wh, ak, sv) s.heap []) (hN : N ≤ 10) (hP : P = mCh fs ts fd td wh ak sv N) (kn : ∀ ls : Array Slot, r = (-3) → W p l e R s m args below meth c s.heap [] 0 0 Q (F0 m 34 ls [])) (ky : ∀ ls : Array Slot, W p l e R s m args below meth c s.heap [] 0 0 Q (F0 m 27 ls [.int r])) :
    ∀ (n_ : Nat) (j : Nat) (ls : Array Slot), j + n_ = 512 → fsm P j n_ = r → lv_has ls 3 [(1, .int (nI j)), (0, .ref (G.2.1 0))] → W p l e R s m args below meth c s.heap [] 0 0 Q (F0 m 2 ls []) := by
  have hx := C.1.1
  have hb := C.1.2.1
  intro n_
  induction n_ with
  | zero =>
    intro j ls hj hr hl
    refine lv_iload_n hx hb dX1_firstChanged_2 rfl (lv_at hl 0 rfl) ?_
    refine lv_sipush (v := 512) hx hb dX1_firstChanged_3 (by decide) ?_
    refine lv_icmp_ge (tgt := 34) hx hb dX1_firstChanged_6 (by decide) (fun c1 => ?_) (fun c1 => ?_)
    · exact kn ls hr.symm
    · exact absurd (nl_lt (a := 512) (by decide) (by omega) c1) (by omega)
  | succ n_ ih =>
    intro j ls hj hr hl
    refine lv_iload_n hx hb dX1_firstChanged_2 rfl (lv_at hl 0 rfl) ?_
    refine lv_sipush (v := 512) hx hb dX1_firstChanged_3 (by decide) ?_
    refine lv_icmp_ge (tgt := 34) hx hb dX1_firstChanged_6 (by decide) (fun c1 => ?_) (fun c1 => ?_)
    · exact absurd (nl_le (a := 512) (by decide) (by omega) c1) (by omega)
    · refine lv_aload_n hx hb dX1_firstChanged_9 rfl (lv_at hl 1 rfl) ?_
      refine lv_iload_n hx hb dX1_firstChanged_10 rfl (lv_at hl 0 rfl) ?_
      refine lv_iconst (v := (-1 : Int32)) hx hb dX1_firstChanged_11 (by decide) ?_
      refine km_decision (N := N) hN C hI (hR.le (by decide)) hl.1 (Nat.le_of_ble_eq_true rfl) dX1_firstChanged_12 ?_
      refine lv_istore_n (lv' := [(2, .int (mD fs ts fd td wh ak N ((nI j)) ((-1)))), (1, .int (nI j)), (0, .ref (G.2.1 0))]) hx hb dX1_firstChanged_15 rfl hl (by decide) rfl (fun ls hl => ?_)
      refine lv_iload_n hx hb dX1_firstChanged_16 rfl (lv_at hl 0 rfl) ?_
      refine lv_aload_n hx hb dX1_firstChanged_17 rfl (lv_at hl 2 rfl) ?_
      refine mg7 C hI dX1_firstChanged_18 ?_
      refine lv_iload_n hx hb dX1_firstChanged_21 rfl (lv_at hl 1 rfl) ?_
      refine ml7 (i := j) C hI rfl (by omega) dX1_firstChanged_22 ?_
      refine lv_icmp_eq (tgt := 28) hx hb dX1_firstChanged_23 (by decide) (fun c2 => ?_) (fun c2 => ?_)
      · refine lv_iinc (v := nI (j + 1)) (lv' := [(1, .int (nI (j + 1))), (2, .int (mD fs ts fd td wh ak N ((nI j)) ((-1)))), (0, .ref (G.2.1 0))]) hx hb dX1_firstChanged_28 hl (k := 1) rfl (nI_1 j) (by decide) rfl (fun ls hl => ?_)
        refine lv_goto (tgt := 2) hx hb dX1_firstChanged_31 (by decide) ?_
        exact ih (j + 1) ls (by omega) (by rw [← hr]; exact (fsm_f n_ (by rw [hP]; simp only [mCh, decide_eq_true c2]; exact Bool.false_ne_true)).symm) (lv_sub hl [0, 2] rfl)
      · refine lv_iload_n hx hb dX1_firstChanged_26 rfl (lv_at hl 1 rfl) ?_
        have e1 : r = nI j := by rw [← hr]; exact fsm_t n_ (by rw [hP]; simp only [mCh, decide_eq_false c2]; rfl)
        rw [← e1]
        exact ky ls
set_option maxHeartbeats 4000000 in
theorem mco_l {fs : Nat → Int32} {ts : Nat → Int32} {fd : Nat → Int32} {td : Nat → Int32} {wh : Nat → Int32} {ak : Nat → Int32} {sv : Nat → Int32} {N : Nat} {r : Bool} {P : Nat → Bool} {i : Nat} (C : MC p s m args c cX1_contradicted 3 G) (hR : RL R 3) (hI : MI G s ((nI N), fs, ts, fd, td, wh, ak, sv) s.heap []) (hN : N ≤ 10) (hi : i < N) (hP : P = mCon fs ts fd td wh ak N i) (kn : ∀ ls : Array Slot, r = false → W p l e R s m args below meth c s.heap [] 0 0 Q (F0 m 41 ls [])) (ky : ∀ ls : Array Slot, r = true → W p l e R s m args below meth c s.heap [] 0 0 Q (F0 m 33 ls [])) :
    ∀ (n_ : Nat) (j : Nat) (ls : Array Slot), j + n_ = 512 → anb P j n_ = r → lv_has ls 3 [(2, .int (nI j)), (0, .ref (G.2.1 0)), (1, .int (nI i))] → W p l e R s m args below meth c s.heap [] 0 0 Q (F0 m 2 ls []) := by
  have hx := C.1.1
  have hb := C.1.2.1
  intro n_
  induction n_ with
  | zero =>
    intro j ls hj hr hl
    refine lv_iload_n hx hb dX1_contradicted_2 rfl (lv_at hl 0 rfl) ?_
    refine lv_sipush (v := 512) hx hb dX1_contradicted_3 (by decide) ?_
    refine lv_icmp_ge (tgt := 41) hx hb dX1_contradicted_6 (by decide) (fun c1 => ?_) (fun c1 => ?_)
    · exact kn ls hr.symm
    · exact absurd (nl_lt (a := 512) (by decide) (by omega) c1) (by omega)
  | succ n_ ih =>
    intro j ls hj hr hl
    refine lv_iload_n hx hb dX1_contradicted_2 rfl (lv_at hl 0 rfl) ?_
    refine lv_sipush (v := 512) hx hb dX1_contradicted_3 (by decide) ?_
    refine lv_icmp_ge (tgt := 41) hx hb dX1_contradicted_6 (by decide) (fun c1 => ?_) (fun c1 => ?_)
    · exact absurd (nl_le (a := 512) (by decide) (by omega) c1) (by omega)
    · refine lv_aload_n hx hb dX1_contradicted_9 rfl (lv_at hl 1 rfl) ?_
      refine lv_iload_n hx hb dX1_contradicted_10 rfl (lv_at hl 2 rfl) ?_
      refine lv_iload_n hx hb dX1_contradicted_11 rfl (lv_at hl 0 rfl) ?_
      refine km_matches (i := i) (by omega) C hI (hR.le (by decide)) hl.1 (Nat.le_of_ble_eq_true rfl) dX1_contradicted_12 ?_
      refine lv_if_eq (tgt := 35) hx hb dX1_contradicted_15 (by decide) (fun c2 => ?_) (fun c2 => ?_)
      · refine lv_iinc (v := nI (j + 1)) (lv' := [(2, .int (nI (j + 1))), (0, .ref (G.2.1 0)), (1, .int (nI i))]) hx hb dX1_contradicted_35 hl (k := 0) rfl (nI_1 j) (by decide) rfl (fun ls hl => ?_)
        refine lv_goto (tgt := 2) hx hb dX1_contradicted_38 (by decide) ?_
        exact ih (j + 1) ls (by omega) (by rw [← hr]; exact (anb_f n_ (by rw [hP]; simp only [mCon, decide_eq_false (if0 c2)]; exact Bool.false_ne_true)).symm) (lv_sub hl [0, 1, 2] rfl)
      · refine lv_aload_n hx hb dX1_contradicted_18 rfl (lv_at hl 1 rfl) ?_
        refine lv_iload_n hx hb dX1_contradicted_19 rfl (lv_at hl 0 rfl) ?_
        refine lv_iconst (v := (-1 : Int32)) hx hb dX1_contradicted_20 (by decide) ?_
        refine km_decision (N := N) hN C hI (hR.le (by decide)) hl.1 (Nat.le_of_ble_eq_true rfl) dX1_contradicted_21 ?_
        refine lv_aload_n hx hb dX1_contradicted_24 rfl (lv_at hl 1 rfl) ?_
        refine mg6 C hI dX1_contradicted_25 ?_
        refine lv_iload_n hx hb dX1_contradicted_28 rfl (lv_at hl 2 rfl) ?_
        refine ml6 (i := i) C hI rfl (by omega) dX1_contradicted_29 ?_
        refine lv_icmp_eq (tgt := 35) hx hb dX1_contradicted_30 (by decide) (fun c3 => ?_) (fun c3 => ?_)
        · refine lv_iinc (v := nI (j + 1)) (lv' := [(2, .int (nI (j + 1))), (0, .ref (G.2.1 0)), (1, .int (nI i))]) hx hb dX1_contradicted_35 hl (k := 0) rfl (nI_1 j) (by decide) rfl (fun ls hl => ?_)
          refine lv_goto (tgt := 2) hx hb dX1_contradicted_38 (by decide) ?_
          exact ih (j + 1) ls (by omega) (by rw [← hr]; exact (anb_f n_ (by rw [hP]; simp only [mCon, decide_eq_true c3, Bool.not_true, Bool.and_false]; exact Bool.false_ne_true)).symm) (lv_sub hl [0, 1, 2] rfl)
        · exact ky ls (by rw [← hr]; exact anb_t n_ (by rw [hP]; simp only [mCon, decide_eq_true (if1 c2), decide_eq_false c3]; rfl))
set_option maxHeartbeats 4000000 in
theorem mmi_l {fs : Nat → Int32} {ts : Nat → Int32} {fd : Nat → Int32} {td : Nat → Int32} {wh : Nat → Int32} {ak : Nat → Int32} {sv : Nat → Int32} {N : Nat} {r : Bool} {P : Nat → Bool} {i : Nat} (C : MC p s m args c cX1_missed 3 G) (hR : RL R 3) (hI : MI G s ((nI N), fs, ts, fd, td, wh, ak, sv) s.heap []) (hN : N ≤ 10) (hi : i < N) (hP : P = mMis fs ts fd td wh ak N i) (kn : ∀ ls : Array Slot, r = false → W p l e R s m args below meth c s.heap [] 0 0 Q (F0 m 32 ls [])) (ky : ∀ ls : Array Slot, r = true → W p l e R s m args below meth c s.heap [] 0 0 Q (F0 m 24 ls [])) :
    ∀ (n_ : Nat) (j : Nat) (ls : Array Slot), j + n_ = 512 → anb P j n_ = r → lv_has ls 3 [(2, .int (nI j)), (0, .ref (G.2.1 0)), (1, .int (nI i))] → W p l e R s m args below meth c s.heap [] 0 0 Q (F0 m 2 ls []) := by
  have hx := C.1.1
  have hb := C.1.2.1
  intro n_
  induction n_ with
  | zero =>
    intro j ls hj hr hl
    refine lv_iload_n hx hb dX1_missed_2 rfl (lv_at hl 0 rfl) ?_
    refine lv_sipush (v := 512) hx hb dX1_missed_3 (by decide) ?_
    refine lv_icmp_ge (tgt := 32) hx hb dX1_missed_6 (by decide) (fun c1 => ?_) (fun c1 => ?_)
    · exact kn ls hr.symm
    · exact absurd (nl_lt (a := 512) (by decide) (by omega) c1) (by omega)
  | succ n_ ih =>
    intro j ls hj hr hl
    refine lv_iload_n hx hb dX1_missed_2 rfl (lv_at hl 0 rfl) ?_
    refine lv_sipush (v := 512) hx hb dX1_missed_3 (by decide) ?_
    refine lv_icmp_ge (tgt := 32) hx hb dX1_missed_6 (by decide) (fun c1 => ?_) (fun c1 => ?_)
    · exact absurd (nl_le (a := 512) (by decide) (by omega) c1) (by omega)
    · refine lv_aload_n hx hb dX1_missed_9 rfl (lv_at hl 1 rfl) ?_
      refine lv_iload_n hx hb dX1_missed_10 rfl (lv_at hl 0 rfl) ?_
      refine lv_iconst (v := (-1 : Int32)) hx hb dX1_missed_11 (by decide) ?_
      refine km_decision (N := N) hN C hI (hR.le (by decide)) hl.1 (Nat.le_of_ble_eq_true rfl) dX1_missed_12 ?_
      refine lv_aload_n hx hb dX1_missed_15 rfl (lv_at hl 1 rfl) ?_
      refine lv_iload_n hx hb dX1_missed_16 rfl (lv_at hl 0 rfl) ?_
      refine lv_iload_n hx hb dX1_missed_17 rfl (lv_at hl 2 rfl) ?_
      refine km_decision (N := N) hN C hI (hR.le (by decide)) hl.1 (Nat.le_of_ble_eq_true rfl) dX1_missed_18 ?_
      refine lv_icmp_eq (tgt := 26) hx hb dX1_missed_21 (by decide) (fun c2 => ?_) (fun c2 => ?_)
      · refine lv_iinc (v := nI (j + 1)) (lv' := [(2, .int (nI (j + 1))), (0, .ref (G.2.1 0)), (1, .int (nI i))]) hx hb dX1_missed_26 hl (k := 0) rfl (nI_1 j) (by decide) rfl (fun ls hl => ?_)
        refine lv_goto (tgt := 2) hx hb dX1_missed_29 (by decide) ?_
        exact ih (j + 1) ls (by omega) (by rw [← hr]; exact (anb_f n_ (by rw [hP]; simp only [mMis, decide_eq_true c2]; exact Bool.false_ne_true)).symm) (lv_sub hl [0, 1, 2] rfl)
      · exact ky ls (by rw [← hr]; exact anb_t n_ (by rw [hP]; simp only [mMis, decide_eq_false c2]; rfl))
set_option maxHeartbeats 4000000 in
theorem mso_l {fs : Nat → Int32} {ts : Nat → Int32} {fd : Nat → Int32} {td : Nat → Int32} {wh : Nat → Int32} {ak : Nat → Int32} {sv : Nat → Int32} {N : Nat} {r : Bool} {P : Nat → Bool} {i i2 : Nat} {x y : Int32} (C : MC p s m args c cX1_some 6 G) (hR : RL R 1) (hI : MI G s ((nI N), fs, ts, fd, td, wh, ak, sv) s.heap []) (hN : N ≤ 10) (hi : i < N) (hi2 : i2 < N) (hP : P = mSo fs ts fd td wh i x i2 y) (kn : ∀ ls : Array Slot, r = false → W p l e R s m args below meth c s.heap [] 0 0 Q (F0 m 42 ls [])) (ky : ∀ ls : Array Slot, r = true → W p l e R s m args below meth c s.heap [] 0 0 Q (F0 m 34 ls [])) :
    ∀ (n_ : Nat) (j : Nat) (ls : Array Slot), j + n_ = 512 → anb P j n_ = r → lv_has ls 6 [(5, .int (nI j)), (0, .ref (G.2.1 0)), (1, .int (nI i)), (2, .int x), (3, .int (nI i2)), (4, .int y)] → W p l e R s m args below meth c s.heap [] 0 0 Q (F0 m 3 ls []) := by
  have hx := C.1.1
  have hb := C.1.2.1
  intro n_
  induction n_ with
  | zero =>
    intro j ls hj hr hl
    refine lv_iload hx hb dX1_some_3 (lv_at hl 0 rfl) ?_
    refine lv_sipush (v := 512) hx hb dX1_some_5 (by decide) ?_
    refine lv_icmp_ge (tgt := 42) hx hb dX1_some_8 (by decide) (fun c1 => ?_) (fun c1 => ?_)
    · exact kn ls hr.symm
    · exact absurd (nl_lt (a := 512) (by decide) (by omega) c1) (by omega)
  | succ n_ ih =>
    intro j ls hj hr hl
    refine lv_iload hx hb dX1_some_3 (lv_at hl 0 rfl) ?_
    refine lv_sipush (v := 512) hx hb dX1_some_5 (by decide) ?_
    refine lv_icmp_ge (tgt := 42) hx hb dX1_some_8 (by decide) (fun c1 => ?_) (fun c1 => ?_)
    · exact absurd (nl_le (a := 512) (by decide) (by omega) c1) (by omega)
    · refine lv_aload_n hx hb dX1_some_11 rfl (lv_at hl 1 rfl) ?_
      refine lv_iload_n hx hb dX1_some_12 rfl (lv_at hl 2 rfl) ?_
      refine lv_iload hx hb dX1_some_13 (lv_at hl 0 rfl) ?_
      refine km_matches (i := i) (by omega) C hI (hR.le (by decide)) hl.1 (Nat.le_of_ble_eq_true rfl) dX1_some_15 ?_
      refine lv_iload_n hx hb dX1_some_18 rfl (lv_at hl 3 rfl) ?_
      refine lv_icmp_ne (tgt := 36) hx hb dX1_some_19 (by decide) (fun c2 => ?_) (fun c2 => ?_)
      · refine lv_iinc (v := nI (j + 1)) (lv' := [(5, .int (nI (j + 1))), (0, .ref (G.2.1 0)), (1, .int (nI i)), (2, .int x), (3, .int (nI i2)), (4, .int y)]) hx hb dX1_some_36 hl (k := 0) rfl (nI_1 j) (by decide) rfl (fun ls hl => ?_)
        refine lv_goto (tgt := 3) hx hb dX1_some_39 (by decide) ?_
        exact ih (j + 1) ls (by omega) (by rw [← hr]; exact (anb_f n_ (by rw [hP]; simp only [mSo, decide_eq_false c2]; exact Bool.false_ne_true)).symm) (lv_sub hl [0, 1, 2, 3, 4, 5] rfl)
      · refine lv_aload_n hx hb dX1_some_22 rfl (lv_at hl 1 rfl) ?_
        refine lv_iload_n hx hb dX1_some_23 rfl (lv_at hl 4 rfl) ?_
        refine lv_iload hx hb dX1_some_24 (lv_at hl 0 rfl) ?_
        refine km_matches (i := i2) (by omega) C hI (hR.le (by decide)) hl.1 (Nat.le_of_ble_eq_true rfl) dX1_some_26 ?_
        refine lv_iload hx hb dX1_some_29 (lv_at hl 5 rfl) ?_
        refine lv_icmp_ne (tgt := 36) hx hb dX1_some_31 (by decide) (fun c3 => ?_) (fun c3 => ?_)
        · refine lv_iinc (v := nI (j + 1)) (lv' := [(5, .int (nI (j + 1))), (0, .ref (G.2.1 0)), (1, .int (nI i)), (2, .int x), (3, .int (nI i2)), (4, .int y)]) hx hb dX1_some_36 hl (k := 0) rfl (nI_1 j) (by decide) rfl (fun ls hl => ?_)
          refine lv_goto (tgt := 3) hx hb dX1_some_39 (by decide) ?_
          exact ih (j + 1) ls (by omega) (by rw [← hr]; exact (anb_f n_ (by rw [hP]; simp only [mSo, decide_eq_false c3, Bool.and_false]; exact Bool.false_ne_true)).symm) (lv_sub hl [0, 1, 2, 3, 4, 5] rfl)
        · exact ky ls (by rw [← hr]; exact anb_t n_ (by rw [hP]; simp only [mSo, decide_eq_true c2, decide_eq_true c3]; rfl))
end ME1
set_option maxHeartbeats 4000000 in
theorem metm_owned (l : Launch) (G : GT) (hD : MD G) (fs : Nat → Int32) (ts : Nat → Int32) (fd : Nat → Int32) (td : Nat → Int32) (wh : Nat → Int32) (ak : Nat → Int32) (sv : Nat → Int32) (x : Int32) (N : Nat) (hN : N ≤ 10) : Met l yX1_owned (ws_ yX1_owned cX1_owned 5 (some .int)) (rmd 2) (mPc G ((nI N), fs, ts, fd, td, wh, ak, sv) [.int x]) (QcRead (if isR x N then nI (ctb (mOwn fs ts fd td wh N x) 512) else (-1))) 0 0 (fun _ => False) := by
  refine gMet (Rn := RX1) (by decide +kernel) rfl (Nat.le_of_ble_eq_true rfl) hD ?_
  intro p e s m below meth c ls C hr hlocks hI hl
  have hR := RL.rm 2
  have hx := C.1.1
  have hb := C.1.2.1
  have hl : lv_has ls 5 [(0, .ref (G.2.1 0)), (1, .int x)] := hl
  refine lv_aload_n hx hb dX1_owned_0 rfl (lv_at hl 0 rfl) ?_
  refine lv_iload_n hx hb dX1_owned_1 rfl (lv_at hl 1 rfl) ?_
  refine km_isRule C hI (hR.le (by decide)) hl.1 (Nat.le_of_ble_eq_true rfl) dX1_owned_2 ?_
  refine lv_if_ne (tgt := 10) hx hb dX1_owned_5 (by decide) (fun c1 => ?_) (fun c1 => ?_)
  · have c1 := if1 c1
    have c1 : isR x N := c1
    rw [if_pos c1]
    refine lv_iconst (v := 0) hx hb dX1_owned_10 (by decide) ?_
    refine lv_istore_n (lv' := [(2, .int 0), (0, .ref (G.2.1 0)), (1, .int x)]) hx hb dX1_owned_11 rfl hl (by decide) rfl (fun ls hl => ?_)
    refine lv_iconst (v := 0) hx hb dX1_owned_12 (by decide) ?_
    refine lv_istore_n (lv' := [(3, .int 0), (2, .int 0), (0, .ref (G.2.1 0)), (1, .int x)]) hx hb dX1_owned_13 rfl hl (by decide) rfl (fun ls hl => ?_)
    refine mow_l (P := mOwn fs ts fd td wh N x) C hR hI hN rfl (fun ls hl => ?_) 512 0 ls (by omega) (lv_sub hl [0, 1, 2, 3] rfl)
    refine lv_iload_n hx hb dX1_owned_44 rfl (lv_at hl 0 rfl) ?_
    exact e_read hx hb hr hlocks rfl dX1_owned_45
  · have c1 := if0 c1
    refine lv_iconst (v := (-1 : Int32)) hx hb dX1_owned_8 (by decide) ?_
    exact e_read hx hb hr hlocks (by rw [if_neg c1]) dX1_owned_9
set_option maxHeartbeats 4000000 in
theorem metm_firstOwned (l : Launch) (G : GT) (hD : MD G) (fs : Nat → Int32) (ts : Nat → Int32) (fd : Nat → Int32) (td : Nat → Int32) (wh : Nat → Int32) (ak : Nat → Int32) (sv : Nat → Int32) (x : Int32) (N : Nat) (hN : N ≤ 10) : Met l yX1_firstOwned (ws_ yX1_firstOwned cX1_firstOwned 4 (some .int)) (rmd 2) (mPc G ((nI N), fs, ts, fd, td, wh, ak, sv) [.int x]) (QcRead (if isR x N then fsm (mOwn fs ts fd td wh N x) 0 512 else (-1))) 0 0 (fun _ => False) := by
  refine gMet (Rn := RX1) (by decide +kernel) rfl (Nat.le_of_ble_eq_true rfl) hD ?_
  intro p e s m below meth c ls C hr hlocks hI hl
  have hR := RL.rm 2
  have hx := C.1.1
  have hb := C.1.2.1
  have hl : lv_has ls 4 [(0, .ref (G.2.1 0)), (1, .int x)] := hl
  refine lv_aload_n hx hb dX1_firstOwned_0 rfl (lv_at hl 0 rfl) ?_
  refine lv_iload_n hx hb dX1_firstOwned_1 rfl (lv_at hl 1 rfl) ?_
  refine km_isRule C hI (hR.le (by decide)) hl.1 (Nat.le_of_ble_eq_true rfl) dX1_firstOwned_2 ?_
  refine lv_if_ne (tgt := 10) hx hb dX1_firstOwned_5 (by decide) (fun c1 => ?_) (fun c1 => ?_)
  · have c1 := if1 c1
    have c1 : isR x N := c1
    rw [if_pos c1]
    refine lv_iconst (v := 0) hx hb dX1_firstOwned_10 (by decide) ?_
    refine lv_istore_n (lv' := [(2, .int 0), (0, .ref (G.2.1 0)), (1, .int x)]) hx hb dX1_firstOwned_11 rfl hl (by decide) rfl (fun ls hl => ?_)
    refine mfo_l (P := mOwn fs ts fd td wh N x) (r := fsm (mOwn fs ts fd td wh N x) 0 512) C hR hI hN rfl (fun ls e1 => ?_) (fun ls => ?_) 512 0 ls (by omega) rfl (lv_sub hl [0, 1, 2] rfl)
    · refine lv_bipush (v := (-3 : Int32)) hx hb dX1_firstOwned_39 (by decide) ?_
      exact e_read hx hb hr hlocks e1.symm dX1_firstOwned_41
    · exact e_read hx hb hr hlocks rfl dX1_firstOwned_32
  · have c1 := if0 c1
    refine lv_iconst (v := (-1 : Int32)) hx hb dX1_firstOwned_8 (by decide) ?_
    exact e_read hx hb hr hlocks (by rw [if_neg c1]) dX1_firstOwned_9
set_option maxHeartbeats 4000000 in
theorem metm_changed (l : Launch) (G : GT) (hD : MD G) (fs : Nat → Int32) (ts : Nat → Int32) (fd : Nat → Int32) (td : Nat → Int32) (wh : Nat → Int32) (ak : Nat → Int32) (sv : Nat → Int32)  (N : Nat) (hN : N ≤ 10) : Met l yX1_changed (ws_ yX1_changed cX1_changed 4 (some .int)) (rmd 3) (mPc G ((nI N), fs, ts, fd, td, wh, ak, sv) []) (QcRead (nI (ctb (mCh fs ts fd td wh ak sv N) 512))) 0 0 (fun _ => False) := by
  refine gMet (Rn := RX1) (by decide +kernel) rfl (Nat.le_of_ble_eq_true rfl) hD ?_
  intro p e s m below meth c ls C hr hlocks hI hl
  have hR := RL.rm 3
  have hx := C.1.1
  have hb := C.1.2.1
  have hl : lv_has ls 4 [(0, .ref (G.2.1 0))] := hl
  refine lv_iconst (v := 0) hx hb dX1_changed_0 (by decide) ?_
  refine lv_istore_n (lv' := [(1, .int 0), (0, .ref (G.2.1 0))]) hx hb dX1_changed_1 rfl hl (by decide) rfl (fun ls hl => ?_)
  refine lv_iconst (v := 0) hx hb dX1_changed_2 (by decide) ?_
  refine lv_istore_n (lv' := [(2, .int 0), (1, .int 0), (0, .ref (G.2.1 0))]) hx hb dX1_changed_3 rfl hl (by decide) rfl (fun ls hl => ?_)
  refine mch_l (P := mCh fs ts fd td wh ak sv N) C hR hI hN rfl (fun ls hl => ?_) 512 0 ls (by omega) (lv_sub hl [0, 1, 2] rfl)
  refine lv_iload_n hx hb dX1_changed_37 rfl (lv_at hl 0 rfl) ?_
  exact e_read hx hb hr hlocks rfl dX1_changed_38
set_option maxHeartbeats 4000000 in
theorem metm_firstChanged (l : Launch) (G : GT) (hD : MD G) (fs : Nat → Int32) (ts : Nat → Int32) (fd : Nat → Int32) (td : Nat → Int32) (wh : Nat → Int32) (ak : Nat → Int32) (sv : Nat → Int32)  (N : Nat) (hN : N ≤ 10) : Met l yX1_firstChanged (ws_ yX1_firstChanged cX1_firstChanged 3 (some .int)) (rmd 3) (mPc G ((nI N), fs, ts, fd, td, wh, ak, sv) []) (QcRead (fsm (mCh fs ts fd td wh ak sv N) 0 512)) 0 0 (fun _ => False) := by
  refine gMet (Rn := RX1) (by decide +kernel) rfl (Nat.le_of_ble_eq_true rfl) hD ?_
  intro p e s m below meth c ls C hr hlocks hI hl
  have hR := RL.rm 3
  have hx := C.1.1
  have hb := C.1.2.1
  have hl : lv_has ls 3 [(0, .ref (G.2.1 0))] := hl
  refine lv_iconst (v := 0) hx hb dX1_firstChanged_0 (by decide) ?_
  refine lv_istore_n (lv' := [(1, .int 0), (0, .ref (G.2.1 0))]) hx hb dX1_firstChanged_1 rfl hl (by decide) rfl (fun ls hl => ?_)
  refine mfc_l (P := mCh fs ts fd td wh ak sv N) (r := fsm (mCh fs ts fd td wh ak sv N) 0 512) C hR hI hN rfl (fun ls e1 => ?_) (fun ls => ?_) 512 0 ls (by omega) rfl (lv_sub hl [0, 1] rfl)
  · refine lv_bipush (v := (-3 : Int32)) hx hb dX1_firstChanged_34 (by decide) ?_
    exact e_read hx hb hr hlocks e1.symm dX1_firstChanged_36
  · exact e_read hx hb hr hlocks rfl dX1_firstChanged_27
set_option maxHeartbeats 4000000 in
theorem metm_contradicted (l : Launch) (G : GT) (hD : MD G) (fs : Nat → Int32) (ts : Nat → Int32) (fd : Nat → Int32) (td : Nat → Int32) (wh : Nat → Int32) (ak : Nat → Int32) (sv : Nat → Int32)  (N i : Nat) (hN : N ≤ 10) (hi : i < N) : Met l yX1_contradicted (ws_ yX1_contradicted cX1_contradicted 3 (some .boolean)) (rmd 3) (mPc G ((nI N), fs, ts, fd, td, wh, ak, sv) [.int ((nI i))]) (QcRead (if anb (mCon fs ts fd td wh ak N i) 0 512 = true then 1 else 0)) 0 0 (fun _ => False) := by
  refine gMet (Rn := RX1) (by decide +kernel) rfl (Nat.le_of_ble_eq_true rfl) hD ?_
  intro p e s m below meth c ls C hr hlocks hI hl
  have hR := RL.rm 3
  have hx := C.1.1
  have hb := C.1.2.1
  have hl : lv_has ls 3 [(0, .ref (G.2.1 0)), (1, .int ((nI i)))] := hl
  refine lv_iconst (v := 0) hx hb dX1_contradicted_0 (by decide) ?_
  refine lv_istore_n (lv' := [(2, .int 0), (0, .ref (G.2.1 0)), (1, .int ((nI i)))]) hx hb dX1_contradicted_1 rfl hl (by decide) rfl (fun ls hl => ?_)
  refine mco_l (N := N) (P := mCon fs ts fd td wh ak N i) (r := anb (mCon fs ts fd td wh ak N i) 0 512) C hR hI hN hi rfl (fun ls h0 => ?_) (fun ls h0 => ?_) 512 0 ls (by omega) rfl (lv_sub hl [0, 1, 2] rfl)
  · refine lv_iconst (v := 0) hx hb dX1_contradicted_41 (by decide) ?_
    exact e_readz hx hb hr hlocks rfl (by first | (rw [h0]; rfl) | (unfold mS; rw [h0]; rfl)) dX1_contradicted_42
  · refine lv_iconst (v := 1) hx hb dX1_contradicted_33 (by decide) ?_
    exact e_readz hx hb hr hlocks rfl (by first | (rw [h0]; rfl) | (unfold mS; rw [h0]; rfl)) dX1_contradicted_34
set_option maxHeartbeats 4000000 in
theorem metm_missed (l : Launch) (G : GT) (hD : MD G) (fs : Nat → Int32) (ts : Nat → Int32) (fd : Nat → Int32) (td : Nat → Int32) (wh : Nat → Int32) (ak : Nat → Int32) (sv : Nat → Int32)  (N i : Nat) (hN : N ≤ 10) (hi : i < N) : Met l yX1_missed (ws_ yX1_missed cX1_missed 3 (some .boolean)) (rmd 3) (mPc G ((nI N), fs, ts, fd, td, wh, ak, sv) [.int ((nI i))]) (QcRead (if anb (mMis fs ts fd td wh ak N i) 0 512 = true then 1 else 0)) 0 0 (fun _ => False) := by
  refine gMet (Rn := RX1) (by decide +kernel) rfl (Nat.le_of_ble_eq_true rfl) hD ?_
  intro p e s m below meth c ls C hr hlocks hI hl
  have hR := RL.rm 3
  have hx := C.1.1
  have hb := C.1.2.1
  have hl : lv_has ls 3 [(0, .ref (G.2.1 0)), (1, .int ((nI i)))] := hl
  refine lv_iconst (v := 0) hx hb dX1_missed_0 (by decide) ?_
  refine lv_istore_n (lv' := [(2, .int 0), (0, .ref (G.2.1 0)), (1, .int ((nI i)))]) hx hb dX1_missed_1 rfl hl (by decide) rfl (fun ls hl => ?_)
  refine mmi_l (N := N) (P := mMis fs ts fd td wh ak N i) (r := anb (mMis fs ts fd td wh ak N i) 0 512) C hR hI hN hi rfl (fun ls h0 => ?_) (fun ls h0 => ?_) 512 0 ls (by omega) rfl (lv_sub hl [0, 1, 2] rfl)
  · refine lv_iconst (v := 0) hx hb dX1_missed_32 (by decide) ?_
    exact e_readz hx hb hr hlocks rfl (by first | (rw [h0]; rfl) | (unfold mS; rw [h0]; rfl)) dX1_missed_33
  · refine lv_iconst (v := 1) hx hb dX1_missed_24 (by decide) ?_
    exact e_readz hx hb hr hlocks rfl (by first | (rw [h0]; rfl) | (unfold mS; rw [h0]; rfl)) dX1_missed_25
set_option maxHeartbeats 4000000 in
theorem metm_some (l : Launch) (G : GT) (hD : MD G) (fs : Nat → Int32) (ts : Nat → Int32) (fd : Nat → Int32) (td : Nat → Int32) (wh : Nat → Int32) (ak : Nat → Int32) (sv : Nat → Int32) (x : Int32) (y : Int32) (N i i2 : Nat) (hN : N ≤ 10) (hi : i < N) (hi2 : i2 < N) : Met l yX1_some (ws_ yX1_some cX1_some 6 (some .boolean)) (rmd 1) (mPc G ((nI N), fs, ts, fd, td, wh, ak, sv) [.int ((nI i)), .int x, .int ((nI i2)), .int y]) (QcRead (if mS fs ts fd td wh i x i2 y = true then 1 else 0)) 0 0 (fun _ => False) := by
  refine gMet (Rn := RX1) (by decide +kernel) rfl (Nat.le_of_ble_eq_true rfl) hD ?_
  intro p e s m below meth c ls C hr hlocks hI hl
  have hR := RL.rm 1
  have hx := C.1.1
  have hb := C.1.2.1
  have hl : lv_has ls 6 [(0, .ref (G.2.1 0)), (1, .int ((nI i))), (2, .int x), (3, .int ((nI i2))), (4, .int y)] := hl
  refine lv_iconst (v := 0) hx hb dX1_some_0 (by decide) ?_
  refine lv_istore (lv' := [(5, .int 0), (0, .ref (G.2.1 0)), (1, .int ((nI i))), (2, .int x), (3, .int ((nI i2))), (4, .int y)]) hx hb dX1_some_1 hl (by decide) rfl (fun ls hl => ?_)
  refine mso_l (N := N) (P := mSo fs ts fd td wh i x i2 y) (r := anb (mSo fs ts fd td wh i x i2 y) 0 512) C hR hI hN hi hi2 rfl (fun ls h0 => ?_) (fun ls h0 => ?_) 512 0 ls (by omega) rfl (lv_sub hl [0, 1, 2, 3, 4, 5] rfl)
  · refine lv_iconst (v := 0) hx hb dX1_some_42 (by decide) ?_
    exact e_readz hx hb hr hlocks rfl (by first | (rw [h0]; rfl) | (unfold mS; rw [h0]; rfl)) dX1_some_43
  · refine lv_iconst (v := 1) hx hb dX1_some_34 (by decide) ?_
    exact e_readz hx hb hr hlocks rfl (by first | (rw [h0]; rfl) | (unfold mS; rw [h0]; rfl)) dX1_some_35
section MG1
variable {p : Program} {l : Launch} {e : Env} {R : Room} {s : State} {m : MethodId} {args : Array Value} {below : List Frame} {meth : Method} {c : Code} {H : Heap} {locs : List Loc} {Q : State → Prop} {G : GT}
theorem km_some {cc : ByteArray} {nL pc : Nat} {ls : Array Slot} {rest : List Value} {fs : Nat → Int32} {ts : Nat → Int32} {fd : Nat → Int32} {td : Nat → Int32} {wh : Nat → Int32} {ak : Nat → Int32} {sv : Nat → Int32} {x : Int32} {y : Int32} {N i i2 : Nat} (hN : N ≤ 10) (hi : i < N) (hi2 : i2 < N) (C : MC p s m args c cc nL G) (hI : MI G s (nI N, fs, ts, fd, td, wh, ak, sv) H locs) (hR : RL R 2) (hz : ls.size = nL) (hrm : (rest.map fun v => v.category).sum ≤ 8) (hd : decode cc pc = .ok (.invokevirtual 54, 3)) (kk : W p l e R s m args below meth c H locs 0 0 Q (F0 m (pc + 3) ls (.int (if mS fs ts fd td wh i x i2 y = true then 1 else 0) :: rest))) : W p l e R s m args below meth c H locs 0 0 Q (F0 m pc ls (.int y :: .int (nI i2) :: .int x :: .int (nI i) :: .ref (G.2.1 0) :: rest)) :=
  g_pure (n := 4) (metm_some l G C.2.2 fs ts fd td wh ak sv x y N i i2 hN hi hi2) C hI rfl rfl rfl (lw_V q330 q332 qs34 q38 q333) (by decide +kernel) rfl rfl rfl ⟨hR.1, by have := hR.2; show 8 + (6 + 11) + 30 * 1 ≤ R.locals; omega⟩ hz rfl hrm hd kk
theorem km_contradicted {cc : ByteArray} {nL pc : Nat} {ls : Array Slot} {rest : List Value} {fs : Nat → Int32} {ts : Nat → Int32} {fd : Nat → Int32} {td : Nat → Int32} {wh : Nat → Int32} {ak : Nat → Int32} {sv : Nat → Int32}  {N i : Nat} (hN : N ≤ 10) (hi : i < N) (C : MC p s m args c cc nL G) (hI : MI G s (nI N, fs, ts, fd, td, wh, ak, sv) H locs) (hR : RL R 4) (hz : ls.size = nL) (hrm : (rest.map fun v => v.category).sum ≤ 8) (hd : decode cc pc = .ok (.invokevirtual 62, 3)) (kk : W p l e R s m args below meth c H locs 0 0 Q (F0 m (pc + 3) ls (.int (if anb (mCon fs ts fd td wh ak N i) 0 512 = true then 1 else 0) :: rest))) : W p l e R s m args below meth c H locs 0 0 Q (F0 m pc ls (.int (nI i) :: .ref (G.2.1 0) :: rest)) :=
  g_pure (n := 1) (metm_contradicted l G C.2.2 fs ts fd td wh ak sv N i hN hi) C hI rfl rfl rfl (lw_V q314 q316 qs30 q38 q317) (by decide +kernel) rfl rfl rfl ⟨hR.1, by have := hR.2; show 8 + (3 + 11) + 30 * 3 ≤ R.locals; omega⟩ hz rfl hrm hd kk
theorem km_missed {cc : ByteArray} {nL pc : Nat} {ls : Array Slot} {rest : List Value} {fs : Nat → Int32} {ts : Nat → Int32} {fd : Nat → Int32} {td : Nat → Int32} {wh : Nat → Int32} {ak : Nat → Int32} {sv : Nat → Int32}  {N i : Nat} (hN : N ≤ 10) (hi : i < N) (C : MC p s m args c cc nL G) (hI : MI G s (nI N, fs, ts, fd, td, wh, ak, sv) H locs) (hR : RL R 4) (hz : ls.size = nL) (hrm : (rest.map fun v => v.category).sum ≤ 8) (hd : decode cc pc = .ok (.invokevirtual 65, 3)) (kk : W p l e R s m args below meth c H locs 0 0 Q (F0 m (pc + 3) ls (.int (if anb (mMis fs ts fd td wh ak N i) 0 512 = true then 1 else 0) :: rest))) : W p l e R s m args below meth c H locs 0 0 Q (F0 m pc ls (.int (nI i) :: .ref (G.2.1 0) :: rest)) :=
  g_pure (n := 1) (metm_missed l G C.2.2 fs ts fd td wh ak sv N i hN hi) C hI rfl rfl rfl (lw_V q322 q324 qs32 q38 q325) (by decide +kernel) rfl rfl rfl ⟨hR.1, by have := hR.2; show 8 + (3 + 11) + 30 * 3 ≤ R.locals; omega⟩ hz rfl hrm hd kk
theorem km_owned {cc : ByteArray} {nL pc : Nat} {ls : Array Slot} {rest : List Value} {fs : Nat → Int32} {ts : Nat → Int32} {fd : Nat → Int32} {td : Nat → Int32} {wh : Nat → Int32} {ak : Nat → Int32} {sv : Nat → Int32} {x : Int32} {N : Nat} (hN : N ≤ 10) (C : MC p s m args c cc nL G) (hI : MI G s (nI N, fs, ts, fd, td, wh, ak, sv) H locs) (hR : RL R 3) (hz : ls.size = nL) (hrm : (rest.map fun v => v.category).sum ≤ 8) (hd : decode cc pc = .ok (.invokevirtual 58, 3)) (kk : W p l e R s m args below meth c H locs 0 0 Q (F0 m (pc + 3) ls (.int (if isR x N then nI (ctb (mOwn fs ts fd td wh N x) 512) else (-1)) :: rest))) : W p l e R s m args below meth c H locs 0 0 Q (F0 m pc ls (.int x :: .ref (G.2.1 0) :: rest)) :=
  g_pure (n := 1) (metm_owned l G C.2.2 fs ts fd td wh ak sv x N hN) C hI rfl rfl rfl (lw_V q313 q302 q303 q38 q304) (by decide +kernel) rfl rfl rfl ⟨hR.1, by have := hR.2; show 8 + (5 + 11) + 30 * 2 ≤ R.locals; omega⟩ hz rfl hrm hd kk
set_option maxHeartbeats 4000000 in
theorem mcr_l {fs : Nat → Int32} {ts : Nat → Int32} {fd : Nat → Int32} {td : Nat → Int32} {wh : Nat → Int32} {ak : Nat → Int32} {sv : Nat → Int32} {N : Nat} {r : Bool} {P : Nat → Bool} {i : Nat} (C : MC p s m args c cX1_correlated 3 G) (hR : RL R 2) (hI : MI G s ((nI N), fs, ts, fd, td, wh, ak, sv) s.heap []) (hN : N ≤ 10) (hi : i < N) (hP : P = mCo fs ts fd td wh ak i) (kn : ∀ ls : Array Slot, r = false → W p l e R s m args below meth c s.heap [] 0 0 Q (F0 m 63 ls [])) (ky : ∀ ls : Array Slot, r = true → W p l e R s m args below meth c s.heap [] 0 0 Q (F0 m 55 ls [])) :
    ∀ (n_ : Nat) (j : Nat) (ls : Array Slot), j + n_ = i → anb P j n_ = r → lv_has ls 3 [(2, .int (nI j)), (0, .ref (G.2.1 0)), (1, .int (nI i))] → W p l e R s m args below meth c s.heap [] 0 0 Q (F0 m 2 ls []) := by
  have hx := C.1.1
  have hb := C.1.2.1
  intro n_
  induction n_ with
  | zero =>
    intro j ls hj hr hl
    refine lv_iload_n hx hb dX1_correlated_2 rfl (lv_at hl 0 rfl) ?_
    refine lv_iload_n hx hb dX1_correlated_3 rfl (lv_at hl 2 rfl) ?_
    refine lv_icmp_ge (tgt := 63) hx hb dX1_correlated_4 (by decide) (fun c1 => ?_) (fun c1 => ?_)
    · exact kn ls hr.symm
    · exact absurd (nl_lt (by omega) (by omega) c1) (by omega)
  | succ n_ ih =>
    intro j ls hj hr hl
    refine lv_iload_n hx hb dX1_correlated_2 rfl (lv_at hl 0 rfl) ?_
    refine lv_iload_n hx hb dX1_correlated_3 rfl (lv_at hl 2 rfl) ?_
    refine lv_icmp_ge (tgt := 63) hx hb dX1_correlated_4 (by decide) (fun c1 => ?_) (fun c1 => ?_)
    · exact absurd (nl_le (by omega) (by omega) c1) (by omega)
    · refine lv_aload_n hx hb dX1_correlated_7 rfl (lv_at hl 1 rfl) ?_
      refine mg6 C hI dX1_correlated_8 ?_
      refine lv_iload_n hx hb dX1_correlated_11 rfl (lv_at hl 0 rfl) ?_
      refine ml6 (i := j) C hI rfl (by omega) dX1_correlated_12 ?_
      refine lv_aload_n hx hb dX1_correlated_13 rfl (lv_at hl 1 rfl) ?_
      refine mg6 C hI dX1_correlated_14 ?_
      refine lv_iload_n hx hb dX1_correlated_17 rfl (lv_at hl 2 rfl) ?_
      refine ml6 (i := i) C hI rfl (by omega) dX1_correlated_18 ?_
      refine lv_icmp_eq (tgt := 57) hx hb dX1_correlated_19 (by decide) (fun c2 => ?_) (fun c2 => ?_)
      · refine lv_iinc (v := nI (j + 1)) (lv' := [(2, .int (nI (j + 1))), (0, .ref (G.2.1 0)), (1, .int (nI i))]) hx hb dX1_correlated_57 hl (k := 0) rfl (nI_1 j) (by decide) rfl (fun ls hl => ?_)
        refine lv_goto (tgt := 2) hx hb dX1_correlated_60 (by decide) ?_
        exact ih (j + 1) ls (by omega) (by rw [← hr]; exact (anb_f n_ (by rw [hP]; simp only [mCo, decide_eq_true c2, Bool.not_true, Bool.false_and]; exact Bool.false_ne_true)).symm) (lv_sub hl [0, 1, 2] rfl)
      · refine lv_aload_n hx hb dX1_correlated_22 rfl (lv_at hl 1 rfl) ?_
        refine lv_iload_n hx hb dX1_correlated_23 rfl (lv_at hl 2 rfl) ?_
        refine lv_iconst (v := 1) hx hb dX1_correlated_24 (by decide) ?_
        refine lv_iload_n hx hb dX1_correlated_25 rfl (lv_at hl 0 rfl) ?_
        refine lv_iconst (v := 1) hx hb dX1_correlated_26 (by decide) ?_
        refine km_some (N := N) (i := i) (i2 := j) hN (by omega) (by omega) C hI (hR.le (by decide)) hl.1 (Nat.le_of_ble_eq_true rfl) dX1_correlated_27 ?_
        refine lv_if_eq (tgt := 57) hx hb dX1_correlated_30 (by decide) (fun c3 => ?_) (fun c3 => ?_)
        · refine lv_iinc (v := nI (j + 1)) (lv' := [(2, .int (nI (j + 1))), (0, .ref (G.2.1 0)), (1, .int (nI i))]) hx hb dX1_correlated_57 hl (k := 0) rfl (nI_1 j) (by decide) rfl (fun ls hl => ?_)
          refine lv_goto (tgt := 2) hx hb dX1_correlated_60 (by decide) ?_
          exact ih (j + 1) ls (by omega) (by rw [← hr]; exact (anb_f n_ (by rw [hP]; simp only [mCo, Bool.eq_false_iff.mpr (if0 c3), Bool.and_false, Bool.false_and]; exact Bool.false_ne_true)).symm) (lv_sub hl [0, 1, 2] rfl)
        · refine lv_aload_n hx hb dX1_correlated_33 rfl (lv_at hl 1 rfl) ?_
          refine lv_iload_n hx hb dX1_correlated_34 rfl (lv_at hl 2 rfl) ?_
          refine lv_iconst (v := 1) hx hb dX1_correlated_35 (by decide) ?_
          refine lv_iload_n hx hb dX1_correlated_36 rfl (lv_at hl 0 rfl) ?_
          refine lv_iconst (v := 0) hx hb dX1_correlated_37 (by decide) ?_
          refine km_some (N := N) (i := i) (i2 := j) hN (by omega) (by omega) C hI (hR.le (by decide)) hl.1 (Nat.le_of_ble_eq_true rfl) dX1_correlated_38 ?_
          refine lv_if_eq (tgt := 57) hx hb dX1_correlated_41 (by decide) (fun c4 => ?_) (fun c4 => ?_)
          · refine lv_iinc (v := nI (j + 1)) (lv' := [(2, .int (nI (j + 1))), (0, .ref (G.2.1 0)), (1, .int (nI i))]) hx hb dX1_correlated_57 hl (k := 0) rfl (nI_1 j) (by decide) rfl (fun ls hl => ?_)
            refine lv_goto (tgt := 2) hx hb dX1_correlated_60 (by decide) ?_
            exact ih (j + 1) ls (by omega) (by rw [← hr]; exact (anb_f n_ (by rw [hP]; simp only [mCo, Bool.eq_false_iff.mpr (if0 c4), Bool.and_false, Bool.false_and]; exact Bool.false_ne_true)).symm) (lv_sub hl [0, 1, 2] rfl)
          · refine lv_aload_n hx hb dX1_correlated_44 rfl (lv_at hl 1 rfl) ?_
            refine lv_iload_n hx hb dX1_correlated_45 rfl (lv_at hl 2 rfl) ?_
            refine lv_iconst (v := 0) hx hb dX1_correlated_46 (by decide) ?_
            refine lv_iload_n hx hb dX1_correlated_47 rfl (lv_at hl 0 rfl) ?_
            refine lv_iconst (v := 1) hx hb dX1_correlated_48 (by decide) ?_
            refine km_some (N := N) (i := i) (i2 := j) hN (by omega) (by omega) C hI (hR.le (by decide)) hl.1 (Nat.le_of_ble_eq_true rfl) dX1_correlated_49 ?_
            refine lv_if_eq (tgt := 57) hx hb dX1_correlated_52 (by decide) (fun c5 => ?_) (fun c5 => ?_)
            · refine lv_iinc (v := nI (j + 1)) (lv' := [(2, .int (nI (j + 1))), (0, .ref (G.2.1 0)), (1, .int (nI i))]) hx hb dX1_correlated_57 hl (k := 0) rfl (nI_1 j) (by decide) rfl (fun ls hl => ?_)
              refine lv_goto (tgt := 2) hx hb dX1_correlated_60 (by decide) ?_
              exact ih (j + 1) ls (by omega) (by rw [← hr]; exact (anb_f n_ (by rw [hP]; simp only [mCo, Bool.eq_false_iff.mpr (if0 c5), Bool.and_false]; exact Bool.false_ne_true)).symm) (lv_sub hl [0, 1, 2] rfl)
            · exact ky ls (by rw [← hr]; exact anb_t n_ (by rw [hP]; simp only [mCo, decide_eq_false c2, if1 c3, if1 c4, if1 c5]; rfl))
set_option maxHeartbeats 4000000 in
theorem mge_l {fs : Nat → Int32} {ts : Nat → Int32} {fd : Nat → Int32} {td : Nat → Int32} {wh : Nat → Int32} {ak : Nat → Int32} {sv : Nat → Int32} {N : Nat} {r : Bool} {P : Nat → Bool} {i : Nat} (C : MC p s m args c cX1_general 3 G) (hR : RL R 2) (hI : MI G s ((nI N), fs, ts, fd, td, wh, ak, sv) s.heap []) (hN : N ≤ 10) (hi : i < N) (hP : P = mGe fs ts fd td wh ak i) (kn : ∀ ls : Array Slot, r = false → W p l e R s m args below meth c s.heap [] 0 0 Q (F0 m 41 ls [])) (ky : ∀ ls : Array Slot, r = true → W p l e R s m args below meth c s.heap [] 0 0 Q (F0 m 33 ls [])) :
    ∀ (n_ : Nat) (j : Nat) (ls : Array Slot), j + n_ = i → anb P j n_ = r → lv_has ls 3 [(2, .int (nI j)), (0, .ref (G.2.1 0)), (1, .int (nI i))] → W p l e R s m args below meth c s.heap [] 0 0 Q (F0 m 2 ls []) := by
  have hx := C.1.1
  have hb := C.1.2.1
  intro n_
  induction n_ with
  | zero =>
    intro j ls hj hr hl
    refine lv_iload_n hx hb dX1_general_2 rfl (lv_at hl 0 rfl) ?_
    refine lv_iload_n hx hb dX1_general_3 rfl (lv_at hl 2 rfl) ?_
    refine lv_icmp_ge (tgt := 41) hx hb dX1_general_4 (by decide) (fun c1 => ?_) (fun c1 => ?_)
    · exact kn ls hr.symm
    · exact absurd (nl_lt (by omega) (by omega) c1) (by omega)
  | succ n_ ih =>
    intro j ls hj hr hl
    refine lv_iload_n hx hb dX1_general_2 rfl (lv_at hl 0 rfl) ?_
    refine lv_iload_n hx hb dX1_general_3 rfl (lv_at hl 2 rfl) ?_
    refine lv_icmp_ge (tgt := 41) hx hb dX1_general_4 (by decide) (fun c1 => ?_) (fun c1 => ?_)
    · exact absurd (nl_le (by omega) (by omega) c1) (by omega)
    · refine lv_aload_n hx hb dX1_general_7 rfl (lv_at hl 1 rfl) ?_
      refine mg6 C hI dX1_general_8 ?_
      refine lv_iload_n hx hb dX1_general_11 rfl (lv_at hl 0 rfl) ?_
      refine ml6 (i := j) C hI rfl (by omega) dX1_general_12 ?_
      refine lv_aload_n hx hb dX1_general_13 rfl (lv_at hl 1 rfl) ?_
      refine mg6 C hI dX1_general_14 ?_
      refine lv_iload_n hx hb dX1_general_17 rfl (lv_at hl 2 rfl) ?_
      refine ml6 (i := i) C hI rfl (by omega) dX1_general_18 ?_
      refine lv_icmp_eq (tgt := 35) hx hb dX1_general_19 (by decide) (fun c2 => ?_) (fun c2 => ?_)
      · refine lv_iinc (v := nI (j + 1)) (lv' := [(2, .int (nI (j + 1))), (0, .ref (G.2.1 0)), (1, .int (nI i))]) hx hb dX1_general_35 hl (k := 0) rfl (nI_1 j) (by decide) rfl (fun ls hl => ?_)
        refine lv_goto (tgt := 2) hx hb dX1_general_38 (by decide) ?_
        exact ih (j + 1) ls (by omega) (by rw [← hr]; exact (anb_f n_ (by rw [hP]; simp only [mGe, decide_eq_true c2, Bool.not_true, Bool.false_and]; exact Bool.false_ne_true)).symm) (lv_sub hl [0, 1, 2] rfl)
      · refine lv_aload_n hx hb dX1_general_22 rfl (lv_at hl 1 rfl) ?_
        refine lv_iload_n hx hb dX1_general_23 rfl (lv_at hl 2 rfl) ?_
        refine lv_iconst (v := 0) hx hb dX1_general_24 (by decide) ?_
        refine lv_iload_n hx hb dX1_general_25 rfl (lv_at hl 0 rfl) ?_
        refine lv_iconst (v := 1) hx hb dX1_general_26 (by decide) ?_
        refine km_some (N := N) (i := i) (i2 := j) hN (by omega) (by omega) C hI (hR.le (by decide)) hl.1 (Nat.le_of_ble_eq_true rfl) dX1_general_27 ?_
        refine lv_if_ne (tgt := 35) hx hb dX1_general_30 (by decide) (fun c3 => ?_) (fun c3 => ?_)
        · refine lv_iinc (v := nI (j + 1)) (lv' := [(2, .int (nI (j + 1))), (0, .ref (G.2.1 0)), (1, .int (nI i))]) hx hb dX1_general_35 hl (k := 0) rfl (nI_1 j) (by decide) rfl (fun ls hl => ?_)
          refine lv_goto (tgt := 2) hx hb dX1_general_38 (by decide) ?_
          exact ih (j + 1) ls (by omega) (by rw [← hr]; exact (anb_f n_ (by rw [hP]; simp only [mGe, if1 c3, Bool.not_true, Bool.and_false]; exact Bool.false_ne_true)).symm) (lv_sub hl [0, 1, 2] rfl)
        · exact ky ls (by rw [← hr]; exact anb_t n_ (by rw [hP]; simp only [mGe, decide_eq_false c2, Bool.eq_false_iff.mpr (if0 c3)]; rfl))
end MG1
set_option maxHeartbeats 4000000 in
theorem metm_correlated (l : Launch) (G : GT) (hD : MD G) (fs : Nat → Int32) (ts : Nat → Int32) (fd : Nat → Int32) (td : Nat → Int32) (wh : Nat → Int32) (ak : Nat → Int32) (sv : Nat → Int32)  (N i : Nat) (hN : N ≤ 10) (hi : i < N) : Met l yX1_correlated (ws_ yX1_correlated cX1_correlated 3 (some .boolean)) (rmd 2) (mPc G ((nI N), fs, ts, fd, td, wh, ak, sv) [.int ((nI i))]) (QcRead (if anb (mCo fs ts fd td wh ak i) 0 i = true then 1 else 0)) 0 0 (fun _ => False) := by
  refine gMet (Rn := RX1) (by decide +kernel) rfl (Nat.le_of_ble_eq_true rfl) hD ?_
  intro p e s m below meth c ls C hr hlocks hI hl
  have hR := RL.rm 2
  have hx := C.1.1
  have hb := C.1.2.1
  have hl : lv_has ls 3 [(0, .ref (G.2.1 0)), (1, .int ((nI i)))] := hl
  refine lv_iconst (v := 0) hx hb dX1_correlated_0 (by decide) ?_
  refine lv_istore_n (lv' := [(2, .int 0), (0, .ref (G.2.1 0)), (1, .int ((nI i)))]) hx hb dX1_correlated_1 rfl hl (by decide) rfl (fun ls hl => ?_)
  refine mcr_l (N := N) (P := mCo fs ts fd td wh ak i) (r := anb (mCo fs ts fd td wh ak i) 0 i) C hR hI hN hi rfl (fun ls h0 => ?_) (fun ls h0 => ?_) i 0 ls (by omega) rfl (lv_sub hl [0, 1, 2] rfl)
  · refine lv_iconst (v := 0) hx hb dX1_correlated_63 (by decide) ?_
    exact e_readz hx hb hr hlocks rfl (by first | (rw [h0]; rfl) | (unfold mS; rw [h0]; rfl)) dX1_correlated_64
  · refine lv_iconst (v := 1) hx hb dX1_correlated_55 (by decide) ?_
    exact e_readz hx hb hr hlocks rfl (by first | (rw [h0]; rfl) | (unfold mS; rw [h0]; rfl)) dX1_correlated_56
set_option maxHeartbeats 4000000 in
theorem metm_general (l : Launch) (G : GT) (hD : MD G) (fs : Nat → Int32) (ts : Nat → Int32) (fd : Nat → Int32) (td : Nat → Int32) (wh : Nat → Int32) (ak : Nat → Int32) (sv : Nat → Int32)  (N i : Nat) (hN : N ≤ 10) (hi : i < N) : Met l yX1_general (ws_ yX1_general cX1_general 3 (some .boolean)) (rmd 2) (mPc G ((nI N), fs, ts, fd, td, wh, ak, sv) [.int ((nI i))]) (QcRead (if anb (mGe fs ts fd td wh ak i) 0 i = true then 1 else 0)) 0 0 (fun _ => False) := by
  refine gMet (Rn := RX1) (by decide +kernel) rfl (Nat.le_of_ble_eq_true rfl) hD ?_
  intro p e s m below meth c ls C hr hlocks hI hl
  have hR := RL.rm 2
  have hx := C.1.1
  have hb := C.1.2.1
  have hl : lv_has ls 3 [(0, .ref (G.2.1 0)), (1, .int ((nI i)))] := hl
  refine lv_iconst (v := 0) hx hb dX1_general_0 (by decide) ?_
  refine lv_istore_n (lv' := [(2, .int 0), (0, .ref (G.2.1 0)), (1, .int ((nI i)))]) hx hb dX1_general_1 rfl hl (by decide) rfl (fun ls hl => ?_)
  refine mge_l (N := N) (P := mGe fs ts fd td wh ak i) (r := anb (mGe fs ts fd td wh ak i) 0 i) C hR hI hN hi rfl (fun ls h0 => ?_) (fun ls h0 => ?_) i 0 ls (by omega) rfl (lv_sub hl [0, 1, 2] rfl)
  · refine lv_iconst (v := 0) hx hb dX1_general_41 (by decide) ?_
    exact e_readz hx hb hr hlocks rfl (by first | (rw [h0]; rfl) | (unfold mS; rw [h0]; rfl)) dX1_general_42
  · refine lv_iconst (v := 1) hx hb dX1_general_33 (by decide) ?_
    exact e_readz hx hb hr hlocks rfl (by first | (rw [h0]; rfl) | (unfold mS; rw [h0]; rfl)) dX1_general_34
section MH1
variable {p : Program} {l : Launch} {e : Env} {R : Room} {s : State} {m : MethodId} {args : Array Value} {below : List Frame} {meth : Method} {c : Code} {H : Heap} {locs : List Loc} {Q : State → Prop} {G : GT}
theorem km_correlated {cc : ByteArray} {nL pc : Nat} {ls : Array Slot} {rest : List Value} {fs : Nat → Int32} {ts : Nat → Int32} {fd : Nat → Int32} {td : Nat → Int32} {wh : Nat → Int32} {ak : Nat → Int32} {sv : Nat → Int32}  {N i : Nat} (hN : N ≤ 10) (hi : i < N) (C : MC p s m args c cc nL G) (hI : MI G s (nI N, fs, ts, fd, td, wh, ak, sv) H locs) (hR : RL R 3) (hz : ls.size = nL) (hrm : (rest.map fun v => v.category).sum ≤ 8) (hd : decode cc pc = .ok (.invokevirtual 68, 3)) (kk : W p l e R s m args below meth c H locs 0 0 Q (F0 m (pc + 3) ls (.int (if anb (mCo fs ts fd td wh ak i) 0 i = true then 1 else 0) :: rest))) : W p l e R s m args below meth c H locs 0 0 Q (F0 m pc ls (.int (nI i) :: .ref (G.2.1 0) :: rest)) :=
  g_pure (n := 1) (metm_correlated l G C.2.2 fs ts fd td wh ak sv N i hN hi) C hI rfl rfl rfl (lw_V q326 q328 qs33 q38 q329) (by decide +kernel) rfl rfl rfl ⟨hR.1, by have := hR.2; show 8 + (3 + 11) + 30 * 2 ≤ R.locals; omega⟩ hz rfl hrm hd kk
theorem km_general {cc : ByteArray} {nL pc : Nat} {ls : Array Slot} {rest : List Value} {fs : Nat → Int32} {ts : Nat → Int32} {fd : Nat → Int32} {td : Nat → Int32} {wh : Nat → Int32} {ak : Nat → Int32} {sv : Nat → Int32}  {N i : Nat} (hN : N ≤ 10) (hi : i < N) (C : MC p s m args c cc nL G) (hI : MI G s (nI N, fs, ts, fd, td, wh, ak, sv) H locs) (hR : RL R 3) (hz : ls.size = nL) (hrm : (rest.map fun v => v.category).sum ≤ 8) (hd : decode cc pc = .ok (.invokevirtual 71, 3)) (kk : W p l e R s m args below meth c H locs 0 0 Q (F0 m (pc + 3) ls (.int (if anb (mGe fs ts fd td wh ak i) 0 i = true then 1 else 0) :: rest))) : W p l e R s m args below meth c H locs 0 0 Q (F0 m pc ls (.int (nI i) :: .ref (G.2.1 0) :: rest)) :=
  g_pure (n := 1) (metm_general l G C.2.2 fs ts fd td wh ak sv N i hN hi) C hI rfl rfl rfl (lw_V q334 q336 qs35 q38 q337) (by decide +kernel) rfl rfl rfl ⟨hR.1, by have := hR.2; show 8 + (3 + 11) + 30 * 2 ≤ R.locals; omega⟩ hz rfl hrm hd kk
end MH1
set_option maxHeartbeats 4000000 in
theorem metm_fault (l : Launch) (G : GT) (hD : MD G) (fs : Nat → Int32) (ts : Nat → Int32) (fd : Nat → Int32) (td : Nat → Int32) (wh : Nat → Int32) (ak : Nat → Int32) (sv : Nat → Int32) (x : Int32) (N : Nat) (hN : N ≤ 10) : Met l yX1_fault (ws_ yX1_fault cX1_fault 3 (some .int)) (rmd 4) (mPc G ((nI N), fs, ts, fd, td, wh, ak, sv) [.int x]) (QcRead (if isR x N then fltB (decide (nI (ctb (mOwn fs ts fd td wh N (nI (ix x))) 512) = 0)) (anb (mCon fs ts fd td wh ak N (ix x)) 0 512) (!anb (mMis fs ts fd td wh ak N (ix x)) 0 512) (anb (mCo fs ts fd td wh ak (ix x)) 0 (ix x)) (anb (mGe fs ts fd td wh ak (ix x)) 0 (ix x)) else (-1))) 0 0 (fun _ => False) := by
  refine gMet (Rn := RX1) (by decide +kernel) rfl (Nat.le_of_ble_eq_true rfl) hD ?_
  intro p e s m below meth c ls C hr hlocks hI hl
  have hR := RL.rm 4
  have hx := C.1.1
  have hb := C.1.2.1
  have hl : lv_has ls 3 [(0, .ref (G.2.1 0)), (1, .int x)] := hl
  refine lv_aload_n hx hb dX1_fault_0 rfl (lv_at hl 0 rfl) ?_
  refine lv_iload_n hx hb dX1_fault_1 rfl (lv_at hl 1 rfl) ?_
  refine km_isRule C hI (hR.le (by decide)) hl.1 (Nat.le_of_ble_eq_true rfl) dX1_fault_2 ?_
  refine lv_if_ne (tgt := 10) hx hb dX1_fault_5 (by decide) (fun c1 => ?_) (fun c1 => ?_)
  · have c1 := if1 c1
    have c1 : isR x N := c1
    obtain ⟨i, hi, rfl⟩ := isR_ix hN c1
    simp only [if_pos c1, ix_nI (show i < 10 by omega)]
    refine lv_aload_n hx hb dX1_fault_10 rfl (lv_at hl 0 rfl) ?_
    refine lv_iload_n hx hb dX1_fault_11 rfl (lv_at hl 1 rfl) ?_
    refine km_owned (N := N) hN C hI (hR.le (by decide)) hl.1 (Nat.le_of_ble_eq_true rfl) dX1_fault_12 ?_
    rw [if_pos c1]
    refine lv_istore_n (lv' := [(2, .int (nI (ctb (mOwn fs ts fd td wh N (nI i)) 512))), (0, .ref (G.2.1 0)), (1, .int (nI i))]) hx hb dX1_fault_15 rfl hl (by decide) rfl (fun ls hl => ?_)
    refine lv_iload_n hx hb dX1_fault_16 rfl (lv_at hl 0 rfl) ?_
    refine lv_if_ne (tgt := 34) hx hb dX1_fault_17 (by decide) (fun c2 => ?_) (fun c2 => ?_)
    · refine lv_aload_n hx hb dX1_fault_34 rfl (lv_at hl 1 rfl) ?_
      refine lv_iload_n hx hb dX1_fault_35 rfl (lv_at hl 2 rfl) ?_
      refine km_missed (N := N) (i := i) hN hi C hI (hR.le (by decide)) hl.1 (Nat.le_of_ble_eq_true rfl) dX1_fault_36 ?_
      refine lv_if_ne (tgt := 44) hx hb dX1_fault_39 (by decide) (fun c3 => ?_) (fun c3 => ?_)
      · refine lv_aload_n hx hb dX1_fault_44 rfl (lv_at hl 1 rfl) ?_
        refine lv_iload_n hx hb dX1_fault_45 rfl (lv_at hl 2 rfl) ?_
        refine km_correlated (N := N) (i := i) hN hi C hI (hR.le (by decide)) hl.1 (Nat.le_of_ble_eq_true rfl) dX1_fault_46 ?_
        refine lv_if_eq (tgt := 54) hx hb dX1_fault_49 (by decide) (fun c4 => ?_) (fun c4 => ?_)
        · refine lv_aload_n hx hb dX1_fault_54 rfl (lv_at hl 1 rfl) ?_
          refine lv_iload_n hx hb dX1_fault_55 rfl (lv_at hl 2 rfl) ?_
          refine km_general (N := N) (i := i) hN hi C hI (hR.le (by decide)) hl.1 (Nat.le_of_ble_eq_true rfl) dX1_fault_56 ?_
          refine lv_if_eq (tgt := 66) hx hb dX1_fault_59 (by decide) (fun c5 => ?_) (fun c5 => ?_)
          · refine lv_iconst (v := 0) hx hb dX1_fault_66 (by decide) ?_
            exact e_read hx hb hr hlocks (by simp only [fltB, decide_eq_false c2, if1 c3, Bool.eq_false_iff.mpr (if0 c4), Bool.eq_false_iff.mpr (if0 c5), Bool.false_eq_true, if_false, if_true, Bool.not_true, Bool.not_false]) dX1_fault_67
          · refine lv_iconst (v := 5) hx hb dX1_fault_62 (by decide) ?_
            refine lv_goto (tgt := 67) hx hb dX1_fault_63 (by decide) ?_
            exact e_read hx hb hr hlocks (by simp only [fltB, decide_eq_false c2, if1 c3, Bool.eq_false_iff.mpr (if0 c4), if1 c5, Bool.false_eq_true, if_false, if_true, Bool.not_true, Bool.not_false]) dX1_fault_67
        · refine lv_iconst (v := 4) hx hb dX1_fault_52 (by decide) ?_
          exact e_read hx hb hr hlocks (by simp only [fltB, decide_eq_false c2, if1 c3, if1 c4, Bool.false_eq_true, if_false, if_true, Bool.not_true, Bool.not_false]) dX1_fault_53
      · refine lv_iconst (v := 3) hx hb dX1_fault_42 (by decide) ?_
        exact e_read hx hb hr hlocks (by simp only [fltB, decide_eq_false c2, Bool.eq_false_iff.mpr (if0 c3), Bool.false_eq_true, if_false, if_true, Bool.not_true, Bool.not_false]) dX1_fault_43
    · refine lv_aload_n hx hb dX1_fault_20 rfl (lv_at hl 1 rfl) ?_
      refine lv_iload_n hx hb dX1_fault_21 rfl (lv_at hl 2 rfl) ?_
      refine km_contradicted (N := N) (i := i) hN hi C hI (hR.le (by decide)) hl.1 (Nat.le_of_ble_eq_true rfl) dX1_fault_22 ?_
      refine lv_if_eq (tgt := 32) hx hb dX1_fault_25 (by decide) (fun c3 => ?_) (fun c3 => ?_)
      · refine lv_iconst (v := 2) hx hb dX1_fault_32 (by decide) ?_
        exact e_read hx hb hr hlocks (by simp only [fltB, decide_eq_true c2, Bool.eq_false_iff.mpr (if0 c3), Bool.false_eq_true, if_false, if_true, Bool.not_true, Bool.not_false]) dX1_fault_33
      · refine lv_iconst (v := 1) hx hb dX1_fault_28 (by decide) ?_
        refine lv_goto (tgt := 33) hx hb dX1_fault_29 (by decide) ?_
        exact e_read hx hb hr hlocks (by simp only [fltB, decide_eq_true c2, if1 c3, Bool.false_eq_true, if_false, if_true, Bool.not_true, Bool.not_false]) dX1_fault_33
  · have c1 := if0 c1
    refine lv_iconst (v := (-1 : Int32)) hx hb dX1_fault_8 (by decide) ?_
    exact e_read hx hb hr hlocks (by rw [if_neg c1]) dX1_fault_9
end
section
/-! X1: the reference, what writes -/
set_option maxRecDepth 100000
set_option maxHeartbeats 4000000 in
theorem metm_draftRange (l : Launch) (G : GT) (hD : MD G) (n : Int32) (fs : Nat → Int32) (ts : Nat → Int32) (fd : Nat → Int32) (td : Nat → Int32) (wh : Nat → Int32) (ak : Nat → Int32) (sv : Nat → Int32) (x : Int32) (y : Int32) (z : Int32)   : Met l yX1_draftRange (ws_ yX1_draftRange cX1_draftRange 4 (some .boolean)) (rmd 0) (mPc G (n, fs, ts, fd, td, wh, ak, sv) [.int x, .int y, .int z]) (mQi G (fun r u1 => (okR x y z ∧ x = 0 ∧ r = 1 ∧ u1 = (n, upd fs 10 y, upd ts 10 z, fd, td, wh, ak, sv)) ∨ (okR x y z ∧ ¬ x = 0 ∧ r = 1 ∧ u1 = (n, fs, ts, upd fd 10 y, upd td 10 z, wh, ak, sv)) ∨ (¬ okR x y z ∧ r = 0 ∧ u1 = (n, fs, ts, fd, td, wh, ak, sv)))) 0 0 (mA G) := by
  refine gMet (Rn := RX1) (by decide +kernel) rfl (Nat.le_of_ble_eq_true rfl) hD ?_
  intro p e s m below meth c ls C hr hlocks hI hl
  have hR := RL.rm 0
  have hx := C.1.1
  have hb := C.1.2.1
  have hl : lv_has ls 4 [(0, .ref (G.2.1 0)), (1, .int x), (2, .int y), (3, .int z)] := hl
  refine lv_iload_n hx hb dX1_draftRange_0 rfl (lv_at hl 1 rfl) ?_
  refine lv_if_lt (tgt := 34) hx hb dX1_draftRange_1 (by decide) (fun c1 => ?_) (fun c1 => ?_)
  · refine lv_iconst (v := 0) hx hb dX1_draftRange_34 (by decide) ?_
    exact e_bool hI hx hb hr hlocks rfl (Or.inr (Or.inr ⟨(by intro h; simp only [okR, i_le, i_lt] at h c1; omega), rfl, rfl⟩)) dX1_draftRange_35
  · refine lv_iload_n hx hb dX1_draftRange_4 rfl (lv_at hl 1 rfl) ?_
    refine lv_iconst (v := 1) hx hb dX1_draftRange_5 (by decide) ?_
    refine lv_icmp_gt (tgt := 34) hx hb dX1_draftRange_6 (by decide) (fun c2 => ?_) (fun c2 => ?_)
    · refine lv_iconst (v := 0) hx hb dX1_draftRange_34 (by decide) ?_
      exact e_bool hI hx hb hr hlocks rfl (Or.inr (Or.inr ⟨(by intro h; simp only [okR, i_le, i_lt] at h c1 c2; omega), rfl, rfl⟩)) dX1_draftRange_35
    · refine lv_iload_n hx hb dX1_draftRange_9 rfl (lv_at hl 2 rfl) ?_
      refine lv_if_lt (tgt := 34) hx hb dX1_draftRange_10 (by decide) (fun c3 => ?_) (fun c3 => ?_)
      · refine lv_iconst (v := 0) hx hb dX1_draftRange_34 (by decide) ?_
        exact e_bool hI hx hb hr hlocks rfl (Or.inr (Or.inr ⟨(by intro h; simp only [okR, i_le, i_lt] at h c1 c2 c3; omega), rfl, rfl⟩)) dX1_draftRange_35
      · refine lv_iload_n hx hb dX1_draftRange_13 rfl (lv_at hl 2 rfl) ?_
        refine lv_bipush (v := 15) hx hb dX1_draftRange_14 (by decide) ?_
        refine lv_icmp_gt (tgt := 34) hx hb dX1_draftRange_16 (by decide) (fun c4 => ?_) (fun c4 => ?_)
        · refine lv_iconst (v := 0) hx hb dX1_draftRange_34 (by decide) ?_
          exact e_bool hI hx hb hr hlocks rfl (Or.inr (Or.inr ⟨(by intro h; simp only [okR, i_le, i_lt] at h c1 c2 c3 c4; omega), rfl, rfl⟩)) dX1_draftRange_35
        · refine lv_iload_n hx hb dX1_draftRange_19 rfl (lv_at hl 3 rfl) ?_
          refine lv_if_lt (tgt := 34) hx hb dX1_draftRange_20 (by decide) (fun c5 => ?_) (fun c5 => ?_)
          · refine lv_iconst (v := 0) hx hb dX1_draftRange_34 (by decide) ?_
            exact e_bool hI hx hb hr hlocks rfl (Or.inr (Or.inr ⟨(by intro h; simp only [okR, i_le, i_lt] at h c1 c2 c3 c4 c5; omega), rfl, rfl⟩)) dX1_draftRange_35
          · refine lv_iload_n hx hb dX1_draftRange_23 rfl (lv_at hl 3 rfl) ?_
            refine lv_bipush (v := 15) hx hb dX1_draftRange_24 (by decide) ?_
            refine lv_icmp_gt (tgt := 34) hx hb dX1_draftRange_26 (by decide) (fun c6 => ?_) (fun c6 => ?_)
            · refine lv_iconst (v := 0) hx hb dX1_draftRange_34 (by decide) ?_
              exact e_bool hI hx hb hr hlocks rfl (Or.inr (Or.inr ⟨(by intro h; simp only [okR, i_le, i_lt] at h c1 c2 c3 c4 c5 c6; omega), rfl, rfl⟩)) dX1_draftRange_35
            · refine lv_iload_n hx hb dX1_draftRange_29 rfl (lv_at hl 2 rfl) ?_
              refine lv_iload_n hx hb dX1_draftRange_30 rfl (lv_at hl 3 rfl) ?_
              refine lv_icmp_le (tgt := 36) hx hb dX1_draftRange_31 (by decide) (fun c7 => ?_) (fun c7 => ?_)
              · have hok : okR x y z := (by simp only [okR, i_le, i_lt] at c1 c2 c3 c4 c5 c6 c7 ⊢; omega)
                refine lv_iload_n hx hb dX1_draftRange_36 rfl (lv_at hl 1 rfl) ?_
                refine lv_if_ne (tgt := 59) hx hb dX1_draftRange_37 (by decide) (fun e1 => ?_) (fun e1 => ?_)
                · refine lv_aload_n hx hb dX1_draftRange_59 rfl (lv_at hl 0 rfl) ?_
                  refine mg3 C hI dX1_draftRange_60 ?_
                  refine lv_bipush (v := 10) hx hb dX1_draftRange_63 (by decide) ?_
                  refine lv_iload_n hx hb dX1_draftRange_65 rfl (lv_at hl 2 rfl) ?_
                  refine ms3 (i := 10) C hI rfl (by decide) dX1_draftRange_66 (fun H locs hI => ?_)
                  refine lv_aload_n hx hb dX1_draftRange_67 rfl (lv_at hl 0 rfl) ?_
                  refine mg4 C hI dX1_draftRange_68 ?_
                  refine lv_bipush (v := 10) hx hb dX1_draftRange_71 (by decide) ?_
                  refine lv_iload_n hx hb dX1_draftRange_73 rfl (lv_at hl 3 rfl) ?_
                  refine ms4 (i := 10) C hI rfl (by decide) dX1_draftRange_74 (fun H locs hI => ?_)
                  refine lv_iconst (v := 1) hx hb dX1_draftRange_75 (by decide) ?_
                  exact e_bool hI hx hb hr hlocks rfl (Or.inr (Or.inl ⟨hok, e1, rfl, rfl⟩)) dX1_draftRange_76
                · refine lv_aload_n hx hb dX1_draftRange_40 rfl (lv_at hl 0 rfl) ?_
                  refine mg1 C hI dX1_draftRange_41 ?_
                  refine lv_bipush (v := 10) hx hb dX1_draftRange_44 (by decide) ?_
                  refine lv_iload_n hx hb dX1_draftRange_46 rfl (lv_at hl 2 rfl) ?_
                  refine ms1 (i := 10) C hI rfl (by decide) dX1_draftRange_47 (fun H locs hI => ?_)
                  refine lv_aload_n hx hb dX1_draftRange_48 rfl (lv_at hl 0 rfl) ?_
                  refine mg2 C hI dX1_draftRange_49 ?_
                  refine lv_bipush (v := 10) hx hb dX1_draftRange_52 (by decide) ?_
                  refine lv_iload_n hx hb dX1_draftRange_54 rfl (lv_at hl 3 rfl) ?_
                  refine ms2 (i := 10) C hI rfl (by decide) dX1_draftRange_55 (fun H locs hI => ?_)
                  refine lv_goto (tgt := 75) hx hb dX1_draftRange_56 (by decide) ?_
                  refine lv_iconst (v := 1) hx hb dX1_draftRange_75 (by decide) ?_
                  exact e_bool hI hx hb hr hlocks rfl (Or.inl ⟨hok, e1, rfl, rfl⟩) dX1_draftRange_76
              · refine lv_iconst (v := 0) hx hb dX1_draftRange_34 (by decide) ?_
                exact e_bool hI hx hb hr hlocks rfl (Or.inr (Or.inr ⟨(by intro h; simp only [okR, i_le, i_lt] at h c1 c2 c3 c4 c5 c6 c7; omega), rfl, rfl⟩)) dX1_draftRange_35
set_option maxHeartbeats 4000000 in
theorem metm_draftSet (l : Launch) (G : GT) (hD : MD G) (n : Int32) (fs : Nat → Int32) (ts : Nat → Int32) (fd : Nat → Int32) (td : Nat → Int32) (wh : Nat → Int32) (ak : Nat → Int32) (sv : Nat → Int32) (x : Int32)   : Met l yX1_draftSet (ws_ yX1_draftSet cX1_draftSet 2 (some .boolean)) (rmd 0) (mPc G (n, fs, ts, fd, td, wh, ak, sv) [.int x]) (mQi G (fun r u1 => ((0 ≤ x ∧ x ≤ 2) ∧ r = 1 ∧ u1 = (n, fs, ts, fd, td, upd wh 10 x, ak, sv)) ∨ (¬ (0 ≤ x ∧ x ≤ 2) ∧ r = 0 ∧ u1 = (n, fs, ts, fd, td, wh, ak, sv)))) 0 0 (mA G) := by
  refine gMet (Rn := RX1) (by decide +kernel) rfl (Nat.le_of_ble_eq_true rfl) hD ?_
  intro p e s m below meth c ls C hr hlocks hI hl
  have hR := RL.rm 0
  have hx := C.1.1
  have hb := C.1.2.1
  have hl : lv_has ls 2 [(0, .ref (G.2.1 0)), (1, .int x)] := hl
  refine lv_iload_n hx hb dX1_draftSet_0 rfl (lv_at hl 1 rfl) ?_
  refine lv_if_lt (tgt := 9) hx hb dX1_draftSet_1 (by decide) (fun c1 => ?_) (fun c1 => ?_)
  · refine lv_iconst (v := 0) hx hb dX1_draftSet_9 (by decide) ?_
    exact e_bool hI hx hb hr hlocks rfl (Or.inr ⟨(by intro h; simp only [i_le, i_lt] at h c1; omega), rfl, rfl⟩) dX1_draftSet_10
  · refine lv_iload_n hx hb dX1_draftSet_4 rfl (lv_at hl 1 rfl) ?_
    refine lv_iconst (v := 2) hx hb dX1_draftSet_5 (by decide) ?_
    refine lv_icmp_le (tgt := 11) hx hb dX1_draftSet_6 (by decide) (fun c2 => ?_) (fun c2 => ?_)
    · have hok : 0 ≤ x ∧ x ≤ 2 := (by simp only [i_le, i_lt] at c1 c2 ⊢; omega)
      refine lv_aload_n hx hb dX1_draftSet_11 rfl (lv_at hl 0 rfl) ?_
      refine mg5 C hI dX1_draftSet_12 ?_
      refine lv_bipush (v := 10) hx hb dX1_draftSet_15 (by decide) ?_
      refine lv_iload_n hx hb dX1_draftSet_17 rfl (lv_at hl 1 rfl) ?_
      refine ms5 (i := 10) C hI rfl (by decide) dX1_draftSet_18 (fun H locs hI => ?_)
      refine lv_iconst (v := 1) hx hb dX1_draftSet_19 (by decide) ?_
      exact e_bool hI hx hb hr hlocks rfl (Or.inl ⟨hok, rfl, rfl⟩) dX1_draftSet_20
    · refine lv_iconst (v := 0) hx hb dX1_draftSet_9 (by decide) ?_
      exact e_bool hI hx hb hr hlocks rfl (Or.inr ⟨(by intro h; simp only [i_le, i_lt] at h c1 c2; omega), rfl, rfl⟩) dX1_draftSet_10
set_option maxHeartbeats 4000000 in
theorem metm_copy (l : Launch) (G : GT) (hD : MD G) (n : Int32) (fs : Nat → Int32) (ts : Nat → Int32) (fd : Nat → Int32) (td : Nat → Int32) (wh : Nat → Int32) (ak : Nat → Int32) (sv : Nat → Int32)  (i j : Nat) (hi : i < 11) (hj : j < 11) : Met l yX1_copy (ws_ yX1_copy cX1_copy 3 none) (rmd 0) (mPc G (n, fs, ts, fd, td, wh, ak, sv) [.int ((nI i)), .int ((nI j))]) (mQv G (fun u1 => u1 = (n, upd fs j (fs i), upd ts j (ts i), upd fd j (fd i), upd td j (td i), upd wh j (wh i), upd ak j (ak i), sv))) 0 0 (mA G) := by
  refine gMet (Rn := RX1) (by decide +kernel) rfl (Nat.le_of_ble_eq_true rfl) hD ?_
  intro p e s m below meth c ls C hr hlocks hI hl
  have hR := RL.rm 0
  have hx := C.1.1
  have hb := C.1.2.1
  have hl : lv_has ls 3 [(0, .ref (G.2.1 0)), (1, .int ((nI i))), (2, .int ((nI j)))] := hl
  refine lv_aload_n hx hb dX1_copy_0 rfl (lv_at hl 0 rfl) ?_
  refine mg1 C hI dX1_copy_1 ?_
  refine lv_iload_n hx hb dX1_copy_4 rfl (lv_at hl 2 rfl) ?_
  refine lv_aload_n hx hb dX1_copy_5 rfl (lv_at hl 0 rfl) ?_
  refine mg1 C hI dX1_copy_6 ?_
  refine lv_iload_n hx hb dX1_copy_9 rfl (lv_at hl 1 rfl) ?_
  refine ml1 (i := i) C hI rfl hi dX1_copy_10 ?_
  refine ms1 (i := j) C hI rfl hj dX1_copy_11 (fun H locs hI => ?_)
  refine lv_aload_n hx hb dX1_copy_12 rfl (lv_at hl 0 rfl) ?_
  refine mg2 C hI dX1_copy_13 ?_
  refine lv_iload_n hx hb dX1_copy_16 rfl (lv_at hl 2 rfl) ?_
  refine lv_aload_n hx hb dX1_copy_17 rfl (lv_at hl 0 rfl) ?_
  refine mg2 C hI dX1_copy_18 ?_
  refine lv_iload_n hx hb dX1_copy_21 rfl (lv_at hl 1 rfl) ?_
  refine ml2 (i := i) C hI rfl hi dX1_copy_22 ?_
  refine ms2 (i := j) C hI rfl hj dX1_copy_23 (fun H locs hI => ?_)
  refine lv_aload_n hx hb dX1_copy_24 rfl (lv_at hl 0 rfl) ?_
  refine mg3 C hI dX1_copy_25 ?_
  refine lv_iload_n hx hb dX1_copy_28 rfl (lv_at hl 2 rfl) ?_
  refine lv_aload_n hx hb dX1_copy_29 rfl (lv_at hl 0 rfl) ?_
  refine mg3 C hI dX1_copy_30 ?_
  refine lv_iload_n hx hb dX1_copy_33 rfl (lv_at hl 1 rfl) ?_
  refine ml3 (i := i) C hI rfl hi dX1_copy_34 ?_
  refine ms3 (i := j) C hI rfl hj dX1_copy_35 (fun H locs hI => ?_)
  refine lv_aload_n hx hb dX1_copy_36 rfl (lv_at hl 0 rfl) ?_
  refine mg4 C hI dX1_copy_37 ?_
  refine lv_iload_n hx hb dX1_copy_40 rfl (lv_at hl 2 rfl) ?_
  refine lv_aload_n hx hb dX1_copy_41 rfl (lv_at hl 0 rfl) ?_
  refine mg4 C hI dX1_copy_42 ?_
  refine lv_iload_n hx hb dX1_copy_45 rfl (lv_at hl 1 rfl) ?_
  refine ml4 (i := i) C hI rfl hi dX1_copy_46 ?_
  refine ms4 (i := j) C hI rfl hj dX1_copy_47 (fun H locs hI => ?_)
  refine lv_aload_n hx hb dX1_copy_48 rfl (lv_at hl 0 rfl) ?_
  refine mg5 C hI dX1_copy_49 ?_
  refine lv_iload_n hx hb dX1_copy_52 rfl (lv_at hl 2 rfl) ?_
  refine lv_aload_n hx hb dX1_copy_53 rfl (lv_at hl 0 rfl) ?_
  refine mg5 C hI dX1_copy_54 ?_
  refine lv_iload_n hx hb dX1_copy_57 rfl (lv_at hl 1 rfl) ?_
  refine ml5 (i := i) C hI rfl hi dX1_copy_58 ?_
  refine ms5 (i := j) C hI rfl hj dX1_copy_59 (fun H locs hI => ?_)
  refine lv_aload_n hx hb dX1_copy_60 rfl (lv_at hl 0 rfl) ?_
  refine mg6 C hI dX1_copy_61 ?_
  refine lv_iload_n hx hb dX1_copy_64 rfl (lv_at hl 2 rfl) ?_
  refine lv_aload_n hx hb dX1_copy_65 rfl (lv_at hl 0 rfl) ?_
  refine mg6 C hI dX1_copy_66 ?_
  refine lv_iload_n hx hb dX1_copy_69 rfl (lv_at hl 1 rfl) ?_
  refine ml6 (i := i) C hI rfl hi dX1_copy_70 ?_
  refine ms6 (i := j) C hI rfl hj dX1_copy_71 (fun H locs hI => ?_)
  exact e_void hI hx hb hr hlocks rfl dX1_copy_72
section MJ
variable {p : Program} {l : Launch} {e : Env} {R : Room} {s : State} {m : MethodId} {args : Array Value} {below : List Frame} {meth : Method} {c : Code} {H : Heap} {locs : List Loc} {Q : State → Prop} {G : GT}
theorem km_copy {cc : ByteArray} {nL pc : Nat} {ls : Array Slot} {rest : List Value} {n : Int32} {fs : Nat → Int32} {ts : Nat → Int32} {fd : Nat → Int32} {td : Nat → Int32} {wh : Nat → Int32} {ak : Nat → Int32} {sv : Nat → Int32} {x : Int32} {y : Int32} {i j : Nat} (ex : x = nI i) (ey : y = nI j) (hi : i < 11) (hj : j < 11) (C : MC p s m args c cc nL G) (hI : MI G s (n, fs, ts, fd, td, wh, ak, sv) H locs) (hR : RL R 1) (hz : ls.size = nL) (hrm : (rest.map fun v => v.category).sum ≤ 8) (hd : decode cc pc = .ok (.invokevirtual 35, 3)) (kk : ∀ (H1 : Heap) (locs1 : List Loc), MI G s (n, upd fs j (fs i), upd ts j (ts i), upd fd j (fd i), upd td j (td i), upd wh j (wh i), upd ak j (ak i), sv) H1 locs1 → W p l e R s m args below meth c H1 locs1 0 0 Q (F0 m (pc + 3) ls rest)) : W p l e R s m args below meth c H locs 0 0 Q (F0 m pc ls (.int y :: .int x :: .ref (G.2.1 0) :: rest)) := by
  subst ex
  subst ey
  exact g_v (n := 2) (metm_copy l G C.2.2 n fs ts fd td wh ak sv i j hi hj) C hI rfl rfl rfl (lw_V q277 q279 qs26 q38 q280) (by decide +kernel) rfl rfl rfl ⟨hR.1, by have := hR.2; show 8 + (3 + 11) + 30 * 0 ≤ R.locals; omega⟩ hz rfl hrm hd (fun u1 H1 locs1 hp hI => by subst hp; exact kk H1 locs1 hI)
set_option maxHeartbeats 4000000 in
theorem min_l {fs : Nat → Int32} {ts : Nat → Int32} {fd : Nat → Int32} {td : Nat → Int32} {wh : Nat → Int32} {ak : Nat → Int32} {sv : Nat → Int32} {N i : Nat} {y : Int32} (C : MC p s m args c cX1_insert 4 G) (hR : RL R 1) (hN : N < 10) (hi : i ≤ N)
    (kk : ∀ (fs1 ts1 fd1 td1 wh1 ak1 : Nat → Int32) (H : Heap) (locs : List Loc) (ls : Array Slot), (∀ k, k < i → rw6 fs1 ts1 fd1 td1 wh1 ak1 k = rw6 fs ts fd td wh ak k) → (∀ k, i ≤ k → k < N → rw6 fs1 ts1 fd1 td1 wh1 ak1 (k + 1) = rw6 fs ts fd td wh ak k) → rw6 fs1 ts1 fd1 td1 wh1 ak1 10 = rw6 fs ts fd td wh ak 10 → MI G s (nI N, fs1, ts1, fd1, td1, wh1, ak1, sv) H locs → lv_has ls 4 [(0, .ref (G.2.1 0)), (1, .int (nI i)), (2, .int y)] → W p l e R s m args below meth c H locs 0 0 Q (F0 m 59 ls [])) :
    ∀ (n : Nat) (j : Nat) (fs1 : Nat → Int32) (ts1 : Nat → Int32) (fd1 : Nat → Int32) (td1 : Nat → Int32) (wh1 : Nat → Int32) (ak1 : Nat → Int32) (H : Heap) (locs : List Loc) (ls : Array Slot), j = i + n → j ≤ N → (∀ k, k < j → rw6 fs1 ts1 fd1 td1 wh1 ak1 k = rw6 fs ts fd td wh ak k) → (∀ k, j ≤ k → k < N → rw6 fs1 ts1 fd1 td1 wh1 ak1 (k + 1) = rw6 fs ts fd td wh ak k) → rw6 fs1 ts1 fd1 td1 wh1 ak1 10 = rw6 fs ts fd td wh ak 10 → MI G s ((nI N), fs1, ts1, fd1, td1, wh1, ak1, sv) H locs → lv_has ls 4 [(3, .int (nI j)), (0, .ref (G.2.1 0)), (1, .int (nI i)), (2, .int y)] → W p l e R s m args below meth c H locs 0 0 Q (F0 m 40 ls []) := by
  have hx := C.1.1
  have hb := C.1.2.1
  intro n
  induction n with
  | zero =>
    intro j fs1 ts1 fd1 td1 wh1 ak1 H locs ls hj hjN h1 h2 h3 hI hl
    refine lv_iload_n hx hb dX1_insert_40 rfl (lv_at hl 0 rfl) ?_
    refine lv_iload_n hx hb dX1_insert_41 rfl (lv_at hl 2 rfl) ?_
    refine lv_icmp_le (tgt := 59) hx hb dX1_insert_42 (by decide) (fun c1 => ?_) (fun c1 => ?_)
    · have e1 : j = i := by omega
      subst e1
      exact kk fs1 ts1 fd1 td1 wh1 ak1 H locs ls h1 h2 h3 hI (lv_sub hl [1, 2, 3] rfl)
    · exact absurd (nl_lt (by omega) (by omega) c1) (by omega)
  | succ n ih =>
    intro j fs1 ts1 fd1 td1 wh1 ak1 H locs ls hj hjN h1 h2 h3 hI hl
    refine lv_iload_n hx hb dX1_insert_40 rfl (lv_at hl 0 rfl) ?_
    refine lv_iload_n hx hb dX1_insert_41 rfl (lv_at hl 2 rfl) ?_
    refine lv_icmp_le (tgt := 59) hx hb dX1_insert_42 (by decide) (fun c1 => ?_) (fun c1 => ?_)
    · exact absurd (nl_le (by omega) (by omega) c1) (by omega)
    · obtain ⟨j, rfl⟩ : ∃ j', j = j' + 1 := ⟨i + n, by omega⟩
      refine lv_aload_n hx hb dX1_insert_45 rfl (lv_at hl 1 rfl) ?_
      refine lv_iload_n hx hb dX1_insert_46 rfl (lv_at hl 0 rfl) ?_
      refine lv_iconst (v := 1) hx hb dX1_insert_47 (by decide) ?_
      refine lv_isub hx hb dX1_insert_48 ?_
      refine lv_iload_n hx hb dX1_insert_49 rfl (lv_at hl 0 rfl) ?_
      refine km_copy (i := j) (j := j + 1) (nI_pred j) rfl (by omega) (by omega) C hI (hR.le (by decide)) hl.1 (Nat.le_of_ble_eq_true rfl) dX1_insert_50 (fun H locs hI => ?_)
      refine lv_iinc (v := nI j) (lv' := [(3, .int (nI j)), (0, .ref (G.2.1 0)), (1, .int (nI i)), (2, .int y)]) hx hb dX1_insert_53 hl (k := 0) rfl (pk_m1 j) (by decide) rfl (fun ls hl => ?_)
      refine lv_goto (tgt := 40) hx hb dX1_insert_56 (by decide) ?_
      refine ih j _ _ _ _ _ _ H locs ls (by omega) (by omega) (fun k hk => ?_) (fun k hk hk2 => ?_) ?_ hI hl
      · rw [rw6_up, if_neg (by omega)]
        exact h1 k (by omega)
      · by_cases e : k = j
        · subst e
          rw [rw6_up, if_pos rfl]
          exact h1 k (by omega)
        · rw [rw6_up, if_neg (by omega)]
          exact h2 k (by omega) hk2
      · rw [rw6_up, if_neg (by omega)]
        exact h3
set_option maxHeartbeats 4000000 in
theorem mre_l {fs : Nat → Int32} {ts : Nat → Int32} {fd : Nat → Int32} {td : Nat → Int32} {wh : Nat → Int32} {ak : Nat → Int32} {sv : Nat → Int32} {M i : Nat} (C : MC p s m args c cX1_remove 3 G) (hR : RL R 1) (hM : M < 10)
    (kk : ∀ (fs1 ts1 fd1 td1 wh1 ak1 : Nat → Int32) (H : Heap) (locs : List Loc) (ls : Array Slot), (∀ k, k < i → rw6 fs1 ts1 fd1 td1 wh1 ak1 k = rw6 fs ts fd td wh ak k) → (∀ k, i ≤ k → k < M → rw6 fs1 ts1 fd1 td1 wh1 ak1 k = rw6 fs ts fd td wh ak (k + 1)) → rw6 fs1 ts1 fd1 td1 wh1 ak1 10 = rw6 fs ts fd td wh ak 10 → MI G s (nI (M + 1), fs1, ts1, fd1, td1, wh1, ak1, sv) H locs → lv_has ls 3 [(0, .ref (G.2.1 0))] → W p l e R s m args below meth c H locs 0 0 Q (F0 m 36 ls [])) :
    ∀ (n : Nat) (j : Nat) (fs1 : Nat → Int32) (ts1 : Nat → Int32) (fd1 : Nat → Int32) (td1 : Nat → Int32) (wh1 : Nat → Int32) (ak1 : Nat → Int32) (H : Heap) (locs : List Loc) (ls : Array Slot), j + n = M → i ≤ j → (∀ k, k < i → rw6 fs1 ts1 fd1 td1 wh1 ak1 k = rw6 fs ts fd td wh ak k) → (∀ k, i ≤ k → k < j → rw6 fs1 ts1 fd1 td1 wh1 ak1 k = rw6 fs ts fd td wh ak (k + 1)) → (∀ k, j ≤ k → rw6 fs1 ts1 fd1 td1 wh1 ak1 k = rw6 fs ts fd td wh ak k) → rw6 fs1 ts1 fd1 td1 wh1 ak1 10 = rw6 fs ts fd td wh ak 10 → MI G s ((nI (M + 1)), fs1, ts1, fd1, td1, wh1, ak1, sv) H locs → lv_has ls 3 [(2, .int (nI j)), (0, .ref (G.2.1 0))] → W p l e R s m args below meth c H locs 0 0 Q (F0 m 12 ls []) := by
  have hx := C.1.1
  have hb := C.1.2.1
  intro n
  induction n with
  | zero =>
    intro j fs1 ts1 fd1 td1 wh1 ak1 H locs ls hj hji h1 h2 h3 h4 hI hl
    refine lv_iload_n hx hb dX1_remove_12 rfl (lv_at hl 0 rfl) ?_
    refine lv_aload_n hx hb dX1_remove_13 rfl (lv_at hl 1 rfl) ?_
    refine mg0 C hI dX1_remove_14 ?_
    refine lv_iconst (v := 1) hx hb dX1_remove_17 (by decide) ?_
    refine lv_isub hx hb dX1_remove_18 ?_
    rw [nI_pred]
    refine lv_icmp_ge (tgt := 36) hx hb dX1_remove_19 (by decide) (fun c1 => ?_) (fun c1 => ?_)
    · exact kk fs1 ts1 fd1 td1 wh1 ak1 H locs ls h1 (fun k hk hk2 => h2 k hk (by omega)) h4 hI (lv_sub hl [1] rfl)
    · exact absurd (nl_lt (by omega) (by omega) c1) (by omega)
  | succ n ih =>
    intro j fs1 ts1 fd1 td1 wh1 ak1 H locs ls hj hji h1 h2 h3 h4 hI hl
    refine lv_iload_n hx hb dX1_remove_12 rfl (lv_at hl 0 rfl) ?_
    refine lv_aload_n hx hb dX1_remove_13 rfl (lv_at hl 1 rfl) ?_
    refine mg0 C hI dX1_remove_14 ?_
    refine lv_iconst (v := 1) hx hb dX1_remove_17 (by decide) ?_
    refine lv_isub hx hb dX1_remove_18 ?_
    rw [nI_pred]
    refine lv_icmp_ge (tgt := 36) hx hb dX1_remove_19 (by decide) (fun c1 => ?_) (fun c1 => ?_)
    · exact absurd (nl_le (by omega) (by omega) c1) (by omega)
    · refine lv_aload_n hx hb dX1_remove_22 rfl (lv_at hl 1 rfl) ?_
      refine lv_iload_n hx hb dX1_remove_23 rfl (lv_at hl 0 rfl) ?_
      refine lv_iconst (v := 1) hx hb dX1_remove_24 (by decide) ?_
      refine lv_iadd hx hb dX1_remove_25 ?_
      refine lv_iload_n hx hb dX1_remove_26 rfl (lv_at hl 0 rfl) ?_
      refine km_copy (i := j + 1) (j := j) (nI_1 j) rfl (by omega) (by omega) C hI (hR.le (by decide)) hl.1 (Nat.le_of_ble_eq_true rfl) dX1_remove_27 (fun H locs hI => ?_)
      refine lv_iinc (v := nI (j + 1)) (lv' := [(2, .int (nI (j + 1))), (0, .ref (G.2.1 0))]) hx hb dX1_remove_30 hl (k := 0) rfl (nI_1 j) (by decide) rfl (fun ls hl => ?_)
      refine lv_goto (tgt := 12) hx hb dX1_remove_33 (by decide) ?_
      refine ih (j + 1) _ _ _ _ _ _ H locs ls (by omega) (by omega) (fun k hk => ?_) (fun k hk hk2 => ?_) (fun k hk => ?_) ?_ hI hl
      · rw [rw6_up, if_neg (by omega)]
        exact h1 k hk
      · by_cases e : k = j
        · subst e
          rw [rw6_up, if_pos rfl]
          exact h3 (k + 1) (by omega)
        · rw [rw6_up, if_neg (by omega)]
          exact h2 k hk (by omega)
      · rw [rw6_up, if_neg (by omega)]
        exact h3 k (by omega)
      · rw [rw6_up, if_neg (by omega)]
        exact h4
set_option maxHeartbeats 4000000 in
theorem msa_l {fs : Nat → Int32} {ts : Nat → Int32} {fd : Nat → Int32} {td : Nat → Int32} {wh : Nat → Int32} {ak : Nat → Int32} {N : Nat} (C : MC p s m args c cX1_save 3 G) (hR : RL R 3) (hN : N ≤ 10)
    (kk : ∀ (sv1 : Nat → Int32) (H : Heap) (locs : List Loc) (ls : Array Slot), (∀ k, k < 512 → sv1 k = mD fs ts fd td wh ak N (nI k) (-1)) → MI G s (nI N, fs, ts, fd, td, wh, ak, sv1) H locs → lv_has ls 3 [(1, .int (smA (fun p => mD fs ts fd td wh ak N (nI p) (-1)) 512))] → W p l e R s m args below meth c H locs 0 0 Q (F0 m 38 ls [])) :
    ∀ (n : Nat) (j : Nat) (sv1 : Nat → Int32) (H : Heap) (locs : List Loc) (ls : Array Slot), j + n = 512 → (∀ k, k < j → sv1 k = mD fs ts fd td wh ak N (nI k) (-1)) → MI G s ((nI N), fs, ts, fd, td, wh, ak, sv1) H locs → lv_has ls 3 [(2, .int (nI j)), (1, .int (smA (fun p => mD fs ts fd td wh ak N (nI p) (-1)) j)), (0, .ref (G.2.1 0))] → W p l e R s m args below meth c H locs 0 0 Q (F0 m 4 ls []) := by
  have hx := C.1.1
  have hb := C.1.2.1
  intro n
  induction n with
  | zero =>
    intro j sv1 H locs ls hj h1 hI hl
    refine lv_iload_n hx hb dX1_save_4 rfl (lv_at hl 0 rfl) ?_
    refine lv_sipush (v := 512) hx hb dX1_save_5 (by decide) ?_
    refine lv_icmp_ge (tgt := 38) hx hb dX1_save_8 (by decide) (fun c1 => ?_) (fun c1 => ?_)
    · have e1 : j = 512 := by omega
      subst e1
      exact kk sv1 H locs ls h1 hI (lv_sub hl [1] rfl)
    · exact absurd (nl_lt (a := 512) (by decide) (by omega) c1) (by omega)
  | succ n ih =>
    intro j sv1 H locs ls hj h1 hI hl
    refine lv_iload_n hx hb dX1_save_4 rfl (lv_at hl 0 rfl) ?_
    refine lv_sipush (v := 512) hx hb dX1_save_5 (by decide) ?_
    refine lv_icmp_ge (tgt := 38) hx hb dX1_save_8 (by decide) (fun c1 => ?_) (fun c1 => ?_)
    · exact absurd (nl_le (a := 512) (by decide) (by omega) c1) (by omega)
    · refine lv_aload_n hx hb dX1_save_11 rfl (lv_at hl 2 rfl) ?_
      refine mg7 C hI dX1_save_12 ?_
      refine lv_iload_n hx hb dX1_save_15 rfl (lv_at hl 0 rfl) ?_
      refine lv_aload_n hx hb dX1_save_16 rfl (lv_at hl 2 rfl) ?_
      refine lv_iload_n hx hb dX1_save_17 rfl (lv_at hl 0 rfl) ?_
      refine lv_iconst (v := (-1 : Int32)) hx hb dX1_save_18 (by decide) ?_
      refine km_decision (N := N) hN C hI (hR.le (by decide)) hl.1 (Nat.le_of_ble_eq_true rfl) dX1_save_19 ?_
      refine ms7 (i := j) C hI rfl (by omega) dX1_save_22 (fun H locs hI => ?_)
      refine lv_iload_n hx hb dX1_save_23 rfl (lv_at hl 1 rfl) ?_
      refine lv_aload_n hx hb dX1_save_24 rfl (lv_at hl 2 rfl) ?_
      refine mg7 C hI dX1_save_25 ?_
      refine lv_iload_n hx hb dX1_save_28 rfl (lv_at hl 0 rfl) ?_
      refine ml7 (i := j) C hI rfl (by omega) dX1_save_29 ?_
      rw [upd, if_pos rfl]
      refine lv_iadd hx hb dX1_save_30 ?_
      refine lv_istore_n (lv' := [(1, .int ((smA (fun p => mD fs ts fd td wh ak N (nI p) (-1)) j) + (mD fs ts fd td wh ak N (nI j) (-1)))), (2, .int (nI j)), (0, .ref (G.2.1 0))]) hx hb dX1_save_31 rfl hl (by decide) rfl (fun ls hl => ?_)
      refine lv_iinc (v := nI (j + 1)) (lv' := [(2, .int (nI (j + 1))), (1, .int ((smA (fun p => mD fs ts fd td wh ak N (nI p) (-1)) j) + (mD fs ts fd td wh ak N (nI j) (-1)))), (0, .ref (G.2.1 0))]) hx hb dX1_save_32 hl (k := 1) rfl (nI_1 j) (by decide) rfl (fun ls hl => ?_)
      refine lv_goto (tgt := 4) hx hb dX1_save_35 (by decide) ?_
      refine ih (j + 1) _ H locs ls (by omega) (fun k hk => ?_) hI (lv_sub hl [0, 1, 2] rfl)
      by_cases e : k = j
      · subst e
        rw [upd, if_pos rfl]
      · rw [upd, if_neg e]
        exact h1 k (by omega)
end MJ
set_option maxHeartbeats 4000000 in
theorem metm_save (l : Launch) (G : GT) (hD : MD G) (fs : Nat → Int32) (ts : Nat → Int32) (fd : Nat → Int32) (td : Nat → Int32) (wh : Nat → Int32) (ak : Nat → Int32) (sv : Nat → Int32)  (N : Nat) (hN : N ≤ 10) : Met l yX1_save (ws_ yX1_save cX1_save 3 (some .int)) (rmd 3) (mPc G ((nI N), fs, ts, fd, td, wh, ak, sv) []) (mQi G (fun r u1 => r = smA (fun p => mD fs ts fd td wh ak N (nI p) (-1)) 512 ∧ ∃ sv1, u1 = (nI N, fs, ts, fd, td, wh, ak, sv1) ∧ ∀ k, k < 512 → sv1 k = mD fs ts fd td wh ak N (nI k) (-1))) 0 0 (mA G) := by
  refine gMet (Rn := RX1) (by decide +kernel) rfl (Nat.le_of_ble_eq_true rfl) hD ?_
  intro p e s m below meth c ls C hr hlocks hI hl
  have hR := RL.rm 3
  have hx := C.1.1
  have hb := C.1.2.1
  have hl : lv_has ls 3 [(0, .ref (G.2.1 0))] := hl
  refine lv_iconst (v := 0) hx hb dX1_save_0 (by decide) ?_
  refine lv_istore_n (lv' := [(1, .int 0), (0, .ref (G.2.1 0))]) hx hb dX1_save_1 rfl hl (by decide) rfl (fun ls hl => ?_)
  refine lv_iconst (v := 0) hx hb dX1_save_2 (by decide) ?_
  refine lv_istore_n (lv' := [(2, .int 0), (1, .int 0), (0, .ref (G.2.1 0))]) hx hb dX1_save_3 rfl hl (by decide) rfl (fun ls hl => ?_)
  refine msa_l (N := N) C hR hN (fun sv1 H locs ls h1 hI hl => ?_) 512 0 sv _ _ ls (by omega) (fun k hk => absurd hk (by omega)) hI (lv_sub hl [0, 1, 2] rfl)
  refine lv_iload_n hx hb dX1_save_38 rfl (lv_at hl 0 rfl) ?_
  exact e_int hI hx hb hr hlocks ⟨rfl, sv1, rfl, h1⟩ dX1_save_39
set_option maxHeartbeats 4000000 in
theorem metm_insert (l : Launch) (G : GT) (hD : MD G) (fs : Nat → Int32) (ts : Nat → Int32) (fd : Nat → Int32) (td : Nat → Int32) (wh : Nat → Int32) (ak : Nat → Int32) (sv : Nat → Int32) (x : Int32) (y : Int32) (N : Nat) (hN : N ≤ 10) : Met l yX1_insert (ws_ yX1_insert cX1_insert 4 (some .int)) (rmd 1) (mPc G ((nI N), fs, ts, fd, td, wh, ak, sv) [.int x, .int y]) (mQi G (fun r u1 => (10 ≤ N ∧ r = (-2) ∧ u1 = (nI N, fs, ts, fd, td, wh, ak, sv)) ∨ (N < 10 ∧ ¬ okI x y N ∧ r = (-1) ∧ u1 = (nI N, fs, ts, fd, td, wh, ak, sv)) ∨ (N < 10 ∧ okI x y N ∧ r = nI (N + 1) ∧ ∃ fs1 ts1 fd1 td1 wh1 ak1, u1 = (nI (N + 1), fs1, ts1, fd1, td1, wh1, ak1, sv) ∧ (∀ k, k < ix x → rw6 fs1 ts1 fd1 td1 wh1 ak1 k = rw6 fs ts fd td wh ak k) ∧ rw6 fs1 ts1 fd1 td1 wh1 ak1 (ix x) = (fs 10, ts 10, fd 10, td 10, wh 10, y) ∧ (∀ k, ix x ≤ k → k < N → rw6 fs1 ts1 fd1 td1 wh1 ak1 (k + 1) = rw6 fs ts fd td wh ak k) ∧ rw6 fs1 ts1 fd1 td1 wh1 ak1 10 = rw6 fs ts fd td wh ak 10))) 0 0 (mA G) := by
  refine gMet (Rn := RX1) (by decide +kernel) rfl (Nat.le_of_ble_eq_true rfl) hD ?_
  intro p e s m below meth c ls C hr hlocks hI hl
  have hR := RL.rm 1
  have hx := C.1.1
  have hb := C.1.2.1
  have hl : lv_has ls 4 [(0, .ref (G.2.1 0)), (1, .int x), (2, .int y)] := hl
  refine lv_aload_n hx hb dX1_insert_0 rfl (lv_at hl 0 rfl) ?_
  refine mg0 C hI dX1_insert_1 ?_
  refine lv_bipush (v := 10) hx hb dX1_insert_4 (by decide) ?_
  refine lv_icmp_ne (tgt := 12) hx hb dX1_insert_6 (by decide) (fun c0 => ?_) (fun c0 => ?_)
  · have hlt : N < 10 := by
      rcases Nat.lt_or_ge N 10 with h | h
      · exact h
      · exact absurd (show nI N = nI 10 by rw [show N = 10 by omega]) c0
    refine lv_iload_n hx hb dX1_insert_12 rfl (lv_at hl 1 rfl) ?_
    refine lv_if_lt (tgt := 33) hx hb dX1_insert_13 (by decide) (fun c1 => ?_) (fun c1 => ?_)
    · refine lv_iconst (v := (-1 : Int32)) hx hb dX1_insert_33 (by decide) ?_
      exact e_int hI hx hb hr hlocks (Or.inr (Or.inl ⟨hlt, (by intro h; simp only [okI, i_le, i_lt] at h c1; omega), rfl, rfl⟩)) dX1_insert_34
    · refine lv_iload_n hx hb dX1_insert_16 rfl (lv_at hl 1 rfl) ?_
      refine lv_aload_n hx hb dX1_insert_17 rfl (lv_at hl 0 rfl) ?_
      refine mg0 C hI dX1_insert_18 ?_
      refine lv_icmp_gt (tgt := 33) hx hb dX1_insert_21 (by decide) (fun c2 => ?_) (fun c2 => ?_)
      · refine lv_iconst (v := (-1 : Int32)) hx hb dX1_insert_33 (by decide) ?_
        exact e_int hI hx hb hr hlocks (Or.inr (Or.inl ⟨hlt, (by intro h; simp only [okI, i_le, i_lt] at h c1 c2; omega), rfl, rfl⟩)) dX1_insert_34
      · refine lv_iload_n hx hb dX1_insert_24 rfl (lv_at hl 2 rfl) ?_
        refine lv_if_lt (tgt := 33) hx hb dX1_insert_25 (by decide) (fun c3 => ?_) (fun c3 => ?_)
        · refine lv_iconst (v := (-1 : Int32)) hx hb dX1_insert_33 (by decide) ?_
          exact e_int hI hx hb hr hlocks (Or.inr (Or.inl ⟨hlt, (by intro h; simp only [okI, i_le, i_lt] at h c1 c2 c3; omega), rfl, rfl⟩)) dX1_insert_34
        · refine lv_iload_n hx hb dX1_insert_28 rfl (lv_at hl 2 rfl) ?_
          refine lv_iconst (v := 1) hx hb dX1_insert_29 (by decide) ?_
          refine lv_icmp_le (tgt := 35) hx hb dX1_insert_30 (by decide) (fun c4 => ?_) (fun c4 => ?_)
          · have hok : okI x y N := (by simp only [okI, i_le, i_lt] at c1 c2 c3 c4 ⊢; omega)
            obtain ⟨i, hi31, rfl⟩ := nI_of (x := x) (i_le_nlt0 hok.1)
            have hi : i ≤ N := (nI_leI hi31 (by omega)).mp hok.2.1
            refine lv_aload_n hx hb dX1_insert_35 rfl (lv_at hl 0 rfl) ?_
            refine mg0 C hI dX1_insert_36 ?_
            refine lv_istore_n (lv' := [(3, .int (nI N)), (0, .ref (G.2.1 0)), (1, .int (nI i)), (2, .int y)]) hx hb dX1_insert_39 rfl hl (by decide) rfl (fun ls hl => ?_)
            refine min_l (N := N) (i := i) C hR hlt hi (fun fs1 ts1 fd1 td1 wh1 ak1 H locs ls h1 h2 h3 hI hl => ?_) (N - i) N fs ts fd td wh ak _ _ ls (by omega) (Nat.le_refl _) (fun k _ => rfl) (fun k h h9 => absurd h9 (by omega)) rfl hI (lv_sub hl [0, 1, 2, 3] rfl)
            refine lv_aload_n hx hb dX1_insert_59 rfl (lv_at hl 0 rfl) ?_
            refine lv_bipush (v := 10) hx hb dX1_insert_60 (by decide) ?_
            refine lv_iload_n hx hb dX1_insert_62 rfl (lv_at hl 1 rfl) ?_
            refine km_copy (i := 10) (j := i) rfl rfl (by decide) (by omega) C hI (hR.le (by decide)) hl.1 (Nat.le_of_ble_eq_true rfl) dX1_insert_63 (fun H locs hI => ?_)
            refine lv_aload_n hx hb dX1_insert_66 rfl (lv_at hl 0 rfl) ?_
            refine mg6 C hI dX1_insert_67 ?_
            refine lv_iload_n hx hb dX1_insert_70 rfl (lv_at hl 1 rfl) ?_
            refine lv_iload_n hx hb dX1_insert_71 rfl (lv_at hl 2 rfl) ?_
            refine ms6 (i := i) C hI rfl (by omega) dX1_insert_72 (fun H locs hI => ?_)
            refine lv_aload_n hx hb dX1_insert_73 rfl (lv_at hl 0 rfl) ?_
            refine lv_dup hx hb dX1_insert_74 rfl ?_
            refine mg0 C hI dX1_insert_75 ?_
            refine lv_iconst (v := 1) hx hb dX1_insert_78 (by decide) ?_
            refine lv_iadd hx hb dX1_insert_79 ?_
            refine mp0 C hI dX1_insert_80 (fun H locs hI => ?_)
            refine lv_aload_n hx hb dX1_insert_83 rfl (lv_at hl 0 rfl) ?_
            refine mg0 C hI dX1_insert_84 ?_
            have hrow : ∀ k, k ≠ i → rw6 (upd fs1 i (fs1 10)) (upd ts1 i (ts1 10)) (upd fd1 i (fd1 10)) (upd td1 i (td1 10)) (upd wh1 i (wh1 10)) (upd (upd ak1 i (ak1 10)) i y) k = rw6 fs1 ts1 fd1 td1 wh1 ak1 k := fun k hk => by simp only [rw6, upd, if_neg hk]
            have e10 : (fs1 10, ts1 10, fd1 10, td1 10, wh1 10, ak1 10) = (fs 10, ts 10, fd 10, td 10, wh 10, ak 10) := h3
            refine e_int hI hx hb hr hlocks (Or.inr (Or.inr ⟨hlt, hok, nI_1 N, _, _, _, _, _, _, by rw [nI_1], fun k hk => ?_, ?_, fun k hk hk2 => ?_, ?_⟩)) dX1_insert_87
            · rw [ix_nI (by omega)] at hk
              rw [hrow k (by omega)]
              exact h1 k hk
            · rw [ix_nI (by omega)]
              simp only [rw6, upd, if_pos]
              simp only [Prod.mk.injEq] at e10 ⊢
              exact ⟨e10.1, e10.2.1, e10.2.2.1, e10.2.2.2.1, e10.2.2.2.2.1, trivial⟩
            · rw [ix_nI (by omega)] at hk
              rw [hrow (k + 1) (by omega)]
              exact h2 k hk hk2
            · rw [hrow 10 (by omega)]
              exact h3
          · refine lv_iconst (v := (-1 : Int32)) hx hb dX1_insert_33 (by decide) ?_
            exact e_int hI hx hb hr hlocks (Or.inr (Or.inl ⟨hlt, (by intro h; simp only [okI, i_le, i_lt] at h c1 c2 c3 c4; omega), rfl, rfl⟩)) dX1_insert_34
  · have hge : 10 ≤ N := Nat.le_of_eq ((nI_eq (a := N) (b := 10) (by omega) (by decide)).mp c0).symm
    refine lv_bipush (v := (-2 : Int32)) hx hb dX1_insert_9 (by decide) ?_
    exact e_int hI hx hb hr hlocks (Or.inl ⟨hge, rfl, rfl⟩) dX1_insert_11
set_option maxHeartbeats 4000000 in
theorem metm_remove (l : Launch) (G : GT) (hD : MD G) (fs : Nat → Int32) (ts : Nat → Int32) (fd : Nat → Int32) (td : Nat → Int32) (wh : Nat → Int32) (ak : Nat → Int32) (sv : Nat → Int32) (x : Int32) (N : Nat) (hN : N ≤ 10) : Met l yX1_remove (ws_ yX1_remove cX1_remove 3 (some .int)) (rmd 1) (mPc G ((nI N), fs, ts, fd, td, wh, ak, sv) [.int x]) (mQi G (fun r u1 => (¬ isR x N ∧ r = (-1) ∧ u1 = (nI N, fs, ts, fd, td, wh, ak, sv)) ∨ (isR x N ∧ r = nI (N - 1) ∧ ∃ fs1 ts1 fd1 td1 wh1 ak1, u1 = (nI (N - 1), fs1, ts1, fd1, td1, wh1, ak1, sv) ∧ (∀ k, k < ix x → rw6 fs1 ts1 fd1 td1 wh1 ak1 k = rw6 fs ts fd td wh ak k) ∧ (∀ k, ix x ≤ k → k + 1 < N → rw6 fs1 ts1 fd1 td1 wh1 ak1 k = rw6 fs ts fd td wh ak (k + 1)) ∧ rw6 fs1 ts1 fd1 td1 wh1 ak1 10 = rw6 fs ts fd td wh ak 10))) 0 0 (mA G) := by
  refine gMet (Rn := RX1) (by decide +kernel) rfl (Nat.le_of_ble_eq_true rfl) hD ?_
  intro p e s m below meth c ls C hr hlocks hI hl
  have hR := RL.rm 1
  have hx := C.1.1
  have hb := C.1.2.1
  have hl : lv_has ls 3 [(0, .ref (G.2.1 0)), (1, .int x)] := hl
  refine lv_aload_n hx hb dX1_remove_0 rfl (lv_at hl 0 rfl) ?_
  refine lv_iload_n hx hb dX1_remove_1 rfl (lv_at hl 1 rfl) ?_
  refine km_isRule C hI (hR.le (by decide)) hl.1 (Nat.le_of_ble_eq_true rfl) dX1_remove_2 ?_
  refine lv_if_ne (tgt := 10) hx hb dX1_remove_5 (by decide) (fun c1 => ?_) (fun c1 => ?_)
  · have c1 := if1 c1
    have c1 : isR x N := c1
    obtain ⟨i, hi, rfl⟩ := isR_ix hN c1
    obtain ⟨M, rfl⟩ : ∃ M, N = M + 1 := ⟨N - 1, by omega⟩
    refine lv_iload_n hx hb dX1_remove_10 rfl (lv_at hl 1 rfl) ?_
    refine lv_istore_n (lv' := [(2, .int (nI i)), (0, .ref (G.2.1 0)), (1, .int (nI i))]) hx hb dX1_remove_11 rfl hl (by decide) rfl (fun ls hl => ?_)
    refine mre_l (M := M) (i := i) C hR (by omega) (fun fs1 ts1 fd1 td1 wh1 ak1 H locs ls h1 h2 h3 hI hl => ?_) (M - i) i fs ts fd td wh ak _ _ ls (by omega) (Nat.le_refl _) (fun k _ => rfl) (fun k h h9 => absurd h9 (by omega)) (fun k _ => rfl) rfl hI (lv_sub hl [0, 1] rfl)
    refine lv_aload_n hx hb dX1_remove_36 rfl (lv_at hl 0 rfl) ?_
    refine lv_dup hx hb dX1_remove_37 rfl ?_
    refine mg0 C hI dX1_remove_38 ?_
    refine lv_iconst (v := 1) hx hb dX1_remove_41 (by decide) ?_
    refine lv_isub hx hb dX1_remove_42 ?_
    rw [nI_pred]
    refine mp0 C hI dX1_remove_43 (fun H locs hI => ?_)
    refine lv_aload_n hx hb dX1_remove_46 rfl (lv_at hl 0 rfl) ?_
    refine mg0 C hI dX1_remove_47 ?_
    exact e_int hI hx hb hr hlocks (Or.inr ⟨c1, rfl, fs1, ts1, fd1, td1, wh1, ak1, rfl, fun k hk => h1 k (by rw [ix_nI (by omega)] at hk; exact hk), (fun k hk hk2 => h2 k (by rw [ix_nI (by omega)] at hk; exact hk) (by omega)), h3⟩) dX1_remove_50
  · have c1 := if0 c1
    refine lv_iconst (v := (-1 : Int32)) hx hb dX1_remove_8 (by decide) ?_
    exact e_int hI hx hb hr hlocks (Or.inl ⟨c1, rfl, rfl⟩) dX1_remove_9
end
section
/-! the two constructors -/
set_option maxRecDepth 100000
def XU0 : XS := (15421, 0, fun _ => 0, fun _ => 0, fun _ => 0, 0, fun _ => 0, 0, fun _ => 0, 0, fun _ => 0, 0)
def MU0 : MS := (0, fun _ => 0, upd (fun _ => 0) 10 15, fun _ => 0, upd (fun _ => 0) 10 15, upd (fun _ => 0) 10 2, fun _ => 0, fun _ => 0)
set_option maxHeartbeats 4000000 in
theorem metx_init (l : Launch) (dC : Nat → ClassId) (dI : Nat → Nat → Nat) (h0 sz : Nat) : Met l yX0_init (ws_ yX0_init cX0_init 1 none) ({ frames := 1, cells := 6, slots := 2068, locals := 12 }) (va_Pc [.ref h0] (fun U => U.heap.size = sz ∧ va_P (dC, dI) vwCl [(h0, .inr (0, [.int 0, .int 0, .null, .null, .null, .int 0, .null, .int 0, .null, .int 0, .null, .int 0]))] U.heap ∧ va_K (dC, dI) vwCl [] U ∧ va_D (fun _ => True) [(h0, .inr (0, [.int 0, .int 0, .null, .null, .null, .int 0, .null, .int 0, .null, .int 0, .null, .int 0]))])) (va_Qv (fun _ : (Nat → Nat) × ClassId × ClassId => True) (fun g t => g.1 0 = h0 ∧ va_P (dC, dI) vwCl (XW ((dC, dI), g) XU0) t.heap ∧ va_K (dC, dI) vwCl (xT ((dC, dI), g)) t ∧ va_D (va_A [(h0, .inr (0, [.int 0, .int 0, .null, .null, .null, .int 0, .null, .int 0, .null, .int 0, .null, .int 0]))] sz) (XW ((dC, dI), g) XU0)) (va_A [(h0, .inr (0, [.int 0, .int 0, .null, .null, .null, .int 0, .null, .int 0, .null, .int 0, .null, .int 0]))] sz)) 6 2068 (va_A [(h0, .inr (0, [.int 0, .int 0, .null, .null, .null, .int 0, .null, .int 0, .null, .int 0, .null, .int 0]))] sz) := by
  refine Met.ofW (cc := cX0_init) (maxL := 1) (ret := none) (by decide) rfl ?_
  intro p e s m args below meth c s₁ B hml hv
  obtain ⟨rfl, hsz, hP, hK, hD0⟩ := hv
  have hx := B.exec
  have hb := B.bytes
  have hr := B.returns
  have hts := atoms_spec (ws := ws_ yX0_init cX0_init 1 none) B.pre
  have hts : ∀ w ∈ lw_all, w.before _ s = true := fun w h => hts w (List.mem_cons_of_mem _ h)
  have hown : s.vm.findClass RX0 = some m.cls := findClass_of_methodNamed B.named
  have hlocks := B.notSynchronized
  have hin : meth.name = "<init>" := (name_of_methodNamed B.named B.method).1
  subst hsz
  have hD := hD0.self (sz := s.heap.size)
  generalize hAe : va_A [(h0, .inr (0, [.int 0, .int 0, .null, .null, .null, .int 0, .null, .int 0, .null, .int 0, .null, .int 0]))] s.heap.size = A at hD ⊢
  have hA : ∀ q : Nat, s.heap.size ≤ q → A q := fun q h => by rw [← hAe]; exact Or.inr h
  have hS : va_S A s.heap s.heap [] := va_S.rf
  have hP : va_P (dC, dI) vwCl [(h0, .inr (0, [.int 0, .int 0, .null, .null, .null, .int 0, .null, .int 0, .null, .int 0, .null, .int 0]))] s.heap := hP
  have hl := lv_entry ([.ref h0]) (n := 1) (Nat.le_of_ble_eq_true rfl)
  rw [lg_entry_eq]
  generalize (lg_sl ([.ref h0]) ++ List.replicate (1 - (lg_sl ([.ref h0])).length) Slot.unset).toArray = ls at hl ⊢
  have hl : lv_has ls 1 [(0, .ref h0)] := hl
  refine lv_aload_n hx hb dX0_init_0 rfl (lv_at hl 0 rfl) ?_
  refine W.objInit hx hb hown (hts _ q44) (hts _ q45) (hts _ q46) rfl (by rw [hml]; exact hl.1) rfl dX0_init_1 (Nat.le_of_ble_eq_true rfl) (Nat.le_of_ble_eq_true rfl) ?_
  refine W.eq (g2 := F0 m 4 ls []) rfl ?_
  refine lv_aload_n hx hb dX0_init_4 rfl (lv_at hl 0 rfl) ?_
  refine lv_bipush (v := 10) hx hb dX0_init_5 (by decide) ?_
  refine va_newa (atype := .int) (ty := .int) (a0 := (10, .inl (fun _ => 0))) (N' := 10) hx hb (hts _ q84) rfl hK hP hD hS hA (fun _ => rfl) (by decide) (by decide) (by decide) (Nat.le_of_ble_eq_true rfl) (Nat.le_of_ble_eq_true rfl) dX0_init_7 (fun q1 c1 H hK hP hD hS => ?_)
  have hK : va_K (dC, dI) vwCl [(c1, .int)] s := hK
  have hP : va_P (dC, dI) vwCl [(h0, .inr (0, [.int 0, .int 0, .null, .null, .null, .int 0, .null, .int 0, .null, .int 0, .null, .int 0])), (q1, .inl (c1, 10, .inl (fun _ => 0)))] H := hP
  have hD : va_D A [(h0, .inr (0, [.int 0, .int 0, .null, .null, .null, .int 0, .null, .int 0, .null, .int 0, .null, .int 0])), (q1, .inl (c1, 10, .inl (fun _ => 0)))] := hD
  refine va_putF (D := (dC, dI)) (ci := 0) (v := .ref q1) (ty := .array .int) (C := RX0) (T := TX0) (N := 12) hx hb hts in_X0 tyX0 tyX0_ok nmX0 hown hK hP hD hS 0 rfl rfl 2 (by decide) (hts _ q49) (fun _ h9 => h9) rfl hin rfl (by decide +kernel) rfl rfl (Nat.le_of_ble_eq_true rfl) dX0_init_9 (fun H locs hP hD hS => ?_)
  have hP : va_P (dC, dI) vwCl [(h0, .inr (0, [.int 0, .int 0, .ref q1, .null, .null, .int 0, .null, .int 0, .null, .int 0, .null, .int 0])), (q1, .inl (c1, 10, .inl (fun _ => 0)))] H := hP
  have hD : va_D A [(h0, .inr (0, [.int 0, .int 0, .ref q1, .null, .null, .int 0, .null, .int 0, .null, .int 0, .null, .int 0])), (q1, .inl (c1, 10, .inl (fun _ => 0)))] := hD
  refine lv_aload_n hx hb dX0_init_12 rfl (lv_at hl 0 rfl) ?_
  refine lv_bipush (v := 10) hx hb dX0_init_13 (by decide) ?_
  refine va_newa (atype := .byte) (ty := .byte) (a0 := (10, .inl (fun _ => 0))) (N' := 10) hx hb (hts _ q85) rfl hK hP hD hS hA (fun _ => rfl) (by decide) (by decide) (by decide) (Nat.le_of_ble_eq_true rfl) (Nat.le_of_ble_eq_true rfl) dX0_init_15 (fun q2 c2 H hK hP hD hS => ?_)
  have hK : va_K (dC, dI) vwCl [(c1, .int), (c2, .byte)] s := hK
  have hP : va_P (dC, dI) vwCl [(h0, .inr (0, [.int 0, .int 0, .ref q1, .null, .null, .int 0, .null, .int 0, .null, .int 0, .null, .int 0])), (q1, .inl (c1, 10, .inl (fun _ => 0))), (q2, .inl (c2, 10, .inl (fun _ => 0)))] H := hP
  have hD : va_D A [(h0, .inr (0, [.int 0, .int 0, .ref q1, .null, .null, .int 0, .null, .int 0, .null, .int 0, .null, .int 0])), (q1, .inl (c1, 10, .inl (fun _ => 0))), (q2, .inl (c2, 10, .inl (fun _ => 0)))] := hD
  refine va_putF (D := (dC, dI)) (ci := 0) (v := .ref q2) (ty := .array .byte) (C := RX0) (T := TX0) (N := 12) hx hb hts in_X0 tyX0 tyX0_ok nmX0 hown hK hP hD hS 0 rfl rfl 3 (by decide) (hts _ q50) (fun _ h9 => h9) rfl hin rfl (by decide +kernel) rfl rfl (Nat.le_of_ble_eq_true rfl) dX0_init_17 (fun H locs hP hD hS => ?_)
  have hP : va_P (dC, dI) vwCl [(h0, .inr (0, [.int 0, .int 0, .ref q1, .ref q2, .null, .int 0, .null, .int 0, .null, .int 0, .null, .int 0])), (q1, .inl (c1, 10, .inl (fun _ => 0))), (q2, .inl (c2, 10, .inl (fun _ => 0)))] H := hP
  have hD : va_D A [(h0, .inr (0, [.int 0, .int 0, .ref q1, .ref q2, .null, .int 0, .null, .int 0, .null, .int 0, .null, .int 0])), (q1, .inl (c1, 10, .inl (fun _ => 0))), (q2, .inl (c2, 10, .inl (fun _ => 0)))] := hD
  refine lv_aload_n hx hb dX0_init_20 rfl (lv_at hl 0 rfl) ?_
  refine lv_sipush (v := 512) hx hb dX0_init_21 (by decide) ?_
  refine va_newa (atype := .int) (ty := .int) (a0 := (512, .inl (fun _ => 0))) (N' := 512) hx hb (hts _ q84) rfl hK hP hD hS hA (fun _ => rfl) (by decide) (by decide) (by decide) (Nat.le_of_ble_eq_true rfl) (Nat.le_of_ble_eq_true rfl) dX0_init_24 (fun q3 c3 H hK hP hD hS => ?_)
  obtain rfl : c1 = c3 := Option.some.inj ((hK.2 0 _ rfl).2.symm.trans (hK.2 2 _ rfl).2)
  have hK := hK.sub (tys' := [(c1, .int), (c2, .byte)]) [0, 1] rfl
  have hP : va_P (dC, dI) vwCl [(h0, .inr (0, [.int 0, .int 0, .ref q1, .ref q2, .null, .int 0, .null, .int 0, .null, .int 0, .null, .int 0])), (q1, .inl (c1, 10, .inl (fun _ => 0))), (q2, .inl (c2, 10, .inl (fun _ => 0))), (q3, .inl (c1, 512, .inl (fun _ => 0)))] H := hP
  have hD : va_D A [(h0, .inr (0, [.int 0, .int 0, .ref q1, .ref q2, .null, .int 0, .null, .int 0, .null, .int 0, .null, .int 0])), (q1, .inl (c1, 10, .inl (fun _ => 0))), (q2, .inl (c2, 10, .inl (fun _ => 0))), (q3, .inl (c1, 512, .inl (fun _ => 0)))] := hD
  refine va_putF (D := (dC, dI)) (ci := 0) (v := .ref q3) (ty := .array .int) (C := RX0) (T := TX0) (N := 12) hx hb hts in_X0 tyX0 tyX0_ok nmX0 hown hK hP hD hS 0 rfl rfl 4 (by decide) (hts _ q51) (fun _ h9 => h9) rfl hin rfl (by decide +kernel) rfl rfl (Nat.le_of_ble_eq_true rfl) dX0_init_26 (fun H locs hP hD hS => ?_)
  have hP : va_P (dC, dI) vwCl [(h0, .inr (0, [.int 0, .int 0, .ref q1, .ref q2, .ref q3, .int 0, .null, .int 0, .null, .int 0, .null, .int 0])), (q1, .inl (c1, 10, .inl (fun _ => 0))), (q2, .inl (c2, 10, .inl (fun _ => 0))), (q3, .inl (c1, 512, .inl (fun _ => 0)))] H := hP
  have hD : va_D A [(h0, .inr (0, [.int 0, .int 0, .ref q1, .ref q2, .ref q3, .int 0, .null, .int 0, .null, .int 0, .null, .int 0])), (q1, .inl (c1, 10, .inl (fun _ => 0))), (q2, .inl (c2, 10, .inl (fun _ => 0))), (q3, .inl (c1, 512, .inl (fun _ => 0)))] := hD
  refine lv_aload_n hx hb dX0_init_29 rfl (lv_at hl 0 rfl) ?_
  refine lv_sipush (v := 512) hx hb dX0_init_30 (by decide) ?_
  refine va_newa (atype := .int) (ty := .int) (a0 := (512, .inl (fun _ => 0))) (N' := 512) hx hb (hts _ q84) rfl hK hP hD hS hA (fun _ => rfl) (by decide) (by decide) (by decide) (Nat.le_of_ble_eq_true rfl) (Nat.le_of_ble_eq_true rfl) dX0_init_33 (fun q4 c4 H hK hP hD hS => ?_)
  obtain rfl : c1 = c4 := Option.some.inj ((hK.2 0 _ rfl).2.symm.trans (hK.2 2 _ rfl).2)
  have hK := hK.sub (tys' := [(c1, .int), (c2, .byte)]) [0, 1] rfl
  have hP : va_P (dC, dI) vwCl [(h0, .inr (0, [.int 0, .int 0, .ref q1, .ref q2, .ref q3, .int 0, .null, .int 0, .null, .int 0, .null, .int 0])), (q1, .inl (c1, 10, .inl (fun _ => 0))), (q2, .inl (c2, 10, .inl (fun _ => 0))), (q3, .inl (c1, 512, .inl (fun _ => 0))), (q4, .inl (c1, 512, .inl (fun _ => 0)))] H := hP
  have hD : va_D A [(h0, .inr (0, [.int 0, .int 0, .ref q1, .ref q2, .ref q3, .int 0, .null, .int 0, .null, .int 0, .null, .int 0])), (q1, .inl (c1, 10, .inl (fun _ => 0))), (q2, .inl (c2, 10, .inl (fun _ => 0))), (q3, .inl (c1, 512, .inl (fun _ => 0))), (q4, .inl (c1, 512, .inl (fun _ => 0)))] := hD
  refine va_putF (D := (dC, dI)) (ci := 0) (v := .ref q4) (ty := .array .int) (C := RX0) (T := TX0) (N := 12) hx hb hts in_X0 tyX0 tyX0_ok nmX0 hown hK hP hD hS 0 rfl rfl 6 (by decide) (hts _ q53) (fun _ h9 => h9) rfl hin rfl (by decide +kernel) rfl rfl (Nat.le_of_ble_eq_true rfl) dX0_init_35 (fun H locs hP hD hS => ?_)
  have hP : va_P (dC, dI) vwCl [(h0, .inr (0, [.int 0, .int 0, .ref q1, .ref q2, .ref q3, .int 0, .ref q4, .int 0, .null, .int 0, .null, .int 0])), (q1, .inl (c1, 10, .inl (fun _ => 0))), (q2, .inl (c2, 10, .inl (fun _ => 0))), (q3, .inl (c1, 512, .inl (fun _ => 0))), (q4, .inl (c1, 512, .inl (fun _ => 0)))] H := hP
  have hD : va_D A [(h0, .inr (0, [.int 0, .int 0, .ref q1, .ref q2, .ref q3, .int 0, .ref q4, .int 0, .null, .int 0, .null, .int 0])), (q1, .inl (c1, 10, .inl (fun _ => 0))), (q2, .inl (c2, 10, .inl (fun _ => 0))), (q3, .inl (c1, 512, .inl (fun _ => 0))), (q4, .inl (c1, 512, .inl (fun _ => 0)))] := hD
  refine lv_aload_n hx hb dX0_init_38 rfl (lv_at hl 0 rfl) ?_
  refine lv_sipush (v := 512) hx hb dX0_init_39 (by decide) ?_
  refine va_newa (atype := .int) (ty := .int) (a0 := (512, .inl (fun _ => 0))) (N' := 512) hx hb (hts _ q84) rfl hK hP hD hS hA (fun _ => rfl) (by decide) (by decide) (by decide) (Nat.le_of_ble_eq_true rfl) (Nat.le_of_ble_eq_true rfl) dX0_init_42 (fun q5 c5 H hK hP hD hS => ?_)
  obtain rfl : c1 = c5 := Option.some.inj ((hK.2 0 _ rfl).2.symm.trans (hK.2 2 _ rfl).2)
  have hK := hK.sub (tys' := [(c1, .int), (c2, .byte)]) [0, 1] rfl
  have hP : va_P (dC, dI) vwCl [(h0, .inr (0, [.int 0, .int 0, .ref q1, .ref q2, .ref q3, .int 0, .ref q4, .int 0, .null, .int 0, .null, .int 0])), (q1, .inl (c1, 10, .inl (fun _ => 0))), (q2, .inl (c2, 10, .inl (fun _ => 0))), (q3, .inl (c1, 512, .inl (fun _ => 0))), (q4, .inl (c1, 512, .inl (fun _ => 0))), (q5, .inl (c1, 512, .inl (fun _ => 0)))] H := hP
  have hD : va_D A [(h0, .inr (0, [.int 0, .int 0, .ref q1, .ref q2, .ref q3, .int 0, .ref q4, .int 0, .null, .int 0, .null, .int 0])), (q1, .inl (c1, 10, .inl (fun _ => 0))), (q2, .inl (c2, 10, .inl (fun _ => 0))), (q3, .inl (c1, 512, .inl (fun _ => 0))), (q4, .inl (c1, 512, .inl (fun _ => 0))), (q5, .inl (c1, 512, .inl (fun _ => 0)))] := hD
  refine va_putF (D := (dC, dI)) (ci := 0) (v := .ref q5) (ty := .array .int) (C := RX0) (T := TX0) (N := 12) hx hb hts in_X0 tyX0 tyX0_ok nmX0 hown hK hP hD hS 0 rfl rfl 8 (by decide) (hts _ q55) (fun _ h9 => h9) rfl hin rfl (by decide +kernel) rfl rfl (Nat.le_of_ble_eq_true rfl) dX0_init_44 (fun H locs hP hD hS => ?_)
  have hP : va_P (dC, dI) vwCl [(h0, .inr (0, [.int 0, .int 0, .ref q1, .ref q2, .ref q3, .int 0, .ref q4, .int 0, .ref q5, .int 0, .null, .int 0])), (q1, .inl (c1, 10, .inl (fun _ => 0))), (q2, .inl (c2, 10, .inl (fun _ => 0))), (q3, .inl (c1, 512, .inl (fun _ => 0))), (q4, .inl (c1, 512, .inl (fun _ => 0))), (q5, .inl (c1, 512, .inl (fun _ => 0)))] H := hP
  have hD : va_D A [(h0, .inr (0, [.int 0, .int 0, .ref q1, .ref q2, .ref q3, .int 0, .ref q4, .int 0, .ref q5, .int 0, .null, .int 0])), (q1, .inl (c1, 10, .inl (fun _ => 0))), (q2, .inl (c2, 10, .inl (fun _ => 0))), (q3, .inl (c1, 512, .inl (fun _ => 0))), (q4, .inl (c1, 512, .inl (fun _ => 0))), (q5, .inl (c1, 512, .inl (fun _ => 0)))] := hD
  refine lv_aload_n hx hb dX0_init_47 rfl (lv_at hl 0 rfl) ?_
  refine lv_sipush (v := 512) hx hb dX0_init_48 (by decide) ?_
  refine va_newa (atype := .int) (ty := .int) (a0 := (512, .inl (fun _ => 0))) (N' := 512) hx hb (hts _ q84) rfl hK hP hD hS hA (fun _ => rfl) (by decide) (by decide) (by decide) (Nat.le_of_ble_eq_true rfl) (Nat.le_of_ble_eq_true rfl) dX0_init_51 (fun q6 c6 H hK hP hD hS => ?_)
  obtain rfl : c1 = c6 := Option.some.inj ((hK.2 0 _ rfl).2.symm.trans (hK.2 2 _ rfl).2)
  have hK := hK.sub (tys' := [(c1, .int), (c2, .byte)]) [0, 1] rfl
  have hP : va_P (dC, dI) vwCl [(h0, .inr (0, [.int 0, .int 0, .ref q1, .ref q2, .ref q3, .int 0, .ref q4, .int 0, .ref q5, .int 0, .null, .int 0])), (q1, .inl (c1, 10, .inl (fun _ => 0))), (q2, .inl (c2, 10, .inl (fun _ => 0))), (q3, .inl (c1, 512, .inl (fun _ => 0))), (q4, .inl (c1, 512, .inl (fun _ => 0))), (q5, .inl (c1, 512, .inl (fun _ => 0))), (q6, .inl (c1, 512, .inl (fun _ => 0)))] H := hP
  have hD : va_D A [(h0, .inr (0, [.int 0, .int 0, .ref q1, .ref q2, .ref q3, .int 0, .ref q4, .int 0, .ref q5, .int 0, .null, .int 0])), (q1, .inl (c1, 10, .inl (fun _ => 0))), (q2, .inl (c2, 10, .inl (fun _ => 0))), (q3, .inl (c1, 512, .inl (fun _ => 0))), (q4, .inl (c1, 512, .inl (fun _ => 0))), (q5, .inl (c1, 512, .inl (fun _ => 0))), (q6, .inl (c1, 512, .inl (fun _ => 0)))] := hD
  refine va_putF (D := (dC, dI)) (ci := 0) (v := .ref q6) (ty := .array .int) (C := RX0) (T := TX0) (N := 12) hx hb hts in_X0 tyX0 tyX0_ok nmX0 hown hK hP hD hS 0 rfl rfl 10 (by decide) (hts _ q57) (fun _ h9 => h9) rfl hin rfl (by decide +kernel) rfl rfl (Nat.le_of_ble_eq_true rfl) dX0_init_53 (fun H locs hP hD hS => ?_)
  have hP : va_P (dC, dI) vwCl [(h0, .inr (0, [.int 0, .int 0, .ref q1, .ref q2, .ref q3, .int 0, .ref q4, .int 0, .ref q5, .int 0, .ref q6, .int 0])), (q1, .inl (c1, 10, .inl (fun _ => 0))), (q2, .inl (c2, 10, .inl (fun _ => 0))), (q3, .inl (c1, 512, .inl (fun _ => 0))), (q4, .inl (c1, 512, .inl (fun _ => 0))), (q5, .inl (c1, 512, .inl (fun _ => 0))), (q6, .inl (c1, 512, .inl (fun _ => 0)))] H := hP
  have hD : va_D A [(h0, .inr (0, [.int 0, .int 0, .ref q1, .ref q2, .ref q3, .int 0, .ref q4, .int 0, .ref q5, .int 0, .ref q6, .int 0])), (q1, .inl (c1, 10, .inl (fun _ => 0))), (q2, .inl (c2, 10, .inl (fun _ => 0))), (q3, .inl (c1, 512, .inl (fun _ => 0))), (q4, .inl (c1, 512, .inl (fun _ => 0))), (q5, .inl (c1, 512, .inl (fun _ => 0))), (q6, .inl (c1, 512, .inl (fun _ => 0)))] := hD
  refine lv_aload_n hx hb dX0_init_56 rfl (lv_at hl 0 rfl) ?_
  refine lv_sipush (v := 15421) hx hb dX0_init_57 (by decide) ?_
  refine va_put (D := (dC, dI)) (ci := 0) (v := .int 15421) (ty := .int) (C := RX0) (T := TX0) (N := 12) hx hb hts in_X0 tyX0 tyX0_ok nmX0 hown hK hP hD hS 0 rfl rfl 0 (by decide) (hts _ q47) (fun _ h9 => h9) rfl (by decide +kernel) rfl rfl (Nat.le_of_ble_eq_true rfl) dX0_init_60 (fun H locs hP hD hS => ?_)
  have hP : va_P (dC, dI) vwCl [(h0, .inr (0, [.int 15421, .int 0, .ref q1, .ref q2, .ref q3, .int 0, .ref q4, .int 0, .ref q5, .int 0, .ref q6, .int 0])), (q1, .inl (c1, 10, .inl (fun _ => 0))), (q2, .inl (c2, 10, .inl (fun _ => 0))), (q3, .inl (c1, 512, .inl (fun _ => 0))), (q4, .inl (c1, 512, .inl (fun _ => 0))), (q5, .inl (c1, 512, .inl (fun _ => 0))), (q6, .inl (c1, 512, .inl (fun _ => 0)))] H := hP
  have hD : va_D A [(h0, .inr (0, [.int 15421, .int 0, .ref q1, .ref q2, .ref q3, .int 0, .ref q4, .int 0, .ref q5, .int 0, .ref q6, .int 0])), (q1, .inl (c1, 10, .inl (fun _ => 0))), (q2, .inl (c2, 10, .inl (fun _ => 0))), (q3, .inl (c1, 512, .inl (fun _ => 0))), (q4, .inl (c1, 512, .inl (fun _ => 0))), (q5, .inl (c1, 512, .inl (fun _ => 0))), (q6, .inl (c1, 512, .inl (fun _ => 0)))] := hD
  refine W.widen (k := 6) (n := 2068) (Nat.le_of_ble_eq_true rfl) (Nat.le_of_ble_eq_true rfl) ?_
  exact W.vret hx hb hr (fun t ht hW => ⟨⟨(fun k => ([h0, q1, q2, q3, q4, q5, q6] : List Nat).getD k 0, c1, c2), rfl, trivial, rfl, by rw [ht]; exact hP, va_K.moved hW.alike hK, hD⟩, hS.F ht⟩) hS.2.2 dX0_init_63
set_option maxHeartbeats 4000000 in
theorem metm_init (l : Launch) (dC : Nat → ClassId) (dI : Nat → Nat → Nat) (h0 sz : Nat) : Met l yX1_init (ws_ yX1_init cX1_init 1 none) ({ frames := 1, cells := 7, slots := 578, locals := 12 }) (va_Pc [.ref h0] (fun U => U.heap.size = sz ∧ va_P (dC, dI) vwCl [(h0, .inr (1, [.int 0, .null, .null, .null, .null, .null, .null, .null]))] U.heap ∧ va_K (dC, dI) vwCl [] U ∧ va_D (fun _ => True) [(h0, .inr (1, [.int 0, .null, .null, .null, .null, .null, .null, .null]))])) (va_Qv (fun _ : (Nat → Nat) × ClassId × ClassId => True) (fun g t => g.1 0 = h0 ∧ va_P (dC, dI) vwCl (MW ((dC, dI), g) MU0) t.heap ∧ va_K (dC, dI) vwCl (mT ((dC, dI), g)) t ∧ va_D (va_A [(h0, .inr (1, [.int 0, .null, .null, .null, .null, .null, .null, .null]))] sz) (MW ((dC, dI), g) MU0)) (va_A [(h0, .inr (1, [.int 0, .null, .null, .null, .null, .null, .null, .null]))] sz)) 7 578 (va_A [(h0, .inr (1, [.int 0, .null, .null, .null, .null, .null, .null, .null]))] sz) := by
  refine Met.ofW (cc := cX1_init) (maxL := 1) (ret := none) (by decide) rfl ?_
  intro p e s m args below meth c s₁ B hml hv
  obtain ⟨rfl, hsz, hP, hK, hD0⟩ := hv
  have hx := B.exec
  have hb := B.bytes
  have hr := B.returns
  have hts := atoms_spec (ws := ws_ yX1_init cX1_init 1 none) B.pre
  have hts : ∀ w ∈ lw_all, w.before _ s = true := fun w h => hts w (List.mem_cons_of_mem _ h)
  have hown : s.vm.findClass RX1 = some m.cls := findClass_of_methodNamed B.named
  have hlocks := B.notSynchronized
  have hin : meth.name = "<init>" := (name_of_methodNamed B.named B.method).1
  subst hsz
  have hD := hD0.self (sz := s.heap.size)
  generalize hAe : va_A [(h0, .inr (1, [.int 0, .null, .null, .null, .null, .null, .null, .null]))] s.heap.size = A at hD ⊢
  have hA : ∀ q : Nat, s.heap.size ≤ q → A q := fun q h => by rw [← hAe]; exact Or.inr h
  have hS : va_S A s.heap s.heap [] := va_S.rf
  have hP : va_P (dC, dI) vwCl [(h0, .inr (1, [.int 0, .null, .null, .null, .null, .null, .null, .null]))] s.heap := hP
  have hl := lv_entry ([.ref h0]) (n := 1) (Nat.le_of_ble_eq_true rfl)
  rw [lg_entry_eq]
  generalize (lg_sl ([.ref h0]) ++ List.replicate (1 - (lg_sl ([.ref h0])).length) Slot.unset).toArray = ls at hl ⊢
  have hl : lv_has ls 1 [(0, .ref h0)] := hl
  refine lv_aload_n hx hb dX1_init_0 rfl (lv_at hl 0 rfl) ?_
  refine W.objInit hx hb hown (hts _ q239) (hts _ q45) (hts _ q46) rfl (by rw [hml]; exact hl.1) rfl dX1_init_1 (Nat.le_of_ble_eq_true rfl) (Nat.le_of_ble_eq_true rfl) ?_
  refine W.eq (g2 := F0 m 4 ls []) rfl ?_
  refine lv_aload_n hx hb dX1_init_4 rfl (lv_at hl 0 rfl) ?_
  refine lv_iconst (v := 0) hx hb dX1_init_5 (by decide) ?_
  refine va_put (D := (dC, dI)) (ci := 1) (v := .int 0) (ty := .int) (C := RX1) (T := TX1) (N := 8) hx hb hts in_X1 tyX1 tyX1_ok nmX1 hown hK hP hD hS 0 rfl rfl 0 (by decide) (hts _ q240) (fun _ h9 => h9) rfl (by decide +kernel) rfl rfl (Nat.le_of_ble_eq_true rfl) dX1_init_6 (fun H locs hP hD hS => ?_)
  have hP : va_P (dC, dI) vwCl [(h0, .inr (1, [.int 0, .null, .null, .null, .null, .null, .null, .null]))] H := hP
  have hD : va_D A [(h0, .inr (1, [.int 0, .null, .null, .null, .null, .null, .null, .null]))] := hD
  refine lv_aload_n hx hb dX1_init_9 rfl (lv_at hl 0 rfl) ?_
  refine lv_bipush (v := 11) hx hb dX1_init_10 (by decide) ?_
  refine va_newa (atype := .int) (ty := .int) (a0 := (11, .inl (fun _ => 0))) (N' := 11) hx hb (hts _ q84) rfl hK hP hD hS hA (fun _ => rfl) (by decide) (by decide) (by decide) (Nat.le_of_ble_eq_true rfl) (Nat.le_of_ble_eq_true rfl) dX1_init_12 (fun q1 c1 H hK hP hD hS => ?_)
  have hK : va_K (dC, dI) vwCl [(c1, .int)] s := hK
  have hP : va_P (dC, dI) vwCl [(h0, .inr (1, [.int 0, .null, .null, .null, .null, .null, .null, .null])), (q1, .inl (c1, 11, .inl (fun _ => 0)))] H := hP
  have hD : va_D A [(h0, .inr (1, [.int 0, .null, .null, .null, .null, .null, .null, .null])), (q1, .inl (c1, 11, .inl (fun _ => 0)))] := hD
  refine va_put (D := (dC, dI)) (ci := 1) (v := .ref q1) (ty := .array .int) (C := RX1) (T := TX1) (N := 8) hx hb hts in_X1 tyX1 tyX1_ok nmX1 hown hK hP hD hS 0 rfl rfl 1 (by decide) (hts _ q241) (fun _ h9 => h9) rfl (by decide +kernel) rfl rfl (Nat.le_of_ble_eq_true rfl) dX1_init_14 (fun H locs hP hD hS => ?_)
  have hP : va_P (dC, dI) vwCl [(h0, .inr (1, [.int 0, .ref q1, .null, .null, .null, .null, .null, .null])), (q1, .inl (c1, 11, .inl (fun _ => 0)))] H := hP
  have hD : va_D A [(h0, .inr (1, [.int 0, .ref q1, .null, .null, .null, .null, .null, .null])), (q1, .inl (c1, 11, .inl (fun _ => 0)))] := hD
  refine lv_aload_n hx hb dX1_init_17 rfl (lv_at hl 0 rfl) ?_
  refine lv_bipush (v := 11) hx hb dX1_init_18 (by decide) ?_
  refine va_newa (atype := .int) (ty := .int) (a0 := (11, .inl (fun _ => 0))) (N' := 11) hx hb (hts _ q84) rfl hK hP hD hS hA (fun _ => rfl) (by decide) (by decide) (by decide) (Nat.le_of_ble_eq_true rfl) (Nat.le_of_ble_eq_true rfl) dX1_init_20 (fun q2 c2 H hK hP hD hS => ?_)
  obtain rfl : c1 = c2 := Option.some.inj ((hK.2 0 _ rfl).2.symm.trans (hK.2 1 _ rfl).2)
  have hK := hK.sub (tys' := [(c1, .int)]) [0] rfl
  have hP : va_P (dC, dI) vwCl [(h0, .inr (1, [.int 0, .ref q1, .null, .null, .null, .null, .null, .null])), (q1, .inl (c1, 11, .inl (fun _ => 0))), (q2, .inl (c1, 11, .inl (fun _ => 0)))] H := hP
  have hD : va_D A [(h0, .inr (1, [.int 0, .ref q1, .null, .null, .null, .null, .null, .null])), (q1, .inl (c1, 11, .inl (fun _ => 0))), (q2, .inl (c1, 11, .inl (fun _ => 0)))] := hD
  refine va_put (D := (dC, dI)) (ci := 1) (v := .ref q2) (ty := .array .int) (C := RX1) (T := TX1) (N := 8) hx hb hts in_X1 tyX1 tyX1_ok nmX1 hown hK hP hD hS 0 rfl rfl 2 (by decide) (hts _ q242) (fun _ h9 => h9) rfl (by decide +kernel) rfl rfl (Nat.le_of_ble_eq_true rfl) dX1_init_22 (fun H locs hP hD hS => ?_)
  have hP : va_P (dC, dI) vwCl [(h0, .inr (1, [.int 0, .ref q1, .ref q2, .null, .null, .null, .null, .null])), (q1, .inl (c1, 11, .inl (fun _ => 0))), (q2, .inl (c1, 11, .inl (fun _ => 0)))] H := hP
  have hD : va_D A [(h0, .inr (1, [.int 0, .ref q1, .ref q2, .null, .null, .null, .null, .null])), (q1, .inl (c1, 11, .inl (fun _ => 0))), (q2, .inl (c1, 11, .inl (fun _ => 0)))] := hD
  refine lv_aload_n hx hb dX1_init_25 rfl (lv_at hl 0 rfl) ?_
  refine lv_bipush (v := 11) hx hb dX1_init_26 (by decide) ?_
  refine va_newa (atype := .int) (ty := .int) (a0 := (11, .inl (fun _ => 0))) (N' := 11) hx hb (hts _ q84) rfl hK hP hD hS hA (fun _ => rfl) (by decide) (by decide) (by decide) (Nat.le_of_ble_eq_true rfl) (Nat.le_of_ble_eq_true rfl) dX1_init_28 (fun q3 c3 H hK hP hD hS => ?_)
  obtain rfl : c1 = c3 := Option.some.inj ((hK.2 0 _ rfl).2.symm.trans (hK.2 1 _ rfl).2)
  have hK := hK.sub (tys' := [(c1, .int)]) [0] rfl
  have hP : va_P (dC, dI) vwCl [(h0, .inr (1, [.int 0, .ref q1, .ref q2, .null, .null, .null, .null, .null])), (q1, .inl (c1, 11, .inl (fun _ => 0))), (q2, .inl (c1, 11, .inl (fun _ => 0))), (q3, .inl (c1, 11, .inl (fun _ => 0)))] H := hP
  have hD : va_D A [(h0, .inr (1, [.int 0, .ref q1, .ref q2, .null, .null, .null, .null, .null])), (q1, .inl (c1, 11, .inl (fun _ => 0))), (q2, .inl (c1, 11, .inl (fun _ => 0))), (q3, .inl (c1, 11, .inl (fun _ => 0)))] := hD
  refine va_put (D := (dC, dI)) (ci := 1) (v := .ref q3) (ty := .array .int) (C := RX1) (T := TX1) (N := 8) hx hb hts in_X1 tyX1 tyX1_ok nmX1 hown hK hP hD hS 0 rfl rfl 3 (by decide) (hts _ q243) (fun _ h9 => h9) rfl (by decide +kernel) rfl rfl (Nat.le_of_ble_eq_true rfl) dX1_init_30 (fun H locs hP hD hS => ?_)
  have hP : va_P (dC, dI) vwCl [(h0, .inr (1, [.int 0, .ref q1, .ref q2, .ref q3, .null, .null, .null, .null])), (q1, .inl (c1, 11, .inl (fun _ => 0))), (q2, .inl (c1, 11, .inl (fun _ => 0))), (q3, .inl (c1, 11, .inl (fun _ => 0)))] H := hP
  have hD : va_D A [(h0, .inr (1, [.int 0, .ref q1, .ref q2, .ref q3, .null, .null, .null, .null])), (q1, .inl (c1, 11, .inl (fun _ => 0))), (q2, .inl (c1, 11, .inl (fun _ => 0))), (q3, .inl (c1, 11, .inl (fun _ => 0)))] := hD
  refine lv_aload_n hx hb dX1_init_33 rfl (lv_at hl 0 rfl) ?_
  refine lv_bipush (v := 11) hx hb dX1_init_34 (by decide) ?_
  refine va_newa (atype := .int) (ty := .int) (a0 := (11, .inl (fun _ => 0))) (N' := 11) hx hb (hts _ q84) rfl hK hP hD hS hA (fun _ => rfl) (by decide) (by decide) (by decide) (Nat.le_of_ble_eq_true rfl) (Nat.le_of_ble_eq_true rfl) dX1_init_36 (fun q4 c4 H hK hP hD hS => ?_)
  obtain rfl : c1 = c4 := Option.some.inj ((hK.2 0 _ rfl).2.symm.trans (hK.2 1 _ rfl).2)
  have hK := hK.sub (tys' := [(c1, .int)]) [0] rfl
  have hP : va_P (dC, dI) vwCl [(h0, .inr (1, [.int 0, .ref q1, .ref q2, .ref q3, .null, .null, .null, .null])), (q1, .inl (c1, 11, .inl (fun _ => 0))), (q2, .inl (c1, 11, .inl (fun _ => 0))), (q3, .inl (c1, 11, .inl (fun _ => 0))), (q4, .inl (c1, 11, .inl (fun _ => 0)))] H := hP
  have hD : va_D A [(h0, .inr (1, [.int 0, .ref q1, .ref q2, .ref q3, .null, .null, .null, .null])), (q1, .inl (c1, 11, .inl (fun _ => 0))), (q2, .inl (c1, 11, .inl (fun _ => 0))), (q3, .inl (c1, 11, .inl (fun _ => 0))), (q4, .inl (c1, 11, .inl (fun _ => 0)))] := hD
  refine va_put (D := (dC, dI)) (ci := 1) (v := .ref q4) (ty := .array .int) (C := RX1) (T := TX1) (N := 8) hx hb hts in_X1 tyX1 tyX1_ok nmX1 hown hK hP hD hS 0 rfl rfl 4 (by decide) (hts _ q244) (fun _ h9 => h9) rfl (by decide +kernel) rfl rfl (Nat.le_of_ble_eq_true rfl) dX1_init_38 (fun H locs hP hD hS => ?_)
  have hP : va_P (dC, dI) vwCl [(h0, .inr (1, [.int 0, .ref q1, .ref q2, .ref q3, .ref q4, .null, .null, .null])), (q1, .inl (c1, 11, .inl (fun _ => 0))), (q2, .inl (c1, 11, .inl (fun _ => 0))), (q3, .inl (c1, 11, .inl (fun _ => 0))), (q4, .inl (c1, 11, .inl (fun _ => 0)))] H := hP
  have hD : va_D A [(h0, .inr (1, [.int 0, .ref q1, .ref q2, .ref q3, .ref q4, .null, .null, .null])), (q1, .inl (c1, 11, .inl (fun _ => 0))), (q2, .inl (c1, 11, .inl (fun _ => 0))), (q3, .inl (c1, 11, .inl (fun _ => 0))), (q4, .inl (c1, 11, .inl (fun _ => 0)))] := hD
  refine lv_aload_n hx hb dX1_init_41 rfl (lv_at hl 0 rfl) ?_
  refine lv_bipush (v := 11) hx hb dX1_init_42 (by decide) ?_
  refine va_newa (atype := .int) (ty := .int) (a0 := (11, .inl (fun _ => 0))) (N' := 11) hx hb (hts _ q84) rfl hK hP hD hS hA (fun _ => rfl) (by decide) (by decide) (by decide) (Nat.le_of_ble_eq_true rfl) (Nat.le_of_ble_eq_true rfl) dX1_init_44 (fun q5 c5 H hK hP hD hS => ?_)
  obtain rfl : c1 = c5 := Option.some.inj ((hK.2 0 _ rfl).2.symm.trans (hK.2 1 _ rfl).2)
  have hK := hK.sub (tys' := [(c1, .int)]) [0] rfl
  have hP : va_P (dC, dI) vwCl [(h0, .inr (1, [.int 0, .ref q1, .ref q2, .ref q3, .ref q4, .null, .null, .null])), (q1, .inl (c1, 11, .inl (fun _ => 0))), (q2, .inl (c1, 11, .inl (fun _ => 0))), (q3, .inl (c1, 11, .inl (fun _ => 0))), (q4, .inl (c1, 11, .inl (fun _ => 0))), (q5, .inl (c1, 11, .inl (fun _ => 0)))] H := hP
  have hD : va_D A [(h0, .inr (1, [.int 0, .ref q1, .ref q2, .ref q3, .ref q4, .null, .null, .null])), (q1, .inl (c1, 11, .inl (fun _ => 0))), (q2, .inl (c1, 11, .inl (fun _ => 0))), (q3, .inl (c1, 11, .inl (fun _ => 0))), (q4, .inl (c1, 11, .inl (fun _ => 0))), (q5, .inl (c1, 11, .inl (fun _ => 0)))] := hD
  refine va_put (D := (dC, dI)) (ci := 1) (v := .ref q5) (ty := .array .int) (C := RX1) (T := TX1) (N := 8) hx hb hts in_X1 tyX1 tyX1_ok nmX1 hown hK hP hD hS 0 rfl rfl 5 (by decide) (hts _ q245) (fun _ h9 => h9) rfl (by decide +kernel) rfl rfl (Nat.le_of_ble_eq_true rfl) dX1_init_46 (fun H locs hP hD hS => ?_)
  have hP : va_P (dC, dI) vwCl [(h0, .inr (1, [.int 0, .ref q1, .ref q2, .ref q3, .ref q4, .ref q5, .null, .null])), (q1, .inl (c1, 11, .inl (fun _ => 0))), (q2, .inl (c1, 11, .inl (fun _ => 0))), (q3, .inl (c1, 11, .inl (fun _ => 0))), (q4, .inl (c1, 11, .inl (fun _ => 0))), (q5, .inl (c1, 11, .inl (fun _ => 0)))] H := hP
  have hD : va_D A [(h0, .inr (1, [.int 0, .ref q1, .ref q2, .ref q3, .ref q4, .ref q5, .null, .null])), (q1, .inl (c1, 11, .inl (fun _ => 0))), (q2, .inl (c1, 11, .inl (fun _ => 0))), (q3, .inl (c1, 11, .inl (fun _ => 0))), (q4, .inl (c1, 11, .inl (fun _ => 0))), (q5, .inl (c1, 11, .inl (fun _ => 0)))] := hD
  refine lv_aload_n hx hb dX1_init_49 rfl (lv_at hl 0 rfl) ?_
  refine lv_bipush (v := 11) hx hb dX1_init_50 (by decide) ?_
  refine va_newa (atype := .int) (ty := .int) (a0 := (11, .inl (fun _ => 0))) (N' := 11) hx hb (hts _ q84) rfl hK hP hD hS hA (fun _ => rfl) (by decide) (by decide) (by decide) (Nat.le_of_ble_eq_true rfl) (Nat.le_of_ble_eq_true rfl) dX1_init_52 (fun q6 c6 H hK hP hD hS => ?_)
  obtain rfl : c1 = c6 := Option.some.inj ((hK.2 0 _ rfl).2.symm.trans (hK.2 1 _ rfl).2)
  have hK := hK.sub (tys' := [(c1, .int)]) [0] rfl
  have hP : va_P (dC, dI) vwCl [(h0, .inr (1, [.int 0, .ref q1, .ref q2, .ref q3, .ref q4, .ref q5, .null, .null])), (q1, .inl (c1, 11, .inl (fun _ => 0))), (q2, .inl (c1, 11, .inl (fun _ => 0))), (q3, .inl (c1, 11, .inl (fun _ => 0))), (q4, .inl (c1, 11, .inl (fun _ => 0))), (q5, .inl (c1, 11, .inl (fun _ => 0))), (q6, .inl (c1, 11, .inl (fun _ => 0)))] H := hP
  have hD : va_D A [(h0, .inr (1, [.int 0, .ref q1, .ref q2, .ref q3, .ref q4, .ref q5, .null, .null])), (q1, .inl (c1, 11, .inl (fun _ => 0))), (q2, .inl (c1, 11, .inl (fun _ => 0))), (q3, .inl (c1, 11, .inl (fun _ => 0))), (q4, .inl (c1, 11, .inl (fun _ => 0))), (q5, .inl (c1, 11, .inl (fun _ => 0))), (q6, .inl (c1, 11, .inl (fun _ => 0)))] := hD
  refine va_put (D := (dC, dI)) (ci := 1) (v := .ref q6) (ty := .array .int) (C := RX1) (T := TX1) (N := 8) hx hb hts in_X1 tyX1 tyX1_ok nmX1 hown hK hP hD hS 0 rfl rfl 6 (by decide) (hts _ q246) (fun _ h9 => h9) rfl (by decide +kernel) rfl rfl (Nat.le_of_ble_eq_true rfl) dX1_init_54 (fun H locs hP hD hS => ?_)
  have hP : va_P (dC, dI) vwCl [(h0, .inr (1, [.int 0, .ref q1, .ref q2, .ref q3, .ref q4, .ref q5, .ref q6, .null])), (q1, .inl (c1, 11, .inl (fun _ => 0))), (q2, .inl (c1, 11, .inl (fun _ => 0))), (q3, .inl (c1, 11, .inl (fun _ => 0))), (q4, .inl (c1, 11, .inl (fun _ => 0))), (q5, .inl (c1, 11, .inl (fun _ => 0))), (q6, .inl (c1, 11, .inl (fun _ => 0)))] H := hP
  have hD : va_D A [(h0, .inr (1, [.int 0, .ref q1, .ref q2, .ref q3, .ref q4, .ref q5, .ref q6, .null])), (q1, .inl (c1, 11, .inl (fun _ => 0))), (q2, .inl (c1, 11, .inl (fun _ => 0))), (q3, .inl (c1, 11, .inl (fun _ => 0))), (q4, .inl (c1, 11, .inl (fun _ => 0))), (q5, .inl (c1, 11, .inl (fun _ => 0))), (q6, .inl (c1, 11, .inl (fun _ => 0)))] := hD
  refine lv_aload_n hx hb dX1_init_57 rfl (lv_at hl 0 rfl) ?_
  refine lv_sipush (v := 512) hx hb dX1_init_58 (by decide) ?_
  refine va_newa (atype := .int) (ty := .int) (a0 := (512, .inl (fun _ => 0))) (N' := 512) hx hb (hts _ q84) rfl hK hP hD hS hA (fun _ => rfl) (by decide) (by decide) (by decide) (Nat.le_of_ble_eq_true rfl) (Nat.le_of_ble_eq_true rfl) dX1_init_61 (fun q7 c7 H hK hP hD hS => ?_)
  obtain rfl : c1 = c7 := Option.some.inj ((hK.2 0 _ rfl).2.symm.trans (hK.2 1 _ rfl).2)
  have hK := hK.sub (tys' := [(c1, .int)]) [0] rfl
  have hP : va_P (dC, dI) vwCl [(h0, .inr (1, [.int 0, .ref q1, .ref q2, .ref q3, .ref q4, .ref q5, .ref q6, .null])), (q1, .inl (c1, 11, .inl (fun _ => 0))), (q2, .inl (c1, 11, .inl (fun _ => 0))), (q3, .inl (c1, 11, .inl (fun _ => 0))), (q4, .inl (c1, 11, .inl (fun _ => 0))), (q5, .inl (c1, 11, .inl (fun _ => 0))), (q6, .inl (c1, 11, .inl (fun _ => 0))), (q7, .inl (c1, 512, .inl (fun _ => 0)))] H := hP
  have hD : va_D A [(h0, .inr (1, [.int 0, .ref q1, .ref q2, .ref q3, .ref q4, .ref q5, .ref q6, .null])), (q1, .inl (c1, 11, .inl (fun _ => 0))), (q2, .inl (c1, 11, .inl (fun _ => 0))), (q3, .inl (c1, 11, .inl (fun _ => 0))), (q4, .inl (c1, 11, .inl (fun _ => 0))), (q5, .inl (c1, 11, .inl (fun _ => 0))), (q6, .inl (c1, 11, .inl (fun _ => 0))), (q7, .inl (c1, 512, .inl (fun _ => 0)))] := hD
  refine va_put (D := (dC, dI)) (ci := 1) (v := .ref q7) (ty := .array .int) (C := RX1) (T := TX1) (N := 8) hx hb hts in_X1 tyX1 tyX1_ok nmX1 hown hK hP hD hS 0 rfl rfl 7 (by decide) (hts _ q247) (fun _ h9 => h9) rfl (by decide +kernel) rfl rfl (Nat.le_of_ble_eq_true rfl) dX1_init_63 (fun H locs hP hD hS => ?_)
  have hP : va_P (dC, dI) vwCl [(h0, .inr (1, [.int 0, .ref q1, .ref q2, .ref q3, .ref q4, .ref q5, .ref q6, .ref q7])), (q1, .inl (c1, 11, .inl (fun _ => 0))), (q2, .inl (c1, 11, .inl (fun _ => 0))), (q3, .inl (c1, 11, .inl (fun _ => 0))), (q4, .inl (c1, 11, .inl (fun _ => 0))), (q5, .inl (c1, 11, .inl (fun _ => 0))), (q6, .inl (c1, 11, .inl (fun _ => 0))), (q7, .inl (c1, 512, .inl (fun _ => 0)))] H := hP
  have hD : va_D A [(h0, .inr (1, [.int 0, .ref q1, .ref q2, .ref q3, .ref q4, .ref q5, .ref q6, .ref q7])), (q1, .inl (c1, 11, .inl (fun _ => 0))), (q2, .inl (c1, 11, .inl (fun _ => 0))), (q3, .inl (c1, 11, .inl (fun _ => 0))), (q4, .inl (c1, 11, .inl (fun _ => 0))), (q5, .inl (c1, 11, .inl (fun _ => 0))), (q6, .inl (c1, 11, .inl (fun _ => 0))), (q7, .inl (c1, 512, .inl (fun _ => 0)))] := hD
  refine lv_aload_n hx hb dX1_init_66 rfl (lv_at hl 0 rfl) ?_
  refine va_get (D := (dC, dI)) (ci := 1) (v := .ref q2) (C := RX1) (T := TX1) (N := 8) hx hb hts in_X1 hown hK hP 0 rfl rfl 2 (by decide) (hts _ q242) (fun _ h9 => h9) rfl dX1_init_67 ?_
  refine lv_bipush (v := 10) hx hb dX1_init_70 (by decide) ?_
  refine lv_bipush (v := 15) hx hb dX1_init_72 (by decide) ?_
  refine va_iast hx hb hK hP hD hS 2 0 rfl rfl (i := 10) (by rw [vp_in_iff]; decide) dX1_init_74 (fun H locs hP hD hS => ?_)
  have hP : va_P (dC, dI) vwCl [(h0, .inr (1, [.int 0, .ref q1, .ref q2, .ref q3, .ref q4, .ref q5, .ref q6, .ref q7])), (q1, .inl (c1, 11, .inl (fun _ => 0))), (q2, .inl (c1, 11, .inl (upd (fun _ => 0) 10 15))), (q3, .inl (c1, 11, .inl (fun _ => 0))), (q4, .inl (c1, 11, .inl (fun _ => 0))), (q5, .inl (c1, 11, .inl (fun _ => 0))), (q6, .inl (c1, 11, .inl (fun _ => 0))), (q7, .inl (c1, 512, .inl (fun _ => 0)))] H := hP
  have hD : va_D A [(h0, .inr (1, [.int 0, .ref q1, .ref q2, .ref q3, .ref q4, .ref q5, .ref q6, .ref q7])), (q1, .inl (c1, 11, .inl (fun _ => 0))), (q2, .inl (c1, 11, .inl (upd (fun _ => 0) 10 15))), (q3, .inl (c1, 11, .inl (fun _ => 0))), (q4, .inl (c1, 11, .inl (fun _ => 0))), (q5, .inl (c1, 11, .inl (fun _ => 0))), (q6, .inl (c1, 11, .inl (fun _ => 0))), (q7, .inl (c1, 512, .inl (fun _ => 0)))] := hD
  refine lv_aload_n hx hb dX1_init_75 rfl (lv_at hl 0 rfl) ?_
  refine va_get (D := (dC, dI)) (ci := 1) (v := .ref q4) (C := RX1) (T := TX1) (N := 8) hx hb hts in_X1 hown hK hP 0 rfl rfl 4 (by decide) (hts _ q244) (fun _ h9 => h9) rfl dX1_init_76 ?_
  refine lv_bipush (v := 10) hx hb dX1_init_79 (by decide) ?_
  refine lv_bipush (v := 15) hx hb dX1_init_81 (by decide) ?_
  refine va_iast hx hb hK hP hD hS 4 0 rfl rfl (i := 10) (by rw [vp_in_iff]; decide) dX1_init_83 (fun H locs hP hD hS => ?_)
  have hP : va_P (dC, dI) vwCl [(h0, .inr (1, [.int 0, .ref q1, .ref q2, .ref q3, .ref q4, .ref q5, .ref q6, .ref q7])), (q1, .inl (c1, 11, .inl (fun _ => 0))), (q2, .inl (c1, 11, .inl (upd (fun _ => 0) 10 15))), (q3, .inl (c1, 11, .inl (fun _ => 0))), (q4, .inl (c1, 11, .inl (upd (fun _ => 0) 10 15))), (q5, .inl (c1, 11, .inl (fun _ => 0))), (q6, .inl (c1, 11, .inl (fun _ => 0))), (q7, .inl (c1, 512, .inl (fun _ => 0)))] H := hP
  have hD : va_D A [(h0, .inr (1, [.int 0, .ref q1, .ref q2, .ref q3, .ref q4, .ref q5, .ref q6, .ref q7])), (q1, .inl (c1, 11, .inl (fun _ => 0))), (q2, .inl (c1, 11, .inl (upd (fun _ => 0) 10 15))), (q3, .inl (c1, 11, .inl (fun _ => 0))), (q4, .inl (c1, 11, .inl (upd (fun _ => 0) 10 15))), (q5, .inl (c1, 11, .inl (fun _ => 0))), (q6, .inl (c1, 11, .inl (fun _ => 0))), (q7, .inl (c1, 512, .inl (fun _ => 0)))] := hD
  refine lv_aload_n hx hb dX1_init_84 rfl (lv_at hl 0 rfl) ?_
  refine va_get (D := (dC, dI)) (ci := 1) (v := .ref q5) (C := RX1) (T := TX1) (N := 8) hx hb hts in_X1 hown hK hP 0 rfl rfl 5 (by decide) (hts _ q245) (fun _ h9 => h9) rfl dX1_init_85 ?_
  refine lv_bipush (v := 10) hx hb dX1_init_88 (by decide) ?_
  refine lv_iconst (v := 2) hx hb dX1_init_90 (by decide) ?_
  refine va_iast hx hb hK hP hD hS 5 0 rfl rfl (i := 10) (by rw [vp_in_iff]; decide) dX1_init_91 (fun H locs hP hD hS => ?_)
  have hP : va_P (dC, dI) vwCl [(h0, .inr (1, [.int 0, .ref q1, .ref q2, .ref q3, .ref q4, .ref q5, .ref q6, .ref q7])), (q1, .inl (c1, 11, .inl (fun _ => 0))), (q2, .inl (c1, 11, .inl (upd (fun _ => 0) 10 15))), (q3, .inl (c1, 11, .inl (fun _ => 0))), (q4, .inl (c1, 11, .inl (upd (fun _ => 0) 10 15))), (q5, .inl (c1, 11, .inl (upd (fun _ => 0) 10 2))), (q6, .inl (c1, 11, .inl (fun _ => 0))), (q7, .inl (c1, 512, .inl (fun _ => 0)))] H := hP
  have hD : va_D A [(h0, .inr (1, [.int 0, .ref q1, .ref q2, .ref q3, .ref q4, .ref q5, .ref q6, .ref q7])), (q1, .inl (c1, 11, .inl (fun _ => 0))), (q2, .inl (c1, 11, .inl (upd (fun _ => 0) 10 15))), (q3, .inl (c1, 11, .inl (fun _ => 0))), (q4, .inl (c1, 11, .inl (upd (fun _ => 0) 10 15))), (q5, .inl (c1, 11, .inl (upd (fun _ => 0) 10 2))), (q6, .inl (c1, 11, .inl (fun _ => 0))), (q7, .inl (c1, 512, .inl (fun _ => 0)))] := hD
  refine W.widen (k := 7) (n := 578) (Nat.le_of_ble_eq_true rfl) (Nat.le_of_ble_eq_true rfl) ?_
  exact W.vret hx hb hr (fun t ht hW => ⟨⟨(fun k => ([h0, q1, q2, q3, q4, q5, q6, q7] : List Nat).getD k 0, c1, c1), rfl, trivial, rfl, by rw [ht]; exact hP, va_K.moved hW.alike hK, hD⟩, hS.F ht⟩) hS.2.2 dX1_init_92
end
section
/-! bits: a family of kit/laws/BITS.to-paste (starting text), then the fields of a box -/
/-! ===== Int32 by its bits: bt x i ===== -/
def bt (x : Int32) (i : Nat) : Bool := x.toBitVec.getLsbD i
theorem b_ext {x y : Int32} (h : ∀ i, i < 32 → bt x i = bt y i) : x = y := Int32.toBitVec_inj.mp (BitVec.eq_of_getLsbD_eq (fun i hi => h i hi))
theorem b_or (x y : Int32) (i : Nat) : bt (x ||| y) i = (bt x i || bt y i) := by unfold bt; rw [Int32.toBitVec_or, BitVec.getLsbD_or]
theorem b_and (x y : Int32) (i : Nat) : bt (x &&& y) i = (bt x i && bt y i) := by unfold bt; rw [Int32.toBitVec_and, BitVec.getLsbD_and]
theorem b_xor (x y : Int32) (i : Nat) : bt (x ^^^ y) i = (bt x i ^^ bt y i) := by unfold bt; rw [Int32.toBitVec_xor, BitVec.getLsbD_xor]
theorem b_big {x : Int32} {i : Nat} (h : 32 ≤ i) : bt x i = false := BitVec.getLsbD_of_ge _ _ h
theorem b_255 (i : Nat) : bt 255 i = decide (i < 8) := by
  rcases Nat.lt_or_ge i 32 with h | h
  · exact (by decide +kernel : ∀ i, i < 32 → bt 255 i = decide (i < 8)) i h
  · rw [b_big h, decide_eq_false (by omega)]
theorem b_65535 (i : Nat) : bt 65535 i = decide (i < 16) := by
  rcases Nat.lt_or_ge i 32 with h | h
  · exact (by decide +kernel : ∀ i, i < 32 → bt 65535 i = decide (i < 16)) i h
  · rw [b_big h, decide_eq_false (by omega)]
theorem b_m1 : ∀ i, i < 32 → bt (-1) i = true := by decide +kernel
theorem b_0 (i : Nat) : bt 0 i = false := BitVec.getLsbD_zero
theorem s_l : ∀ n, n < 32 → ((nI n &&& 31).toBitVec.smod 32).toNat = n := by decide +kernel
theorem s_u : ∀ n, n < 32 → (((nI n).toUInt32 &&& Int32.toUInt32 31).toBitVec % 32).toNat = n := by decide +kernel
theorem b_shl (n : Nat) (hn : n < 32) (x : Int32) {i : Nat} (hi : i < 32) : bt (x <<< (nI n &&& 31)) i = (decide (n ≤ i) && bt x (i - n)) := by
  unfold bt
  rw [Int32.toBitVec_shiftLeft]
  show (x.toBitVec <<< ((nI n &&& 31).toBitVec.smod 32).toNat).getLsbD i = _
  rw [s_l n hn, BitVec.getLsbD_shiftLeft]
  rcases Nat.lt_or_ge i n with h | h
  · simp [h, Nat.not_le.mpr h]
  · simp [hi, h, Nat.not_lt.mpr h]
theorem b_ushr (n : Nat) (hn : n < 32) (x : Int32) (i : Nat) : bt ((x.toUInt32 >>> ((nI n).toUInt32 &&& Int32.toUInt32 31)).toInt32) i = bt x (n + i) := by
  show (x.toUInt32 >>> ((nI n).toUInt32 &&& Int32.toUInt32 31)).toBitVec.getLsbD i = x.toUInt32.toBitVec.getLsbD (n + i)
  rw [UInt32.toBitVec_shiftRight]
  show (x.toUInt32.toBitVec >>> (((nI n).toUInt32 &&& Int32.toUInt32 31).toBitVec % 32).toNat).getLsbD i = _
  rw [s_u n hn, BitVec.getLsbD_ushiftRight]
theorem b_sshr (n : Nat) (hn : n < 32) (x : Int32) {i : Nat} (hi : i < 32) : bt (x >>> (nI n &&& 31)) i = if n + i < 32 then bt x (n + i) else bt x 31 := by
  unfold bt
  rw [Int32.toBitVec_shiftRight]
  show (x.toBitVec.sshiftRight ((nI n &&& 31).toBitVec.smod 32).toNat).getLsbD i = _
  rw [s_l n hn, BitVec.getLsbD_sshiftRight, BitVec.msb_eq_getLsbD_last]
  simp [hi]
theorem bk15 : ∀ i, i < 32 → bt 15 i = decide (i < 4) := by decide +kernel
theorem bk1 : ∀ i, i < 32 → bt 1 i = decide (i < 1) := by decide +kernel
theorem bk1023 : ∀ i, i < 32 → bt 1023 i = decide (i < 10) := by decide +kernel
theorem bkm1021 : ∀ i, i < 32 → bt (-1021) i = (decide (i < 2) || decide (10 ≤ i)) := by decide +kernel
theorem bkm4 : ∀ i, i < 32 → bt (-4) i = decide (2 ≤ i) := by decide +kernel
theorem bk3 : ∀ i, i < 32 → bt 3 i = decide (i < 2) := by decide +kernel
theorem bkA : ∀ i, i < 32 → bt (((255 : Int32) <<< ((10 : Int32) &&& 31)) ^^^ (-1)) i = (decide (i < 10) || decide (18 ≤ i)) := by decide +kernel
theorem bkB : ∀ i, i < 32 → bt (((255 : Int32) <<< ((2 : Int32) &&& 31)) ^^^ (-1)) i = (decide (i < 2) || decide (10 ≤ i)) := by decide +kernel
abbrev sm4 (f : Int32) : Prop := ∀ i, 4 ≤ i → i < 32 → bt f i = false
abbrev sm1 (f : Int32) : Prop := ∀ i, 1 ≤ i → i < 32 → bt f i = false
theorem sm4_nI : ∀ n, n < 16 → sm4 (nI n) := by
  have h : ∀ n, n < 16 → ∀ i, i < 32 → 4 ≤ i → bt (nI n) i = false := by decide +kernel
  exact fun n hn i h1 h2 => h n hn i h2 h1
theorem sm1_nI : ∀ n, n < 2 → sm1 (nI n) := by
  have h : ∀ n, n < 2 → ∀ i, i < 32 → 1 ≤ i → bt (nI n) i = false := by decide +kernel
  exact fun n hn i h1 h2 => h n hn i h2 h1
theorem t_bFs (x : Int32) {i : Nat} (hi : i < 32) : bt (bFs x) i = (decide (i < 4) && bt x (14 + i)) := by
  rw [bFs, b_and, bk15 i hi, show (14 : Int32) = nI 14 from rfl, b_sshr 14 (by omega) x hi]
  by_cases h : i < 4
  · rw [if_pos (by omega), decide_eq_true h, Bool.and_true, Bool.true_and]
  · rw [decide_eq_false h, Bool.and_false, Bool.false_and]
theorem t_bTs (x : Int32) {i : Nat} (hi : i < 32) : bt (bTs x) i = (decide (i < 4) && bt x (10 + i)) := by
  rw [bTs, b_and, bk15 i hi, show (10 : Int32) = nI 10 from rfl, b_sshr 10 (by omega) x hi]
  by_cases h : i < 4
  · rw [if_pos (by omega), decide_eq_true h, Bool.and_true, Bool.true_and]
  · rw [decide_eq_false h, Bool.and_false, Bool.false_and]
theorem t_bFd (x : Int32) {i : Nat} (hi : i < 32) : bt (bFd x) i = (decide (i < 4) && bt x (6 + i)) := by
  rw [bFd, b_and, bk15 i hi, show (6 : Int32) = nI 6 from rfl, b_sshr 6 (by omega) x hi]
  by_cases h : i < 4
  · rw [if_pos (by omega), decide_eq_true h, Bool.and_true, Bool.true_and]
  · rw [decide_eq_false h, Bool.and_false, Bool.false_and]
theorem t_bTd (x : Int32) {i : Nat} (hi : i < 32) : bt (bTd x) i = (decide (i < 4) && bt x (2 + i)) := by
  rw [bTd, b_and, bk15 i hi, show (2 : Int32) = nI 2 from rfl, b_sshr 2 (by omega) x hi]
  by_cases h : i < 4
  · rw [if_pos (by omega), decide_eq_true h, Bool.and_true, Bool.true_and]
  · rw [decide_eq_false h, Bool.and_false, Bool.false_and]
theorem t_bFp (x : Int32) {i : Nat} (hi : i < 32) : bt (bFp x) i = (decide (i < 1) && bt x (1 + i)) := by
  rw [bFp, b_and, bk1 i hi, show (1 : Int32) = nI 1 from rfl, b_sshr 1 (by omega) x hi]
  by_cases h : i < 1
  · rw [if_pos (by omega), decide_eq_true h, Bool.and_true, Bool.true_and]
  · rw [decide_eq_false h, Bool.and_false, Bool.false_and]
theorem t_bTp (x : Int32) {i : Nat} (hi : i < 32) : bt (bTp x) i = (decide (i < 1) && bt x (0 + i)) := by
  rw [bTp, b_and, bk1 i hi, Nat.zero_add, Bool.and_comm]
theorem c_bFs {a b : Int32} (h0 : bt a 14 = bt b 14) (h1 : bt a 15 = bt b 15) (h2 : bt a 16 = bt b 16) (h3 : bt a 17 = bt b 17) : bFs a = bFs b := by
  refine b_ext (fun i hi => ?_)
  rw [t_bFs a hi, t_bFs b hi]
  by_cases h : i < 4
  · rcases (show i = 0 ∨ i = 1 ∨ i = 2 ∨ i = 3 by omega) with rfl | rfl | rfl | rfl
    · rw [show 14 + 0 = 14 from rfl, h0]
    · rw [show 14 + 1 = 15 from rfl, h1]
    · rw [show 14 + 2 = 16 from rfl, h2]
    · rw [show 14 + 3 = 17 from rfl, h3]
  · rw [decide_eq_false h, Bool.false_and, Bool.false_and]
theorem e_bFs {a f : Int32} (hf : sm4 f) (h0 : bt a 14 = bt f 0) (h1 : bt a 15 = bt f 1) (h2 : bt a 16 = bt f 2) (h3 : bt a 17 = bt f 3) : bFs a = f := by
  refine b_ext (fun i hi => ?_)
  rw [t_bFs a hi]
  by_cases h : i < 4
  · rcases (show i = 0 ∨ i = 1 ∨ i = 2 ∨ i = 3 by omega) with rfl | rfl | rfl | rfl
    · rw [show 14 + 0 = 14 from rfl, h0]; rfl
    · rw [show 14 + 1 = 15 from rfl, h1]; rfl
    · rw [show 14 + 2 = 16 from rfl, h2]; rfl
    · rw [show 14 + 3 = 17 from rfl, h3]; rfl
  · rw [decide_eq_false h, Bool.false_and, hf i (by omega) hi]
theorem c_bTs {a b : Int32} (h0 : bt a 10 = bt b 10) (h1 : bt a 11 = bt b 11) (h2 : bt a 12 = bt b 12) (h3 : bt a 13 = bt b 13) : bTs a = bTs b := by
  refine b_ext (fun i hi => ?_)
  rw [t_bTs a hi, t_bTs b hi]
  by_cases h : i < 4
  · rcases (show i = 0 ∨ i = 1 ∨ i = 2 ∨ i = 3 by omega) with rfl | rfl | rfl | rfl
    · rw [show 10 + 0 = 10 from rfl, h0]
    · rw [show 10 + 1 = 11 from rfl, h1]
    · rw [show 10 + 2 = 12 from rfl, h2]
    · rw [show 10 + 3 = 13 from rfl, h3]
  · rw [decide_eq_false h, Bool.false_and, Bool.false_and]
theorem e_bTs {a f : Int32} (hf : sm4 f) (h0 : bt a 10 = bt f 0) (h1 : bt a 11 = bt f 1) (h2 : bt a 12 = bt f 2) (h3 : bt a 13 = bt f 3) : bTs a = f := by
  refine b_ext (fun i hi => ?_)
  rw [t_bTs a hi]
  by_cases h : i < 4
  · rcases (show i = 0 ∨ i = 1 ∨ i = 2 ∨ i = 3 by omega) with rfl | rfl | rfl | rfl
    · rw [show 10 + 0 = 10 from rfl, h0]; rfl
    · rw [show 10 + 1 = 11 from rfl, h1]; rfl
    · rw [show 10 + 2 = 12 from rfl, h2]; rfl
    · rw [show 10 + 3 = 13 from rfl, h3]; rfl
  · rw [decide_eq_false h, Bool.false_and, hf i (by omega) hi]
theorem c_bFd {a b : Int32} (h0 : bt a 6 = bt b 6) (h1 : bt a 7 = bt b 7) (h2 : bt a 8 = bt b 8) (h3 : bt a 9 = bt b 9) : bFd a = bFd b := by
  refine b_ext (fun i hi => ?_)
  rw [t_bFd a hi, t_bFd b hi]
  by_cases h : i < 4
  · rcases (show i = 0 ∨ i = 1 ∨ i = 2 ∨ i = 3 by omega) with rfl | rfl | rfl | rfl
    · rw [show 6 + 0 = 6 from rfl, h0]
    · rw [show 6 + 1 = 7 from rfl, h1]
    · rw [show 6 + 2 = 8 from rfl, h2]
    · rw [show 6 + 3 = 9 from rfl, h3]
  · rw [decide_eq_false h, Bool.false_and, Bool.false_and]
theorem e_bFd {a f : Int32} (hf : sm4 f) (h0 : bt a 6 = bt f 0) (h1 : bt a 7 = bt f 1) (h2 : bt a 8 = bt f 2) (h3 : bt a 9 = bt f 3) : bFd a = f := by
  refine b_ext (fun i hi => ?_)
  rw [t_bFd a hi]
  by_cases h : i < 4
  · rcases (show i = 0 ∨ i = 1 ∨ i = 2 ∨ i = 3 by omega) with rfl | rfl | rfl | rfl
    · rw [show 6 + 0 = 6 from rfl, h0]; rfl
    · rw [show 6 + 1 = 7 from rfl, h1]; rfl
    · rw [show 6 + 2 = 8 from rfl, h2]; rfl
    · rw [show 6 + 3 = 9 from rfl, h3]; rfl
  · rw [decide_eq_false h, Bool.false_and, hf i (by omega) hi]
theorem c_bTd {a b : Int32} (h0 : bt a 2 = bt b 2) (h1 : bt a 3 = bt b 3) (h2 : bt a 4 = bt b 4) (h3 : bt a 5 = bt b 5) : bTd a = bTd b := by
  refine b_ext (fun i hi => ?_)
  rw [t_bTd a hi, t_bTd b hi]
  by_cases h : i < 4
  · rcases (show i = 0 ∨ i = 1 ∨ i = 2 ∨ i = 3 by omega) with rfl | rfl | rfl | rfl
    · rw [show 2 + 0 = 2 from rfl, h0]
    · rw [show 2 + 1 = 3 from rfl, h1]
    · rw [show 2 + 2 = 4 from rfl, h2]
    · rw [show 2 + 3 = 5 from rfl, h3]
  · rw [decide_eq_false h, Bool.false_and, Bool.false_and]
theorem e_bTd {a f : Int32} (hf : sm4 f) (h0 : bt a 2 = bt f 0) (h1 : bt a 3 = bt f 1) (h2 : bt a 4 = bt f 2) (h3 : bt a 5 = bt f 3) : bTd a = f := by
  refine b_ext (fun i hi => ?_)
  rw [t_bTd a hi]
  by_cases h : i < 4
  · rcases (show i = 0 ∨ i = 1 ∨ i = 2 ∨ i = 3 by omega) with rfl | rfl | rfl | rfl
    · rw [show 2 + 0 = 2 from rfl, h0]; rfl
    · rw [show 2 + 1 = 3 from rfl, h1]; rfl
    · rw [show 2 + 2 = 4 from rfl, h2]; rfl
    · rw [show 2 + 3 = 5 from rfl, h3]; rfl
  · rw [decide_eq_false h, Bool.false_and, hf i (by omega) hi]
theorem c_bFp {a b : Int32} (h0 : bt a 1 = bt b 1) : bFp a = bFp b := by
  refine b_ext (fun i hi => ?_)
  rw [t_bFp a hi, t_bFp b hi]
  by_cases h : i < 1
  · rcases (show i = 0 by omega) with rfl
    · rw [show 1 + 0 = 1 from rfl, h0]
  · rw [decide_eq_false h, Bool.false_and, Bool.false_and]
theorem e_bFp {a f : Int32} (hf : sm1 f) (h0 : bt a 1 = bt f 0) : bFp a = f := by
  refine b_ext (fun i hi => ?_)
  rw [t_bFp a hi]
  by_cases h : i < 1
  · rcases (show i = 0 by omega) with rfl
    · rw [show 1 + 0 = 1 from rfl, h0]; rfl
  · rw [decide_eq_false h, Bool.false_and, hf i (by omega) hi]
theorem c_bTp {a b : Int32} (h0 : bt a 0 = bt b 0) : bTp a = bTp b := by
  refine b_ext (fun i hi => ?_)
  rw [t_bTp a hi, t_bTp b hi]
  by_cases h : i < 1
  · rcases (show i = 0 by omega) with rfl
    · rw [show 0 + 0 = 0 from rfl, h0]
  · rw [decide_eq_false h, Bool.false_and, Bool.false_and]
theorem e_bTp {a f : Int32} (hf : sm1 f) (h0 : bt a 0 = bt f 0) : bTp a = f := by
  refine b_ext (fun i hi => ?_)
  rw [t_bTp a hi]
  by_cases h : i < 1
  · rcases (show i = 0 by omega) with rfl
    · rw [show 0 + 0 = 0 from rfl, h0]; rfl
  · rw [decide_eq_false h, Bool.false_and, hf i (by omega) hi]
theorem t_bWs (x f t : Int32) {i : Nat} (hi : i < 32) : bt (bWs x f t) i = ((bt x i && decide (i < 10)) || (decide (14 ≤ i) && bt f (i - 14)) || (decide (10 ≤ i) && bt t (i - 10))) := by
  rw [bWs, b_or, b_or, b_and, bk1023 i hi, show (14 : Int32) = nI 14 from rfl, show (10 : Int32) = nI 10 from rfl, b_shl 14 (by omega) f hi, b_shl 10 (by omega) t hi]
theorem t_bWd (x f t : Int32) {i : Nat} (hi : i < 32) : bt (bWd x f t) i = ((bt x i && (decide (i < 2) || decide (10 ≤ i))) || (decide (6 ≤ i) && bt f (i - 6)) || (decide (2 ≤ i) && bt t (i - 2))) := by
  rw [bWd, b_or, b_or, b_and, bkm1021 i hi, show (6 : Int32) = nI 6 from rfl, show (2 : Int32) = nI 2 from rfl, b_shl 6 (by omega) f hi, b_shl 2 (by omega) t hi]
theorem t_and4 (x : Int32) {i : Nat} (hi : i < 32) : bt (x &&& (-4)) i = (bt x i && decide (2 ≤ i)) := by rw [b_and, bkm4 i hi]
theorem t_or3 (x : Int32) {i : Nat} (hi : i < 32) : bt (x ||| 3) i = (bt x i || decide (i < 2)) := by rw [b_or, bk3 i hi]
def drA (d y z : Int32) : Int32 := ((d &&& (((255 : Int32) <<< ((10 : Int32) &&& 31)) ^^^ (-1))) ||| (y <<< ((10 + 4 : Int32) &&& 31))) ||| (z <<< ((10 : Int32) &&& 31))
def drB (d y z : Int32) : Int32 := ((d &&& (((255 : Int32) <<< ((2 : Int32) &&& 31)) ^^^ (-1))) ||| (y <<< ((2 + 4 : Int32) &&& 31))) ||| (z <<< ((2 : Int32) &&& 31))
theorem t_drA (x f t : Int32) {i : Nat} (hi : i < 32) : bt (drA x f t) i = ((bt x i && (decide (i < 10) || decide (18 ≤ i))) || (decide (14 ≤ i) && bt f (i - 14)) || (decide (10 ≤ i) && bt t (i - 10))) := by
  rw [drA, b_or, b_or, b_and, bkA i hi, show (10 + 4 : Int32) = nI 14 from rfl, show (10 : Int32) = nI 10 from rfl, b_shl 14 (by omega) f hi, b_shl 10 (by omega) t hi]
theorem t_drB (x f t : Int32) {i : Nat} (hi : i < 32) : bt (drB x f t) i = ((bt x i && (decide (i < 2) || decide (10 ≤ i))) || (decide (6 ≤ i) && bt f (i - 6)) || (decide (2 ≤ i) && bt t (i - 2))) := by
  rw [drB, b_or, b_or, b_and, bkB i hi, show (2 + 4 : Int32) = nI 6 from rfl, show (2 : Int32) = nI 2 from rfl, b_shl 6 (by omega) f hi, b_shl 2 (by omega) t hi]
theorem t_ptx (x y z : Int32) {i : Nat} (hi : i < 32) : bt (ptx x y z) i = (((((decide (14 ≤ i) && bt x (i - 14)) || (decide (10 ≤ i) && bt x (i - 10))) || (decide (6 ≤ i) && bt y (i - 6))) || (decide (2 ≤ i) && bt y (i - 2))) || (decide (1 ≤ i) && bt z (i - 1)) || bt z i) := by
  rw [ptx, b_or, b_or, b_or, b_or, b_or, show (14 : Int32) = nI 14 from rfl, show (10 : Int32) = nI 10 from rfl, show (6 : Int32) = nI 6 from rfl, show (2 : Int32) = nI 2 from rfl, show (1 : Int32) = nI 1 from rfl, b_shl 14 (by omega) x hi, b_shl 10 (by omega) x hi, b_shl 6 (by omega) y hi, b_shl 2 (by omega) y hi, b_shl 1 (by omega) z hi]
theorem f_ws_bFs (x f t : Int32) (hf : sm4 f) (ht : sm4 t) : bFs (bWs x f t) = f := e_bFs hf (by rw [t_bWs x f t (by decide)]; simp [hf, ht]) (by rw [t_bWs x f t (by decide)]; simp [hf, ht]) (by rw [t_bWs x f t (by decide)]; simp [hf, ht]) (by rw [t_bWs x f t (by decide)]; simp [hf, ht])
theorem f_ws_bTs (x f t : Int32) (hf : sm4 f) (ht : sm4 t) : bTs (bWs x f t) = t := e_bTs ht (by rw [t_bWs x f t (by decide)]; simp [hf, ht]) (by rw [t_bWs x f t (by decide)]; simp [hf, ht]) (by rw [t_bWs x f t (by decide)]; simp [hf, ht]) (by rw [t_bWs x f t (by decide)]; simp [hf, ht])
theorem f_ws_bFd (x f t : Int32) (hf : sm4 f) (ht : sm4 t) : bFd (bWs x f t) = bFd x := c_bFd (by rw [t_bWs x f t (by decide)]; simp [hf, ht]) (by rw [t_bWs x f t (by decide)]; simp [hf, ht]) (by rw [t_bWs x f t (by decide)]; simp [hf, ht]) (by rw [t_bWs x f t (by decide)]; simp [hf, ht])
theorem f_ws_bTd (x f t : Int32) (hf : sm4 f) (ht : sm4 t) : bTd (bWs x f t) = bTd x := c_bTd (by rw [t_bWs x f t (by decide)]; simp [hf, ht]) (by rw [t_bWs x f t (by decide)]; simp [hf, ht]) (by rw [t_bWs x f t (by decide)]; simp [hf, ht]) (by rw [t_bWs x f t (by decide)]; simp [hf, ht])
theorem f_ws_bFp (x f t : Int32) (hf : sm4 f) (ht : sm4 t) : bFp (bWs x f t) = bFp x := c_bFp (by rw [t_bWs x f t (by decide)]; simp [hf, ht])
theorem f_ws_bTp (x f t : Int32) (hf : sm4 f) (ht : sm4 t) : bTp (bWs x f t) = bTp x := c_bTp (by rw [t_bWs x f t (by decide)]; simp [hf, ht])
theorem f_wd_bFs (x f t : Int32) (hf : sm4 f) (ht : sm4 t) : bFs (bWd x f t) = bFs x := c_bFs (by rw [t_bWd x f t (by decide)]; simp [hf, ht]) (by rw [t_bWd x f t (by decide)]; simp [hf, ht]) (by rw [t_bWd x f t (by decide)]; simp [hf, ht]) (by rw [t_bWd x f t (by decide)]; simp [hf, ht])
theorem f_wd_bTs (x f t : Int32) (hf : sm4 f) (ht : sm4 t) : bTs (bWd x f t) = bTs x := c_bTs (by rw [t_bWd x f t (by decide)]; simp [hf, ht]) (by rw [t_bWd x f t (by decide)]; simp [hf, ht]) (by rw [t_bWd x f t (by decide)]; simp [hf, ht]) (by rw [t_bWd x f t (by decide)]; simp [hf, ht])
theorem f_wd_bFd (x f t : Int32) (hf : sm4 f) (ht : sm4 t) : bFd (bWd x f t) = f := e_bFd hf (by rw [t_bWd x f t (by decide)]; simp [hf, ht]) (by rw [t_bWd x f t (by decide)]; simp [hf, ht]) (by rw [t_bWd x f t (by decide)]; simp [hf, ht]) (by rw [t_bWd x f t (by decide)]; simp [hf, ht])
theorem f_wd_bTd (x f t : Int32) (hf : sm4 f) (ht : sm4 t) : bTd (bWd x f t) = t := e_bTd ht (by rw [t_bWd x f t (by decide)]; simp [hf, ht]) (by rw [t_bWd x f t (by decide)]; simp [hf, ht]) (by rw [t_bWd x f t (by decide)]; simp [hf, ht]) (by rw [t_bWd x f t (by decide)]; simp [hf, ht])
theorem f_wd_bFp (x f t : Int32) (hf : sm4 f) (ht : sm4 t) : bFp (bWd x f t) = bFp x := c_bFp (by rw [t_bWd x f t (by decide)]; simp [hf, ht])
theorem f_wd_bTp (x f t : Int32) (hf : sm4 f) (ht : sm4 t) : bTp (bWd x f t) = bTp x := c_bTp (by rw [t_bWd x f t (by decide)]; simp [hf, ht])
theorem f_dA_bFs (x f t : Int32) (hf : sm4 f) (ht : sm4 t) : bFs (drA x f t) = f := e_bFs hf (by rw [t_drA x f t (by decide)]; simp [hf, ht]) (by rw [t_drA x f t (by decide)]; simp [hf, ht]) (by rw [t_drA x f t (by decide)]; simp [hf, ht]) (by rw [t_drA x f t (by decide)]; simp [hf, ht])
theorem f_dA_bTs (x f t : Int32) (hf : sm4 f) (ht : sm4 t) : bTs (drA x f t) = t := e_bTs ht (by rw [t_drA x f t (by decide)]; simp [hf, ht]) (by rw [t_drA x f t (by decide)]; simp [hf, ht]) (by rw [t_drA x f t (by decide)]; simp [hf, ht]) (by rw [t_drA x f t (by decide)]; simp [hf, ht])
theorem f_dA_bFd (x f t : Int32) (hf : sm4 f) (ht : sm4 t) : bFd (drA x f t) = bFd x := c_bFd (by rw [t_drA x f t (by decide)]; simp [hf, ht]) (by rw [t_drA x f t (by decide)]; simp [hf, ht]) (by rw [t_drA x f t (by decide)]; simp [hf, ht]) (by rw [t_drA x f t (by decide)]; simp [hf, ht])
theorem f_dA_bTd (x f t : Int32) (hf : sm4 f) (ht : sm4 t) : bTd (drA x f t) = bTd x := c_bTd (by rw [t_drA x f t (by decide)]; simp [hf, ht]) (by rw [t_drA x f t (by decide)]; simp [hf, ht]) (by rw [t_drA x f t (by decide)]; simp [hf, ht]) (by rw [t_drA x f t (by decide)]; simp [hf, ht])
theorem f_dA_bFp (x f t : Int32) (hf : sm4 f) (ht : sm4 t) : bFp (drA x f t) = bFp x := c_bFp (by rw [t_drA x f t (by decide)]; simp [hf, ht])
theorem f_dA_bTp (x f t : Int32) (hf : sm4 f) (ht : sm4 t) : bTp (drA x f t) = bTp x := c_bTp (by rw [t_drA x f t (by decide)]; simp [hf, ht])
theorem f_dB_bFs (x f t : Int32) (hf : sm4 f) (ht : sm4 t) : bFs (drB x f t) = bFs x := c_bFs (by rw [t_drB x f t (by decide)]; simp [hf, ht]) (by rw [t_drB x f t (by decide)]; simp [hf, ht]) (by rw [t_drB x f t (by decide)]; simp [hf, ht]) (by rw [t_drB x f t (by decide)]; simp [hf, ht])
theorem f_dB_bTs (x f t : Int32) (hf : sm4 f) (ht : sm4 t) : bTs (drB x f t) = bTs x := c_bTs (by rw [t_drB x f t (by decide)]; simp [hf, ht]) (by rw [t_drB x f t (by decide)]; simp [hf, ht]) (by rw [t_drB x f t (by decide)]; simp [hf, ht]) (by rw [t_drB x f t (by decide)]; simp [hf, ht])
theorem f_dB_bFd (x f t : Int32) (hf : sm4 f) (ht : sm4 t) : bFd (drB x f t) = f := e_bFd hf (by rw [t_drB x f t (by decide)]; simp [hf, ht]) (by rw [t_drB x f t (by decide)]; simp [hf, ht]) (by rw [t_drB x f t (by decide)]; simp [hf, ht]) (by rw [t_drB x f t (by decide)]; simp [hf, ht])
theorem f_dB_bTd (x f t : Int32) (hf : sm4 f) (ht : sm4 t) : bTd (drB x f t) = t := e_bTd ht (by rw [t_drB x f t (by decide)]; simp [hf, ht]) (by rw [t_drB x f t (by decide)]; simp [hf, ht]) (by rw [t_drB x f t (by decide)]; simp [hf, ht]) (by rw [t_drB x f t (by decide)]; simp [hf, ht])
theorem f_dB_bFp (x f t : Int32) (hf : sm4 f) (ht : sm4 t) : bFp (drB x f t) = bFp x := c_bFp (by rw [t_drB x f t (by decide)]; simp [hf, ht])
theorem f_dB_bTp (x f t : Int32) (hf : sm4 f) (ht : sm4 t) : bTp (drB x f t) = bTp x := c_bTp (by rw [t_drB x f t (by decide)]; simp [hf, ht])
theorem f_a4_bFs (x : Int32)  : bFs (x &&& (-4)) = bFs x := c_bFs (by rw [t_and4 x (by decide)]; simp []) (by rw [t_and4 x (by decide)]; simp []) (by rw [t_and4 x (by decide)]; simp []) (by rw [t_and4 x (by decide)]; simp [])
theorem f_a4_bTs (x : Int32)  : bTs (x &&& (-4)) = bTs x := c_bTs (by rw [t_and4 x (by decide)]; simp []) (by rw [t_and4 x (by decide)]; simp []) (by rw [t_and4 x (by decide)]; simp []) (by rw [t_and4 x (by decide)]; simp [])
theorem f_a4_bFd (x : Int32)  : bFd (x &&& (-4)) = bFd x := c_bFd (by rw [t_and4 x (by decide)]; simp []) (by rw [t_and4 x (by decide)]; simp []) (by rw [t_and4 x (by decide)]; simp []) (by rw [t_and4 x (by decide)]; simp [])
theorem f_a4_bTd (x : Int32)  : bTd (x &&& (-4)) = bTd x := c_bTd (by rw [t_and4 x (by decide)]; simp []) (by rw [t_and4 x (by decide)]; simp []) (by rw [t_and4 x (by decide)]; simp []) (by rw [t_and4 x (by decide)]; simp [])
theorem f_o3_bFs (x : Int32)  : bFs (x ||| 3) = bFs x := c_bFs (by rw [t_or3 x (by decide)]; simp []) (by rw [t_or3 x (by decide)]; simp []) (by rw [t_or3 x (by decide)]; simp []) (by rw [t_or3 x (by decide)]; simp [])
theorem f_o3_bTs (x : Int32)  : bTs (x ||| 3) = bTs x := c_bTs (by rw [t_or3 x (by decide)]; simp []) (by rw [t_or3 x (by decide)]; simp []) (by rw [t_or3 x (by decide)]; simp []) (by rw [t_or3 x (by decide)]; simp [])
theorem f_o3_bFd (x : Int32)  : bFd (x ||| 3) = bFd x := c_bFd (by rw [t_or3 x (by decide)]; simp []) (by rw [t_or3 x (by decide)]; simp []) (by rw [t_or3 x (by decide)]; simp []) (by rw [t_or3 x (by decide)]; simp [])
theorem f_o3_bTd (x : Int32)  : bTd (x ||| 3) = bTd x := c_bTd (by rw [t_or3 x (by decide)]; simp []) (by rw [t_or3 x (by decide)]; simp []) (by rw [t_or3 x (by decide)]; simp []) (by rw [t_or3 x (by decide)]; simp [])
theorem f_a4_bFp (x : Int32) : bFp (x &&& (-4)) = 0 := e_bFp (sm1_nI 0 (by decide)) (by rw [t_and4 x (by decide)]; simp [b_0])
theorem f_a4_bTp (x : Int32) : bTp (x &&& (-4)) = 0 := e_bTp (sm1_nI 0 (by decide)) (by rw [t_and4 x (by decide)]; simp [b_0])
theorem f_o3_bFp (x : Int32) : bFp (x ||| 3) = 1 := e_bFp (sm1_nI 1 (by decide)) (by rw [t_or3 x (by decide), show bt 1 0 = true from by decide +kernel]; simp)
theorem f_o3_bTp (x : Int32) : bTp (x ||| 3) = 1 := e_bTp (sm1_nI 1 (by decide)) (by rw [t_or3 x (by decide), show bt 1 0 = true from by decide +kernel]; simp)
theorem f_pt_bFs (x y z : Int32) (hx : sm4 x) (hy : sm4 y) (hz : sm1 z) : bFs (ptx x y z) = x := e_bFs hx (by rw [t_ptx x y z (by decide)]; simp [hx, hy, hz]) (by rw [t_ptx x y z (by decide)]; simp [hx, hy, hz]) (by rw [t_ptx x y z (by decide)]; simp [hx, hy, hz]) (by rw [t_ptx x y z (by decide)]; simp [hx, hy, hz])
theorem f_pt_bTs (x y z : Int32) (hx : sm4 x) (hy : sm4 y) (hz : sm1 z) : bTs (ptx x y z) = x := e_bTs hx (by rw [t_ptx x y z (by decide)]; simp [hx, hy, hz]) (by rw [t_ptx x y z (by decide)]; simp [hx, hy, hz]) (by rw [t_ptx x y z (by decide)]; simp [hx, hy, hz]) (by rw [t_ptx x y z (by decide)]; simp [hx, hy, hz])
theorem f_pt_bFd (x y z : Int32) (hx : sm4 x) (hy : sm4 y) (hz : sm1 z) : bFd (ptx x y z) = y := e_bFd hy (by rw [t_ptx x y z (by decide)]; simp [hx, hy, hz]) (by rw [t_ptx x y z (by decide)]; simp [hx, hy, hz]) (by rw [t_ptx x y z (by decide)]; simp [hx, hy, hz]) (by rw [t_ptx x y z (by decide)]; simp [hx, hy, hz])
theorem f_pt_bTd (x y z : Int32) (hx : sm4 x) (hy : sm4 y) (hz : sm1 z) : bTd (ptx x y z) = y := e_bTd hy (by rw [t_ptx x y z (by decide)]; simp [hx, hy, hz]) (by rw [t_ptx x y z (by decide)]; simp [hx, hy, hz]) (by rw [t_ptx x y z (by decide)]; simp [hx, hy, hz]) (by rw [t_ptx x y z (by decide)]; simp [hx, hy, hz])
theorem f_pt_bFp (x y z : Int32) (hx : sm4 x) (hy : sm4 y) (hz : sm1 z) : bFp (ptx x y z) = z := e_bFp hz (by rw [t_ptx x y z (by decide)]; simp [hx, hy, hz])
theorem f_pt_bTp (x y z : Int32) (hx : sm4 x) (hy : sm4 y) (hz : sm1 z) : bTp (ptx x y z) = z := e_bTp hz (by rw [t_ptx x y z (by decide)]; simp [hx, hy, hz])
end
section
/-! THE PLAIN LAW 1: a box's six fields as numbers, its packets, carving counted packet by packet -/
def nFs (x : Int32) : Nat := (bFs x).toNatClampNeg
def nTs (x : Int32) : Nat := (bTs x).toNatClampNeg
def nFd (x : Int32) : Nat := (bFd x).toNatClampNeg
def nTd (x : Int32) : Nat := (bTd x).toNatClampNeg
def nFp (x : Int32) : Nat := (bFp x).toNatClampNeg
def nTp (x : Int32) : Nat := (bTp x).toNatClampNeg
theorem n_and (y m : Int32) (k : Nat) (hk : k ≤ 30) (hm : m.toBitVec.toNat = 2 ^ k - 1) : y &&& m = nI (y &&& m).toNatClampNeg ∧ (y &&& m).toNatClampNeg < 2 ^ k := by
  obtain ⟨j, hj, e⟩ := pk_andE y k hm
  have h30 : 2 ^ k ≤ 2 ^ 30 := Nat.pow_le_pow_right (by decide) hk
  have h31 : j < 2 ^ 31 := by omega
  rw [e, nI_clamp h31]
  exact ⟨rfl, hj⟩
theorem nFs_e (x : Int32) : bFs x = nI (nFs x) ∧ nFs x < 16 := n_and _ 15 4 (by decide) (by decide)
theorem nTs_e (x : Int32) : bTs x = nI (nTs x) ∧ nTs x < 16 := n_and _ 15 4 (by decide) (by decide)
theorem nFd_e (x : Int32) : bFd x = nI (nFd x) ∧ nFd x < 16 := n_and _ 15 4 (by decide) (by decide)
theorem nTd_e (x : Int32) : bTd x = nI (nTd x) ∧ nTd x < 16 := n_and _ 15 4 (by decide) (by decide)
theorem nFp_e (x : Int32) : bFp x = nI (nFp x) ∧ nFp x < 2 := n_and _ 1 1 (by decide) (by decide)
theorem nTp_e (x : Int32) : bTp x = nI (nTp x) ∧ nTp x < 2 := n_and _ 1 1 (by decide) (by decide)
theorem n_small (x : Int32) : nFs x < 16 ∧ nTs x < 16 ∧ nFd x < 16 ∧ nTd x < 16 ∧ nFp x < 2 ∧ nTp x < 2 := ⟨(nFs_e x).2, (nTs_e x).2, (nFd_e x).2, (nTd_e x).2, (nFp_e x).2, (nTp_e x).2⟩
abbrev mtN (a b : Int32) : Prop := nFs a ≤ nTs b ∧ nFs b ≤ nTs a ∧ nFd a ≤ nTd b ∧ nFd b ≤ nTd a ∧ nFp a ≤ nTp b ∧ nFp b ≤ nTp a
abbrev inN (a b : Int32) : Prop := nFs b ≤ nFs a ∧ nTs a ≤ nTs b ∧ nFd b ≤ nFd a ∧ nTd a ≤ nTd b ∧ nFp b ≤ nFp a ∧ nTp a ≤ nTp b
theorem leN {x y : Int32} {a b : Nat} (ex : x = nI a) (ey : y = nI b) (ha : a < 2 ^ 31) (hb : b < 2 ^ 31) : x ≤ y ↔ a ≤ b := by rw [ex, ey]; exact nI_leI ha hb
theorem ltN {x y : Int32} {a b : Nat} (ex : x = nI a) (ey : y = nI b) (ha : a < 2 ^ 31) (hb : b < 2 ^ 31) : x < y ↔ a < b := by rw [ex, ey]; exact nI_ltI ha hb
theorem bMt_N (a b : Int32) : bMt a b ↔ mtN a b := by
  have ha := n_small a
  have hb := n_small b
  unfold bMt mtN
  rw [leN (nFs_e a).1 (nTs_e b).1 (by omega) (by omega), leN (nFs_e b).1 (nTs_e a).1 (by omega) (by omega), leN (nFd_e a).1 (nTd_e b).1 (by omega) (by omega), leN (nFd_e b).1 (nTd_e a).1 (by omega) (by omega), leN (nFp_e a).1 (nTp_e b).1 (by omega) (by omega), leN (nFp_e b).1 (nTp_e a).1 (by omega) (by omega)]
theorem bIn_N (a b : Int32) : bIn a b ↔ inN a b := by
  have ha := n_small a
  have hb := n_small b
  unfold bIn inN
  rw [leN (nFs_e b).1 (nFs_e a).1 (by omega) (by omega), leN (nTs_e a).1 (nTs_e b).1 (by omega) (by omega), leN (nFd_e b).1 (nFd_e a).1 (by omega) (by omega), leN (nTd_e a).1 (nTd_e b).1 (by omega) (by omega), leN (nFp_e b).1 (nFp_e a).1 (by omega) (by omega), leN (nTp_e a).1 (nTp_e b).1 (by omega) (by omega)]
/-- a box that holds packets -/
abbrev vB (x : Int32) : Prop := nFs x ≤ nTs x ∧ nFd x ≤ nTd x ∧ nFp x ≤ nTp x
/-- packet p lies in box x -/
abbrev inB (x : Int32) (p : Nat) : Prop := nFs x ≤ p / 32 ∧ p / 32 ≤ nTs x ∧ nFd x ≤ p / 2 % 16 ∧ p / 2 % 16 ≤ nTd x ∧ nFp x ≤ p % 2 ∧ p % 2 ≤ nTp x
def cn : List Int32 → Nat → Nat
  | [], _ => 0
  | x :: L, p => (if inB x p then 1 else 0) + cn L p
theorem cn_app (L M : List Int32) (p : Nat) : cn (L ++ M) p = cn L p + cn M p := by
  induction L with
  | nil => rw [List.nil_append, cn, Nat.zero_add]
  | cons x L ih => rw [List.cons_append, cn, cn, ih]; omega
theorem clampN {x : Int32} {n : Nat} (h : x = nI n) (hn : n < 2 ^ 31) : x.toNatClampNeg = n := by rw [h, nI_clamp hn]
theorem ws_n (x : Int32) {f t : Nat} (hf : f < 16) (ht : t < 16) : nFs (bWs x (nI f) (nI t)) = f ∧ nTs (bWs x (nI f) (nI t)) = t ∧ nFd (bWs x (nI f) (nI t)) = nFd x ∧ nTd (bWs x (nI f) (nI t)) = nTd x ∧ nFp (bWs x (nI f) (nI t)) = nFp x ∧ nTp (bWs x (nI f) (nI t)) = nTp x := by
  have h1 := sm4_nI f hf
  have h2 := sm4_nI t ht
  unfold nFs nTs nFd nTd nFp nTp
  rw [f_ws_bFs _ _ _ h1 h2, f_ws_bTs _ _ _ h1 h2, f_ws_bFd _ _ _ h1 h2, f_ws_bTd _ _ _ h1 h2, f_ws_bFp _ _ _ h1 h2, f_ws_bTp _ _ _ h1 h2]
  exact ⟨nI_clamp (by omega), nI_clamp (by omega), rfl, rfl, rfl, rfl⟩
theorem wd_n (x : Int32) {f t : Nat} (hf : f < 16) (ht : t < 16) : nFs (bWd x (nI f) (nI t)) = nFs x ∧ nTs (bWd x (nI f) (nI t)) = nTs x ∧ nFd (bWd x (nI f) (nI t)) = f ∧ nTd (bWd x (nI f) (nI t)) = t ∧ nFp (bWd x (nI f) (nI t)) = nFp x ∧ nTp (bWd x (nI f) (nI t)) = nTp x := by
  have h1 := sm4_nI f hf
  have h2 := sm4_nI t ht
  unfold nFs nTs nFd nTd nFp nTp
  rw [f_wd_bFs _ _ _ h1 h2, f_wd_bTs _ _ _ h1 h2, f_wd_bFd _ _ _ h1 h2, f_wd_bTd _ _ _ h1 h2, f_wd_bFp _ _ _ h1 h2, f_wd_bTp _ _ _ h1 h2]
  exact ⟨rfl, rfl, nI_clamp (by omega), nI_clamp (by omega), rfl, rfl⟩
theorem a4_n (x : Int32) : nFs (x &&& (-4)) = nFs x ∧ nTs (x &&& (-4)) = nTs x ∧ nFd (x &&& (-4)) = nFd x ∧ nTd (x &&& (-4)) = nTd x ∧ nFp (x &&& (-4)) = 0 ∧ nTp (x &&& (-4)) = 0 := by
  unfold nFs nTs nFd nTd nFp nTp
  rw [f_a4_bFs, f_a4_bTs, f_a4_bFd, f_a4_bTd, f_a4_bFp, f_a4_bTp]
  exact ⟨rfl, rfl, rfl, rfl, by decide, by decide⟩
theorem o3_n (x : Int32) : nFs (x ||| 3) = nFs x ∧ nTs (x ||| 3) = nTs x ∧ nFd (x ||| 3) = nFd x ∧ nTd (x ||| 3) = nTd x ∧ nFp (x ||| 3) = 1 ∧ nTp (x ||| 3) = 1 := by
  unfold nFs nTs nFd nTd nFp nTp
  rw [f_o3_bFs, f_o3_bTs, f_o3_bFd, f_o3_bTd, f_o3_bFp, f_o3_bTp]
  exact ⟨rfl, rfl, rfl, rfl, by decide, by decide⟩
theorem pt_n {s d z : Nat} (hs : s < 16) (hd : d < 16) (hz : z < 2) : nFs (ptx (nI s) (nI d) (nI z)) = s ∧ nTs (ptx (nI s) (nI d) (nI z)) = s ∧ nFd (ptx (nI s) (nI d) (nI z)) = d ∧ nTd (ptx (nI s) (nI d) (nI z)) = d ∧ nFp (ptx (nI s) (nI d) (nI z)) = z ∧ nTp (ptx (nI s) (nI d) (nI z)) = z := by
  have h1 := sm4_nI s hs
  have h2 := sm4_nI d hd
  have h3 := sm1_nI z hz
  unfold nFs nTs nFd nTd nFp nTp
  rw [f_pt_bFs _ _ _ h1 h2 h3, f_pt_bTs _ _ _ h1 h2 h3, f_pt_bFd _ _ _ h1 h2 h3, f_pt_bTd _ _ _ h1 h2 h3, f_pt_bFp _ _ _ h1 h2 h3, f_pt_bTp _ _ _ h1 h2 h3]
  exact ⟨nI_clamp (by omega), nI_clamp (by omega), nI_clamp (by omega), nI_clamp (by omega), nI_clamp (by omega), nI_clamp (by omega)⟩
/-! carving along s -/
theorem cS_N (x c : Int32) : cS x c = (if nFs x < nFs c then [bWs x (nI (nFs x)) (nI (nFs c - 1))] else []) ++ (if nTs c < nTs x then [bWs x (nI (nTs c + 1)) (nI (nTs x))] else []) := by
  have hx := n_small x
  have hc := n_small c
  have e1 := ltN (nFs_e x).1 (nFs_e c).1 (by omega) (by omega)
  have e2 := ltN (nTs_e c).1 (nTs_e x).1 (by omega) (by omega)
  unfold cS
  by_cases h1 : nFs x < nFs c
  · rw [if_pos (e1.mpr h1), if_pos h1, (nFs_e x).1, (nFs_e c).1, show (1 : Int32) = nI 1 from rfl, pk_sub (by omega)]
    by_cases h2 : nTs c < nTs x
    · rw [if_pos (e2.mpr h2), if_pos h2, (nTs_e x).1, (nTs_e c).1, nI_add]
    · rw [if_neg (fun h => h2 (e2.mp h)), if_neg h2]
  · rw [if_neg (fun h => h1 (e1.mp h)), if_neg h1]
    by_cases h2 : nTs c < nTs x
    · rw [if_pos (e2.mpr h2), if_pos h2, (nTs_e x).1, (nTs_e c).1, nI_1]
    · rw [if_neg (fun h => h2 (e2.mp h)), if_neg h2]
theorem rS_N (x c : Int32) : rS x c = bWs x (nI (if nFs x < nFs c then nFs c else nFs x)) (nI (if nTs c < nTs x then nTs c else nTs x)) := by
  have hx := n_small x
  have hc := n_small c
  have e1 := ltN (nFs_e x).1 (nFs_e c).1 (by omega) (by omega)
  have e2 := ltN (nTs_e c).1 (nTs_e x).1 (by omega) (by omega)
  unfold rS
  by_cases h1 : nFs x < nFs c
  · rw [if_pos (e1.mpr h1), if_pos h1, (nFs_e c).1]
    by_cases h2 : nTs c < nTs x
    · rw [if_pos (e2.mpr h2), if_pos h2, (nTs_e c).1]
    · rw [if_neg (fun h => h2 (e2.mp h)), if_neg h2, (nTs_e x).1]
  · rw [if_neg (fun h => h1 (e1.mp h)), if_neg h1, (nFs_e x).1]
    by_cases h2 : nTs c < nTs x
    · rw [if_pos (e2.mpr h2), if_pos h2, (nTs_e c).1]
    · rw [if_neg (fun h => h2 (e2.mp h)), if_neg h2, (nTs_e x).1]
theorem rS_n (x c : Int32) : nFs (rS x c) = (if nFs x < nFs c then nFs c else nFs x) ∧ nTs (rS x c) = (if nTs c < nTs x then nTs c else nTs x) ∧ nFd (rS x c) = nFd x ∧ nTd (rS x c) = nTd x ∧ nFp (rS x c) = nFp x ∧ nTp (rS x c) = nTp x := by
  have hx := n_small x
  have hc := n_small c
  rw [rS_N]
  exact ws_n x (by split <;> omega) (by split <;> omega)
theorem cS_cn {x c : Int32} (hm : mtN x c) (hv : vB x) (hw : vB c) (p : Nat) : cn (cS x c) p + (if inB (rS x c) p then 1 else 0) = (if inB x p then 1 else 0) := by
  have hx := n_small x
  have hc := n_small c
  obtain ⟨r1, r2, r3, r4, r5, r6⟩ := rS_n x c
  rw [cS_N, cn_app]
  by_cases h1 : nFs x < nFs c <;> by_cases h2 : nTs c < nTs x
  · obtain ⟨a1, a2, a3, a4, a5, a6⟩ := ws_n x (f := nFs x) (t := nFs c - 1) (by omega) (by omega)
    obtain ⟨b1, b2, b3, b4, b5, b6⟩ := ws_n x (f := nTs c + 1) (t := nTs x) (by omega) (by omega)
    rw [if_pos h1] at r1
    rw [if_pos h2] at r2
    simp only [if_pos h1, if_pos h2, cn, inB, a1, a2, a3, a4, a5, a6, b1, b2, b3, b4, b5, b6, r1, r2, r3, r4, r5, r6]
    repeat' split
    all_goals omega
  · obtain ⟨a1, a2, a3, a4, a5, a6⟩ := ws_n x (f := nFs x) (t := nFs c - 1) (by omega) (by omega)
    rw [if_pos h1] at r1
    rw [if_neg h2] at r2
    simp only [if_pos h1, if_neg h2, cn, inB, a1, a2, a3, a4, a5, a6, r1, r2, r3, r4, r5, r6]
    repeat' split
    all_goals omega
  · obtain ⟨b1, b2, b3, b4, b5, b6⟩ := ws_n x (f := nTs c + 1) (t := nTs x) (by omega) (by omega)
    rw [if_neg h1] at r1
    rw [if_pos h2] at r2
    simp only [if_neg h1, if_pos h2, cn, inB, b1, b2, b3, b4, b5, b6, r1, r2, r3, r4, r5, r6]
    repeat' split
    all_goals omega
  · rw [if_neg h1] at r1
    rw [if_neg h2] at r2
    simp only [if_neg h1, if_neg h2, cn, inB, r1, r2, r3, r4, r5, r6]
    repeat' split
    all_goals omega
theorem cS_v {x c : Int32} (hm : mtN x c) (hv : vB x) : ∀ y ∈ cS x c, vB y := by
  have hx := n_small x
  have hc := n_small c
  intro y hy
  rw [cS_N, List.mem_append] at hy
  rcases hy with hy | hy
  · by_cases h1 : nFs x < nFs c
    · rw [if_pos h1, List.mem_singleton] at hy
      subst hy
      obtain ⟨a1, a2, a3, a4, a5, a6⟩ := ws_n x (f := nFs x) (t := nFs c - 1) (by omega) (by omega)
      rw [vB, a1, a2, a3, a4, a5, a6]
      omega
    · rw [if_neg h1] at hy; cases hy
  · by_cases h2 : nTs c < nTs x
    · rw [if_pos h2, List.mem_singleton] at hy
      subst hy
      obtain ⟨a1, a2, a3, a4, a5, a6⟩ := ws_n x (f := nTs c + 1) (t := nTs x) (by omega) (by omega)
      rw [vB, a1, a2, a3, a4, a5, a6]
      omega
    · rw [if_neg h2] at hy; cases hy
theorem rS_v {x c : Int32} (hm : mtN x c) (hv : vB x) (hw : vB c) : vB (rS x c) ∧ mtN (rS x c) c ∧ ∀ p, inB (rS x c) p ↔ inB x p ∧ nFs c ≤ p / 32 ∧ p / 32 ≤ nTs c := by
  obtain ⟨r1, r2, r3, r4, r5, r6⟩ := rS_n x c
  unfold vB mtN inB
  rw [r1, r2, r3, r4, r5, r6]
  refine ⟨?_, ?_, fun p => ?_⟩
  · by_cases h1 : nFs x < nFs c <;> by_cases h2 : nTs c < nTs x <;> simp only [h1, h2, if_true, if_false] <;> omega
  · by_cases h1 : nFs x < nFs c <;> by_cases h2 : nTs c < nTs x <;> simp only [h1, h2, if_true, if_false] <;> omega
  · by_cases h1 : nFs x < nFs c <;> by_cases h2 : nTs c < nTs x <;> simp only [h1, h2, if_true, if_false] <;> omega
/-! carving along d -/
theorem cD_N (x c : Int32) : cD x c = (if nFd x < nFd c then [bWd x (nI (nFd x)) (nI (nFd c - 1))] else []) ++ (if nTd c < nTd x then [bWd x (nI (nTd c + 1)) (nI (nTd x))] else []) := by
  have hx := n_small x
  have hc := n_small c
  have e1 := ltN (nFd_e x).1 (nFd_e c).1 (by omega) (by omega)
  have e2 := ltN (nTd_e c).1 (nTd_e x).1 (by omega) (by omega)
  unfold cD
  by_cases h1 : nFd x < nFd c
  · rw [if_pos (e1.mpr h1), if_pos h1, (nFd_e x).1, (nFd_e c).1, show (1 : Int32) = nI 1 from rfl, pk_sub (by omega)]
    by_cases h2 : nTd c < nTd x
    · rw [if_pos (e2.mpr h2), if_pos h2, (nTd_e x).1, (nTd_e c).1, nI_add]
    · rw [if_neg (fun h => h2 (e2.mp h)), if_neg h2]
  · rw [if_neg (fun h => h1 (e1.mp h)), if_neg h1]
    by_cases h2 : nTd c < nTd x
    · rw [if_pos (e2.mpr h2), if_pos h2, (nTd_e x).1, (nTd_e c).1, nI_1]
    · rw [if_neg (fun h => h2 (e2.mp h)), if_neg h2]
theorem rD_N (x c : Int32) : rD x c = bWd x (nI (if nFd x < nFd c then nFd c else nFd x)) (nI (if nTd c < nTd x then nTd c else nTd x)) := by
  have hx := n_small x
  have hc := n_small c
  have e1 := ltN (nFd_e x).1 (nFd_e c).1 (by omega) (by omega)
  have e2 := ltN (nTd_e c).1 (nTd_e x).1 (by omega) (by omega)
  unfold rD
  by_cases h1 : nFd x < nFd c
  · rw [if_pos (e1.mpr h1), if_pos h1, (nFd_e c).1]
    by_cases h2 : nTd c < nTd x
    · rw [if_pos (e2.mpr h2), if_pos h2, (nTd_e c).1]
    · rw [if_neg (fun h => h2 (e2.mp h)), if_neg h2, (nTd_e x).1]
  · rw [if_neg (fun h => h1 (e1.mp h)), if_neg h1, (nFd_e x).1]
    by_cases h2 : nTd c < nTd x
    · rw [if_pos (e2.mpr h2), if_pos h2, (nTd_e c).1]
    · rw [if_neg (fun h => h2 (e2.mp h)), if_neg h2, (nTd_e x).1]
theorem rD_n (x c : Int32) : nFs (rD x c) = nFs x ∧ nTs (rD x c) = nTs x ∧ nFd (rD x c) = (if nFd x < nFd c then nFd c else nFd x) ∧ nTd (rD x c) = (if nTd c < nTd x then nTd c else nTd x) ∧ nFp (rD x c) = nFp x ∧ nTp (rD x c) = nTp x := by
  have hx := n_small x
  have hc := n_small c
  rw [rD_N]
  exact wd_n x (by split <;> omega) (by split <;> omega)
theorem cD_cn {x c : Int32} (hm : mtN x c) (hv : vB x) (hw : vB c) (p : Nat) : cn (cD x c) p + (if inB (rD x c) p then 1 else 0) = (if inB x p then 1 else 0) := by
  have hx := n_small x
  have hc := n_small c
  obtain ⟨r1, r2, r3, r4, r5, r6⟩ := rD_n x c
  rw [cD_N, cn_app]
  by_cases h1 : nFd x < nFd c <;> by_cases h2 : nTd c < nTd x
  · obtain ⟨a1, a2, a3, a4, a5, a6⟩ := wd_n x (f := nFd x) (t := nFd c - 1) (by omega) (by omega)
    obtain ⟨b1, b2, b3, b4, b5, b6⟩ := wd_n x (f := nTd c + 1) (t := nTd x) (by omega) (by omega)
    rw [if_pos h1] at r3
    rw [if_pos h2] at r4
    simp only [if_pos h1, if_pos h2, cn, inB, a1, a2, a3, a4, a5, a6, b1, b2, b3, b4, b5, b6, r1, r2, r3, r4, r5, r6]
    repeat' split
    all_goals omega
  · obtain ⟨a1, a2, a3, a4, a5, a6⟩ := wd_n x (f := nFd x) (t := nFd c - 1) (by omega) (by omega)
    rw [if_pos h1] at r3
    rw [if_neg h2] at r4
    simp only [if_pos h1, if_neg h2, cn, inB, a1, a2, a3, a4, a5, a6, r1, r2, r3, r4, r5, r6]
    repeat' split
    all_goals omega
  · obtain ⟨b1, b2, b3, b4, b5, b6⟩ := wd_n x (f := nTd c + 1) (t := nTd x) (by omega) (by omega)
    rw [if_neg h1] at r3
    rw [if_pos h2] at r4
    simp only [if_neg h1, if_pos h2, cn, inB, b1, b2, b3, b4, b5, b6, r1, r2, r3, r4, r5, r6]
    repeat' split
    all_goals omega
  · rw [if_neg h1] at r3
    rw [if_neg h2] at r4
    simp only [if_neg h1, if_neg h2, cn, inB, r1, r2, r3, r4, r5, r6]
    repeat' split
    all_goals omega
theorem cD_v {x c : Int32} (hm : mtN x c) (hv : vB x) : ∀ y ∈ cD x c, vB y := by
  have hx := n_small x
  have hc := n_small c
  intro y hy
  rw [cD_N, List.mem_append] at hy
  rcases hy with hy | hy
  · by_cases h1 : nFd x < nFd c
    · rw [if_pos h1, List.mem_singleton] at hy
      subst hy
      obtain ⟨a1, a2, a3, a4, a5, a6⟩ := wd_n x (f := nFd x) (t := nFd c - 1) (by omega) (by omega)
      rw [vB, a1, a2, a3, a4, a5, a6]
      omega
    · rw [if_neg h1] at hy; cases hy
  · by_cases h2 : nTd c < nTd x
    · rw [if_pos h2, List.mem_singleton] at hy
      subst hy
      obtain ⟨a1, a2, a3, a4, a5, a6⟩ := wd_n x (f := nTd c + 1) (t := nTd x) (by omega) (by omega)
      rw [vB, a1, a2, a3, a4, a5, a6]
      omega
    · rw [if_neg h2] at hy; cases hy
theorem rD_v {x c : Int32} (hm : mtN x c) (hv : vB x) (hw : vB c) : vB (rD x c) ∧ mtN (rD x c) c ∧ ∀ p, inB (rD x c) p ↔ inB x p ∧ nFd c ≤ p / 2 % 16 ∧ p / 2 % 16 ≤ nTd c := by
  obtain ⟨r1, r2, r3, r4, r5, r6⟩ := rD_n x c
  unfold vB mtN inB
  rw [r1, r2, r3, r4, r5, r6]
  refine ⟨?_, ?_, fun p => ?_⟩
  · by_cases h1 : nFd x < nFd c <;> by_cases h2 : nTd c < nTd x <;> simp only [h1, h2, if_true, if_false] <;> omega
  · by_cases h1 : nFd x < nFd c <;> by_cases h2 : nTd c < nTd x <;> simp only [h1, h2, if_true, if_false] <;> omega
  · by_cases h1 : nFd x < nFd c <;> by_cases h2 : nTd c < nTd x <;> simp only [h1, h2, if_true, if_false] <;> omega
/-! carving along p -/
theorem cP_N (x c : Int32) : cP x c = (if nFp x < nFp c then [x &&& (-4)] else []) ++ (if nTp c < nTp x then [x ||| 3] else []) := by
  have hx := n_small x
  have hc := n_small c
  have e1 := ltN (nFp_e x).1 (nFp_e c).1 (by omega) (by omega)
  have e2 := ltN (nTp_e c).1 (nTp_e x).1 (by omega) (by omega)
  unfold cP
  by_cases h1 : nFp x < nFp c
  · rw [if_pos (e1.mpr h1), if_pos h1]
    by_cases h2 : nTp c < nTp x
    · rw [if_pos (e2.mpr h2), if_pos h2]
    · rw [if_neg (fun h => h2 (e2.mp h)), if_neg h2]
  · rw [if_neg (fun h => h1 (e1.mp h)), if_neg h1]
    by_cases h2 : nTp c < nTp x
    · rw [if_pos (e2.mpr h2), if_pos h2]
    · rw [if_neg (fun h => h2 (e2.mp h)), if_neg h2]
theorem cP_cn {x c : Int32} (hm : mtN x c) (hv : vB x) (hw : vB c) (p : Nat) : cn (cP x c) p + (if inB x p ∧ nFp c ≤ p % 2 ∧ p % 2 ≤ nTp c then 1 else 0) = (if inB x p then 1 else 0) := by
  have hx := n_small x
  have hc := n_small c
  obtain ⟨a1, a2, a3, a4, a5, a6⟩ := a4_n x
  obtain ⟨b1, b2, b3, b4, b5, b6⟩ := o3_n x
  rw [cP_N, cn_app]
  by_cases h1 : nFp x < nFp c <;> by_cases h2 : nTp c < nTp x
  · simp only [if_pos h1, if_pos h2, cn, inB, a1, a2, a3, a4, a5, a6, b1, b2, b3, b4, b5, b6]
    repeat' split
    all_goals omega
  · simp only [if_pos h1, if_neg h2, cn, inB, a1, a2, a3, a4, a5, a6]
    repeat' split
    all_goals omega
  · simp only [if_neg h1, if_pos h2, cn, inB, b1, b2, b3, b4, b5, b6]
    repeat' split
    all_goals omega
  · simp only [if_neg h1, if_neg h2, cn, inB]
    repeat' split
    all_goals omega
theorem cP_v {x c : Int32} (hv : vB x) : ∀ y ∈ cP x c, vB y := by
  obtain ⟨a1, a2, a3, a4, a5, a6⟩ := a4_n x
  obtain ⟨b1, b2, b3, b4, b5, b6⟩ := o3_n x
  intro y hy
  rw [cP_N, List.mem_append] at hy
  rcases hy with hy | hy
  · by_cases h1 : nFp x < nFp c
    · rw [if_pos h1, List.mem_singleton] at hy
      subst hy
      rw [vB, a1, a2, a3, a4, a5, a6]
      omega
    · rw [if_neg h1] at hy; cases hy
  · by_cases h2 : nTp c < nTp x
    · rw [if_pos h2, List.mem_singleton] at hy
      subst hy
      rw [vB, b1, b2, b3, b4, b5, b6]
      omega
    · rw [if_neg h2] at hy; cases hy
/-- one box carved: its packets that aren't the cut's, each once -/
theorem carL_cn {x c : Int32} (hm : mtN x c) (hv : vB x) (hw : vB c) (p : Nat) : cn (carL x c) p = if inB c p then 0 else if inB x p then 1 else 0 := by
  obtain ⟨v1, m1, i1⟩ := rS_v hm hv hw
  obtain ⟨v2, m2, i2⟩ := rD_v m1 v1 hw
  have e1 := cS_cn hm hv hw p
  have e2 := cD_cn m1 v1 hw p
  have e3 := cP_cn m2 v2 hw p
  rw [carL, cn_app, cn_app]
  have k1 := i1 p
  have k2 := i2 p
  by_cases hx : inB x p
  · by_cases hc : inB c p
    · have h1 : inB (rS x c) p := k1.mpr ⟨hx, hc.1, hc.2.1⟩
      have h2 : inB (rD (rS x c) c) p := k2.mpr ⟨h1, hc.2.2.1, hc.2.2.2.1⟩
      rw [if_pos hx, if_pos h1] at e1
      rw [if_pos h1, if_pos h2] at e2
      rw [if_pos h2, if_pos ⟨h2, hc.2.2.2.2.1, hc.2.2.2.2.2⟩] at e3
      rw [if_pos hc]
      omega
    · rw [if_neg hc, if_pos hx]
      rw [if_pos hx] at e1
      by_cases h1 : inB (rS x c) p
      · rw [if_pos h1] at e1 e2
        by_cases h2 : inB (rD (rS x c) c) p
        · rw [if_pos h2] at e2 e3
          rw [if_neg (fun h => hc ⟨(k1.mp h1).2.1, (k1.mp h1).2.2, (k2.mp h2).2.1, (k2.mp h2).2.2, h.2.1, h.2.2⟩)] at e3
          omega
        · rw [if_neg h2] at e2 e3
          rw [if_neg (fun h => h2 h.1)] at e3
          omega
      · rw [if_neg h1] at e1 e2
        have h2 : ¬ inB (rD (rS x c) c) p := fun h => h1 (k2.mp h).1
        rw [if_neg h2] at e2 e3
        rw [if_neg (fun h => h2 h.1)] at e3
        omega
  · have h1 : ¬ inB (rS x c) p := fun h => hx (k1.mp h).1
    have h2 : ¬ inB (rD (rS x c) c) p := fun h => h1 (k2.mp h).1
    rw [if_neg hx] at e1 ⊢
    rw [if_neg h1] at e1 e2
    rw [if_neg h2] at e2 e3
    rw [if_neg (fun h => h2 h.1)] at e3
    rw [ite_self]
    omega
theorem carL_v {x c : Int32} (hm : mtN x c) (hv : vB x) (hw : vB c) : ∀ y ∈ carL x c, vB y := by
  obtain ⟨v1, m1, -⟩ := rS_v hm hv hw
  obtain ⟨v2, m2, -⟩ := rD_v m1 v1 hw
  intro y hy
  rw [carL, List.mem_append, List.mem_append] at hy
  rcases hy with h | h | h
  · exact cS_v hm hv y h
  · exact cD_v m1 v1 y h
  · exact cP_v v2 y h
theorem notmeet {x c : Int32} (h : ¬ mtN x c) (p : Nat) (h1 : inB x p) (h2 : inB c p) : False := by
  unfold inB at h1 h2
  unfold mtN at h
  omega
theorem sub1_cn {x c : Int32} (hv : vB x) (hw : vB c) (p : Nat) : cn (sub1 c x) p = if inB c p then 0 else if inB x p then 1 else 0 := by
  unfold sub1
  by_cases hm : mtN x c
  · rw [if_pos ((bMt_N x c).mpr hm)]
    exact carL_cn hm hv hw p
  · rw [if_neg (fun h => hm ((bMt_N x c).mp h)), cn, cn, Nat.add_zero]
    by_cases hc : inB c p
    · rw [if_pos hc, if_neg (fun h => notmeet hm p h hc)]
    · rw [if_neg hc]
theorem sub1_v {x c : Int32} (hv : vB x) (hw : vB c) : ∀ y ∈ sub1 c x, vB y := by
  unfold sub1
  by_cases hm : mtN x c
  · rw [if_pos ((bMt_N x c).mpr hm)]
    exact carL_v hm hv hw
  · rw [if_neg (fun h => hm ((bMt_N x c).mp h))]
    intro y hy
    rw [List.mem_singleton] at hy
    exact hy ▸ hv
abbrev vL (L : List Int32) : Prop := ∀ x ∈ L, vB x
theorem subL_cons (x : Int32) (L : List Int32) (c : Int32) : subL (x :: L) c = sub1 c x ++ subL L c := by simp [subL]
theorem subL_cn {c : Int32} (hw : vB c) (p : Nat) : ∀ {L : List Int32}, vL L → cn (subL L c) p = if inB c p then 0 else cn L p
  | [], _ => by simp [subL, cn]
  | x :: L, h => by
    rw [subL_cons, cn_app, sub1_cn (h x List.mem_cons_self) hw p, subL_cn hw p (fun y hy => h y (List.mem_cons_of_mem _ hy)), cn]
    by_cases hc : inB c p
    · rw [if_pos hc, if_pos hc, if_pos hc]
    · rw [if_neg hc, if_neg hc, if_neg hc]
theorem subL_v {c : Int32} (hw : vB c) : ∀ {L : List Int32}, vL L → vL (subL L c)
  | [], _ => by intro y hy; simp [subL] at hy
  | x :: L, h => by
    intro y hy
    rw [subL_cons, List.mem_append] at hy
    rcases hy with hy | hy
    · exact sub1_v (h x List.mem_cons_self) hw y hy
    · exact subL_v hw (fun y hy => h y (List.mem_cons_of_mem _ hy)) y hy
end
section
/-! THE PLAIN LAW 2: volumes, corners, what lists of boxes hold -/
def sN (f : Nat → Nat) : Nat → Nat
  | 0 => 0
  | n + 1 => sN f n + f n
theorem sN_cong {f g : Nat → Nat} : ∀ {n : Nat}, (∀ k, k < n → f k = g k) → sN f n = sN g n
  | 0, _ => rfl
  | n + 1, h => by rw [sN, sN, sN_cong (fun k hk => h k (by omega)), h n (by omega)]
theorem sN_add (f g : Nat → Nat) : ∀ n, sN (fun k => f k + g k) n = sN f n + sN g n
  | 0 => rfl
  | n + 1 => by rw [sN, sN, sN, sN_add f g n]; omega
theorem sN_le {f : Nat → Nat} {c : Nat} : ∀ {n : Nat}, (∀ k, k < n → f k ≤ c) → sN f n ≤ n * c
  | 0, _ => by rw [sN]; omega
  | n + 1, h => by
    have h1 := sN_le (f := f) (c := c) (n := n) (fun k hk => h k (by omega))
    have h2 := h n (by omega)
    rw [sN, Nat.succ_mul]
    omega
theorem sN_mul (f : Nat → Nat) (c : Nat) : ∀ n, sN (fun k => f k * c) n = sN f n * c
  | 0 => by rw [sN, sN, Nat.zero_mul]
  | n + 1 => by rw [sN, sN, sN_mul f c n, Nat.add_mul]
theorem sN_split (f : Nat → Nat) (m : Nat) : ∀ n, sN f (m + n) = sN f m + sN (fun k => f (m + k)) n
  | 0 => by rw [sN, Nat.add_zero, Nat.add_zero]
  | n + 1 => by rw [← Nat.add_assoc, sN, sN, sN_split f m n]; omega
theorem sN_grid (f : Nat → Nat) (b : Nat) : ∀ a, sN f (a * b) = sN (fun i => sN (fun j => f (i * b + j)) b) a
  | 0 => by rw [Nat.zero_mul, sN, sN]
  | a + 1 => by rw [Nat.succ_mul, sN_split, sN_grid f b a, sN]
theorem sN_zero {f : Nat → Nat} {n : Nat} (h : sN f n = 0) : ∀ k, k < n → f k = 0 := by
  induction n with
  | zero => intro k hk; omega
  | succ n ih =>
    rw [sN] at h
    intro k hk
    by_cases e : k = n
    · subst e; omega
    · exact ih (by omega) k (by omega)
abbrev iv (lo hi k : Nat) : Nat := if lo ≤ k ∧ k ≤ hi then 1 else 0
theorem iv16 : ∀ lo, lo < 16 → ∀ hi, hi < 16 → lo ≤ hi → sN (iv lo hi) 16 = hi - lo + 1 := by decide +kernel
theorem iv2 : ∀ lo, lo < 2 → ∀ hi, hi < 2 → lo ≤ hi → sN (iv lo hi) 2 = hi - lo + 1 := by decide +kernel
def nVol (x : Int32) : Nat := ((nTs x - nFs x + 1) * (nTd x - nFd x + 1)) * (nTp x - nFp x + 1)
theorem inB_split (x : Int32) {s d z : Nat} (hd : d < 16) (hz : z < 2) : (if inB x (s * 32 + (d * 2 + z)) then 1 else 0) = iv (nFs x) (nTs x) s * (iv (nFd x) (nTd x) d * iv (nFp x) (nTp x) z) := by
  have e1 : (s * 32 + (d * 2 + z)) / 32 = s := by omega
  have e2 : (s * 32 + (d * 2 + z)) / 2 % 16 = d := by omega
  have e3 : (s * 32 + (d * 2 + z)) % 2 = z := by omega
  unfold inB iv
  rw [e1, e2, e3]
  by_cases h1 : nFs x ≤ s ∧ s ≤ nTs x
  · by_cases h2 : nFd x ≤ d ∧ d ≤ nTd x
    · by_cases h3 : nFp x ≤ z ∧ z ≤ nTp x
      · rw [if_pos h1, if_pos h2, if_pos h3, if_pos ⟨h1.1, h1.2, h2.1, h2.2, h3.1, h3.2⟩]
      · rw [if_neg h3, if_neg (fun h => h3 ⟨h.2.2.2.2.1, h.2.2.2.2.2⟩), Nat.mul_zero, Nat.mul_zero]
    · rw [if_neg h2, if_neg (fun h => h2 ⟨h.2.2.1, h.2.2.2.1⟩), Nat.zero_mul, Nat.mul_zero]
  · rw [if_neg h1, if_neg (fun h => h1 ⟨h.1, h.2.1⟩), Nat.zero_mul]
theorem vol_sum {x : Int32} (hv : vB x) : sN (fun p => if inB x p then 1 else 0) 512 = nVol x := by
  have hx := n_small x
  rw [show (512 : Nat) = 16 * 32 from rfl, sN_grid]
  have e : ∀ s, s < 16 → sN (fun j => if inB x (s * 32 + j) then 1 else 0) 32 = iv (nFs x) (nTs x) s * ((nTd x - nFd x + 1) * (nTp x - nFp x + 1)) := by
    intro s hs
    refine (sN_grid (fun j => if inB x (s * 32 + j) then 1 else 0) 2 16).trans ?_
    have e2 : ∀ d, d < 16 → sN (fun z => if inB x (s * 32 + (d * 2 + z)) then 1 else 0) 2 = iv (nFd x) (nTd x) d * ((nTp x - nFp x + 1) * iv (nFs x) (nTs x) s) := by
      intro d hd
      rw [← iv2 (nFp x) (by omega) (nTp x) (by omega) hv.2.2, ← Nat.mul_assoc, ← Nat.mul_right_comm, ← Nat.mul_comm (sN _ 2), ← sN_mul]
      refine sN_cong (fun z hz => ?_)
      rw [inB_split x hd hz]
      rw [Nat.mul_comm (iv (nFp x) (nTp x) z), Nat.mul_comm (iv (nFd x) (nTd x) d) (iv (nFs x) (nTs x) s), Nat.mul_assoc]
    refine (sN_cong e2).trans ?_
    rw [sN_mul, iv16 (nFd x) (by omega) (nTd x) (by omega) hv.2.1]
    rw [← Nat.mul_assoc, Nat.mul_comm]
  rw [sN_cong e, sN_mul, iv16 (nFs x) (by omega) (nTs x) (by omega) hv.1, nVol, Nat.mul_assoc]
theorem bVol_N {x : Int32} (hv : vB x) : bVol x = nI (nVol x) := by
  unfold bVol nVol
  rw [(nTs_e x).1, (nFs_e x).1, (nTd_e x).1, (nFd_e x).1, (nTp_e x).1, (nFp_e x).1, pk_sub hv.1, pk_sub hv.2.1, pk_sub hv.2.2, nI_1, nI_1, nI_1, pk_mul, pk_mul]
def volN : List Int32 → Nat
  | [] => 0
  | x :: L => nVol x + volN L
theorem volN_app (L M : List Int32) : volN (L ++ M) = volN L + volN M := by
  induction L with
  | nil => rw [List.nil_append, volN, Nat.zero_add]
  | cons x L ih => rw [List.cons_append, volN, volN, ih]; omega
theorem getD_mem {L : List Int32} {k : Nat} (h : k < L.length) : L.getD k 0 ∈ L := by
  rw [List.getD, List.getElem?_eq_getElem h]
  exact List.getElem_mem h
theorem mem_getD {L : List Int32} {x : Int32} (h : x ∈ L) : ∃ k, k < L.length ∧ L.getD k 0 = x := by
  obtain ⟨k, hk, e⟩ := List.getElem_of_mem h
  exact ⟨k, hk, by rw [List.getD, List.getElem?_eq_getElem hk]; exact e⟩
theorem volA_N {L : List Int32} (hv : vL L) : ∀ k, k ≤ L.length → volA L k = nI (volN (L.take k))
  | 0, _ => by rw [volA, List.take_zero, volN, nI_0]
  | k + 1, h => by
    rw [volA, volA_N hv k (by omega), take_s (by omega), volN_app, bVol_N (hv _ (getD_mem (by omega))), nI_add, volN, volN, Nat.add_zero]
theorem volN_sum : ∀ {L : List Int32}, vL L → volN L = sN (cn L) 512
  | [], _ => by
    rw [volN, show cn [] = fun _ => 0 from rfl]
    have := sN_le (f := fun _ => 0) (c := 0) (n := 512) (fun _ _ => Nat.le_refl _)
    omega
  | x :: L, h => by
    rw [volN, volN_sum (fun y hy => h y (List.mem_cons_of_mem _ hy)), ← vol_sum (h x List.mem_cons_self), ← sN_add]
    rfl
theorem vol_L {L : List Int32} (hv : vL L) : volA L L.length = nI (sN (cn L) 512) := by
  rw [volA_N hv _ (Nat.le_refl _), List.take_length, volN_sum hv]
theorem len_vol : ∀ {L : List Int32}, L.length ≤ volN L
  | [] => Nat.le_refl _
  | x :: L => by
    have := len_vol (L := L)
    have h : 1 ≤ nVol x := by
      unfold nVol
      exact Nat.mul_pos (Nat.mul_pos (by omega) (by omega)) (by omega)
    rw [List.length_cons, volN]
    omega
theorem len512 {L : List Int32} (hv : vL L) (h : ∀ p, p < 512 → cn L p ≤ 1) : L.length ≤ 512 := by
  refine Nat.le_trans len_vol ?_
  rw [volN_sum hv]
  exact sN_le h
/-! corners -/
def nCor (x : Int32) : Nat := 32 * nFs x + 2 * nFd x + nFp x
theorem bCor_N (x : Int32) : bCor x = nI (nCor x) := by
  unfold bCor nCor
  rw [(nFs_e x).1, (nFd_e x).1, (nFp_e x).1, show (32 : Int32) = nI 32 from rfl, show (2 : Int32) = nI 2 from rfl, pk_mul, pk_mul, nI_add, nI_add]
theorem nCor_lt (x : Int32) : nCor x < 512 := by
  have := n_small x
  unfold nCor
  omega
theorem nCor_in {x : Int32} (hv : vB x) : inB x (nCor x) := by
  have := n_small x
  unfold inB nCor
  omega
theorem nCor_le {x : Int32} {p : Nat} (h : inB x p) : nCor x ≤ p := by
  have := n_small x
  unfold inB at h
  unfold nCor
  omega
def nTop (x : Int32) : Nat := 32 * nTs x + 2 * nTd x + nTp x
theorem nTop_in {x : Int32} (hv : vB x) : nTop x < 512 ∧ inB x (nTop x) := by
  have := n_small x
  unfold inB nTop
  omega
theorem within_iff {a b : Int32} (hv : vB a) : inN a b ↔ ∀ p, p < 512 → inB a p → inB b p := by
  have ha := n_small a
  have hb := n_small b
  constructor
  · intro h p _ hp
    unfold inN at h
    unfold inB at hp ⊢
    omega
  · intro h
    have h1 := h _ (nCor_lt a) (nCor_in hv)
    have h2 := h _ (nTop_in hv).1 (nTop_in hv).2
    unfold inB nCor at h1
    unfold inB nTop at h2
    unfold inN
    omega
theorem meet_iff {a b : Int32} (hv : vB a) (hw : vB b) : mtN a b ↔ ∃ p, p < 512 ∧ inB a p ∧ inB b p := by
  have ha := n_small a
  have hb := n_small b
  constructor
  · intro h
    unfold mtN at h
    refine ⟨32 * (if nFs a ≤ nFs b then nFs b else nFs a) + 2 * (if nFd a ≤ nFd b then nFd b else nFd a) + (if nFp a ≤ nFp b then nFp b else nFp a), ?_⟩
    have e1 : ∃ s, s = (if nFs a ≤ nFs b then nFs b else nFs a) ∧ nFs a ≤ s ∧ nFs b ≤ s ∧ s ≤ nTs a ∧ s ≤ nTs b := ⟨_, rfl, by split <;> omega⟩
    have e2 : ∃ s, s = (if nFd a ≤ nFd b then nFd b else nFd a) ∧ nFd a ≤ s ∧ nFd b ≤ s ∧ s ≤ nTd a ∧ s ≤ nTd b := ⟨_, rfl, by split <;> omega⟩
    have e3 : ∃ s, s = (if nFp a ≤ nFp b then nFp b else nFp a) ∧ nFp a ≤ s ∧ nFp b ≤ s ∧ s ≤ nTp a ∧ s ≤ nTp b := ⟨_, rfl, by split <;> omega⟩
    obtain ⟨s, es, hs⟩ := e1
    obtain ⟨d, ed, hd⟩ := e2
    obtain ⟨z, ez, hz⟩ := e3
    rw [← es, ← ed, ← ez]
    unfold inB
    omega
  · rintro ⟨p, -, h1, h2⟩
    unfold inB at h1 h2
    unfold mtN
    omega
/-! lists and their packets -/
theorem cn_zero {L : List Int32} {p : Nat} : cn L p = 0 ↔ ∀ x ∈ L, ¬ inB x p := by
  induction L with
  | nil => simp [cn]
  | cons x L ih =>
    rw [cn]
    constructor
    · intro h y hy
      rcases List.mem_cons.mp hy with e | e
      · subst e
        intro hp
        rw [if_pos hp] at h
        omega
      · exact ih.mp (by omega) y e
    · intro h
      rw [if_neg (h x List.mem_cons_self), ih.mpr (fun y hy => h y (List.mem_cons_of_mem _ hy))]
theorem cn_pos {L : List Int32} {p : Nat} : 0 < cn L p ↔ ∃ x ∈ L, inB x p := by
  constructor
  · intro h
    refine Classical.byContradiction fun hn => ?_
    have := (cn_zero (L := L) (p := p)).mpr (fun x hx hp => hn ⟨x, hx, hp⟩)
    omega
  · rintro ⟨x, hx, hp⟩
    refine Nat.pos_of_ne_zero fun h => ?_
    exact cn_zero.mp h x hx hp
theorem nil_iff {L : List Int32} (hv : vL L) : L = [] ↔ ∀ p, p < 512 → cn L p = 0 := by
  constructor
  · intro h p _
    rw [h, cn]
  · intro h
    cases L with
    | nil => rfl
    | cons x L =>
      have h1 := cn_zero.mp (h _ (nCor_lt x)) x List.mem_cons_self
      exact absurd (nCor_in (hv x List.mem_cons_self)) h1
theorem hits_iff {L : List Int32} {b : Int32} (hv : vL L) (hw : vB b) : hits L b = true ↔ ∃ p, p < 512 ∧ 0 < cn L p ∧ inB b p := by
  unfold hits
  rw [anb_0]
  constructor
  · rintro ⟨k, hk, h⟩
    have h := (bMt_N _ _).mp (of_decide_eq_true h)
    obtain ⟨p, h1, h2, h3⟩ := (meet_iff (hv _ (getD_mem hk)) hw).mp h
    exact ⟨p, h1, cn_pos.mpr ⟨_, getD_mem hk, h2⟩, h3⟩
  · rintro ⟨p, h1, h2, h3⟩
    obtain ⟨x, hx, hp⟩ := cn_pos.mp h2
    obtain ⟨k, hk, e⟩ := mem_getD hx
    refine ⟨k, hk, decide_eq_true ((bMt_N _ _).mpr ?_)⟩
    rw [e]
    exact (meet_iff (hv x hx) hw).mpr ⟨p, h1, hp, h3⟩
/-! the lowest packet -/
def isLow (S : Nat → Prop) (r : Int32) : Prop := (r = (-3) ∧ ∀ p, p < 512 → ¬ S p) ∨ ∃ q, q < 512 ∧ r = nI q ∧ S q ∧ ∀ p, p < q → ¬ S p
theorem nI_m3 {q : Nat} (h : q < 512) : ¬ nI q = (-3) := by
  intro e
  have h1 := nI_toInt (n := q) (by omega)
  rw [e] at h1
  have h2 : (-3 : Int32).toInt = -3 := by decide
  omega
theorem isLow_one {S S' : Nat → Prop} {r r' : Int32} (h : isLow S r) (h' : isLow S' r') (e : ∀ p, p < 512 → (S p ↔ S' p)) : r = r' := by
  rcases h with ⟨rfl, h1⟩ | ⟨q, hq, rfl, h1, h2⟩ <;> rcases h' with ⟨rfl, h3⟩ | ⟨q', hq', rfl, h3, h4⟩
  · rfl
  · exact absurd ((e q' hq').mpr h3) (h1 q' hq')
  · exact absurd ((e q hq).mp h1) (h3 q hq)
  · rcases Nat.lt_trichotomy q q' with c | c | c
    · exact absurd ((e q hq).mp h1) (h4 q c)
    · rw [c]
    · exact absurd ((e q' hq').mpr h3) (h2 q' c)
theorem fsm_low (P : Nat → Bool) : ∀ n i, i + n = 512 → (∀ k, k < i → ¬ P k = true) → isLow (fun p => P p = true) (fsm P i n)
  | 0, i, hi, h => Or.inl ⟨rfl, fun p hp => h p (by omega)⟩
  | n + 1, i, hi, h => by
    by_cases hp : P i = true
    · rw [fsm_t n hp]
      exact Or.inr ⟨i, by omega, rfl, hp, h⟩
    · rw [fsm_f n hp]
      refine fsm_low P n (i + 1) (by omega) (fun k hk => ?_)
      by_cases e : k = i
      · rw [e]; exact hp
      · exact h k (by omega)
theorem low_step {S : Nat → Prop} {r x : Int32} (hv : vB x) (h : isLow S r) : isLow (fun p => S p ∨ inB x p) (if r = (-3) ∨ bCor x < r then bCor x else r) := by
  have hc := nCor_lt x
  rcases h with ⟨rfl, h1⟩ | ⟨q, hq, rfl, h1, h2⟩
  · rw [if_pos (Or.inl rfl), bCor_N]
    refine Or.inr ⟨nCor x, hc, rfl, Or.inr (nCor_in hv), fun p hp hs => ?_⟩
    rcases hs with hs | hs
    · exact h1 p (by omega) hs
    · have := nCor_le hs; omega
  · rw [bCor_N]
    have e := nI_ltI (a := nCor x) (b := q) (by omega) (by omega)
    by_cases c : nCor x < q
    · rw [if_pos (Or.inr (e.mpr c))]
      refine Or.inr ⟨nCor x, hc, rfl, Or.inr (nCor_in hv), fun p hp hs => ?_⟩
      rcases hs with hs | hs
      · exact h2 p (by omega) hs
      · have := nCor_le hs; omega
    · rw [if_neg (fun hh => hh.elim (nI_m3 hq) (fun hh => c (e.mp hh)))]
      refine Or.inr ⟨q, hq, rfl, Or.inl h1, fun p hp hs => ?_⟩
      rcases hs with hs | hs
      · exact h2 p hp hs
      · have := nCor_le hs; omega
theorem isLow_cong {S S' : Nat → Prop} {r : Int32} (h : isLow S r) (e : ∀ p, p < 512 → (S p ↔ S' p)) : isLow S' r := by
  rcases h with ⟨rfl, h1⟩ | ⟨q, hq, rfl, h1, h2⟩
  · exact Or.inl ⟨rfl, fun p hp hs => h1 p hp ((e p hp).mpr hs)⟩
  · exact Or.inr ⟨q, hq, rfl, (e q hq).mp h1, fun p hp hs => h2 p hp ((e p (by omega)).mpr hs)⟩
theorem lowA_k {S : Nat → Prop} {g : Int32} {L : List Int32} (hv : vL L) (hg : isLow S g) : ∀ k, k ≤ L.length → isLow (fun p => S p ∨ 0 < cn (L.take k) p) (lowA g L k)
  | 0, _ => by
    rw [lowA]
    exact isLow_cong hg (fun p _ => by rw [List.take_zero, cn]; simp)
  | k + 1, h => by
    rw [lowA]
    refine isLow_cong (low_step (hv _ (getD_mem (by omega))) (lowA_k hv hg k (by omega))) (fun p _ => ?_)
    rw [take_s (by omega), cn_app, cn, cn, or_assoc]
    by_cases hp : inB (L.getD k 0) p
    · rw [if_pos hp]
      constructor
      · intro _; exact Or.inr (by omega)
      · intro _; exact Or.inr (Or.inr hp)
    · rw [if_neg hp]
      constructor
      · rintro (h | h | h)
        · exact Or.inl h
        · exact Or.inr (by omega)
        · exact absurd h hp
      · rintro (h | h)
        · exact Or.inl h
        · exact Or.inr (Or.inl (by omega))
theorem low_L {S : Nat → Prop} {g : Int32} {L : List Int32} (hv : vL L) (hg : isLow S g) : isLow (fun p => S p ∨ 0 < cn L p) (lowA g L L.length) := by
  have := lowA_k hv hg _ (Nat.le_refl _)
  rw [List.take_length] at this
  exact this
theorem low_3 : isLow (fun _ => False) (-3) := Or.inl ⟨rfl, fun _ _ h => h⟩
end
section
/-! THE PLAIN LAW 3: rules; who owns a packet; the reference's answers packet by packet -/
def is1 (n : Nat) (P : Prop) : Prop := (P ∧ n = 1) ∨ (¬ P ∧ n = 0)
theorem is1_le {n : Nat} {P : Prop} (h : is1 n P) : n ≤ 1 := by rcases h with ⟨-, h⟩ | ⟨-, h⟩ <;> omega
theorem is1_pos {n : Nat} {P : Prop} (h : is1 n P) : 0 < n ↔ P := by
  rcases h with ⟨hp, h⟩ | ⟨hp, h⟩
  · exact ⟨fun _ => hp, fun _ => by omega⟩
  · exact ⟨fun h2 => by omega, fun h2 => absurd h2 hp⟩
theorem is1_zero {n : Nat} {P : Prop} (h : is1 n P) : n = 0 ↔ ¬ P := by
  rcases h with ⟨hp, h⟩ | ⟨hp, h⟩
  · exact ⟨fun h2 => by omega, fun h2 => absurd hp h2⟩
  · exact ⟨fun _ => hp, fun _ => h⟩
theorem is1_cong {n : Nat} {P Q : Prop} (h : is1 n P) (e : P ↔ Q) : is1 n Q := by
  rcases h with ⟨hp, h⟩ | ⟨hp, h⟩
  · exact Or.inl ⟨e.mp hp, h⟩
  · exact Or.inr ⟨fun q => hp (e.mpr q), h⟩
theorem is1_ite (P : Prop) [Decidable P] : is1 (if P then 1 else 0) P := by
  by_cases h : P
  · rw [if_pos h]; exact Or.inl ⟨h, rfl⟩
  · rw [if_neg h]; exact Or.inr ⟨h, rfl⟩
abbrev own (B : Nat → Int32) (i p : Nat) : Prop := inB (B i) p ∧ ∀ j, j < i → ¬ inB (B j) p
theorem own_one {B : Nat → Int32} {i j p : Nat} (h1 : own B i p) (h2 : own B j p) : i = j := by
  rcases Nat.lt_trichotomy i j with c | c | c
  · exact absurd h1.1 (h2.2 i c)
  · exact c
  · exact absurd h2.1 (h1.2 j c)
theorem own_ex {B : Nat → Int32} {N p : Nat} (h : ∃ k, k < N ∧ inB (B k) p) : ∃ i, i < N ∧ own B i p := by
  obtain ⟨k, hk, hp⟩ := h
  obtain ⟨i, h1, h2⟩ := pk_least (fun k => inB (B k) p) ⟨k, hp⟩
  have hi : i ≤ k := Nat.le_of_not_lt fun c => h2 k c hp
  exact ⟨i, by omega, h1, h2⟩
section RL3
variable {B K : Nat → Int32} {N : Nat}
theorem ownJ_v (hv : ∀ i, i < N → vB (B i)) {i : Nat} (hi : i < N) : ∀ j, j ≤ i → vL (ownJ B i j)
  | 0, _ => by
    intro x hx
    rw [ownJ, List.mem_singleton] at hx
    exact hx ▸ hv i hi
  | j + 1, h => by
    rw [ownJ]
    exact subL_v (hv j (by omega)) (ownJ_v hv hi j (by omega))
theorem ownJ_is (hv : ∀ i, i < N → vB (B i)) {i : Nat} (hi : i < N) (p : Nat) : ∀ j, j ≤ i → is1 (cn (ownJ B i j) p) (inB (B i) p ∧ ∀ k, k < j → ¬ inB (B k) p)
  | 0, _ => by
    rw [ownJ, cn, cn, Nat.add_zero]
    exact is1_cong (is1_ite _) ⟨fun h => ⟨h, fun k hk => absurd hk (Nat.not_lt_zero k)⟩, fun h => h.1⟩
  | j + 1, h => by
    rw [ownJ, subL_cn (hv j (by omega)) p (ownJ_v hv hi j (by omega))]
    have ih := ownJ_is hv hi p j (by omega)
    by_cases hc : inB (B j) p
    · rw [if_pos hc]
      exact Or.inr ⟨fun q => q.2 j (by omega) hc, rfl⟩
    · rw [if_neg hc]
      refine is1_cong ih ⟨fun q => ⟨q.1, fun k hk => ?_⟩, fun q => ⟨q.1, fun k hk => q.2 k (by omega)⟩⟩
      by_cases e : k = j
      · rw [e]; exact hc
      · exact q.2 k (by omega)
theorem ownL_v (hv : ∀ i, i < N → vB (B i)) {i : Nat} (hi : i < N) : vL (ownL B i) := ownJ_v hv hi i (Nat.le_refl _)
theorem ownL_is (hv : ∀ i, i < N → vB (B i)) {i : Nat} (hi : i < N) (p : Nat) : is1 (cn (ownL B i) p) (own B i p) := ownJ_is hv hi p i (Nat.le_refl _)
theorem ownJ_len (hv : ∀ i, i < N → vB (B i)) {i : Nat} (hi : i < N) (j : Nat) (hj : j ≤ i) : (ownJ B i j).length ≤ 512 := len512 (ownJ_v hv hi j hj) (fun p _ => is1_le (ownJ_is hv hi p j hj))
theorem gatL_v (hv : ∀ i, i < N → vB (B i)) : ∀ n, n ≤ N → vL (gatL B K n)
  | 0, _ => fun x hx => by cases hx
  | n + 1, h => by
    intro x hx
    rw [gatL, List.mem_append] at hx
    rcases hx with hx | hx
    · exact gatL_v hv n (by omega) x hx
    · by_cases c : K n = 0
      · rw [if_pos c] at hx; cases hx
      · rw [if_neg c] at hx; exact ownL_v hv (by omega) x hx
theorem gatL_is (hv : ∀ i, i < N → vB (B i)) (p : Nat) : ∀ n, n ≤ N → is1 (cn (gatL B K n) p) (∃ i, i < n ∧ ¬ K i = 0 ∧ own B i p)
  | 0, _ => Or.inr ⟨fun ⟨i, h, _⟩ => absurd h (Nat.not_lt_zero i), rfl⟩
  | n + 1, h => by
    have ih := gatL_is hv p n (by omega)
    have ho := ownL_is hv (i := n) (by omega) p
    rw [gatL, cn_app]
    by_cases c : K n = 0
    · rw [if_pos c, cn, Nat.add_zero]
      refine is1_cong ih ⟨fun ⟨i, h1, h2⟩ => ⟨i, by omega, h2⟩, fun ⟨i, h1, h2, h3⟩ => ⟨i, ?_, h2, h3⟩⟩
      by_cases e : i = n
      · exact absurd (e ▸ c) h2
      · omega
    · rw [if_neg c]
      rcases ho with ⟨h1, h2⟩ | ⟨h1, h2⟩
      · have hz : cn (gatL B K n) p = 0 := (is1_zero ih).mpr fun ⟨i, h3, h4, h5⟩ => absurd (own_one h5 h1) (by omega)
        exact Or.inl ⟨⟨n, by omega, c, h1⟩, by omega⟩
      · rw [h2, Nat.add_zero]
        refine is1_cong ih ⟨fun ⟨i, h3, h4⟩ => ⟨i, by omega, h4⟩, fun ⟨i, h3, h4, h5⟩ => ⟨i, ?_, h4, h5⟩⟩
        by_cases e : i = n
        · exact absurd (e ▸ h5) h1
        · omega
theorem gatL_len (hv : ∀ i, i < N → vB (B i)) : (gatL B K N).length ≤ 512 := len512 (gatL_v hv N (Nat.le_refl _)) (fun p _ => is1_le (gatL_is hv p N (Nat.le_refl _)))
theorem repJ_v (hv : ∀ i, i < N → vB (B i)) {L : List Int32} (hL : vL L) {i : Nat} : ∀ k, i + 1 + k ≤ N → vL (repJ B L i k)
  | 0, _ => hL
  | k + 1, h => by
    rw [repJ]
    exact subL_v (hv _ (by omega)) (repJ_v (i := i) hv hL k (by omega))
theorem repJ_cn (hv : ∀ i, i < N → vB (B i)) {L : List Int32} (hL : vL L) {i : Nat} (p : Nat) : ∀ k, i + 1 + k ≤ N → ((∃ t, t < k ∧ inB (B (i + 1 + t)) p) ∧ cn (repJ B L i k) p = 0) ∨ ((∀ t, t < k → ¬ inB (B (i + 1 + t)) p) ∧ cn (repJ B L i k) p = cn L p)
  | 0, _ => Or.inr ⟨fun t h => absurd h (Nat.not_lt_zero t), rfl⟩
  | k + 1, h => by
    have ih := repJ_cn (i := i) hv hL p k (by omega)
    rw [repJ, subL_cn (hv _ (by omega)) p (repJ_v hv hL k (by omega))]
    by_cases hc : inB (B (i + 1 + k)) p
    · rw [if_pos hc]
      exact Or.inl ⟨⟨k, by omega, hc⟩, rfl⟩
    · rw [if_neg hc]
      rcases ih with ⟨⟨t, h1, h2⟩, h3⟩ | ⟨h1, h2⟩
      · exact Or.inl ⟨⟨t, by omega, h2⟩, h3⟩
      · refine Or.inr ⟨fun t ht => ?_, h2⟩
        by_cases e : t = k
        · rw [e]; exact hc
        · exact h1 t (by omega)
theorem difJ_v {L M : List Int32} (hL : vL L) (hM : vL M) : ∀ k, k ≤ M.length → vL (difJ L M k)
  | 0, _ => hL
  | k + 1, h => by
    rw [difJ]
    exact subL_v (hM _ (getD_mem (by omega))) (difJ_v hL hM k (by omega))
theorem difJ_cn {L M : List Int32} (hL : vL L) (hM : vL M) (p : Nat) : ∀ k, k ≤ M.length → cn (difJ L M k) p = if cn (M.take k) p = 0 then cn L p else 0
  | 0, _ => by rw [difJ, List.take_zero, cn, if_pos rfl]
  | k + 1, h => by
    rw [difJ, subL_cn (hM _ (getD_mem (by omega))) p (difJ_v hL hM k (by omega)), difJ_cn hL hM p k (by omega), take_s (by omega), cn_app, cn, cn]
    by_cases hc : inB (M.getD k 0) p
    · rw [if_pos hc, if_pos hc, if_neg (by omega)]
    · rw [if_neg hc, if_neg hc]
      rfl
theorem difL_v {L M : List Int32} (hL : vL L) (hM : vL M) : vL (difL L M) := difJ_v hL hM _ (Nat.le_refl _)
theorem difL_cn {L M : List Int32} (hL : vL L) (hM : vL M) (p : Nat) : cn (difL L M) p = if cn M p = 0 then cn L p else 0 := by
  rw [difL, difJ_cn hL hM p _ (Nat.le_refl _), List.take_length]
theorem difJ_len {L M : List Int32} (hL : vL L) (hM : vL M) (h : ∀ p, p < 512 → cn L p ≤ 1) (k : Nat) (hk : k ≤ M.length) : (difJ L M k).length ≤ 512 := by
  refine len512 (difJ_v hL hM k hk) (fun p hp => ?_)
  rw [difJ_cn hL hM p k hk]
  have := h p hp
  split <;> omega
end RL3
/-! the reference -/
/-- a box and a rule's row of the reference say the same -/
def rB (x f t d g h : Int32) : Prop := vB x ∧ bFs x = f ∧ bTs x = t ∧ bFd x = d ∧ bTd x = g ∧ ((h = 2 ∧ bFp x = 0 ∧ bTp x = 1) ∨ (h = 0 ∧ bFp x = 0 ∧ bTp x = 0) ∨ (h = 1 ∧ bFp x = 1 ∧ bTp x = 1))
theorem k_div32 {p : Nat} (hp : p < 512) : nI p >>> ((5 : Int32) &&& 31) = nI (p / 32) := pk_shrN (by omega) ((5 : Int32) &&& 31) 5 (by decide)
theorem k_div2 {p : Nat} (hp : p < 512) : (nI p >>> ((1 : Int32) &&& 31)) &&& 15 = nI (p / 2 % 16) := by
  rw [pk_shrN (by omega) ((1 : Int32) &&& 31) 1 (by decide)]
  exact pk_andN (by omega) 4 (by decide)
theorem k_mod2 {p : Nat} (hp : p < 512) : nI p &&& 1 = nI (p % 2) := pk_andN (by omega) 1 (by decide)
theorem mMt_iff {fs ts fd td wh : Nat → Int32} {i : Nat} {x : Int32} (h : rB x (fs i) (ts i) (fd i) (td i) (wh i)) {p : Nat} (hp : p < 512) : mMt fs ts fd td wh i (nI p) ↔ inB x p := by
  have hx := n_small x
  obtain ⟨-, h1, h2, h3, h4, h5⟩ := h
  unfold mMt
  rw [k_div32 hp, k_div2 hp, k_mod2 hp, ← h1, ← h2, ← h3, ← h4, leN (nFs_e x).1 rfl (by omega) (by omega), leN rfl (nTs_e x).1 (by omega) (by omega), leN (nFd_e x).1 rfl (by omega) (by omega), leN rfl (nTd_e x).1 (by omega) (by omega)]
  unfold inB
  have e0 : (0 : Int32) = nI 0 := rfl
  have e1 : (1 : Int32) = nI 1 := rfl
  have e2 : (2 : Int32) = nI 2 := rfl
  rw [(nFp_e x).1, (nTp_e x).1, e0, e1, e2, nI_eq (by omega) (by omega), nI_eq (by omega) (by omega), nI_eq (by omega) (by omega), nI_eq (by omega) (by omega)] at h5
  rcases h5 with ⟨e, a, b⟩ | ⟨e, a, b⟩ | ⟨e, a, b⟩
  · rw [e, e2, nI_eq (by omega) (by omega), nI_eq (by omega) (by omega)]
    omega
  · rw [e, e2, nI_eq (by omega) (by omega), nI_eq (by omega) (by omega)]
    omega
  · rw [e, e2, nI_eq (by omega) (by omega), nI_eq (by omega) (by omega)]
    omega
theorem fsm_char (P : Nat → Bool) : ∀ n i, (∃ j, i ≤ j ∧ j < i + n ∧ fsm P i n = nI j ∧ P j = true ∧ ∀ k, i ≤ k → k < j → ¬ P k = true) ∨ (fsm P i n = (-3) ∧ ∀ k, i ≤ k → k < i + n → ¬ P k = true)
  | 0, i => Or.inr ⟨rfl, fun k h1 h2 => by omega⟩
  | n + 1, i => by
    by_cases hp : P i = true
    · exact Or.inl ⟨i, Nat.le_refl _, by omega, fsm_t n hp, hp, fun k h1 h2 => by omega⟩
    · rw [fsm_f n hp]
      rcases fsm_char P n (i + 1) with ⟨j, h1, h2, h3, h4, h5⟩ | ⟨h1, h2⟩
      · refine Or.inl ⟨j, by omega, by omega, h3, h4, fun k h6 h7 => ?_⟩
        by_cases e : k = i
        · rw [e]; exact hp
        · exact h5 k (by omega) h7
      · refine Or.inr ⟨h1, fun k h6 h7 => ?_⟩
        by_cases e : k = i
        · rw [e]; exact hp
        · exact h2 k (by omega) (by omega)
theorem nI_m1 {k : Nat} (h : k < 512) : ¬ nI k = (-1) := by
  intro e
  have h1 := nI_toInt (n := k) (by omega)
  rw [e] at h1
  have h2 : (-1 : Int32).toInt = -1 := by decide
  omega
section RL4
variable {B : Nat → Int32} {N : Nat} {fs ts fd td wh ak : Nat → Int32}
theorem mF_char (hN : N ≤ 10) (hr : ∀ i, i < N → rB (B i) (fs i) (ts i) (fd i) (td i) (wh i)) {p : Nat} (hp : p < 512) (o : Int32) : (∃ j, j < N ∧ mF fs ts fd td wh N (nI p) o = nI j ∧ ¬ nI j = o ∧ inB (B j) p ∧ ∀ k, k < j → ¬ nI k = o → ¬ inB (B k) p) ∨ (mF fs ts fd td wh N (nI p) o = (-3) ∧ ∀ k, k < N → ¬ nI k = o → ¬ inB (B k) p) := by
  have e : ∀ k, k < N → ((!decide (nI k = o) && decide (mMt fs ts fd td wh k (nI p))) = true ↔ ¬ nI k = o ∧ inB (B k) p) := by
    intro k hk
    rw [Bool.and_eq_true, Bool.not_eq_true', decide_eq_false_iff_not, decide_eq_true_iff, mMt_iff (hr k hk) hp]
  rcases fsm_char (fun j => !decide (nI j = o) && decide (mMt fs ts fd td wh j (nI p))) N 0 with ⟨j, h1, h2, h3, h4, h5⟩ | ⟨h1, h2⟩
  · have hj : j < N := by omega
    have h6 := (e j hj).mp h4
    exact Or.inl ⟨j, hj, h3, h6.1, h6.2, fun k hk ho hi => h5 k (Nat.zero_le _) hk ((e k (by omega)).mpr ⟨ho, hi⟩)⟩
  · exact Or.inr ⟨h1, fun k hk ho hi => h2 k (Nat.zero_le _) (by omega) ((e k hk).mpr ⟨ho, hi⟩)⟩
theorem mF_own (hN : N ≤ 10) (hr : ∀ i, i < N → rB (B i) (fs i) (ts i) (fd i) (td i) (wh i)) {p : Nat} (hp : p < 512) : (∃ j, j < N ∧ mF fs ts fd td wh N (nI p) (-1) = nI j ∧ own B j p) ∨ (mF fs ts fd td wh N (nI p) (-1) = (-3) ∧ ∀ k, k < N → ¬ inB (B k) p) := by
  rcases mF_char hN hr hp (-1) with ⟨j, h1, h2, -, h3, h4⟩ | ⟨h1, h2⟩
  · exact Or.inl ⟨j, h1, h2, h3, fun k hk => h4 k hk (nI_m1 (by omega))⟩
  · exact Or.inr ⟨h1, fun k hk => h2 k hk (nI_m1 (by omega))⟩
theorem mOwn_iff (hN : N ≤ 10) (hr : ∀ i, i < N → rB (B i) (fs i) (ts i) (fd i) (td i) (wh i)) {p i : Nat} (hp : p < 512) (hi : i < N) : mOwn fs ts fd td wh N (nI i) p = true ↔ own B i p := by
  unfold mOwn
  rw [decide_eq_true_iff]
  rcases mF_own hN hr hp with ⟨j, h1, h2, h3⟩ | ⟨h1, h2⟩
  · rw [h2, nI_eq (by omega) (by omega)]
    exact ⟨fun e => e ▸ h3, fun h => own_one h3 h⟩
  · rw [h1]
    exact ⟨fun e => absurd e.symm (nI_m3 (by omega)), fun h => absurd h.1 (h2 i hi)⟩
theorem mD_val {j : Nat} {k o : Int32} (hj : j < 10) (h : mF fs ts fd td wh N k o = nI j) : mD fs ts fd td wh ak N k o = ak j := by
  unfold mD
  rw [h, if_neg (nI_m3 (by omega)), ix_nI hj]
theorem mD_none {k o : Int32} (h : mF fs ts fd td wh N k o = (-3)) : mD fs ts fd td wh ak N k o = 0 := by
  unfold mD
  rw [if_pos h]
theorem mD_own (hN : N ≤ 10) (hr : ∀ i, i < N → rB (B i) (fs i) (ts i) (fd i) (td i) (wh i)) {p : Nat} (hp : p < 512) : (∃ j, j < N ∧ own B j p ∧ mD fs ts fd td wh ak N (nI p) (-1) = ak j) ∨ ((∀ k, k < N → ¬ inB (B k) p) ∧ mD fs ts fd td wh ak N (nI p) (-1) = 0) := by
  rcases mF_own hN hr hp with ⟨j, h1, h2, h3⟩ | ⟨h1, h2⟩
  · exact Or.inl ⟨j, h1, h3, mD_val (by omega) h2⟩
  · exact Or.inr ⟨h2, mD_none h1⟩
theorem mD_gat {K : Nat → Int32} (hN : N ≤ 10) (hr : ∀ i, i < N → rB (B i) (fs i) (ts i) (fd i) (td i) (wh i)) (hk : ∀ i, i < N → K i = ak i ∧ (K i = 0 ∨ K i = 1)) {p : Nat} (hp : p < 512) : mD fs ts fd td wh ak N (nI p) (-1) = nI (cn (gatL B K N) p) := by
  have hg := gatL_is (K := K) (fun i hi => (hr i hi).1) p N (Nat.le_refl _)
  rcases mD_own (ak := ak) hN hr hp with ⟨j, h1, h2, h3⟩ | ⟨h1, h2⟩
  · rw [h3, ← (hk j h1).1]
    rcases (hk j h1).2 with e | e
    · rw [e, (is1_zero hg).mpr (fun ⟨i, h4, h5, h6⟩ => h5 (own_one h2 h6 ▸ e))]
      rfl
    · rcases hg with ⟨-, h7⟩ | ⟨h7, -⟩
      · rw [h7, e]; rfl
      · exact absurd ⟨j, h1, by rw [e]; decide, h2⟩ h7
  · rw [h2, (is1_zero hg).mpr (fun ⟨i, h4, h5, h6⟩ => h1 i h4 h6.1)]
    rfl
end RL4
end
section
/-! THE PLAIN LAW 4: the class and the reference answer alike -/
def Rel (f0 : Int32) (N : Nat) (B K vv : Nat → Int32) (V : List Int32) (fs ts fd td wh ak sv : Nat → Int32) : Prop :=
  N ≤ 10 ∧ rB f0 (fs 10) (ts 10) (fd 10) (td 10) (wh 10) ∧ (∀ i, i < N → rB (B i) (fs i) (ts i) (fd i) (td i) (wh i)) ∧ (∀ i, i < N → K i = ak i ∧ (K i = 0 ∨ K i = 1)) ∧ hL vv V ∧ vL V ∧ ∀ p, p < 512 → sv p = nI (cn V p) ∧ cn V p ≤ 1
theorem ctb_sN (P : Nat → Bool) : ∀ n, ctb P n = sN (fun p => if P p = true then 1 else 0) n
  | 0 => rfl
  | n + 1 => by rw [ctb, sN, ctb_sN P n]
theorem anb_cong {P Q : Nat → Bool} {n : Nat} (h : ∀ k, k < n → P k = Q k) : anb P 0 n = anb Q 0 n := by
  rw [Bool.eq_iff_iff, anb_0, anb_0]
  exact ⟨fun ⟨k, h1, h2⟩ => ⟨k, h1, by rw [← h k h1]; exact h2⟩, fun ⟨k, h1, h2⟩ => ⟨k, h1, by rw [h k h1]; exact h2⟩⟩
theorem fsm_cong {P Q : Nat → Bool} : ∀ n i, (∀ k, i ≤ k → k < i + n → P k = Q k) → fsm P i n = fsm Q i n
  | 0, _, _ => rfl
  | n + 1, i, h => by rw [fsm, fsm, h i (Nat.le_refl _) (by omega), fsm_cong n (i + 1) (fun k h1 h2 => h k (by omega) (by omega))]
theorem is1_if {n : Nat} {P : Prop} {b : Bool} (h : is1 n P) (e : b = true ↔ P) : n = if b = true then 1 else 0 := by
  rcases h with ⟨hp, h⟩ | ⟨hp, h⟩
  · rw [if_pos (e.mpr hp), h]
  · rw [if_neg (fun q => hp (e.mp q)), h]
section OP
variable {f0 : Int32} {N : Nat} {B K vv : Nat → Int32} {V : List Int32} {fs ts fd td wh ak sv : Nat → Int32}
theorem Rel.vB (h : Rel f0 N B K vv V fs ts fd td wh ak sv) : ∀ i, i < N → vB (B i) := fun i hi => (h.2.2.1 i hi).1
theorem Rel.b1 (h : Rel f0 N B K vv V fs ts fd td wh ak sv) : ∀ i, i < N → ∀ j, j ≤ i → (ownJ B i j).length ≤ 512 := fun _ hi j hj => ownJ_len h.vB hi j hj
theorem Rel.b2 (h : Rel f0 N B K vv V fs ts fd td wh ak sv) : (gatL B K N).length ≤ 512 := gatL_len h.vB
theorem Rel.b3 (h : Rel f0 N B K vv V fs ts fd td wh ak sv) : ∀ i, i < N → ∀ k, i + 1 + k ≤ N → (repJ B (ownL B i) i k).length ≤ 512 := by
  intro i hi k hk
  refine len512 (repJ_v h.vB (ownL_v h.vB hi) k hk) (fun p _ => ?_)
  have h1 := is1_le (ownL_is h.vB hi p)
  rcases repJ_cn h.vB (ownL_v h.vB hi) p k hk with ⟨-, h2⟩ | ⟨-, h2⟩ <;> omega
theorem Rel.gle (h : Rel f0 N B K vv V fs ts fd td wh ak sv) : ∀ p, p < 512 → cn (gatL B K N) p ≤ 1 := fun p _ => is1_le (gatL_is h.vB p N (Nat.le_refl _))
theorem Rel.gv (h : Rel f0 N B K vv V fs ts fd td wh ak sv) : vL (gatL B K N) := gatL_v h.vB N (Nat.le_refl _)
theorem Rel.vlen (h : Rel f0 N B K vv V fs ts fd td wh ak sv) : V.length ≤ 512 := len512 h.2.2.2.2.2.1 (fun p hp => (h.2.2.2.2.2.2 p hp).2)
theorem Rel.d1 (h : Rel f0 N B K vv V fs ts fd td wh ak sv) : ∀ j, j ≤ V.length → (difJ (gatL B K N) V j).length ≤ 512 := fun j hj => difJ_len h.gv h.2.2.2.2.2.1 h.gle j hj
theorem Rel.d2 (h : Rel f0 N B K vv V fs ts fd td wh ak sv) : ∀ j, j ≤ (gatL B K N).length → (difJ V (gatL B K N) j).length ≤ 512 := fun j hj => difJ_len h.2.2.2.2.2.1 h.gv (fun p hp => (h.2.2.2.2.2.2 p hp).2) j hj
theorem Rel.mD (h : Rel f0 N B K vv V fs ts fd td wh ak sv) {p : Nat} (hp : p < 512) : mD fs ts fd td wh ak N (nI p) (-1) = nI (cn (gatL B K N) p) := mD_gat h.1 h.2.2.1 h.2.2.2.1 hp
theorem own_cnt (h : Rel f0 N B K vv V fs ts fd td wh ak sv) {i : Nat} (hi : i < N) : sN (cn (ownL B i)) 512 = ctb (mOwn fs ts fd td wh N (nI i)) 512 := by
  rw [ctb_sN]
  exact sN_cong (fun p hp => is1_if (ownL_is h.vB hi p) (mOwn_iff h.1 h.2.2.1 hp hi))
theorem op_owned (h : Rel f0 N B K vv V fs ts fd td wh ak sv) {i : Nat} (hi : i < N) : volA (ownL B i) (ownL B i).length = nI (ctb (mOwn fs ts fd td wh N (nI i)) 512) := by
  rw [vol_L (ownL_v h.vB hi), own_cnt h hi]
theorem op_firstOwned (h : Rel f0 N B K vv V fs ts fd td wh ak sv) {i : Nat} (hi : i < N) : lowA (-3) (ownL B i) (ownL B i).length = fsm (mOwn fs ts fd td wh N (nI i)) 0 512 := by
  refine isLow_one (low_L (ownL_v h.vB hi) low_3) (fsm_low (mOwn fs ts fd td wh N (nI i)) 512 0 rfl (fun k hk => absurd hk (Nat.not_lt_zero k))) (fun p hp => ?_)
  rw [false_or, is1_pos (ownL_is h.vB hi p), mOwn_iff h.1 h.2.2.1 hp hi]
theorem op_save (h : Rel f0 N B K vv V fs ts fd td wh ak sv) : volA (gatL B K N) (gatL B K N).length = smA (fun p => mD fs ts fd td wh ak N (nI p) (-1)) 512 := by
  rw [vol_L h.gv]
  have e : ∀ n, n ≤ 512 → smA (fun p => mD fs ts fd td wh ak N (nI p) (-1)) n = nI (sN (cn (gatL B K N)) n) := by
    intro n
    induction n with
    | zero => intro _; rfl
    | succ n ih =>
      intro hn
      rw [smA, sN, ih (by omega), h.mD (by omega), nI_add]
  exact (e 512 (Nat.le_refl _)).symm
theorem mCh_iff (h : Rel f0 N B K vv V fs ts fd td wh ak sv) {p : Nat} (hp : p < 512) : mCh fs ts fd td wh ak sv N p = true ↔ ¬ cn (gatL B K N) p = cn V p := by
  have h1 := h.gle p hp
  have h2 := h.2.2.2.2.2.2 p hp
  unfold mCh
  rw [Bool.not_eq_true', decide_eq_false_iff_not, h.mD hp, h2.1, nI_eq (by omega) (by omega)]
theorem dif_cn (h : Rel f0 N B K vv V fs ts fd td wh ak sv) {p : Nat} (hp : p < 512) : is1 (cn (difL (gatL B K N) V) p + cn (difL V (gatL B K N)) p) (¬ cn (gatL B K N) p = cn V p) := by
  have h1 := h.gle p hp
  have h2 := (h.2.2.2.2.2.2 p hp).2
  rw [difL_cn h.gv h.2.2.2.2.2.1, difL_cn h.2.2.2.2.2.1 h.gv]
  by_cases e : cn (gatL B K N) p = cn V p
  · refine Or.inr ⟨fun q => q e, ?_⟩
    rw [e]
    split <;> omega
  · refine Or.inl ⟨e, ?_⟩
    split <;> split <;> omega
theorem op_changed (h : Rel f0 N B K vv V fs ts fd td wh ak sv) : volA (difL (gatL B K N) V) (difL (gatL B K N) V).length + volA (difL V (gatL B K N)) (difL V (gatL B K N)).length = nI (ctb (mCh fs ts fd td wh ak sv N) 512) := by
  rw [vol_L (difL_v h.gv h.2.2.2.2.2.1), vol_L (difL_v h.2.2.2.2.2.1 h.gv), nI_add, ← sN_add, ctb_sN]
  exact congrArg nI (sN_cong (fun p hp => is1_if (dif_cn h hp) (mCh_iff h hp)))
theorem op_firstChanged (h : Rel f0 N B K vv V fs ts fd td wh ak sv) : lowA (lowA (-3) (difL (gatL B K N) V) (difL (gatL B K N) V).length) (difL V (gatL B K N)) (difL V (gatL B K N)).length = fsm (mCh fs ts fd td wh ak sv N) 0 512 := by
  refine isLow_one (low_L (difL_v h.2.2.2.2.2.1 h.gv) (low_L (difL_v h.gv h.2.2.2.2.2.1) low_3)) (fsm_low (mCh fs ts fd td wh ak sv N) 512 0 rfl (fun k hk => absurd hk (Nat.not_lt_zero k))) (fun p hp => ?_)
  rw [mCh_iff h hp, ← is1_pos (dif_cn h hp)]
  show (False ∨ 0 < cn (difL (gatL B K N) V) p) ∨ 0 < cn (difL V (gatL B K N)) p ↔ _
  rw [false_or]
  omega
/-! fault -/
theorem op_empty (h : Rel f0 N B K vv V fs ts fd td wh ak sv) {i : Nat} (hi : i < N) : decide (ownL B i = []) = decide (nI (ctb (mOwn fs ts fd td wh N (nI i)) 512) = 0) := by
  have hle := ctb_le (mOwn fs ts fd td wh N (nI i)) 512
  refine decide_eq_decide.mpr ?_
  rw [nil_iff (ownL_v h.vB hi), ← nI_0, nI_eq (by omega) (by omega), ← own_cnt h hi]
  constructor
  · intro q
    have := sN_le (f := cn (ownL B i)) (c := 0) (n := 512) (fun k hk => Nat.le_of_eq (q k hk))
    omega
  · exact fun q p hp => sN_zero q p hp
theorem op_ovr (h : Rel f0 N B K vv V fs ts fd td wh ak sv) {i : Nat} (hi : i < N) : ovrB B K i = anb (mCon fs ts fd td wh ak N i) 0 512 := by
  unfold ovrB
  rw [Bool.eq_iff_iff, anb_0, anb_0]
  constructor
  · rintro ⟨j, hj, hh⟩
    rw [Bool.and_eq_true, Bool.not_eq_true', decide_eq_false_iff_not, hits_iff (ownL_v h.vB (by omega)) (h.vB i hi)] at hh
    obtain ⟨hk, p, hp, h1, h2⟩ := hh
    have h1 := (is1_pos (ownL_is h.vB (by omega) p)).mp h1
    refine ⟨p, hp, ?_⟩
    unfold mCon
    rw [Bool.and_eq_true, Bool.not_eq_true', decide_eq_false_iff_not, decide_eq_true_iff, mMt_iff (h.2.2.1 i hi) hp]
    refine ⟨h2, ?_⟩
    rcases mD_own (ak := ak) h.1 h.2.2.1 hp with ⟨t, h3, h4, h5⟩ | ⟨h3, -⟩
    · rw [h5, own_one h4 h1, ← (h.2.2.2.1 j (by omega)).1, ← (h.2.2.2.1 i hi).1]
      exact hk
    · exact absurd h1.1 (h3 j (by omega))
  · rintro ⟨p, hp, hh⟩
    unfold mCon at hh
    rw [Bool.and_eq_true, Bool.not_eq_true', decide_eq_false_iff_not, decide_eq_true_iff, mMt_iff (h.2.2.1 i hi) hp] at hh
    obtain ⟨h1, h2⟩ := hh
    rcases mD_own (ak := ak) h.1 h.2.2.1 hp with ⟨t, h3, h4, h5⟩ | ⟨h3, -⟩
    · rw [h5, ← (h.2.2.2.1 t h3).1, ← (h.2.2.2.1 i hi).1] at h2
      have hti : t < i := by
        rcases Nat.lt_trichotomy t i with c | c | c
        · exact c
        · exact absurd (by rw [c]) h2
        · exact absurd h1 (h4.2 i c)
      refine ⟨t, hti, ?_⟩
      rw [Bool.and_eq_true, Bool.not_eq_true', decide_eq_false_iff_not, hits_iff (ownL_v h.vB h3) (h.vB i hi)]
      exact ⟨h2, p, hp, (is1_pos (ownL_is h.vB h3 p)).mpr h4, h1⟩
    · exact absurd h1 (h3 i hi)
/-- what decides a packet of rule i's own when rule i is left out -/
theorem mD_wo (h : Rel f0 N B K vv V fs ts fd td wh ak sv) {i p : Nat} (hi : i < N) (hp : p < 512) (ho : own B i p) : (∃ m, i + 1 + m < N ∧ inB (B (i + 1 + m)) p ∧ (∀ t, t < m → ¬ inB (B (i + 1 + t)) p) ∧ mD fs ts fd td wh ak N (nI p) (nI i) = K (i + 1 + m)) ∨ ((∀ t, i + 1 + t < N → ¬ inB (B (i + 1 + t)) p) ∧ mD fs ts fd td wh ak N (nI p) (nI i) = 0) := by
  have hN := h.1
  rcases mF_char hN h.2.2.1 hp (nI i) with ⟨j, h1, h2, h3, h4, h5⟩ | ⟨h1, h2⟩
  · have hji : i < j := by
      rcases Nat.lt_trichotomy j i with c | c | c
      · exact absurd h4 (ho.2 j c)
      · exact absurd (by rw [c]) h3
      · exact c
    obtain ⟨m, rfl⟩ : ∃ m, j = i + 1 + m := ⟨j - (i + 1), by omega⟩
    refine Or.inl ⟨m, h1, h4, fun t ht => h5 (i + 1 + t) (by omega) (fun e => ?_), ?_⟩
    · have := (nI_eq (a := i + 1 + t) (b := i) (by omega) (by omega)).mp e
      omega
    · rw [mD_val (by omega) h2, (h.2.2.2.1 _ h1).1]
  · refine Or.inr ⟨fun t ht => h2 (i + 1 + t) ht (fun e => ?_), mD_none h1⟩
    have := (nI_eq (a := i + 1 + t) (b := i) (by omega) (by omega)).mp e
    omega
theorem mD_same (h : Rel f0 N B K vv V fs ts fd td wh ak sv) {i p : Nat} (hi : i < N) (hp : p < 512) (ho : ¬ own B i p) : mD fs ts fd td wh ak N (nI p) (-1) = mD fs ts fd td wh ak N (nI p) (nI i) := by
  have hN := h.1
  rcases mF_own hN h.2.2.1 hp with ⟨j, h1, h2, h3⟩ | ⟨h1, h2⟩
  · have hji : j ≠ i := fun e => ho (e ▸ h3)
    rcases mF_char hN h.2.2.1 hp (nI i) with ⟨t, h4, h5, h6, h7, h8⟩ | ⟨h4, h5⟩
    · have e : t = j := by
        rcases Nat.lt_trichotomy t j with c | c | c
        · exact absurd h7 (h3.2 t c)
        · exact c
        · exact absurd h3.1 (h8 j c (fun e => hji ((nI_eq (by omega) (by omega)).mp e)))
      rw [mD_val (ak := ak) (by omega) h2, mD_val (ak := ak) (by omega) h5, e]
    · exact absurd h3.1 (h5 j h1 (fun e => hji ((nI_eq (by omega) (by omega)).mp e)))
  · rcases mF_char hN h.2.2.1 hp (nI i) with ⟨t, h4, h5, h6, h7, h8⟩ | ⟨h4, h5⟩
    · exact absurd h7 (h2 t h4)
    · rw [mD_none h1, mD_none h4]
theorem mD_mine (h : Rel f0 N B K vv V fs ts fd td wh ak sv) {i p : Nat} (hi : i < N) (hp : p < 512) (ho : own B i p) : mD fs ts fd td wh ak N (nI p) (-1) = K i := by
  rcases mD_own (ak := ak) h.1 h.2.2.1 hp with ⟨t, h3, h4, h5⟩ | ⟨h3, -⟩
  · rw [h5, own_one h4 ho, (h.2.2.2.1 i hi).1]
  · exact absurd ho.1 (h3 i hi)
theorem rep_pos (h : Rel f0 N B K vv V fs ts fd td wh ak sv) {i p m : Nat} (hi : i < N) (hm : i + 1 + m ≤ N) : 0 < cn (repJ B (ownL B i) i m) p ↔ own B i p ∧ ∀ t, t < m → ¬ inB (B (i + 1 + t)) p := by
  have h1 := is1_pos (ownL_is h.vB hi p)
  rcases repJ_cn h.vB (ownL_v h.vB hi) p m hm with ⟨⟨t, h2, h3⟩, h4⟩ | ⟨h2, h3⟩
  · rw [h4]
    exact ⟨fun q => by omega, fun q => absurd h3 (q.2 t h2)⟩
  · rw [h3, h1]
    exact ⟨fun q => ⟨q, h2⟩, fun q => q.1⟩
theorem op_rep (h : Rel f0 N B K vv V fs ts fd td wh ak sv) {i : Nat} (hi : i < N) : repB B K (ownL B i) i N = !anb (mMis fs ts fd td wh ak N i) 0 512 := by
  have hN := h.1
  have hvr := fun m hm => repJ_v h.vB (ownL_v h.vB hi) (i := i) m hm
  have em : anb (mMis fs ts fd td wh ak N i) 0 512 = true ↔ ∃ p, p < 512 ∧ own B i p ∧ ¬ K i = mD fs ts fd td wh ak N (nI p) (nI i) := by
    rw [anb_0]
    constructor
    · rintro ⟨p, hp, hh⟩
      unfold mMis at hh
      rw [Bool.not_eq_true', decide_eq_false_iff_not] at hh
      by_cases ho : own B i p
      · exact ⟨p, hp, ho, by rw [← mD_mine h hi hp ho]; exact hh⟩
      · exact absurd (mD_same h hi hp ho) hh
    · rintro ⟨p, hp, ho, hh⟩
      refine ⟨p, hp, ?_⟩
      unfold mMis
      rw [Bool.not_eq_true', decide_eq_false_iff_not, mD_mine h hi hp ho]
      exact hh
  have eb : badB B K (ownL B i) i N = true ↔ ∃ p, p < 512 ∧ own B i p ∧ ∃ m, i + 1 + m < N ∧ inB (B (i + 1 + m)) p ∧ (∀ t, t < m → ¬ inB (B (i + 1 + t)) p) ∧ ¬ K (i + 1 + m) = K i := by
    unfold badB
    rw [anb_0]
    constructor
    · rintro ⟨m, hm, hh⟩
      rw [Bool.and_eq_true, Bool.not_eq_true', decide_eq_false_iff_not, hits_iff (hvr m (by omega)) (h.vB _ (by omega))] at hh
      obtain ⟨hk, p, hp, h1, h2⟩ := hh
      have h1 := (rep_pos h hi (by omega)).mp h1
      exact ⟨p, hp, h1.1, m, by omega, h2, h1.2, hk⟩
    · rintro ⟨p, hp, ho, m, hm, h1, h2, hk⟩
      refine ⟨m, by omega, ?_⟩
      rw [Bool.and_eq_true, Bool.not_eq_true', decide_eq_false_iff_not, hits_iff (hvr m (by omega)) (h.vB _ (by omega))]
      exact ⟨hk, p, hp, (rep_pos h hi (by omega)).mpr ⟨ho, h2⟩, h1⟩
  have ee : repJ B (ownL B i) i (N - (i + 1)) = [] ↔ ∀ p, p < 512 → own B i p → ∃ t, i + 1 + t < N ∧ inB (B (i + 1 + t)) p := by
    rw [nil_iff (hvr _ (by omega))]
    constructor
    · intro q p hp ho
      refine Classical.byContradiction fun hn => ?_
      have := (rep_pos h hi (p := p) (m := N - (i + 1)) (by omega)).mpr ⟨ho, fun t ht hb => hn ⟨t, by omega, hb⟩⟩
      have := q p hp
      omega
    · intro q p hp
      refine Nat.eq_zero_of_not_pos fun hpos => ?_
      obtain ⟨ho, h1⟩ := (rep_pos h hi (by omega)).mp hpos
      obtain ⟨t, h2, h3⟩ := q p hp ho
      exact h1 t (by omega) h3
  rw [Bool.eq_iff_iff, Bool.not_eq_true', Bool.eq_false_iff]
  unfold repB
  rw [Bool.and_eq_true, Bool.not_eq_true', Bool.eq_false_iff, Bool.or_eq_true, decide_eq_true_iff, decide_eq_true_iff, ne_eq, ne_eq, eb, em, ee]
  constructor
  · rintro ⟨h1, h2⟩ ⟨p, hp, ho, h3⟩
    rcases mD_wo h hi hp ho with ⟨m, h4, h5, h6, h7⟩ | ⟨h4, h5⟩
    · rw [h7] at h3
      exact h1 ⟨p, hp, ho, m, h4, h5, h6, fun e => h3 e.symm⟩
    · rcases h2 with h2 | h2
      · obtain ⟨t, h6, h7⟩ := h2 p hp ho
        exact h4 t h6 h7
      · rw [h5] at h3
        exact h3 h2
  · intro h1
    refine ⟨fun ⟨p, hp, ho, m, h2, h3, h4, h5⟩ => ?_, ?_⟩
    · rcases mD_wo h hi hp ho with ⟨m2, h6, h7, h8, h9⟩ | ⟨h6, -⟩
      · have e : m2 = m := by
          rcases Nat.lt_trichotomy m2 m with c | c | c
          · exact absurd h7 (h4 m2 c)
          · exact c
          · exact absurd h3 (h8 m c)
        subst e
        exact h1 ⟨p, hp, ho, by rw [h9]; exact fun e => h5 e.symm⟩
      · exact h6 m h2 h3
    · refine Classical.byContradiction fun hn => ?_
      have hk : ¬ K i = 0 := fun e => hn (Or.inr e)
      refine hn (Or.inl fun p hp ho => ?_)
      rcases mD_wo h hi hp ho with ⟨m, h4, h5, -⟩ | ⟨-, h5⟩
      · exact ⟨m, h4, h5⟩
      · exact absurd ⟨p, hp, ho, by rw [h5]; exact hk⟩ h1
theorem ite10 {P : Prop} [Decidable P] : ((if P then (1 : Int32) else 0) = 1) ↔ P := by
  by_cases h : P
  · rw [if_pos h]; exact ⟨fun _ => h, fun _ => rfl⟩
  · rw [if_neg h]; exact ⟨fun q => absurd q (by decide), fun q => absurd q h⟩
theorem ite00 {P : Prop} [Decidable P] : ((if P then (1 : Int32) else 0) = 0) ↔ ¬ P := by
  by_cases h : P
  · rw [if_pos h]; exact ⟨fun q => absurd q (by decide), fun q => absurd h q⟩
  · rw [if_neg h]; exact ⟨fun _ => h, fun _ => rfl⟩
theorem mS11 (h : Rel f0 N B K vv V fs ts fd td wh ak sv) {i j : Nat} (hi : i < N) (hj : j < N) : mS fs ts fd td wh i 1 j 1 = true ↔ mtN (B i) (B j) := by
  unfold mS
  rw [anb_0, meet_iff (h.vB i hi) (h.vB j hj)]
  constructor
  · rintro ⟨p, hp, hh⟩
    unfold mSo at hh
    rw [Bool.and_eq_true, decide_eq_true_iff, decide_eq_true_iff, ite10, ite10, mMt_iff (h.2.2.1 i hi) hp, mMt_iff (h.2.2.1 j hj) hp] at hh
    exact ⟨p, hp, hh⟩
  · rintro ⟨p, hp, hh⟩
    refine ⟨p, hp, ?_⟩
    unfold mSo
    rw [Bool.and_eq_true, decide_eq_true_iff, decide_eq_true_iff, ite10, ite10, mMt_iff (h.2.2.1 i hi) hp, mMt_iff (h.2.2.1 j hj) hp]
    exact hh
theorem mS10 (h : Rel f0 N B K vv V fs ts fd td wh ak sv) {i j : Nat} (hi : i < N) (hj : j < N) : mS fs ts fd td wh i 1 j 0 = true ↔ ¬ inN (B i) (B j) := by
  unfold mS
  rw [anb_0, within_iff (h.vB i hi)]
  constructor
  · rintro ⟨p, hp, hh⟩ q
    unfold mSo at hh
    rw [Bool.and_eq_true, decide_eq_true_iff, decide_eq_true_iff, ite10, ite00, mMt_iff (h.2.2.1 i hi) hp, mMt_iff (h.2.2.1 j hj) hp] at hh
    exact hh.2 (q p hp hh.1)
  · intro q
    refine Classical.byContradiction fun hn => q fun p hp h1 => Classical.byContradiction fun h2 => hn ⟨p, hp, ?_⟩
    unfold mSo
    rw [Bool.and_eq_true, decide_eq_true_iff, decide_eq_true_iff, ite10, ite00, mMt_iff (h.2.2.1 i hi) hp, mMt_iff (h.2.2.1 j hj) hp]
    exact ⟨h1, h2⟩
theorem mS01 (h : Rel f0 N B K vv V fs ts fd td wh ak sv) {i j : Nat} (hi : i < N) (hj : j < N) : mS fs ts fd td wh i 0 j 1 = true ↔ ¬ inN (B j) (B i) := by
  unfold mS
  rw [anb_0, within_iff (h.vB j hj)]
  constructor
  · rintro ⟨p, hp, hh⟩ q
    unfold mSo at hh
    rw [Bool.and_eq_true, decide_eq_true_iff, decide_eq_true_iff, ite00, ite10, mMt_iff (h.2.2.1 i hi) hp, mMt_iff (h.2.2.1 j hj) hp] at hh
    exact hh.1 (q p hp hh.2)
  · intro q
    refine Classical.byContradiction fun hn => q fun p hp h1 => Classical.byContradiction fun h2 => hn ⟨p, hp, ?_⟩
    unfold mSo
    rw [Bool.and_eq_true, decide_eq_true_iff, decide_eq_true_iff, ite00, ite10, mMt_iff (h.2.2.1 i hi) hp, mMt_iff (h.2.2.1 j hj) hp]
    exact ⟨h2, h1⟩
theorem op_cor (h : Rel f0 N B K vv V fs ts fd td wh ak sv) {i : Nat} (hi : i < N) : corB B K i = anb (mCo fs ts fd td wh ak i) 0 i := by
  unfold corB
  refine anb_cong (fun j hj => ?_)
  unfold mCo
  rw [Bool.eq_iff_iff, Bool.and_eq_true, Bool.and_eq_true, Bool.and_eq_true, Bool.and_eq_true, Bool.and_eq_true, Bool.and_eq_true, mS11 h hi (by omega), mS10 h hi (by omega), mS01 h hi (by omega), Bool.not_eq_true', Bool.not_eq_true', Bool.not_eq_true', Bool.not_eq_true', decide_eq_false_iff_not, decide_eq_false_iff_not, decide_eq_false_iff_not, decide_eq_false_iff_not, decide_eq_true_iff, bMt_N, bIn_N, bIn_N, (h.2.2.2.1 j (by omega)).1, (h.2.2.2.1 i hi).1]
  constructor
  · rintro ⟨⟨⟨h1, h2⟩, h3⟩, h4⟩; exact ⟨⟨⟨h1, h2⟩, h4⟩, h3⟩
  · rintro ⟨⟨⟨h1, h2⟩, h3⟩, h4⟩; exact ⟨⟨⟨h1, h2⟩, h4⟩, h3⟩
theorem op_gen (h : Rel f0 N B K vv V fs ts fd td wh ak sv) {i : Nat} (hi : i < N) : genB B K i = anb (mGe fs ts fd td wh ak i) 0 i := by
  unfold genB
  refine anb_cong (fun j hj => ?_)
  have e1 := mS01 h hi (j := j) (by omega)
  have hv := h.vB j (by omega)
  unfold mGe
  rw [Bool.eq_iff_iff, Bool.and_eq_true, Bool.and_eq_true, Bool.and_eq_true, Bool.not_eq_true', Bool.not_eq_true', Bool.not_eq_true', decide_eq_false_iff_not, decide_eq_false_iff_not, decide_eq_true_iff, decide_eq_true_iff, bMt_N, bIn_N, (h.2.2.2.1 j (by omega)).1, (h.2.2.2.1 i hi).1, Bool.eq_false_iff, ne_eq, e1]
  constructor
  · rintro ⟨⟨h1, h2⟩, h3⟩; exact ⟨h1, fun q => q h3⟩
  · rintro ⟨h1, h2⟩
    have h2 := Classical.not_not.mp h2
    refine ⟨⟨h1, ?_⟩, h2⟩
    exact (meet_iff (h.vB i hi) hv).mpr ⟨nCor (B j), nCor_lt _, (within_iff hv).mp h2 _ (nCor_lt _) (nCor_in hv), nCor_in hv⟩
end OP
end
section
/-! THE PLAIN LAW 5: what writes keeps the two alike; who decides -/
theorem okN {x : Int32} {n : Nat} {M : Int32} (hM : M.toInt = n) (h0 : 0 ≤ x) (h1 : x ≤ M) : ∃ j : Nat, j ≤ n ∧ x = nI j := nI_of2 hM (i_le_nlt0 h0) h1
theorem pt_in {x : Int32} {s d z : Nat} (hs : s < 16) (hd : d < 16) (hz : z < 2) : bMt x (ptx (nI s) (nI d) (nI z)) ↔ inB x (32 * s + 2 * d + z) := by
  obtain ⟨a1, a2, a3, a4, a5, a6⟩ := pt_n hs hd hz
  rw [bMt_N]
  unfold mtN inB
  rw [a1, a2, a3, a4, a5, a6]
  omega
section OQ
variable {f0 : Int32} {N : Nat} {B K vv : Nat → Int32} {V : List Int32} {fs ts fd td wh ak sv : Nat → Int32}
theorem op_decider (h : Rel f0 N B K vv V fs ts fd td wh ak sv) {x y z : Int32} (hk : okP x y z) : fsm (fun j => decide (bMt (B j) (ptx x y z))) 0 N = mF fs ts fd td wh N (((32 * x) + (2 * y)) + z) (-1) := by
  have hN := h.1
  obtain ⟨s, hs, rfl⟩ := okN (n := 15) (by decide) hk.1 hk.2.1
  obtain ⟨d, hd, rfl⟩ := okN (n := 15) (by decide) hk.2.2.1 hk.2.2.2.1
  obtain ⟨q, hq, rfl⟩ := okN (n := 1) (by decide) hk.2.2.2.2.1 hk.2.2.2.2.2
  have e : ((32 * nI s) + (2 * nI d)) + nI q = nI (32 * s + 2 * d + q) := by
    rw [show (32 : Int32) = nI 32 from rfl, show (2 : Int32) = nI 2 from rfl, pk_mul, pk_mul, nI_add, nI_add]
  rw [e, mF]
  refine fsm_cong N 0 (fun j h1 h2 => ?_)
  rw [Bool.eq_iff_iff, Bool.and_eq_true, Bool.not_eq_true', decide_eq_false_iff_not, decide_eq_true_iff, decide_eq_true_iff, pt_in (by omega) (by omega) (by omega), mMt_iff (h.2.2.1 j (by omega)) (by omega)]
  exact ⟨fun q => ⟨nI_m1 (by omega), q⟩, fun q => q.2⟩
/-! the draft -/
theorem vB_of {x : Int32} (h1 : bFs x ≤ bTs x) (h2 : bFd x ≤ bTd x) (h3 : bFp x ≤ bTp x) : vB x := by
  have hx := n_small x
  exact ⟨(leN (nFs_e x).1 (nTs_e x).1 (by omega) (by omega)).mp h1, (leN (nFd_e x).1 (nTd_e x).1 (by omega) (by omega)).mp h2, (leN (nFp_e x).1 (nTp_e x).1 (by omega) (by omega)).mp h3⟩
theorem vB_le {x : Int32} (h : vB x) : bFs x ≤ bTs x ∧ bFd x ≤ bTd x ∧ bFp x ≤ bTp x := by
  have hx := n_small x
  exact ⟨(leN (nFs_e x).1 (nTs_e x).1 (by omega) (by omega)).mpr h.1, (leN (nFd_e x).1 (nTd_e x).1 (by omega) (by omega)).mpr h.2.1, (leN (nFp_e x).1 (nTp_e x).1 (by omega) (by omega)).mpr h.2.2⟩
theorem op_drA (h : Rel f0 N B K vv V fs ts fd td wh ak sv) {x y z : Int32} (hk : okR x y z) (hx : x = 0) : Rel (drx f0 x y z) N B K vv V (upd fs 10 y) (upd ts 10 z) fd td wh ak sv := by
  obtain ⟨hN, h1, h2, h3, h4⟩ := h
  have hy := hk.2.2.1
  have hyz := hk.2.2.2.2.2.2
  obtain ⟨y1, hy1, rfl⟩ := okN (n := 15) (by decide) hk.2.2.1 hk.2.2.2.1
  obtain ⟨z1, hz1, rfl⟩ := okN (n := 15) (by decide) hk.2.2.2.2.1 hk.2.2.2.2.2.1
  have s1 := sm4_nI y1 (by omega)
  have s2 := sm4_nI z1 (by omega)
  have ed : drx f0 x (nI y1) (nI z1) = drA f0 (nI y1) (nI z1) := by rw [drx, if_pos hx, drA]
  rw [ed]
  have v0 := vB_le h1.1
  obtain ⟨-, -, -, a3, a4, a5⟩ := h1
  refine ⟨hN, ⟨vB_of ?_ ?_ ?_, ?_, ?_, ?_, ?_, ?_⟩, fun i hi => ?_, h3, h4⟩
  · rw [f_dA_bFs _ _ _ s1 s2, f_dA_bTs _ _ _ s1 s2]; exact hyz
  · rw [f_dA_bFd _ _ _ s1 s2, f_dA_bTd _ _ _ s1 s2]; exact v0.2.1
  · rw [f_dA_bFp _ _ _ s1 s2, f_dA_bTp _ _ _ s1 s2]; exact v0.2.2
  · rw [f_dA_bFs _ _ _ s1 s2, upd, if_pos rfl]
  · rw [f_dA_bTs _ _ _ s1 s2, upd, if_pos rfl]
  · rw [f_dA_bFd _ _ _ s1 s2]; exact a3
  · rw [f_dA_bTd _ _ _ s1 s2]; exact a4
  · rw [f_dA_bFp _ _ _ s1 s2, f_dA_bTp _ _ _ s1 s2]; exact a5
  · rw [upd, upd, if_neg (by omega), if_neg (by omega)]
    exact h2 i hi
theorem op_drB (h : Rel f0 N B K vv V fs ts fd td wh ak sv) {x y z : Int32} (hk : okR x y z) (hx : ¬ x = 0) : Rel (drx f0 x y z) N B K vv V fs ts (upd fd 10 y) (upd td 10 z) wh ak sv := by
  obtain ⟨hN, h1, h2, h3, h4⟩ := h
  have hyz := hk.2.2.2.2.2.2
  obtain ⟨y1, hy1, rfl⟩ := okN (n := 15) (by decide) hk.2.2.1 hk.2.2.2.1
  obtain ⟨z1, hz1, rfl⟩ := okN (n := 15) (by decide) hk.2.2.2.2.1 hk.2.2.2.2.2.1
  have s1 := sm4_nI y1 (by omega)
  have s2 := sm4_nI z1 (by omega)
  have ed : drx f0 x (nI y1) (nI z1) = drB f0 (nI y1) (nI z1) := by rw [drx, if_neg hx, drB]
  rw [ed]
  have v0 := vB_le h1.1
  obtain ⟨-, a1, a2, -, -, a5⟩ := h1
  refine ⟨hN, ⟨vB_of ?_ ?_ ?_, ?_, ?_, ?_, ?_, ?_⟩, fun i hi => ?_, h3, h4⟩
  · rw [f_dB_bFs _ _ _ s1 s2, f_dB_bTs _ _ _ s1 s2]; exact v0.1
  · rw [f_dB_bFd _ _ _ s1 s2, f_dB_bTd _ _ _ s1 s2]; exact hyz
  · rw [f_dB_bFp _ _ _ s1 s2, f_dB_bTp _ _ _ s1 s2]; exact v0.2.2
  · rw [f_dB_bFs _ _ _ s1 s2]; exact a1
  · rw [f_dB_bTs _ _ _ s1 s2]; exact a2
  · rw [f_dB_bFd _ _ _ s1 s2, upd, if_pos rfl]
  · rw [f_dB_bTd _ _ _ s1 s2, upd, if_pos rfl]
  · rw [f_dB_bFp _ _ _ s1 s2, f_dB_bTp _ _ _ s1 s2]; exact a5
  · rw [upd, upd, if_neg (by omega), if_neg (by omega)]
    exact h2 i hi
theorem t_or2 (x b : Int32) {i : Nat} (hi : i < 32) : bt ((x &&& (-4)) ||| b) i = ((bt x i && decide (2 ≤ i)) || bt b i) := by rw [b_or, t_and4 x hi]
abbrev sm2 (f : Int32) : Prop := ∀ i, 2 ≤ i → i < 32 → bt f i = false
theorem ds_f (x b : Int32) (hb : sm2 b) : bFs ((x &&& (-4)) ||| b) = bFs x ∧ bTs ((x &&& (-4)) ||| b) = bTs x ∧ bFd ((x &&& (-4)) ||| b) = bFd x ∧ bTd ((x &&& (-4)) ||| b) = bTd x ∧ bFp ((x &&& (-4)) ||| b) = bFp b ∧ bTp ((x &&& (-4)) ||| b) = bTp b := by
  refine ⟨c_bFs ?_ ?_ ?_ ?_, c_bTs ?_ ?_ ?_ ?_, c_bFd ?_ ?_ ?_ ?_, c_bTd ?_ ?_ ?_ ?_, c_bFp ?_, c_bTp ?_⟩ <;> (rw [t_or2 x b (by decide)]; simp [hb])
theorem op_ds (h : Rel f0 N B K vv V fs ts fd td wh ak sv) {x : Int32} (h0 : 0 ≤ x) (hx2 : x ≤ 2) : Rel (dsx f0 x) N B K vv V fs ts fd td (upd wh 10 x) ak sv := by
  obtain ⟨hN, h1, h2, h3, h4⟩ := h
  have v0 := vB_le h1.1
  obtain ⟨-, a1, a2, a3, a4, -⟩ := h1
  obtain ⟨x1, hx1, rfl⟩ := okN (n := 2) (by decide) h0 hx2
  have key : ∀ b : Int32, dsx f0 (nI x1) = (f0 &&& (-4)) ||| b → sm2 b → bFp b ≤ bTp b → ((nI x1 = 2 ∧ bFp b = 0 ∧ bTp b = 1) ∨ (nI x1 = 0 ∧ bFp b = 0 ∧ bTp b = 0) ∨ (nI x1 = 1 ∧ bFp b = 1 ∧ bTp b = 1)) → Rel (dsx f0 (nI x1)) N B K vv V fs ts fd td (upd wh 10 (nI x1)) ak sv := by
    intro b eb sb lb hb
    obtain ⟨d1, d2, d3, d4, d5, d6⟩ := ds_f f0 b sb
    rw [eb]
    refine ⟨hN, ⟨vB_of ?_ ?_ ?_, ?_, ?_, ?_, ?_, ?_⟩, fun i hi => ?_, h3, h4⟩
    · rw [d1, d2]; exact v0.1
    · rw [d3, d4]; exact v0.2.1
    · rw [d5, d6]; exact lb
    · rw [d1]; exact a1
    · rw [d2]; exact a2
    · rw [d3]; exact a3
    · rw [d4]; exact a4
    · rw [d5, d6, upd, if_pos rfl]; exact hb
    · rw [upd, if_neg (by omega)]
      exact h2 i hi
  have s2d : ∀ n, n < 4 → sm2 (nI n) := by
    have hh : ∀ n, n < 4 → ∀ i, i < 32 → 2 ≤ i → bt (nI n) i = false := by decide +kernel
    exact fun n hn i q1 q2 => hh n hn i q2 q1
  rcases (show x1 = 0 ∨ x1 = 1 ∨ x1 = 2 by omega) with rfl | rfl | rfl
  · exact key 0 (by rw [dsx, if_pos (by decide)]) (s2d 0 (by decide)) (by decide) (Or.inr (Or.inl ⟨by decide, by decide, by decide⟩))
  · exact key 3 (by rw [dsx, if_neg (by decide), if_pos (by decide)]) (s2d 3 (by decide)) (by decide) (Or.inr (Or.inr ⟨by decide, by decide, by decide⟩))
  · exact key 1 (by rw [dsx, if_neg (by decide), if_neg (by decide)]) (s2d 1 (by decide)) (by decide) (Or.inl ⟨by decide, by decide, by decide⟩)
/-! the list -/
theorem rw6_i {fs ts fd td wh ak fs1 ts1 fd1 td1 wh1 ak1 : Nat → Int32} {a b : Nat} (h : rw6 fs1 ts1 fd1 td1 wh1 ak1 a = rw6 fs ts fd td wh ak b) : fs1 a = fs b ∧ ts1 a = ts b ∧ fd1 a = fd b ∧ td1 a = td b ∧ wh1 a = wh b ∧ ak1 a = ak b := by
  unfold rw6 at h
  simp only [Prod.mk.injEq] at h
  exact h
theorem op_insert (h : Rel f0 N B K vv V fs ts fd td wh ak sv) {i : Nat} {y : Int32} {B1 K1 fs1 ts1 fd1 td1 wh1 ak1 : Nat → Int32} (hN : N < 10) (hi : i ≤ N) (hy : y = 0 ∨ y = 1)
    (x1 : ∀ k, k < i → B1 k = B k ∧ K1 k = K k) (x2 : B1 i = f0 ∧ K1 i = y) (x3 : ∀ k, i ≤ k → k < N → B1 (k + 1) = B k ∧ K1 (k + 1) = K k)
    (m1 : ∀ k, k < i → rw6 fs1 ts1 fd1 td1 wh1 ak1 k = rw6 fs ts fd td wh ak k) (m2 : rw6 fs1 ts1 fd1 td1 wh1 ak1 i = (fs 10, ts 10, fd 10, td 10, wh 10, y)) (m3 : ∀ k, i ≤ k → k < N → rw6 fs1 ts1 fd1 td1 wh1 ak1 (k + 1) = rw6 fs ts fd td wh ak k) (m4 : rw6 fs1 ts1 fd1 td1 wh1 ak1 10 = rw6 fs ts fd td wh ak 10) : Rel f0 (N + 1) B1 K1 vv V fs1 ts1 fd1 td1 wh1 ak1 sv := by
  obtain ⟨-, h1, h2, h3, h4⟩ := h
  obtain ⟨e1, e2, e3, e4, e5, -⟩ := rw6_i m4
  have m2' : fs1 i = fs 10 ∧ ts1 i = ts 10 ∧ fd1 i = fd 10 ∧ td1 i = td 10 ∧ wh1 i = wh 10 ∧ ak1 i = y := by
    unfold rw6 at m2
    simp only [Prod.mk.injEq] at m2
    exact m2
  refine ⟨by omega, by rw [e1, e2, e3, e4, e5]; exact h1, fun k hk => ?_, fun k hk => ?_, h4⟩
  · rcases Nat.lt_trichotomy k i with c | c | c
    · obtain ⟨g1, g2, g3, g4, g5, -⟩ := rw6_i (m1 k c)
      rw [g1, g2, g3, g4, g5, (x1 k c).1]
      exact h2 k (by omega)
    · subst c
      obtain ⟨g1, g2, g3, g4, g5, -⟩ := m2'
      rw [g1, g2, g3, g4, g5, x2.1]
      exact h1
    · obtain ⟨k, rfl⟩ : ∃ t, k = t + 1 := ⟨k - 1, by omega⟩
      obtain ⟨g1, g2, g3, g4, g5, -⟩ := rw6_i (m3 k (by omega) (by omega))
      rw [g1, g2, g3, g4, g5, (x3 k (by omega) (by omega)).1]
      exact h2 k (by omega)
  · rcases Nat.lt_trichotomy k i with c | c | c
    · obtain ⟨-, -, -, -, -, g6⟩ := rw6_i (m1 k c)
      rw [g6, (x1 k c).2]
      exact h3 k (by omega)
    · subst c
      rw [m2'.2.2.2.2.2, x2.2]
      exact ⟨rfl, hy⟩
    · obtain ⟨k, rfl⟩ : ∃ t, k = t + 1 := ⟨k - 1, by omega⟩
      obtain ⟨-, -, -, -, -, g6⟩ := rw6_i (m3 k (by omega) (by omega))
      rw [g6, (x3 k (by omega) (by omega)).2]
      exact h3 k (by omega)
theorem op_remove (h : Rel f0 N B K vv V fs ts fd td wh ak sv) {i : Nat} {B1 K1 fs1 ts1 fd1 td1 wh1 ak1 : Nat → Int32} (hi : i < N)
    (x1 : ∀ k, k < i → B1 k = B k ∧ K1 k = K k) (x3 : ∀ k, i ≤ k → k + 1 < N → B1 k = B (k + 1) ∧ K1 k = K (k + 1))
    (m1 : ∀ k, k < i → rw6 fs1 ts1 fd1 td1 wh1 ak1 k = rw6 fs ts fd td wh ak k) (m3 : ∀ k, i ≤ k → k + 1 < N → rw6 fs1 ts1 fd1 td1 wh1 ak1 k = rw6 fs ts fd td wh ak (k + 1)) (m4 : rw6 fs1 ts1 fd1 td1 wh1 ak1 10 = rw6 fs ts fd td wh ak 10) : Rel f0 (N - 1) B1 K1 vv V fs1 ts1 fd1 td1 wh1 ak1 sv := by
  obtain ⟨hN, h1, h2, h3, h4⟩ := h
  obtain ⟨e1, e2, e3, e4, e5, -⟩ := rw6_i m4
  refine ⟨by omega, by rw [e1, e2, e3, e4, e5]; exact h1, fun k hk => ?_, fun k hk => ?_, h4⟩
  · by_cases c : k < i
    · obtain ⟨g1, g2, g3, g4, g5, -⟩ := rw6_i (m1 k c)
      rw [g1, g2, g3, g4, g5, (x1 k c).1]
      exact h2 k (by omega)
    · obtain ⟨g1, g2, g3, g4, g5, -⟩ := rw6_i (m3 k (by omega) (by omega))
      rw [g1, g2, g3, g4, g5, (x3 k (by omega) (by omega)).1]
      exact h2 (k + 1) (by omega)
  · by_cases c : k < i
    · obtain ⟨-, -, -, -, -, g6⟩ := rw6_i (m1 k c)
      rw [g6, (x1 k c).2]
      exact h3 k (by omega)
    · obtain ⟨-, -, -, -, -, g6⟩ := rw6_i (m3 k (by omega) (by omega))
      rw [g6, (x3 k (by omega) (by omega)).2]
      exact h3 (k + 1) (by omega)
theorem op_saved (h : Rel f0 N B K vv V fs ts fd td wh ak sv) {v1 sv1 : Nat → Int32} (h1 : hL v1 (gatL B K N)) (h2 : ∀ k, k < 512 → sv1 k = mD fs ts fd td wh ak N (nI k) (-1)) : Rel f0 N B K v1 (gatL B K N) fs ts fd td wh ak sv1 := by
  refine ⟨h.1, h.2.1, h.2.2.1, h.2.2.2.1, h1, h.gv, fun p hp => ⟨?_, h.gle p hp⟩⟩
  rw [h2 p hp, h.mD hp]
end OQ
theorem rel_0 : Rel 15421 0 (fun _ => 0) (fun _ => 0) (fun _ => 0) [] (fun _ => 0) (upd (fun _ => 0) 10 15) (fun _ => 0) (upd (fun _ => 0) 10 15) (upd (fun _ => 0) 10 2) (fun _ => 0) (fun _ => 0) := by
  refine ⟨by decide, ⟨vB_of (by decide) (by decide) (by decide), by decide, by decide, by decide, by decide, Or.inl ⟨by decide, by decide, by decide⟩⟩, fun i hi => absurd hi (Nat.not_lt_zero i), fun i hi => absurd hi (Nat.not_lt_zero i), hL_nil _, (fun x hx => absurd hx List.not_mem_nil), fun p _ => ⟨rfl, Nat.zero_le _⟩⟩
end
section
/-! THE CLAIM OUT OF ONE WALK OF THE LAW'S BODY. Your part is whole_start (and what it stands on); all else here is the same for every law, but numbers. -/
def R_law : String := "RuleAnomalyLaw"
def lw_P (b : Addr) (xs : List Int32) (args : Array Value) (s : State) : Prop := args = #[.ref b] ∧ s.IntsAt b xs ∧ xs.length ≤ 256 ∧ (Jvm.Cond.and given_1 narrow_1).before args s = true
def lw_Q (_ : Array Value) (s : State) (o : Outcome) (t : State) : Prop := o = .returned (some (.int 1)) ∧ Framed s o t [] 600000 7290000
def lw_Z (below : List Frame) (a : Array Value) (s : State) : State → Prop := fun t => ∃ o, t.status = .running ∧ Ended t below o ∧ lw_Q a s o t
/-- the law's own end, with 1 on the stack, nothing written that was there before, its room as the claim has it -/
theorem lw_ret {p : Program} {l : Launch} {e : Env} {s : State} {m : MethodId} {below : List Frame} {meth : Method} {c : Code} {b : Nat} (hx : p.tables.exec = Jvm.exec) (hb : c.code = code) (hr : meth.sig.returnType = ret) (hlocks : meth.locks = false) {pc : Nat} {H : Heap} {ls : Array Slot} (hdg : decode code pc = .ok (.ireturn, 1)) : W p l e room_1 s m #[Value.ref b] below meth c H [] 600000 7290000 (lw_Z below #[Value.ref b] s) (F0 m pc ls [.int 1]) := by
  intro T hT X
  obtain ⟨fs, hret, hrun, hended, hW, hframe⟩ := X.leave (v := some (.int 1)) (hlocks := hlocks) (fun h => by rw [hr] at h; cases h)
  have hmeth' : T.vm.method? m = some meth := X.method'
  refine ⟨T.setFrames fs, ?_, .returned (some (.int 1)), hrun, hended, rfl, ⟨_, rfl⟩, hW, hframe⟩
  jvm_step X.here [X.here.top, hx, hb, hdg, hmeth', hr, ret, narrow_b1]
  (try refine ⟨rfl, ?_⟩); (try refine ⟨rfl, ?_⟩)
  first | (intro acts; rw [hret _ acts rfl rfl rfl]) | rw [hret _ _ rfl rfl rfl]
  exact Steps.refl _
/-- what holds at the law's entry: the machine, the code, the tables' words (any of lw_tbl by 'hts w (by decide +kernel)'), the script of L ints xs at the cell b, what the Statement gives of the start (any of its parts by flat_of_before) -/
def lw_At (p : Program) (s : State) (m : MethodId) (meth : Method) (c : Code) (b L : Nat) (xs : Nat → Int32) : Prop :=
  p.tables.exec = Jvm.exec ∧ c.code = code ∧ meth.sig.returnType = ret ∧ c.maxLocals = 4 ∧ s.vm.findClass R_law = some m.cls ∧ (∀ w ∈ lw_tbl, w.before #[Value.ref b] s = true) ∧ va_X b L xs s s.heap ∧ b < s.heap.size ∧ meth.locks = false ∧ (Jvm.Cond.and given_1 narrow_1).before #[Value.ref b] s = true
/-! THE LAW'S WORLD: the two objects side by side; its calls -/
set_option maxRecDepth 100000
abbrev lA (s : State) : Nat → Prop := fun q => s.heap.size ≤ q
def LC (p : Program) (s : State) (m : MethodId) (meth : Method) (c : Code) (b L : Nat) (xs : Nat → Int32) (D : va_G) (gx gm : (Nat → Nat) × ClassId × ClassId) : Prop := lw_At p s m meth c b L xs ∧ va_K D vwCl (xT (D, gx) ++ mT (D, gm)) s ∧ ∀ (u : XS) (v : MS), va_D (lA s) (XW (D, gx) u ++ MW (D, gm) v)
def LI (D : va_G) (gx gm : (Nat → Nat) × ClassId × ClassId) (s : State) (u : XS) (v : MS) (H : Heap) (locs : List Loc) : Prop := va_P D vwCl (XW (D, gx) u ++ MW (D, gm) v) H ∧ va_S (lA s) s.heap H locs
/-- apart is a matter of the addresses alone -/
theorem va_D_ad {A : Nat → Prop} {ws ws' : va_W} (h : ws.map Prod.fst = ws'.map Prod.fst) (hD : va_D A ws) : va_D A ws' := by
  have key : ∀ (k : Nat) (q : Nat × va_E), ws'[k]? = some q → ∃ q' : Nat × va_E, ws[k]? = some q' ∧ q'.1 = q.1 := by
    intro k q hk
    have h1 : (ws'.map Prod.fst)[k]? = some q.1 := by rw [List.getElem?_map, hk]; rfl
    rw [← h, List.getElem?_map] at h1
    cases hw : ws[k]? with
    | none => rw [hw] at h1; cases h1
    | some q' => rw [hw] at h1; exact ⟨q', rfl, Option.some.inj h1⟩
  refine ⟨fun i j p q hp hq e => ?_, fun k q hk => ?_⟩
  · obtain ⟨p', a1, a2⟩ := key i p hp
    obtain ⟨q', b1, b2⟩ := key j q hq
    exact hD.1 i j p' q' a1 b1 (by rw [a2, b2]; exact e)
  · obtain ⟨q', a1, a2⟩ := key k q hk
    rw [← a2]
    exact hD.2 k q' a1
theorem xA_of {G : GT} {u : XS} {k : Nat} {q : Nat × va_E} (h : (XW G u)[k]? = some q) : xA G q.1 := by
  have h1 := List.mem_of_getElem? h
  simp only [XW, List.mem_cons, List.not_mem_nil, or_false] at h1
  rcases h1 with rfl | rfl | rfl | rfl | rfl | rfl | rfl <;> simp [xA]
theorem xA_va {G : GT} {u : XS} {sz q : Nat} (h : xA G q) : va_A (XW G u) sz q := by
  rcases h with rfl | rfl | rfl | rfl | rfl | rfl | rfl
  · exact Or.inl ⟨0, _, rfl⟩
  · exact Or.inl ⟨1, _, rfl⟩
  · exact Or.inl ⟨2, _, rfl⟩
  · exact Or.inl ⟨3, _, rfl⟩
  · exact Or.inl ⟨4, _, rfl⟩
  · exact Or.inl ⟨5, _, rfl⟩
  · exact Or.inl ⟨6, _, rfl⟩
theorem mA_of {G : GT} {u : MS} {k : Nat} {q : Nat × va_E} (h : (MW G u)[k]? = some q) : mA G q.1 := by
  have h1 := List.mem_of_getElem? h
  simp only [MW, List.mem_cons, List.not_mem_nil, or_false] at h1
  rcases h1 with rfl | rfl | rfl | rfl | rfl | rfl | rfl | rfl <;> simp [mA]
theorem mA_va {G : GT} {u : MS} {sz q : Nat} (h : mA G q) : va_A (MW G u) sz q := by
  rcases h with rfl | rfl | rfl | rfl | rfl | rfl | rfl | rfl
  · exact Or.inl ⟨0, _, rfl⟩
  · exact Or.inl ⟨1, _, rfl⟩
  · exact Or.inl ⟨2, _, rfl⟩
  · exact Or.inl ⟨3, _, rfl⟩
  · exact Or.inl ⟨4, _, rfl⟩
  · exact Or.inl ⟨5, _, rfl⟩
  · exact Or.inl ⟨6, _, rfl⟩
  · exact Or.inl ⟨7, _, rfl⟩
section LW
variable {p : Program} {l : Launch} {e : Env} {R : Room} {s : State} {m : MethodId} {below : List Frame} {meth : Method} {c : Code} {H : Heap} {locs : List Loc} {cells slots : Nat} {Q : State → Prop} {b L : Nat} {xs : Nat → Int32} {D : va_G} {gx gm : (Nat → Nat) × ClassId × ClassId} {u : XS} {v : MS} {y : MethodName} {bytes : ByteArray} {maxL idx n pc : Nat} {ret : Option FieldType} {rm : Room} {As rest st0 : List Value} {ls : Array Slot}
theorem LC.fix (C : LC p s m meth c b L xs D gx gm) : CallFix p m c code 4 s #[Value.ref b] lw_all R_law := ⟨C.1.1, C.1.2.1, C.1.2.2.2.1, C.1.2.2.2.2.1, fun w h => C.1.2.2.2.2.2.1 w (lw_all_tbl h)⟩
theorem LC.xd (C : LC p s m meth c b L xs D gx gm) : XD (D, gx) := fun u => ⟨((C.2.2 u MU0).sub (ws' := XW (D, gx) u) [0, 1, 2, 3, 4, 5, 6] (by decide) rfl).1, fun k q hk => xA_of hk⟩
theorem LC.md (C : LC p s m meth c b L xs D gx gm) : MD (D, gm) := fun v => ⟨((C.2.2 XU0 v).sub (ws' := MW (D, gm) v) [7, 8, 9, 10, 11, 12, 13, 14] (by decide) rfl).1, fun k q hk => mA_of hk⟩
theorem LC.xin (C : LC p s m meth c b L xs D gx gm) {q : Nat} (h : xA (D, gx) q) : lA s q := by
  rcases h with rfl | rfl | rfl | rfl | rfl | rfl | rfl
  · have h := (C.2.2 XU0 MU0).2 0 _ rfl; exact h
  · have h := (C.2.2 XU0 MU0).2 1 _ rfl; exact h
  · have h := (C.2.2 XU0 MU0).2 2 _ rfl; exact h
  · have h := (C.2.2 XU0 MU0).2 3 _ rfl; exact h
  · have h := (C.2.2 XU0 MU0).2 4 _ rfl; exact h
  · have h := (C.2.2 XU0 MU0).2 5 _ rfl; exact h
  · have h := (C.2.2 XU0 MU0).2 6 _ rfl; exact h
theorem LC.min (C : LC p s m meth c b L xs D gx gm) {q : Nat} (h : mA (D, gm) q) : lA s q := by
  rcases h with rfl | rfl | rfl | rfl | rfl | rfl | rfl | rfl
  · have h := (C.2.2 XU0 MU0).2 7 _ rfl; exact h
  · have h := (C.2.2 XU0 MU0).2 8 _ rfl; exact h
  · have h := (C.2.2 XU0 MU0).2 9 _ rfl; exact h
  · have h := (C.2.2 XU0 MU0).2 10 _ rfl; exact h
  · have h := (C.2.2 XU0 MU0).2 11 _ rfl; exact h
  · have h := (C.2.2 XU0 MU0).2 12 _ rfl; exact h
  · have h := (C.2.2 XU0 MU0).2 13 _ rfl; exact h
  · have h := (C.2.2 XU0 MU0).2 14 _ rfl; exact h
theorem lx_pre (C : LC p s m meth c b L xs D gx gm) (hI : LI D gx gm s u v H locs) : PreV s H RX0 (gx.1 0) (xPc (D, gx) u As) As := by
  have hP : va_P D vwCl (XW (D, gx) u) H := hI.1.sub [0, 1, 2, 3, 4, 5, 6] rfl
  exact ⟨gPc_blind _ _ _ _ _ _, va_recv (ci := 0) (q0 := 0) C.2.1 hP rfl rfl, fun U hU hW => ⟨rfl, va_K.moved hW.alike (C.2.1.sub (tys' := xT (D, gx)) [0, 1] rfl), by rw [hU]; exact hP⟩⟩
theorem lx_r {r : Int32} (hM : Met l y (ws_ y bytes maxL ret) rm (xPc (D, gx) u As) (QcRead r) 0 0 (fun _ => False)) (C : LC p s m meth c b L xs D gx gm) (hI : LI D gx gm s u v H locs) (hV : GoodIn lw_all (wsV R_law idx RX0 y (ws_ y bytes maxL ret)))
    (hd0 : y.cls = RX0 ∧ y.cls ≠ "java/lang/invoke/MethodHandle" ∧ y.cls ≠ "java/lang/invoke/VarHandle" ∧ (parseMethodDescriptor y.desc).map (fun d => d.parameters.length) = some n) (hn : As.length = n) (hrc : rm.cells = 0) (hrs : rm.slots = 0) (hR : rm.frames + 1 ≤ R.frames ∧ 8 + (maxL + 11) + rm.locals ≤ R.locals) (hcs : cells ≤ R.cells ∧ slots ≤ R.slots) (hz : ls.size = 4) (hst : st0 = As.reverse ++ .ref (gx.1 0) :: rest) (hrm : (rest.map fun v => v.category).sum ≤ 8) (hd : decode code pc = .ok (.invokevirtual idx, 3))
    (kk : W p l e R s m #[Value.ref b] below meth c H locs cells slots Q (F0 m (pc + 3) ls (.int r :: rest))) : W p l e R s m #[Value.ref b] below meth c H locs cells slots Q (F0 m pc ls st0) :=
  W.callR (W.runV (As := As) (rest := rest) C.fix hM (cwV n C.fix.2.2.2.2 hV rfl hrc hrs hd0 hR) (lx_pre C hI) rfl hn hz hst (lv_room hrm) hd hcs) kk
theorem lx_i {post : Int32 → XS → Prop} (hM : Met l y (ws_ y bytes maxL ret) rm (xPc (D, gx) u As) (xQi (D, gx) post) 0 0 (xA (D, gx))) (C : LC p s m meth c b L xs D gx gm) (hI : LI D gx gm s u v H locs) (hV : GoodIn lw_all (wsV R_law idx RX0 y (ws_ y bytes maxL ret)))
    (hd0 : y.cls = RX0 ∧ y.cls ≠ "java/lang/invoke/MethodHandle" ∧ y.cls ≠ "java/lang/invoke/VarHandle" ∧ (parseMethodDescriptor y.desc).map (fun d => d.parameters.length) = some n) (hn : As.length = n) (hrc : rm.cells = 0) (hrs : rm.slots = 0) (hR : rm.frames + 1 ≤ R.frames ∧ 8 + (maxL + 11) + rm.locals ≤ R.locals) (hcs : cells ≤ R.cells ∧ slots ≤ R.slots) (hz : ls.size = 4) (hst : st0 = As.reverse ++ .ref (gx.1 0) :: rest) (hrm : (rest.map fun v => v.category).sum ≤ 8) (hd : decode code pc = .ok (.invokevirtual idx, 3))
    (kk : ∀ (r1 : Int32) (u1 : XS) (H1 : Heap) (locs1 : List Loc), post r1 u1 → LI D gx gm s u1 v H1 locs1 → W p l e R s m #[Value.ref b] below meth c H1 locs1 cells slots Q (F0 m (pc + 3) ls (.int r1 :: rest))) : W p l e R s m #[Value.ref b] below meth c H locs cells slots Q (F0 m pc ls st0) := by
  refine va_calli (va_runV (As := As) (rest := rest) C.fix hM (cwV n C.fix.2.2.2.2 hV rfl hrc hrs hd0 hR) (lx_pre C hI) rfl hn hz hst (lv_room hrm) hd hcs) hI.2 (fun q _ h => C.xin h) (fun q h => C.xin h) (fun r1 u1 t H1 locs1 ht hvm hp hB hz1 hk1 hS => kk r1 u1 H1 locs1 hp ⟨?_, hS⟩)
  have hB : va_P D vwCl (XW (D, gx) u1) H1 := by rw [← ht]; exact hB
  have hj := va_join (wr := MW (D, gm) v) (wc := XW (D, gx) u) (w1 := XW (D, gx) u1) hI.1 (C.2.2 u v) [0, 1, 2, 3, 4, 5, 6] [7, 8, 9, 10, 11, 12, 13, 14] rfl rfl (by decide) (by decide) (fun q h1 h2 => hk1 q h1 (fun h3 => h2 (xA_va h3))) (va_free (C.2.2 u v) hI.2 (fun _ h => h) [0, 1, 2, 3, 4, 5, 6] rfl) hB ((C.xd u1).weaken (fun k q hk h => xA_va h))
  exact hj.1.sub (ws' := XW (D, gx) u1 ++ MW (D, gm) v) [8, 9, 10, 11, 12, 13, 14, 0, 1, 2, 3, 4, 5, 6, 7] rfl
theorem lm_pre (C : LC p s m meth c b L xs D gx gm) (hI : LI D gx gm s u v H locs) : PreV s H RX1 (gm.1 0) (mPc (D, gm) v As) As := by
  have hP : va_P D vwCl (MW (D, gm) v) H := hI.1.sub [7, 8, 9, 10, 11, 12, 13, 14] rfl
  exact ⟨gPc_blind _ _ _ _ _ _, va_recv (ci := 1) (q0 := 0) C.2.1 hP rfl rfl, fun U hU hW => ⟨rfl, va_K.moved hW.alike (C.2.1.sub (tys' := mT (D, gm)) [2] rfl), by rw [hU]; exact hP⟩⟩
theorem lm_r {r : Int32} (hM : Met l y (ws_ y bytes maxL ret) rm (mPc (D, gm) v As) (QcRead r) 0 0 (fun _ => False)) (C : LC p s m meth c b L xs D gx gm) (hI : LI D gx gm s u v H locs) (hV : GoodIn lw_all (wsV R_law idx RX1 y (ws_ y bytes maxL ret)))
    (hd0 : y.cls = RX1 ∧ y.cls ≠ "java/lang/invoke/MethodHandle" ∧ y.cls ≠ "java/lang/invoke/VarHandle" ∧ (parseMethodDescriptor y.desc).map (fun d => d.parameters.length) = some n) (hn : As.length = n) (hrc : rm.cells = 0) (hrs : rm.slots = 0) (hR : rm.frames + 1 ≤ R.frames ∧ 8 + (maxL + 11) + rm.locals ≤ R.locals) (hcs : cells ≤ R.cells ∧ slots ≤ R.slots) (hz : ls.size = 4) (hst : st0 = As.reverse ++ .ref (gm.1 0) :: rest) (hrm : (rest.map fun v => v.category).sum ≤ 8) (hd : decode code pc = .ok (.invokevirtual idx, 3))
    (kk : W p l e R s m #[Value.ref b] below meth c H locs cells slots Q (F0 m (pc + 3) ls (.int r :: rest))) : W p l e R s m #[Value.ref b] below meth c H locs cells slots Q (F0 m pc ls st0) :=
  W.callR (W.runV (As := As) (rest := rest) C.fix hM (cwV n C.fix.2.2.2.2 hV rfl hrc hrs hd0 hR) (lm_pre C hI) rfl hn hz hst (lv_room hrm) hd hcs) kk
theorem lm_i {post : Int32 → MS → Prop} (hM : Met l y (ws_ y bytes maxL ret) rm (mPc (D, gm) v As) (mQi (D, gm) post) 0 0 (mA (D, gm))) (C : LC p s m meth c b L xs D gx gm) (hI : LI D gx gm s u v H locs) (hV : GoodIn lw_all (wsV R_law idx RX1 y (ws_ y bytes maxL ret)))
    (hd0 : y.cls = RX1 ∧ y.cls ≠ "java/lang/invoke/MethodHandle" ∧ y.cls ≠ "java/lang/invoke/VarHandle" ∧ (parseMethodDescriptor y.desc).map (fun d => d.parameters.length) = some n) (hn : As.length = n) (hrc : rm.cells = 0) (hrs : rm.slots = 0) (hR : rm.frames + 1 ≤ R.frames ∧ 8 + (maxL + 11) + rm.locals ≤ R.locals) (hcs : cells ≤ R.cells ∧ slots ≤ R.slots) (hz : ls.size = 4) (hst : st0 = As.reverse ++ .ref (gm.1 0) :: rest) (hrm : (rest.map fun v => v.category).sum ≤ 8) (hd : decode code pc = .ok (.invokevirtual idx, 3))
    (kk : ∀ (r1 : Int32) (u1 : MS) (H1 : Heap) (locs1 : List Loc), post r1 u1 → LI D gx gm s u u1 H1 locs1 → W p l e R s m #[Value.ref b] below meth c H1 locs1 cells slots Q (F0 m (pc + 3) ls (.int r1 :: rest))) : W p l e R s m #[Value.ref b] below meth c H locs cells slots Q (F0 m pc ls st0) := by
  refine va_calli (va_runV (As := As) (rest := rest) C.fix hM (cwV n C.fix.2.2.2.2 hV rfl hrc hrs hd0 hR) (lm_pre C hI) rfl hn hz hst (lv_room hrm) hd hcs) hI.2 (fun q _ h => C.min h) (fun q h => C.min h) (fun r1 u1 t H1 locs1 ht hvm hp hB hz1 hk1 hS => kk r1 u1 H1 locs1 hp ⟨?_, hS⟩)
  have hB : va_P D vwCl (MW (D, gm) u1) H1 := by rw [← ht]; exact hB
  have hj := va_join (wr := XW (D, gx) u) (wc := MW (D, gm) v) (w1 := MW (D, gm) u1) hI.1 (C.2.2 u v) [7, 8, 9, 10, 11, 12, 13, 14] [0, 1, 2, 3, 4, 5, 6] rfl rfl (by decide) (by decide) (fun q h1 h2 => hk1 q h1 (fun h3 => h2 (mA_va h3))) (va_free (C.2.2 u v) hI.2 (fun _ h => h) [7, 8, 9, 10, 11, 12, 13, 14] rfl) hB ((C.md u1).weaken (fun k q hk h => mA_va h))
  exact hj.1.sub (ws' := XW (D, gx) u ++ MW (D, gm) u1) [0, 1, 2, 3, 4, 5, 6, 7, 8, 9, 10, 11, 12, 13, 14] rfl
/-- script[i + k] -/
theorem l_sld {i : Nat} (k : Nat) {kI : Int} {st0 : List Value} (C : LC p s m meth c b L xs D gx gm) (hI : LI D gx gm s u v H locs) (hL : L ≤ 256) {lv : List (Nat × Value)} (hl : lv_has ls 4 lv) (h0 : lv[0]? = some (0, .ref b)) (h3 : lv[3]? = some (3, .int (nI i))) (hi : i + k < L) (d0 : decode code pc = .ok (.aload_n 0, 1)) (d1 : decode code (pc + 1) = .ok (.iload_n 3, 1)) (d2 : decode code (pc + 2) = .ok (.iconst kI, 1)) (hk : Int32.ofInt kI = nI k) (d3 : decode code (pc + 3) = .ok (.iadd, 1)) (d4 : decode code (pc + 4) = .ok (.iaload, 1))
    (kk : W p l e R s m #[Value.ref b] below meth c H locs cells slots Q (F0 m (pc + 5) ls (.int (xs (i + k)) :: st0))) : W p l e R s m #[Value.ref b] below meth c H locs cells slots Q (F0 m pc ls st0) := by
  have hx := C.1.1
  have hb := C.1.2.1
  refine lv_aload_n hx hb d0 rfl (lv_at hl 0 h0) ?_
  refine lv_iload_n hx hb d1 rfl (lv_at hl 3 h3) ?_
  refine lv_iconst hx hb d2 hk ?_
  refine lv_iadd hx hb d3 ?_
  rw [nI_add]
  refine va_sld hx hb C.1.2.2.2.2.2.2.1 C.1.2.2.2.2.2.2.2.1 (Nat.not_le.mpr C.1.2.2.2.2.2.2.2.1) hI.2 (vp_in_nI hi (by omega)) d4 ?_
  rw [nI_clamp (by omega)]
  exact kk
end LW
end
section
/-! THE ELEVEN CASES: the two calls of a case answer alike, and what they leave is alike -/
set_option maxRecDepth 100000
def Inv (u : XS) (v : MS) : Prop := ∃ (f0 : Int32) (N : Nat) (B K w : Nat → Int32) (wc : Int32) (q : Nat → Int32) (qc : Int32) (a : Nat → Int32) (ac : Int32) (vv : Nat → Int32) (V : List Int32) (fs ts fd td wh ak sv : Nat → Int32), u = (f0, nI N, B, K, w, wc, q, qc, a, ac, vv, nI V.length) ∧ v = (nI N, fs, ts, fd, td, wh, ak, sv) ∧ Rel f0 N B K vv V fs ts fd td wh ak sv
section FN
variable {f0 : Int32} {N : Nat} {B K w : Nat → Int32} {wc : Int32} {q : Nat → Int32} {qc : Int32} {a : Nat → Int32} {ac : Int32} {vv : Nat → Int32} {V : List Int32} {fs ts fd td wh ak sv : Nat → Int32} {r1 r2 : Int32} {u1 : XS} {v1 : MS} {x y z : Int32}
theorem Inv.mk (h : Rel f0 N B K vv V fs ts fd td wh ak sv) : Inv (f0, nI N, B, K, w, wc, q, qc, a, ac, vv, nI V.length) (nI N, fs, ts, fd, td, wh, ak, sv) := ⟨f0, N, B, K, w, wc, q, qc, a, ac, vv, V, fs, ts, fd, td, wh, ak, sv, rfl, rfl, h⟩
theorem fin_dr (h : Rel f0 N B K vv V fs ts fd td wh ak sv) (hx : (okR x y z ∧ r1 = 1 ∧ u1 = (drx f0 x y z, nI N, B, K, w, wc, q, qc, a, ac, vv, nI V.length)) ∨ (¬ okR x y z ∧ r1 = 0 ∧ u1 = (f0, nI N, B, K, w, wc, q, qc, a, ac, vv, nI V.length))) (hm : (okR x y z ∧ x = 0 ∧ r2 = 1 ∧ v1 = (nI N, upd fs 10 y, upd ts 10 z, fd, td, wh, ak, sv)) ∨ (okR x y z ∧ ¬ x = 0 ∧ r2 = 1 ∧ v1 = (nI N, fs, ts, upd fd 10 y, upd td 10 z, wh, ak, sv)) ∨ (¬ okR x y z ∧ r2 = 0 ∧ v1 = (nI N, fs, ts, fd, td, wh, ak, sv))) : r1 = r2 ∧ Inv u1 v1 := by
  rcases hx with ⟨k, rfl, rfl⟩ | ⟨k, rfl, rfl⟩ <;> rcases hm with ⟨k2, e, rfl, rfl⟩ | ⟨k2, e, rfl, rfl⟩ | ⟨k2, rfl, rfl⟩
  · exact ⟨rfl, Inv.mk (op_drA h k e)⟩
  · exact ⟨rfl, Inv.mk (op_drB h k e)⟩
  · exact absurd k k2
  · exact absurd k2 k
  · exact absurd k2 k
  · exact ⟨rfl, Inv.mk h⟩
theorem fin_ds (h : Rel f0 N B K vv V fs ts fd td wh ak sv) (hx : ((0 ≤ x ∧ x ≤ 2) ∧ r1 = 1 ∧ u1 = (dsx f0 x, nI N, B, K, w, wc, q, qc, a, ac, vv, nI V.length)) ∨ (¬ (0 ≤ x ∧ x ≤ 2) ∧ r1 = 0 ∧ u1 = (f0, nI N, B, K, w, wc, q, qc, a, ac, vv, nI V.length))) (hm : ((0 ≤ x ∧ x ≤ 2) ∧ r2 = 1 ∧ v1 = (nI N, fs, ts, fd, td, upd wh 10 x, ak, sv)) ∨ (¬ (0 ≤ x ∧ x ≤ 2) ∧ r2 = 0 ∧ v1 = (nI N, fs, ts, fd, td, wh, ak, sv))) : r1 = r2 ∧ Inv u1 v1 := by
  rcases hx with ⟨k, rfl, rfl⟩ | ⟨k, rfl, rfl⟩ <;> rcases hm with ⟨k2, rfl, rfl⟩ | ⟨k2, rfl, rfl⟩
  · exact ⟨rfl, Inv.mk (op_ds h k.1 k.2)⟩
  · exact absurd k k2
  · exact absurd k2 k
  · exact ⟨rfl, Inv.mk h⟩
theorem fin_in (h : Rel f0 N B K vv V fs ts fd td wh ak sv) (hx : (10 ≤ N ∧ r1 = (-2) ∧ u1 = (f0, nI N, B, K, w, wc, q, qc, a, ac, vv, nI V.length)) ∨ (N < 10 ∧ ¬ okI x y N ∧ r1 = (-1) ∧ u1 = (f0, nI N, B, K, w, wc, q, qc, a, ac, vv, nI V.length)) ∨ (N < 10 ∧ okI x y N ∧ r1 = nI (N + 1) ∧ ∃ B1 K1, u1 = (f0, nI (N + 1), B1, K1, w, wc, q, qc, a, ac, vv, nI V.length) ∧ (∀ k, k < ix x → B1 k = B k ∧ K1 k = K k) ∧ (B1 (ix x) = f0 ∧ K1 (ix x) = y) ∧ ∀ k, ix x ≤ k → k < N → B1 (k + 1) = B k ∧ K1 (k + 1) = K k))
    (hm : (10 ≤ N ∧ r2 = (-2) ∧ v1 = (nI N, fs, ts, fd, td, wh, ak, sv)) ∨ (N < 10 ∧ ¬ okI x y N ∧ r2 = (-1) ∧ v1 = (nI N, fs, ts, fd, td, wh, ak, sv)) ∨ (N < 10 ∧ okI x y N ∧ r2 = nI (N + 1) ∧ ∃ fs1 ts1 fd1 td1 wh1 ak1, v1 = (nI (N + 1), fs1, ts1, fd1, td1, wh1, ak1, sv) ∧ (∀ k, k < ix x → rw6 fs1 ts1 fd1 td1 wh1 ak1 k = rw6 fs ts fd td wh ak k) ∧ rw6 fs1 ts1 fd1 td1 wh1 ak1 (ix x) = (fs 10, ts 10, fd 10, td 10, wh 10, y) ∧ (∀ k, ix x ≤ k → k < N → rw6 fs1 ts1 fd1 td1 wh1 ak1 (k + 1) = rw6 fs ts fd td wh ak k) ∧ rw6 fs1 ts1 fd1 td1 wh1 ak1 10 = rw6 fs ts fd td wh ak 10)) : r1 = r2 ∧ Inv u1 v1 := by
  rcases hx with ⟨k, rfl, rfl⟩ | ⟨k, g, rfl, rfl⟩ | ⟨k, g, rfl, B1, K1, rfl, x1, x2, x3⟩ <;> rcases hm with ⟨k2, rfl, rfl⟩ | ⟨k2, g2, rfl, rfl⟩ | ⟨k2, g2, rfl, fs1, ts1, fd1, td1, wh1, ak1, rfl, m1, m2, m3, m4⟩
  · exact ⟨rfl, Inv.mk h⟩
  · omega
  · omega
  · omega
  · exact ⟨rfl, Inv.mk h⟩
  · exact absurd g2 g
  · omega
  · exact absurd g g2
  · obtain ⟨j, hj, ej⟩ := okN (n := N) (nI_toInt (by omega)) g.1 g.2.1
    exact ⟨rfl, Inv.mk (op_insert h k (by rw [ej, ix, nI_clamp (by omega)]; exact hj) (i01 g.2.2.1 g.2.2.2) x1 x2 x3 m1 m2 m3 m4)⟩
theorem fin_re (h : Rel f0 N B K vv V fs ts fd td wh ak sv) (hx : (¬ isR x N ∧ r1 = (-1) ∧ u1 = (f0, nI N, B, K, w, wc, q, qc, a, ac, vv, nI V.length)) ∨ (isR x N ∧ r1 = nI (N - 1) ∧ ∃ B1 K1, u1 = (f0, nI (N - 1), B1, K1, w, wc, q, qc, a, ac, vv, nI V.length) ∧ (∀ k, k < ix x → B1 k = B k ∧ K1 k = K k) ∧ ∀ k, ix x ≤ k → k + 1 < N → B1 k = B (k + 1) ∧ K1 k = K (k + 1)))
    (hm : (¬ isR x N ∧ r2 = (-1) ∧ v1 = (nI N, fs, ts, fd, td, wh, ak, sv)) ∨ (isR x N ∧ r2 = nI (N - 1) ∧ ∃ fs1 ts1 fd1 td1 wh1 ak1, v1 = (nI (N - 1), fs1, ts1, fd1, td1, wh1, ak1, sv) ∧ (∀ k, k < ix x → rw6 fs1 ts1 fd1 td1 wh1 ak1 k = rw6 fs ts fd td wh ak k) ∧ (∀ k, ix x ≤ k → k + 1 < N → rw6 fs1 ts1 fd1 td1 wh1 ak1 k = rw6 fs ts fd td wh ak (k + 1)) ∧ rw6 fs1 ts1 fd1 td1 wh1 ak1 10 = rw6 fs ts fd td wh ak 10)) : r1 = r2 ∧ Inv u1 v1 := by
  rcases hx with ⟨k, rfl, rfl⟩ | ⟨k, rfl, B1, K1, rfl, x1, x3⟩ <;> rcases hm with ⟨k2, rfl, rfl⟩ | ⟨k2, rfl, fs1, ts1, fd1, td1, wh1, ak1, rfl, m1, m3, m4⟩
  · exact ⟨rfl, Inv.mk h⟩
  · exact absurd k2 k
  · exact absurd k k2
  · obtain ⟨i, hi, ei⟩ := isR_ix h.1 k
    exact ⟨rfl, Inv.mk (op_remove h (by rw [ei, ix, nI_clamp (by have := h.1; omega)]; exact hi) x1 x3 m1 m3 m4)⟩
theorem fin_de (h : Rel f0 N B K vv V fs ts fd td wh ak sv) : (if okP x y z then fsm (fun j => decide (bMt (B j) (ptx x y z))) 0 N else (-1)) = (if okP x y z then mF fs ts fd td wh N (((32 * x) + (2 * y)) + z) (-1) else (-1)) := by
  by_cases k : okP x y z
  · rw [if_pos k, if_pos k, op_decider h k]
  · rw [if_neg k, if_neg k]
theorem fin_ow (h : Rel f0 N B K vv V fs ts fd td wh ak sv) : (if isR x N then volA (ownL B (ix x)) (ownL B (ix x)).length else (-1)) = (if isR x N then nI (ctb (mOwn fs ts fd td wh N x) 512) else (-1)) := by
  by_cases k : isR x N
  · rw [if_pos k, if_pos k]
    obtain ⟨i, hi, rfl⟩ := isR_ix h.1 k
    rw [ix_nI (by have := h.1; omega), op_owned h hi]
  · rw [if_neg k, if_neg k]
theorem fin_fo (h : Rel f0 N B K vv V fs ts fd td wh ak sv) : (if isR x N then lowA (-3) (ownL B (ix x)) (ownL B (ix x)).length else (-1)) = (if isR x N then fsm (mOwn fs ts fd td wh N x) 0 512 else (-1)) := by
  by_cases k : isR x N
  · rw [if_pos k, if_pos k]
    obtain ⟨i, hi, rfl⟩ := isR_ix h.1 k
    rw [ix_nI (by have := h.1; omega), op_firstOwned h hi]
  · rw [if_neg k, if_neg k]
theorem fin_fa (h : Rel f0 N B K vv V fs ts fd td wh ak sv) : (if isR x N then fltB (decide (ownL B (ix x) = [])) (ovrB B K (ix x)) (repB B K (ownL B (ix x)) (ix x) N) (corB B K (ix x)) (genB B K (ix x)) else (-1)) = (if isR x N then fltB (decide (nI (ctb (mOwn fs ts fd td wh N (nI (ix x))) 512) = 0)) (anb (mCon fs ts fd td wh ak N (ix x)) 0 512) (!anb (mMis fs ts fd td wh ak N (ix x)) 0 512) (anb (mCo fs ts fd td wh ak (ix x)) 0 (ix x)) (anb (mGe fs ts fd td wh ak (ix x)) 0 (ix x)) else (-1)) := by
  by_cases k : isR x N
  · rw [if_pos k, if_pos k]
    obtain ⟨i, hi, rfl⟩ := isR_ix h.1 k
    rw [ix_nI (by have := h.1; omega), op_empty h hi, op_ovr h hi, op_rep h hi, op_cor h hi, op_gen h hi]
  · rw [if_neg k, if_neg k]
end FN
section CS
variable {p : Program} {l : Launch} {e : Env} {s : State} {m : MethodId} {below : List Frame} {meth : Method} {c : Code} {H : Heap} {locs : List Loc} {Q : State → Prop} {b L : Nat} {xs : Nat → Int32} {D : va_G} {gx gm : (Nat → Nat) × ClassId × ClassId} {u : XS} {v : MS} {ls : Array Slot} {i : Nat}
set_option maxHeartbeats 2000000 in
theorem lc_0 (C : LC p s m meth c b L xs D gx gm) (hL : L ≤ 256) (hi : i + 3 < L) (hV : Inv u v) (hI : LI D gx gm s u v H locs) (hl : lv_has ls 4 [(0, .ref b), (1, .ref (gx.1 0)), (2, .ref (gm.1 0)), (3, .int (nI i))]) (kk : ∀ (u : XS) (v : MS) (H : Heap) (locs : List Loc), Inv u v → LI D gx gm s u v H locs → W p l e room_1 s m #[Value.ref b] below meth c H locs 15 2666 Q (F0 m 365 ls [])) : W p l e room_1 s m #[Value.ref b] below meth c H locs 15 2666 Q (F0 m 92 ls []) := by
  obtain ⟨f0, N, B, K, w, wc, q, qc, a, ac, vv, V, fs, ts, fd, td, wh, ak, sv, rfl, rfl, h⟩ := hV
  have hx := C.1.1
  have hb := C.1.2.1
  refine lv_aload_n hx hb dL_law_92 rfl (lv_at hl 1 rfl) ?_
  refine l_sld 1 C hI hL hl rfl rfl (by omega) dL_law_93 dL_law_94 dL_law_95 (by decide) dL_law_96 dL_law_97 ?_
  refine l_sld 2 C hI hL hl rfl rfl (by omega) dL_law_98 dL_law_99 dL_law_100 (by decide) dL_law_101 dL_law_102 ?_
  refine l_sld 3 C hI hL hl rfl rfl (by omega) dL_law_103 dL_law_104 dL_law_105 (by decide) dL_law_106 dL_law_107 ?_
  refine lx_i (n := 3) (As := [.int (xs (i + 1)), .int (xs (i + 2)), .int (xs (i + 3))]) (metx_draftRange l (D, gx) C.xd f0 (nI N) B K w wc q qc a ac vv (nI V.length) (xs (i + 1)) (xs (i + 2)) (xs (i + 3))) C hI (lw_V q86 q87 q88 q37 q89) (by decide +kernel) rfl rfl rfl ⟨Nat.le_of_ble_eq_true rfl, Nat.le_of_ble_eq_true rfl⟩ ⟨Nat.le_of_ble_eq_true rfl, Nat.le_of_ble_eq_true rfl⟩ hl.1 rfl (Nat.le_of_ble_eq_true rfl) dL_law_108 (fun r1 u1 H locs hp1 hI => ?_)
  refine lv_aload_n hx hb dL_law_111 rfl (lv_at hl 2 rfl) ?_
  refine l_sld 1 C hI hL hl rfl rfl (by omega) dL_law_112 dL_law_113 dL_law_114 (by decide) dL_law_115 dL_law_116 ?_
  refine l_sld 2 C hI hL hl rfl rfl (by omega) dL_law_117 dL_law_118 dL_law_119 (by decide) dL_law_120 dL_law_121 ?_
  refine l_sld 3 C hI hL hl rfl rfl (by omega) dL_law_122 dL_law_123 dL_law_124 (by decide) dL_law_125 dL_law_126 ?_
  refine lm_i (n := 3) (As := [.int (xs (i + 1)), .int (xs (i + 2)), .int (xs (i + 3))]) (metm_draftRange l (D, gm) C.md (nI N) fs ts fd td wh ak sv (xs (i + 1)) (xs (i + 2)) (xs (i + 3))) C hI (lw_V q265 q266 q267 q38 q268) (by decide +kernel) rfl rfl rfl ⟨Nat.le_of_ble_eq_true rfl, Nat.le_of_ble_eq_true rfl⟩ ⟨Nat.le_of_ble_eq_true rfl, Nat.le_of_ble_eq_true rfl⟩ hl.1 rfl (Nat.le_of_ble_eq_true rfl) dL_law_127 (fun r2 v2 H locs hp2 hI => ?_)
  obtain ⟨he, hV⟩ := fin_dr h hp1 hp2
  exact lv_icmp_eq (tgt := 365) hx hb dL_law_130 (by decide) (fun _ => kk _ _ _ _ hV hI) (fun g => absurd he g)
set_option maxHeartbeats 2000000 in
theorem lc_1 (C : LC p s m meth c b L xs D gx gm) (hL : L ≤ 256) (hi : i + 3 < L) (hV : Inv u v) (hI : LI D gx gm s u v H locs) (hl : lv_has ls 4 [(0, .ref b), (1, .ref (gx.1 0)), (2, .ref (gm.1 0)), (3, .int (nI i))]) (kk : ∀ (u : XS) (v : MS) (H : Heap) (locs : List Loc), Inv u v → LI D gx gm s u v H locs → W p l e room_1 s m #[Value.ref b] below meth c H locs 15 2666 Q (F0 m 365 ls [])) : W p l e room_1 s m #[Value.ref b] below meth c H locs 15 2666 Q (F0 m 135 ls []) := by
  obtain ⟨f0, N, B, K, w, wc, q, qc, a, ac, vv, V, fs, ts, fd, td, wh, ak, sv, rfl, rfl, h⟩ := hV
  have hx := C.1.1
  have hb := C.1.2.1
  refine lv_aload_n hx hb dL_law_135 rfl (lv_at hl 1 rfl) ?_
  refine l_sld 1 C hI hL hl rfl rfl (by omega) dL_law_136 dL_law_137 dL_law_138 (by decide) dL_law_139 dL_law_140 ?_
  refine lx_i (n := 1) (As := [.int (xs (i + 1))]) (metx_draftSet l (D, gx) C.xd f0 (nI N) B K w wc q qc a ac vv (nI V.length) (xs (i + 1))) C hI (lw_V q90 q91 q92 q37 q93) (by decide +kernel) rfl rfl rfl ⟨Nat.le_of_ble_eq_true rfl, Nat.le_of_ble_eq_true rfl⟩ ⟨Nat.le_of_ble_eq_true rfl, Nat.le_of_ble_eq_true rfl⟩ hl.1 rfl (Nat.le_of_ble_eq_true rfl) dL_law_141 (fun r1 u1 H locs hp1 hI => ?_)
  refine lv_aload_n hx hb dL_law_144 rfl (lv_at hl 2 rfl) ?_
  refine l_sld 1 C hI hL hl rfl rfl (by omega) dL_law_145 dL_law_146 dL_law_147 (by decide) dL_law_148 dL_law_149 ?_
  refine lm_i (n := 1) (As := [.int (xs (i + 1))]) (metm_draftSet l (D, gm) C.md (nI N) fs ts fd td wh ak sv (xs (i + 1))) C hI (lw_V q269 q270 q271 q38 q272) (by decide +kernel) rfl rfl rfl ⟨Nat.le_of_ble_eq_true rfl, Nat.le_of_ble_eq_true rfl⟩ ⟨Nat.le_of_ble_eq_true rfl, Nat.le_of_ble_eq_true rfl⟩ hl.1 rfl (Nat.le_of_ble_eq_true rfl) dL_law_150 (fun r2 v2 H locs hp2 hI => ?_)
  obtain ⟨he, hV⟩ := fin_ds h hp1 hp2
  exact lv_icmp_eq (tgt := 365) hx hb dL_law_153 (by decide) (fun _ => kk _ _ _ _ hV hI) (fun g => absurd he g)
set_option maxHeartbeats 2000000 in
theorem lc_2 (C : LC p s m meth c b L xs D gx gm) (hL : L ≤ 256) (hi : i + 3 < L) (hV : Inv u v) (hI : LI D gx gm s u v H locs) (hl : lv_has ls 4 [(0, .ref b), (1, .ref (gx.1 0)), (2, .ref (gm.1 0)), (3, .int (nI i))]) (kk : ∀ (u : XS) (v : MS) (H : Heap) (locs : List Loc), Inv u v → LI D gx gm s u v H locs → W p l e room_1 s m #[Value.ref b] below meth c H locs 15 2666 Q (F0 m 365 ls [])) : W p l e room_1 s m #[Value.ref b] below meth c H locs 15 2666 Q (F0 m 158 ls []) := by
  obtain ⟨f0, N, B, K, w, wc, q, qc, a, ac, vv, V, fs, ts, fd, td, wh, ak, sv, rfl, rfl, h⟩ := hV
  have hx := C.1.1
  have hb := C.1.2.1
  refine lv_aload_n hx hb dL_law_158 rfl (lv_at hl 1 rfl) ?_
  refine l_sld 1 C hI hL hl rfl rfl (by omega) dL_law_159 dL_law_160 dL_law_161 (by decide) dL_law_162 dL_law_163 ?_
  refine l_sld 2 C hI hL hl rfl rfl (by omega) dL_law_164 dL_law_165 dL_law_166 (by decide) dL_law_167 dL_law_168 ?_
  refine lx_i (n := 2) (As := [.int (xs (i + 1)), .int (xs (i + 2))]) (metx_insert l (D, gx) C.xd f0 B K w wc q qc a ac vv (nI V.length) (xs (i + 1)) (xs (i + 2)) N h.1 (fun k hk => (h.2.2.2.1 k hk).2)) C hI (lw_V q94 q95 q96 q37 q97) (by decide +kernel) rfl rfl rfl ⟨Nat.le_of_ble_eq_true rfl, Nat.le_of_ble_eq_true rfl⟩ ⟨Nat.le_of_ble_eq_true rfl, Nat.le_of_ble_eq_true rfl⟩ hl.1 rfl (Nat.le_of_ble_eq_true rfl) dL_law_169 (fun r1 u1 H locs hp1 hI => ?_)
  refine lv_aload_n hx hb dL_law_172 rfl (lv_at hl 2 rfl) ?_
  refine l_sld 1 C hI hL hl rfl rfl (by omega) dL_law_173 dL_law_174 dL_law_175 (by decide) dL_law_176 dL_law_177 ?_
  refine l_sld 2 C hI hL hl rfl rfl (by omega) dL_law_178 dL_law_179 dL_law_180 (by decide) dL_law_181 dL_law_182 ?_
  refine lm_i (n := 2) (As := [.int (xs (i + 1)), .int (xs (i + 2))]) (metm_insert l (D, gm) C.md fs ts fd td wh ak sv (xs (i + 1)) (xs (i + 2)) N h.1) C hI (lw_V q273 q274 q275 q38 q276) (by decide +kernel) rfl rfl rfl ⟨Nat.le_of_ble_eq_true rfl, Nat.le_of_ble_eq_true rfl⟩ ⟨Nat.le_of_ble_eq_true rfl, Nat.le_of_ble_eq_true rfl⟩ hl.1 rfl (Nat.le_of_ble_eq_true rfl) dL_law_183 (fun r2 v2 H locs hp2 hI => ?_)
  obtain ⟨he, hV⟩ := fin_in h hp1 hp2
  exact lv_icmp_eq (tgt := 365) hx hb dL_law_186 (by decide) (fun _ => kk _ _ _ _ hV hI) (fun g => absurd he g)
set_option maxHeartbeats 2000000 in
theorem lc_3 (C : LC p s m meth c b L xs D gx gm) (hL : L ≤ 256) (hi : i + 3 < L) (hV : Inv u v) (hI : LI D gx gm s u v H locs) (hl : lv_has ls 4 [(0, .ref b), (1, .ref (gx.1 0)), (2, .ref (gm.1 0)), (3, .int (nI i))]) (kk : ∀ (u : XS) (v : MS) (H : Heap) (locs : List Loc), Inv u v → LI D gx gm s u v H locs → W p l e room_1 s m #[Value.ref b] below meth c H locs 15 2666 Q (F0 m 365 ls [])) : W p l e room_1 s m #[Value.ref b] below meth c H locs 15 2666 Q (F0 m 191 ls []) := by
  obtain ⟨f0, N, B, K, w, wc, q, qc, a, ac, vv, V, fs, ts, fd, td, wh, ak, sv, rfl, rfl, h⟩ := hV
  have hx := C.1.1
  have hb := C.1.2.1
  refine lv_aload_n hx hb dL_law_191 rfl (lv_at hl 1 rfl) ?_
  refine l_sld 1 C hI hL hl rfl rfl (by omega) dL_law_192 dL_law_193 dL_law_194 (by decide) dL_law_195 dL_law_196 ?_
  refine lx_i (n := 1) (As := [.int (xs (i + 1))]) (metx_remove l (D, gx) C.xd f0 B K w wc q qc a ac vv (nI V.length) (xs (i + 1)) N h.1 (fun k hk => (h.2.2.2.1 k hk).2)) C hI (lw_V q98 q99 q100 q37 q101) (by decide +kernel) rfl rfl rfl ⟨Nat.le_of_ble_eq_true rfl, Nat.le_of_ble_eq_true rfl⟩ ⟨Nat.le_of_ble_eq_true rfl, Nat.le_of_ble_eq_true rfl⟩ hl.1 rfl (Nat.le_of_ble_eq_true rfl) dL_law_197 (fun r1 u1 H locs hp1 hI => ?_)
  refine lv_aload_n hx hb dL_law_200 rfl (lv_at hl 2 rfl) ?_
  refine l_sld 1 C hI hL hl rfl rfl (by omega) dL_law_201 dL_law_202 dL_law_203 (by decide) dL_law_204 dL_law_205 ?_
  refine lm_i (n := 1) (As := [.int (xs (i + 1))]) (metm_remove l (D, gm) C.md fs ts fd td wh ak sv (xs (i + 1)) N h.1) C hI (lw_V q281 q282 q283 q38 q284) (by decide +kernel) rfl rfl rfl ⟨Nat.le_of_ble_eq_true rfl, Nat.le_of_ble_eq_true rfl⟩ ⟨Nat.le_of_ble_eq_true rfl, Nat.le_of_ble_eq_true rfl⟩ hl.1 rfl (Nat.le_of_ble_eq_true rfl) dL_law_206 (fun r2 v2 H locs hp2 hI => ?_)
  obtain ⟨he, hV⟩ := fin_re h hp1 hp2
  exact lv_icmp_eq (tgt := 365) hx hb dL_law_209 (by decide) (fun _ => kk _ _ _ _ hV hI) (fun g => absurd he g)
set_option maxHeartbeats 2000000 in
theorem lc_4 (C : LC p s m meth c b L xs D gx gm) (hL : L ≤ 256) (hi : i + 3 < L) (hV : Inv u v) (hI : LI D gx gm s u v H locs) (hl : lv_has ls 4 [(0, .ref b), (1, .ref (gx.1 0)), (2, .ref (gm.1 0)), (3, .int (nI i))]) (kk : ∀ (u : XS) (v : MS) (H : Heap) (locs : List Loc), Inv u v → LI D gx gm s u v H locs → W p l e room_1 s m #[Value.ref b] below meth c H locs 15 2666 Q (F0 m 365 ls [])) : W p l e room_1 s m #[Value.ref b] below meth c H locs 15 2666 Q (F0 m 214 ls []) := by
  obtain ⟨f0, N, B, K, w, wc, q, qc, a, ac, vv, V, fs, ts, fd, td, wh, ak, sv, rfl, rfl, h⟩ := hV
  have hx := C.1.1
  have hb := C.1.2.1
  refine lv_aload_n hx hb dL_law_214 rfl (lv_at hl 1 rfl) ?_
  refine l_sld 1 C hI hL hl rfl rfl (by omega) dL_law_215 dL_law_216 dL_law_217 (by decide) dL_law_218 dL_law_219 ?_
  refine l_sld 2 C hI hL hl rfl rfl (by omega) dL_law_220 dL_law_221 dL_law_222 (by decide) dL_law_223 dL_law_224 ?_
  refine l_sld 3 C hI hL hl rfl rfl (by omega) dL_law_225 dL_law_226 dL_law_227 (by decide) dL_law_228 dL_law_229 ?_
  refine lx_r (n := 3) (As := [.int (xs (i + 1)), .int (xs (i + 2)), .int (xs (i + 3))]) (metx_decider l (D, gx) C.xd f0 B K w wc q qc a ac vv (nI V.length) (xs (i + 1)) (xs (i + 2)) (xs (i + 3)) N h.1) C hI (lw_V q106 q107 q108 q37 q109) (by decide +kernel) rfl rfl rfl ⟨Nat.le_of_ble_eq_true rfl, Nat.le_of_ble_eq_true rfl⟩ ⟨Nat.le_of_ble_eq_true rfl, Nat.le_of_ble_eq_true rfl⟩ hl.1 rfl (Nat.le_of_ble_eq_true rfl) dL_law_230 ?_
  refine lv_aload_n hx hb dL_law_233 rfl (lv_at hl 2 rfl) ?_
  refine l_sld 1 C hI hL hl rfl rfl (by omega) dL_law_234 dL_law_235 dL_law_236 (by decide) dL_law_237 dL_law_238 ?_
  refine l_sld 2 C hI hL hl rfl rfl (by omega) dL_law_239 dL_law_240 dL_law_241 (by decide) dL_law_242 dL_law_243 ?_
  refine l_sld 3 C hI hL hl rfl rfl (by omega) dL_law_244 dL_law_245 dL_law_246 (by decide) dL_law_247 dL_law_248 ?_
  refine lm_r (n := 3) (As := [.int (xs (i + 1)), .int (xs (i + 2)), .int (xs (i + 3))]) (metm_decider l (D, gm) C.md fs ts fd td wh ak sv (xs (i + 1)) (xs (i + 2)) (xs (i + 3)) N h.1) C hI (lw_V q289 q290 q291 q38 q292) (by decide +kernel) rfl rfl rfl ⟨Nat.le_of_ble_eq_true rfl, Nat.le_of_ble_eq_true rfl⟩ ⟨Nat.le_of_ble_eq_true rfl, Nat.le_of_ble_eq_true rfl⟩ hl.1 rfl (Nat.le_of_ble_eq_true rfl) dL_law_249 ?_
  exact lv_icmp_eq (tgt := 365) hx hb dL_law_252 (by decide) (fun _ => kk _ _ _ _ (Inv.mk h) hI) (fun g => absurd (fin_de h) g)
set_option maxHeartbeats 2000000 in
theorem lc_5 (C : LC p s m meth c b L xs D gx gm) (hL : L ≤ 256) (hi : i + 3 < L) (hV : Inv u v) (hI : LI D gx gm s u v H locs) (hl : lv_has ls 4 [(0, .ref b), (1, .ref (gx.1 0)), (2, .ref (gm.1 0)), (3, .int (nI i))]) (kk : ∀ (u : XS) (v : MS) (H : Heap) (locs : List Loc), Inv u v → LI D gx gm s u v H locs → W p l e room_1 s m #[Value.ref b] below meth c H locs 15 2666 Q (F0 m 365 ls [])) : W p l e room_1 s m #[Value.ref b] below meth c H locs 15 2666 Q (F0 m 257 ls []) := by
  obtain ⟨f0, N, B, K, w, wc, q, qc, a, ac, vv, V, fs, ts, fd, td, wh, ak, sv, rfl, rfl, h⟩ := hV
  have hx := C.1.1
  have hb := C.1.2.1
  refine lv_aload_n hx hb dL_law_257 rfl (lv_at hl 1 rfl) ?_
  refine l_sld 1 C hI hL hl rfl rfl (by omega) dL_law_258 dL_law_259 dL_law_260 (by decide) dL_law_261 dL_law_262 ?_
  refine lx_i (n := 1) (As := [.int (xs (i + 1))]) (metx_owned l (D, gx) C.xd f0 B K w wc q qc a ac vv (nI V.length) (xs (i + 1)) N h.1 h.b1) C hI (lw_V q138 q139 q140 q37 q141) (by decide +kernel) rfl rfl rfl ⟨Nat.le_of_ble_eq_true rfl, Nat.le_of_ble_eq_true rfl⟩ ⟨Nat.le_of_ble_eq_true rfl, Nat.le_of_ble_eq_true rfl⟩ hl.1 rfl (Nat.le_of_ble_eq_true rfl) dL_law_263 (fun r1 u1 H locs hp1 hI => ?_)
  obtain ⟨hp1, w1, wc1, q1, qc1, rfl⟩ := hp1
  refine lv_aload_n hx hb dL_law_266 rfl (lv_at hl 2 rfl) ?_
  refine l_sld 1 C hI hL hl rfl rfl (by omega) dL_law_267 dL_law_268 dL_law_269 (by decide) dL_law_270 dL_law_271 ?_
  refine lm_r (n := 1) (As := [.int (xs (i + 1))]) (metm_owned l (D, gm) C.md fs ts fd td wh ak sv (xs (i + 1)) N h.1) C hI (lw_V q301 q302 q303 q38 q304) (by decide +kernel) rfl rfl rfl ⟨Nat.le_of_ble_eq_true rfl, Nat.le_of_ble_eq_true rfl⟩ ⟨Nat.le_of_ble_eq_true rfl, Nat.le_of_ble_eq_true rfl⟩ hl.1 rfl (Nat.le_of_ble_eq_true rfl) dL_law_272 ?_
  exact lv_icmp_eq (tgt := 365) hx hb dL_law_275 (by decide) (fun _ => kk _ _ _ _ (Inv.mk h) hI) (fun g => absurd (hp1.trans (fin_ow h)) g)
set_option maxHeartbeats 2000000 in
theorem lc_6 (C : LC p s m meth c b L xs D gx gm) (hL : L ≤ 256) (hi : i + 3 < L) (hV : Inv u v) (hI : LI D gx gm s u v H locs) (hl : lv_has ls 4 [(0, .ref b), (1, .ref (gx.1 0)), (2, .ref (gm.1 0)), (3, .int (nI i))]) (kk : ∀ (u : XS) (v : MS) (H : Heap) (locs : List Loc), Inv u v → LI D gx gm s u v H locs → W p l e room_1 s m #[Value.ref b] below meth c H locs 15 2666 Q (F0 m 365 ls [])) : W p l e room_1 s m #[Value.ref b] below meth c H locs 15 2666 Q (F0 m 280 ls []) := by
  obtain ⟨f0, N, B, K, w, wc, q, qc, a, ac, vv, V, fs, ts, fd, td, wh, ak, sv, rfl, rfl, h⟩ := hV
  have hx := C.1.1
  have hb := C.1.2.1
  refine lv_aload_n hx hb dL_law_280 rfl (lv_at hl 1 rfl) ?_
  refine l_sld 1 C hI hL hl rfl rfl (by omega) dL_law_281 dL_law_282 dL_law_283 (by decide) dL_law_284 dL_law_285 ?_
  refine lx_i (n := 1) (As := [.int (xs (i + 1))]) (metx_firstOwned l (D, gx) C.xd f0 B K w wc q qc a ac vv (nI V.length) (xs (i + 1)) N h.1 h.b1) C hI (lw_V q186 q187 q188 q37 q189) (by decide +kernel) rfl rfl rfl ⟨Nat.le_of_ble_eq_true rfl, Nat.le_of_ble_eq_true rfl⟩ ⟨Nat.le_of_ble_eq_true rfl, Nat.le_of_ble_eq_true rfl⟩ hl.1 rfl (Nat.le_of_ble_eq_true rfl) dL_law_286 (fun r1 u1 H locs hp1 hI => ?_)
  obtain ⟨hp1, w1, wc1, q1, qc1, rfl⟩ := hp1
  refine lv_aload_n hx hb dL_law_289 rfl (lv_at hl 2 rfl) ?_
  refine l_sld 1 C hI hL hl rfl rfl (by omega) dL_law_290 dL_law_291 dL_law_292 (by decide) dL_law_293 dL_law_294 ?_
  refine lm_r (n := 1) (As := [.int (xs (i + 1))]) (metm_firstOwned l (D, gm) C.md fs ts fd td wh ak sv (xs (i + 1)) N h.1) C hI (lw_V q305 q306 q307 q38 q308) (by decide +kernel) rfl rfl rfl ⟨Nat.le_of_ble_eq_true rfl, Nat.le_of_ble_eq_true rfl⟩ ⟨Nat.le_of_ble_eq_true rfl, Nat.le_of_ble_eq_true rfl⟩ hl.1 rfl (Nat.le_of_ble_eq_true rfl) dL_law_295 ?_
  exact lv_icmp_eq (tgt := 365) hx hb dL_law_298 (by decide) (fun _ => kk _ _ _ _ (Inv.mk h) hI) (fun g => absurd (hp1.trans (fin_fo h)) g)
set_option maxHeartbeats 2000000 in
theorem lc_7 (C : LC p s m meth c b L xs D gx gm) (hL : L ≤ 256) (hi : i + 3 < L) (hV : Inv u v) (hI : LI D gx gm s u v H locs) (hl : lv_has ls 4 [(0, .ref b), (1, .ref (gx.1 0)), (2, .ref (gm.1 0)), (3, .int (nI i))]) (kk : ∀ (u : XS) (v : MS) (H : Heap) (locs : List Loc), Inv u v → LI D gx gm s u v H locs → W p l e room_1 s m #[Value.ref b] below meth c H locs 15 2666 Q (F0 m 365 ls [])) : W p l e room_1 s m #[Value.ref b] below meth c H locs 15 2666 Q (F0 m 303 ls []) := by
  obtain ⟨f0, N, B, K, w, wc, q, qc, a, ac, vv, V, fs, ts, fd, td, wh, ak, sv, rfl, rfl, h⟩ := hV
  have hx := C.1.1
  have hb := C.1.2.1
  refine lv_aload_n hx hb dL_law_303 rfl (lv_at hl 1 rfl) ?_
  refine l_sld 1 C hI hL hl rfl rfl (by omega) dL_law_304 dL_law_305 dL_law_306 (by decide) dL_law_307 dL_law_308 ?_
  refine lx_i (n := 1) (As := [.int (xs (i + 1))]) (metx_fault l (D, gx) C.xd f0 B K w wc q qc a ac vv (nI V.length) (xs (i + 1)) N h.1 h.b1 h.b3) C hI (lw_V q194 q195 q196 q37 q197) (by decide +kernel) rfl rfl rfl ⟨Nat.le_of_ble_eq_true rfl, Nat.le_of_ble_eq_true rfl⟩ ⟨Nat.le_of_ble_eq_true rfl, Nat.le_of_ble_eq_true rfl⟩ hl.1 rfl (Nat.le_of_ble_eq_true rfl) dL_law_309 (fun r1 u1 H locs hp1 hI => ?_)
  obtain ⟨hp1, w1, wc1, q1, qc1, rfl⟩ := hp1
  refine lv_aload_n hx hb dL_law_312 rfl (lv_at hl 2 rfl) ?_
  refine l_sld 1 C hI hL hl rfl rfl (by omega) dL_law_313 dL_law_314 dL_law_315 (by decide) dL_law_316 dL_law_317 ?_
  refine lm_r (n := 1) (As := [.int (xs (i + 1))]) (metm_fault l (D, gm) C.md fs ts fd td wh ak sv (xs (i + 1)) N h.1) C hI (lw_V q309 q310 q311 q38 q312) (by decide +kernel) rfl rfl rfl ⟨Nat.le_of_ble_eq_true rfl, Nat.le_of_ble_eq_true rfl⟩ ⟨Nat.le_of_ble_eq_true rfl, Nat.le_of_ble_eq_true rfl⟩ hl.1 rfl (Nat.le_of_ble_eq_true rfl) dL_law_318 ?_
  exact lv_icmp_eq (tgt := 365) hx hb dL_law_321 (by decide) (fun _ => kk _ _ _ _ (Inv.mk h) hI) (fun g => absurd (hp1.trans (fin_fa h)) g)
set_option maxHeartbeats 2000000 in
theorem lc_8 (C : LC p s m meth c b L xs D gx gm) (hL : L ≤ 256) (hi : i + 3 < L) (hV : Inv u v) (hI : LI D gx gm s u v H locs) (hl : lv_has ls 4 [(0, .ref b), (1, .ref (gx.1 0)), (2, .ref (gm.1 0)), (3, .int (nI i))]) (kk : ∀ (u : XS) (v : MS) (H : Heap) (locs : List Loc), Inv u v → LI D gx gm s u v H locs → W p l e room_1 s m #[Value.ref b] below meth c H locs 15 2666 Q (F0 m 365 ls [])) : W p l e room_1 s m #[Value.ref b] below meth c H locs 15 2666 Q (F0 m 326 ls []) := by
  obtain ⟨f0, N, B, K, w, wc, q, qc, a, ac, vv, V, fs, ts, fd, td, wh, ak, sv, rfl, rfl, h⟩ := hV
  have hx := C.1.1
  have hb := C.1.2.1
  refine lv_aload_n hx hb dL_law_326 rfl (lv_at hl 1 rfl) ?_
  refine lx_i (n := 0) (As := []) (metx_save l (D, gx) C.xd f0 B K w wc q qc a ac vv (nI V.length) N h.1 h.b1 h.b2) C hI (lw_V q210 q211 q212 q37 q213) (by decide +kernel) rfl rfl rfl ⟨Nat.le_of_ble_eq_true rfl, Nat.le_of_ble_eq_true rfl⟩ ⟨Nat.le_of_ble_eq_true rfl, Nat.le_of_ble_eq_true rfl⟩ hl.1 rfl (Nat.le_of_ble_eq_true rfl) dL_law_327 (fun r1 u1 H locs hp1 hI => ?_)
  obtain ⟨hp1, w1, wc1, q1, qc1, a1, v1, rfl, hv1⟩ := hp1
  refine lv_aload_n hx hb dL_law_330 rfl (lv_at hl 2 rfl) ?_
  refine lm_i (n := 0) (As := []) (metm_save l (D, gm) C.md fs ts fd td wh ak sv N h.1) C hI (lw_V q338 q339 q340 q38 q341) (by decide +kernel) rfl rfl rfl ⟨Nat.le_of_ble_eq_true rfl, Nat.le_of_ble_eq_true rfl⟩ ⟨Nat.le_of_ble_eq_true rfl, Nat.le_of_ble_eq_true rfl⟩ hl.1 rfl (Nat.le_of_ble_eq_true rfl) dL_law_331 (fun r2 v2 H locs hp2 hI => ?_)
  obtain ⟨hp2, sv1, rfl, hs1⟩ := hp2
  exact lv_icmp_eq (tgt := 365) hx hb dL_law_334 (by decide) (fun _ => kk _ _ _ _ (Inv.mk (op_saved h hv1 hs1)) hI) (fun g => absurd (hp1.trans ((op_save h).trans hp2.symm)) g)
set_option maxHeartbeats 2000000 in
theorem lc_9 (C : LC p s m meth c b L xs D gx gm) (hL : L ≤ 256) (hi : i + 3 < L) (hV : Inv u v) (hI : LI D gx gm s u v H locs) (hl : lv_has ls 4 [(0, .ref b), (1, .ref (gx.1 0)), (2, .ref (gm.1 0)), (3, .int (nI i))]) (kk : ∀ (u : XS) (v : MS) (H : Heap) (locs : List Loc), Inv u v → LI D gx gm s u v H locs → W p l e room_1 s m #[Value.ref b] below meth c H locs 15 2666 Q (F0 m 365 ls [])) : W p l e room_1 s m #[Value.ref b] below meth c H locs 15 2666 Q (F0 m 339 ls []) := by
  obtain ⟨f0, N, B, K, w, wc, q, qc, a, ac, vv, V, fs, ts, fd, td, wh, ak, sv, rfl, rfl, h⟩ := hV
  have hx := C.1.1
  have hb := C.1.2.1
  refine lv_aload_n hx hb dL_law_339 rfl (lv_at hl 1 rfl) ?_
  refine lx_i (n := 0) (As := []) (metx_changed l (D, gx) C.xd f0 B K w wc q qc a ac vv N V h.1 h.b1 h.b2 h.2.2.2.2.1 h.vlen h.d1 h.d2) C hI (lw_V q218 q219 q220 q37 q221) (by decide +kernel) rfl rfl rfl ⟨Nat.le_of_ble_eq_true rfl, Nat.le_of_ble_eq_true rfl⟩ ⟨Nat.le_of_ble_eq_true rfl, Nat.le_of_ble_eq_true rfl⟩ hl.1 rfl (Nat.le_of_ble_eq_true rfl) dL_law_340 (fun r1 u1 H locs hp1 hI => ?_)
  obtain ⟨hp1, w1, wc1, q1, qc1, a1, ac1, rfl⟩ := hp1
  refine lv_aload_n hx hb dL_law_343 rfl (lv_at hl 2 rfl) ?_
  refine lm_r (n := 0) (As := []) (metm_changed l (D, gm) C.md fs ts fd td wh ak sv N h.1) C hI (lw_V q342 q343 q344 q38 q345) (by decide +kernel) rfl rfl rfl ⟨Nat.le_of_ble_eq_true rfl, Nat.le_of_ble_eq_true rfl⟩ ⟨Nat.le_of_ble_eq_true rfl, Nat.le_of_ble_eq_true rfl⟩ hl.1 rfl (Nat.le_of_ble_eq_true rfl) dL_law_344 ?_
  exact lv_icmp_eq (tgt := 365) hx hb dL_law_347 (by decide) (fun _ => kk _ _ _ _ (Inv.mk h) hI) (fun g => absurd (hp1.trans (op_changed h)) g)
set_option maxHeartbeats 2000000 in
theorem lc_10 (C : LC p s m meth c b L xs D gx gm) (hL : L ≤ 256) (hi : i + 3 < L) (hV : Inv u v) (hI : LI D gx gm s u v H locs) (hl : lv_has ls 4 [(0, .ref b), (1, .ref (gx.1 0)), (2, .ref (gm.1 0)), (3, .int (nI i))]) (kk : ∀ (u : XS) (v : MS) (H : Heap) (locs : List Loc), Inv u v → LI D gx gm s u v H locs → W p l e room_1 s m #[Value.ref b] below meth c H locs 15 2666 Q (F0 m 365 ls [])) : W p l e room_1 s m #[Value.ref b] below meth c H locs 15 2666 Q (F0 m 352 ls []) := by
  obtain ⟨f0, N, B, K, w, wc, q, qc, a, ac, vv, V, fs, ts, fd, td, wh, ak, sv, rfl, rfl, h⟩ := hV
  have hx := C.1.1
  have hb := C.1.2.1
  refine lv_aload_n hx hb dL_law_352 rfl (lv_at hl 1 rfl) ?_
  refine lx_i (n := 0) (As := []) (metx_firstChanged l (D, gx) C.xd f0 B K w wc q qc a ac vv N V h.1 h.b1 h.b2 h.2.2.2.2.1 h.vlen h.d1 h.d2) C hI (lw_V q230 q231 q232 q37 q233) (by decide +kernel) rfl rfl rfl ⟨Nat.le_of_ble_eq_true rfl, Nat.le_of_ble_eq_true rfl⟩ ⟨Nat.le_of_ble_eq_true rfl, Nat.le_of_ble_eq_true rfl⟩ hl.1 rfl (Nat.le_of_ble_eq_true rfl) dL_law_353 (fun r1 u1 H locs hp1 hI => ?_)
  obtain ⟨hp1, w1, wc1, q1, qc1, a1, ac1, rfl⟩ := hp1
  refine lv_aload_n hx hb dL_law_356 rfl (lv_at hl 2 rfl) ?_
  refine lm_r (n := 0) (As := []) (metm_firstChanged l (D, gm) C.md fs ts fd td wh ak sv N h.1) C hI (lw_V q346 q347 q348 q38 q349) (by decide +kernel) rfl rfl rfl ⟨Nat.le_of_ble_eq_true rfl, Nat.le_of_ble_eq_true rfl⟩ ⟨Nat.le_of_ble_eq_true rfl, Nat.le_of_ble_eq_true rfl⟩ hl.1 rfl (Nat.le_of_ble_eq_true rfl) dL_law_357 ?_
  exact lv_icmp_eq (tgt := 365) hx hb dL_law_360 (by decide) (fun _ => kk _ _ _ _ (Inv.mk h) hI) (fun g => absurd (hp1.trans (op_firstChanged h)) g)
end CS
end
section
/-! THE LAW'S LOOP -/
set_option maxRecDepth 100000
theorem l_sub4 : ∀ L : Nat, L < 257 → (Int32.ofNat L - 4).toInt = (L : Int) - 4 := by decide +kernel
theorem l_gt {L i : Nat} (hL : L ≤ 256) (hi : i ≤ L) : (Int32.ofNat L - 4 < nI i) ↔ L < i + 4 := by
  rw [i_lt, l_sub4 L (by omega), nI_toInt (by omega)]
  omega
theorem l_and15 (x : Int32) : ∃ k : Nat, k < 16 ∧ x &&& 15 = nI k := by
  have h : (x &&& 15).toBitVec.toNat < 16 := by
    rw [Int32.toBitVec_and, BitVec.toNat_and]
    exact Nat.lt_of_le_of_lt Nat.and_le_right (by decide)
  refine ⟨(x &&& 15).toBitVec.toNat, h, Int32.toBitVec_inj.mp ?_⟩
  have e : (nI (x &&& 15).toBitVec.toNat).toBitVec = BitVec.ofNat 32 (x &&& 15).toBitVec.toNat := rfl
  rw [e, BitVec.ofNat_toNat]
  simp
set_option maxHeartbeats 2000000 in
theorem law_loop {p : Program} {l : Launch} {e : Env} {s : State} {m : MethodId} {below : List Frame} {meth : Method} {c : Code} {b L : Nat} {xs : Nat → Int32} {D : va_G} {gx gm : (Nat → Nat) × ClassId × ClassId} (hL : L ≤ 256) (C : LC p s m meth c b L xs D gx gm) :
    ∀ (n i : Nat) (u : XS) (v : MS) (H : Heap) (locs : List Loc) (ls : Array Slot), i ≤ L → L + 1 ≤ i + n → Inv u v → LI D gx gm s u v H locs → lv_has ls 4 [(0, .ref b), (1, .ref (gx.1 0)), (2, .ref (gm.1 0)), (3, .int (nI i))] → W p l e room_1 s m #[Value.ref b] below meth c H locs 15 2666 (lw_Z below #[Value.ref b] s) (F0 m 18 ls []) := by
  have hx := C.1.1
  have hb := C.1.2.1
  have hX := C.1.2.2.2.2.2.2.1
  have hbl := C.1.2.2.2.2.2.2.2.1
  have hbA : ¬ lA s b := Nat.not_le.mpr hbl
  intro n
  induction n with
  | zero =>
    intro i u v H locs ls h1 h2
    exact absurd h2 (by omega)
  | succ n ih =>
    intro i u v H locs ls hi hn hV hI hl
    refine lv_iload_n hx hb dL_law_18 rfl (lv_at hl 3 rfl) ?_
    refine lv_aload_n hx hb dL_law_19 rfl (lv_at hl 0 rfl) ?_
    refine va_slen hx hb hX hbl hbA hI.2 dL_law_20 ?_
    refine lv_iconst (v := 4) hx hb dL_law_21 (by decide) ?_
    refine lv_isub hx hb dL_law_22 ?_
    refine lv_icmp_gt (tgt := 371) hx hb dL_law_23 (by decide) (fun g => ?_) (fun g => ?_)
    · refine lv_iconst (v := 1) hx hb dL_law_371 (by decide) ?_
      refine va_forget (fun q hq => hI.2.2.2 q hq) ?_
      refine W.widen (k := 600000) (n := 7290000) (by decide) (by decide) ?_
      exact lw_ret hx hb C.1.2.2.1 C.1.2.2.2.2.2.2.2.2.1 dL_law_372
    · have hlt : i + 4 ≤ L := by
        have h9 : ¬ L < i + 4 := fun q => g ((l_gt hL hi).mpr q)
        omega
      have kk : ∀ (u : XS) (v : MS) (H : Heap) (locs : List Loc), Inv u v → LI D gx gm s u v H locs → W p l e room_1 s m #[Value.ref b] below meth c H locs 15 2666 (lw_Z below #[Value.ref b] s) (F0 m 365 ls []) := by
        intro u v H locs hV hI
        refine lv_iinc (v := nI (i + 4)) (lv' := [(3, .int (nI (i + 4))), (0, .ref b), (1, .ref (gx.1 0)), (2, .ref (gm.1 0))]) hx hb dL_law_365 hl (k := 3) rfl (nI_add i 4) (by decide) rfl (fun ls hl => ?_)
        refine lv_goto (tgt := 18) hx hb dL_law_368 (by decide) ?_
        exact ih (i + 4) u v H locs ls hlt (by omega) hV hI (lv_sub hl [1, 2, 3, 0] rfl)
      refine lv_aload_n hx hb dL_law_26 rfl (lv_at hl 0 rfl) ?_
      refine lv_iload_n hx hb dL_law_27 rfl (lv_at hl 3 rfl) ?_
      refine va_sld hx hb hX hbl hbA hI.2 (vp_in_nI (by omega) (by omega)) dL_law_28 ?_
      refine lv_bipush (v := 15) hx hb dL_law_29 (by decide) ?_
      refine lv_iand hx hb dL_law_31 ?_
      obtain ⟨k, hk, ek⟩ := l_and15 (xs (nI i).toNatClampNeg)
      rw [ek]
      have hc : k = 0 ∨ k = 1 ∨ k = 2 ∨ k = 3 ∨ k = 4 ∨ k = 5 ∨ k = 6 ∨ k = 7 ∨ k = 8 ∨ k = 9 ∨ k = 10 ∨ k = 11 ∨ k = 12 ∨ k = 13 ∨ k = 14 ∨ k = 15 := by omega
      rcases hc with rfl | rfl | rfl | rfl | rfl | rfl | rfl | rfl | rfl | rfl | rfl | rfl | rfl | rfl | rfl | rfl
      · exact lv_tableIn (tgt := 92) hx hb dL_law_32 (by decide) (by decide) rfl (by decide) (lc_0 C hL (by omega) hV hI hl kk)
      · exact lv_tableIn (tgt := 135) hx hb dL_law_32 (by decide) (by decide) rfl (by decide) (lc_1 C hL (by omega) hV hI hl kk)
      · exact lv_tableIn (tgt := 158) hx hb dL_law_32 (by decide) (by decide) rfl (by decide) (lc_2 C hL (by omega) hV hI hl kk)
      · exact lv_tableIn (tgt := 191) hx hb dL_law_32 (by decide) (by decide) rfl (by decide) (lc_3 C hL (by omega) hV hI hl kk)
      · exact lv_tableIn (tgt := 214) hx hb dL_law_32 (by decide) (by decide) rfl (by decide) (lc_4 C hL (by omega) hV hI hl kk)
      · exact lv_tableIn (tgt := 257) hx hb dL_law_32 (by decide) (by decide) rfl (by decide) (lc_5 C hL (by omega) hV hI hl kk)
      · exact lv_tableIn (tgt := 280) hx hb dL_law_32 (by decide) (by decide) rfl (by decide) (lc_6 C hL (by omega) hV hI hl kk)
      · exact lv_tableIn (tgt := 303) hx hb dL_law_32 (by decide) (by decide) rfl (by decide) (lc_7 C hL (by omega) hV hI hl kk)
      · exact lv_tableIn (tgt := 326) hx hb dL_law_32 (by decide) (by decide) rfl (by decide) (lc_8 C hL (by omega) hV hI hl kk)
      · exact lv_tableIn (tgt := 339) hx hb dL_law_32 (by decide) (by decide) rfl (by decide) (lc_9 C hL (by omega) hV hI hl kk)
      · exact lv_tableIn (tgt := 352) hx hb dL_law_32 (by decide) (by decide) rfl (by decide) (lc_10 C hL (by omega) hV hI hl kk)
      · exact lv_tableOut (tgt := 365) hx hb dL_law_32 (Or.inr (by decide)) (by decide) (kk u v H locs hV hI)
      · exact lv_tableOut (tgt := 365) hx hb dL_law_32 (Or.inr (by decide)) (by decide) (kk u v H locs hV hI)
      · exact lv_tableOut (tgt := 365) hx hb dL_law_32 (Or.inr (by decide)) (by decide) (kk u v H locs hV hI)
      · exact lv_tableOut (tgt := 365) hx hb dL_law_32 (Or.inr (by decide)) (by decide) (kk u v H locs hV hI)
      · exact lv_tableOut (tgt := 365) hx hb dL_law_32 (Or.inr (by decide)) (by decide) (kk u v H locs hV hI)
end
section
/-! THE LAW FROM ITS ENTRY; then the skeleton's end (starting text) -/
set_option maxRecDepth 100000
set_option maxHeartbeats 4000000 in
theorem whole_start {p : Program} {e : Env} {s : State} {m : MethodId} {below : List Frame} {meth : Method} {c : Code} (l : Launch) {b L : Nat} {xs : Nat → Int32} (hL : L ≤ 256) (C0 : lw_At p s m meth c b L xs) : W p l e room_1 s m #[Value.ref b] below meth c s.heap [] 0 0 (lw_Z below #[Value.ref b] s) (entryFrame m ([Value.ref b] : List Value).toArray 4) := by
  obtain ⟨hx, hb, hr, hml, hown, hts0, hX, hbl, hlocks, hgv⟩ := id C0
  have hts : ∀ w ∈ lw_all, w.before #[Value.ref b] s = true := fun w h => hts0 w (lw_all_tbl h)
  have hA : ∀ q : Nat, s.heap.size ≤ q → lA s q := fun _ h => h
  obtain ⟨c0, iS0, hKn0⟩ := u_known (C := RX0) (T := TX0) (N := 12) (n := 12) hts in_X0 (hts _ q40)
  obtain ⟨c1, iS1, hKn1⟩ := u_known (C := RX1) (T := TX1) (N := 8) (n := 8) hts in_X1 (hts _ q235)
  obtain ⟨dC, dI, hKc⟩ : ∃ (dC : Nat → ClassId) (dI : Nat → Nat → Nat), ∀ (k : Nat) (q : vw_C), vwCl[k]? = some q → u_Kn s q.1 q.2.1 q.2.2 (dC k) (dI k) := by
    refine ⟨fun k => if k = 0 then c0 else c1, fun k => if k = 0 then iS0 else iS1, ?_⟩
    intro k q hq
    match k, hq with
    | 0, hq => cases hq; exact hKn0
    | 1, hq => cases hq; exact hKn1
    | k + 2, hq => simp [vwCl] at hq
  have hS : va_S (lA s) s.heap s.heap [] := va_S.rf
  have hK : va_K (dC, dI) vwCl [] s := ⟨hKc, fun k q h => by simp at h⟩
  have hP : va_P (dC, dI) vwCl [] s.heap := fun k q h => by simp at h
  have hD : va_D (lA s) [] := ⟨fun i j p q h => by simp at h, fun k q h => by simp at h⟩
  have hl := lv_entry ([.ref b]) (n := 4) (Nat.le_of_ble_eq_true rfl)
  rw [lg_entry_eq]
  generalize (lg_sl ([.ref b]) ++ List.replicate (4 - (lg_sl ([.ref b])).length) Slot.unset).toArray = ls at hl ⊢
  have hl : lv_has ls 4 [(0, .ref b)] := hl
  refine va_new (ci := 0) (fs := [.int 0, .int 0, .null, .null, .null, .int 0, .null, .int 0, .null, .int 0, .null, .int 0]) (C := RX0) (T := TX0) (N := 12) hx hb hts in_X0 tyX0 tyX0_ok hown (hts _ q39) (hts _ q40) (hts _ q37) hK hP hD hS hA rfl (fun j hj => by rcases (show j = 0 ∨ j = 1 ∨ j = 2 ∨ j = 3 ∨ j = 4 ∨ j = 5 ∨ j = 6 ∨ j = 7 ∨ j = 8 ∨ j = 9 ∨ j = 10 ∨ j = 11 by omega) with rfl | rfl | rfl | rfl | rfl | rfl | rfl | rfl | rfl | rfl | rfl | rfl <;> rfl) (Nat.le_of_ble_eq_true rfl) (Nat.le_of_ble_eq_true rfl) dL_law_0 (fun h0 H hP hD hS => ?_)
  have hP : va_P (dC, dI) vwCl [(h0, .inr (0, [.int 0, .int 0, .null, .null, .null, .int 0, .null, .int 0, .null, .int 0, .null, .int 0]))] H := hP
  have hD : va_D (lA s) [(h0, .inr (0, [.int 0, .int 0, .null, .null, .null, .int 0, .null, .int 0, .null, .int 0, .null, .int 0]))] := hD
  refine W.widen (k := 1) (n := 12) (by omega) (by omega) ?_
  refine lv_dup hx hb dL_law_3 rfl ?_
  have hFc := va_free (wc := [(h0, .inr (0, [.int 0, .int 0, .null, .null, .null, .int 0, .null, .int 0, .null, .int 0, .null, .int 0]))]) hD hS hA [0] rfl
  refine va_callv (va_runI (As := []) (rest := [.ref h0]) ⟨hx, hb, hml, hown, hts⟩ (metx_init l dC dI h0 H.size) (cwI 0 hts (lw_meth q43) rfl rfl rfl (hts _ q37) (hts _ q41) (hts _ q42) rfl (by decide +kernel) ⟨Nat.le_of_ble_eq_true rfl, Nat.le_of_ble_eq_true rfl⟩) ⟨fun a U g mk q => by obtain ⟨q0, q1, qP, qK, qD⟩ := q; exact ⟨q0, q1, qP, va_K.moved (u := U) (U := U.calling g mk a) (Vm.Alike.refl U.vm) qK, qD⟩, fun U hU hW => ⟨rfl, by rw [hU], by rw [hU]; exact hP, va_K.moved hW.alike hK, hD.weaken (fun _ _ _ _ => trivial)⟩⟩ rfl rfl hl.1 rfl (lv_room (Nat.le_of_ble_eq_true rfl)) dL_law_4 ⟨Nat.le_of_ble_eq_true rfl, Nat.le_of_ble_eq_true rfl⟩) hS (fun q _ h => hFc q h) hFc (fun gx t H1 locs ht hvm hw hB hz1 hk1 hS => ?_)
  obtain ⟨e0, hP1, hK1, hD1⟩ := hB
  subst e0
  rw [ht] at hP1
  have hK := va_K.moved hvm.symm hK1
  obtain ⟨hP, hD⟩ := va_join (wr := []) (w1 := XW ((dC, dI), gx) XU0) hP hD [0] [] rfl rfl (by decide) (by decide) hk1 hFc hP1 hD1
  generalize H1 = H at hP hS ⊢
  have hP : va_P (dC, dI) vwCl (XW ((dC, dI), gx) XU0) H := hP
  have hD : va_D (lA s) (XW ((dC, dI), gx) XU0) := hD
  refine W.widen (k := 7) (n := 2080) (by omega) (by omega) ?_
  refine lv_astore_n (lv' := [(1, .ref (gx.1 0)), (0, .ref b)]) hx hb dL_law_7 rfl hl (by decide) rfl (fun ls hl => ?_)
  refine va_new (ci := 1) (fs := [.int 0, .null, .null, .null, .null, .null, .null, .null]) (C := RX1) (T := TX1) (N := 8) hx hb hts in_X1 tyX1 tyX1_ok hown (hts _ q234) (hts _ q235) (hts _ q38) hK hP hD hS hA rfl (fun j hj => by rcases (show j = 0 ∨ j = 1 ∨ j = 2 ∨ j = 3 ∨ j = 4 ∨ j = 5 ∨ j = 6 ∨ j = 7 by omega) with rfl | rfl | rfl | rfl | rfl | rfl | rfl | rfl <;> rfl) (Nat.le_of_ble_eq_true rfl) (Nat.le_of_ble_eq_true rfl) dL_law_8 (fun h1 H hP hD hS => ?_)
  refine W.widen (k := 8) (n := 2088) (by omega) (by omega) ?_
  refine lv_dup hx hb dL_law_11 rfl ?_
  have hPc : va_P (dC, dI) vwCl [(h1, .inr (1, [.int 0, .null, .null, .null, .null, .null, .null, .null]))] H := hP.sub [7] rfl
  have hDc : va_D (lA s) [(h1, .inr (1, [.int 0, .null, .null, .null, .null, .null, .null, .null]))] := hD.sub [7] (by decide) rfl
  have hFc := va_free (wc := [(h1, .inr (1, [.int 0, .null, .null, .null, .null, .null, .null, .null]))]) hD hS hA [7] rfl
  refine va_callv (va_runI (As := []) (rest := [.ref h1]) ⟨hx, hb, hml, hown, hts⟩ (metm_init l dC dI h1 H.size) (cwI 0 hts (lw_meth q238) rfl rfl rfl (hts _ q38) (hts _ q236) (hts _ q237) rfl (by decide +kernel) ⟨Nat.le_of_ble_eq_true rfl, Nat.le_of_ble_eq_true rfl⟩) ⟨fun a U g mk q => by obtain ⟨q0, q1, qP, qK, qD⟩ := q; exact ⟨q0, q1, qP, va_K.moved (u := U) (U := U.calling g mk a) (Vm.Alike.refl U.vm) qK, qD⟩, fun U hU hW => ⟨rfl, by rw [hU], by rw [hU]; exact hPc, va_K.moved hW.alike (hK.sub [] rfl), hDc.weaken (fun _ _ _ _ => trivial)⟩⟩ rfl rfl hl.1 rfl (lv_room (Nat.le_of_ble_eq_true rfl)) dL_law_12 ⟨Nat.le_of_ble_eq_true rfl, Nat.le_of_ble_eq_true rfl⟩) hS (fun q _ h => hFc q h) hFc (fun gm t H1 locs ht hvm hw hB hz1 hk1 hS => ?_)
  obtain ⟨e0, hP1, hK1, hD1⟩ := hB
  subst e0
  rw [ht] at hP1
  have hK := hK.app (va_K.moved hvm.symm hK1)
  obtain ⟨hP, hD⟩ := va_join (wr := XW ((dC, dI), gx) XU0) (w1 := MW ((dC, dI), gm) MU0) hP hD [7] [0, 1, 2, 3, 4, 5, 6] rfl rfl (by decide) (by decide) hk1 hFc hP1 hD1
  refine W.widen (k := 15) (n := 2666) (by omega) (by omega) ?_
  refine lv_astore_n (lv' := [(2, .ref (gm.1 0)), (1, .ref (gx.1 0)), (0, .ref b)]) hx hb dL_law_15 rfl hl (by decide) rfl (fun ls hl => ?_)
  refine lv_iconst (v := 0) hx hb dL_law_16 (by decide) ?_
  refine lv_istore_n (lv' := [(3, .int 0), (2, .ref (gm.1 0)), (1, .ref (gx.1 0)), (0, .ref b)]) hx hb dL_law_17 rfl hl (by decide) rfl (fun ls hl => ?_)
  exact law_loop (D := (dC, dI)) (gx := gx) (gm := gm) hL ⟨C0, hK, fun u v => va_D_ad (ws := XW ((dC, dI), gx) XU0 ++ MW ((dC, dI), gm) MU0) (ws' := XW ((dC, dI), gx) u ++ MW ((dC, dI), gm) v) rfl hD⟩ (L + 1) 0 XU0 MU0 H1 locs ls (Nat.zero_le L) (by omega) ⟨15421, 0, _, _, _, _, _, _, _, _, _, [], _, _, _, _, _, _, _, rfl, rfl, rel_0⟩ ⟨hP, hS⟩ (lv_sub hl [3, 2, 1, 0] rfl)
set_option maxHeartbeats 4000000 in
theorem lw_walk (l : Launch) (b : Addr) (xs : List Int32) : MetFree l x (headSpec (Jvm.Cond.code x code maxLocals ret :: tables_1) room_1) (lw_P b xs) (fun _ _ _ _ _ => True) lw_Q := by
  refine MetFree.of_bodyS (code := code) (maxLocals := maxLocals) (ret := ret) (by decide) ?_ ?_
  · intro args s m h hn
    obtain ⟨meth, c, h1, h2, h3, h4, h5, h6, -, -⟩ := Cond.code_spec hn (atoms_spec (ws := Jvm.Cond.code x code maxLocals ret :: tables_1) h _ List.mem_cons_self)
    exact ⟨meth, c, h1, h2, h3, h4, h5, h6⟩
  · intro p e s m args below meth c s₁ B hml0 hP _
    obtain ⟨rfl, hx, hbd, hgv⟩ := hP
    obtain ⟨scr, harrAt, hlist, hof, hsmall⟩ := hx
    obtain ⟨hcb, hkn, -, -⟩ := State.arrayAt?_spec harrAt
    have hown : s.vm.findClass R_law = some m.cls := findClass_of_methodNamed B.named
    have hts0 : ∀ c ∈ (Jvm.Cond.code x code maxLocals ret :: tables_1), c.before #[Value.ref b] s = true := atoms_spec (ws := Jvm.Cond.code x code maxLocals ret :: tables_1) B.pre
    have hts : ∀ w ∈ lw_tbl, w.before #[Value.ref b] s = true := k2_hts_sels lw_privs (fun w hw => hts0 w (List.mem_cons_of_mem _ hw)) lw_privs_ok
    have hml : c.maxLocals = 4 := B.maxLocals_eq (hts0 _ List.mem_cons_self)
    have X₀ : Stand p l e room_1 s m #[Value.ref b] below meth c s₁ [] 0 0 := Stand.of_body B
    have hh0 : s₁.heap = s.heap := by rw [B.state]; rfl
    have hsz : scr.slots.size = xs.length := by rw [← Array.length_toList, hlist, List.length_map]
    have hval : ∀ j : Nat, j < xs.length → scr.slots[j]? = some (.int (xs.getD j 0)) := fun j hj => by
      rw [← Array.getElem?_toList, hlist]
      simp [hj]
    have hbl : b < s.heap.size := (Array.getElem?_eq_some_iff.mp hcb).1
    have hX : va_X b xs.length (fun j => xs.getD j 0) s s.heap := ⟨scr, hcb, hof, hkn, hsz, hval⟩
    have K : W p l e room_1 s m #[Value.ref b] below meth c s₁.heap [] 0 0 (lw_Z below #[Value.ref b] s) (entryFrame m ([Value.ref b] : List Value).toArray 4) := by
      rw [hh0]
      exact whole_start l hbd ⟨B.exec, B.bytes, B.returns, hml, hown, hts, hX, hbl, B.notSynchronized, hgv⟩
    obtain ⟨t, a1, o, b1, b2, b3⟩ := K s₁ rfl X₀
    exact ⟨t, o, a1, b1, b2, b3⟩
theorem lw_pre_spec {args : Array Value} {s : State} (h : (Jvm.Cond.and given_1 narrow_1).before args s = true) (hr : rest_1_c.before args s = true) : ∃ (b : Addr) (xs : List Int32), lw_P b xs args s := by
  have hs := flat_of_before _ h
  have hq := flat_of_before _ hr
  have hc : (Cond.count 1).before args s = true := hs _ (by decide +kernel)
  have harr : (Cond.arrayOf (.arg 0) .int).before args s = true := hs _ (by decide +kernel)
  have hle : (Cond.le (.length (.arg 0)) (.int 256)).before args s = true := hs _ (by decide +kernel)
  have hlen : (Cond.isInt (.length (.arg 0))).before args s = true := hq _ (by decide +kernel)
  have hall : (Cond.all (.arg 0) (.isInt (.elem (.arg 0) (.index 0)))).before args s = true := hq _ (by decide +kernel)
  obtain ⟨b, xs, hb, hx⟩ := State.ints_of_pre rfl harr hlen hall
  have hsm : xs.length < 2 ^ 31 := hx.choose_spec.2.2.2
  have hev : (Term.length (.arg 0)).eval args s none [] s = some (.int xs.length.toInt32) := hx.length_eval hb
  have hv := Cond.le_ints hev (show (Term.int 256).eval args s none [] s = some (.int 256) from rfl)
  have hd : xs.length.toInt32 ≤ 256 := by
    simpa [Cond.before, Cond.holds, hv] using hle
  have hN : xs.length ≤ 256 := (Int32.ofNat_le_ofNat hsm (by decide)).mp (show Int32.ofNat xs.length ≤ Int32.ofNat 256 from hd)
  exact ⟨b, xs, Cond.one_arg hc (show args[0]? = some (.ref b) from hb), hx, hN, h⟩
theorem lw_comes (l : Launch) : Comes l x (Jvm.Cond.code x code maxLocals ret :: tables_1) room_1 (fun tb e args s => Calls_1 tb e args s ∧ rest_1 tb e args s ∧ Pre_1 tb e args s)
    (fun _ _ args s o t => lw_Q args s o t) := by
  intro p e ha hc hk s m args below hf hfit hheap happ hpre
  obtain ⟨b, xs, hP⟩ := lw_pre_spec hpre.2.2 hpre.2.1
  obtain ⟨k, o, h1, h2, h3, hQ⟩ := lw_walk l b xs p e ha hc hk s m args below hf ((Spec.applies_iff_loose hf).mp happ).1 hP trivial
  exact ⟨k, o, h1, h2, h3, hQ⟩
theorem lw_frame {s t : State} {o : Outcome} {args : Array Value} (h : Framed s o t [] 600000 7290000) :
    Framed s o t (fieldLocs frame_1_writes args s ++ arrayLocs frame_1_arrays args s ++ staticLocs frame_1_statics s) 600000 7290000 := h
theorem lw_limb (L : Cond) (hL : ∀ (args : Array Value) (s t : State), L.after args s (.returned (some (.int 1))) t = true) :
    ArmFor flags0 classFile x code maxLocals ret World_1 tables_1 room_1 Calls_1 rest_1 Pre_1
      (fun tb e a s o t => postC L tb e a s o t ∧ Framed s o t (fieldLocs frame_1_writes a s ++ arrayLocs frame_1_arrays a s ++ staticLocs frame_1_statics s) 600000 7290000) := by
  intro l _ _ _ p e ha hc hk s m args below hf hfit hheap happ hpre
  obtain ⟨k, o, h1, h2, h3, rfl, hF⟩ := lw_comes l p e ha hc hk s m args below hf hfit hheap happ hpre
  exact ⟨k, _, h1, h2, h3, hL args s _, lw_frame hF⟩
theorem i_vc : Claimed_1_1 ∧ Claimed_1_2 := ⟨lw_limb limb_1_1 (fun args s t => by simp [limb_1_1, Cond.after, Cond.holds, Cond.value]), lw_limb limb_1_2 (fun args s t => Cond.after_iff.mpr (by
  first | (rw [show limb_1_2 = Cond.eq .result (.int 1) from rfl, Cond.eq_ints (x := 1) (y := 1) rfl rfl]; simp; done) | (simp [limb_1_2, Cond.value, Term.eval]; done)))⟩
end
