set_option maxRecDepth 100000
section JMIN
variable {Γ : JC} {l : Launch} {R : Room} {cc : ByteArray} {own : String} {ret : Option FieldType} {nL : Nat} {cells slots : Nat} {z : JZ} {pc : Nat} {lv : List (Nat × Value)} {st : List Value}
theorem g_mmin {idx : Nat} {x y : Int32} (C : jOk Γ l R cc own ret nL) (hq : Cond.methodLink own idx Lib.Math.min.name ∈ lw_all) (d : decode cc pc = .ok (.invokestatic idx, 3)) (hR : 1 ≤ R.frames ∧ 100 ≤ R.locals ∧ cells ≤ R.cells ∧ slots ≤ R.slots) (hst : (st.map fun v => v.category).sum ≤ 8) (kk : jG Γ cells slots z (pc + 3) lv (.int (if y < x then y else x) :: st)) : jG Γ cells slots z pc lv (.int y :: .int x :: st) := by
  obtain ⟨p, l, e, R, s, m, args, below, meth, c, Q, D, cA, n0, nL⟩ := Γ
  obtain ⟨rfl, rfl, hx, hb, hml, hown, hts, hr, hlk, ⟨hK, rfl⟩, hn⟩ := C
  intro H locs ls hW hS hl
  exact va_mmin hx hb (by rw [hml]; exact hl.1.symm) hown (hts _ hq) (hts _ q575) (hts _ q69) (hts _ q576) hR.1 (by omega) hR.2.2.1 hR.2.2.2 d (kk H locs ls hW hS hl)
theorem g_mmax {idx : Nat} {x y : Int32} (C : jOk Γ l R cc own ret nL) (hq : Cond.methodLink own idx Lib.Math.max.name ∈ lw_all) (d : decode cc pc = .ok (.invokestatic idx, 3)) (hR : 1 ≤ R.frames ∧ 100 ≤ R.locals ∧ cells ≤ R.cells ∧ slots ≤ R.slots) (hst : (st.map fun v => v.category).sum ≤ 8) (kk : jG Γ cells slots z (pc + 3) lv (.int (if x < y then y else x) :: st)) : jG Γ cells slots z pc lv (.int y :: .int x :: st) := by
  obtain ⟨p, l, e, R, s, m, args, below, meth, c, Q, D, cA, n0, nL⟩ := Γ
  obtain ⟨rfl, rfl, hx, hb, hml, hown, hts, hr, hlk, ⟨hK, rfl⟩, hn⟩ := C
  intro H locs ls hW hS hl
  exact va_mmax hx hb (by rw [hml]; exact hl.1.symm) hown (hts _ hq) (hts _ q672) (hts _ q69) (hts _ q673) hR.1 (by omega) hR.2.2.1 hR.2.2.2 d (kk H locs ls hW hS hl)
theorem nI_min {a b : Nat} (ha : a < 2147483648) (hb : b < 2147483648) : (if nI b < nI a then nI b else nI a) = nI (min a b) := by
  by_cases h : b < a
  · rw [if_pos ((nI_ltI hb ha).mpr h), Nat.min_eq_right (by omega)]
  · rw [if_neg (fun e => h ((nI_ltI hb ha).mp e)), Nat.min_eq_left (by omega)]
end JMIN
/-- tree i stands for part p, of table tb -/
def trA (z : JZ) (i p tb : Nat) : Prop := (∀ t, 16 ≤ t ∧ t ≤ 23 → zL z (t, i) = true) ∧ zR z (16, i) 0 = some (zA z (29, p)) ∧ zL z (29, p) = true ∧ zR z (29, p) 1 = some (zA z (27, tb)) ∧ zL z (27, tb) = true ∧ zL z (28, tb) = true
/-- the rows of a tree that stand below m, its columns below d -/
def trR (z : JZ) (i m : Nat) : Prop := ∀ k, k < m → ∃ r, r < 40 ∧ zM z (17, i) k = nI r
def trC (z : JZ) (i d : Nat) : Prop := ∀ k, k < d → ∃ c, c < 3 ∧ zM z (19, i) k = nI c
/-- the value at place k of a level -/
def kyF (z : JZ) (i tb v k : Nat) : Int32 := zM z (28, tb) ((zM z (17, i) k).toNatClampNeg * 3 + (zM z (19, i) v).toNatClampNeg)
theorem m_X3_key (l : Launch) (z : JZ) (i p tb v k : Nat) (hA : trA z i p tb) (hv : zM z (16, i) 10 = nI v) (hv3 : v < 3) (hR : trR z i (k + 1)) (hC : trC z i (v + 1)) (hk : k < 40) : jCt l yX3_key cX3_key 2 (some FieldType.long) 2 0 0 [.ref (zA z (16, i)), .int (nI k)] z (jRl (rkL (kyF z i tb v k)) z) := by
  obtain ⟨r, hr, er⟩ := hR k (by omega)
  obtain ⟨c, hc, ec⟩ := hC v (by omega)
  have e : kyF z i tb v k = zM z (28, tb) (r * 3 + c) := by unfold kyF; rw [er, ec, nI_clamp (by omega), nI_clamp (by omega)]
  rw [e]
  refine (jCt.of "JoinLoom$Tree" "key" [(0, _), (1, _)] rfl rfl (by decide) (Nat.le_of_ble_eq_true rfl) rfl (fun Γ C hQ => ?_))
  refine g_aload_n C dX3_key_0 rfl rfl ?_
  refine f_X3_has C (hA.1 _ (by decide)) (Or.inl q132) (Or.inl rfl) dX3_key_1 ?_
  refine g_topR (hA.2.1) ?_
  refine f_X8_table C hA.2.2.1 (Or.inl q366) (Or.inl rfl) dX3_key_4 ?_
  refine g_topR (hA.2.2.2.1) ?_
  refine g_aload_n C dX3_key_7 rfl rfl ?_
  refine f_X3_rows C (hA.1 _ (by decide)) (Or.inl q133) (Or.inl rfl) dX3_key_8 ?_
  refine g_iload_n C dX3_key_11 rfl rfl ?_
  refine g_iald (n := 40) C rfl (hA.1 _ (by decide)) rfl (by omega) (by decide) dX3_key_12 ?_
  refine g_top (er) ?_
  refine g_aload_n C dX3_key_13 rfl rfl ?_
  refine f_X3_column C (hA.1 _ (by decide)) (Or.inl q137) (Or.inl rfl) dX3_key_14 ?_
  refine g_aload_n C dX3_key_17 rfl rfl ?_
  refine f_X3_level C (hA.1 _ (by decide)) (Or.inl q144) (Or.inl rfl) dX3_key_18 ?_
  refine g_top (hv) ?_
  refine g_iald (n := 3) C rfl (hA.1 _ (by decide)) rfl (by omega) (by decide) dX3_key_21 ?_
  refine g_top (ec) ?_
  refine g_cfi (g_runV C (m_X5_at l z tb r c hA.2.2.2.2.1 hA.2.2.2.2.2 (by omega)) ciX5_at q281 (Or.inl q282) (Or.inl q515) hA.2.2.2.2.1 rfl rfl rfl rfl (Nat.le_of_ble_eq_true rfl) dX3_key_22 (by decide)) ?_
  refine g_cfl (g_runS C (m_X0_rank l z _) ciX0_rank q285 (Or.inr ⟨_, nq524⟩) rfl rfl (Nat.le_of_ble_eq_true rfl) dX3_key_25 (by decide)) ?_
  exact g_lreturn C hQ (by omega) (by omega) dX3_key_28 (⟨rfl, rfl⟩)
theorem m_X3_value (l : Launch) (z : JZ) (i p tb v k : Nat) (hA : trA z i p tb) (hv : zM z (16, i) 10 = nI v) (hv3 : v < 3) (hf : zM z (22, i) v = nI k) (hR : trR z i (k + 1)) (hC : trC z i (v + 1)) (hk : k < 40) : jCt l yX3_value cX3_value 1 (some FieldType.int) 2 0 0 [.ref (zA z (16, i))] z (jRi (kyF z i tb v k) z) := by
  obtain ⟨r, hr, er⟩ := hR k (by omega)
  obtain ⟨c, hc, ec⟩ := hC v (by omega)
  have e : kyF z i tb v k = zM z (28, tb) (r * 3 + c) := by unfold kyF; rw [er, ec, nI_clamp (by omega), nI_clamp (by omega)]
  rw [e]
  refine (jCt.of "JoinLoom$Tree" "value" [(0, _)] rfl rfl (by decide) (Nat.le_of_ble_eq_true rfl) rfl (fun Γ C hQ => ?_))
  refine g_aload_n C dX3_value_0 rfl rfl ?_
  refine f_X3_has C (hA.1 _ (by decide)) (Or.inl q132) (Or.inl rfl) dX3_value_1 ?_
  refine g_topR (hA.2.1) ?_
  refine f_X8_table C hA.2.2.1 (Or.inl q366) (Or.inl rfl) dX3_value_4 ?_
  refine g_topR (hA.2.2.2.1) ?_
  refine g_aload_n C dX3_value_7 rfl rfl ?_
  refine f_X3_rows C (hA.1 _ (by decide)) (Or.inl q133) (Or.inl rfl) dX3_value_8 ?_
  refine g_aload_n C dX3_value_11 rfl rfl ?_
  refine f_X3_from C (hA.1 _ (by decide)) (Or.inl q142) (Or.inl rfl) dX3_value_12 ?_
  refine g_aload_n C dX3_value_15 rfl rfl ?_
  refine f_X3_level C (hA.1 _ (by decide)) (Or.inl q144) (Or.inl rfl) dX3_value_16 ?_
  refine g_top (hv) ?_
  refine g_iald (n := 4) C rfl (hA.1 _ (by decide)) rfl (by omega) (by decide) dX3_value_19 ?_
  refine g_top (hf) ?_
  refine g_iald (n := 40) C rfl (hA.1 _ (by decide)) rfl (by omega) (by decide) dX3_value_20 ?_
  refine g_top (er) ?_
  refine g_aload_n C dX3_value_21 rfl rfl ?_
  refine f_X3_column C (hA.1 _ (by decide)) (Or.inl q137) (Or.inl rfl) dX3_value_22 ?_
  refine g_aload_n C dX3_value_25 rfl rfl ?_
  refine f_X3_level C (hA.1 _ (by decide)) (Or.inl q144) (Or.inl rfl) dX3_value_26 ?_
  refine g_top (hv) ?_
  refine g_iald (n := 3) C rfl (hA.1 _ (by decide)) rfl (by omega) (by decide) dX3_value_29 ?_
  refine g_top (ec) ?_
  refine g_cfi (g_runV C (m_X5_at l z tb r c hA.2.2.2.2.1 hA.2.2.2.2.2 (by omega)) ciX5_at q281 (Or.inl q282) (Or.inl q515) hA.2.2.2.2.1 rfl rfl rfl rfl (Nat.le_of_ble_eq_true rfl) dX3_value_30 (by decide)) ?_
  exact g_ireturn C hQ rfl (by omega) (by omega) dX3_value_33 (⟨rfl, rfl⟩)
theorem m_X3_isAtEnd (l : Launch) (z : JZ) (i v k h : Nat) (hA : ∀ t, 16 ≤ t ∧ t ≤ 23 → zL z (t, i) = true) (hv : zM z (16, i) 10 = nI v) (hv3 : v < 3) (hf : zM z (22, i) v = nI k) (hh : zM z (21, i) v = nI h) (hk : k ≤ 40) (hh4 : h ≤ 40) : jCt l yX3_isAtEnd cX3_isAtEnd 1 (some FieldType.boolean) 1 0 0 [.ref (zA z (16, i))] z (jRi (jb (decide (k = h))) z) := by
  refine (jCt.of "JoinLoom$Tree" "isAtEnd" [(0, _)] rfl rfl (by decide) (Nat.le_of_ble_eq_true rfl) rfl (fun Γ C hQ => ?_))
  refine g_aload_n C dX3_isAtEnd_0 rfl rfl ?_
  refine f_X3_from C (hA _ (by decide)) (Or.inl q142) (Or.inl rfl) dX3_isAtEnd_1 ?_
  refine g_aload_n C dX3_isAtEnd_4 rfl rfl ?_
  refine f_X3_level C (hA _ (by decide)) (Or.inl q144) (Or.inl rfl) dX3_isAtEnd_5 ?_
  refine g_top (hv) ?_
  refine g_iald (n := 4) C rfl (hA _ (by decide)) rfl (by omega) (by decide) dX3_isAtEnd_8 ?_
  refine g_top (hf) ?_
  refine g_aload_n C dX3_isAtEnd_9 rfl rfl ?_
  refine f_X3_high C (hA _ (by decide)) (Or.inl q141) (Or.inl rfl) dX3_isAtEnd_10 ?_
  refine g_aload_n C dX3_isAtEnd_13 rfl rfl ?_
  refine f_X3_level C (hA _ (by decide)) (Or.inl q144) (Or.inl rfl) dX3_isAtEnd_14 ?_
  refine g_top (hv) ?_
  refine g_iald (n := 4) C rfl (hA _ (by decide)) rfl (by omega) (by decide) dX3_isAtEnd_17 ?_
  refine g_top (hh) ?_
  first | refine g_icmp_ne_n (tgt := 25) C dX3_isAtEnd_18 (by decide) (by omega) (by omega) (fun c18 => ?_) (fun c18 => ?_) | refine g_icmp_ne (tgt := 25) C dX3_isAtEnd_18 (by decide) (fun c18 => ?_) (fun c18 => ?_)
  · refine g_iconst (v := nI 0) C dX3_isAtEnd_25 (by decide) ?_
    exact g_ireturn C hQ rfl (by omega) (by omega) dX3_isAtEnd_26 (by first | exact ⟨by rw [decide_eq_true c18]; rfl, rfl⟩ | exact ⟨by rw [decide_eq_false c18]; rfl, rfl⟩)
  · refine g_iconst (v := nI 1) C dX3_isAtEnd_21 (by decide) ?_
    refine g_goto (tgt := 26) C dX3_isAtEnd_22 (by decide) ?_
    exact g_ireturn C hQ rfl (by omega) (by omega) dX3_isAtEnd_26 (by first | exact ⟨by rw [decide_eq_true c18]; rfl, rfl⟩ | exact ⟨by rw [decide_eq_false c18]; rfl, rfl⟩)
theorem m_X3_hasNext (l : Launch) (z : JZ) (i v d : Nat) (n : Int32) (hA : ∀ t, 16 ≤ t ∧ t ≤ 23 → zL z (t, i) = true) (hv : zM z (16, i) 10 = nI v) (hd : zM z (16, i) 5 = nI d) (hd3 : d ≤ 3) (hvd : v ≤ d) : jCt l yX3_hasNext cX3_hasNext 2 (some FieldType.boolean) 1 0 0 [.ref (zA z (16, i)), .int n] z (jRi (jb (decide (v < d ∧ zM z (18, i) v = n))) z) := by
  refine (jCt.of "JoinLoom$Tree" "hasNext" [(0, _), (1, _)] rfl rfl (by decide) (Nat.le_of_ble_eq_true rfl) rfl (fun Γ C hQ => ?_))
  refine g_aload_n C dX3_hasNext_0 rfl rfl ?_
  refine f_X3_level C (hA _ (by decide)) (Or.inl q144) (Or.inl rfl) dX3_hasNext_1 ?_
  refine g_top (hv) ?_
  refine g_aload_n C dX3_hasNext_4 rfl rfl ?_
  refine f_X3_deep C (hA _ (by decide)) (Or.inl q138) (Or.inl rfl) dX3_hasNext_5 ?_
  refine g_top (hd) ?_
  first | refine g_icmp_ge_n (tgt := 28) C dX3_hasNext_8 (by decide) (by omega) (by omega) (fun c8 => ?_) (fun c8 => ?_) | refine g_icmp_ge (tgt := 28) C dX3_hasNext_8 (by decide) (fun c8 => ?_) (fun c8 => ?_)
  · refine g_iconst (v := nI 0) C dX3_hasNext_28 (by decide) ?_
    exact g_ireturn C hQ rfl (by omega) (by omega) dX3_hasNext_29 (by first | exact ⟨by rw [decide_eq_true ⟨c8, c21⟩]; rfl, rfl⟩ | exact ⟨by rw [decide_eq_false (fun e => c21 e.2)]; rfl, rfl⟩ | exact ⟨by rw [decide_eq_false (fun e => absurd e.1 (Nat.not_lt.mpr c8))]; rfl, rfl⟩)
  · refine g_aload_n C dX3_hasNext_11 rfl rfl ?_
    refine f_X3_name C (hA _ (by decide)) (Or.inl q136) (Or.inl rfl) dX3_hasNext_12 ?_
    refine g_aload_n C dX3_hasNext_15 rfl rfl ?_
    refine f_X3_level C (hA _ (by decide)) (Or.inl q144) (Or.inl rfl) dX3_hasNext_16 ?_
    refine g_top (hv) ?_
    refine g_iald (n := 3) C rfl (hA _ (by decide)) rfl (by omega) (by decide) dX3_hasNext_19 ?_
    refine g_iload_n C dX3_hasNext_20 rfl rfl ?_
    refine g_icmp_ne (tgt := 28) C dX3_hasNext_21 (by decide) (fun c21 => ?_) (fun c21 => ?_)
    · refine g_iconst (v := nI 0) C dX3_hasNext_28 (by decide) ?_
      exact g_ireturn C hQ rfl (by omega) (by omega) dX3_hasNext_29 (by first | exact ⟨by rw [decide_eq_true ⟨c8, c21⟩]; rfl, rfl⟩ | exact ⟨by rw [decide_eq_false (fun e => c21 e.2)]; rfl, rfl⟩ | exact ⟨by rw [decide_eq_false (fun e => absurd e.1 (Nat.not_lt.mpr c8))]; rfl, rfl⟩)
    · refine g_iconst (v := nI 1) C dX3_hasNext_24 (by decide) ?_
      refine g_goto (tgt := 29) C dX3_hasNext_25 (by decide) ?_
      exact g_ireturn C hQ rfl (by omega) (by omega) dX3_hasNext_29 (by first | exact ⟨by rw [decide_eq_true ⟨c8, c21⟩]; rfl, rfl⟩ | exact ⟨by rw [decide_eq_false (fun e => c21 e.2)]; rfl, rfl⟩ | exact ⟨by rw [decide_eq_false (fun e => absurd e.1 (Nat.not_lt.mpr c8))]; rfl, rfl⟩)
/-- where the run of v's ends -/
def runF (g : Nat → Int32) (v : Int32) : Nat → Nat → Nat
  | 0, k => k
  | m + 1, k => if g k = v then runF g v m (k + 1) else k
theorem runF_le (g : Nat → Int32) (v : Int32) : ∀ (m k : Nat), k ≤ runF g v m k ∧ runF g v m k ≤ k + m
  | 0, k => ⟨Nat.le_refl _, Nat.le_refl _⟩
  | m + 1, k => by
    have ih := runF_le g v m (k + 1)
    unfold runF
    split <;> omega
def spF (z : JZ) (i tb v f h : Nat) : Nat := runF (kyF z i tb v) (kyF z i tb v f) (h - f) f
def sFT (z : JZ) (i v f t : Nat) : JZ := sM (sM z (22, i) v (nI f)) (23, i) v (nI t)
theorem zM_sM_at {z : JZ} {i : JId} {k : Nat} {v : Int32} : zM (sM z i k v) i k = v := by rw [zM_sM_s, pk_us]
theorem bx_updd (f : Nat → Int32) (k : Nat) (v w : Int32) : upd (upd f k v) k w = upd f k w := by
  funext j
  simp only [upd]
  split <;> rfl
theorem lp_X3_spans {Γ : JC} {l : Launch} {z : JZ} {i p tb v f h : Nat} (C : jOk Γ l (jrm 3 0 0) cX3_spans "JoinLoom$Tree" (none) 1) (hQ : jRt Γ (jRv (sM z (23, i) v (nI (spF z i tb v f h)))) 0 0 "spans") (hA : trA z i p tb) (hv : zM z (16, i) 10 = nI v) (hv3 : v < 3) (hf : zM z (22, i) v = nI f) (hh : zM z (21, i) v = nI h) (hfh : f ≤ h) (hh4 : h ≤ 40) (hR : trR z i h) (hC : trC z i (v + 1)) :
    ∀ (m k : Nat), k + m = h → f ≤ k → spF z i tb v f h = runF (kyF z i tb v) (kyF z i tb v f) m k → jG Γ 0 0 (sM z (23, i) v (nI k)) 18 [(0, .ref (zA z (16, i)))] [] := by
  intro m
  induction m with
  | zero =>
    intro k hk hfk he
    have e : k = h := by omega
    subst e
    refine g_aload_n C dX3_spans_18 rfl rfl ?_
    refine f_X3_to C (hA.1 _ (by decide)) (Or.inl q143) (Or.inl rfl) dX3_spans_19 ?_
    refine g_aload_n C dX3_spans_22 rfl rfl ?_
    refine f_X3_level C (hA.1 _ (by decide)) (Or.inl q144) (Or.inl rfl) dX3_spans_23 ?_
    refine g_top (hv) ?_
    refine g_iald (n := 4) C rfl (hA.1 _ (by decide)) rfl (by omega) (by decide) dX3_spans_26 ?_
    refine g_top (zM_sM_at) ?_
    refine g_aload_n C dX3_spans_27 rfl rfl ?_
    refine f_X3_high C (hA.1 _ (by decide)) (Or.inl q141) (Or.inl rfl) dX3_spans_28 ?_
    refine g_aload_n C dX3_spans_31 rfl rfl ?_
    refine f_X3_level C (hA.1 _ (by decide)) (Or.inl q144) (Or.inl rfl) dX3_spans_32 ?_
    refine g_top (hv) ?_
    refine g_iald (n := 4) C rfl (hA.1 _ (by decide)) rfl (by omega) (by decide) dX3_spans_35 ?_
    refine g_top (hh) ?_
    first | refine g_icmp_ge_n (tgt := 85) C dX3_spans_36 (by decide) (by omega) (by omega) (fun c36 => ?_) (fun c36 => ?_) | refine g_icmp_ge (tgt := 85) C dX3_spans_36 (by decide) (fun c36 => ?_) (fun c36 => ?_)
    · exact g_vreturn C hQ (by omega) (by omega) dX3_spans_85 (⟨rfl, by rw [he]; rfl⟩)
    · omega
  | succ m ih =>
    intro k hk hfk he
    refine g_aload_n C dX3_spans_18 rfl rfl ?_
    refine f_X3_to C (hA.1 _ (by decide)) (Or.inl q143) (Or.inl rfl) dX3_spans_19 ?_
    refine g_aload_n C dX3_spans_22 rfl rfl ?_
    refine f_X3_level C (hA.1 _ (by decide)) (Or.inl q144) (Or.inl rfl) dX3_spans_23 ?_
    refine g_top (hv) ?_
    refine g_iald (n := 4) C rfl (hA.1 _ (by decide)) rfl (by omega) (by decide) dX3_spans_26 ?_
    refine g_top (zM_sM_at) ?_
    refine g_aload_n C dX3_spans_27 rfl rfl ?_
    refine f_X3_high C (hA.1 _ (by decide)) (Or.inl q141) (Or.inl rfl) dX3_spans_28 ?_
    refine g_aload_n C dX3_spans_31 rfl rfl ?_
    refine f_X3_level C (hA.1 _ (by decide)) (Or.inl q144) (Or.inl rfl) dX3_spans_32 ?_
    refine g_top (hv) ?_
    refine g_iald (n := 4) C rfl (hA.1 _ (by decide)) rfl (by omega) (by decide) dX3_spans_35 ?_
    refine g_top (hh) ?_
    first | refine g_icmp_ge_n (tgt := 85) C dX3_spans_36 (by decide) (by omega) (by omega) (fun c36 => ?_) (fun c36 => ?_) | refine g_icmp_ge (tgt := 85) C dX3_spans_36 (by decide) (fun c36 => ?_) (fun c36 => ?_)
    · omega
    · refine g_aload_n C dX3_spans_39 rfl rfl ?_
      refine g_aload_n C dX3_spans_40 rfl rfl ?_
      refine f_X3_to C (hA.1 _ (by decide)) (Or.inl q143) (Or.inl rfl) dX3_spans_41 ?_
      refine g_aload_n C dX3_spans_44 rfl rfl ?_
      refine f_X3_level C (hA.1 _ (by decide)) (Or.inl q144) (Or.inl rfl) dX3_spans_45 ?_
      refine g_top (hv) ?_
      refine g_iald (n := 4) C rfl (hA.1 _ (by decide)) rfl (by omega) (by decide) dX3_spans_48 ?_
      refine g_top (zM_sM_at) ?_
      refine g_cfl (g_runV C (m_X3_key l (sM z (23, i) v (nI k)) i p tb v k hA hv hv3 (fun x hx => hR x (by omega)) hC (by omega)) ciX3_key q556 (Or.inl qs12) (Or.inl q554) (hA.1 _ (by decide)) rfl rfl rfl rfl (Nat.le_of_ble_eq_true rfl) dX3_spans_49 (by decide)) ?_
      refine g_aload_n C dX3_spans_52 rfl rfl ?_
      refine g_aload_n C dX3_spans_53 rfl rfl ?_
      refine f_X3_from C (hA.1 _ (by decide)) (Or.inl q142) (Or.inl rfl) dX3_spans_54 ?_
      refine g_aload_n C dX3_spans_57 rfl rfl ?_
      refine f_X3_level C (hA.1 _ (by decide)) (Or.inl q144) (Or.inl rfl) dX3_spans_58 ?_
      refine g_top (hv) ?_
      refine g_iald (n := 4) C rfl (hA.1 _ (by decide)) rfl (by omega) (by decide) dX3_spans_61 ?_
      refine g_top (hf) ?_
      refine g_cfl (g_runV C (m_X3_key l (sM z (23, i) v (nI k)) i p tb v f hA hv hv3 (fun x hx => hR x (by omega)) hC (by omega)) ciX3_key q556 (Or.inl qs12) (Or.inl q554) (hA.1 _ (by decide)) rfl rfl rfl rfl (Nat.le_of_ble_eq_true rfl) dX3_spans_62 (by decide)) ?_
      refine g_lcmp C dX3_spans_65 ?_
      refine g_if_ne_c (tgt := 85) C dX3_spans_66 (by decide) (fun c66 => ?_) (fun c66 => ?_)
      · exact g_vreturn C hQ (by omega) (by omega) dX3_spans_85 (by have c66' : ¬ kyF z i tb v k = kyF z i tb v f := fun e => c66 ((rkL_eq _ _).mpr e); exact ⟨rfl, by rw [he, runF, if_neg c66']⟩)
      · have c66' : kyF z i tb v k = kyF z i tb v f := (rkL_eq _ _).mp c66
        refine g_aload_n C dX3_spans_69 rfl rfl ?_
        refine f_X3_to C (hA.1 _ (by decide)) (Or.inl q143) (Or.inl rfl) dX3_spans_70 ?_
        refine g_aload_n C dX3_spans_73 rfl rfl ?_
        refine f_X3_level C (hA.1 _ (by decide)) (Or.inl q144) (Or.inl rfl) dX3_spans_74 ?_
        refine g_top (hv) ?_
        refine g_dup2 C dX3_spans_77 rfl rfl ?_
        refine g_iald (n := 4) C rfl (hA.1 _ (by decide)) rfl (by omega) (by decide) dX3_spans_78 ?_
        refine g_top (zM_sM_at) ?_
        refine g_iconst (v := nI 1) C dX3_spans_79 (by decide) ?_
        first | refine g_iadd_n C dX3_spans_80 ?_ | refine g_iadd C dX3_spans_80 ?_
        refine g_iast (n := 4) C rfl (hA.1 _ (by decide)) rfl (by omega) (by decide) dX3_spans_81 ?_
        refine g_goto (tgt := 18) C dX3_spans_82 (by decide) ?_
        refine g_z ?_ (ih (k + 1) (by omega) (by omega) (by rw [he, runF, if_pos c66']))
        unfold sM
        rw [zM_sA_s, sA_sA, bx_updd]
theorem m_X3_spans (l : Launch) (z : JZ) (i p tb v f h : Nat) (hA : trA z i p tb) (hv : zM z (16, i) 10 = nI v) (hv3 : v < 3) (hf : zM z (22, i) v = nI f) (hh : zM z (21, i) v = nI h) (hfh : f ≤ h) (hh4 : h ≤ 40) (hR : trR z i h) (hC : trC z i (v + 1)) : jCt l yX3_spans cX3_spans 1 (none) 3 0 0 [.ref (zA z (16, i))] z (jRv (sM z (23, i) v (nI (spF z i tb v f h)))) := by
  refine (jCt.of "JoinLoom$Tree" "spans" [(0, _)] rfl rfl (by decide) (Nat.le_of_ble_eq_true rfl) rfl (fun Γ C hQ => ?_))
  refine g_aload_n C dX3_spans_0 rfl rfl ?_
  refine f_X3_to C (hA.1 _ (by decide)) (Or.inl q143) (Or.inl rfl) dX3_spans_1 ?_
  refine g_aload_n C dX3_spans_4 rfl rfl ?_
  refine f_X3_level C (hA.1 _ (by decide)) (Or.inl q144) (Or.inl rfl) dX3_spans_5 ?_
  refine g_top (hv) ?_
  refine g_aload_n C dX3_spans_8 rfl rfl ?_
  refine f_X3_from C (hA.1 _ (by decide)) (Or.inl q142) (Or.inl rfl) dX3_spans_9 ?_
  refine g_aload_n C dX3_spans_12 rfl rfl ?_
  refine f_X3_level C (hA.1 _ (by decide)) (Or.inl q144) (Or.inl rfl) dX3_spans_13 ?_
  refine g_top (hv) ?_
  refine g_iald (n := 4) C rfl (hA.1 _ (by decide)) rfl (by omega) (by decide) dX3_spans_16 ?_
  refine g_top (hf) ?_
  refine g_iast (n := 4) C rfl (hA.1 _ (by decide)) rfl (by omega) (by decide) dX3_spans_17 ?_
  exact lp_X3_spans C hQ hA hv hv3 hf hh hfh hh4 hR hC (h - f) f (by omega) (by omega) rfl
theorem m_X3_opens (l : Launch) (z : JZ) (i p tb v f h : Nat) (hA : trA z i p tb) (hv : zM z (16, i) 10 = nI v) (hv3 : v < 3) (hf : zM z (20, i) v = nI f) (hh : zM z (21, i) v = nI h) (hfh : f ≤ h) (hh4 : h ≤ 40) (hR : trR z i h) (hC : trC z i (v + 1)) : jCt l yX3_opens cX3_opens 1 (none) 4 0 0 [.ref (zA z (16, i))] z (jRv (sFT z i v f (spF z i tb v f h))) := by
  refine (jCt.of "JoinLoom$Tree" "opens" [(0, _)] rfl rfl (by decide) (Nat.le_of_ble_eq_true rfl) rfl (fun Γ C hQ => ?_))
  refine g_aload_n C dX3_opens_0 rfl rfl ?_
  refine f_X3_from C (hA.1 _ (by decide)) (Or.inl q142) (Or.inl rfl) dX3_opens_1 ?_
  refine g_aload_n C dX3_opens_4 rfl rfl ?_
  refine f_X3_level C (hA.1 _ (by decide)) (Or.inl q144) (Or.inl rfl) dX3_opens_5 ?_
  refine g_top (hv) ?_
  refine g_aload_n C dX3_opens_8 rfl rfl ?_
  refine f_X3_low C (hA.1 _ (by decide)) (Or.inl q140) (Or.inl rfl) dX3_opens_9 ?_
  refine g_aload_n C dX3_opens_12 rfl rfl ?_
  refine f_X3_level C (hA.1 _ (by decide)) (Or.inl q144) (Or.inl rfl) dX3_opens_13 ?_
  refine g_top (hv) ?_
  refine g_iald (n := 4) C rfl (hA.1 _ (by decide)) rfl (by omega) (by decide) dX3_opens_16 ?_
  refine g_top (hf) ?_
  refine g_iast (n := 4) C rfl (hA.1 _ (by decide)) rfl (by omega) (by decide) dX3_opens_17 ?_
  refine g_aload_n C dX3_opens_18 rfl rfl ?_
  refine g_cfv (g_runV C (m_X3_spans l (sM z (22, i) v (nI f)) i p tb v f h hA hv hv3 zM_sM_at hh hfh hh4 hR hC) ciX3_spans q552 (Or.inl qs11) (Or.inl q550) (hA.1 _ (by decide)) rfl rfl rfl rfl (Nat.le_of_ble_eq_true rfl) dX3_opens_19 (by decide)) ?_
  exact g_vreturn C hQ (by omega) (by omega) dX3_opens_22 (⟨rfl, rfl⟩)
theorem m_X3_next (l : Launch) (z : JZ) (i p tb v f h : Nat) (hA : trA z i p tb) (hv : zM z (16, i) 10 = nI v) (hv3 : v < 3) (hf : zM z (23, i) v = nI f) (hh : zM z (21, i) v = nI h) (hfh : f ≤ h) (hh4 : h ≤ 40) (hR : trR z i h) (hC : trC z i (v + 1)) : jCt l yX3_next cX3_next 1 (none) 4 0 0 [.ref (zA z (16, i))] z (jRv (sFT z i v f (spF z i tb v f h))) := by
  refine (jCt.of "JoinLoom$Tree" "next" [(0, _)] rfl rfl (by decide) (Nat.le_of_ble_eq_true rfl) rfl (fun Γ C hQ => ?_))
  refine g_aload_n C dX3_next_0 rfl rfl ?_
  refine f_X3_from C (hA.1 _ (by decide)) (Or.inl q142) (Or.inl rfl) dX3_next_1 ?_
  refine g_aload_n C dX3_next_4 rfl rfl ?_
  refine f_X3_level C (hA.1 _ (by decide)) (Or.inl q144) (Or.inl rfl) dX3_next_5 ?_
  refine g_top (hv) ?_
  refine g_aload_n C dX3_next_8 rfl rfl ?_
  refine f_X3_to C (hA.1 _ (by decide)) (Or.inl q143) (Or.inl rfl) dX3_next_9 ?_
  refine g_aload_n C dX3_next_12 rfl rfl ?_
  refine f_X3_level C (hA.1 _ (by decide)) (Or.inl q144) (Or.inl rfl) dX3_next_13 ?_
  refine g_top (hv) ?_
  refine g_iald (n := 4) C rfl (hA.1 _ (by decide)) rfl (by omega) (by decide) dX3_next_16 ?_
  refine g_top (hf) ?_
  refine g_iast (n := 4) C rfl (hA.1 _ (by decide)) rfl (by omega) (by decide) dX3_next_17 ?_
  refine g_aload_n C dX3_next_18 rfl rfl ?_
  refine g_cfv (g_runV C (m_X3_spans l (sM z (22, i) v (nI f)) i p tb v f h hA hv hv3 zM_sM_at hh hfh hh4 hR hC) ciX3_spans q552 (Or.inl qs11) (Or.inl q550) (hA.1 _ (by decide)) rfl rfl rfl rfl (Nat.le_of_ble_eq_true rfl) dX3_next_19 (by decide)) ?_
  exact g_vreturn C hQ (by omega) (by omega) dX3_next_22 (⟨rfl, rfl⟩)
theorem m_X3_down (l : Launch) (z : JZ) (i v f t : Nat) (hA : ∀ t, 16 ≤ t ∧ t ≤ 23 → zL z (t, i) = true) (hv : zM z (16, i) 10 = nI v) (hv3 : v < 3) (hf : zM z (22, i) v = nI f) (ht : zM z (23, i) v = nI t) : jCt l yX3_down cX3_down 1 (none) 1 0 0 [.ref (zA z (16, i))] z (jRv (sM (sM (sM z (20, i) (v + 1) (nI f)) (21, i) (v + 1) (nI t)) (16, i) 10 (nI (v + 1)))) := by
  refine (jCt.of "JoinLoom$Tree" "down" [(0, _)] rfl rfl (by decide) (Nat.le_of_ble_eq_true rfl) rfl (fun Γ C hQ => ?_))
  refine g_aload_n C dX3_down_0 rfl rfl ?_
  refine f_X3_low C (hA _ (by decide)) (Or.inl q140) (Or.inl rfl) dX3_down_1 ?_
  refine g_aload_n C dX3_down_4 rfl rfl ?_
  refine f_X3_level C (hA _ (by decide)) (Or.inl q144) (Or.inl rfl) dX3_down_5 ?_
  refine g_top (hv) ?_
  refine g_iconst (v := nI 1) C dX3_down_8 (by decide) ?_
  first | refine g_iadd_n C dX3_down_9 ?_ | refine g_iadd C dX3_down_9 ?_
  refine g_aload_n C dX3_down_10 rfl rfl ?_
  refine f_X3_from C (hA _ (by decide)) (Or.inl q142) (Or.inl rfl) dX3_down_11 ?_
  refine g_aload_n C dX3_down_14 rfl rfl ?_
  refine f_X3_level C (hA _ (by decide)) (Or.inl q144) (Or.inl rfl) dX3_down_15 ?_
  refine g_top (hv) ?_
  refine g_iald (n := 4) C rfl (hA _ (by decide)) rfl (by omega) (by decide) dX3_down_18 ?_
  refine g_top (hf) ?_
  refine g_iast (n := 4) C rfl (hA _ (by decide)) rfl (by omega) (by decide) dX3_down_19 ?_
  refine g_aload_n C dX3_down_20 rfl rfl ?_
  refine f_X3_high C (hA _ (by decide)) (Or.inl q141) (Or.inl rfl) dX3_down_21 ?_
  refine g_aload_n C dX3_down_24 rfl rfl ?_
  refine f_X3_level C (hA _ (by decide)) (Or.inl q144) (Or.inl rfl) dX3_down_25 ?_
  refine g_top (hv) ?_
  refine g_iconst (v := nI 1) C dX3_down_28 (by decide) ?_
  first | refine g_iadd_n C dX3_down_29 ?_ | refine g_iadd C dX3_down_29 ?_
  refine g_aload_n C dX3_down_30 rfl rfl ?_
  refine f_X3_to C (hA _ (by decide)) (Or.inl q143) (Or.inl rfl) dX3_down_31 ?_
  refine g_aload_n C dX3_down_34 rfl rfl ?_
  refine f_X3_level C (hA _ (by decide)) (Or.inl q144) (Or.inl rfl) dX3_down_35 ?_
  refine g_top (hv) ?_
  refine g_iald (n := 4) C rfl (hA _ (by decide)) rfl (by omega) (by decide) dX3_down_38 ?_
  refine g_top (ht) ?_
  refine g_iast (n := 4) C rfl (hA _ (by decide)) rfl (by omega) (by decide) dX3_down_39 ?_
  refine g_aload_n C dX3_down_40 rfl rfl ?_
  refine g_dup C dX3_down_41 rfl ?_
  refine f_X3_level C (hA _ (by decide)) (Or.inl q144) (Or.inl rfl) dX3_down_42 ?_
  refine g_top (hv) ?_
  refine g_iconst (v := nI 1) C dX3_down_45 (by decide) ?_
  first | refine g_iadd_n C dX3_down_46 ?_ | refine g_iadd C dX3_down_46 ?_
  refine p_X3_level C hQ (hA _ (by decide)) (Or.inl q144) (Or.inl rfl) dX3_down_47 ?_
  exact g_vreturn C hQ (by omega) (by omega) dX3_down_50 (⟨rfl, rfl⟩)
theorem m_X3_up (l : Launch) (z : JZ) (i v : Nat) (hA : ∀ t, 16 ≤ t ∧ t ≤ 23 → zL z (t, i) = true) (hv : zM z (16, i) 10 = nI v) (h0 : 0 < v) : jCt l yX3_up cX3_up 1 (none) 1 0 0 [.ref (zA z (16, i))] z (jRv (sM z (16, i) 10 (nI (v - 1)))) := by
  refine (jCt.of "JoinLoom$Tree" "up" [(0, _)] rfl rfl (by decide) (Nat.le_of_ble_eq_true rfl) rfl (fun Γ C hQ => ?_))
  refine g_aload_n C dX3_up_0 rfl rfl ?_
  refine g_dup C dX3_up_1 rfl ?_
  refine f_X3_level C (hA _ (by decide)) (Or.inl q144) (Or.inl rfl) dX3_up_2 ?_
  refine g_top (hv) ?_
  refine g_iconst (v := nI 1) C dX3_up_5 (by decide) ?_
  first | refine g_isub_n C dX3_up_6 (by omega) ?_ | refine g_isub C dX3_up_6 ?_
  refine p_X3_level C hQ (hA _ (by decide)) (Or.inl q144) (Or.inl rfl) dX3_up_7 ?_
  exact g_vreturn C hQ (by omega) (by omega) dX3_up_10 (⟨rfl, rfl⟩)
/-- p is the first place from f on, below h, whose value is not ahead of w -/
def skP (g : Nat → Int32) (w : Int64) (f h p : Nat) : Prop := f ≤ p ∧ p ≤ h ∧ (∀ k, f ≤ k → k < p → rkL (g k) < w) ∧ ∀ k, p ≤ k → k < h → ¬ rkL (g k) < w
theorem l2_X3_seeks {Γ : JC} {l : Launch} {z : JZ} {i p tb v f h q : Nat} {w : Int64} (C : jOk Γ l (jrm 4 0 0) cX3_seeks "JoinLoom$Tree" (none) 8) (hQ : jRt Γ (jRv (sFT z i v q (spF z i tb v q h))) 0 0 "seeks") (hA : trA z i p tb) (hv : zM z (16, i) 10 = nI v) (hv3 : v < 3) (hh : zM z (21, i) v = nI h) (hh4 : h ≤ 40) (hR : trR z i h) (hC : trC z i (v + 1)) (hq : skP (kyF z i tb v) w f h q) (x y : Int32) :
    ∀ (m b e : Nat), e - b ≤ m → f ≤ b → b ≤ q → q ≤ e → e ≤ h → jG Γ 0 0 z 77 [(0, .ref (zA z (16, i))), (1, .long w), (3, .int x), (4, .int y), (5, .int (nI e)), (6, .int (nI b))] [] := by
  obtain ⟨q1, q2, q3, q4⟩ := hq
  intro m
  induction m with
  | zero =>
    intro b e hm h1 h2 h3 h4
    have e0 : b = q := by omega
    subst e0
    refine g_iload C dX3_seeks_77 rfl ?_
    refine g_iload C dX3_seeks_79 rfl ?_
    first | refine g_icmp_ge_n (tgt := 120) C dX3_seeks_81 (by decide) (by omega) (by omega) (fun c81 => ?_) (fun c81 => ?_) | refine g_icmp_ge (tgt := 120) C dX3_seeks_81 (by decide) (fun c81 => ?_) (fun c81 => ?_)
    · refine g_aload_n C dX3_seeks_120 rfl rfl ?_
      refine f_X3_from C (hA.1 _ (by decide)) (Or.inl q142) (Or.inl rfl) dX3_seeks_121 ?_
      refine g_aload_n C dX3_seeks_124 rfl rfl ?_
      refine f_X3_level C (hA.1 _ (by decide)) (Or.inl q144) (Or.inl rfl) dX3_seeks_125 ?_
      refine g_top (hv) ?_
      refine g_iload C dX3_seeks_128 rfl ?_
      refine g_iast (n := 4) C rfl (hA.1 _ (by decide)) rfl (by omega) (by decide) dX3_seeks_130 ?_
      refine g_aload_n C dX3_seeks_131 rfl rfl ?_
      refine g_cfv (g_runV C (m_X3_spans l (sM z (22, i) v (nI b)) i p tb v b h hA hv hv3 zM_sM_at hh q2 hh4 hR hC) ciX3_spans q552 (Or.inl qs11) (Or.inl q550) (hA.1 _ (by decide)) rfl rfl rfl rfl (Nat.le_of_ble_eq_true rfl) dX3_seeks_132 (by decide)) ?_
      exact g_vreturn C hQ (by omega) (by omega) dX3_seeks_135 (⟨rfl, rfl⟩)
    · omega
  | succ m ih =>
    intro b e hm h1 h2 h3 h4
    refine g_iload C dX3_seeks_77 rfl ?_
    refine g_iload C dX3_seeks_79 rfl ?_
    first | refine g_icmp_ge_n (tgt := 120) C dX3_seeks_81 (by decide) (by omega) (by omega) (fun c81 => ?_) (fun c81 => ?_) | refine g_icmp_ge (tgt := 120) C dX3_seeks_81 (by decide) (fun c81 => ?_) (fun c81 => ?_)
    · have e0 : b = q := by omega
      subst e0
      refine g_aload_n C dX3_seeks_120 rfl rfl ?_
      refine f_X3_from C (hA.1 _ (by decide)) (Or.inl q142) (Or.inl rfl) dX3_seeks_121 ?_
      refine g_aload_n C dX3_seeks_124 rfl rfl ?_
      refine f_X3_level C (hA.1 _ (by decide)) (Or.inl q144) (Or.inl rfl) dX3_seeks_125 ?_
      refine g_top (hv) ?_
      refine g_iload C dX3_seeks_128 rfl ?_
      refine g_iast (n := 4) C rfl (hA.1 _ (by decide)) rfl (by omega) (by decide) dX3_seeks_130 ?_
      refine g_aload_n C dX3_seeks_131 rfl rfl ?_
      refine g_cfv (g_runV C (m_X3_spans l (sM z (22, i) v (nI b)) i p tb v b h hA hv hv3 zM_sM_at hh q2 hh4 hR hC) ciX3_spans q552 (Or.inl qs11) (Or.inl q550) (hA.1 _ (by decide)) rfl rfl rfl rfl (Nat.le_of_ble_eq_true rfl) dX3_seeks_132 (by decide)) ?_
      exact g_vreturn C hQ (by omega) (by omega) dX3_seeks_135 (⟨rfl, rfl⟩)
    · refine g_iload C dX3_seeks_84 rfl ?_
      refine g_iload C dX3_seeks_86 rfl ?_
      first | refine g_iadd_n C dX3_seeks_88 ?_ | refine g_iadd C dX3_seeks_88 ?_
      refine g_iconst (v := nI 2) C dX3_seeks_89 (by decide) ?_
      first | refine g_idiv_n C dX3_seeks_90 (by omega) (by omega) (by omega) ?_ | refine g_idiv C dX3_seeks_90 (by decide) ?_
      refine g_istore (lv' := [(0, _), (1, _), (3, _), (4, _), (5, _), (6, _), (7, _)]) C dX3_seeks_91 (by decide) rfl ?_
      refine g_aload_n C dX3_seeks_93 rfl rfl ?_
      refine g_iload C dX3_seeks_94 rfl ?_
      refine g_cfl (g_runV C (m_X3_key l z i p tb v ((b + e) / 2) hA hv hv3 (fun x hx => hR x (by omega)) hC (by omega)) ciX3_key q556 (Or.inl qs12) (Or.inl q554) (hA.1 _ (by decide)) rfl rfl rfl rfl (Nat.le_of_ble_eq_true rfl) dX3_seeks_96 (by decide)) ?_
      refine g_lload_n C dX3_seeks_99 rfl rfl ?_
      refine g_lcmp C dX3_seeks_100 ?_
      refine g_if_ge_c (tgt := 113) C dX3_seeks_101 (by decide) (fun c101 => ?_) (fun c101 => ?_)
      · refine g_iload C dX3_seeks_113 rfl ?_
        refine g_istore (lv' := [(0, _), (1, _), (3, _), (4, _), (5, _), (6, _), (7, _)]) C dX3_seeks_115 (by decide) rfl ?_
        refine g_goto (tgt := 77) C dX3_seeks_117 (by decide) ?_
        refine g_take 6 rfl ?_
        first | exact ih _ _ (by omega) (by omega) (Nat.not_le.mp (fun z0 => q4 _ z0 (by omega) c101)) (by omega) (by omega) | exact ih _ _ (by omega) (by omega) (by omega) (Nat.not_lt.mp (fun z0 => c101 (q3 _ (by omega) z0))) (by omega)
      · refine g_iload C dX3_seeks_104 rfl ?_
        refine g_iconst (v := nI 1) C dX3_seeks_106 (by decide) ?_
        first | refine g_iadd_n C dX3_seeks_107 ?_ | refine g_iadd C dX3_seeks_107 ?_
        refine g_istore (lv' := [(0, _), (1, _), (3, _), (4, _), (5, _), (6, _), (7, _)]) C dX3_seeks_108 (by decide) rfl ?_
        refine g_goto (tgt := 117) C dX3_seeks_110 (by decide) ?_
        refine g_goto (tgt := 77) C dX3_seeks_117 (by decide) ?_
        refine g_take 6 rfl ?_
        first | exact ih _ _ (by omega) (by omega) (Nat.not_le.mp (fun z0 => q4 _ z0 (by omega) c101)) (by omega) (by omega) | exact ih _ _ (by omega) (by omega) (by omega) (Nat.not_lt.mp (fun z0 => c101 (q3 _ (by omega) z0))) (by omega)
theorem l1_X3_seeks {Γ : JC} {l : Launch} {z : JZ} {i p tb v f h q : Nat} {w : Int64} (C : jOk Γ l (jrm 4 0 0) cX3_seeks "JoinLoom$Tree" (none) 8) (hQ : jRt Γ (jRv (sFT z i v q (spF z i tb v q h))) 0 0 "seeks") (hA : trA z i p tb) (hv : zM z (16, i) 10 = nI v) (hv3 : v < 3) (hh : zM z (21, i) v = nI h) (hh4 : h ≤ 40) (hR : trR z i h) (hC : trC z i (v + 1)) (hq : skP (kyF z i tb v) w f h q) :
    ∀ (m a s : Nat), h - a ≤ m → f ≤ a → a ≤ q → 0 < s → s ≤ 80 → jG Γ 0 0 z 13 [(0, .ref (zA z (16, i))), (1, .long w), (3, .int (nI a)), (4, .int (nI s))] [] := by
  have hq0 := hq
  obtain ⟨q1, q2, q3, q4⟩ := hq
  intro m
  induction m with
  | zero =>
    intro a s hm h1 h2 h3 h4
    refine g_iload_n C dX3_seeks_13 rfl rfl ?_
    refine g_iload C dX3_seeks_14 rfl ?_
    first | refine g_iadd_n C dX3_seeks_16 ?_ | refine g_iadd C dX3_seeks_16 ?_
    refine g_aload_n C dX3_seeks_17 rfl rfl ?_
    refine f_X3_high C (hA.1 _ (by decide)) (Or.inl q141) (Or.inl rfl) dX3_seeks_18 ?_
    refine g_aload_n C dX3_seeks_21 rfl rfl ?_
    refine f_X3_level C (hA.1 _ (by decide)) (Or.inl q144) (Or.inl rfl) dX3_seeks_22 ?_
    refine g_top (hv) ?_
    refine g_iald (n := 4) C rfl (hA.1 _ (by decide)) rfl (by omega) (by decide) dX3_seeks_25 ?_
    refine g_top (hh) ?_
    first | refine g_icmp_ge_n (tgt := 56) C dX3_seeks_26 (by decide) (by omega) (by omega) (fun c26 => ?_) (fun c26 => ?_) | refine g_icmp_ge (tgt := 56) C dX3_seeks_26 (by decide) (fun c26 => ?_) (fun c26 => ?_)
    · refine g_aload_n C dX3_seeks_56 rfl rfl ?_
      refine f_X3_high C (hA.1 _ (by decide)) (Or.inl q141) (Or.inl rfl) dX3_seeks_57 ?_
      refine g_aload_n C dX3_seeks_60 rfl rfl ?_
      refine f_X3_level C (hA.1 _ (by decide)) (Or.inl q144) (Or.inl rfl) dX3_seeks_61 ?_
      refine g_top (hv) ?_
      refine g_iald (n := 4) C rfl (hA.1 _ (by decide)) rfl (by omega) (by decide) dX3_seeks_64 ?_
      refine g_top (hh) ?_
      refine g_iload_n C dX3_seeks_65 rfl rfl ?_
      refine g_iload C dX3_seeks_66 rfl ?_
      first | refine g_iadd_n C dX3_seeks_68 ?_ | refine g_iadd C dX3_seeks_68 ?_
      refine g_mmin C q574 dX3_seeks_69 (by decide) (Nat.le_of_ble_eq_true rfl) ?_
      refine g_top (nI_min (by omega) (by omega)) ?_
      refine g_istore (lv' := [(0, _), (1, _), (3, _), (4, _), (5, _)]) C dX3_seeks_72 (by decide) rfl ?_
      refine g_iload_n C dX3_seeks_74 rfl rfl ?_
      refine g_istore (lv' := [(0, _), (1, _), (3, _), (4, _), (5, _), (6, _)]) C dX3_seeks_75 (by decide) rfl ?_
      exact l2_X3_seeks C hQ hA hv hv3 hh hh4 hR hC hq0 _ _ h a _ (by omega) h1 h2 (by omega) (by omega)
    · omega
  | succ m ih =>
    intro a s hm h1 h2 h3 h4
    refine g_iload_n C dX3_seeks_13 rfl rfl ?_
    refine g_iload C dX3_seeks_14 rfl ?_
    first | refine g_iadd_n C dX3_seeks_16 ?_ | refine g_iadd C dX3_seeks_16 ?_
    refine g_aload_n C dX3_seeks_17 rfl rfl ?_
    refine f_X3_high C (hA.1 _ (by decide)) (Or.inl q141) (Or.inl rfl) dX3_seeks_18 ?_
    refine g_aload_n C dX3_seeks_21 rfl rfl ?_
    refine f_X3_level C (hA.1 _ (by decide)) (Or.inl q144) (Or.inl rfl) dX3_seeks_22 ?_
    refine g_top (hv) ?_
    refine g_iald (n := 4) C rfl (hA.1 _ (by decide)) rfl (by omega) (by decide) dX3_seeks_25 ?_
    refine g_top (hh) ?_
    first | refine g_icmp_ge_n (tgt := 56) C dX3_seeks_26 (by decide) (by omega) (by omega) (fun c26 => ?_) (fun c26 => ?_) | refine g_icmp_ge (tgt := 56) C dX3_seeks_26 (by decide) (fun c26 => ?_) (fun c26 => ?_)
    · refine g_aload_n C dX3_seeks_56 rfl rfl ?_
      refine f_X3_high C (hA.1 _ (by decide)) (Or.inl q141) (Or.inl rfl) dX3_seeks_57 ?_
      refine g_aload_n C dX3_seeks_60 rfl rfl ?_
      refine f_X3_level C (hA.1 _ (by decide)) (Or.inl q144) (Or.inl rfl) dX3_seeks_61 ?_
      refine g_top (hv) ?_
      refine g_iald (n := 4) C rfl (hA.1 _ (by decide)) rfl (by omega) (by decide) dX3_seeks_64 ?_
      refine g_top (hh) ?_
      refine g_iload_n C dX3_seeks_65 rfl rfl ?_
      refine g_iload C dX3_seeks_66 rfl ?_
      first | refine g_iadd_n C dX3_seeks_68 ?_ | refine g_iadd C dX3_seeks_68 ?_
      refine g_mmin C q574 dX3_seeks_69 (by decide) (Nat.le_of_ble_eq_true rfl) ?_
      refine g_top (nI_min (by omega) (by omega)) ?_
      refine g_istore (lv' := [(0, _), (1, _), (3, _), (4, _), (5, _)]) C dX3_seeks_72 (by decide) rfl ?_
      refine g_iload_n C dX3_seeks_74 rfl rfl ?_
      refine g_istore (lv' := [(0, _), (1, _), (3, _), (4, _), (5, _), (6, _)]) C dX3_seeks_75 (by decide) rfl ?_
      first | exact l2_X3_seeks C hQ hA hv hv3 hh hh4 hR hC hq0 _ _ h a _ (by omega) h1 h2 (by omega) (by omega) | exact l2_X3_seeks C hQ hA hv hv3 hh hh4 hR hC hq0 _ _ h a _ (by omega) h1 h2 (by have z1 := Nat.not_lt.mp (fun z0 => c39 (q3 (a + s) (by omega) z0)); omega) (by omega)
    · refine g_aload_n C dX3_seeks_29 rfl rfl ?_
      refine g_iload_n C dX3_seeks_30 rfl rfl ?_
      refine g_iload C dX3_seeks_31 rfl ?_
      first | refine g_iadd_n C dX3_seeks_33 ?_ | refine g_iadd C dX3_seeks_33 ?_
      refine g_cfl (g_runV C (m_X3_key l z i p tb v (a + s) hA hv hv3 (fun x hx => hR x (by omega)) hC (by omega)) ciX3_key q556 (Or.inl qs12) (Or.inl q554) (hA.1 _ (by decide)) rfl rfl rfl rfl (Nat.le_of_ble_eq_true rfl) dX3_seeks_34 (by decide)) ?_
      refine g_lload_n C dX3_seeks_37 rfl rfl ?_
      refine g_lcmp C dX3_seeks_38 ?_
      refine g_if_ge_c (tgt := 56) C dX3_seeks_39 (by decide) (fun c39 => ?_) (fun c39 => ?_)
      · refine g_aload_n C dX3_seeks_56 rfl rfl ?_
        refine f_X3_high C (hA.1 _ (by decide)) (Or.inl q141) (Or.inl rfl) dX3_seeks_57 ?_
        refine g_aload_n C dX3_seeks_60 rfl rfl ?_
        refine f_X3_level C (hA.1 _ (by decide)) (Or.inl q144) (Or.inl rfl) dX3_seeks_61 ?_
        refine g_top (hv) ?_
        refine g_iald (n := 4) C rfl (hA.1 _ (by decide)) rfl (by omega) (by decide) dX3_seeks_64 ?_
        refine g_top (hh) ?_
        refine g_iload_n C dX3_seeks_65 rfl rfl ?_
        refine g_iload C dX3_seeks_66 rfl ?_
        first | refine g_iadd_n C dX3_seeks_68 ?_ | refine g_iadd C dX3_seeks_68 ?_
        refine g_mmin C q574 dX3_seeks_69 (by decide) (Nat.le_of_ble_eq_true rfl) ?_
        refine g_top (nI_min (by omega) (by omega)) ?_
        refine g_istore (lv' := [(0, _), (1, _), (3, _), (4, _), (5, _)]) C dX3_seeks_72 (by decide) rfl ?_
        refine g_iload_n C dX3_seeks_74 rfl rfl ?_
        refine g_istore (lv' := [(0, _), (1, _), (3, _), (4, _), (5, _), (6, _)]) C dX3_seeks_75 (by decide) rfl ?_
        first | exact l2_X3_seeks C hQ hA hv hv3 hh hh4 hR hC hq0 _ _ h a _ (by omega) h1 h2 (by omega) (by omega) | exact l2_X3_seeks C hQ hA hv hv3 hh hh4 hR hC hq0 _ _ h a _ (by omega) h1 h2 (by have z1 := Nat.not_lt.mp (fun z0 => c39 (q3 (a + s) (by omega) z0)); omega) (by omega)
      · refine g_iload_n C dX3_seeks_42 rfl rfl ?_
        refine g_iload C dX3_seeks_43 rfl ?_
        first | refine g_iadd_n C dX3_seeks_45 ?_ | refine g_iadd C dX3_seeks_45 ?_
        refine g_istore_n (lv' := [(0, _), (1, _), (3, _), (4, _)]) C dX3_seeks_46 rfl (by decide) rfl ?_
        refine g_iload C dX3_seeks_47 rfl ?_
        refine g_iconst (v := nI 2) C dX3_seeks_49 (by decide) ?_
        first | refine g_imul_n C dX3_seeks_50 ?_ | refine g_imul C dX3_seeks_50 ?_
        refine g_istore (lv' := [(0, _), (1, _), (3, _), (4, _)]) C dX3_seeks_51 (by decide) rfl ?_
        refine g_goto (tgt := 13) C dX3_seeks_53 (by decide) ?_
        exact ih _ _ (by omega) (by omega) (Nat.le_of_lt (Nat.not_le.mp (fun z0 => q4 _ z0 (by omega) c39))) (by omega) (by omega)
theorem m_X3_seeks (l : Launch) (z : JZ) (i p tb v f h q : Nat) (w : Int64) (hA : trA z i p tb) (hv : zM z (16, i) 10 = nI v) (hv3 : v < 3) (hf : zM z (22, i) v = nI f) (hh : zM z (21, i) v = nI h) (hh4 : h ≤ 40) (hR : trR z i h) (hC : trC z i (v + 1)) (hq : skP (kyF z i tb v) w f h q) : jCt l yX3_seeks cX3_seeks 8 (none) 4 0 0 [.ref (zA z (16, i)), .long w] z (jRv (sFT z i v q (spF z i tb v q h))) := by
  refine (jCt.of "JoinLoom$Tree" "seeks" [(0, _), (1, _)] rfl rfl (by decide) (Nat.le_of_ble_eq_true rfl) rfl (fun Γ C hQ => ?_))
  refine g_aload_n C dX3_seeks_0 rfl rfl ?_
  refine f_X3_from C (hA.1 _ (by decide)) (Or.inl q142) (Or.inl rfl) dX3_seeks_1 ?_
  refine g_aload_n C dX3_seeks_4 rfl rfl ?_
  refine f_X3_level C (hA.1 _ (by decide)) (Or.inl q144) (Or.inl rfl) dX3_seeks_5 ?_
  refine g_top (hv) ?_
  refine g_iald (n := 4) C rfl (hA.1 _ (by decide)) rfl (by omega) (by decide) dX3_seeks_8 ?_
  refine g_top (hf) ?_
  refine g_istore_n (lv' := [(0, _), (1, _), (3, _)]) C dX3_seeks_9 rfl (by decide) rfl ?_
  refine g_iconst (v := nI 1) C dX3_seeks_10 (by decide) ?_
  refine g_istore (lv' := [(0, _), (1, _), (3, _), (4, _)]) C dX3_seeks_11 (by decide) rfl ?_
  exact l1_X3_seeks C hQ hA hv hv3 hh hh4 hR hC hq h f 1 (by omega) (by omega) hq.1 (by omega) (by omega)
