set_option maxRecDepth 100000
/-! cmpF as an order -/
theorem rk_lt_of {a b : Int32} (h : ¬ a = b) (h2 : ¬ rk a < rk b) : rk b < rk a := by
  have : rk a ≠ rk b := fun e => h (rk_inj e)
  omega
theorem cmp_pos {P : Prop} {x : Decidable P} : (0 : Int32) < (@ite _ P x (-1) 1) ↔ ¬ P := by
  by_cases h : P
  · rw [if_pos h]; exact ⟨fun e => absurd e (by decide), fun e => absurd h e⟩
  · rw [if_neg h]; exact ⟨fun _ => h, fun _ => by decide⟩
theorem cmp_neg {P : Prop} {x : Decidable P} : (@ite _ P x (-1 : Int32) 1) < 0 ↔ P := by
  by_cases h : P
  · rw [if_pos h]; exact ⟨fun _ => h, fun _ => by decide⟩
  · rw [if_neg h]; exact ⟨fun e => absurd e (by decide), fun e => absurd e h⟩
theorem cmpF_le_trans {u v w : Nat → Int32} : ∀ {n k : Nat}, ¬ 0 < cmpF u v n k → ¬ 0 < cmpF v w n k → ¬ 0 < cmpF u w n k
  | 0, _, _, _ => by simp [cmpF]
  | n + 1, k, h1, h2 => by
    simp only [cmpF] at h1 h2 ⊢
    by_cases e1 : u k = v k
    · rw [if_pos e1] at h1
      by_cases e2 : v k = w k
      · rw [if_pos e2] at h2
        rw [if_pos (e1.trans e2)]
        exact cmpF_le_trans h1 h2
      · rw [if_neg e2] at h2
        rw [if_neg (by rw [e1]; exact e2), e1]
        exact h2
    · rw [if_neg e1, cmp_pos, Classical.not_not] at h1
      by_cases e2 : v k = w k
      · rw [if_neg (by rw [← e2]; exact e1), cmp_pos, Classical.not_not, ← e2]
        exact h1
      · rw [if_neg e2, cmp_pos, Classical.not_not] at h2
        have h3 : rk (u k) < rk (w k) := by omega
        rw [if_neg (fun e => by rw [e] at h3; omega), cmp_pos, Classical.not_not]
        exact h3
theorem cmpF_asym {u v : Nat → Int32} : ∀ {n k : Nat}, 0 < cmpF u v n k ↔ cmpF v u n k < 0
  | 0, _ => by simp [cmpF]
  | n + 1, k => by
    simp only [cmpF]
    by_cases e : u k = v k
    · rw [if_pos e, if_pos e.symm]
      exact cmpF_asym
    · rw [if_neg e, if_neg (Ne.symm e), cmp_pos, cmp_neg]
      constructor
      · exact rk_lt_of e
      · intro h; omega
theorem cmpF_zero {u v : Nat → Int32} : ∀ {n k : Nat}, cmpF u v n k = 0 ↔ ∀ i, k ≤ i → i < k + n → u i = v i
  | 0, k => ⟨fun _ i h1 h2 => by omega, fun _ => rfl⟩
  | n + 1, k => by
    simp only [cmpF]
    by_cases e : u k = v k
    · rw [if_pos e, cmpF_zero]
      constructor
      · intro h i h1 h2
        rcases Nat.lt_or_ge k i with h3 | h3
        · exact h i (by omega) (by omega)
        · have : i = k := by omega
          rw [this]; exact e
      · intro h i h1 h2
        exact h i (by omega) (by omega)
    · rw [if_neg e]
      constructor
      · intro h; split at h <;> exact absurd h (by decide)
      · intro h; exact absurd (h k (by omega) (by omega)) e
theorem cmpF_lt_asym {u v : Nat → Int32} {n k : Nat} (h : 0 < cmpF u v n k) : ¬ 0 < cmpF v u n k := by
  rw [cmpF_asym] at h ⊢
  intro h2
  have : ∀ x : Int32, x < 0 → ¬ 0 < x := fun x a b => by
    rw [Int32.lt_iff_toInt_lt] at a b
    omega
  exact this _ h (cmpF_asym.mpr h2)
/-! any and first -/
def anyF (P : Nat → Bool) : Nat → Bool
  | 0 => false
  | n + 1 => anyF P n || P n
theorem anyF_iff {P : Nat → Bool} : ∀ {n : Nat}, anyF P n = true ↔ ∃ c, c < n ∧ P c = true
  | 0 => by simp [anyF]
  | n + 1 => by
    simp only [anyF, Bool.or_eq_true, anyF_iff (n := n)]
    constructor
    · rintro (⟨c, h, e⟩ | h)
      · exact ⟨c, by omega, e⟩
      · exact ⟨n, by omega, h⟩
    · rintro ⟨c, h, e⟩
      rcases Nat.lt_or_ge c n with h0 | h0
      · exact Or.inl ⟨c, h0, e⟩
      · have : c = n := by omega
        subst this; exact Or.inr e
/-! the head of a tree: its names in their order, and a column of each -/
def hasO (nm : Nat → Int32) (n : Nat) (o : Int32) : Bool := anyF (fun c => decide (nm c = o)) n
theorem hasO_iff {nm : Nat → Int32} {n : Nat} {o : Int32} : hasO nm n o = true ↔ ∃ c, c < n ∧ nm c = o := by
  unfold hasO
  rw [anyF_iff]
  simp
def inn (nm : Nat → Int32) (o : Int32) (d : Nat) : Nat → (Nat → Int32) × (Nat → Int32) → (Nat → Int32) × (Nat → Int32)
  | 0, s => s
  | m + 1, s => inn nm o d m (if nm m = o then (upd s.1 d o, upd s.2 d (nI m)) else s)
def hdr (nm : Nat → Int32) (n : Nat) (ord : Nat → Int32) (s0 : (Nat → Int32) × (Nat → Int32)) : Nat → Nat × ((Nat → Int32) × (Nat → Int32))
  | 0 => (0, s0)
  | i + 1 => (if hasO nm n (ord i) = true then (hdr nm n ord s0 i).1 + 1 else (hdr nm n ord s0 i).1, inn nm (ord i) (hdr nm n ord s0 i).1 n (hdr nm n ord s0 i).2)
/-- the tree's store with its head -/
def trY (z : JZ) (i d : Nat) (s : (Nat → Int32) × (Nat → Int32)) : JZ := sA (sA (sM z (16, i) 5 (nI d)) (18, i) s.1) (19, i) s.2
theorem sM_sA_c (z : JZ) {i j : JId} (h : i ≠ j) (g : Nat → Int32) (k : Nat) (v : Int32) : sM (sA z j g) i k v = sA (sM z i k v) j g := by
  unfold sM
  rw [zM_sA_n h, sA_comm z (Ne.symm h)]
theorem sM_sM_s (z : JZ) (i : JId) (k : Nat) (v w : Int32) : sM (sM z i k v) i k w = sM z i k w := by
  unfold sM
  rw [zM_sA_s, sA_sA, bx_updd]
theorem trY_w (z : JZ) (i d : Nat) (s : (Nat → Int32) × (Nat → Int32)) (a b : Int32) : sM (sM (trY z i d s) (18, i) d a) (19, i) d b = trY z i d (upd s.1 d a, upd s.2 d b) := by
  unfold trY
  rw [sM_sA_c _ (by simp), sM_sA, sM_sA]
theorem trY_d (z : JZ) (i d : Nat) (e : Nat) (s : (Nat → Int32) × (Nat → Int32)) : sM (trY z i d s) (16, i) 5 (nI e) = trY z i e s := by
  unfold trY
  rw [sM_sA_c _ (by simp), sM_sA_c _ (by simp), sM_sM_s]
theorem trY_V {z : JZ} {i d tv jv : Nat} {s : (Nat → Int32) × (Nat → Int32)} (h : tv ≠ 16 ∧ tv ≠ 18 ∧ tv ≠ 19) : zM (trY z i d s) (tv, jv) = zM z (tv, jv) := by
  unfold trY
  rw [zM_sA_n (fun e => h.2.2 (congrArg Prod.fst e)), zM_sA_n (fun e => h.2.1 (congrArg Prod.fst e)), zM_sM_n (fun e => h.1 (congrArg Prod.fst e))]
theorem l1_X3_is {Γ : JC} {l : Launch} {R : Room} {ret : Option FieldType} {z : JZ} {i p n d tv jv ii k : Nat} {nn : Value} {s : (Nat → Int32) × (Nat → Int32)} {post : Option Value → JZ → Prop} {mc ms : Nat} {nm : String} (C : jOk Γ l R cX3_is "JoinLoom$Tree" ret 6) (hQ : jRt Γ post mc ms nm) (hT : ∀ t, 16 ≤ t ∧ t ≤ 23 → zL z (t, i) = true) (a29 : zL z (29, p) = true) (a30 : zL z (30, p) = true) (hkv : kd tv = .inl (0, 6)) (hv : zL z (tv, jv) = true) (htv : tv ≠ 16 ∧ tv ≠ 18 ∧ tv ≠ 19) (hii : ii < 6) (hk : k < 6) (ho : zM z (tv, jv) ii = nI k) (hn3 : n ≤ 3) (hd : (∃ c, c < n ∧ zM z (30, p) c = nI k) → d < 3)
    (K : jG Γ 0 0 (trY z i d (inn (zM z (30, p)) (nI k) d n s)) 84 [(0, .ref (zA z (16, i))), (1, .ref (zA z (29, p))), (2, .ref (zA z (tv, jv))), (3, nn), (4, .int (nI ii)), (5, .int (nI 0 + (-1)))] []) :
    ∀ (m : Nat) (s' : (Nat → Int32) × (Nat → Int32)), m ≤ n → inn (zM z (30, p)) (nI k) d m s' = inn (zM z (30, p)) (nI k) d n s → jG Γ 0 0 (trY z i d s') 32 [(0, .ref (zA z (16, i))), (1, .ref (zA z (29, p))), (2, .ref (zA z (tv, jv))), (3, nn), (4, .int (nI ii)), (5, .int (nI m + (-1)))] [] := by
  intro m
  induction m with
  | zero =>
    intro s' hm he
    have e : s' = inn (zM z (30, p)) (nI k) d n s := he
    rw [e]
    refine g_iload C dX3_is_32 rfl ?_
    refine g_if_lt (tgt := 84) C dX3_is_34 (by decide) (fun c34 => ?_) (fun c34 => ?_)
    · exact K
    · exact absurd (by decide) c34
  | succ m ih =>
    intro s' hm he
    rw [inn] at he
    refine g_lv (by rw [pk_m1]) ?_
    refine g_iload C dX3_is_32 rfl ?_
    refine g_if_lt_n (tgt := 84) C dX3_is_34 (by decide) (by omega) (fun c34 => ?_) (fun c34 => ?_)
    · exact c34.elim
    · refine g_aload_n C dX3_is_37 rfl rfl ?_
      refine f_X8_name C a29 (Or.inl q371) (Or.inl rfl) dX3_is_38 ?_
      refine g_iload C dX3_is_41 rfl ?_
      refine g_iald (n := 3) C rfl a30 rfl (by omega) (by decide) dX3_is_43 ?_
      refine g_top ((show _ = zM z (30, p) m from rfl)) ?_
      refine g_aload_n C dX3_is_44 rfl rfl ?_
      refine g_iload C dX3_is_45 rfl ?_
      refine g_iald (n := 6) C hkv hv rfl (by omega) (by decide) dX3_is_47 ?_
      refine g_top ((show _ = nI k by rw [trY_V htv]; exact ho)) ?_
      refine g_icmp_eq (tgt := 54) C dX3_is_48 (by decide) (fun c48 => ?_) (fun c48 => ?_)
      · refine g_aload_n C dX3_is_54 rfl rfl ?_
        refine f_X3_name C (hT _ (by decide)) (Or.inl q136) (Or.inl rfl) dX3_is_55 ?_
        refine g_aload_n C dX3_is_58 rfl rfl ?_
        refine f_X3_deep C (hT _ (by decide)) (Or.inl q138) (Or.inl rfl) dX3_is_59 ?_
        refine g_top ((show _ = nI d from zM_sM_at)) ?_
        refine g_aload_n C dX3_is_62 rfl rfl ?_
        refine g_iload C dX3_is_63 rfl ?_
        refine g_iald (n := 6) C hkv hv rfl (by omega) (by decide) dX3_is_65 ?_
        refine g_top ((show _ = nI k by rw [trY_V htv]; exact ho)) ?_
        refine g_iast (n := 3) C rfl (hT _ (by decide)) rfl (hd ⟨m, by omega, c48⟩) (by decide) dX3_is_66 ?_
        refine g_aload_n C dX3_is_67 rfl rfl ?_
        refine f_X3_column C (hT _ (by decide)) (Or.inl q137) (Or.inl rfl) dX3_is_68 ?_
        refine g_aload_n C dX3_is_71 rfl rfl ?_
        refine f_X3_deep C (hT _ (by decide)) (Or.inl q138) (Or.inl rfl) dX3_is_72 ?_
        refine g_top ((show _ = nI d from zM_sM_at)) ?_
        refine g_iload C dX3_is_75 rfl ?_
        refine g_iast (n := 3) C rfl (hT _ (by decide)) rfl (hd ⟨m, by omega, c48⟩) (by decide) dX3_is_77 ?_
        refine g_iinc (v := nI m + (-1)) (lv' := [(0, _), (1, _), (2, _), (3, _), (4, _), (5, _)]) C dX3_is_78 rfl rfl (by decide) rfl ?_
        refine g_goto (tgt := 32) C dX3_is_81 (by decide) ?_
        first | exact ih s' (by omega) (by rw [← he]; rw [if_neg c48]) | (refine g_z (trY_w _ _ _ _ _ _) (ih _ (by omega) (by rw [← he]; rw [if_pos c48])))
      · refine g_goto (tgt := 78) C dX3_is_51 (by decide) ?_
        refine g_iinc (v := nI m + (-1)) (lv' := [(0, _), (1, _), (2, _), (3, _), (4, _), (5, _)]) C dX3_is_78 rfl rfl (by decide) rfl ?_
        refine g_goto (tgt := 32) C dX3_is_81 (by decide) ?_
        first | exact ih s' (by omega) (by rw [← he]; rw [if_neg c48]) | (refine g_z (trY_w _ _ _ _ _ _) (ih _ (by omega) (by rw [← he]; rw [if_pos c48])))
/-- how many orders a part has, at most its places -/
theorem hdr_le {nm ord : Nat → Int32} {n N : Nat} {s0 : (Nat → Int32) × (Nat → Int32)} (hn : n ≤ 3) (hinj : ∀ a b, a < N → b < N → ord a = ord b → a = b) : ∀ i, i ≤ N → ∃ x : Nat → Nat, (hdr nm n ord s0 i).1 ≤ x 0 + x 1 + x 2 ∧ ∀ c, x c ≤ 1 ∧ (n ≤ c → x c = 0) ∧ (x c = 1 → ∃ j, j < i ∧ nm c = ord j) := by
  intro i
  induction i with
  | zero => intro _; exact ⟨fun _ => 0, Nat.le_refl _, fun c => ⟨Nat.zero_le 1, fun _ => rfl, fun h => absurd (show (0 : Nat) = 1 from h) (by decide)⟩⟩
  | succ i ih =>
    intro hi
    obtain ⟨x, h1, h2⟩ := ih (by omega)
    by_cases h : hasO nm n (ord i) = true
    · obtain ⟨c, hc, e⟩ := hasO_iff.mp h
      have hx0 : x c = 0 := by
        rcases Nat.eq_zero_or_pos (x c) with h0 | h0
        · exact h0
        · obtain ⟨j, hj, ej⟩ := (h2 c).2.2 (by have := (h2 c).1; omega)
          have := hinj i j (by omega) (by omega) (by rw [← e, ← ej])
          omega
      refine ⟨fun a => if a = c then 1 else x a, ?_, fun a => ⟨?_, ?_, ?_⟩⟩
      · have e1 : (hdr nm n ord s0 (i + 1)).1 = (hdr nm n ord s0 i).1 + 1 := if_pos h
        rw [e1]
        have : c = 0 ∨ c = 1 ∨ c = 2 := by omega
        rcases this with rfl | rfl | rfl
        · simp; omega
        · simp; omega
        · simp; omega
      · dsimp only
        split
        · omega
        · exact (h2 a).1
      · intro ha
        dsimp only
        rw [if_neg (by omega)]
        exact (h2 a).2.1 ha
      · intro ha
        by_cases hac : a = c
        · subst hac; exact ⟨i, by omega, e⟩
        · dsimp only at ha
          rw [if_neg hac] at ha
          obtain ⟨j, hj, ej⟩ := (h2 a).2.2 ha
          exact ⟨j, by omega, ej⟩
    · refine ⟨x, ?_, fun a => ⟨(h2 a).1, (h2 a).2.1, fun ha => ?_⟩⟩
      · have e1 : (hdr nm n ord s0 (i + 1)).1 = (hdr nm n ord s0 i).1 := if_neg h
        rw [e1]; exact h1
      · obtain ⟨j, hj, ej⟩ := (h2 a).2.2 ha
        exact ⟨j, by omega, ej⟩
theorem hdr_lt {nm ord : Nat → Int32} {n N : Nat} {s0 : (Nat → Int32) × (Nat → Int32)} (hn : n ≤ 3) (hinj : ∀ a b, a < N → b < N → ord a = ord b → a = b) {i : Nat} (hi : i < N) (h : ∃ c, c < n ∧ nm c = ord i) : (hdr nm n ord s0 i).1 < 3 := by
  obtain ⟨x, h1, h2⟩ := hdr_le (s0 := s0) hn hinj i (by omega)
  obtain ⟨c, hc, e⟩ := h
  have hx0 : x c = 0 := by
    rcases Nat.eq_zero_or_pos (x c) with h0 | h0
    · exact h0
    · obtain ⟨j, hj, ej⟩ := (h2 c).2.2 (by have := (h2 c).1; omega)
      have := hinj i j (by omega) (by omega) (by rw [← e, ← ej])
      omega
  have a0 := (h2 0).1
  have a1 := (h2 1).1
  have a2 := (h2 2).1
  have : c = 0 ∨ c = 1 ∨ c = 2 := by omega
  rcases this with rfl | rfl | rfl <;> omega
theorem hdr_d3 {nm ord : Nat → Int32} {n N : Nat} {s0 : (Nat → Int32) × (Nat → Int32)} (hn : n ≤ 3) (hinj : ∀ a b, a < N → b < N → ord a = ord b → a = b) {i : Nat} (hi : i ≤ N) : (hdr nm n ord s0 i).1 ≤ 3 := by
  obtain ⟨x, h1, h2⟩ := hdr_le (nm := nm) (s0 := s0) hn hinj i hi
  have a0 := (h2 0).1
  have a1 := (h2 1).1
  have a2 := (h2 2).1
  omega
theorem l2_X3_is {Γ : JC} {l : Launch} {z : JZ} {i p n N tv jv : Nat} {s0 : (Nat → Int32) × (Nat → Int32)} {ord : Nat → Nat} {post : Option Value → JZ → Prop} {mc ms : Nat} {nm : String} {ret : Option FieldType} (C : jOk Γ l (jrm 4 0 0) cX3_is "JoinLoom$Tree" ret 6) (hQ : jRt Γ post mc ms nm) (hT : ∀ t, 16 ≤ t ∧ t ≤ 23 → zL z (t, i) = true) (a29 : zL z (29, p) = true) (a30 : zL z (30, p) = true) (hn : zM z (29, p) 5 = nI n) (hnm : nmOk n (zM z (30, p))) (hkv : kd tv = .inl (0, 6)) (hv : zL z (tv, jv) = true) (htv : tv ≠ 16 ∧ tv ≠ 18 ∧ tv ≠ 19) (hN : N ≤ 6) (ho6 : ∀ a, a < N → ord a < 6) (ho : ∀ a, a < N → zM z (tv, jv) a = nI (ord a)) (hinj : ∀ a b, a < N → b < N → ord a = ord b → a = b) (hn3 : n ≤ 3)
    (K : ∀ x, jG Γ 0 0 (trY z i (hdr (zM z (30, p)) n (fun a => nI (ord a)) s0 N).1 (hdr (zM z (30, p)) n (fun a => nI (ord a)) s0 N).2) 115 [(0, .ref (zA z (16, i))), (1, .ref (zA z (29, p))), (2, .ref (zA z (tv, jv))), (3, .int (nI N)), (4, .int x)] []) :
    ∀ (m ii : Nat), ii + m = N → jG Γ 0 0 (trY z i (hdr (zM z (30, p)) n (fun a => nI (ord a)) s0 ii).1 (hdr (zM z (30, p)) n (fun a => nI (ord a)) s0 ii).2) 18 [(0, .ref (zA z (16, i))), (1, .ref (zA z (29, p))), (2, .ref (zA z (tv, jv))), (3, .int (nI N)), (4, .int (nI ii))] [] := by
  have hinj' : ∀ a b, a < N → b < N → nI (ord a) = nI (ord b) → a = b := fun a b ha hb e => hinj a b ha hb ((nI_eq (by have := ho6 a ha; omega) (by have := ho6 b hb; omega)).mp e)
  intro m
  induction m with
  | zero =>
    intro ii hi
    have e : ii = N := by omega
    subst e
    refine g_iload C dX3_is_18 rfl ?_
    refine g_iload_n C dX3_is_20 rfl rfl ?_
    first | refine g_icmp_ge_n (tgt := 115) C dX3_is_21 (by decide) (by omega) (by omega) (fun c21 => ?_) (fun c21 => ?_) | refine g_icmp_ge (tgt := 115) C dX3_is_21 (by decide) (fun c21 => ?_) (fun c21 => ?_)
    · exact K _
    · omega
  | succ m ih =>
    intro ii hi
    have hk := ho6 ii (by omega)
    have hd3 : (hdr (zM z (30, p)) n (fun a => nI (ord a)) s0 ii).1 ≤ 3 := hdr_d3 hn3 hinj' (by omega)
    generalize hs : hdr (zM z (30, p)) n (fun a => nI (ord a)) s0 ii = s at hd3
    obtain ⟨d, s⟩ := s
    simp only at hd3 ⊢
    have hd : (∃ c, c < n ∧ zM z (30, p) c = nI (ord ii)) → d < 3 := fun h => by
      have := hdr_lt (s0 := s0) hn3 hinj' (show ii < N by omega) h
      rw [hs] at this
      exact this
    have hb := nmB_nat hnm
    have hbit : ((nmF (zM z (30, p)) n >>> (nI (ord ii) &&& 31)) &&& nI 1 = nI 1) ↔ hasO (zM z (30, p)) n (nI (ord ii)) = true := by
      rw [hb.1, bit_shr _ hb.2 _ hk, nmB_bit hk hnm, hasO_iff]
    have hnext : ∀ e, (if hasO (zM z (30, p)) n (nI (ord ii)) = true then d + 1 else d) = e → hdr (zM z (30, p)) n (fun a => nI (ord a)) s0 (ii + 1) = (e, inn (zM z (30, p)) (nI (ord ii)) d n s) := fun e he => by
      rw [hdr, hs]
      simp only [he]
    have J84 : jG Γ 0 0 (trY z i d (inn (zM z (30, p)) (nI (ord ii)) d n s)) 84 [(0, .ref (zA z (16, i))), (1, .ref (zA z (29, p))), (2, .ref (zA z (tv, jv))), (3, .int (nI N)), (4, .int (nI ii)), (5, .int (nI 0 + (-1)))] [] := by
      refine g_aload_n C dX3_is_84 rfl rfl ?_
      refine g_cfi (g_runV C (m_X8_names l (trY z i d (inn (zM z (30, p)) (nI (ord ii)) d n s)) 29 p n (Or.inl rfl) a29 a30 hn hn3) ciX8_names q494 (Or.inl q1103) (Or.inl q510) a29 rfl rfl rfl rfl (Nat.le_of_ble_eq_true rfl) dX3_is_85 (by decide)) ?_
      refine g_aload_n C dX3_is_88 rfl rfl ?_
      refine g_iload C dX3_is_89 rfl ?_
      refine g_iald (n := 6) C hkv hv rfl (by omega) (by decide) dX3_is_91 ?_
      refine g_top ((show _ = nI (ord ii) by rw [trY_V htv]; exact ho ii (by omega))) ?_
      refine g_ishr C dX3_is_92 ?_
      refine g_iconst (v := nI 1) C dX3_is_93 (by decide) ?_
      refine g_iand C dX3_is_94 ?_
      refine g_iconst (v := nI 1) C dX3_is_95 (by decide) ?_
      refine g_icmp_ne (tgt := 109) C dX3_is_96 (by decide) (fun c96 => ?_) (fun c96 => ?_)
      · refine g_iinc1 (lv' := [(0, _), (1, _), (2, _), (3, _), (4, _), (5, _)]) C dX3_is_109 rfl (by decide) rfl ?_
        refine g_goto (tgt := 18) C dX3_is_112 (by decide) ?_
        refine g_take 5 rfl ?_
        have h18 := ih (ii + 1) (by omega)
        first | (rw [hnext d (if_neg (fun e => c96 (hbit.mpr e)))] at h18; exact h18) | (rw [hnext (d + 1) (if_pos (hbit.mp c96))] at h18; exact g_z (trY_d _ _ _ _ _) h18)
      · refine g_aload_n C dX3_is_99 rfl rfl ?_
        refine g_dup C dX3_is_100 rfl ?_
        refine f_X3_deep C (hT _ (by decide)) (Or.inl q138) (Or.inl rfl) dX3_is_101 ?_
        refine g_top ((show _ = nI d from zM_sM_at)) ?_
        refine g_iconst (v := nI 1) C dX3_is_104 (by decide) ?_
        first | refine g_iadd_n C dX3_is_105 ?_ | refine g_iadd C dX3_is_105 ?_
        refine p_X3_deep C hQ (hT _ (by decide)) (Or.inl q138) (Or.inl rfl) dX3_is_106 ?_
        refine g_iinc1 (lv' := [(0, _), (1, _), (2, _), (3, _), (4, _), (5, _)]) C dX3_is_109 rfl (by decide) rfl ?_
        refine g_goto (tgt := 18) C dX3_is_112 (by decide) ?_
        refine g_take 5 rfl ?_
        have h18 := ih (ii + 1) (by omega)
        first | (rw [hnext d (if_neg (fun e => c96 (hbit.mpr e)))] at h18; exact h18) | (rw [hnext (d + 1) (if_pos (hbit.mp c96))] at h18; exact g_z (trY_d _ _ _ _ _) h18)
    refine g_iload C dX3_is_18 rfl ?_
    refine g_iload_n C dX3_is_20 rfl rfl ?_
    first | refine g_icmp_ge_n (tgt := 115) C dX3_is_21 (by decide) (by omega) (by omega) (fun c21 => ?_) (fun c21 => ?_) | refine g_icmp_ge (tgt := 115) C dX3_is_21 (by decide) (fun c21 => ?_) (fun c21 => ?_)
    · omega
    · refine g_aload_n C dX3_is_24 rfl rfl ?_
      refine f_X8_places C a29 (Or.inl q377) (Or.inl rfl) dX3_is_25 ?_
      refine g_top ((show _ = nI n from hn)) ?_
      refine g_iconst (v := nI 1) C dX3_is_28 (by decide) ?_
      refine g_isub C dX3_is_29 ?_
      refine g_top (show _ = nI n + (-1) by rw [Int32.sub_eq_add_neg]; rfl) ?_
      refine g_istore (lv' := [(0, _), (1, _), (2, _), (3, _), (4, _), (5, _)]) C dX3_is_30 (by decide) rfl ?_
      refine l1_X3_is (R := jrm 4 0 0) (n := n) C hQ hT a29 a30 hkv hv htv (by omega) hk (ho ii (by omega)) hn3 hd ?_ n s (by omega) rfl
      exact J84
/-! the rows of a tree -/
def rwInv (I : Nat → Bool) (cm : Nat → Nat → Int32) (f : Nat → Int32) (m r : Nat) : Prop := m ≤ r ∧ ∃ w : Nat → Nat, (∀ k, k < m → w k < r ∧ f k = nI (w k) ∧ I (w k) = true) ∧ (∀ q, q < r → I q = true → ∃ k, k < m ∧ w k = q) ∧ ∀ a b, a < b → b < m → ¬ 0 < cm (w a) (w b)
theorem rwInv_0 (I : Nat → Bool) (cm : Nat → Nat → Int32) (f : Nat → Int32) : rwInv I cm f 0 0 := ⟨Nat.le_refl _, fun _ => 0, fun k h => by omega, fun q h => by omega, fun a b _ h => by omega⟩
theorem rwInv_skip {I : Nat → Bool} {cm : Nat → Nat → Int32} {f : Nat → Int32} {m r : Nat} (h : rwInv I cm f m r) (hI : I r = false) : rwInv I cm f m (r + 1) := by
  obtain ⟨h0, w, h1, h2, h3⟩ := h
  refine ⟨by omega, w, fun k hk => ⟨by have := (h1 k hk).1; omega, (h1 k hk).2⟩, fun q hq hq2 => ?_, h3⟩
  rcases Nat.lt_or_ge q r with h4 | h4
  · exact h2 q h4 hq2
  · have : q = r := by omega
    subst this
    rw [hI] at hq2
    cases hq2
theorem topPos (P : Nat → Prop) : ∀ m : Nat, ∃ q, q ≤ m ∧ (∀ k, q ≤ k → k < m → P k) ∧ (0 < q → ¬ P (q - 1))
  | 0 => ⟨0, Nat.le_refl _, fun k _ h => by omega, fun h => by omega⟩
  | m + 1 => by
    by_cases h : P m
    · obtain ⟨q, h1, h2, h3⟩ := topPos P m
      refine ⟨q, by omega, fun k hk hk2 => ?_, h3⟩
      rcases Nat.lt_or_ge k m with h4 | h4
      · exact h2 k hk h4
      · have : k = m := by omega
        subst this; exact h
    · exact ⟨m + 1, Nat.le_refl _, fun k h1 h2 => by omega, fun _ => h⟩
theorem rwInv_ins {I : Nat → Bool} {cm : Nat → Nat → Int32} {f : Nat → Int32} {m r q : Nat} {w : Nat → Nat} (htr : ∀ a b c, ¬ 0 < cm a b → ¬ 0 < cm b c → ¬ 0 < cm a c) (has : ∀ a b, 0 < cm a b → ¬ 0 < cm b a) (h0 : m ≤ r) (h1 : ∀ k, k < m → w k < r ∧ f k = nI (w k) ∧ I (w k) = true) (h2 : ∀ q, q < r → I q = true → ∃ k, k < m ∧ w k = q) (h3 : ∀ a b, a < b → b < m → ¬ 0 < cm (w a) (w b)) (hI : I r = true) (hq : q ≤ m) (hp1 : ∀ k, q ≤ k → k < m → 0 < cm (w k) r) (hp2 : 0 < q → ¬ 0 < cm (w (q - 1)) r) : rwInv I cm (upd (shR f q m) q (nI r)) (m + 1) (r + 1) := by
  have hlow : ∀ k, k < q → ¬ 0 < cm (w k) r := by
    intro k hk
    rcases Nat.lt_or_ge k (q - 1) with h4 | h4
    · exact htr _ _ _ (h3 k (q - 1) h4 (by omega)) (hp2 (by omega))
    · have : k = q - 1 := by omega
      rw [this]; exact hp2 (by omega)
  refine ⟨by omega, fun k => if k < q then w k else if k = q then r else w (k - 1), fun k hk => ?_, fun x hx hx2 => ?_, fun a b hab hb => ?_⟩
  · dsimp only
    by_cases c1 : k < q
    · have := h1 k (by omega)
      rw [if_pos c1]
      refine ⟨by omega, ?_, this.2.2⟩
      simp only [upd, shR]
      rw [if_neg (by omega), if_neg (by omega)]
      exact this.2.1
    · rw [if_neg c1]
      by_cases c2 : k = q
      · rw [if_pos c2]
        refine ⟨by omega, ?_, hI⟩
        simp only [upd]
        rw [if_pos c2]
      · have := h1 (k - 1) (by omega)
        rw [if_neg c2]
        refine ⟨by omega, ?_, this.2.2⟩
        simp only [upd, shR]
        rw [if_neg c2, if_pos (by omega)]
        exact this.2.1
  · rcases Nat.lt_or_ge x r with h4 | h4
    · obtain ⟨k, hk, e⟩ := h2 x h4 hx2
      by_cases c1 : k < q
      · exact ⟨k, by omega, by dsimp only; rw [if_pos c1]; exact e⟩
      · exact ⟨k + 1, by omega, by dsimp only; rw [if_neg (by omega), if_neg (by omega)]; exact e⟩
    · have : x = r := by omega
      exact ⟨q, by omega, by dsimp only; rw [if_neg (by omega), if_pos rfl]; exact this.symm⟩
  · dsimp only
    by_cases a1 : a < q
    · rw [if_pos a1]
      by_cases b1 : b < q
      · rw [if_pos b1]; exact h3 a b hab (by omega)
      · rw [if_neg b1]
        by_cases b2 : b = q
        · rw [if_pos b2]; exact hlow a a1
        · rw [if_neg b2]; exact h3 a (b - 1) (by omega) (by omega)
    · rw [if_neg a1, if_neg (show ¬ b < q by omega), if_neg (show ¬ b = q by omega)]
      by_cases a2 : a = q
      · rw [if_pos a2]; exact has _ _ (hp1 (b - 1) (by omega) (by omega))
      · rw [if_neg a2]; exact h3 (a - 1) (b - 1) (by omega) (by omega)
def rwZ (z : JZ) (i : Nat) (f : Nat → Int32) (m : Nat) : JZ := sM (sA z (17, i) f) (16, i) 2 (nI m)
theorem rwZ_w (z : JZ) (i : Nat) (f g : Nat → Int32) (m e : Nat) : sM (sA (rwZ z i f m) (17, i) g) (16, i) 2 (nI e) = rwZ z i g e := by
  unfold rwZ
  rw [sM_sA_c z (by simp), sA_sA, ← sM_sA_c z (by simp), sM_sM_s]
theorem upd_self {f : Nat → Int32} {k : Nat} {v : Int32} (h : f k = v) : upd f k v = f := by
  funext j
  simp only [upd]
  by_cases e : j = k
  · rw [if_pos e, e]; exact h.symm
  · rw [if_neg e]
theorem sM_self {z : JZ} {i : JId} {k : Nat} {v : Int32} (h : zM z i k = v) : sM z i k v = z := by
  unfold sM
  rw [upd_self h, sA_self]
theorem l3_X3_is {Γ : JC} {l : Launch} {z : JZ} {i p n tb d M : Nat} {a2 : Nat} {b3 : Int32} {post : Option Value → JZ → Prop} {mc ms : Nat} {nm : String} {ret : Option FieldType} (C : jOk Γ l (jrm 4 0 0) cX3_is "JoinLoom$Tree" ret 6) (hQ : jRt Γ post mc ms nm) (hA : trA z i p tb) (a30 : zL z (30, p) = true) (a31 : zL z (31, p) = true) (hn : zM z (29, p) 5 = nI n) (hn3 : n ≤ 3) (hd : zM z (16, i) 5 = nI d) (hd3 : d ≤ 3) (hC : trC z i d) (hM : zM z (27, tb) 2 = nI M) (hM4 : M ≤ 40)
    (K : ∀ f m, rwInv (fun q => inC (fun k => zM z (28, tb) (q * 3 + k)) (zM z (30, p)) (zM z (31, p)) n) (trCm z i tb d) f m M → jG Γ 0 0 (rwZ z i f m) 151 [(0, .ref (zA z (16, i))), (1, .ref (zA z (29, p))), (2, .ref a2), (3, .int b3), (4, .int (nI M))] []) :
    ∀ (x r : Nat), r + x = M → ∀ f m, rwInv (fun q => inC (fun k => zM z (28, tb) (q * 3 + k)) (zM z (30, p)) (zM z (31, p)) n) (trCm z i tb d) f m r → jG Γ 0 0 (rwZ z i f m) 118 [(0, .ref (zA z (16, i))), (1, .ref (zA z (29, p))), (2, .ref a2), (3, .int b3), (4, .int (nI r))] [] := by
  intro x
  induction x with
  | zero =>
    intro r hr f m hI
    have e : r = M := by omega
    subst e
    refine g_iload C dX3_is_118 rfl ?_
    refine g_aload_n C dX3_is_120 rfl rfl ?_
    refine f_X8_table C hA.2.2.1 (Or.inl q366) (Or.inl rfl) dX3_is_121 ?_
    refine g_topR (hA.2.2.2.1) ?_
    refine f_X5_many C hA.2.2.2.2.1 (Or.inr ⟨_, nq250⟩) (Or.inl rfl) dX3_is_124 ?_
    refine g_top (hM) ?_
    first | refine g_icmp_ge_n (tgt := 151) C dX3_is_127 (by decide) (by omega) (by omega) (fun c127 => ?_) (fun c127 => ?_) | refine g_icmp_ge (tgt := 151) C dX3_is_127 (by decide) (fun c127 => ?_) (fun c127 => ?_)
    · exact K f m hI
    · omega
  | succ x ih =>
    intro r hr f m hI
    have hI0 := hI
    obtain ⟨h0, w, h1, h2, h3⟩ := hI
    obtain ⟨q, q1, q2, q3⟩ := topPos (fun k => 0 < trCm z i tb d (w k) r) m
    refine g_iload C dX3_is_118 rfl ?_
    refine g_aload_n C dX3_is_120 rfl rfl ?_
    refine f_X8_table C hA.2.2.1 (Or.inl q366) (Or.inl rfl) dX3_is_121 ?_
    refine g_topR (hA.2.2.2.1) ?_
    refine f_X5_many C hA.2.2.2.2.1 (Or.inr ⟨_, nq250⟩) (Or.inl rfl) dX3_is_124 ?_
    refine g_top (hM) ?_
    first | refine g_icmp_ge_n (tgt := 151) C dX3_is_127 (by decide) (by omega) (by omega) (fun c127 => ?_) (fun c127 => ?_) | refine g_icmp_ge (tgt := 151) C dX3_is_127 (by decide) (fun c127 => ?_) (fun c127 => ?_)
    · omega
    · refine g_aload_n C dX3_is_130 rfl rfl ?_
      refine g_iload C dX3_is_131 rfl ?_
      refine g_cfi (g_runV C (m_X3_isIn l (rwZ z i f m) i p tb n r hA a30 a31 hn hn3 (by omega)) ciX3_isIn q513 (Or.inl qs6) (Or.inl q511) (hA.1 _ (by decide)) rfl rfl rfl rfl (Nat.le_of_ble_eq_true rfl) dX3_is_133 (by decide)) ?_
      refine g_if_eq_b (tgt := 145) C dX3_is_136 (by decide) (fun c136 => ?_) (fun c136 => ?_)
      · refine g_iinc1 (lv' := [(0, _), (1, _), (2, _), (3, _), (4, _)]) C dX3_is_145 rfl (by decide) rfl ?_
        refine g_goto (tgt := 118) C dX3_is_148 (by decide) ?_
        first | exact ih (r + 1) (by omega) f m (rwInv_skip hI0 c136) | (refine g_z ?_ (ih (r + 1) (by omega) _ _ (rwInv_ins (fun a b c => cmpF_le_trans) (fun a b => cmpF_lt_asym) h0 h1 h2 h3 c136 q1 q2 q3)); rw [show zM (rwZ z i f m) (17, i) = f by rw [rwZ, zM_sM_n (by simp), zM_sA_s]]; exact rwZ_w _ _ _ _ _ _)
      · refine g_aload_n C dX3_is_139 rfl rfl ?_
        refine g_iload C dX3_is_140 rfl ?_
        refine g_cfv (g_runV C (m_X3_comes l (rwZ z i f m) i p tb d m q r w hA (by rw [rwZ, zM_sM_s, pk_un (by decide)]; exact hd) hd3 hC zM_sM_at (by omega) (by omega) (fun k hk => ⟨by have := (h1 k hk).1; omega, by rw [rwZ, zM_sM_n (by simp), zM_sA_s]; exact (h1 k hk).2.1⟩) q1 q2 q3) ciX3_comes q518 (Or.inl qs7) (Or.inl q516) (hA.1 _ (by decide)) rfl rfl rfl rfl (Nat.le_of_ble_eq_true rfl) dX3_is_142 (by decide)) ?_
        refine g_iinc1 (lv' := [(0, _), (1, _), (2, _), (3, _), (4, _)]) C dX3_is_145 rfl (by decide) rfl ?_
        refine g_goto (tgt := 118) C dX3_is_148 (by decide) ?_
        first | exact ih (r + 1) (by omega) f m (rwInv_skip hI0 c136) | (refine g_z ?_ (ih (r + 1) (by omega) _ _ (rwInv_ins (fun a b c => cmpF_le_trans) (fun a b => cmpF_lt_asym) h0 h1 h2 h3 c136 q1 q2 q3)); rw [show zM (rwZ z i f m) (17, i) = f by rw [rwZ, zM_sM_n (by simp), zM_sA_s]]; exact rwZ_w _ _ _ _ _ _)
def isZ (z : JZ) (i p d : Nat) (s : (Nat → Int32) × (Nat → Int32)) (f : Nat → Int32) (m : Nat) : JZ := sM (sM (sM (rwZ (trY (sM (sR z (16, i) 0 (some (zA z (29, p)))) (16, i) 2 (nI 0)) i d s) i f m) (16, i) 10 (nI 0)) (20, i) 0 (nI 0)) (21, i) 0 (nI m)
/-- columns of a head -/
theorem inn_ok {nm : Nat → Int32} {o : Int32} {d D : Nat} : ∀ {m : Nat} {s : (Nat → Int32) × (Nat → Int32)}, m ≤ 3 → (∀ k, k < D → k ≠ d ∨ (∃ c, c < m ∧ nm c = o) ∨ (∃ c, c < 3 ∧ s.2 k = nI c)) → (∀ k, k < D → k ≠ d → ∃ c, c < 3 ∧ s.2 k = nI c) → ∀ k, k < D → ∃ c, c < 3 ∧ (inn nm o d m s).2 k = nI c
  | 0, s, _, h, h2, k, hk => by
    rcases Nat.lt_or_ge k d with _ | _
    · exact h2 k hk (by omega)
    · rcases h k hk with h | ⟨c, hc, _⟩ | h
      · exact h2 k hk h
      · omega
      · exact h
  | m + 1, s, hm, h, h2, k, hk => by
    rw [inn]
    refine inn_ok (m := m) (by omega) (fun j hj => ?_) (fun j hj hjd => ?_) k hk
    · by_cases e : nm m = o
      · rw [if_pos e]
        by_cases hjd : j = d
        · refine Or.inr (Or.inr ⟨m, by omega, ?_⟩)
          simp only [upd]
          rw [if_pos hjd]
        · exact Or.inl hjd
      · rw [if_neg e]
        rcases h j hj with h | ⟨c, hc, ec⟩ | h
        · exact Or.inl h
        · refine Or.inr (Or.inl ⟨c, ?_, ec⟩)
          rcases Nat.lt_or_ge c m with h5 | h5
          · exact h5
          · have : c = m := by omega
            rw [this] at ec
            exact absurd ec e
        · exact Or.inr (Or.inr h)
    · by_cases e : nm m = o
      · rw [if_pos e]
        simp only [upd]
        rw [if_neg hjd]
        exact h2 j hj hjd
      · rw [if_neg e]; exact h2 j hj hjd
theorem hdr_ok {nm ord : Nat → Int32} {n : Nat} {s0 : (Nat → Int32) × (Nat → Int32)} (hn : n ≤ 3) : ∀ i k, k < (hdr nm n ord s0 i).1 → ∃ c, c < 3 ∧ (hdr nm n ord s0 i).2.2 k = nI c := by
  intro i
  induction i with
  | zero => intro k hk; exact absurd hk (Nat.not_lt_zero _)
  | succ i ih =>
    intro k hk
    rw [hdr] at hk ⊢
    dsimp only at hk ⊢
    by_cases h : hasO nm n (ord i) = true
    · rw [if_pos h] at hk
      exact inn_ok (D := (hdr nm n ord s0 i).1 + 1) hn (fun j _ => Or.inr (Or.inl (hasO_iff.mp h))) (fun j hj hjd => ih j (by omega)) k hk
    · rw [if_neg h] at hk
      exact inn_ok (D := (hdr nm n ord s0 i).1) hn (fun j hj => Or.inl (by omega)) (fun j hj _ => ih j hj) k hk
theorem m_X3_is (l : Launch) (z : JZ) (i p n N tb M tv jv : Nat) (ord : Nat → Nat) (hT : ∀ t, 16 ≤ t ∧ t ≤ 23 → zL z (t, i) = true) (a29 : zL z (29, p) = true) (a30 : zL z (30, p) = true) (a31 : zL z (31, p) = true) (hr : zR z (29, p) 1 = some (zA z (27, tb))) (a27 : zL z (27, tb) = true) (a28 : zL z (28, tb) = true) (hn : zM z (29, p) 5 = nI n) (hnm : nmOk n (zM z (30, p))) (hn3 : n ≤ 3) (hkv : kd tv = .inl (0, 6)) (hv : zL z (tv, jv) = true) (htv : tv ≠ 16 ∧ tv ≠ 18 ∧ tv ≠ 19) (hN : N ≤ 6) (ho6 : ∀ a, a < N → ord a < 6) (ho : ∀ a, a < N → zM z (tv, jv) a = nI (ord a)) (hinj : ∀ a b, a < N → b < N → ord a = ord b → a = b) (hM : zM z (27, tb) 2 = nI M) (hM4 : M ≤ 40) :
    jCt l yX3_is cX3_is 6 (none) 4 0 0 [.ref (zA z (16, i)), .ref (zA z (29, p)), .ref (zA z (tv, jv)), .int (nI N)] z (jPv (fun z' => ∃ d s f m, (d, s) = hdr (zM z (30, p)) n (fun a => nI (ord a)) (zM z (18, i), zM z (19, i)) N ∧ d ≤ 3 ∧ (∀ k, k < d → ∃ c, c < 3 ∧ s.2 k = nI c) ∧ rwInv (fun q => inC (fun k => zM z (28, tb) (q * 3 + k)) (zM z (30, p)) (zM z (31, p)) n) (fun a b => cmpF (fun k => zM z (28, tb) (a * 3 + (s.2 k).toNatClampNeg)) (fun k => zM z (28, tb) (b * 3 + (s.2 k).toNatClampNeg)) d 0) f m M ∧ z' = isZ z i p d s f m)) := by
  have hinj' : ∀ a b, a < N → b < N → nI (ord a) = nI (ord b) → a = b := fun a b ha hb e => hinj a b ha hb ((nI_eq (by have := ho6 a ha; omega) (by have := ho6 b hb; omega)).mp e)
  have hd3 : (hdr (zM z (30, p)) n (fun a => nI (ord a)) (zM z (18, i), zM z (19, i)) N).1 ≤ 3 := hdr_d3 hn3 hinj' (Nat.le_refl _)
  have hok := hdr_ok (nm := zM z (30, p)) (ord := fun a => nI (ord a)) (s0 := (zM z (18, i), zM z (19, i))) hn3 N
  refine (jCt.of "JoinLoom$Tree" "is" [(0, _), (1, _), (2, _), (3, _)] rfl rfl (by decide) (Nat.le_of_ble_eq_true rfl) rfl (fun Γ C hQ => ?_))
  have hV : ∀ a, a < N → zM (sM (sR z (16, i) 0 (some (zA z (29, p)))) (16, i) 2 (nI 0)) (tv, jv) a = nI (ord a) := fun a ha => by
    rw [zM_sM_n (fun e => htv.1 (congrArg Prod.fst e))]
    exact ho a ha
  have J115 : ∀ x, jG Γ 0 0 (trY (sM (sR z (16, i) 0 (some (zA z (29, p)))) (16, i) 2 (nI 0)) i (hdr (zM z (30, p)) n (fun a => nI (ord a)) (zM z (18, i), zM z (19, i)) N).1 (hdr (zM z (30, p)) n (fun a => nI (ord a)) (zM z (18, i), zM z (19, i)) N).2) 115 [(0, .ref (zA z (16, i))), (1, .ref (zA z (29, p))), (2, .ref (zA z (tv, jv))), (3, .int (nI N)), (4, .int x)] [] := by
    intro x
    generalize hh : hdr (zM z (30, p)) n (fun a => nI (ord a)) (zM z (18, i), zM z (19, i)) N = s at hd3 hok
    obtain ⟨d, s⟩ := s
    dsimp only at hd3 hok ⊢
    have hA : trA (trY (sM (sR z (16, i) 0 (some (zA z (29, p)))) (16, i) 2 (nI 0)) i d s) i p tb := ⟨hT, by show zR (sR z (16, i) 0 (some (zA z (29, p)))) (16, i) 0 = _; rw [zR_sR_s]; exact if_pos rfl, a29, by show zR (sR z (16, i) 0 (some (zA z (29, p)))) (29, p) 1 = _; rw [zR_sR_n (by simp)]; exact hr, a27, a28⟩
    have J151 : ∀ f m, rwInv (fun q => inC (fun k => zM z (28, tb) (q * 3 + k)) (zM z (30, p)) (zM z (31, p)) n) (trCm (trY (sM (sR z (16, i) 0 (some (zA z (29, p)))) (16, i) 2 (nI 0)) i d s) i tb d) f m M → jG Γ 0 0 (rwZ (trY (sM (sR z (16, i) 0 (some (zA z (29, p)))) (16, i) 2 (nI 0)) i d s) i f m) 151 [(0, .ref (zA z (16, i))), (1, .ref (zA z (29, p))), (2, .ref (zA z (tv, jv))), (3, .int (nI N)), (4, .int (nI M))] [] := by
      intro f m hI
      refine g_aload_n C dX3_is_151 rfl rfl ?_
      refine g_iconst (v := nI 0) C dX3_is_152 (by decide) ?_
      refine p_X3_level C hQ (hT _ (by decide)) (Or.inl q144) (Or.inl rfl) dX3_is_153 ?_
      refine g_aload_n C dX3_is_156 rfl rfl ?_
      refine f_X3_low C (hT _ (by decide)) (Or.inl q140) (Or.inl rfl) dX3_is_157 ?_
      refine g_iconst (v := nI 0) C dX3_is_160 (by decide) ?_
      refine g_iconst (v := nI 0) C dX3_is_161 (by decide) ?_
      refine g_iast (n := 4) C rfl (hT _ (by decide)) rfl (by omega) (by decide) dX3_is_162 ?_
      refine g_aload_n C dX3_is_163 rfl rfl ?_
      refine f_X3_high C (hT _ (by decide)) (Or.inl q141) (Or.inl rfl) dX3_is_164 ?_
      refine g_iconst (v := nI 0) C dX3_is_167 (by decide) ?_
      refine g_aload_n C dX3_is_168 rfl rfl ?_
      refine f_X3_many C (hT _ (by decide)) (Or.inl q134) (Or.inl rfl) dX3_is_169 ?_
      refine g_top ((show _ = nI m from by show zM (sM (rwZ _ _ _ _) (16, i) 10 (nI 0)) (16, i) 2 = _; rw [zM_sM_s, pk_un (by decide)]; exact zM_sM_at)) ?_
      refine g_iast (n := 4) C rfl (hT _ (by decide)) rfl (by omega) (by decide) dX3_is_172 ?_
      exact g_vreturn C hQ (by omega) (by omega) dX3_is_173 (⟨rfl, d, s, f, m, hh.symm, hd3, hok, by unfold trCm at hI; rw [show zM (trY (sM (sR z (16, i) 0 (some (zA z (29, p)))) (16, i) 2 (nI 0)) i d s) (19, i) = s.2 from zM_sA_s] at hI; exact hI, rfl⟩)
    have hs2 : zM (trY (sM (sR z (16, i) 0 (some (zA z (29, p)))) (16, i) 2 (nI 0)) i d s) (19, i) = s.2 := zM_sA_s
    refine g_iconst (v := nI 0) C dX3_is_115 (by decide) ?_
    refine g_istore (lv' := [(0, _), (1, _), (2, _), (3, _), (4, _)]) C dX3_is_116 (by decide) rfl ?_
    refine g_z (show _ = rwZ (trY (sM (sR z (16, i) 0 (some (zA z (29, p)))) (16, i) 2 (nI 0)) i d s) i (zM z (17, i)) 0 from ?_) (l3_X3_is (n := n) (d := d) (tb := tb) (M := M) C hQ hA a30 a31 hn hn3 zM_sM_at hd3 (fun k hk => by rw [hs2]; exact hok k hk) hM hM4 (fun f m hI => ?_) M 0 (by omega) _ 0 (rwInv_0 _ _ _))
    · unfold rwZ
      rw [show sA (trY (sM (sR z (16, i) 0 (some (zA z (29, p)))) (16, i) 2 (nI 0)) i d s) (17, i) (zM z (17, i)) = trY (sM (sR z (16, i) 0 (some (zA z (29, p)))) (16, i) 2 (nI 0)) i d s from sA_self _ _]
      exact (sM_self (by show zM (sM (sM (sR z (16, i) 0 (some (zA z (29, p)))) (16, i) 2 (nI 0)) (16, i) 5 (nI d)) (16, i) 2 = _; rw [zM_sM_s, pk_un (by decide), zM_sM_s, pk_us])).symm
    · exact J151 f m hI
  refine g_aload_n C dX3_is_0 rfl rfl ?_
  refine g_aload_n C dX3_is_1 rfl rfl ?_
  refine p_X3_has C hQ (hT _ (by decide)) (Or.inl q132) (Or.inl rfl) dX3_is_2 ?_
  refine g_aload_n C dX3_is_5 rfl rfl ?_
  refine g_iconst (v := nI 0) C dX3_is_6 (by decide) ?_
  refine p_X3_many C hQ (hT _ (by decide)) (Or.inl q134) (Or.inl rfl) dX3_is_7 ?_
  refine g_aload_n C dX3_is_10 rfl rfl ?_
  refine g_iconst (v := nI 0) C dX3_is_11 (by decide) ?_
  refine p_X3_deep C hQ (hT _ (by decide)) (Or.inl q138) (Or.inl rfl) dX3_is_12 ?_
  refine g_iconst (v := nI 0) C dX3_is_15 (by decide) ?_
  refine g_istore (lv' := [(0, _), (1, _), (2, _), (3, _), (4, _)]) C dX3_is_16 (by decide) rfl ?_
  refine g_z ?_ (l2_X3_is (s0 := (zM z (18, i), zM z (19, i))) (z := sM (sR z (16, i) 0 (some (zA z (29, p)))) (16, i) 2 (nI 0)) C hQ hT a29 a30 hn hnm hkv hv htv hN ho6 hV hinj hn3 (fun x => ?_) N 0 (by omega))
  · exact (show trY (sM (sR z (16, i) 0 (some (zA z (29, p)))) (16, i) 2 (nI 0)) i 0 (zM (sM (sM (sR z (16, i) 0 (some (zA z (29, p)))) (16, i) 2 (nI 0)) (16, i) 5 (nI 0)) (18, i), zM (sM (sM (sR z (16, i) 0 (some (zA z (29, p)))) (16, i) 2 (nI 0)) (16, i) 5 (nI 0)) (19, i)) = _ by unfold trY; rw [sA_self]; exact sA_self _ _).symm
  · exact J115 x
