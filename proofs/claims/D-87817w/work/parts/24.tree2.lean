set_option maxRecDepth 100000
section JLV
variable {Γ : JC} {cells slots : Nat} {z : JZ} {pc : Nat} {lv lv' : List (Nat × Value)} {st : List Value}
theorem g_lv (h : lv = lv') (k : jG Γ cells slots z pc lv' st) : jG Γ cells slots z pc lv st := h ▸ k
end JLV
/-! bits of names -/
def nmB (f : Nat → Int32) : Nat → Nat
  | 0 => 0
  | n + 1 => if f n = -1 then nmB f n else nmB f n ||| 2 ^ (f n).toNatClampNeg
theorem bit_or : ∀ a, a < 64 → ∀ j, j < 6 → nI a ||| ((1 : Int32) <<< (nI j &&& 31)) = nI (a ||| 2 ^ j) := by decide +kernel
theorem bit_lt : ∀ a, a < 64 → ∀ j, j < 6 → a ||| 2 ^ j < 64 := by decide +kernel
theorem bit_shr : ∀ a, a < 64 → ∀ j, j < 6 → ((nI a >>> (nI j &&& 31)) &&& nI 1 = nI 1) = (a.testBit j = true) := by decide +kernel
theorem nmB_nat {f : Nat → Int32} : ∀ {n : Nat}, nmOk n f → nmF f n = nI (nmB f n) ∧ nmB f n < 64
  | 0, _ => ⟨rfl, Nat.zero_lt_succ _⟩
  | n + 1, h => by
    obtain ⟨h1, h2⟩ := nmB_nat (f := f) (n := n) (fun k hk => h k (by omega))
    unfold nmF nmB
    rcases h n (by omega) with e | ⟨j, hj, e⟩
    · rw [if_pos e, if_pos e]; exact ⟨h1, h2⟩
    · have hne : ¬ f n = -1 := by
        rw [e]
        have : ∀ j, j < 6 → ¬ nI j = -1 := by decide +kernel
        exact this j hj
      rw [if_neg hne, if_neg hne, h1, e, nI_clamp (by omega)]
      exact ⟨bit_or _ h2 j hj, bit_lt _ h2 j hj⟩
theorem nI_ne_m1 {j : Nat} (hj : j < 2147483648) : ¬ nI j = -1 := by
  intro e
  have := nI_pos' hj
  rw [e] at this
  exact absurd this (by decide)
theorem nmB_bit {f : Nat → Int32} {j : Nat} (hj : j < 6) : ∀ {n : Nat}, nmOk n f → ((nmB f n).testBit j = true ↔ ∃ c, c < n ∧ f c = nI j)
  | 0, _ => by
    constructor
    · intro h; simp [nmB] at h
    · rintro ⟨c, hc, -⟩; omega
  | n + 1, h => by
    have ih := nmB_bit (f := f) hj (n := n) (fun k hk => h k (by omega))
    unfold nmB
    rcases h n (by omega) with e | ⟨k, hk, e⟩
    · rw [if_pos e, ih]
      constructor
      · rintro ⟨c, hc, e2⟩; exact ⟨c, by omega, e2⟩
      · rintro ⟨c, hc, e2⟩
        refine ⟨c, ?_, e2⟩
        rcases Nat.lt_or_ge c n with h0 | h0
        · exact h0
        · have : c = n := by omega
          subst this
          rw [e] at e2
          exact absurd e2.symm (nI_ne_m1 (by omega))
    · rw [if_neg (by rw [e]; exact nI_ne_m1 (by omega)), Nat.testBit_or, Bool.or_eq_true, ih, e, nI_clamp (by omega), Nat.testBit_two_pow]
      constructor
      · rintro (⟨c, hc, e2⟩ | h0)
        · exact ⟨c, by omega, e2⟩
        · have : k = j := by simpa using h0
          subst this
          exact ⟨n, by omega, e⟩
      · rintro ⟨c, hc, e2⟩
        rcases Nat.lt_or_ge c n with h0 | h0
        · exact Or.inl ⟨c, h0, e2⟩
        · have : c = n := by omega
          subst this
          rw [e] at e2
          have := (nI_eq (by omega) (by omega)).mp e2
          exact Or.inr (by simpa using this)
/-! rows of a tree against one another -/
def trCm (z : JZ) (i tb d q r : Nat) : Int32 := cmpF (fun k => zM z (28, tb) (q * 3 + (zM z (19, i) k).toNatClampNeg)) (fun k => zM z (28, tb) (r * 3 + (zM z (19, i) k).toNatClampNeg)) d 0
theorem lp_X3_compare {Γ : JC} {l : Launch} {z : JZ} {i p tb d q r : Nat} (C : jOk Γ l (jrm 2 0 0) cX3_compare "JoinLoom$Tree" (some FieldType.int) 6) (hQ : jRt Γ (jRi (trCm z i tb d q r) z) 0 0 "compare") (hA : trA z i p tb) (hd : zM z (16, i) 5 = nI d) (hd3 : d ≤ 3) (hC : trC z i d) (hq : q < 40) (hr : r < 40) :
    ∀ (m k : Nat), k + m = d → trCm z i tb d q r = cmpF (fun k => zM z (28, tb) (q * 3 + (zM z (19, i) k).toNatClampNeg)) (fun k => zM z (28, tb) (r * 3 + (zM z (19, i) k).toNatClampNeg)) m k → jG Γ 0 0 z 2 [(0, .ref (zA z (16, i))), (1, .int (nI q)), (2, .int (nI r)), (3, .int (nI k))] [] := by
  intro m
  induction m with
  | zero =>
    intro k hk he
    refine g_iload_n C dX3_compare_2 rfl rfl ?_
    refine g_aload_n C dX3_compare_3 rfl rfl ?_
    refine f_X3_deep C (hA.1 _ (by decide)) (Or.inl q138) (Or.inl rfl) dX3_compare_4 ?_
    refine g_top (hd) ?_
    first | refine g_icmp_ge_n (tgt := 81) C dX3_compare_7 (by decide) (by omega) (by omega) (fun c7 => ?_) (fun c7 => ?_) | refine g_icmp_ge (tgt := 81) C dX3_compare_7 (by decide) (fun c7 => ?_) (fun c7 => ?_)
    · refine g_iconst (v := nI 0) C dX3_compare_81 (by decide) ?_
      exact g_ireturn C hQ rfl (by omega) (by omega) dX3_compare_82 (⟨by rw [he]; rfl, rfl⟩)
    · omega
  | succ m ih =>
    intro k hk he
    obtain ⟨c, hc, ec⟩ := hC k (by omega)
    have ec2 : (zM z (19, i) k).toNatClampNeg = c := by rw [ec, nI_clamp (by omega)]
    simp only [cmpF, ec2] at he
    refine g_iload_n C dX3_compare_2 rfl rfl ?_
    refine g_aload_n C dX3_compare_3 rfl rfl ?_
    refine f_X3_deep C (hA.1 _ (by decide)) (Or.inl q138) (Or.inl rfl) dX3_compare_4 ?_
    refine g_top (hd) ?_
    first | refine g_icmp_ge_n (tgt := 81) C dX3_compare_7 (by decide) (by omega) (by omega) (fun c7 => ?_) (fun c7 => ?_) | refine g_icmp_ge (tgt := 81) C dX3_compare_7 (by decide) (fun c7 => ?_) (fun c7 => ?_)
    · omega
    · refine g_aload_n C dX3_compare_10 rfl rfl ?_
      refine f_X3_has C (hA.1 _ (by decide)) (Or.inl q132) (Or.inl rfl) dX3_compare_11 ?_
      refine g_topR (hA.2.1) ?_
      refine f_X8_table C hA.2.2.1 (Or.inl q366) (Or.inl rfl) dX3_compare_14 ?_
      refine g_topR (hA.2.2.2.1) ?_
      refine g_iload_n C dX3_compare_17 rfl rfl ?_
      refine g_aload_n C dX3_compare_18 rfl rfl ?_
      refine f_X3_column C (hA.1 _ (by decide)) (Or.inl q137) (Or.inl rfl) dX3_compare_19 ?_
      refine g_iload_n C dX3_compare_22 rfl rfl ?_
      refine g_iald (n := 3) C rfl (hA.1 _ (by decide)) rfl (by omega) (by decide) dX3_compare_23 ?_
      refine g_top (ec) ?_
      refine g_cfi (g_runV C (m_X5_at l z tb q c hA.2.2.2.2.1 hA.2.2.2.2.2 (by omega)) ciX5_at q281 (Or.inl q282) (Or.inl q515) hA.2.2.2.2.1 rfl rfl rfl rfl (Nat.le_of_ble_eq_true rfl) dX3_compare_24 (by decide)) ?_
      refine g_istore (lv' := [(0, _), (1, _), (2, _), (3, _), (4, _)]) C dX3_compare_27 (by decide) rfl ?_
      refine g_aload_n C dX3_compare_29 rfl rfl ?_
      refine f_X3_has C (hA.1 _ (by decide)) (Or.inl q132) (Or.inl rfl) dX3_compare_30 ?_
      refine g_topR (hA.2.1) ?_
      refine f_X8_table C hA.2.2.1 (Or.inl q366) (Or.inl rfl) dX3_compare_33 ?_
      refine g_topR (hA.2.2.2.1) ?_
      refine g_iload_n C dX3_compare_36 rfl rfl ?_
      refine g_aload_n C dX3_compare_37 rfl rfl ?_
      refine f_X3_column C (hA.1 _ (by decide)) (Or.inl q137) (Or.inl rfl) dX3_compare_38 ?_
      refine g_iload_n C dX3_compare_41 rfl rfl ?_
      refine g_iald (n := 3) C rfl (hA.1 _ (by decide)) rfl (by omega) (by decide) dX3_compare_42 ?_
      refine g_top (ec) ?_
      refine g_cfi (g_runV C (m_X5_at l z tb r c hA.2.2.2.2.1 hA.2.2.2.2.2 (by omega)) ciX5_at q281 (Or.inl q282) (Or.inl q515) hA.2.2.2.2.1 rfl rfl rfl rfl (Nat.le_of_ble_eq_true rfl) dX3_compare_43 (by decide)) ?_
      refine g_istore (lv' := [(0, _), (1, _), (2, _), (3, _), (4, _), (5, _)]) C dX3_compare_46 (by decide) rfl ?_
      refine g_iload C dX3_compare_48 rfl ?_
      refine g_iload C dX3_compare_50 rfl ?_
      refine g_icmp_eq (tgt := 75) C dX3_compare_52 (by decide) (fun c52 => ?_) (fun c52 => ?_)
      · first | refine g_iinc1 (lv' := [(0, _), (1, _), (2, _), (3, _), (4, _), (5, _)]) C dX3_compare_75 rfl (by decide) rfl ?_ | refine g_iinc (lv' := [(0, _), (1, _), (2, _), (3, _), (4, _), (5, _)]) C dX3_compare_75 rfl rfl (by decide) rfl ?_
        refine g_goto (tgt := 2) C dX3_compare_78 (by decide) ?_
        refine g_take 4 rfl ?_
        exact ih (k + 1) (by omega) (by rw [he, if_pos c52])
      · refine g_iload C dX3_compare_55 rfl ?_
        refine g_cfl (g_runS C (m_X0_rank l z _) ciX0_rank q285 (Or.inr ⟨_, nq524⟩) rfl rfl (Nat.le_of_ble_eq_true rfl) dX3_compare_57 (by decide)) ?_
        refine g_iload C dX3_compare_60 rfl ?_
        refine g_cfl (g_runS C (m_X0_rank l z _) ciX0_rank q285 (Or.inr ⟨_, nq524⟩) rfl rfl (Nat.le_of_ble_eq_true rfl) dX3_compare_62 (by decide)) ?_
        refine g_lcmp C dX3_compare_65 ?_
        refine g_if_ge_c (tgt := 73) C dX3_compare_66 (by decide) (fun c66 => ?_) (fun c66 => ?_)
        · refine g_iconst (v := nI 1) C dX3_compare_73 (by decide) ?_
          exact g_ireturn C hQ rfl (by omega) (by omega) dX3_compare_74 (by first | exact ⟨by rw [he, if_neg c52, if_pos ((rkL_lt _ _).mp c66)] <;> rfl, rfl⟩ | exact ⟨by rw [he, if_neg c52, if_neg (fun e => c66 ((rkL_lt _ _).mpr e))] <;> rfl, rfl⟩)
        · refine g_iconst (v := (-1)) C dX3_compare_69 (by decide) ?_
          refine g_goto (tgt := 74) C dX3_compare_70 (by decide) ?_
          exact g_ireturn C hQ rfl (by omega) (by omega) dX3_compare_74 (by first | exact ⟨by rw [he, if_neg c52, if_pos ((rkL_lt _ _).mp c66)] <;> rfl, rfl⟩ | exact ⟨by rw [he, if_neg c52, if_neg (fun e => c66 ((rkL_lt _ _).mpr e))] <;> rfl, rfl⟩)
theorem m_X3_compare (l : Launch) (z : JZ) (i p tb d q r : Nat) (hA : trA z i p tb) (hd : zM z (16, i) 5 = nI d) (hd3 : d ≤ 3) (hC : trC z i d) (hq : q < 40) (hr : r < 40) : jCt l yX3_compare cX3_compare 6 (some FieldType.int) 2 0 0 [.ref (zA z (16, i)), .int (nI q), .int (nI r)] z (jRi (trCm z i tb d q r) z) := by
  refine (jCt.of "JoinLoom$Tree" "compare" [(0, _), (1, _), (2, _)] rfl rfl (by decide) (Nat.le_of_ble_eq_true rfl) rfl (fun Γ C hQ => ?_))
  refine g_iconst (v := nI 0) C dX3_compare_0 (by decide) ?_
  refine g_istore_n (lv' := [(0, _), (1, _), (2, _), (3, _)]) C dX3_compare_1 rfl (by decide) rfl ?_
  exact lp_X3_compare C hQ hA hd hd3 hC hq hr d 0 (by omega) rfl
def shR (f : Nat → Int32) (lo hi : Nat) : Nat → Int32 := fun j => if lo < j ∧ j ≤ hi then f (j - 1) else f j
theorem shR_step (f : Nat → Int32) {i n : Nat} (h0 : 0 < i) (hi : i ≤ n) : upd (shR f i n) i (shR f i n (i - 1)) = shR f (i - 1) n := by
  funext j
  simp only [upd, shR]
  by_cases e : j = i
  · subst e
    rw [if_pos rfl, if_neg (by omega), if_pos (by omega)]
  · rw [if_neg e]
    by_cases e2 : i < j ∧ j ≤ n
    · rw [if_pos e2, if_pos (by omega)]
    · rw [if_neg e2, if_neg (by omega)]
theorem shR_id (f : Nat → Int32) (n : Nat) : shR f n n = f := by
  funext j
  simp only [shR]
  rw [if_neg (by omega)]
theorem lp_X3_comes {Γ : JC} {l : Launch} {z : JZ} {i p tb d m q r : Nat} {rw_ : Nat → Nat} (C : jOk Γ l (jrm 3 0 0) cX3_comes "JoinLoom$Tree" (none) 3) (hQ : jRt Γ (jRv (sM (sA z (17, i) (upd (shR (zM z (17, i)) q m) q (nI r))) (16, i) 2 (nI (m + 1)))) 0 0 "comes") (hA : trA z i p tb) (hd : zM z (16, i) 5 = nI d) (hd3 : d ≤ 3) (hC : trC z i d) (hm : zM z (16, i) 2 = nI m) (hm4 : m < 40) (hr : r < 40) (hw : ∀ k, k < m → rw_ k < 40 ∧ zM z (17, i) k = nI (rw_ k)) (hq : q ≤ m) (hp1 : ∀ k, q ≤ k → k < m → 0 < trCm z i tb d (rw_ k) r) (hp2 : 0 < q → ¬ 0 < trCm z i tb d (rw_ (q - 1)) r) :
    ∀ (w k : Nat), k = q + w → k ≤ m → jG Γ 0 0 (sA z (17, i) (shR (zM z (17, i)) k m)) 5 [(0, .ref (zA z (16, i))), (1, .int (nI r)), (2, .int (nI k))] [] := by
  have hrow : ∀ k, 0 < k → k ≤ m → zM (sA z (17, i) (shR (zM z (17, i)) k m)) (17, i) (k - 1) = nI (rw_ (k - 1)) := by
    intro k h0 hk
    rw [zM_sA_s]
    simp only [shR]
    rw [if_neg (by omega)]
    exact (hw (k - 1) (by omega)).2
  intro w
  induction w with
  | zero =>
    intro k hk hkm
    have e : k = q := by omega
    subst e
    refine g_iload_n C dX3_comes_5 rfl rfl ?_
    refine g_if_le_n (tgt := 45) C dX3_comes_6 (by decide) (by omega) (fun c6 => ?_) (fun c6 => ?_)
    · refine g_aload_n C dX3_comes_45 rfl rfl ?_
      refine f_X3_rows C (hA.1 _ (by decide)) (Or.inl q133) (Or.inl rfl) dX3_comes_46 ?_
      refine g_iload_n C dX3_comes_49 rfl rfl ?_
      refine g_iload_n C dX3_comes_50 rfl rfl ?_
      refine g_iast (n := 40) C rfl (hA.1 _ (by decide)) rfl (by omega) (by decide) dX3_comes_51 ?_
      refine g_aload_n C dX3_comes_52 rfl rfl ?_
      refine g_dup C dX3_comes_53 rfl ?_
      refine f_X3_many C (hA.1 _ (by decide)) (Or.inl q134) (Or.inl rfl) dX3_comes_54 ?_
      refine g_top (hm) ?_
      refine g_iconst (v := nI 1) C dX3_comes_57 (by decide) ?_
      first | refine g_iadd_n C dX3_comes_58 ?_ | refine g_iadd C dX3_comes_58 ?_
      refine p_X3_many C hQ (hA.1 _ (by decide)) (Or.inl q134) (Or.inl rfl) dX3_comes_59 ?_
      exact g_vreturn C hQ (by omega) (by omega) dX3_comes_62 (⟨rfl, by rw [sM_sA]⟩)
    · refine g_aload_n C dX3_comes_9 rfl rfl ?_
      refine g_aload_n C dX3_comes_10 rfl rfl ?_
      refine f_X3_rows C (hA.1 _ (by decide)) (Or.inl q133) (Or.inl rfl) dX3_comes_11 ?_
      refine g_iload_n C dX3_comes_14 rfl rfl ?_
      refine g_iconst (v := nI 1) C dX3_comes_15 (by decide) ?_
      first | refine g_isub_n C dX3_comes_16 (by omega) ?_ | refine g_isub C dX3_comes_16 ?_
      refine g_iald (n := 40) C rfl (hA.1 _ (by decide)) rfl (by omega) (by decide) dX3_comes_17 ?_
      refine g_top (hrow k (by omega) hkm) ?_
      refine g_iload_n C dX3_comes_18 rfl rfl ?_
      refine g_cfi (g_runV C (m_X3_compare l _ i p tb d (rw_ (k - 1)) r hA hd hd3 hC (hw (k - 1) (by omega)).1 hr) ciX3_compare q522 (Or.inl qs8) (Or.inl q520) (hA.1 _ (by decide)) rfl rfl rfl rfl (Nat.le_of_ble_eq_true rfl) dX3_comes_19 (by decide)) ?_
      refine g_if_le (tgt := 45) C dX3_comes_22 (by decide) (fun c22 => ?_) (fun c22 => ?_)
      · refine g_aload_n C dX3_comes_45 rfl rfl ?_
        refine f_X3_rows C (hA.1 _ (by decide)) (Or.inl q133) (Or.inl rfl) dX3_comes_46 ?_
        refine g_iload_n C dX3_comes_49 rfl rfl ?_
        refine g_iload_n C dX3_comes_50 rfl rfl ?_
        refine g_iast (n := 40) C rfl (hA.1 _ (by decide)) rfl (by omega) (by decide) dX3_comes_51 ?_
        refine g_aload_n C dX3_comes_52 rfl rfl ?_
        refine g_dup C dX3_comes_53 rfl ?_
        refine f_X3_many C (hA.1 _ (by decide)) (Or.inl q134) (Or.inl rfl) dX3_comes_54 ?_
        refine g_top (hm) ?_
        refine g_iconst (v := nI 1) C dX3_comes_57 (by decide) ?_
        first | refine g_iadd_n C dX3_comes_58 ?_ | refine g_iadd C dX3_comes_58 ?_
        refine p_X3_many C hQ (hA.1 _ (by decide)) (Or.inl q134) (Or.inl rfl) dX3_comes_59 ?_
        exact g_vreturn C hQ (by omega) (by omega) dX3_comes_62 (⟨rfl, by rw [sM_sA]⟩)
      · exact absurd (Int32.not_le.mp c22) (hp2 (by omega))
  | succ w ih =>
    intro k hk hkm
    refine g_iload_n C dX3_comes_5 rfl rfl ?_
    refine g_if_le_n (tgt := 45) C dX3_comes_6 (by decide) (by omega) (fun c6 => ?_) (fun c6 => ?_)
    · omega
    · refine g_aload_n C dX3_comes_9 rfl rfl ?_
      refine g_aload_n C dX3_comes_10 rfl rfl ?_
      refine f_X3_rows C (hA.1 _ (by decide)) (Or.inl q133) (Or.inl rfl) dX3_comes_11 ?_
      refine g_iload_n C dX3_comes_14 rfl rfl ?_
      refine g_iconst (v := nI 1) C dX3_comes_15 (by decide) ?_
      first | refine g_isub_n C dX3_comes_16 (by omega) ?_ | refine g_isub C dX3_comes_16 ?_
      refine g_iald (n := 40) C rfl (hA.1 _ (by decide)) rfl (by omega) (by decide) dX3_comes_17 ?_
      refine g_top (hrow k (by omega) hkm) ?_
      refine g_iload_n C dX3_comes_18 rfl rfl ?_
      refine g_cfi (g_runV C (m_X3_compare l _ i p tb d (rw_ (k - 1)) r hA hd hd3 hC (hw (k - 1) (by omega)).1 hr) ciX3_compare q522 (Or.inl qs8) (Or.inl q520) (hA.1 _ (by decide)) rfl rfl rfl rfl (Nat.le_of_ble_eq_true rfl) dX3_comes_19 (by decide)) ?_
      refine g_if_le (tgt := 45) C dX3_comes_22 (by decide) (fun c22 => ?_) (fun c22 => ?_)
      · exact absurd (hp1 (k - 1) (by omega) (by omega)) (Int32.not_lt.mpr c22)
      · refine g_aload_n C dX3_comes_25 rfl rfl ?_
        refine f_X3_rows C (hA.1 _ (by decide)) (Or.inl q133) (Or.inl rfl) dX3_comes_26 ?_
        refine g_iload_n C dX3_comes_29 rfl rfl ?_
        refine g_aload_n C dX3_comes_30 rfl rfl ?_
        refine f_X3_rows C (hA.1 _ (by decide)) (Or.inl q133) (Or.inl rfl) dX3_comes_31 ?_
        refine g_iload_n C dX3_comes_34 rfl rfl ?_
        refine g_iconst (v := nI 1) C dX3_comes_35 (by decide) ?_
        first | refine g_isub_n C dX3_comes_36 (by omega) ?_ | refine g_isub C dX3_comes_36 ?_
        refine g_iald (n := 40) C rfl (hA.1 _ (by decide)) rfl (by omega) (by decide) dX3_comes_37 ?_
        refine g_iast (n := 40) C rfl (hA.1 _ (by decide)) rfl (by omega) (by decide) dX3_comes_38 ?_
        first | refine g_iincm (lv' := [(0, _), (1, _), (2, _)]) C dX3_comes_39 rfl (by omega) (by decide) rfl ?_ | refine g_iinc (lv' := [(0, _), (1, _), (2, _)]) C dX3_comes_39 rfl rfl (by decide) rfl ?_
        refine g_goto (tgt := 5) C dX3_comes_42 (by decide) ?_
        refine g_z ?_ (ih (k - 1) (by omega) (by omega))
        rw [sM_sA, zM_sA_s, shR_step _ (by omega) hkm]
theorem m_X3_comes (l : Launch) (z : JZ) (i p tb d m q r : Nat) (rw_ : Nat → Nat) (hA : trA z i p tb) (hd : zM z (16, i) 5 = nI d) (hd3 : d ≤ 3) (hC : trC z i d) (hm : zM z (16, i) 2 = nI m) (hm4 : m < 40) (hr : r < 40) (hw : ∀ k, k < m → rw_ k < 40 ∧ zM z (17, i) k = nI (rw_ k)) (hq : q ≤ m) (hp1 : ∀ k, q ≤ k → k < m → 0 < trCm z i tb d (rw_ k) r) (hp2 : 0 < q → ¬ 0 < trCm z i tb d (rw_ (q - 1)) r) : jCt l yX3_comes cX3_comes 3 (none) 3 0 0 [.ref (zA z (16, i)), .int (nI r)] z (jRv (sM (sA z (17, i) (upd (shR (zM z (17, i)) q m) q (nI r))) (16, i) 2 (nI (m + 1)))) := by
  refine (jCt.of "JoinLoom$Tree" "comes" [(0, _), (1, _)] rfl rfl (by decide) (Nat.le_of_ble_eq_true rfl) rfl (fun Γ C hQ => ?_))
  refine g_aload_n C dX3_comes_0 rfl rfl ?_
  refine f_X3_many C (hA.1 _ (by decide)) (Or.inl q134) (Or.inl rfl) dX3_comes_1 ?_
  refine g_top (hm) ?_
  refine g_istore_n (lv' := [(0, _), (1, _), (2, _)]) C dX3_comes_4 rfl (by decide) rfl ?_
  refine g_z ?_ (lp_X3_comes C hQ hA hd hd3 hC hm hm4 hr hw hq hp1 hp2 (m - q) m (by omega) (by omega))
  rw [shR_id, sA_self]
/-! whether a row is in -/
def inD (v nm : Nat → Int32) (c : Nat) : Nat → Bool
  | 0 => true
  | d + 1 => inD v nm c d && (decide (nm c = -1) || !decide (nm d = nm c) || decide (v c = v d))
def inC (v nm tl : Nat → Int32) : Nat → Bool
  | 0 => true
  | c + 1 => (inC v nm tl c && (!decide (nm c = -1) || decide (v c = tl c))) && inD v nm c c
theorem l2_X3_isIn {Γ : JC} {l : Launch} {z : JZ} {i p tb n r c : Nat} {g : Bool} {R : Room} {ret : Option FieldType} (C : jOk Γ l (jrm 2 0 0) cX3_isIn "JoinLoom$Tree" ret 5) (hA : trA z i p tb) (a3 : zL z (30, p) = true) (hc : c < 3) (hr : r < 40)
    (K : jG Γ 0 0 z 150 [(0, .ref (zA z (16, i))), (1, .int (nI r)), (2, .int (jb (g && inD (fun k => zM z (28, tb) (r * 3 + k)) (zM z (30, p)) c c))), (3, .int (nI c)), (4, .int (nI c))] []) :
    ∀ (m d : Nat), d + m = c → ∀ x : Int32, x = jb (g && inD (fun k => zM z (28, tb) (r * 3 + k)) (zM z (30, p)) c d) → jG Γ 0 0 z 65 [(0, .ref (zA z (16, i))), (1, .int (nI r)), (2, .int x), (3, .int (nI c)), (4, .int (nI d))] [] := by
  intro m
  induction m with
  | zero =>
    intro d hd x hx
    have e : d = c := by omega
    subst e
    subst hx
    refine g_iload C dX3_isIn_65 rfl ?_
    refine g_iload_n C dX3_isIn_67 rfl rfl ?_
    first | refine g_icmp_ge_n (tgt := 150) C dX3_isIn_68 (by decide) (by omega) (by omega) (fun c68 => ?_) (fun c68 => ?_) | refine g_icmp_ge (tgt := 150) C dX3_isIn_68 (by decide) (fun c68 => ?_) (fun c68 => ?_)
    · exact K
    · omega
  | succ m ih =>
    intro d hd x hx
    subst hx
    refine g_iload C dX3_isIn_65 rfl ?_
    refine g_iload_n C dX3_isIn_67 rfl rfl ?_
    first | refine g_icmp_ge_n (tgt := 150) C dX3_isIn_68 (by decide) (by omega) (by omega) (fun c68 => ?_) (fun c68 => ?_) | refine g_icmp_ge (tgt := 150) C dX3_isIn_68 (by decide) (fun c68 => ?_) (fun c68 => ?_)
    · omega
    · refine g_iload_n C dX3_isIn_71 rfl rfl ?_
      refine g_if_eq_b (tgt := 142) C dX3_isIn_72 (by decide) (fun c72 => ?_) (fun c72 => ?_)
      · refine g_iconst (v := nI 0) C dX3_isIn_142 (by decide) ?_
        refine g_istore_n (lv' := [(0, _), (1, _), (2, _), (3, _), (4, _)]) C dX3_isIn_143 rfl (by decide) rfl ?_
        refine g_iinc1 (lv' := [(0, _), (1, _), (2, _), (3, _), (4, _)]) C dX3_isIn_144 rfl (by decide) rfl ?_
        refine g_goto (tgt := 65) C dX3_isIn_147 (by decide) ?_
        first | exact ih (d + 1) (by omega) _ (by rw [inD, ← Bool.and_assoc, c72]; rfl) | exact ih (d + 1) (by omega) _ (by rw [inD, ← Bool.and_assoc, c72, decide_eq_true c85]; rfl) | exact ih (d + 1) (by omega) _ (by rw [inD, ← Bool.and_assoc, c72, decide_eq_false c85, decide_eq_false c107]; rfl) | exact ih (d + 1) (by omega) _ (by rw [inD, ← Bool.and_assoc, c72, decide_eq_false c85, decide_eq_true c107, decide_eq_true c135]; rfl) | exact ih (d + 1) (by omega) _ (by rw [inD, ← Bool.and_assoc, c72, decide_eq_false c85, decide_eq_true c107, decide_eq_false c135]; rfl)
      · refine g_aload_n C dX3_isIn_75 rfl rfl ?_
        refine f_X3_has C (hA.1 _ (by decide)) (Or.inl q132) (Or.inl rfl) dX3_isIn_76 ?_
        refine g_topR (hA.2.1) ?_
        refine f_X8_name C hA.2.2.1 (Or.inl q371) (Or.inl rfl) dX3_isIn_79 ?_
        refine g_iload_n C dX3_isIn_82 rfl rfl ?_
        refine g_iald (n := 3) C rfl a3 rfl (by omega) (by decide) dX3_isIn_83 ?_
        refine g_iconst (v := (-1)) C dX3_isIn_84 (by decide) ?_
        refine g_icmp_eq (tgt := 138) C dX3_isIn_85 (by decide) (fun c85 => ?_) (fun c85 => ?_)
        · refine g_iconst (v := nI 1) C dX3_isIn_138 (by decide) ?_
          refine g_goto (tgt := 143) C dX3_isIn_139 (by decide) ?_
          refine g_istore_n (lv' := [(0, _), (1, _), (2, _), (3, _), (4, _)]) C dX3_isIn_143 rfl (by decide) rfl ?_
          refine g_iinc1 (lv' := [(0, _), (1, _), (2, _), (3, _), (4, _)]) C dX3_isIn_144 rfl (by decide) rfl ?_
          refine g_goto (tgt := 65) C dX3_isIn_147 (by decide) ?_
          first | exact ih (d + 1) (by omega) _ (by rw [inD, ← Bool.and_assoc, c72]; rfl) | exact ih (d + 1) (by omega) _ (by rw [inD, ← Bool.and_assoc, c72, decide_eq_true c85]; rfl) | exact ih (d + 1) (by omega) _ (by rw [inD, ← Bool.and_assoc, c72, decide_eq_false c85, decide_eq_false c107]; rfl) | exact ih (d + 1) (by omega) _ (by rw [inD, ← Bool.and_assoc, c72, decide_eq_false c85, decide_eq_true c107, decide_eq_true c135]; rfl) | exact ih (d + 1) (by omega) _ (by rw [inD, ← Bool.and_assoc, c72, decide_eq_false c85, decide_eq_true c107, decide_eq_false c135]; rfl)
        · refine g_aload_n C dX3_isIn_88 rfl rfl ?_
          refine f_X3_has C (hA.1 _ (by decide)) (Or.inl q132) (Or.inl rfl) dX3_isIn_89 ?_
          refine g_topR (hA.2.1) ?_
          refine f_X8_name C hA.2.2.1 (Or.inl q371) (Or.inl rfl) dX3_isIn_92 ?_
          refine g_iload C dX3_isIn_95 rfl ?_
          refine g_iald (n := 3) C rfl a3 rfl (by omega) (by decide) dX3_isIn_97 ?_
          refine g_aload_n C dX3_isIn_98 rfl rfl ?_
          refine f_X3_has C (hA.1 _ (by decide)) (Or.inl q132) (Or.inl rfl) dX3_isIn_99 ?_
          refine g_topR (hA.2.1) ?_
          refine f_X8_name C hA.2.2.1 (Or.inl q371) (Or.inl rfl) dX3_isIn_102 ?_
          refine g_iload_n C dX3_isIn_105 rfl rfl ?_
          refine g_iald (n := 3) C rfl a3 rfl (by omega) (by decide) dX3_isIn_106 ?_
          refine g_icmp_ne (tgt := 138) C dX3_isIn_107 (by decide) (fun c107 => ?_) (fun c107 => ?_)
          · refine g_iconst (v := nI 1) C dX3_isIn_138 (by decide) ?_
            refine g_goto (tgt := 143) C dX3_isIn_139 (by decide) ?_
            refine g_istore_n (lv' := [(0, _), (1, _), (2, _), (3, _), (4, _)]) C dX3_isIn_143 rfl (by decide) rfl ?_
            refine g_iinc1 (lv' := [(0, _), (1, _), (2, _), (3, _), (4, _)]) C dX3_isIn_144 rfl (by decide) rfl ?_
            refine g_goto (tgt := 65) C dX3_isIn_147 (by decide) ?_
            first | exact ih (d + 1) (by omega) _ (by rw [inD, ← Bool.and_assoc, c72]; rfl) | exact ih (d + 1) (by omega) _ (by rw [inD, ← Bool.and_assoc, c72, decide_eq_true c85]; rfl) | exact ih (d + 1) (by omega) _ (by rw [inD, ← Bool.and_assoc, c72, decide_eq_false c85, decide_eq_false c107]; rfl) | exact ih (d + 1) (by omega) _ (by rw [inD, ← Bool.and_assoc, c72, decide_eq_false c85, decide_eq_true c107, decide_eq_true c135]; rfl) | exact ih (d + 1) (by omega) _ (by rw [inD, ← Bool.and_assoc, c72, decide_eq_false c85, decide_eq_true c107, decide_eq_false c135]; rfl)
          · refine g_aload_n C dX3_isIn_110 rfl rfl ?_
            refine f_X3_has C (hA.1 _ (by decide)) (Or.inl q132) (Or.inl rfl) dX3_isIn_111 ?_
            refine g_topR (hA.2.1) ?_
            refine f_X8_table C hA.2.2.1 (Or.inl q366) (Or.inl rfl) dX3_isIn_114 ?_
            refine g_topR (hA.2.2.2.1) ?_
            refine g_iload_n C dX3_isIn_117 rfl rfl ?_
            refine g_iload_n C dX3_isIn_118 rfl rfl ?_
            refine g_cfi (g_runV C (m_X5_at l z tb r c hA.2.2.2.2.1 hA.2.2.2.2.2 (by omega)) ciX5_at q281 (Or.inl q282) (Or.inl q515) hA.2.2.2.2.1 rfl rfl rfl rfl (Nat.le_of_ble_eq_true rfl) dX3_isIn_119 (by decide)) ?_
            refine g_aload_n C dX3_isIn_122 rfl rfl ?_
            refine f_X3_has C (hA.1 _ (by decide)) (Or.inl q132) (Or.inl rfl) dX3_isIn_123 ?_
            refine g_topR (hA.2.1) ?_
            refine f_X8_table C hA.2.2.1 (Or.inl q366) (Or.inl rfl) dX3_isIn_126 ?_
            refine g_topR (hA.2.2.2.1) ?_
            refine g_iload_n C dX3_isIn_129 rfl rfl ?_
            refine g_iload C dX3_isIn_130 rfl ?_
            refine g_cfi (g_runV C (m_X5_at l z tb r d hA.2.2.2.2.1 hA.2.2.2.2.2 (by omega)) ciX5_at q281 (Or.inl q282) (Or.inl q515) hA.2.2.2.2.1 rfl rfl rfl rfl (Nat.le_of_ble_eq_true rfl) dX3_isIn_132 (by decide)) ?_
            refine g_icmp_ne (tgt := 142) C dX3_isIn_135 (by decide) (fun c135 => ?_) (fun c135 => ?_)
            · refine g_iconst (v := nI 0) C dX3_isIn_142 (by decide) ?_
              refine g_istore_n (lv' := [(0, _), (1, _), (2, _), (3, _), (4, _)]) C dX3_isIn_143 rfl (by decide) rfl ?_
              refine g_iinc1 (lv' := [(0, _), (1, _), (2, _), (3, _), (4, _)]) C dX3_isIn_144 rfl (by decide) rfl ?_
              refine g_goto (tgt := 65) C dX3_isIn_147 (by decide) ?_
              first | exact ih (d + 1) (by omega) _ (by rw [inD, ← Bool.and_assoc, c72]; rfl) | exact ih (d + 1) (by omega) _ (by rw [inD, ← Bool.and_assoc, c72, decide_eq_true c85]; rfl) | exact ih (d + 1) (by omega) _ (by rw [inD, ← Bool.and_assoc, c72, decide_eq_false c85, decide_eq_false c107]; rfl) | exact ih (d + 1) (by omega) _ (by rw [inD, ← Bool.and_assoc, c72, decide_eq_false c85, decide_eq_true c107, decide_eq_true c135]; rfl) | exact ih (d + 1) (by omega) _ (by rw [inD, ← Bool.and_assoc, c72, decide_eq_false c85, decide_eq_true c107, decide_eq_false c135]; rfl)
            · refine g_iconst (v := nI 1) C dX3_isIn_138 (by decide) ?_
              refine g_goto (tgt := 143) C dX3_isIn_139 (by decide) ?_
              refine g_istore_n (lv' := [(0, _), (1, _), (2, _), (3, _), (4, _)]) C dX3_isIn_143 rfl (by decide) rfl ?_
              refine g_iinc1 (lv' := [(0, _), (1, _), (2, _), (3, _), (4, _)]) C dX3_isIn_144 rfl (by decide) rfl ?_
              refine g_goto (tgt := 65) C dX3_isIn_147 (by decide) ?_
              first | exact ih (d + 1) (by omega) _ (by rw [inD, ← Bool.and_assoc, c72]; rfl) | exact ih (d + 1) (by omega) _ (by rw [inD, ← Bool.and_assoc, c72, decide_eq_true c85]; rfl) | exact ih (d + 1) (by omega) _ (by rw [inD, ← Bool.and_assoc, c72, decide_eq_false c85, decide_eq_false c107]; rfl) | exact ih (d + 1) (by omega) _ (by rw [inD, ← Bool.and_assoc, c72, decide_eq_false c85, decide_eq_true c107, decide_eq_true c135]; rfl) | exact ih (d + 1) (by omega) _ (by rw [inD, ← Bool.and_assoc, c72, decide_eq_false c85, decide_eq_true c107, decide_eq_false c135]; rfl)
theorem lp_X3_isIn {Γ : JC} {l : Launch} {z : JZ} {i p tb n r : Nat} (C : jOk Γ l (jrm 2 0 0) cX3_isIn "JoinLoom$Tree" (some FieldType.boolean) 5) (hQ : jRt Γ (jRi (jb (inC (fun k => zM z (28, tb) (r * 3 + k)) (zM z (30, p)) (zM z (31, p)) n)) z) 0 0 "isIn") (hA : trA z i p tb) (a3 : zL z (30, p) = true) (a4 : zL z (31, p) = true) (hn : zM z (29, p) 5 = nI n) (hn3 : n ≤ 3) (hr : r < 40) :
    ∀ (m c : Nat), c + m = n → jG Γ 0 0 z 4 [(0, .ref (zA z (16, i))), (1, .int (nI r)), (2, .int (jb (inC (fun k => zM z (28, tb) (r * 3 + k)) (zM z (30, p)) (zM z (31, p)) c))), (3, .int (nI c))] [] := by
  intro m
  induction m with
  | zero =>
    intro c hc
    have e : c = n := by omega
    subst e
    refine g_iload_n C dX3_isIn_4 rfl rfl ?_
    refine g_aload_n C dX3_isIn_5 rfl rfl ?_
    refine f_X3_has C (hA.1 _ (by decide)) (Or.inl q132) (Or.inl rfl) dX3_isIn_6 ?_
    refine g_topR (hA.2.1) ?_
    refine f_X8_places C hA.2.2.1 (Or.inl q377) (Or.inl rfl) dX3_isIn_9 ?_
    refine g_top (hn) ?_
    first | refine g_icmp_ge_n (tgt := 156) C dX3_isIn_12 (by decide) (by omega) (by omega) (fun c12 => ?_) (fun c12 => ?_) | refine g_icmp_ge (tgt := 156) C dX3_isIn_12 (by decide) (fun c12 => ?_) (fun c12 => ?_)
    · refine g_iload_n C dX3_isIn_156 rfl rfl ?_
      exact g_ireturn C hQ (jb_nar _) (by omega) (by omega) dX3_isIn_157 (⟨rfl, rfl⟩)
    · omega
  | succ m ih =>
    intro c hc
    have J : ∀ x : Int32, x = jb (inC (fun k => zM z (28, tb) (r * 3 + k)) (zM z (30, p)) (zM z (31, p)) c && (!decide (zM z (30, p) c = -1) || decide (zM z (28, tb) (r * 3 + c) = zM z (31, p) c))) → jG Γ 0 0 z 62 [(0, .ref (zA z (16, i))), (1, .int (nI r)), (2, .int x), (3, .int (nI c))] [] := by
      intro x hx
      subst hx
      refine g_iconst (v := nI 0) C dX3_isIn_62 (by decide) ?_
      refine g_istore (lv' := [(0, _), (1, _), (2, _), (3, _), (4, _)]) C dX3_isIn_63 (by decide) rfl ?_
      refine l2_X3_isIn (R := jrm 2 0 0) (n := n) C hA a3 (by omega) hr ?_ c 0 (by omega) _ (by rw [inD, Bool.and_true])
      refine g_iinc1 (lv' := [(0, _), (1, _), (2, _), (3, _), (4, _)]) C dX3_isIn_150 rfl (by decide) rfl ?_
      refine g_goto (tgt := 4) C dX3_isIn_153 (by decide) ?_
      refine g_take 4 rfl ?_
      exact ih (c + 1) (by omega)
    refine g_iload_n C dX3_isIn_4 rfl rfl ?_
    refine g_aload_n C dX3_isIn_5 rfl rfl ?_
    refine f_X3_has C (hA.1 _ (by decide)) (Or.inl q132) (Or.inl rfl) dX3_isIn_6 ?_
    refine g_topR (hA.2.1) ?_
    refine f_X8_places C hA.2.2.1 (Or.inl q377) (Or.inl rfl) dX3_isIn_9 ?_
    refine g_top (hn) ?_
    first | refine g_icmp_ge_n (tgt := 156) C dX3_isIn_12 (by decide) (by omega) (by omega) (fun c12 => ?_) (fun c12 => ?_) | refine g_icmp_ge (tgt := 156) C dX3_isIn_12 (by decide) (fun c12 => ?_) (fun c12 => ?_)
    · omega
    · refine g_aload_n C dX3_isIn_15 rfl rfl ?_
      refine f_X3_has C (hA.1 _ (by decide)) (Or.inl q132) (Or.inl rfl) dX3_isIn_16 ?_
      refine g_topR (hA.2.1) ?_
      refine f_X8_name C hA.2.2.1 (Or.inl q371) (Or.inl rfl) dX3_isIn_19 ?_
      refine g_iload_n C dX3_isIn_22 rfl rfl ?_
      refine g_iald (n := 3) C rfl a3 rfl (by omega) (by decide) dX3_isIn_23 ?_
      refine g_iconst (v := (-1)) C dX3_isIn_24 (by decide) ?_
      refine g_icmp_ne (tgt := 62) C dX3_isIn_25 (by decide) (fun c25 => ?_) (fun c25 => ?_)
      · first | exact J _ (by rw [decide_eq_false c25, Bool.not_false, Bool.true_or, Bool.and_true]) | exact J _ (by rw [c29]; rfl) | exact J _ (by rw [c29, decide_eq_true c25, decide_eq_true c53]; rfl) | exact J _ (by rw [c29, decide_eq_true c25, decide_eq_false c53]; rfl)
      · refine g_iload_n C dX3_isIn_28 rfl rfl ?_
        refine g_if_eq_b (tgt := 60) C dX3_isIn_29 (by decide) (fun c29 => ?_) (fun c29 => ?_)
        · refine g_iconst (v := nI 0) C dX3_isIn_60 (by decide) ?_
          refine g_istore_n (lv' := [(0, _), (1, _), (2, _), (3, _)]) C dX3_isIn_61 rfl (by decide) rfl ?_
          first | exact J _ (by rw [decide_eq_false c25, Bool.not_false, Bool.true_or, Bool.and_true]) | exact J _ (by rw [c29]; rfl) | exact J _ (by rw [c29, decide_eq_true c25, decide_eq_true c53]; rfl) | exact J _ (by rw [c29, decide_eq_true c25, decide_eq_false c53]; rfl)
        · refine g_aload_n C dX3_isIn_32 rfl rfl ?_
          refine f_X3_has C (hA.1 _ (by decide)) (Or.inl q132) (Or.inl rfl) dX3_isIn_33 ?_
          refine g_topR (hA.2.1) ?_
          refine f_X8_table C hA.2.2.1 (Or.inl q366) (Or.inl rfl) dX3_isIn_36 ?_
          refine g_topR (hA.2.2.2.1) ?_
          refine g_iload_n C dX3_isIn_39 rfl rfl ?_
          refine g_iload_n C dX3_isIn_40 rfl rfl ?_
          refine g_cfi (g_runV C (m_X5_at l z tb r c hA.2.2.2.2.1 hA.2.2.2.2.2 (by omega)) ciX5_at q281 (Or.inl q282) (Or.inl q515) hA.2.2.2.2.1 rfl rfl rfl rfl (Nat.le_of_ble_eq_true rfl) dX3_isIn_41 (by decide)) ?_
          refine g_aload_n C dX3_isIn_44 rfl rfl ?_
          refine f_X3_has C (hA.1 _ (by decide)) (Or.inl q132) (Or.inl rfl) dX3_isIn_45 ?_
          refine g_topR (hA.2.1) ?_
          refine f_X8_told C hA.2.2.1 (Or.inl q374) (Or.inl rfl) dX3_isIn_48 ?_
          refine g_iload_n C dX3_isIn_51 rfl rfl ?_
          refine g_iald (n := 3) C rfl a4 rfl (by omega) (by decide) dX3_isIn_52 ?_
          refine g_icmp_ne (tgt := 60) C dX3_isIn_53 (by decide) (fun c53 => ?_) (fun c53 => ?_)
          · refine g_iconst (v := nI 0) C dX3_isIn_60 (by decide) ?_
            refine g_istore_n (lv' := [(0, _), (1, _), (2, _), (3, _)]) C dX3_isIn_61 rfl (by decide) rfl ?_
            first | exact J _ (by rw [decide_eq_false c25, Bool.not_false, Bool.true_or, Bool.and_true]) | exact J _ (by rw [c29]; rfl) | exact J _ (by rw [c29, decide_eq_true c25, decide_eq_true c53]; rfl) | exact J _ (by rw [c29, decide_eq_true c25, decide_eq_false c53]; rfl)
          · refine g_iconst (v := nI 1) C dX3_isIn_56 (by decide) ?_
            refine g_goto (tgt := 61) C dX3_isIn_57 (by decide) ?_
            refine g_istore_n (lv' := [(0, _), (1, _), (2, _), (3, _)]) C dX3_isIn_61 rfl (by decide) rfl ?_
            first | exact J _ (by rw [decide_eq_false c25, Bool.not_false, Bool.true_or, Bool.and_true]) | exact J _ (by rw [c29]; rfl) | exact J _ (by rw [c29, decide_eq_true c25, decide_eq_true c53]; rfl) | exact J _ (by rw [c29, decide_eq_true c25, decide_eq_false c53]; rfl)
theorem m_X3_isIn (l : Launch) (z : JZ) (i p tb n r : Nat) (hA : trA z i p tb) (a3 : zL z (30, p) = true) (a4 : zL z (31, p) = true) (hn : zM z (29, p) 5 = nI n) (hn3 : n ≤ 3) (hr : r < 40) : jCt l yX3_isIn cX3_isIn 5 (some FieldType.boolean) 2 0 0 [.ref (zA z (16, i)), .int (nI r)] z (jRi (jb (inC (fun k => zM z (28, tb) (r * 3 + k)) (zM z (30, p)) (zM z (31, p)) n)) z) := by
  refine (jCt.of "JoinLoom$Tree" "isIn" [(0, _), (1, _)] rfl rfl (by decide) (Nat.le_of_ble_eq_true rfl) rfl (fun Γ C hQ => ?_))
  refine g_iconst (v := nI 1) C dX3_isIn_0 (by decide) ?_
  refine g_istore_n (lv' := [(0, _), (1, _), (2, _)]) C dX3_isIn_1 rfl (by decide) rfl ?_
  refine g_iconst (v := nI 0) C dX3_isIn_2 (by decide) ?_
  refine g_istore_n (lv' := [(0, _), (1, _), (2, _), (3, _)]) C dX3_isIn_3 rfl (by decide) rfl ?_
  exact lp_X3_isIn C hQ hA a3 a4 hn hn3 hr n 0 (by omega)
