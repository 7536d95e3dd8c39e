set_option maxRecDepth 100000
/-! ===== the reference: its cells ===== -/
def mdL (z : JZ) : Prop := ∀ t, 40 ≤ t ∧ t ≤ 63 → zL z (t, 0) = true
def mTb (z : JZ) (T : JT) (t : Nat) : Prop := zM z (41, 0) t = nI (tc T t) ∧ zM z (42, 0) t = nI (tm T t) ∧ ∀ r c, r < tm T t → c < tc T t → zM z (43, 0) (120 * t + 3 * r + c) = tv T t r c
def mPt (z : JZ) (Q : JQ) (p : Nat) : Prop := zM z (44, 0) p = nI (qk Q p) ∧ (qk Q p ≤ 1 → zM z (45, 0) p = nI (qt Q p)) ∧ zM z (46, 0) p = nI (ql Q p) ∧ ∀ i, i < ql Q p → zM z (47, 0) (3 * p + i) = qm Q p i ∧ (qm Q p i = -1 → zM z (48, 0) (3 * p + i) = qv Q p i)
theorem anyF_no {P : Nat → Bool} {n : Nat} (h : ∀ i, i < n → P i = false) : anyF P n = false := by
  cases e : anyF P n with
  | false => rfl
  | true =>
    obtain ⟨c, hc, h2⟩ := anyF_iff.mp e
    rw [h c hc] at h2
    cases h2
theorem anyF_yes {P : Nat → Bool} {n i : Nat} (hi : i < n) (h : P i = true) : anyF P n = true := anyF_iff.mpr ⟨i, hi, h⟩
theorem no_s {P : Nat → Bool} {k : Nat} (h : ∀ i, i < k → P i = false) (hk : P k = false) : ∀ i, i < k + 1 → P i = false := fun i hi => by
  rcases Nat.lt_or_ge i k with h1 | h1
  · exact h i h1
  · have : i = k := by omega
    rw [this]; exact hk
theorem m_X4_lies (l : Launch) (z : JZ) (v a b : Int32) : jCt l yX4_lies cX4_lies 3 (some FieldType.boolean) 1 0 0 [.int v, .int a, .int b] z (jRi (jb (decide (a ≤ v ∧ v ≤ b))) z) := by
  refine (jCt.of "JoinLoomModel" "lies" [(0, _), (1, _), (2, _)] rfl rfl (by decide) (Nat.le_of_ble_eq_true rfl) rfl (fun Γ C hQ => ?_))
  refine g_iload_n C dX4_lies_0 rfl rfl ?_
  refine g_iload_n C dX4_lies_1 rfl rfl ?_
  refine g_icmp_lt (tgt := 14) C dX4_lies_2 (by decide) (fun c2 => ?_) (fun c2 => ?_)
  · refine g_iconst (v := nI 0) C dX4_lies_14 (by decide) ?_
    exact g_ireturn C hQ rfl (by omega) (by omega) dX4_lies_15 (by first | exact ⟨by rw [decide_eq_true ⟨Int32.not_lt.mp c2, Int32.not_lt.mp c7⟩]; rfl, rfl⟩ | exact ⟨by rw [decide_eq_false (fun e => Int32.not_lt.mpr e.2 c7)]; rfl, rfl⟩ | exact ⟨by rw [decide_eq_false (fun e => Int32.not_lt.mpr e.1 c2)]; rfl, rfl⟩)
  · refine g_iload_n C dX4_lies_5 rfl rfl ?_
    refine g_iload_n C dX4_lies_6 rfl rfl ?_
    refine g_icmp_gt (tgt := 14) C dX4_lies_7 (by decide) (fun c7 => ?_) (fun c7 => ?_)
    · refine g_iconst (v := nI 0) C dX4_lies_14 (by decide) ?_
      exact g_ireturn C hQ rfl (by omega) (by omega) dX4_lies_15 (by first | exact ⟨by rw [decide_eq_true ⟨Int32.not_lt.mp c2, Int32.not_lt.mp c7⟩]; rfl, rfl⟩ | exact ⟨by rw [decide_eq_false (fun e => Int32.not_lt.mpr e.2 c7)]; rfl, rfl⟩ | exact ⟨by rw [decide_eq_false (fun e => Int32.not_lt.mpr e.1 c2)]; rfl, rfl⟩)
    · refine g_iconst (v := nI 1) C dX4_lies_10 (by decide) ?_
      refine g_goto (tgt := 15) C dX4_lies_11 (by decide) ?_
      exact g_ireturn C hQ rfl (by omega) (by omega) dX4_lies_15 (by first | exact ⟨by rw [decide_eq_true ⟨Int32.not_lt.mp c2, Int32.not_lt.mp c7⟩]; rfl, rfl⟩ | exact ⟨by rw [decide_eq_false (fun e => Int32.not_lt.mpr e.2 c7)]; rfl, rfl⟩ | exact ⟨by rw [decide_eq_false (fun e => Int32.not_lt.mpr e.1 c2)]; rfl, rfl⟩)
def rkC (a b : Int32) : Int32 := if a = b then 0 else if rk a < rk b then -1 else 1
theorem rk_no : rk (-2147483648) = 4294967296 := rfl
theorem rk_ne {a : Int32} (h : ¬ a = -2147483648) : rk a = a.toInt := if_neg h
theorem i32_top (a : Int32) : a.toInt < 4294967296 := by have := a.toInt_lt; omega
theorem m_X4_rank (l : Launch) (z : JZ) (a b : Int32) : jCt l yX4_rank cX4_rank 2 (some FieldType.int) 1 0 0 [.int a, .int b] z (jRi (rkC a b) z) := by
  have ha := i32_top a
  have hb := i32_top b
  refine (jCt.of "JoinLoomModel" "rank" [(0, _), (1, _)] rfl rfl (by decide) (Nat.le_of_ble_eq_true rfl) rfl (fun Γ C hQ => ?_))
  refine g_iload_n C dX4_rank_0 rfl rfl ?_
  refine g_iload_n C dX4_rank_1 rfl rfl ?_
  refine g_icmp_ne (tgt := 7) C dX4_rank_2 (by decide) (fun c2 => ?_) (fun c2 => ?_)
  · refine g_iload_n C dX4_rank_7 rfl rfl ?_
    refine g_ldc C dX4_rank_8 q890 ?_
    refine g_icmp_ne (tgt := 15) C dX4_rank_10 (by decide) (fun c10 => ?_) (fun c10 => ?_)
    · refine g_iload_n C dX4_rank_15 rfl rfl ?_
      refine g_ldc C dX4_rank_16 q890 ?_
      refine g_icmp_ne (tgt := 23) C dX4_rank_18 (by decide) (fun c18 => ?_) (fun c18 => ?_)
      · refine g_iload_n C dX4_rank_23 rfl rfl ?_
        refine g_iload_n C dX4_rank_24 rfl rfl ?_
        refine g_icmp_ge (tgt := 32) C dX4_rank_25 (by decide) (fun c25 => ?_) (fun c25 => ?_)
        · refine g_iconst (v := nI 1) C dX4_rank_32 (by decide) ?_
          exact g_ireturn C hQ rfl (by omega) (by omega) dX4_rank_33 (by first | exact ⟨by rw [rkC, if_neg c2, if_pos (by rw [rk_ne c10, rk_ne c18]; exact Int32.lt_iff_toInt_lt.mp (Int32.not_le.mp c25))], rfl⟩ | exact ⟨by rw [rkC, if_neg c2, if_neg (by rw [rk_ne c10, rk_ne c18]; exact Int.not_lt.mpr (Int32.le_iff_toInt_le.mp c25))]; rfl, rfl⟩)
        · refine g_iconst (v := (-1)) C dX4_rank_28 (by decide) ?_
          refine g_goto (tgt := 33) C dX4_rank_29 (by decide) ?_
          exact g_ireturn C hQ rfl (by omega) (by omega) dX4_rank_33 (by first | exact ⟨by rw [rkC, if_neg c2, if_pos (by rw [rk_ne c10, rk_ne c18]; exact Int32.lt_iff_toInt_lt.mp (Int32.not_le.mp c25))], rfl⟩ | exact ⟨by rw [rkC, if_neg c2, if_neg (by rw [rk_ne c10, rk_ne c18]; exact Int.not_lt.mpr (Int32.le_iff_toInt_le.mp c25))]; rfl, rfl⟩)
      · refine g_iconst (v := (-1)) C dX4_rank_21 (by decide) ?_
        exact g_ireturn C hQ rfl (by omega) (by omega) dX4_rank_22 (⟨by rw [rkC, if_neg c2, if_pos (by rw [c18, rk_no, rk_ne c10]; omega)], rfl⟩)
    · refine g_iconst (v := nI 1) C dX4_rank_13 (by decide) ?_
      exact g_ireturn C hQ rfl (by omega) (by omega) dX4_rank_14 (⟨by rw [rkC, if_neg c2, if_neg (by rw [c10, rk_no, rk_ne (fun e => c2 (c10.trans e.symm))]; omega)]; rfl, rfl⟩)
  · refine g_iconst (v := nI 0) C dX4_rank_5 (by decide) ?_
    exact g_ireturn C hQ rfl (by omega) (by omega) dX4_rank_6 (⟨by rw [rkC, if_pos c2]; rfl, rfl⟩)
theorem rkC_cmp (u v : Nat → Int32) (n k : Nat) : cmpF u v (n + 1) k = if rkC (u k) (v k) = 0 then cmpF u v n (k + 1) else rkC (u k) (v k) := by
  by_cases e : u k = v k
  · have h : rkC (u k) (v k) = 0 := if_pos e
    rw [h, if_pos rfl]
    simp only [cmpF]
    rw [if_pos e]
  · have h : rkC (u k) (v k) = if rk (u k) < rk (v k) then -1 else 1 := if_neg e
    have hne : ¬ rkC (u k) (v k) = 0 := by rw [h]; split <;> decide
    rw [if_neg hne, h]
    simp only [cmpF]
    rw [if_neg e]
theorem m_X4_cell (l : Launch) (z : JZ) (t i c : Nat) (hL : mdL z) (hb : 120 * t + 3 * i + c < 960) : jCt l yX4_cell cX4_cell 4 (some FieldType.int) 1 0 0 [.ref (zA z (40, 0)), .int (nI t), .int (nI i), .int (nI c)] z (jRi (zM z (43, 0) (120 * t + 3 * i + c)) z) := by
  refine (jCt.of "JoinLoomModel" "cell" [(0, _), (1, _), (2, _), (3, _)] rfl rfl (by decide) (Nat.le_of_ble_eq_true rfl) rfl (fun Γ C hQ => ?_))
  refine g_aload_n C dX4_cell_0 rfl rfl ?_
  refine f_X4_table C (hL _ (by decide)) (Or.inl q767) (Or.inl rfl) dX4_cell_1 ?_
  refine g_bipush (v := nI 120) C dX4_cell_4 (by decide) ?_
  refine g_iload_n C dX4_cell_6 rfl rfl ?_
  first | refine g_imul_n C dX4_cell_7 ?_ | refine g_imul C dX4_cell_7 ?_
  refine g_iconst (v := nI 3) C dX4_cell_8 (by decide) ?_
  refine g_iload_n C dX4_cell_9 rfl rfl ?_
  first | refine g_imul_n C dX4_cell_10 ?_ | refine g_imul C dX4_cell_10 ?_
  first | refine g_iadd_n C dX4_cell_11 ?_ | refine g_iadd C dX4_cell_11 ?_
  refine g_iload_n C dX4_cell_12 rfl rfl ?_
  first | refine g_iadd_n C dX4_cell_13 ?_ | refine g_iadd C dX4_cell_13 ?_
  refine g_iald (n := 960) C rfl (hL _ (by decide)) rfl (by omega) (by decide) dX4_cell_14 ?_
  exact g_ireturn C hQ rfl (by omega) (by omega) dX4_cell_15 (⟨rfl, rfl⟩)
theorem lp_X4_against {Γ : JC} {l : Launch} {z : JZ} {t i n : Nat} {a b c : Int32} (C : jOk Γ l (jrm 2 0 0) cX4_against "JoinLoomModel" (some FieldType.int) 8) (hQ : jRt Γ (jRi (cmpF (fun k => zM z (43, 0) (120 * t + 3 * i + k)) (sel3 a b c) n 0) z) 0 0 "against") (hL : mdL z) (ht : t < 8) (hi : i < 40) (hn : zM z (41, 0) t = nI n) (hn3 : n ≤ 3) :
    ∀ (m k : Nat), k + m = n → cmpF (fun k => zM z (43, 0) (120 * t + 3 * i + k)) (sel3 a b c) n 0 = cmpF (fun k => zM z (43, 0) (120 * t + 3 * i + k)) (sel3 a b c) m k → jG Γ 0 0 z 3 [(0, .ref (zA z (40, 0))), (1, .int (nI t)), (2, .int (nI i)), (3, .int a), (4, .int b), (5, .int c), (6, .int (nI k))] [] := by
  intro m
  induction m with
  | zero =>
    intro k hk he
    refine g_iload C dX4_against_3 rfl ?_
    refine g_aload_n C dX4_against_5 rfl rfl ?_
    refine f_X4_columns C (hL _ (by decide)) (Or.inl q765) (Or.inl rfl) dX4_against_6 ?_
    refine g_iload_n C dX4_against_9 rfl rfl ?_
    refine g_iald (n := 8) C rfl (hL _ (by decide)) rfl (by omega) (by decide) dX4_against_10 ?_
    refine g_top (hn) ?_
    first | refine g_icmp_ge_n (tgt := 63) C dX4_against_11 (by decide) (by omega) (by omega) (fun c11 => ?_) (fun c11 => ?_) | refine g_icmp_ge (tgt := 63) C dX4_against_11 (by decide) (fun c11 => ?_) (fun c11 => ?_)
    · refine g_iconst (v := nI 0) C dX4_against_63 (by decide) ?_
      exact g_ireturn C hQ rfl (by omega) (by omega) dX4_against_64 (⟨by rw [he]; rfl, rfl⟩)
    · omega
  | succ m ih =>
    intro k hk he
    rw [rkC_cmp] at he
    have J : jG Γ 0 0 z 44 [(0, .ref (zA z (40, 0))), (1, .int (nI t)), (2, .int (nI i)), (3, .int a), (4, .int b), (5, .int c), (6, .int (nI k))] [.int (sel3 a b c k), .int (zM z (43, 0) (120 * t + 3 * i + k))] := by
      refine g_cfi (g_runS C (m_X4_rank l z _ _) ciX4_rank q888 (Or.inl q887) rfl rfl (Nat.le_of_ble_eq_true rfl) dX4_against_44 (by decide)) ?_
      refine g_istore (lv' := [(0, _), (1, _), (2, _), (3, _), (4, _), (5, _), (6, _), (7, _)]) C dX4_against_47 (by decide) rfl ?_
      refine g_iload C dX4_against_49 rfl ?_
      refine g_if_eq (tgt := 57) C dX4_against_51 (by decide) (fun c51 => ?_) (fun c51 => ?_)
      · first | refine g_iinc1 (lv' := [(0, _), (1, _), (2, _), (3, _), (4, _), (5, _), (6, _), (7, _)]) C dX4_against_57 rfl (by decide) rfl ?_ | refine g_iinc (lv' := [(0, _), (1, _), (2, _), (3, _), (4, _), (5, _), (6, _), (7, _)]) C dX4_against_57 rfl rfl (by decide) rfl ?_
        refine g_goto (tgt := 3) C dX4_against_60 (by decide) ?_
        refine g_take 7 rfl ?_
        exact ih (k + 1) (by omega) (by rw [he, if_pos c51])
      · refine g_iload C dX4_against_54 rfl ?_
        exact g_ireturn C hQ rfl (by omega) (by omega) dX4_against_56 (⟨by rw [he, if_neg c51], rfl⟩)
    refine g_iload C dX4_against_3 rfl ?_
    refine g_aload_n C dX4_against_5 rfl rfl ?_
    refine f_X4_columns C (hL _ (by decide)) (Or.inl q765) (Or.inl rfl) dX4_against_6 ?_
    refine g_iload_n C dX4_against_9 rfl rfl ?_
    refine g_iald (n := 8) C rfl (hL _ (by decide)) rfl (by omega) (by decide) dX4_against_10 ?_
    refine g_top (hn) ?_
    first | refine g_icmp_ge_n (tgt := 63) C dX4_against_11 (by decide) (by omega) (by omega) (fun c11 => ?_) (fun c11 => ?_) | refine g_icmp_ge (tgt := 63) C dX4_against_11 (by decide) (fun c11 => ?_) (fun c11 => ?_)
    · omega
    · refine g_aload_n C dX4_against_14 rfl rfl ?_
      refine g_iload_n C dX4_against_15 rfl rfl ?_
      refine g_iload_n C dX4_against_16 rfl rfl ?_
      refine g_iload C dX4_against_17 rfl ?_
      refine g_cfi (g_runV C (m_X4_cell l z t i k hL (by omega)) ciX4_cell q885 (Or.inl qs28) (Or.inl q883) (hL _ (by decide)) rfl rfl rfl rfl (Nat.le_of_ble_eq_true rfl) dX4_against_19 (by decide)) ?_
      refine g_iload C dX4_against_22 rfl ?_
      refine g_if_ne_n (tgt := 31) C dX4_against_24 (by decide) (by omega) (fun c24 => ?_) (fun c24 => ?_)
      · refine g_iload C dX4_against_31 rfl ?_
        refine g_iconst (v := nI 1) C dX4_against_33 (by decide) ?_
        refine g_icmp_ne_n (tgt := 42) C dX4_against_34 (by decide) (by omega) (by omega) (fun c34 => ?_) (fun c34 => ?_)
        · refine g_iload C dX4_against_42 rfl ?_
          exact g_top (by simp [sel3, *]) J
        · refine g_iload C dX4_against_37 rfl ?_
          refine g_goto (tgt := 44) C dX4_against_39 (by decide) ?_
          exact g_top (by simp [sel3, *]) J
      · refine g_iload_n C dX4_against_27 rfl rfl ?_
        refine g_goto (tgt := 44) C dX4_against_28 (by decide) ?_
        exact g_top (by simp [sel3, *]) J
theorem m_X4_against (l : Launch) (z : JZ) (t i n : Nat) (a b c : Int32) (hL : mdL z) (ht : t < 8) (hi : i < 40) (hn : zM z (41, 0) t = nI n) (hn3 : n ≤ 3) : jCt l yX4_against cX4_against 8 (some FieldType.int) 2 0 0 [.ref (zA z (40, 0)), .int (nI t), .int (nI i), .int a, .int b, .int c] z (jRi (cmpF (fun k => zM z (43, 0) (120 * t + 3 * i + k)) (sel3 a b c) n 0) z) := by
  refine (jCt.of "JoinLoomModel" "against" [(0, _), (1, _), (2, _), (3, _), (4, _), (5, _)] rfl rfl (by decide) (Nat.le_of_ble_eq_true rfl) rfl (fun Γ C hQ => ?_))
  refine g_iconst (v := nI 0) C dX4_against_0 (by decide) ?_
  refine g_istore (lv' := [(0, _), (1, _), (2, _), (3, _), (4, _), (5, _), (6, _)]) C dX4_against_1 (by decide) rfl ?_
  exact lp_X4_against C hQ hL ht hi hn hn3 n 0 (by omega) rfl
theorem mTb_cmp {z : JZ} {T : JT} {t : Nat} (h : mTb z T t) {r : Nat} (hr : r < tm T t) (v : Nat → Int32) : cmpF (fun k => zM z (43, 0) (120 * t + 3 * r + k)) v (tc T t) 0 = cmpF (tv T t r) v (tc T t) 0 :=
  cmpF_congr (fun i _ hi => ⟨h.2.2 r i hr (by omega), rfl⟩)
theorem lp_X4_find {Γ : JC} {l : Launch} {z : JZ} {T : JT} {t : Nat} {a b c : Int32} (C : jOk Γ l (jrm 3 0 0) cX4_find "JoinLoomModel" (some FieldType.int) 6) (hQ : jRt Γ (jRi (oI (rowO T t (sel3 a b c))) z) 0 0 "find") (hL : mdL z) (ht : t < 8) (hT : wT T) (h : mTb z T t) :
    ∀ (m k : Nat), k + m = tm T t → rowO T t (sel3 a b c) = firstF (fun r => decide (cmpF (tv T t r) (sel3 a b c) (tc T t) 0 = 0)) m k → jG Γ 0 0 z 3 [(0, .ref (zA z (40, 0))), (1, .int (nI t)), (2, .int a), (3, .int b), (4, .int c), (5, .int (nI k))] [] := by
  obtain ⟨w1, w2, w3⟩ := hT t ht
  intro m
  induction m with
  | zero =>
    intro k hk he
    refine g_iload C dX4_find_3 rfl ?_
    refine g_aload_n C dX4_find_5 rfl rfl ?_
    refine f_X4_many C (hL _ (by decide)) (Or.inl q766) (Or.inl rfl) dX4_find_6 ?_
    refine g_iload_n C dX4_find_9 rfl rfl ?_
    refine g_iald (n := 8) C rfl (hL _ (by decide)) rfl (by omega) (by decide) dX4_find_10 ?_
    refine g_top (h.2.1) ?_
    first | refine g_icmp_ge_n (tgt := 37) C dX4_find_11 (by decide) (by omega) (by omega) (fun c11 => ?_) (fun c11 => ?_) | refine g_icmp_ge (tgt := 37) C dX4_find_11 (by decide) (fun c11 => ?_) (fun c11 => ?_)
    · refine g_iconst (v := (-1)) C dX4_find_37 (by decide) ?_
      exact g_ireturn C hQ rfl (by omega) (by omega) dX4_find_38 (⟨by rw [he]; rfl, rfl⟩)
    · omega
  | succ m ih =>
    intro k hk he
    rw [firstF] at he
    refine g_iload C dX4_find_3 rfl ?_
    refine g_aload_n C dX4_find_5 rfl rfl ?_
    refine f_X4_many C (hL _ (by decide)) (Or.inl q766) (Or.inl rfl) dX4_find_6 ?_
    refine g_iload_n C dX4_find_9 rfl rfl ?_
    refine g_iald (n := 8) C rfl (hL _ (by decide)) rfl (by omega) (by decide) dX4_find_10 ?_
    refine g_top (h.2.1) ?_
    first | refine g_icmp_ge_n (tgt := 37) C dX4_find_11 (by decide) (by omega) (by omega) (fun c11 => ?_) (fun c11 => ?_) | refine g_icmp_ge (tgt := 37) C dX4_find_11 (by decide) (fun c11 => ?_) (fun c11 => ?_)
    · omega
    · refine g_aload_n C dX4_find_14 rfl rfl ?_
      refine g_iload_n C dX4_find_15 rfl rfl ?_
      refine g_iload C dX4_find_16 rfl ?_
      refine g_iload_n C dX4_find_18 rfl rfl ?_
      refine g_iload_n C dX4_find_19 rfl rfl ?_
      refine g_iload C dX4_find_20 rfl ?_
      refine g_cfi (g_runV C (m_X4_against l z t k (tc T t) a b c hL ht (by omega) h.1 w1) ciX4_against q881 (Or.inl qs27) (Or.inl q879) (hL _ (by decide)) rfl rfl rfl rfl (Nat.le_of_ble_eq_true rfl) dX4_find_22 (by decide)) ?_
      refine g_top (mTb_cmp h (by omega) _) ?_
      refine g_if_ne (tgt := 31) C dX4_find_25 (by decide) (fun c25 => ?_) (fun c25 => ?_)
      · first | refine g_iinc1 (lv' := [(0, _), (1, _), (2, _), (3, _), (4, _), (5, _)]) C dX4_find_31 rfl (by decide) rfl ?_ | refine g_iinc (lv' := [(0, _), (1, _), (2, _), (3, _), (4, _), (5, _)]) C dX4_find_31 rfl rfl (by decide) rfl ?_
        refine g_goto (tgt := 3) C dX4_find_34 (by decide) ?_
        exact ih (k + 1) (by omega) (by rw [he, if_neg (fun e => c25 (of_decide_eq_true e))])
      · refine g_iload C dX4_find_28 rfl ?_
        exact g_ireturn C hQ rfl (by omega) (by omega) dX4_find_30 (⟨by rw [he, if_pos (decide_eq_true c25)]; rfl, rfl⟩)
theorem m_X4_find (l : Launch) (z : JZ) (T : JT) (t : Nat) (a b c : Int32) (hL : mdL z) (ht : t < 8) (hT : wT T) (h : mTb z T t) : jCt l yX4_find cX4_find 6 (some FieldType.int) 3 0 0 [.ref (zA z (40, 0)), .int (nI t), .int a, .int b, .int c] z (jRi (oI (rowO T t (sel3 a b c))) z) := by
  refine (jCt.of "JoinLoomModel" "find" [(0, _), (1, _), (2, _), (3, _), (4, _)] rfl rfl (by decide) (Nat.le_of_ble_eq_true rfl) rfl (fun Γ C hQ => ?_))
  refine g_iconst (v := nI 0) C dX4_find_0 (by decide) ?_
  refine g_istore (lv' := [(0, _), (1, _), (2, _), (3, _), (4, _), (5, _)]) C dX4_find_1 (by decide) rfl ?_
  exact lp_X4_find C hQ hL ht hT h (tm T t) 0 (by omega) rfl
theorem lp_X4_hasName {Γ : JC} {l : Launch} {z : JZ} {Q : JQ} {p : Nat} {o : Int32} (C : jOk Γ l (jrm 1 0 0) cX4_hasName "JoinLoomModel" (some FieldType.boolean) 4) (hQ : jRt Γ (jRi (jb (hasO (qm Q p) (ql Q p) o)) z) 0 0 "hasName") (hL : mdL z) (hp : p < 10) (h : mPt z Q p) (hl : ql Q p ≤ 3) :
    ∀ (m k : Nat), k + m = ql Q p → (∀ i, i < k → decide (qm Q p i = o) = false) → jG Γ 0 0 z 2 [(0, .ref (zA z (40, 0))), (1, .int (nI p)), (2, .int o), (3, .int (nI k))] [] := by
  intro m
  induction m with
  | zero =>
    intro k hk he
    have e : k = ql Q p := by omega
    refine g_iload_n C dX4_hasName_2 rfl rfl ?_
    refine g_aload_n C dX4_hasName_3 rfl rfl ?_
    refine f_X4_places C (hL _ (by decide)) (Or.inl q772) (Or.inl rfl) dX4_hasName_4 ?_
    refine g_iload_n C dX4_hasName_7 rfl rfl ?_
    refine g_iald (n := 10) C rfl (hL _ (by decide)) rfl (by omega) (by decide) dX4_hasName_8 ?_
    refine g_top (h.2.2.1) ?_
    first | refine g_icmp_ge_n (tgt := 34) C dX4_hasName_9 (by decide) (by omega) (by omega) (fun c9 => ?_) (fun c9 => ?_) | refine g_icmp_ge (tgt := 34) C dX4_hasName_9 (by decide) (fun c9 => ?_) (fun c9 => ?_)
    · refine g_iconst (v := nI 0) C dX4_hasName_34 (by decide) ?_
      exact g_ireturn C hQ rfl (by omega) (by omega) dX4_hasName_35 (⟨by rw [hasO, anyF_no (by rw [← e]; exact he)]; rfl, rfl⟩)
    · omega
  | succ m ih =>
    intro k hk he
    refine g_iload_n C dX4_hasName_2 rfl rfl ?_
    refine g_aload_n C dX4_hasName_3 rfl rfl ?_
    refine f_X4_places C (hL _ (by decide)) (Or.inl q772) (Or.inl rfl) dX4_hasName_4 ?_
    refine g_iload_n C dX4_hasName_7 rfl rfl ?_
    refine g_iald (n := 10) C rfl (hL _ (by decide)) rfl (by omega) (by decide) dX4_hasName_8 ?_
    refine g_top (h.2.2.1) ?_
    first | refine g_icmp_ge_n (tgt := 34) C dX4_hasName_9 (by decide) (by omega) (by omega) (fun c9 => ?_) (fun c9 => ?_) | refine g_icmp_ge (tgt := 34) C dX4_hasName_9 (by decide) (fun c9 => ?_) (fun c9 => ?_)
    · omega
    · refine g_aload_n C dX4_hasName_12 rfl rfl ?_
      refine f_X4_placeName C (hL _ (by decide)) (Or.inl q773) (Or.inl rfl) dX4_hasName_13 ?_
      refine g_iconst (v := nI 3) C dX4_hasName_16 (by decide) ?_
      refine g_iload_n C dX4_hasName_17 rfl rfl ?_
      first | refine g_imul_n C dX4_hasName_18 ?_ | refine g_imul C dX4_hasName_18 ?_
      refine g_iload_n C dX4_hasName_19 rfl rfl ?_
      first | refine g_iadd_n C dX4_hasName_20 ?_ | refine g_iadd C dX4_hasName_20 ?_
      refine g_iald (n := 30) C rfl (hL _ (by decide)) rfl (by omega) (by decide) dX4_hasName_21 ?_
      refine g_top ((h.2.2.2 k (by omega)).1) ?_
      refine g_iload_n C dX4_hasName_22 rfl rfl ?_
      refine g_icmp_ne (tgt := 28) C dX4_hasName_23 (by decide) (fun c23 => ?_) (fun c23 => ?_)
      · first | refine g_iinc1 (lv' := [(0, _), (1, _), (2, _), (3, _)]) C dX4_hasName_28 rfl (by decide) rfl ?_ | refine g_iinc (lv' := [(0, _), (1, _), (2, _), (3, _)]) C dX4_hasName_28 rfl rfl (by decide) rfl ?_
        refine g_goto (tgt := 2) C dX4_hasName_31 (by decide) ?_
        exact ih (k + 1) (by omega) (no_s (P := fun i => decide (qm Q p i = o)) he (decide_eq_false c23))
      · refine g_iconst (v := nI 1) C dX4_hasName_26 (by decide) ?_
        exact g_ireturn C hQ rfl (by omega) (by omega) dX4_hasName_27 (⟨by rw [hasO, anyF_yes (i := k) (by omega) (decide_eq_true c23)]; rfl, rfl⟩)
theorem m_X4_hasName (l : Launch) (z : JZ) (Q : JQ) (p : Nat) (o : Int32) (hL : mdL z) (hp : p < 10) (h : mPt z Q p) (hl : ql Q p ≤ 3) : jCt l yX4_hasName cX4_hasName 4 (some FieldType.boolean) 1 0 0 [.ref (zA z (40, 0)), .int (nI p), .int o] z (jRi (jb (hasO (qm Q p) (ql Q p) o)) z) := by
  refine (jCt.of "JoinLoomModel" "hasName" [(0, _), (1, _), (2, _)] rfl rfl (by decide) (Nat.le_of_ble_eq_true rfl) rfl (fun Γ C hQ => ?_))
  refine g_iconst (v := nI 0) C dX4_hasName_0 (by decide) ?_
  refine g_istore_n (lv' := [(0, _), (1, _), (2, _), (3, _)]) C dX4_hasName_1 rfl (by decide) rfl ?_
  exact lp_X4_hasName C hQ hL hp h hl (ql Q p) 0 (by omega) (fun i hi => absurd hi (Nat.not_lt_zero _))
def nmdB (Q : JQ) (p : Nat) : Bool := anyF (fun i => !decide (qm Q p i = -1)) (ql Q p)
theorem lp_X4_isNamed {Γ : JC} {l : Launch} {z : JZ} {Q : JQ} {p : Nat} (C : jOk Γ l (jrm 1 0 0) cX4_isNamed "JoinLoomModel" (some FieldType.boolean) 3) (hQ : jRt Γ (jRi (jb (nmdB Q p)) z) 0 0 "isNamed") (hL : mdL z) (hp : p < 10) (h : mPt z Q p) (hl : ql Q p ≤ 3) :
    ∀ (m k : Nat), k + m = ql Q p → (∀ i, i < k → (!decide (qm Q p i = -1)) = false) → jG Γ 0 0 z 2 [(0, .ref (zA z (40, 0))), (1, .int (nI p)), (2, .int (nI k))] [] := by
  intro m
  induction m with
  | zero =>
    intro k hk he
    have e : k = ql Q p := by omega
    refine g_iload_n C dX4_isNamed_2 rfl rfl ?_
    refine g_aload_n C dX4_isNamed_3 rfl rfl ?_
    refine f_X4_places C (hL _ (by decide)) (Or.inl q772) (Or.inl rfl) dX4_isNamed_4 ?_
    refine g_iload_n C dX4_isNamed_7 rfl rfl ?_
    refine g_iald (n := 10) C rfl (hL _ (by decide)) rfl (by omega) (by decide) dX4_isNamed_8 ?_
    refine g_top (h.2.2.1) ?_
    first | refine g_icmp_ge_n (tgt := 34) C dX4_isNamed_9 (by decide) (by omega) (by omega) (fun c9 => ?_) (fun c9 => ?_) | refine g_icmp_ge (tgt := 34) C dX4_isNamed_9 (by decide) (fun c9 => ?_) (fun c9 => ?_)
    · refine g_iconst (v := nI 0) C dX4_isNamed_34 (by decide) ?_
      exact g_ireturn C hQ rfl (by omega) (by omega) dX4_isNamed_35 (⟨by rw [nmdB, anyF_no (by rw [← e]; exact he)]; rfl, rfl⟩)
    · omega
  | succ m ih =>
    intro k hk he
    refine g_iload_n C dX4_isNamed_2 rfl rfl ?_
    refine g_aload_n C dX4_isNamed_3 rfl rfl ?_
    refine f_X4_places C (hL _ (by decide)) (Or.inl q772) (Or.inl rfl) dX4_isNamed_4 ?_
    refine g_iload_n C dX4_isNamed_7 rfl rfl ?_
    refine g_iald (n := 10) C rfl (hL _ (by decide)) rfl (by omega) (by decide) dX4_isNamed_8 ?_
    refine g_top (h.2.2.1) ?_
    first | refine g_icmp_ge_n (tgt := 34) C dX4_isNamed_9 (by decide) (by omega) (by omega) (fun c9 => ?_) (fun c9 => ?_) | refine g_icmp_ge (tgt := 34) C dX4_isNamed_9 (by decide) (fun c9 => ?_) (fun c9 => ?_)
    · omega
    · refine g_aload_n C dX4_isNamed_12 rfl rfl ?_
      refine f_X4_placeName C (hL _ (by decide)) (Or.inl q773) (Or.inl rfl) dX4_isNamed_13 ?_
      refine g_iconst (v := nI 3) C dX4_isNamed_16 (by decide) ?_
      refine g_iload_n C dX4_isNamed_17 rfl rfl ?_
      first | refine g_imul_n C dX4_isNamed_18 ?_ | refine g_imul C dX4_isNamed_18 ?_
      refine g_iload_n C dX4_isNamed_19 rfl rfl ?_
      first | refine g_iadd_n C dX4_isNamed_20 ?_ | refine g_iadd C dX4_isNamed_20 ?_
      refine g_iald (n := 30) C rfl (hL _ (by decide)) rfl (by omega) (by decide) dX4_isNamed_21 ?_
      refine g_top ((h.2.2.2 k (by omega)).1) ?_
      refine g_iconst (v := (-1)) C dX4_isNamed_22 (by decide) ?_
      refine g_icmp_eq (tgt := 28) C dX4_isNamed_23 (by decide) (fun c23 => ?_) (fun c23 => ?_)
      · first | refine g_iinc1 (lv' := [(0, _), (1, _), (2, _)]) C dX4_isNamed_28 rfl (by decide) rfl ?_ | refine g_iinc (lv' := [(0, _), (1, _), (2, _)]) C dX4_isNamed_28 rfl rfl (by decide) rfl ?_
        refine g_goto (tgt := 2) C dX4_isNamed_31 (by decide) ?_
        exact ih (k + 1) (by omega) (no_s (P := fun i => !decide (qm Q p i = -1)) he (by rw [decide_eq_true c23]; rfl))
      · refine g_iconst (v := nI 1) C dX4_isNamed_26 (by decide) ?_
        exact g_ireturn C hQ rfl (by omega) (by omega) dX4_isNamed_27 (⟨by rw [nmdB, anyF_yes (i := k) (by omega) (by rw [decide_eq_false c23]; rfl)]; rfl, rfl⟩)
theorem m_X4_isNamed (l : Launch) (z : JZ) (Q : JQ) (p : Nat) (hL : mdL z) (hp : p < 10) (h : mPt z Q p) (hl : ql Q p ≤ 3) : jCt l yX4_isNamed cX4_isNamed 3 (some FieldType.boolean) 1 0 0 [.ref (zA z (40, 0)), .int (nI p)] z (jRi (jb (nmdB Q p)) z) := by
  refine (jCt.of "JoinLoomModel" "isNamed" [(0, _), (1, _)] rfl rfl (by decide) (Nat.le_of_ble_eq_true rfl) rfl (fun Γ C hQ => ?_))
  refine g_iconst (v := nI 0) C dX4_isNamed_0 (by decide) ?_
  refine g_istore_n (lv' := [(0, _), (1, _), (2, _)]) C dX4_isNamed_1 rfl (by decide) rfl ?_
  exact lp_X4_isNamed C hQ hL hp h hl (ql Q p) 0 (by omega) (fun i hi => absurd hi (Nat.not_lt_zero _))
theorem m_X4_isSet (l : Launch) (z : JZ) (s k : Nat) (a : Nat) (hs : s < 64) (hk : k < 6) : jCt l yX4_isSet cX4_isSet 3 (some FieldType.boolean) 1 0 0 [.ref a, .int (nI s), .int (nI k)] z (jRi (jb (s.testBit k)) z) := by
  have hb := bit_shr s hs k hk
  refine (jCt.of "JoinLoomModel" "isSet" [(0, _), (1, _), (2, _)] rfl rfl (by decide) (Nat.le_of_ble_eq_true rfl) rfl (fun Γ C hQ => ?_))
  refine g_iload_n C dX4_isSet_0 rfl rfl ?_
  refine g_iload_n C dX4_isSet_1 rfl rfl ?_
  refine g_ishr C dX4_isSet_2 ?_
  refine g_iconst (v := nI 1) C dX4_isSet_3 (by decide) ?_
  refine g_iand C dX4_isSet_4 ?_
  refine g_iconst (v := nI 1) C dX4_isSet_5 (by decide) ?_
  refine g_icmp_ne (tgt := 13) C dX4_isSet_6 (by decide) (fun c6 => ?_) (fun c6 => ?_)
  · refine g_iconst (v := nI 0) C dX4_isSet_13 (by decide) ?_
    exact g_ireturn C hQ rfl (by omega) (by omega) dX4_isSet_14 (by first | exact ⟨by rw [hb] at c6; rw [c6]; rfl, rfl⟩ | exact ⟨by rw [hb] at c6; rw [Bool.eq_false_iff.mpr c6]; rfl, rfl⟩)
  · refine g_iconst (v := nI 1) C dX4_isSet_9 (by decide) ?_
    refine g_goto (tgt := 14) C dX4_isSet_10 (by decide) ?_
    exact g_ireturn C hQ rfl (by omega) (by omega) dX4_isSet_14 (by first | exact ⟨by rw [hb] at c6; rw [c6]; rfl, rfl⟩ | exact ⟨by rw [hb] at c6; rw [Bool.eq_false_iff.mpr c6]; rfl, rfl⟩)
theorem m_X4_told (l : Launch) (z : JZ) (Q : JQ) (p i : Nat) (hL : mdL z) (hp : p < 10) (h : mPt z Q p) (hl : ql Q p ≤ 3) (hi : i < ql Q p) (hnm : qm Q p i = -1 ∨ ∃ j, j < 6 ∧ qm Q p i = nI j) : jCt l yX4_told cX4_told 3 (some FieldType.int) 1 0 0 [.ref (zA z (40, 0)), .int (nI p), .int (nI i)] z (jRi (plV Q p (zM z (58, 0)) i) z) := by
  refine (jCt.of "JoinLoomModel" "told" [(0, _), (1, _), (2, _)] rfl rfl (by decide) (Nat.le_of_ble_eq_true rfl) rfl (fun Γ C hQ => ?_))
  refine g_aload_n C dX4_told_0 rfl rfl ?_
  refine f_X4_placeName C (hL _ (by decide)) (Or.inl q773) (Or.inl rfl) dX4_told_1 ?_
  refine g_iconst (v := nI 3) C dX4_told_4 (by decide) ?_
  refine g_iload_n C dX4_told_5 rfl rfl ?_
  first | refine g_imul_n C dX4_told_6 ?_ | refine g_imul C dX4_told_6 ?_
  refine g_iload_n C dX4_told_7 rfl rfl ?_
  first | refine g_iadd_n C dX4_told_8 ?_ | refine g_iadd C dX4_told_8 ?_
  refine g_iald (n := 30) C rfl (hL _ (by decide)) rfl (by omega) (by decide) dX4_told_9 ?_
  refine g_top ((h.2.2.2 i hi).1) ?_
  refine g_iconst (v := (-1)) C dX4_told_10 (by decide) ?_
  refine g_icmp_ne (tgt := 27) C dX4_told_11 (by decide) (fun c11 => ?_) (fun c11 => ?_)
  · obtain ⟨j, hj6, hj⟩ := hnm.resolve_left c11
    refine g_aload_n C dX4_told_27 rfl rfl ?_
    refine f_X4_at C (hL _ (by decide)) (Or.inl q790) (Or.inl rfl) dX4_told_28 ?_
    refine g_aload_n C dX4_told_31 rfl rfl ?_
    refine f_X4_placeName C (hL _ (by decide)) (Or.inl q773) (Or.inl rfl) dX4_told_32 ?_
    refine g_iconst (v := nI 3) C dX4_told_35 (by decide) ?_
    refine g_iload_n C dX4_told_36 rfl rfl ?_
    first | refine g_imul_n C dX4_told_37 ?_ | refine g_imul C dX4_told_37 ?_
    refine g_iload_n C dX4_told_38 rfl rfl ?_
    first | refine g_iadd_n C dX4_told_39 ?_ | refine g_iadd C dX4_told_39 ?_
    refine g_iald (n := 30) C rfl (hL _ (by decide)) rfl (by omega) (by decide) dX4_told_40 ?_
    refine g_top ((h.2.2.2 i hi).1.trans hj) ?_
    refine g_iald (n := 6) C rfl (hL _ (by decide)) rfl (by omega) (by decide) dX4_told_41 ?_
    exact g_ireturn C hQ rfl (by omega) (by omega) dX4_told_42 (by first | exact ⟨by rw [plV, if_pos c11], rfl⟩ | exact ⟨by rw [plV, if_neg c11, hj, nI_clamp (by omega)], rfl⟩)
  · refine g_aload_n C dX4_told_14 rfl rfl ?_
    refine f_X4_placeValue C (hL _ (by decide)) (Or.inl q774) (Or.inl rfl) dX4_told_15 ?_
    refine g_iconst (v := nI 3) C dX4_told_18 (by decide) ?_
    refine g_iload_n C dX4_told_19 rfl rfl ?_
    first | refine g_imul_n C dX4_told_20 ?_ | refine g_imul C dX4_told_20 ?_
    refine g_iload_n C dX4_told_21 rfl rfl ?_
    first | refine g_iadd_n C dX4_told_22 ?_ | refine g_iadd C dX4_told_22 ?_
    refine g_iald (n := 30) C rfl (hL _ (by decide)) rfl (by omega) (by decide) dX4_told_23 ?_
    refine g_top ((h.2.2.2 i hi).2 c11) ?_
    refine g_goto (tgt := 42) C dX4_told_24 (by decide) ?_
    exact g_ireturn C hQ rfl (by omega) (by omega) dX4_told_42 (by first | exact ⟨by rw [plV, if_pos c11], rfl⟩ | exact ⟨by rw [plV, if_neg c11, hj, nI_clamp (by omega)], rfl⟩)
/-! what holds of some names: those that are set are bits of s, their values stand in va -/
def stT (s : Nat) (m : Int32) : Bool := s.testBit m.toNatClampNeg
def whM (Q : JQ) (p s : Nat) : Bool := !anyF (fun i => !decide (qm Q p i = -1) && !stT s (qm Q p i)) (ql Q p)
def toM (Q : JQ) (p s : Nat) : Bool := anyF (fun i => !decide (qm Q p i = -1) && stT s (qm Q p i)) (ql Q p)
def nmOk6 (Q : JQ) (p : Nat) : Prop := ∀ i, i < ql Q p → qm Q p i = -1 ∨ ∃ j, j < 6 ∧ qm Q p i = nI j
theorem lp_X4_isWhole {Γ : JC} {l : Launch} {z : JZ} {Q : JQ} {p s : Nat} (C : jOk Γ l (jrm 2 0 0) cX4_isWhole "JoinLoomModel" (some FieldType.boolean) 4) (hQ : jRt Γ (jRi (jb (whM Q p s)) z) 0 0 "isWhole") (hL : mdL z) (hp : p < 10) (h : mPt z Q p) (hl : ql Q p ≤ 3) (hs : s < 64) (hnm : nmOk6 Q p) :
    ∀ (m k : Nat), k + m = ql Q p → (∀ i, i < k → (!decide (qm Q p i = -1) && !stT s (qm Q p i)) = false) → jG Γ 0 0 z 2 [(0, .ref (zA z (40, 0))), (1, .int (nI p)), (2, .int (nI s)), (3, .int (nI k))] [] := by
  intro m
  induction m with
  | zero =>
    intro k hk he
    have e : k = ql Q p := by omega
    refine g_iload_n C dX4_isWhole_2 rfl rfl ?_
    refine g_aload_n C dX4_isWhole_3 rfl rfl ?_
    refine f_X4_places C (hL _ (by decide)) (Or.inl q772) (Or.inl rfl) dX4_isWhole_4 ?_
    refine g_iload_n C dX4_isWhole_7 rfl rfl ?_
    refine g_iald (n := 10) C rfl (hL _ (by decide)) rfl (by omega) (by decide) dX4_isWhole_8 ?_
    refine g_top (h.2.2.1) ?_
    first | refine g_icmp_ge_n (tgt := 52) C dX4_isWhole_9 (by decide) (by omega) (by omega) (fun c9 => ?_) (fun c9 => ?_) | refine g_icmp_ge (tgt := 52) C dX4_isWhole_9 (by decide) (fun c9 => ?_) (fun c9 => ?_)
    · refine g_iconst (v := nI 1) C dX4_isWhole_52 (by decide) ?_
      exact g_ireturn C hQ rfl (by omega) (by omega) dX4_isWhole_53 (⟨by rw [whM, anyF_no (by rw [← e]; exact he)]; rfl, rfl⟩)
    · omega
  | succ m ih =>
    intro k hk he
    refine g_iload_n C dX4_isWhole_2 rfl rfl ?_
    refine g_aload_n C dX4_isWhole_3 rfl rfl ?_
    refine f_X4_places C (hL _ (by decide)) (Or.inl q772) (Or.inl rfl) dX4_isWhole_4 ?_
    refine g_iload_n C dX4_isWhole_7 rfl rfl ?_
    refine g_iald (n := 10) C rfl (hL _ (by decide)) rfl (by omega) (by decide) dX4_isWhole_8 ?_
    refine g_top (h.2.2.1) ?_
    first | refine g_icmp_ge_n (tgt := 52) C dX4_isWhole_9 (by decide) (by omega) (by omega) (fun c9 => ?_) (fun c9 => ?_) | refine g_icmp_ge (tgt := 52) C dX4_isWhole_9 (by decide) (fun c9 => ?_) (fun c9 => ?_)
    · omega
    · refine g_aload_n C dX4_isWhole_12 rfl rfl ?_
      refine f_X4_placeName C (hL _ (by decide)) (Or.inl q773) (Or.inl rfl) dX4_isWhole_13 ?_
      refine g_iconst (v := nI 3) C dX4_isWhole_16 (by decide) ?_
      refine g_iload_n C dX4_isWhole_17 rfl rfl ?_
      first | refine g_imul_n C dX4_isWhole_18 ?_ | refine g_imul C dX4_isWhole_18 ?_
      refine g_iload_n C dX4_isWhole_19 rfl rfl ?_
      first | refine g_iadd_n C dX4_isWhole_20 ?_ | refine g_iadd C dX4_isWhole_20 ?_
      refine g_iald (n := 30) C rfl (hL _ (by decide)) rfl (by omega) (by decide) dX4_isWhole_21 ?_
      refine g_top ((h.2.2.2 k (by omega)).1) ?_
      refine g_iconst (v := (-1)) C dX4_isWhole_22 (by decide) ?_
      refine g_icmp_eq (tgt := 46) C dX4_isWhole_23 (by decide) (fun c23 => ?_) (fun c23 => ?_)
      · first | refine g_iinc1 (lv' := [(0, _), (1, _), (2, _), (3, _)]) C dX4_isWhole_46 rfl (by decide) rfl ?_ | refine g_iinc (lv' := [(0, _), (1, _), (2, _), (3, _)]) C dX4_isWhole_46 rfl rfl (by decide) rfl ?_
        refine g_goto (tgt := 2) C dX4_isWhole_49 (by decide) ?_
        first | exact ih (k + 1) (by omega) (no_s (P := fun i => !decide (qm Q p i = -1) && !stT s (qm Q p i)) he (by rw [decide_eq_true c23]; rfl)) | exact ih (k + 1) (by omega) (no_s (P := fun i => !decide (qm Q p i = -1) && !stT s (qm Q p i)) he (by rw [hst, c41, Bool.not_true, Bool.and_false]))
      · obtain ⟨j, hj6, hj⟩ := (hnm k (by omega)).resolve_left c23
        have hst : stT s (qm Q p k) = s.testBit j := by rw [stT, hj, nI_clamp (by omega)]
        refine g_aload_n C dX4_isWhole_26 rfl rfl ?_
        refine g_iload_n C dX4_isWhole_27 rfl rfl ?_
        refine g_aload_n C dX4_isWhole_28 rfl rfl ?_
        refine f_X4_placeName C (hL _ (by decide)) (Or.inl q773) (Or.inl rfl) dX4_isWhole_29 ?_
        refine g_iconst (v := nI 3) C dX4_isWhole_32 (by decide) ?_
        refine g_iload_n C dX4_isWhole_33 rfl rfl ?_
        first | refine g_imul_n C dX4_isWhole_34 ?_ | refine g_imul C dX4_isWhole_34 ?_
        refine g_iload_n C dX4_isWhole_35 rfl rfl ?_
        first | refine g_iadd_n C dX4_isWhole_36 ?_ | refine g_iadd C dX4_isWhole_36 ?_
        refine g_iald (n := 30) C rfl (hL _ (by decide)) rfl (by omega) (by decide) dX4_isWhole_37 ?_
        refine g_top ((h.2.2.2 k (by omega)).1.trans hj) ?_
        refine g_cfi (g_runV C (m_X4_isSet l z s j _ hs hj6) ciX4_isSet q973 (Or.inl qs40) (Or.inl q971) (hL _ (by decide)) rfl rfl rfl rfl (Nat.le_of_ble_eq_true rfl) dX4_isWhole_38 (by decide)) ?_
        refine g_if_ne_b (tgt := 46) C dX4_isWhole_41 (by decide) (fun c41 => ?_) (fun c41 => ?_)
        · first | refine g_iinc1 (lv' := [(0, _), (1, _), (2, _), (3, _)]) C dX4_isWhole_46 rfl (by decide) rfl ?_ | refine g_iinc (lv' := [(0, _), (1, _), (2, _), (3, _)]) C dX4_isWhole_46 rfl rfl (by decide) rfl ?_
          refine g_goto (tgt := 2) C dX4_isWhole_49 (by decide) ?_
          first | exact ih (k + 1) (by omega) (no_s (P := fun i => !decide (qm Q p i = -1) && !stT s (qm Q p i)) he (by rw [decide_eq_true c23]; rfl)) | exact ih (k + 1) (by omega) (no_s (P := fun i => !decide (qm Q p i = -1) && !stT s (qm Q p i)) he (by rw [hst, c41, Bool.not_true, Bool.and_false]))
        · refine g_iconst (v := nI 0) C dX4_isWhole_44 (by decide) ?_
          exact g_ireturn C hQ rfl (by omega) (by omega) dX4_isWhole_45 (⟨by rw [whM, anyF_yes (i := k) (by omega) (by rw [decide_eq_false c23, hst, c41]; rfl)]; rfl, rfl⟩)
theorem m_X4_isWhole (l : Launch) (z : JZ) (Q : JQ) (p s : Nat) (hL : mdL z) (hp : p < 10) (h : mPt z Q p) (hl : ql Q p ≤ 3) (hs : s < 64) (hnm : nmOk6 Q p) : jCt l yX4_isWhole cX4_isWhole 4 (some FieldType.boolean) 2 0 0 [.ref (zA z (40, 0)), .int (nI p), .int (nI s)] z (jRi (jb (whM Q p s)) z) := by
  refine (jCt.of "JoinLoomModel" "isWhole" [(0, _), (1, _), (2, _)] rfl rfl (by decide) (Nat.le_of_ble_eq_true rfl) rfl (fun Γ C hQ => ?_))
  refine g_iconst (v := nI 0) C dX4_isWhole_0 (by decide) ?_
  refine g_istore_n (lv' := [(0, _), (1, _), (2, _), (3, _)]) C dX4_isWhole_1 rfl (by decide) rfl ?_
  exact lp_X4_isWhole C hQ hL hp h hl hs hnm (ql Q p) 0 (by omega) (fun i hi => absurd hi (Nat.not_lt_zero _))
theorem lp_X4_touches {Γ : JC} {l : Launch} {z : JZ} {Q : JQ} {p s : Nat} (C : jOk Γ l (jrm 2 0 0) cX4_touches "JoinLoomModel" (some FieldType.boolean) 4) (hQ : jRt Γ (jRi (jb (toM Q p s)) z) 0 0 "touches") (hL : mdL z) (hp : p < 10) (h : mPt z Q p) (hl : ql Q p ≤ 3) (hs : s < 64) (hnm : nmOk6 Q p) :
    ∀ (m k : Nat), k + m = ql Q p → (∀ i, i < k → (!decide (qm Q p i = -1) && stT s (qm Q p i)) = false) → jG Γ 0 0 z 2 [(0, .ref (zA z (40, 0))), (1, .int (nI p)), (2, .int (nI s)), (3, .int (nI k))] [] := by
  intro m
  induction m with
  | zero =>
    intro k hk he
    have e : k = ql Q p := by omega
    refine g_iload_n C dX4_touches_2 rfl rfl ?_
    refine g_aload_n C dX4_touches_3 rfl rfl ?_
    refine f_X4_places C (hL _ (by decide)) (Or.inl q772) (Or.inl rfl) dX4_touches_4 ?_
    refine g_iload_n C dX4_touches_7 rfl rfl ?_
    refine g_iald (n := 10) C rfl (hL _ (by decide)) rfl (by omega) (by decide) dX4_touches_8 ?_
    refine g_top (h.2.2.1) ?_
    first | refine g_icmp_ge_n (tgt := 52) C dX4_touches_9 (by decide) (by omega) (by omega) (fun c9 => ?_) (fun c9 => ?_) | refine g_icmp_ge (tgt := 52) C dX4_touches_9 (by decide) (fun c9 => ?_) (fun c9 => ?_)
    · refine g_iconst (v := nI 0) C dX4_touches_52 (by decide) ?_
      exact g_ireturn C hQ rfl (by omega) (by omega) dX4_touches_53 (⟨by rw [toM, anyF_no (by rw [← e]; exact he)]; rfl, rfl⟩)
    · omega
  | succ m ih =>
    intro k hk he
    refine g_iload_n C dX4_touches_2 rfl rfl ?_
    refine g_aload_n C dX4_touches_3 rfl rfl ?_
    refine f_X4_places C (hL _ (by decide)) (Or.inl q772) (Or.inl rfl) dX4_touches_4 ?_
    refine g_iload_n C dX4_touches_7 rfl rfl ?_
    refine g_iald (n := 10) C rfl (hL _ (by decide)) rfl (by omega) (by decide) dX4_touches_8 ?_
    refine g_top (h.2.2.1) ?_
    first | refine g_icmp_ge_n (tgt := 52) C dX4_touches_9 (by decide) (by omega) (by omega) (fun c9 => ?_) (fun c9 => ?_) | refine g_icmp_ge (tgt := 52) C dX4_touches_9 (by decide) (fun c9 => ?_) (fun c9 => ?_)
    · omega
    · refine g_aload_n C dX4_touches_12 rfl rfl ?_
      refine f_X4_placeName C (hL _ (by decide)) (Or.inl q773) (Or.inl rfl) dX4_touches_13 ?_
      refine g_iconst (v := nI 3) C dX4_touches_16 (by decide) ?_
      refine g_iload_n C dX4_touches_17 rfl rfl ?_
      first | refine g_imul_n C dX4_touches_18 ?_ | refine g_imul C dX4_touches_18 ?_
      refine g_iload_n C dX4_touches_19 rfl rfl ?_
      first | refine g_iadd_n C dX4_touches_20 ?_ | refine g_iadd C dX4_touches_20 ?_
      refine g_iald (n := 30) C rfl (hL _ (by decide)) rfl (by omega) (by decide) dX4_touches_21 ?_
      refine g_top ((h.2.2.2 k (by omega)).1) ?_
      refine g_iconst (v := (-1)) C dX4_touches_22 (by decide) ?_
      refine g_icmp_eq (tgt := 46) C dX4_touches_23 (by decide) (fun c23 => ?_) (fun c23 => ?_)
      · first | refine g_iinc1 (lv' := [(0, _), (1, _), (2, _), (3, _)]) C dX4_touches_46 rfl (by decide) rfl ?_ | refine g_iinc (lv' := [(0, _), (1, _), (2, _), (3, _)]) C dX4_touches_46 rfl rfl (by decide) rfl ?_
        refine g_goto (tgt := 2) C dX4_touches_49 (by decide) ?_
        first | exact ih (k + 1) (by omega) (no_s (P := fun i => !decide (qm Q p i = -1) && stT s (qm Q p i)) he (by rw [decide_eq_true c23]; rfl)) | exact ih (k + 1) (by omega) (no_s (P := fun i => !decide (qm Q p i = -1) && stT s (qm Q p i)) he (by rw [hst, c41, Bool.and_false]))
      · obtain ⟨j, hj6, hj⟩ := (hnm k (by omega)).resolve_left c23
        have hst : stT s (qm Q p k) = s.testBit j := by rw [stT, hj, nI_clamp (by omega)]
        refine g_aload_n C dX4_touches_26 rfl rfl ?_
        refine g_iload_n C dX4_touches_27 rfl rfl ?_
        refine g_aload_n C dX4_touches_28 rfl rfl ?_
        refine f_X4_placeName C (hL _ (by decide)) (Or.inl q773) (Or.inl rfl) dX4_touches_29 ?_
        refine g_iconst (v := nI 3) C dX4_touches_32 (by decide) ?_
        refine g_iload_n C dX4_touches_33 rfl rfl ?_
        first | refine g_imul_n C dX4_touches_34 ?_ | refine g_imul C dX4_touches_34 ?_
        refine g_iload_n C dX4_touches_35 rfl rfl ?_
        first | refine g_iadd_n C dX4_touches_36 ?_ | refine g_iadd C dX4_touches_36 ?_
        refine g_iald (n := 30) C rfl (hL _ (by decide)) rfl (by omega) (by decide) dX4_touches_37 ?_
        refine g_top ((h.2.2.2 k (by omega)).1.trans hj) ?_
        refine g_cfi (g_runV C (m_X4_isSet l z s j _ hs hj6) ciX4_isSet q973 (Or.inl qs40) (Or.inl q971) (hL _ (by decide)) rfl rfl rfl rfl (Nat.le_of_ble_eq_true rfl) dX4_touches_38 (by decide)) ?_
        refine g_if_eq_b (tgt := 46) C dX4_touches_41 (by decide) (fun c41 => ?_) (fun c41 => ?_)
        · first | refine g_iinc1 (lv' := [(0, _), (1, _), (2, _), (3, _)]) C dX4_touches_46 rfl (by decide) rfl ?_ | refine g_iinc (lv' := [(0, _), (1, _), (2, _), (3, _)]) C dX4_touches_46 rfl rfl (by decide) rfl ?_
          refine g_goto (tgt := 2) C dX4_touches_49 (by decide) ?_
          first | exact ih (k + 1) (by omega) (no_s (P := fun i => !decide (qm Q p i = -1) && stT s (qm Q p i)) he (by rw [decide_eq_true c23]; rfl)) | exact ih (k + 1) (by omega) (no_s (P := fun i => !decide (qm Q p i = -1) && stT s (qm Q p i)) he (by rw [hst, c41, Bool.and_false]))
        · refine g_iconst (v := nI 1) C dX4_touches_44 (by decide) ?_
          exact g_ireturn C hQ rfl (by omega) (by omega) dX4_touches_45 (⟨by rw [toM, anyF_yes (i := k) (by omega) (by rw [decide_eq_false c23, hst, c41]; rfl)]; rfl, rfl⟩)
theorem m_X4_touches (l : Launch) (z : JZ) (Q : JQ) (p s : Nat) (hL : mdL z) (hp : p < 10) (h : mPt z Q p) (hl : ql Q p ≤ 3) (hs : s < 64) (hnm : nmOk6 Q p) : jCt l yX4_touches cX4_touches 4 (some FieldType.boolean) 2 0 0 [.ref (zA z (40, 0)), .int (nI p), .int (nI s)] z (jRi (jb (toM Q p s)) z) := by
  refine (jCt.of "JoinLoomModel" "touches" [(0, _), (1, _), (2, _)] rfl rfl (by decide) (Nat.le_of_ble_eq_true rfl) rfl (fun Γ C hQ => ?_))
  refine g_iconst (v := nI 0) C dX4_touches_0 (by decide) ?_
  refine g_istore_n (lv' := [(0, _), (1, _), (2, _), (3, _)]) C dX4_touches_1 rfl (by decide) rfl ?_
  exact lp_X4_touches C hQ hL hp h hl hs hnm (ql Q p) 0 (by omega) (fun i hi => absurd hi (Nat.not_lt_zero _))
/-! rows that agree -/
def agK (T : JT) (Q : JQ) (p r i : Nat) (k : Nat) : Bool := !decide (qm Q p i = -1) && (decide (qm Q p k = qm Q p i) && !decide (tv T (qt Q p) r k = tv T (qt Q p) r i))
def agI (T : JT) (Q : JQ) (p r s : Nat) (va : Nat → Int32) (i : Nat) : Bool := ((decide (qm Q p i = -1) || stT s (qm Q p i)) && !decide (tv T (qt Q p) r i = plV Q p va i)) || anyF (agK T Q p r i) i
def agB (T : JT) (Q : JQ) (p r s : Nat) (va : Nat → Int32) : Bool := !anyF (agI T Q p r s va) (ql Q p)
def rowS (T : JT) (Q : JQ) (p s : Nat) (va : Nat → Int32) : Option Nat := firstF (fun r => agB T Q p r s va) (tm T (qt Q p)) 0
theorem mT_cell (l : Launch) (z : JZ) (T : JT) (t r c : Nat) (hL : mdL z) (ht : t < 8) (hT : wT T) (h : mTb z T t) (hr : r < tm T t) (hc : c < tc T t) : jCt l yX4_cell cX4_cell 4 (some FieldType.int) 1 0 0 [.ref (zA z (40, 0)), .int (nI t), .int (nI r), .int (nI c)] z (jRi (tv T t r c) z) := by
  obtain ⟨w1, w2, -⟩ := hT t ht
  rw [← h.2.2 r c hr hc]
  exact m_X4_cell l z t r c hL (by omega)
theorem l2_X4_agrees {Γ : JC} {l : Launch} {z : JZ} {T : JT} {Q : JQ} {p r s i : Nat} (C : jOk Γ l (jrm 2 0 0) cX4_agrees "JoinLoomModel" (some FieldType.boolean) 8) (hQ : jRt Γ (jRi (jb (agB T Q p r s (zM z (58, 0)))) z) 0 0 "agrees") (hL : mdL z) (hp : p < 10) (h : mPt z Q p) (hk1 : qk Q p ≤ 1) (hT : wT T) (hw : wPt T Q p) (hb : mTb z T (qt Q p)) (hr : r < tm T (qt Q p)) (hi : i < ql Q p) (h0 : ((decide (qm Q p i = -1) || stT s (qm Q p i)) && !decide (tv T (qt Q p) r i = plV Q p (zM z (58, 0)) i)) = false)
    (K : agI T Q p r s (zM z (58, 0)) i = false → ∀ a b c, jG Γ 0 0 z 130 [(0, .ref (zA z (40, 0))), (1, .int (nI p)), (2, .int (nI r)), (3, .int (nI s)), (4, .int (nI i)), (5, .int a), (6, .int b), (7, .int c)] []) :
    ∀ (m k : Nat), k + m = i → (∀ a, a < k → agK T Q p r i a = false) → jG Γ 0 0 z 75 [(0, .ref (zA z (40, 0))), (1, .int (nI p)), (2, .int (nI r)), (3, .int (nI s)), (4, .int (nI i)), (5, .int (qm Q p i)), (6, .int (tv T (qt Q p) r i)), (7, .int (nI k))] [] := by
  obtain ⟨ht8, htc, hlc⟩ := hw.2.1 hk1
  obtain ⟨w1, w2, -⟩ := hT _ ht8
  intro m
  induction m with
  | zero =>
    intro k hk he
    have e : k = i := by omega
    refine g_iload C dX4_agrees_75 rfl ?_
    refine g_iload C dX4_agrees_77 rfl ?_
    first | refine g_icmp_ge_n (tgt := 130) C dX4_agrees_79 (by decide) (by omega) (by omega) (fun c79 => ?_) (fun c79 => ?_) | refine g_icmp_ge (tgt := 130) C dX4_agrees_79 (by decide) (fun c79 => ?_) (fun c79 => ?_)
    · exact K (by rw [agI, h0, anyF_no (fun a ha => he a (by omega))]; rfl) _ _ _
    · omega
  | succ m ih =>
    intro k hk he
    refine g_iload C dX4_agrees_75 rfl ?_
    refine g_iload C dX4_agrees_77 rfl ?_
    first | refine g_icmp_ge_n (tgt := 130) C dX4_agrees_79 (by decide) (by omega) (by omega) (fun c79 => ?_) (fun c79 => ?_) | refine g_icmp_ge (tgt := 130) C dX4_agrees_79 (by decide) (fun c79 => ?_) (fun c79 => ?_)
    · omega
    · refine g_iload C dX4_agrees_82 rfl ?_
      refine g_iconst (v := (-1)) C dX4_agrees_84 (by decide) ?_
      refine g_icmp_eq (tgt := 124) C dX4_agrees_85 (by decide) (fun c85 => ?_) (fun c85 => ?_)
      · first | refine g_iinc1 (lv' := [(0, _), (1, _), (2, _), (3, _), (4, _), (5, _), (6, _), (7, _)]) C dX4_agrees_124 rfl (by decide) rfl ?_ | refine g_iinc (lv' := [(0, _), (1, _), (2, _), (3, _), (4, _), (5, _), (6, _), (7, _)]) C dX4_agrees_124 rfl rfl (by decide) rfl ?_
        refine g_goto (tgt := 75) C dX4_agrees_127 (by decide) ?_
        first | exact ih (k + 1) (by omega) (no_s he (by rw [agK, decide_eq_true c85]; rfl)) | exact ih (k + 1) (by omega) (no_s he (by rw [agK, decide_eq_false c101, Bool.false_and, Bool.and_false])) | exact ih (k + 1) (by omega) (no_s he (by rw [agK, decide_eq_true c119, Bool.not_true, Bool.and_false, Bool.and_false]))
      · refine g_aload_n C dX4_agrees_88 rfl rfl ?_
        refine f_X4_placeName C (hL _ (by decide)) (Or.inl q773) (Or.inl rfl) dX4_agrees_89 ?_
        refine g_iconst (v := nI 3) C dX4_agrees_92 (by decide) ?_
        refine g_iload_n C dX4_agrees_93 rfl rfl ?_
        first | refine g_imul_n C dX4_agrees_94 ?_ | refine g_imul C dX4_agrees_94 ?_
        refine g_iload C dX4_agrees_95 rfl ?_
        first | refine g_iadd_n C dX4_agrees_97 ?_ | refine g_iadd C dX4_agrees_97 ?_
        refine g_iald (n := 30) C rfl (hL _ (by decide)) rfl (by omega) (by decide) dX4_agrees_98 ?_
        refine g_top ((h.2.2.2 k (by omega)).1) ?_
        refine g_iload C dX4_agrees_99 rfl ?_
        refine g_icmp_ne (tgt := 124) C dX4_agrees_101 (by decide) (fun c101 => ?_) (fun c101 => ?_)
        · first | refine g_iinc1 (lv' := [(0, _), (1, _), (2, _), (3, _), (4, _), (5, _), (6, _), (7, _)]) C dX4_agrees_124 rfl (by decide) rfl ?_ | refine g_iinc (lv' := [(0, _), (1, _), (2, _), (3, _), (4, _), (5, _), (6, _), (7, _)]) C dX4_agrees_124 rfl rfl (by decide) rfl ?_
          refine g_goto (tgt := 75) C dX4_agrees_127 (by decide) ?_
          first | exact ih (k + 1) (by omega) (no_s he (by rw [agK, decide_eq_true c85]; rfl)) | exact ih (k + 1) (by omega) (no_s he (by rw [agK, decide_eq_false c101, Bool.false_and, Bool.and_false])) | exact ih (k + 1) (by omega) (no_s he (by rw [agK, decide_eq_true c119, Bool.not_true, Bool.and_false, Bool.and_false]))
        · refine g_aload_n C dX4_agrees_104 rfl rfl ?_
          refine g_aload_n C dX4_agrees_105 rfl rfl ?_
          refine f_X4_of C (hL _ (by decide)) (Or.inl q771) (Or.inl rfl) dX4_agrees_106 ?_
          refine g_iload_n C dX4_agrees_109 rfl rfl ?_
          refine g_iald (n := 10) C rfl (hL _ (by decide)) rfl (by omega) (by decide) dX4_agrees_110 ?_
          refine g_top (h.2.1 hk1) ?_
          refine g_iload_n C dX4_agrees_111 rfl rfl ?_
          refine g_iload C dX4_agrees_112 rfl ?_
          refine g_cfi (g_runV C (mT_cell l z T (qt Q p) r k hL ht8 hT hb hr (by omega)) ciX4_cell q885 (Or.inl qs28) (Or.inl q883) (hL _ (by decide)) rfl rfl rfl rfl (Nat.le_of_ble_eq_true rfl) dX4_agrees_114 (by decide)) ?_
          refine g_iload C dX4_agrees_117 rfl ?_
          refine g_icmp_eq (tgt := 124) C dX4_agrees_119 (by decide) (fun c119 => ?_) (fun c119 => ?_)
          · first | refine g_iinc1 (lv' := [(0, _), (1, _), (2, _), (3, _), (4, _), (5, _), (6, _), (7, _)]) C dX4_agrees_124 rfl (by decide) rfl ?_ | refine g_iinc (lv' := [(0, _), (1, _), (2, _), (3, _), (4, _), (5, _), (6, _), (7, _)]) C dX4_agrees_124 rfl rfl (by decide) rfl ?_
            refine g_goto (tgt := 75) C dX4_agrees_127 (by decide) ?_
            first | exact ih (k + 1) (by omega) (no_s he (by rw [agK, decide_eq_true c85]; rfl)) | exact ih (k + 1) (by omega) (no_s he (by rw [agK, decide_eq_false c101, Bool.false_and, Bool.and_false])) | exact ih (k + 1) (by omega) (no_s he (by rw [agK, decide_eq_true c119, Bool.not_true, Bool.and_false, Bool.and_false]))
          · refine g_iconst (v := nI 0) C dX4_agrees_122 (by decide) ?_
            exact g_ireturn C hQ rfl (by omega) (by omega) dX4_agrees_123 (⟨by rw [agB, anyF_yes (i := i) hi (by rw [agI, anyF_yes (i := k) (by omega) (by rw [agK, decide_eq_false c85, decide_eq_true c101, decide_eq_false c119]; rfl), Bool.or_true])]; rfl, rfl⟩)
theorem lp_X4_agrees {Γ : JC} {l : Launch} {z : JZ} {T : JT} {Q : JQ} {p r s : Nat} (C : jOk Γ l (jrm 2 0 0) cX4_agrees "JoinLoomModel" (some FieldType.boolean) 8) (hQ : jRt Γ (jRi (jb (agB T Q p r s (zM z (58, 0)))) z) 0 0 "agrees") (hL : mdL z) (hp : p < 10) (h : mPt z Q p) (hk1 : qk Q p ≤ 1) (hT : wT T) (hw : wPt T Q p) (hn6 : qn Q ≤ 6) (hb : mTb z T (qt Q p)) (hr : r < tm T (qt Q p)) (hs : s < 64) :
    ∀ (m i : Nat), i + m = ql Q p → (∀ a, a < i → agI T Q p r s (zM z (58, 0)) a = false) → jG Γ 0 0 z 3 [(0, .ref (zA z (40, 0))), (1, .int (nI p)), (2, .int (nI r)), (3, .int (nI s)), (4, .int (nI i))] [] := by
  obtain ⟨ht8, htc, hlc⟩ := hw.2.1 hk1
  obtain ⟨w1, w2, -⟩ := hT _ ht8
  have hnm : nmOk6 Q p := fun i hi => by
    rcases hw.2.2.2 i hi with e | ⟨j, hj, e⟩
    · exact Or.inl e
    · exact Or.inr ⟨j, by omega, e⟩
  intro m
  induction m with
  | zero =>
    intro i hi he
    have e : i = ql Q p := by omega
    refine g_iload C dX4_agrees_3 rfl ?_
    refine g_aload_n C dX4_agrees_5 rfl rfl ?_
    refine f_X4_places C (hL _ (by decide)) (Or.inl q772) (Or.inl rfl) dX4_agrees_6 ?_
    refine g_iload_n C dX4_agrees_9 rfl rfl ?_
    refine g_iald (n := 10) C rfl (hL _ (by decide)) rfl (by omega) (by decide) dX4_agrees_10 ?_
    refine g_top (h.2.2.1) ?_
    first | refine g_icmp_ge_n (tgt := 136) C dX4_agrees_11 (by decide) (by omega) (by omega) (fun c11 => ?_) (fun c11 => ?_) | refine g_icmp_ge (tgt := 136) C dX4_agrees_11 (by decide) (fun c11 => ?_) (fun c11 => ?_)
    · refine g_iconst (v := nI 1) C dX4_agrees_136 (by decide) ?_
      exact g_ireturn C hQ rfl (by omega) (by omega) dX4_agrees_137 (⟨by rw [agB, anyF_no (by rw [← e]; exact he)]; rfl, rfl⟩)
    · omega
  | succ m ih =>
    intro i hi he
    have K : agI T Q p r s (zM z (58, 0)) i = false → ∀ a b c, jG Γ 0 0 z 130 [(0, .ref (zA z (40, 0))), (1, .int (nI p)), (2, .int (nI r)), (3, .int (nI s)), (4, .int (nI i)), (5, .int a), (6, .int b), (7, .int c)] [] := by
      intro hI a b c
      first | refine g_iinc1 (lv' := [(0, _), (1, _), (2, _), (3, _), (4, _), (5, _), (6, _), (7, _)]) C dX4_agrees_130 rfl (by decide) rfl ?_ | refine g_iinc (lv' := [(0, _), (1, _), (2, _), (3, _), (4, _), (5, _), (6, _), (7, _)]) C dX4_agrees_130 rfl rfl (by decide) rfl ?_
      refine g_goto (tgt := 3) C dX4_agrees_133 (by decide) ?_
      refine g_take 5 rfl ?_
      exact ih (i + 1) (by omega) (no_s he hI)
    refine g_iload C dX4_agrees_3 rfl ?_
    refine g_aload_n C dX4_agrees_5 rfl rfl ?_
    refine f_X4_places C (hL _ (by decide)) (Or.inl q772) (Or.inl rfl) dX4_agrees_6 ?_
    refine g_iload_n C dX4_agrees_9 rfl rfl ?_
    refine g_iald (n := 10) C rfl (hL _ (by decide)) rfl (by omega) (by decide) dX4_agrees_10 ?_
    refine g_top (h.2.2.1) ?_
    first | refine g_icmp_ge_n (tgt := 136) C dX4_agrees_11 (by decide) (by omega) (by omega) (fun c11 => ?_) (fun c11 => ?_) | refine g_icmp_ge (tgt := 136) C dX4_agrees_11 (by decide) (fun c11 => ?_) (fun c11 => ?_)
    · omega
    · refine g_aload_n C dX4_agrees_14 rfl rfl ?_
      refine f_X4_placeName C (hL _ (by decide)) (Or.inl q773) (Or.inl rfl) dX4_agrees_15 ?_
      refine g_iconst (v := nI 3) C dX4_agrees_18 (by decide) ?_
      refine g_iload_n C dX4_agrees_19 rfl rfl ?_
      first | refine g_imul_n C dX4_agrees_20 ?_ | refine g_imul C dX4_agrees_20 ?_
      refine g_iload C dX4_agrees_21 rfl ?_
      first | refine g_iadd_n C dX4_agrees_23 ?_ | refine g_iadd C dX4_agrees_23 ?_
      refine g_iald (n := 30) C rfl (hL _ (by decide)) rfl (by omega) (by decide) dX4_agrees_24 ?_
      refine g_top ((h.2.2.2 i (by omega)).1) ?_
      refine g_istore (lv' := [(0, _), (1, _), (2, _), (3, _), (4, _), (5, _)]) C dX4_agrees_25 (by decide) rfl ?_
      refine g_aload_n C dX4_agrees_27 rfl rfl ?_
      refine g_aload_n C dX4_agrees_28 rfl rfl ?_
      refine f_X4_of C (hL _ (by decide)) (Or.inl q771) (Or.inl rfl) dX4_agrees_29 ?_
      refine g_iload_n C dX4_agrees_32 rfl rfl ?_
      refine g_iald (n := 10) C rfl (hL _ (by decide)) rfl (by omega) (by decide) dX4_agrees_33 ?_
      refine g_top (h.2.1 hk1) ?_
      refine g_iload_n C dX4_agrees_34 rfl rfl ?_
      refine g_iload C dX4_agrees_35 rfl ?_
      refine g_cfi (g_runV C (mT_cell l z T (qt Q p) r i hL ht8 hT hb hr (by omega)) ciX4_cell q885 (Or.inl qs28) (Or.inl q883) (hL _ (by decide)) rfl rfl rfl rfl (Nat.le_of_ble_eq_true rfl) dX4_agrees_37 (by decide)) ?_
      refine g_istore (lv' := [(0, _), (1, _), (2, _), (3, _), (4, _), (5, _), (6, _)]) C dX4_agrees_40 (by decide) rfl ?_
      refine g_iload C dX4_agrees_42 rfl ?_
      refine g_iconst (v := (-1)) C dX4_agrees_44 (by decide) ?_
      refine g_icmp_eq (tgt := 58) C dX4_agrees_45 (by decide) (fun c45 => ?_) (fun c45 => ?_)
      · refine g_iload C dX4_agrees_58 rfl ?_
        refine g_aload_n C dX4_agrees_60 rfl rfl ?_
        refine g_iload_n C dX4_agrees_61 rfl rfl ?_
        refine g_iload C dX4_agrees_62 rfl ?_
        refine g_cfi (g_runV C (m_X4_told l z Q p i hL hp h (by omega) (by omega) (hnm i (by omega))) ciX4_told q985 (Or.inl qs43) (Or.inl q983) (hL _ (by decide)) rfl rfl rfl rfl (Nat.le_of_ble_eq_true rfl) dX4_agrees_64 (by decide)) ?_
        refine g_icmp_eq (tgt := 72) C dX4_agrees_67 (by decide) (fun c67 => ?_) (fun c67 => ?_)
        · refine g_iconst (v := nI 0) C dX4_agrees_72 (by decide) ?_
          refine g_istore (lv' := [(0, _), (1, _), (2, _), (3, _), (4, _), (5, _), (6, _), (7, _)]) C dX4_agrees_73 (by decide) rfl ?_
          first | exact l2_X4_agrees C hQ hL hp h hk1 hT hw hb hr (by omega) (by rw [decide_eq_true c67, Bool.not_true, Bool.and_false]) K i 0 (by omega) (fun a ha => absurd ha (Nat.not_lt_zero _)) | exact l2_X4_agrees C hQ hL hp h hk1 hT hw hb hr (by omega) (by rw [decide_eq_false c45, hst, c55]; rfl) K i 0 (by omega) (fun a ha => absurd ha (Nat.not_lt_zero _))
        · refine g_iconst (v := nI 0) C dX4_agrees_70 (by decide) ?_
          exact g_ireturn C hQ rfl (by omega) (by omega) dX4_agrees_71 (by first | exact ⟨by rw [agB, anyF_yes (i := i) (by omega) (by rw [agI, decide_eq_true c45, decide_eq_false c67]; rfl)]; rfl, rfl⟩ | exact ⟨by rw [agB, anyF_yes (i := i) (by omega) (by rw [agI, hst, c55, decide_eq_false c67, Bool.or_true]; rfl)]; rfl, rfl⟩)
      · obtain ⟨j, hj6, hj⟩ := (hnm i (by omega)).resolve_left c45
        have hst : stT s (qm Q p i) = s.testBit j := by rw [stT, hj, nI_clamp (by omega)]
        refine g_aload_n C dX4_agrees_48 rfl rfl ?_
        refine g_iload_n C dX4_agrees_49 rfl rfl ?_
        refine g_iload C dX4_agrees_50 rfl ?_
        refine g_top (hj) ?_
        refine g_cfi (g_runV C (m_X4_isSet l z s j _ hs hj6) ciX4_isSet q973 (Or.inl qs40) (Or.inl q971) (hL _ (by decide)) rfl rfl rfl rfl (Nat.le_of_ble_eq_true rfl) dX4_agrees_52 (by decide)) ?_
        refine g_if_eq_b (tgt := 72) C dX4_agrees_55 (by decide) (fun c55 => ?_) (fun c55 => ?_)
        · refine g_iconst (v := nI 0) C dX4_agrees_72 (by decide) ?_
          refine g_istore (lv' := [(0, _), (1, _), (2, _), (3, _), (4, _), (5, _), (6, _), (7, _)]) C dX4_agrees_73 (by decide) rfl ?_
          first | exact l2_X4_agrees C hQ hL hp h hk1 hT hw hb hr (by omega) (by rw [decide_eq_true c67, Bool.not_true, Bool.and_false]) K i 0 (by omega) (fun a ha => absurd ha (Nat.not_lt_zero _)) | exact l2_X4_agrees C hQ hL hp h hk1 hT hw hb hr (by omega) (by rw [decide_eq_false c45, hst, c55]; rfl) K i 0 (by omega) (fun a ha => absurd ha (Nat.not_lt_zero _))
        · refine g_iload C dX4_agrees_58 rfl ?_
          refine g_aload_n C dX4_agrees_60 rfl rfl ?_
          refine g_iload_n C dX4_agrees_61 rfl rfl ?_
          refine g_iload C dX4_agrees_62 rfl ?_
          refine g_cfi (g_runV C (m_X4_told l z Q p i hL hp h (by omega) (by omega) (hnm i (by omega))) ciX4_told q985 (Or.inl qs43) (Or.inl q983) (hL _ (by decide)) rfl rfl rfl rfl (Nat.le_of_ble_eq_true rfl) dX4_agrees_64 (by decide)) ?_
          refine g_icmp_eq (tgt := 72) C dX4_agrees_67 (by decide) (fun c67 => ?_) (fun c67 => ?_)
          · refine g_iconst (v := nI 0) C dX4_agrees_72 (by decide) ?_
            refine g_istore (lv' := [(0, _), (1, _), (2, _), (3, _), (4, _), (5, _), (6, _), (7, _)]) C dX4_agrees_73 (by decide) rfl ?_
            first | exact l2_X4_agrees C hQ hL hp h hk1 hT hw hb hr (by omega) (by rw [decide_eq_true c67, Bool.not_true, Bool.and_false]) K i 0 (by omega) (fun a ha => absurd ha (Nat.not_lt_zero _)) | exact l2_X4_agrees C hQ hL hp h hk1 hT hw hb hr (by omega) (by rw [decide_eq_false c45, hst, c55]; rfl) K i 0 (by omega) (fun a ha => absurd ha (Nat.not_lt_zero _))
          · refine g_iconst (v := nI 0) C dX4_agrees_70 (by decide) ?_
            exact g_ireturn C hQ rfl (by omega) (by omega) dX4_agrees_71 (by first | exact ⟨by rw [agB, anyF_yes (i := i) (by omega) (by rw [agI, decide_eq_true c45, decide_eq_false c67]; rfl)]; rfl, rfl⟩ | exact ⟨by rw [agB, anyF_yes (i := i) (by omega) (by rw [agI, hst, c55, decide_eq_false c67, Bool.or_true]; rfl)]; rfl, rfl⟩)
theorem m_X4_agrees (l : Launch) (z : JZ) (T : JT) (Q : JQ) (p r s : Nat) (hL : mdL z) (hp : p < 10) (h : mPt z Q p) (hk1 : qk Q p ≤ 1) (hT : wT T) (hw : wPt T Q p) (hn6 : qn Q ≤ 6) (hb : mTb z T (qt Q p)) (hr : r < tm T (qt Q p)) (hs : s < 64) : jCt l yX4_agrees cX4_agrees 8 (some FieldType.boolean) 2 0 0 [.ref (zA z (40, 0)), .int (nI p), .int (nI r), .int (nI s)] z (jRi (jb (agB T Q p r s (zM z (58, 0)))) z) := by
  obtain ⟨ht8, htc, hlc⟩ := hw.2.1 hk1
  obtain ⟨w1, w2, -⟩ := hT _ ht8
  refine (jCt.of "JoinLoomModel" "agrees" [(0, _), (1, _), (2, _), (3, _)] rfl rfl (by decide) (Nat.le_of_ble_eq_true rfl) rfl (fun Γ C hQ => ?_))
  refine g_iconst (v := nI 0) C dX4_agrees_0 (by decide) ?_
  refine g_istore (lv' := [(0, _), (1, _), (2, _), (3, _), (4, _)]) C dX4_agrees_1 (by decide) rfl ?_
  exact lp_X4_agrees C hQ hL hp h hk1 hT hw hn6 hb hr hs (ql Q p) 0 (by omega) (fun a ha => absurd ha (Nat.not_lt_zero _))
theorem lp_X4_rowOf {Γ : JC} {l : Launch} {z : JZ} {T : JT} {Q : JQ} {p s : Nat} (C : jOk Γ l (jrm 3 0 0) cX4_rowOf "JoinLoomModel" (some FieldType.int) 4) (hQ : jRt Γ (jRi (oI (rowS T Q p s (zM z (58, 0)))) z) 0 0 "rowOf") (hL : mdL z) (hp : p < 10) (h : mPt z Q p) (hk1 : qk Q p ≤ 1) (hT : wT T) (hw : wPt T Q p) (hn6 : qn Q ≤ 6) (hb : mTb z T (qt Q p)) (hs : s < 64) :
    ∀ (m k : Nat), k + m = tm T (qt Q p) → rowS T Q p s (zM z (58, 0)) = firstF (fun r => agB T Q p r s (zM z (58, 0))) m k → jG Γ 0 0 z 2 [(0, .ref (zA z (40, 0))), (1, .int (nI p)), (2, .int (nI s)), (3, .int (nI k))] [] := by
  obtain ⟨ht8, htc, hlc⟩ := hw.2.1 hk1
  obtain ⟨w1, w2, -⟩ := hT _ ht8
  intro m
  induction m with
  | zero =>
    intro k hk he
    refine g_iload_n C dX4_rowOf_2 rfl rfl ?_
    refine g_aload_n C dX4_rowOf_3 rfl rfl ?_
    refine f_X4_many C (hL _ (by decide)) (Or.inl q766) (Or.inl rfl) dX4_rowOf_4 ?_
    refine g_aload_n C dX4_rowOf_7 rfl rfl ?_
    refine f_X4_of C (hL _ (by decide)) (Or.inl q771) (Or.inl rfl) dX4_rowOf_8 ?_
    refine g_iload_n C dX4_rowOf_11 rfl rfl ?_
    refine g_iald (n := 10) C rfl (hL _ (by decide)) rfl (by omega) (by decide) dX4_rowOf_12 ?_
    refine g_top (h.2.1 hk1) ?_
    refine g_iald (n := 8) C rfl (hL _ (by decide)) rfl (by omega) (by decide) dX4_rowOf_13 ?_
    refine g_top (hb.2.1) ?_
    first | refine g_icmp_ge_n (tgt := 35) C dX4_rowOf_14 (by decide) (by omega) (by omega) (fun c14 => ?_) (fun c14 => ?_) | refine g_icmp_ge (tgt := 35) C dX4_rowOf_14 (by decide) (fun c14 => ?_) (fun c14 => ?_)
    · refine g_iconst (v := (-1)) C dX4_rowOf_35 (by decide) ?_
      exact g_ireturn C hQ rfl (by omega) (by omega) dX4_rowOf_36 (⟨by rw [he]; rfl, rfl⟩)
    · omega
  | succ m ih =>
    intro k hk he
    rw [firstF] at he
    refine g_iload_n C dX4_rowOf_2 rfl rfl ?_
    refine g_aload_n C dX4_rowOf_3 rfl rfl ?_
    refine f_X4_many C (hL _ (by decide)) (Or.inl q766) (Or.inl rfl) dX4_rowOf_4 ?_
    refine g_aload_n C dX4_rowOf_7 rfl rfl ?_
    refine f_X4_of C (hL _ (by decide)) (Or.inl q771) (Or.inl rfl) dX4_rowOf_8 ?_
    refine g_iload_n C dX4_rowOf_11 rfl rfl ?_
    refine g_iald (n := 10) C rfl (hL _ (by decide)) rfl (by omega) (by decide) dX4_rowOf_12 ?_
    refine g_top (h.2.1 hk1) ?_
    refine g_iald (n := 8) C rfl (hL _ (by decide)) rfl (by omega) (by decide) dX4_rowOf_13 ?_
    refine g_top (hb.2.1) ?_
    first | refine g_icmp_ge_n (tgt := 35) C dX4_rowOf_14 (by decide) (by omega) (by omega) (fun c14 => ?_) (fun c14 => ?_) | refine g_icmp_ge (tgt := 35) C dX4_rowOf_14 (by decide) (fun c14 => ?_) (fun c14 => ?_)
    · omega
    · refine g_aload_n C dX4_rowOf_17 rfl rfl ?_
      refine g_iload_n C dX4_rowOf_18 rfl rfl ?_
      refine g_iload_n C dX4_rowOf_19 rfl rfl ?_
      refine g_iload_n C dX4_rowOf_20 rfl rfl ?_
      refine g_cfi (g_runV C (m_X4_agrees l z T Q p k s hL hp h hk1 hT hw hn6 hb (by omega) hs) ciX4_agrees q981 (Or.inl qs42) (Or.inl q979) (hL _ (by decide)) rfl rfl rfl rfl (Nat.le_of_ble_eq_true rfl) dX4_rowOf_21 (by decide)) ?_
      refine g_if_eq_b (tgt := 29) C dX4_rowOf_24 (by decide) (fun c24 => ?_) (fun c24 => ?_)
      · first | refine g_iinc1 (lv' := [(0, _), (1, _), (2, _), (3, _)]) C dX4_rowOf_29 rfl (by decide) rfl ?_ | refine g_iinc (lv' := [(0, _), (1, _), (2, _), (3, _)]) C dX4_rowOf_29 rfl rfl (by decide) rfl ?_
        refine g_goto (tgt := 2) C dX4_rowOf_32 (by decide) ?_
        exact ih (k + 1) (by omega) (by rw [he, if_neg (by rw [c24]; decide)])
      · refine g_iload_n C dX4_rowOf_27 rfl rfl ?_
        exact g_ireturn C hQ rfl (by omega) (by omega) dX4_rowOf_28 (⟨by rw [he, if_pos c24]; rfl, rfl⟩)
theorem m_X4_rowOf (l : Launch) (z : JZ) (T : JT) (Q : JQ) (p s : Nat) (hL : mdL z) (hp : p < 10) (h : mPt z Q p) (hk1 : qk Q p ≤ 1) (hT : wT T) (hw : wPt T Q p) (hn6 : qn Q ≤ 6) (hb : mTb z T (qt Q p)) (hs : s < 64) : jCt l yX4_rowOf cX4_rowOf 4 (some FieldType.int) 3 0 0 [.ref (zA z (40, 0)), .int (nI p), .int (nI s)] z (jRi (oI (rowS T Q p s (zM z (58, 0)))) z) := by
  refine (jCt.of "JoinLoomModel" "rowOf" [(0, _), (1, _), (2, _)] rfl rfl (by decide) (Nat.le_of_ble_eq_true rfl) rfl (fun Γ C hQ => ?_))
  refine g_iconst (v := nI 0) C dX4_rowOf_0 (by decide) ?_
  refine g_istore_n (lv' := [(0, _), (1, _), (2, _), (3, _)]) C dX4_rowOf_1 rfl (by decide) rfl ?_
  exact lp_X4_rowOf C hQ hL hp h hk1 hT hw hn6 hb hs _ 0 (Nat.zero_add _) rfl
