set_option maxRecDepth 100000
theorem m_X0_in (l : Launch) (z : JZ) (v a b : Int32) : jCt l yX0_in cX0_in 3 (some FieldType.boolean) 1 0 0 [.int v, .int a, .int b] z (jRi (jb (decide (a ≤ v ∧ v ≤ b))) z) := by
  refine (jCt.of "JoinLoom" "in" [(0, _), (1, _), (2, _)] rfl rfl (by decide) (Nat.le_of_ble_eq_true rfl) rfl (fun Γ C hQ => ?_))
  refine g_iload_n C dX0_in_0 rfl rfl ?_
  refine g_iload_n C dX0_in_1 rfl rfl ?_
  refine g_icmp_lt (tgt := 14) C dX0_in_2 (by decide) (fun c2 => ?_) (fun c2 => ?_)
  · refine g_iconst (v := nI 0) C dX0_in_14 (by decide) ?_
    exact g_ireturn C hQ rfl (by omega) (by omega) dX0_in_15 (by first | exact ⟨by rw [decide_eq_true ⟨Int32.not_lt.mp c2, Int32.not_lt.mp c7⟩]; rfl, rfl⟩ | exact ⟨by rw [decide_eq_false (fun e => Int32.not_lt.mpr e.2 c7)]; rfl, rfl⟩ | exact ⟨by rw [decide_eq_false (fun e => Int32.not_lt.mpr e.1 c2)]; rfl, rfl⟩)
  · refine g_iload_n C dX0_in_5 rfl rfl ?_
    refine g_iload_n C dX0_in_6 rfl rfl ?_
    refine g_icmp_gt (tgt := 14) C dX0_in_7 (by decide) (fun c7 => ?_) (fun c7 => ?_)
    · refine g_iconst (v := nI 0) C dX0_in_14 (by decide) ?_
      exact g_ireturn C hQ rfl (by omega) (by omega) dX0_in_15 (by first | exact ⟨by rw [decide_eq_true ⟨Int32.not_lt.mp c2, Int32.not_lt.mp c7⟩]; rfl, rfl⟩ | exact ⟨by rw [decide_eq_false (fun e => Int32.not_lt.mpr e.2 c7)]; rfl, rfl⟩ | exact ⟨by rw [decide_eq_false (fun e => Int32.not_lt.mpr e.1 c2)]; rfl, rfl⟩)
    · refine g_iconst (v := nI 1) C dX0_in_10 (by decide) ?_
      refine g_goto (tgt := 15) C dX0_in_11 (by decide) ?_
      exact g_ireturn C hQ rfl (by omega) (by omega) dX0_in_15 (by first | exact ⟨by rw [decide_eq_true ⟨Int32.not_lt.mp c2, Int32.not_lt.mp c7⟩]; rfl, rfl⟩ | exact ⟨by rw [decide_eq_false (fun e => Int32.not_lt.mpr e.2 c7)]; rfl, rfl⟩ | exact ⟨by rw [decide_eq_false (fun e => Int32.not_lt.mpr e.1 c2)]; rfl, rfl⟩)
theorem m_X7_isWhole (l : Launch) (z : JZ) (a : Nat) : jCt l yX7_isWhole cX7_isWhole 1 (some FieldType.boolean) 1 0 0 [.ref a] z (jRi (jb true) z) := by
  refine (jCt.of "JoinLoom$Part" "isWhole" [(0, _)] rfl rfl (by decide) (Nat.le_of_ble_eq_true rfl) rfl (fun Γ C hQ => ?_))
  refine g_iconst (v := nI 1) C dX7_isWhole_0 (by decide) ?_
  exact g_ireturn C hQ rfl (by omega) (by omega) dX7_isWhole_1 (⟨rfl, rfl⟩)
/-- the names of a row of places, as bits -/
def nmF (f : Nat → Int32) : Nat → Int32
  | 0 => 0
  | n + 1 => if f n = -1 then nmF f n else nmF f n ||| ((1 : Int32) <<< (f n &&& 31))
theorem lp_X8_names {Γ : JC} {l : Launch} {z : JZ} {t p n : Nat} (C : jOk Γ l (jrm 1 0 0) cX8_names "JoinLoom$Has" (some FieldType.int) 3) (hQ : jRt Γ (jRi (nmF (zM z (30, p)) n) z) 0 0 "names") (ht : t = 29 ∨ t = 32) (h1 : zL z (t, p) = true) (h2 : zL z (30, p) = true) (hn : zM z (t, p) 5 = nI n) (hn3 : n ≤ 3) :
    ∀ (m k : Nat), k + m = n → jG Γ 0 0 z 4 [(0, .ref (zA z (t, p))), (1, .int (nmF (zM z (30, p)) k)), (2, .int (nI k))] [] := by
  intro m
  induction m with
  | zero =>
    intro k hk
    have e : k = n := by omega
    subst e
    refine g_iload_n C dX8_names_4 rfl rfl ?_
    refine g_aload_n C dX8_names_5 rfl rfl ?_
    refine f_H_places ht C h1 (Or.inl q376) (Or.inl rfl) dX8_names_6 ?_
    refine g_top (hn) ?_
    first | refine g_icmp_ge_n (tgt := 39) C dX8_names_9 (by decide) (by omega) (by omega) (fun c9 => ?_) (fun c9 => ?_) | refine g_icmp_ge (tgt := 39) C dX8_names_9 (by decide) (fun c9 => ?_) (fun c9 => ?_)
    · refine g_iload_n C dX8_names_39 rfl rfl ?_
      exact g_ireturn C hQ rfl (by omega) (by omega) dX8_names_40 (⟨rfl, rfl⟩)
    · omega
  | succ m ih =>
    intro k hk
    refine g_iload_n C dX8_names_4 rfl rfl ?_
    refine g_aload_n C dX8_names_5 rfl rfl ?_
    refine f_H_places ht C h1 (Or.inl q376) (Or.inl rfl) dX8_names_6 ?_
    refine g_top (hn) ?_
    first | refine g_icmp_ge_n (tgt := 39) C dX8_names_9 (by decide) (by omega) (by omega) (fun c9 => ?_) (fun c9 => ?_) | refine g_icmp_ge (tgt := 39) C dX8_names_9 (by decide) (fun c9 => ?_) (fun c9 => ?_)
    · omega
    · refine g_aload_n C dX8_names_12 rfl rfl ?_
      refine f_H_name ht C h1 (Or.inl q370) (Or.inl rfl) dX8_names_13 ?_
      refine g_iload_n C dX8_names_16 rfl rfl ?_
      refine g_iald (n := 3) C rfl h2 rfl (by omega) (by decide) dX8_names_17 ?_
      refine g_iconst (v := (-1)) C dX8_names_18 (by decide) ?_
      refine g_icmp_eq (tgt := 33) C dX8_names_19 (by decide) (fun c19 => ?_) (fun c19 => ?_)
      · refine g_iinc1 (lv' := [(0, _), (1, _), (2, _)]) C dX8_names_33 rfl (by decide) rfl ?_
        refine g_goto (tgt := 4) C dX8_names_36 (by decide) ?_
        have e := ih (k + 1) (by omega)
        first | (rw [nmF, if_pos c19] at e; exact e) | (rw [nmF, if_neg c19] at e; exact e)
      · refine g_iload_n C dX8_names_22 rfl rfl ?_
        refine g_iconst (v := nI 1) C dX8_names_23 (by decide) ?_
        refine g_aload_n C dX8_names_24 rfl rfl ?_
        refine f_H_name ht C h1 (Or.inl q370) (Or.inl rfl) dX8_names_25 ?_
        refine g_iload_n C dX8_names_28 rfl rfl ?_
        refine g_iald (n := 3) C rfl h2 rfl (by omega) (by decide) dX8_names_29 ?_
        refine g_ishl C dX8_names_30 ?_
        refine g_ior C dX8_names_31 ?_
        refine g_istore_n (lv' := [(0, _), (1, _), (2, _)]) C dX8_names_32 rfl (by decide) rfl ?_
        refine g_iinc1 (lv' := [(0, _), (1, _), (2, _)]) C dX8_names_33 rfl (by decide) rfl ?_
        refine g_goto (tgt := 4) C dX8_names_36 (by decide) ?_
        have e := ih (k + 1) (by omega)
        first | (rw [nmF, if_pos c19] at e; exact e) | (rw [nmF, if_neg c19] at e; exact e)
theorem m_X8_names (l : Launch) (z : JZ) (t p n : Nat) (ht : t = 29 ∨ t = 32) (h1 : zL z (t, p) = true) (h2 : zL z (30, p) = true) (hn : zM z (t, p) 5 = nI n) (hn3 : n ≤ 3) : jCt l yX8_names cX8_names 3 (some FieldType.int) 1 0 0 [.ref (zA z (t, p))] z (jRi (nmF (zM z (30, p)) n) z) := by
  refine (jCt.of "JoinLoom$Has" "names" [(0, _)] rfl rfl (by decide) (Nat.le_of_ble_eq_true rfl) rfl (fun Γ C hQ => ?_))
  refine g_iconst (v := nI 0) C dX8_names_0 (by decide) ?_
  refine g_istore_n (lv' := [(0, _), (1, _)]) C dX8_names_1 rfl (by decide) rfl ?_
  refine g_iconst (v := nI 0) C dX8_names_2 (by decide) ?_
  refine g_istore_n (lv' := [(0, _), (1, _), (2, _)]) C dX8_names_3 rfl (by decide) rfl ?_
  exact lp_X8_names C hQ ht h1 h2 hn hn3 n 0 (by omega)
theorem m_X8_isWhole (l : Launch) (z : JZ) (t p tb n c : Nat) (ht : t = 29 ∨ t = 32) (h1 : zL z (t, p) = true) (hr : zR z (t, p) 1 = some (zA z (27, tb))) (h3 : zL z (27, tb) = true) (hn : zM z (t, p) 5 = nI n) (hn3 : n ≤ 3) (hc : zM z (27, tb) 0 = nI c) (hc3 : c ≤ 3) : jCt l yX8_isWhole cX8_isWhole 1 (some FieldType.boolean) 1 0 0 [.ref (zA z (t, p))] z (jRi (jb (decide (n = c))) z) := by
  refine (jCt.of "JoinLoom$Has" "isWhole" [(0, _)] rfl rfl (by decide) (Nat.le_of_ble_eq_true rfl) rfl (fun Γ C hQ => ?_))
  refine g_aload_n C dX8_isWhole_0 rfl rfl ?_
  refine f_H_places ht C h1 (Or.inl q376) (Or.inl rfl) dX8_isWhole_1 ?_
  refine g_top (hn) ?_
  refine g_aload_n C dX8_isWhole_4 rfl rfl ?_
  refine f_H_table ht C h1 (Or.inl q365) (Or.inl rfl) dX8_isWhole_5 ?_
  refine g_topR (hr) ?_
  refine f_X5_columns C h3 (Or.inr ⟨_, nq247⟩) (Or.inl rfl) dX8_isWhole_8 ?_
  refine g_top (hc) ?_
  first | refine g_icmp_ne_n (tgt := 18) C dX8_isWhole_11 (by decide) (by omega) (by omega) (fun c11 => ?_) (fun c11 => ?_) | refine g_icmp_ne (tgt := 18) C dX8_isWhole_11 (by decide) (fun c11 => ?_) (fun c11 => ?_)
  · refine g_iconst (v := nI 0) C dX8_isWhole_18 (by decide) ?_
    exact g_ireturn C hQ rfl (by omega) (by omega) dX8_isWhole_19 (by first | exact ⟨by rw [decide_eq_true c11]; rfl, rfl⟩ | exact ⟨by rw [decide_eq_false c11]; rfl, rfl⟩)
  · refine g_iconst (v := nI 1) C dX8_isWhole_14 (by decide) ?_
    refine g_goto (tgt := 19) C dX8_isWhole_15 (by decide) ?_
    exact g_ireturn C hQ rfl (by omega) (by omega) dX8_isWhole_19 (by first | exact ⟨by rw [decide_eq_true c11]; rfl, rfl⟩ | exact ⟨by rw [decide_eq_false c11]; rfl, rfl⟩)
/-- the value of a place, out of a row of values by names -/
def vlF (n : Nat) (nm tl va : Nat → Int32) (k : Nat) : Int32 := if k < n then (if nm k = -1 then tl k else va (nm k).toNatClampNeg) else 0
/-- names stand for six values at most -/
def nmOk (n : Nat) (nm : Nat → Int32) : Prop := ∀ k, k < n → nm k = -1 ∨ ∃ j, j < 6 ∧ nm k = nI j
theorem m_X8_value (l : Launch) (z : JZ) (t p n k tv jv : Nat) (ht : t = 29 ∨ t = 32) (h1 : zL z (t, p) = true) (h2 : zL z (30, p) = true) (h3 : zL z (31, p) = true) (hn : zM z (t, p) 5 = nI n) (hn3 : n ≤ 3) (hk : k < 3) (hkv : kd tv = .inl (0, 6)) (h4 : zL z (tv, jv) = true) (hnm : nmOk n (zM z (30, p))) : jCt l yX8_value cX8_value 3 (some FieldType.int) 1 0 0 [.ref (zA z (t, p)), .int (nI k), .ref (zA z (tv, jv))] z (jRi (vlF n (zM z (30, p)) (zM z (31, p)) (zM z (tv, jv)) k) z) := by
  refine (jCt.of "JoinLoom$Has" "value" [(0, _), (1, _), (2, _)] rfl rfl (by decide) (Nat.le_of_ble_eq_true rfl) rfl (fun Γ C hQ => ?_))
  refine g_iload_n C dX8_value_0 rfl rfl ?_
  refine g_aload_n C dX8_value_1 rfl rfl ?_
  refine f_H_places ht C h1 (Or.inl q376) (Or.inl rfl) dX8_value_2 ?_
  refine g_top (hn) ?_
  first | refine g_icmp_lt_n (tgt := 12) C dX8_value_5 (by decide) (by omega) (by omega) (fun c5 => ?_) (fun c5 => ?_) | refine g_icmp_lt (tgt := 12) C dX8_value_5 (by decide) (fun c5 => ?_) (fun c5 => ?_)
  · refine g_aload_n C dX8_value_12 rfl rfl ?_
    refine f_H_name ht C h1 (Or.inl q370) (Or.inl rfl) dX8_value_13 ?_
    refine g_iload_n C dX8_value_16 rfl rfl ?_
    refine g_iald (n := 3) C rfl h2 rfl (by omega) (by decide) dX8_value_17 ?_
    refine g_iconst (v := (-1)) C dX8_value_18 (by decide) ?_
    refine g_icmp_ne (tgt := 31) C dX8_value_19 (by decide) (fun c19 => ?_) (fun c19 => ?_)
    · obtain ⟨j, hj6, hj⟩ := (hnm k c5).resolve_left c19
      refine g_aload_n C dX8_value_31 rfl rfl ?_
      refine g_aload_n C dX8_value_32 rfl rfl ?_
      refine f_H_name ht C h1 (Or.inl q370) (Or.inl rfl) dX8_value_33 ?_
      refine g_iload_n C dX8_value_36 rfl rfl ?_
      refine g_iald (n := 3) C rfl h2 rfl (by omega) (by decide) dX8_value_37 ?_
      refine g_top (hj) ?_
      refine g_iald (n := 6) C hkv h4 rfl (by omega) (by decide) dX8_value_38 ?_
      exact g_ireturn C hQ rfl (by omega) (by omega) dX8_value_39 (by first | exact ⟨congrArg (fun x => some (Value.int x)) (show _ = vlF _ _ _ _ _ by rw [vlF, if_neg (Nat.not_lt.mpr c5)]; rfl), rfl⟩ | exact ⟨congrArg (fun x => some (Value.int x)) (show _ = vlF _ _ _ _ _ by rw [vlF, if_pos c5, if_pos c19]), rfl⟩ | exact ⟨congrArg (fun x => some (Value.int x)) (show _ = vlF _ _ _ _ _ by rw [vlF, if_pos c5, if_neg c19, hj, nI_clamp (by omega)]), rfl⟩)
    · refine g_aload_n C dX8_value_22 rfl rfl ?_
      refine f_H_told ht C h1 (Or.inl q373) (Or.inl rfl) dX8_value_23 ?_
      refine g_iload_n C dX8_value_26 rfl rfl ?_
      refine g_iald (n := 3) C rfl h3 rfl (by omega) (by decide) dX8_value_27 ?_
      refine g_goto (tgt := 39) C dX8_value_28 (by decide) ?_
      exact g_ireturn C hQ rfl (by omega) (by omega) dX8_value_39 (by first | exact ⟨congrArg (fun x => some (Value.int x)) (show _ = vlF _ _ _ _ _ by rw [vlF, if_neg (Nat.not_lt.mpr c5)]; rfl), rfl⟩ | exact ⟨congrArg (fun x => some (Value.int x)) (show _ = vlF _ _ _ _ _ by rw [vlF, if_pos c5, if_pos c19]), rfl⟩ | exact ⟨congrArg (fun x => some (Value.int x)) (show _ = vlF _ _ _ _ _ by rw [vlF, if_pos c5, if_neg c19, hj, nI_clamp (by omega)]), rfl⟩)
  · refine g_iconst (v := nI 0) C dX8_value_8 (by decide) ?_
    refine g_goto (tgt := 39) C dX8_value_9 (by decide) ?_
    exact g_ireturn C hQ rfl (by omega) (by omega) dX8_value_39 (by first | exact ⟨congrArg (fun x => some (Value.int x)) (show _ = vlF _ _ _ _ _ by rw [vlF, if_neg (Nat.not_lt.mpr c5)]; rfl), rfl⟩ | exact ⟨congrArg (fun x => some (Value.int x)) (show _ = vlF _ _ _ _ _ by rw [vlF, if_pos c5, if_pos c19]), rfl⟩ | exact ⟨congrArg (fun x => some (Value.int x)) (show _ = vlF _ _ _ _ _ by rw [vlF, if_pos c5, if_neg c19, hj, nI_clamp (by omega)]), rfl⟩)
theorem m_X8_row (l : Launch) (z : JZ) (t p n tb c m tv jv q : Nat) (ht : t = 29 ∨ t = 32) (h1 : zL z (t, p) = true) (h2 : zL z (30, p) = true) (h3 : zL z (31, p) = true) (hn : zM z (t, p) 5 = nI n) (hn3 : n ≤ 3) (hkv : kd tv = .inl (0, 6)) (h4 : zL z (tv, jv) = true) (hnm : nmOk n (zM z (30, p)))
    (hr : zR z (t, p) 1 = some (zA z (27, tb))) (h5 : zL z (27, tb) = true) (h6 : zL z (28, tb) = true) (hc : zM z (27, tb) 0 = nI c) (hc3 : c ≤ 3) (hm : zM z (27, tb) 2 = nI m) (hm4 : m ≤ 40) (hq : jPl3 z tb c m q (vlF n (zM z (30, p)) (zM z (31, p)) (zM z (tv, jv)) 0) (vlF n (zM z (30, p)) (zM z (31, p)) (zM z (tv, jv)) 1) (vlF n (zM z (30, p)) (zM z (31, p)) (zM z (tv, jv)) 2)) :
    jCt l yX8_row cX8_row 2 (some FieldType.int) 5 0 0 [.ref (zA z (t, p)), .ref (zA z (tv, jv))] z (jRi (jFind z tb c m q (vlF n (zM z (30, p)) (zM z (31, p)) (zM z (tv, jv)) 0) (vlF n (zM z (30, p)) (zM z (31, p)) (zM z (tv, jv)) 1) (vlF n (zM z (30, p)) (zM z (31, p)) (zM z (tv, jv)) 2)) z) := by
  have hT := ht
  rcases ht with rfl | rfl
  · refine (jCt.of "JoinLoom$Has" "row" [(0, _), (1, _)] rfl rfl (by decide) (Nat.le_of_ble_eq_true rfl) rfl (fun Γ C hQ => ?_))
    refine g_aload_n C dX8_row_0 rfl rfl ?_
    refine f_X8_table C h1 (Or.inl q365) (Or.inl rfl) dX8_row_1 ?_
    refine g_topR (hr) ?_
    refine g_aload_n C dX8_row_4 rfl rfl ?_
    refine g_iconst (v := nI 0) C dX8_row_5 (by decide) ?_
    refine g_aload_n C dX8_row_6 rfl rfl ?_
    refine g_cfi (g_runV C (m_X8_value l z _ p n 0 tv jv hT h1 h2 h3 hn hn3 (by decide) hkv h4 hnm) ciX8_value q596 (Or.inl qs14) (Or.inl q594) h1 rfl rfl rfl rfl (Nat.le_of_ble_eq_true rfl) dX8_row_7 (by decide)) ?_
    refine g_aload_n C dX8_row_10 rfl rfl ?_
    refine g_iconst (v := nI 1) C dX8_row_11 (by decide) ?_
    refine g_aload_n C dX8_row_12 rfl rfl ?_
    refine g_cfi (g_runV C (m_X8_value l z _ p n 1 tv jv hT h1 h2 h3 hn hn3 (by decide) hkv h4 hnm) ciX8_value q596 (Or.inl qs14) (Or.inl q594) h1 rfl rfl rfl rfl (Nat.le_of_ble_eq_true rfl) dX8_row_13 (by decide)) ?_
    refine g_aload_n C dX8_row_16 rfl rfl ?_
    refine g_iconst (v := nI 2) C dX8_row_17 (by decide) ?_
    refine g_aload_n C dX8_row_18 rfl rfl ?_
    refine g_cfi (g_runV C (m_X8_value l z _ p n 2 tv jv hT h1 h2 h3 hn hn3 (by decide) hkv h4 hnm) ciX8_value q596 (Or.inl qs14) (Or.inl q594) h1 rfl rfl rfl rfl (Nat.le_of_ble_eq_true rfl) dX8_row_19 (by decide)) ?_
    refine g_cfi (g_runV C (m_X5_find l z tb c m q _ _ _ h5 h6 hc hc3 hm4 hm hq) ciX5_find q269 (Or.inl q270) (Or.inl q598) h5 rfl rfl rfl rfl (Nat.le_of_ble_eq_true rfl) dX8_row_22 (by decide)) ?_
    exact g_ireturn C hQ rfl (by omega) (by omega) dX8_row_25 (⟨rfl, rfl⟩)
  · refine (jCt.of "JoinLoom$Has" "row" [(0, _), (1, _)] rfl rfl (by decide) (Nat.le_of_ble_eq_true rfl) rfl (fun Γ C hQ => ?_))
    refine g_aload_n C dX8_row_0 rfl rfl ?_
    refine f_X9_table C h1 (Or.inl q365) (Or.inl rfl) dX8_row_1 ?_
    refine g_topR (hr) ?_
    refine g_aload_n C dX8_row_4 rfl rfl ?_
    refine g_iconst (v := nI 0) C dX8_row_5 (by decide) ?_
    refine g_aload_n C dX8_row_6 rfl rfl ?_
    refine g_cfi (g_runV C (m_X8_value l z _ p n 0 tv jv hT h1 h2 h3 hn hn3 (by decide) hkv h4 hnm) ciX8_value q596 (Or.inr ⟨rfl, rfl⟩) (Or.inl q594) h1 rfl rfl rfl rfl (Nat.le_of_ble_eq_true rfl) dX8_row_7 (by decide)) ?_
    refine g_aload_n C dX8_row_10 rfl rfl ?_
    refine g_iconst (v := nI 1) C dX8_row_11 (by decide) ?_
    refine g_aload_n C dX8_row_12 rfl rfl ?_
    refine g_cfi (g_runV C (m_X8_value l z _ p n 1 tv jv hT h1 h2 h3 hn hn3 (by decide) hkv h4 hnm) ciX8_value q596 (Or.inr ⟨rfl, rfl⟩) (Or.inl q594) h1 rfl rfl rfl rfl (Nat.le_of_ble_eq_true rfl) dX8_row_13 (by decide)) ?_
    refine g_aload_n C dX8_row_16 rfl rfl ?_
    refine g_iconst (v := nI 2) C dX8_row_17 (by decide) ?_
    refine g_aload_n C dX8_row_18 rfl rfl ?_
    refine g_cfi (g_runV C (m_X8_value l z _ p n 2 tv jv hT h1 h2 h3 hn hn3 (by decide) hkv h4 hnm) ciX8_value q596 (Or.inr ⟨rfl, rfl⟩) (Or.inl q594) h1 rfl rfl rfl rfl (Nat.le_of_ble_eq_true rfl) dX8_row_19 (by decide)) ?_
    refine g_cfi (g_runV C (m_X5_find l z tb c m q _ _ _ h5 h6 hc hc3 hm4 hm hq) ciX5_find q269 (Or.inl q270) (Or.inl q598) h5 rfl rfl rfl rfl (Nat.le_of_ble_eq_true rfl) dX8_row_22 (by decide)) ?_
    exact g_ireturn C hQ rfl (by omega) (by omega) dX8_row_25 (⟨rfl, rfl⟩)
theorem m_X8_isTrue (l : Launch) (z : JZ) (t p n tb c m tv jv q : Nat) (ht : t = 29 ∨ t = 32) (h1 : zL z (t, p) = true) (h2 : zL z (30, p) = true) (h3 : zL z (31, p) = true) (hn : zM z (t, p) 5 = nI n) (hn3 : n ≤ 3) (hkv : kd tv = .inl (0, 6)) (h4 : zL z (tv, jv) = true) (hnm : nmOk n (zM z (30, p)))
    (hr : zR z (t, p) 1 = some (zA z (27, tb))) (h5 : zL z (27, tb) = true) (h6 : zL z (28, tb) = true) (hc : zM z (27, tb) 0 = nI c) (hc3 : c ≤ 3) (hm : zM z (27, tb) 2 = nI m) (hm4 : m ≤ 40) (hq : jPl3 z tb c m q (vlF n (zM z (30, p)) (zM z (31, p)) (zM z (tv, jv)) 0) (vlF n (zM z (30, p)) (zM z (31, p)) (zM z (tv, jv)) 1) (vlF n (zM z (30, p)) (zM z (31, p)) (zM z (tv, jv)) 2)) :
    jCt l yX8_isTrue cX8_isTrue 2 (some FieldType.boolean) 6 0 0 [.ref (zA z (t, p)), .ref (zA z (tv, jv))] z (jRi (jb (!decide (jFind z tb c m q (vlF n (zM z (30, p)) (zM z (31, p)) (zM z (tv, jv)) 0) (vlF n (zM z (30, p)) (zM z (31, p)) (zM z (tv, jv)) 1) (vlF n (zM z (30, p)) (zM z (31, p)) (zM z (tv, jv)) 2) = -1))) z) := by
  have hT := ht
  rcases ht with rfl | rfl
  · refine (jCt.of "JoinLoom$Has" "isTrue" [(0, _), (1, _)] rfl rfl (by decide) (Nat.le_of_ble_eq_true rfl) rfl (fun Γ C hQ => ?_))
    refine g_aload_n C dX8_isTrue_0 rfl rfl ?_
    refine g_aload_n C dX8_isTrue_1 rfl rfl ?_
    refine g_cfi (g_runV C (m_X8_row l z _ p n tb c m tv jv q hT h1 h2 h3 hn hn3 hkv h4 hnm hr h5 h6 hc hc3 hm hm4 hq) ciX8_row q589 (Or.inl q590) (Or.inl q588) h1 rfl rfl rfl rfl (Nat.le_of_ble_eq_true rfl) dX8_isTrue_2 (by decide)) ?_
    refine g_iconst (v := (-1)) C dX8_isTrue_5 (by decide) ?_
    refine g_icmp_eq (tgt := 13) C dX8_isTrue_6 (by decide) (fun c6 => ?_) (fun c6 => ?_)
    · refine g_iconst (v := nI 0) C dX8_isTrue_13 (by decide) ?_
      exact g_ireturn C hQ rfl (by omega) (by omega) dX8_isTrue_14 (by first | exact ⟨by rw [decide_eq_true c6]; rfl, rfl⟩ | exact ⟨by rw [decide_eq_false c6]; rfl, rfl⟩)
    · refine g_iconst (v := nI 1) C dX8_isTrue_9 (by decide) ?_
      refine g_goto (tgt := 14) C dX8_isTrue_10 (by decide) ?_
      exact g_ireturn C hQ rfl (by omega) (by omega) dX8_isTrue_14 (by first | exact ⟨by rw [decide_eq_true c6]; rfl, rfl⟩ | exact ⟨by rw [decide_eq_false c6]; rfl, rfl⟩)
  · refine (jCt.of "JoinLoom$Has" "isTrue" [(0, _), (1, _)] rfl rfl (by decide) (Nat.le_of_ble_eq_true rfl) rfl (fun Γ C hQ => ?_))
    refine g_aload_n C dX8_isTrue_0 rfl rfl ?_
    refine g_aload_n C dX8_isTrue_1 rfl rfl ?_
    refine g_cfi (g_runV C (m_X8_row l z _ p n tb c m tv jv q hT h1 h2 h3 hn hn3 hkv h4 hnm hr h5 h6 hc hc3 hm hm4 hq) ciX8_row q589 (Or.inl q592) (Or.inl q588) h1 rfl rfl rfl rfl (Nat.le_of_ble_eq_true rfl) dX8_isTrue_2 (by decide)) ?_
    refine g_iconst (v := (-1)) C dX8_isTrue_5 (by decide) ?_
    refine g_icmp_eq (tgt := 13) C dX8_isTrue_6 (by decide) (fun c6 => ?_) (fun c6 => ?_)
    · refine g_iconst (v := nI 0) C dX8_isTrue_13 (by decide) ?_
      exact g_ireturn C hQ rfl (by omega) (by omega) dX8_isTrue_14 (by first | exact ⟨by rw [decide_eq_true c6]; rfl, rfl⟩ | exact ⟨by rw [decide_eq_false c6]; rfl, rfl⟩)
    · refine g_iconst (v := nI 1) C dX8_isTrue_9 (by decide) ?_
      refine g_goto (tgt := 14) C dX8_isTrue_10 (by decide) ?_
      exact g_ireturn C hQ rfl (by omega) (by omega) dX8_isTrue_14 (by first | exact ⟨by rw [decide_eq_true c6]; rfl, rfl⟩ | exact ⟨by rw [decide_eq_false c6]; rfl, rfl⟩)
theorem m_X9_isTrue (l : Launch) (z : JZ) (p n tb c m tv jv q : Nat) (h1 : zL z (32, p) = true) (h2 : zL z (30, p) = true) (h3 : zL z (31, p) = true) (hn : zM z (32, p) 5 = nI n) (hn3 : n ≤ 3) (hkv : kd tv = .inl (0, 6)) (h4 : zL z (tv, jv) = true) (hnm : nmOk n (zM z (30, p)))
    (hr : zR z (32, p) 1 = some (zA z (27, tb))) (h5 : zL z (27, tb) = true) (h6 : zL z (28, tb) = true) (hc : zM z (27, tb) 0 = nI c) (hc3 : c ≤ 3) (hm : zM z (27, tb) 2 = nI m) (hm4 : m ≤ 40) (hq : jPl3 z tb c m q (vlF n (zM z (30, p)) (zM z (31, p)) (zM z (tv, jv)) 0) (vlF n (zM z (30, p)) (zM z (31, p)) (zM z (tv, jv)) 1) (vlF n (zM z (30, p)) (zM z (31, p)) (zM z (tv, jv)) 2)) :
    jCt l yX9_isTrue cX9_isTrue 2 (some FieldType.boolean) 7 0 0 [.ref (zA z (32, p)), .ref (zA z (tv, jv))] z (jRi (jb (decide (jFind z tb c m q (vlF n (zM z (30, p)) (zM z (31, p)) (zM z (tv, jv)) 0) (vlF n (zM z (30, p)) (zM z (31, p)) (zM z (tv, jv)) 1) (vlF n (zM z (30, p)) (zM z (31, p)) (zM z (tv, jv)) 2) = -1))) z) := by
  refine (jCt.of "JoinLoom$Not" "isTrue" [(0, _), (1, _)] rfl rfl (by decide) (Nat.le_of_ble_eq_true rfl) rfl (fun Γ C hQ => ?_))
  refine g_aload_n C dX9_isTrue_0 rfl rfl ?_
  refine g_aload_n C dX9_isTrue_1 rfl rfl ?_
  refine g_cfi (g_runP C (m_X8_isTrue l z 32 p n tb c m tv jv q (Or.inr rfl) h1 h2 h3 hn hn3 hkv h4 hnm hr h5 h6 hc hc3 hm hm4 hq) ciX8_isTrue (by decide) q612 q1106 q409 q586 h1 rfl rfl rfl rfl (Nat.le_of_ble_eq_true rfl) dX9_isTrue_2 (by decide)) ?_
  refine g_if_ne_b (tgt := 12) C dX9_isTrue_5 (by decide) (fun c5 => ?_) (fun c5 => ?_)
  · refine g_iconst (v := nI 0) C dX9_isTrue_12 (by decide) ?_
    exact g_ireturn C hQ rfl (by omega) (by omega) dX9_isTrue_13 (by first | exact ⟨by rw [Bool.not_eq_true'] at c5; rw [c5]; rfl, rfl⟩ | exact ⟨by rw [Bool.not_eq_false'] at c5; rw [c5]; rfl, rfl⟩)
  · refine g_iconst (v := nI 1) C dX9_isTrue_8 (by decide) ?_
    refine g_goto (tgt := 13) C dX9_isTrue_9 (by decide) ?_
    exact g_ireturn C hQ rfl (by omega) (by omega) dX9_isTrue_13 (by first | exact ⟨by rw [Bool.not_eq_true'] at c5; rw [c5]; rfl, rfl⟩ | exact ⟨by rw [Bool.not_eq_false'] at c5; rw [c5]; rfl, rfl⟩)
def smN (a b : Int32) : Int32 := ((1 : Int32) <<< (a &&& 31)) ||| (if b = -1 then 0 else (1 : Int32) <<< (b &&& 31))
theorem m_X10_names (l : Launch) (z : JZ) (t p : Nat) (ht : t = 35 ∨ t = 36) (h1 : zL z (t, p) = true) : jCt l yX10_names cX10_names 1 (some FieldType.int) 1 0 0 [.ref (zA z (t, p))] z (jRi (smN (zM z (t, p) 1) (zM z (t, p) 2)) z) := by
  refine (jCt.of "JoinLoom$Same" "names" [(0, _)] rfl rfl (by decide) (Nat.le_of_ble_eq_true rfl) rfl (fun Γ C hQ => ?_))
  refine g_iconst (v := nI 1) C dX10_names_0 (by decide) ?_
  refine g_aload_n C dX10_names_1 rfl rfl ?_
  refine f_S_first ht C h1 (Or.inl q440) (Or.inl rfl) dX10_names_2 ?_
  refine g_ishl C dX10_names_5 ?_
  refine g_aload_n C dX10_names_6 rfl rfl ?_
  refine f_S_second ht C h1 (Or.inl q443) (Or.inl rfl) dX10_names_7 ?_
  refine g_iconst (v := (-1)) C dX10_names_10 (by decide) ?_
  refine g_icmp_ne (tgt := 18) C dX10_names_11 (by decide) (fun c11 => ?_) (fun c11 => ?_)
  · refine g_iconst (v := nI 1) C dX10_names_18 (by decide) ?_
    refine g_aload_n C dX10_names_19 rfl rfl ?_
    refine f_S_second ht C h1 (Or.inl q443) (Or.inl rfl) dX10_names_20 ?_
    refine g_ishl C dX10_names_23 ?_
    refine g_ior C dX10_names_24 ?_
    exact g_ireturn C hQ rfl (by omega) (by omega) dX10_names_25 (by first | exact ⟨by rw [smN, if_pos c11]; rfl, rfl⟩ | exact ⟨by rw [smN, if_neg c11]; rfl, rfl⟩)
  · refine g_iconst (v := nI 0) C dX10_names_14 (by decide) ?_
    refine g_goto (tgt := 24) C dX10_names_15 (by decide) ?_
    refine g_ior C dX10_names_24 ?_
    exact g_ireturn C hQ rfl (by omega) (by omega) dX10_names_25 (by first | exact ⟨by rw [smN, if_pos c11]; rfl, rfl⟩ | exact ⟨by rw [smN, if_neg c11]; rfl, rfl⟩)
def smO (b tl : Int32) (va : Nat → Int32) : Int32 := if b = -1 then tl else va b.toNatClampNeg
theorem m_X10_other (l : Launch) (z : JZ) (t p tv jv : Nat) (ht : t = 35 ∨ t = 36) (h1 : zL z (t, p) = true) (hkv : kd tv = .inl (0, 6)) (h4 : zL z (tv, jv) = true) (hb : zM z (t, p) 2 = -1 ∨ ∃ j, j < 6 ∧ zM z (t, p) 2 = nI j) : jCt l yX10_other cX10_other 2 (some FieldType.int) 1 0 0 [.ref (zA z (t, p)), .ref (zA z (tv, jv))] z (jRi (smO (zM z (t, p) 2) (zM z (t, p) 3) (zM z (tv, jv))) z) := by
  refine (jCt.of "JoinLoom$Same" "other" [(0, _), (1, _)] rfl rfl (by decide) (Nat.le_of_ble_eq_true rfl) rfl (fun Γ C hQ => ?_))
  refine g_aload_n C dX10_other_0 rfl rfl ?_
  refine f_S_second ht C h1 (Or.inl q443) (Or.inl rfl) dX10_other_1 ?_
  refine g_iconst (v := (-1)) C dX10_other_4 (by decide) ?_
  refine g_icmp_ne (tgt := 15) C dX10_other_5 (by decide) (fun c5 => ?_) (fun c5 => ?_)
  · obtain ⟨j, hj6, hj⟩ := hb.resolve_left c5
    refine g_aload_n C dX10_other_15 rfl rfl ?_
    refine g_aload_n C dX10_other_16 rfl rfl ?_
    refine f_S_second ht C h1 (Or.inl q443) (Or.inl rfl) dX10_other_17 ?_
    refine g_top (hj) ?_
    refine g_iald (n := 6) C hkv h4 rfl (by omega) (by decide) dX10_other_20 ?_
    exact g_ireturn C hQ rfl (by omega) (by omega) dX10_other_21 (by first | exact ⟨by rw [smO, if_pos c5], rfl⟩ | exact ⟨by rw [smO, if_neg c5, hj, nI_clamp (by omega)], rfl⟩)
  · refine g_aload_n C dX10_other_8 rfl rfl ?_
    refine f_S_told ht C h1 (Or.inl q444) (Or.inl rfl) dX10_other_9 ?_
    refine g_goto (tgt := 21) C dX10_other_12 (by decide) ?_
    exact g_ireturn C hQ rfl (by omega) (by omega) dX10_other_21 (by first | exact ⟨by rw [smO, if_pos c5], rfl⟩ | exact ⟨by rw [smO, if_neg c5, hj, nI_clamp (by omega)], rfl⟩)
theorem m_X10_isTrue (l : Launch) (z : JZ) (p tv jv a : Nat) (h1 : zL z (35, p) = true) (hkv : kd tv = .inl (0, 6)) (h4 : zL z (tv, jv) = true) (ha : a < 6) (hf : zM z (35, p) 1 = nI a) (hb : zM z (35, p) 2 = -1 ∨ ∃ j, j < 6 ∧ zM z (35, p) 2 = nI j) : jCt l yX10_isTrue cX10_isTrue 2 (some FieldType.boolean) 2 0 0 [.ref (zA z (35, p)), .ref (zA z (tv, jv))] z (jRi (jb (decide (zM z (tv, jv) a = smO (zM z (35, p) 2) (zM z (35, p) 3) (zM z (tv, jv))))) z) := by
  refine (jCt.of "JoinLoom$Same" "isTrue" [(0, _), (1, _)] rfl rfl (by decide) (Nat.le_of_ble_eq_true rfl) rfl (fun Γ C hQ => ?_))
  refine g_aload_n C dX10_isTrue_0 rfl rfl ?_
  refine g_aload_n C dX10_isTrue_1 rfl rfl ?_
  refine f_X10_first C h1 (Or.inl q440) (Or.inl rfl) dX10_isTrue_2 ?_
  refine g_top (hf) ?_
  refine g_iald (n := 6) C hkv h4 rfl (by omega) (by decide) dX10_isTrue_5 ?_
  refine g_aload_n C dX10_isTrue_6 rfl rfl ?_
  refine g_aload_n C dX10_isTrue_7 rfl rfl ?_
  refine g_cfi (g_runV C (m_X10_other l z 35 p tv jv (Or.inl rfl) h1 hkv h4 hb) ciX10_other q607 (Or.inl q1109) (Or.inl q616) h1 rfl rfl rfl rfl (Nat.le_of_ble_eq_true rfl) dX10_isTrue_8 (by decide)) ?_
  refine g_icmp_ne (tgt := 18) C dX10_isTrue_11 (by decide) (fun c11 => ?_) (fun c11 => ?_)
  · refine g_iconst (v := nI 0) C dX10_isTrue_18 (by decide) ?_
    exact g_ireturn C hQ rfl (by omega) (by omega) dX10_isTrue_19 (by first | exact ⟨by rw [decide_eq_true c11]; rfl, rfl⟩ | exact ⟨by rw [decide_eq_false c11]; rfl, rfl⟩)
  · refine g_iconst (v := nI 1) C dX10_isTrue_14 (by decide) ?_
    refine g_goto (tgt := 19) C dX10_isTrue_15 (by decide) ?_
    exact g_ireturn C hQ rfl (by omega) (by omega) dX10_isTrue_19 (by first | exact ⟨by rw [decide_eq_true c11]; rfl, rfl⟩ | exact ⟨by rw [decide_eq_false c11]; rfl, rfl⟩)
theorem m_X11_isTrue (l : Launch) (z : JZ) (p tv jv a : Nat) (h1 : zL z (36, p) = true) (hkv : kd tv = .inl (0, 6)) (h4 : zL z (tv, jv) = true) (ha : a < 6) (hf : zM z (36, p) 1 = nI a) (hb : zM z (36, p) 2 = -1 ∨ ∃ j, j < 6 ∧ zM z (36, p) 2 = nI j) : jCt l yX11_isTrue cX11_isTrue 2 (some FieldType.boolean) 2 0 0 [.ref (zA z (36, p)), .ref (zA z (tv, jv))] z (jRi (jb (decide (rk (zM z (tv, jv) a) < rk (smO (zM z (36, p) 2) (zM z (36, p) 3) (zM z (tv, jv)))))) z) := by
  refine (jCt.of "JoinLoom$Less" "isTrue" [(0, _), (1, _)] rfl rfl (by decide) (Nat.le_of_ble_eq_true rfl) rfl (fun Γ C hQ => ?_))
  refine g_aload_n C dX11_isTrue_0 rfl rfl ?_
  refine g_aload_n C dX11_isTrue_1 rfl rfl ?_
  refine f_X11_first C h1 (Or.inl q441) (Or.inr q442) dX11_isTrue_2 ?_
  refine g_top (hf) ?_
  refine g_iald (n := 6) C hkv h4 rfl (by omega) (by decide) dX11_isTrue_5 ?_
  refine g_cfl (g_runS C (m_X0_rank l z _) ciX0_rank q285 (Or.inr ⟨_, nq602⟩) rfl rfl (Nat.le_of_ble_eq_true rfl) dX11_isTrue_6 (by decide)) ?_
  refine g_aload_n C dX11_isTrue_9 rfl rfl ?_
  refine g_aload_n C dX11_isTrue_10 rfl rfl ?_
  refine g_cfi (g_runU (x := ⟨"JoinLoom$Less", "other", "([I)I"⟩) (owner := "JoinLoom$Same") C (m_X10_other l z 36 p tv jv (Or.inr rfl) h1 hkv h4 hb) ciX10_other (Or.inl nq605) rfl (by decide) q603 q604 q606 q607 h1 rfl rfl rfl rfl (Nat.le_of_ble_eq_true rfl) dX11_isTrue_11 (by decide)) ?_
  refine g_cfl (g_runS C (m_X0_rank l z _) ciX0_rank q285 (Or.inr ⟨_, nq602⟩) rfl rfl (Nat.le_of_ble_eq_true rfl) dX11_isTrue_14 (by decide)) ?_
  refine g_lcmp C dX11_isTrue_17 ?_
  refine g_if_ge_c (tgt := 25) C dX11_isTrue_18 (by decide) (fun c18 => ?_) (fun c18 => ?_)
  · refine g_iconst (v := nI 0) C dX11_isTrue_25 (by decide) ?_
    exact g_ireturn C hQ rfl (by omega) (by omega) dX11_isTrue_26 (by first | exact ⟨by rw [decide_eq_true ((rkL_lt _ _).mp c18)]; rfl, rfl⟩ | exact ⟨by rw [decide_eq_false (fun e => c18 ((rkL_lt _ _).mpr e))]; rfl, rfl⟩)
  · refine g_iconst (v := nI 1) C dX11_isTrue_21 (by decide) ?_
    refine g_goto (tgt := 26) C dX11_isTrue_22 (by decide) ?_
    exact g_ireturn C hQ rfl (by omega) (by omega) dX11_isTrue_26 (by first | exact ⟨by rw [decide_eq_true ((rkL_lt _ _).mp c18)]; rfl, rfl⟩ | exact ⟨by rw [decide_eq_false (fun e => c18 ((rkL_lt _ _).mpr e))]; rfl, rfl⟩)
