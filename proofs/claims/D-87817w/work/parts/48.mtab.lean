set_option maxRecDepth 100000
theorem inR {x : Int32} {n : Nat} (hn : n < 2147483648) (h : nI 0 ≤ x ∧ x ≤ nI n) : ∃ j, j ≤ n ∧ x = nI j :=
  nI_of2 (nI_toInt hn) (Int32.not_lt.mpr h.1) h.2
theorem inR_mk {j n : Nat} (hn : n < 2147483648) (h : j ≤ n) : nI 0 ≤ nI j ∧ nI j ≤ nI n := ⟨nI_pos' (by omega), nI_le h hn⟩
/-- below a count -/
theorem ltR {x : Int32} {m : Nat} (hm : m < 2147483648) : (nI 0 ≤ x ∧ x ≤ nI m - nI 1) ↔ ∃ j, j < m ∧ x = nI j := by
  cases m with
  | zero =>
    constructor
    · rintro ⟨h1, h2⟩
      rw [Int32.le_iff_toInt_le] at h1 h2
      have e1 : (nI 0).toInt = 0 := rfl
      have e2 : (nI 0 - nI 1).toInt = -1 := rfl
      omega
    · rintro ⟨j, hj, -⟩; omega
  | succ m =>
    rw [show nI (m + 1) - nI 1 = nI m from nI_pred m]
    constructor
    · intro h
      obtain ⟨j, hj, e⟩ := inR (by omega) h
      exact ⟨j, by omega, e⟩
    · rintro ⟨j, hj, rfl⟩
      exact inR_mk (by omega) (by omega)
def isT (T : JT) (x : Int32) : Bool := decide (nI 0 ≤ x ∧ x ≤ nI 7) && decide (0 < tc T x.toNatClampNeg)
def mTs (z : JZ) (T : JT) : Prop := ∀ t, t < 8 → mTb z T t
theorem isT_ok {T : JT} {x : Int32} (h : isT T x = true) : ∃ t, t < 8 ∧ x = nI t ∧ 0 < tc T t := by
  unfold isT at h
  obtain ⟨h1, h2⟩ := Bool.and_eq_true_iff.mp h
  obtain ⟨j, hj, rfl⟩ := inR (by decide) (of_decide_eq_true h1)
  have := of_decide_eq_true h2
  rw [nI_clamp (by omega)] at this
  exact ⟨j, by omega, rfl, this⟩
theorem m_X4_isTable (l : Launch) (z : JZ) (T : JT) (x : Int32) (hL : mdL z) (hT : wT T) (h : mTs z T) : jCt l yX4_isTable cX4_isTable 2 (some FieldType.boolean) 2 0 0 [.ref (zA z (40, 0)), .int x] z (jRi (jb (isT T x)) z) := by
  refine (jCt.of "JoinLoomModel" "isTable" [(0, _), (1, _)] rfl rfl (by decide) (Nat.le_of_ble_eq_true rfl) rfl (fun Γ C hQ => ?_))
  refine g_iload_n C dX4_isTable_0 rfl rfl ?_
  refine g_iconst (v := nI 0) C dX4_isTable_1 (by decide) ?_
  refine g_bipush (v := nI 7) C dX4_isTable_2 (by decide) ?_
  refine g_cfi (g_runS C (m_X4_lies l z x (nI 0) (nI 7)) ciX4_lies q865 (Or.inl q864) rfl rfl (Nat.le_of_ble_eq_true rfl) dX4_isTable_4 (by decide)) ?_
  refine g_if_eq_b (tgt := 23) C dX4_isTable_7 (by decide) (fun c7 => ?_) (fun c7 => ?_)
  · refine g_iconst (v := nI 0) C dX4_isTable_23 (by decide) ?_
    exact g_ireturn C hQ rfl (by omega) (by omega) dX4_isTable_24 (by first | exact ⟨by rw [isT, c7, nI_clamp (by omega), decide_eq_true c16]; rfl, rfl⟩ | exact ⟨by rw [isT, c7, nI_clamp (by omega), decide_eq_false (by omega)]; rfl, rfl⟩ | exact ⟨by rw [isT, c7]; rfl, rfl⟩)
  · obtain ⟨j, hj, rfl⟩ := inR (by decide) (of_decide_eq_true c7)
    have hc3 := (hT j (by omega)).1
    refine g_aload_n C dX4_isTable_10 rfl rfl ?_
    refine f_X4_columns C (hL _ (by decide)) (Or.inl q765) (Or.inl rfl) dX4_isTable_11 ?_
    refine g_iload_n C dX4_isTable_14 rfl rfl ?_
    refine g_iald (n := 8) C rfl (hL _ (by decide)) rfl (by omega) (by decide) dX4_isTable_15 ?_
    refine g_top ((h j (by omega)).1) ?_
    refine g_if_le_n (tgt := 23) C dX4_isTable_16 (by decide) (by omega) (fun c16 => ?_) (fun c16 => ?_)
    · refine g_iconst (v := nI 0) C dX4_isTable_23 (by decide) ?_
      exact g_ireturn C hQ rfl (by omega) (by omega) dX4_isTable_24 (by first | exact ⟨by rw [isT, c7, nI_clamp (by omega), decide_eq_true c16]; rfl, rfl⟩ | exact ⟨by rw [isT, c7, nI_clamp (by omega), decide_eq_false (by omega)]; rfl, rfl⟩ | exact ⟨by rw [isT, c7]; rfl, rfl⟩)
    · refine g_iconst (v := nI 1) C dX4_isTable_19 (by decide) ?_
      refine g_goto (tgt := 24) C dX4_isTable_20 (by decide) ?_
      exact g_ireturn C hQ rfl (by omega) (by omega) dX4_isTable_24 (by first | exact ⟨by rw [isT, c7, nI_clamp (by omega), decide_eq_true c16]; rfl, rfl⟩ | exact ⟨by rw [isT, c7, nI_clamp (by omega), decide_eq_false (by omega)]; rfl, rfl⟩ | exact ⟨by rw [isT, c7]; rfl, rfl⟩)
def rowsA (T : JT) (x : Int32) : Int32 := if isT T x = true then nI (tm T x.toNatClampNeg) else -1
theorem m_X4_rows (l : Launch) (z : JZ) (T : JT) (x : Int32) (hL : mdL z) (hT : wT T) (h : mTs z T) : jCt l yX4_rows cX4_rows 2 (some FieldType.int) 3 0 0 [.ref (zA z (40, 0)), .int x] z (jRi (rowsA T x) z) := by
  refine (jCt.of "JoinLoomModel" "rows" [(0, _), (1, _)] rfl rfl (by decide) (Nat.le_of_ble_eq_true rfl) rfl (fun Γ C hQ => ?_))
  refine g_aload_n C dX4_rows_0 rfl rfl ?_
  refine g_iload_n C dX4_rows_1 rfl rfl ?_
  refine g_cfi (g_runV C (m_X4_isTable l z T x hL hT h) ciX4_isTable q873 (Or.inl qs25) (Or.inl q871) (hL _ (by decide)) rfl rfl rfl rfl (Nat.le_of_ble_eq_true rfl) dX4_rows_2 (by decide)) ?_
  refine g_if_eq_b (tgt := 17) C dX4_rows_5 (by decide) (fun c5 => ?_) (fun c5 => ?_)
  · refine g_iconst (v := (-1)) C dX4_rows_17 (by decide) ?_
    exact g_ireturn C hQ rfl (by omega) (by omega) dX4_rows_18 (by first | exact ⟨by rw [rowsA, if_pos c5, nI_clamp (by omega)], rfl⟩ | exact ⟨by rw [rowsA, if_neg (by rw [c5]; decide)], rfl⟩)
  · obtain ⟨j, hj, rfl, h0⟩ := isT_ok c5
    refine g_aload_n C dX4_rows_8 rfl rfl ?_
    refine f_X4_many C (hL _ (by decide)) (Or.inl q766) (Or.inl rfl) dX4_rows_9 ?_
    refine g_iload_n C dX4_rows_12 rfl rfl ?_
    refine g_iald (n := 8) C rfl (hL _ (by decide)) rfl (by omega) (by decide) dX4_rows_13 ?_
    refine g_top ((h j hj).2.1) ?_
    refine g_goto (tgt := 18) C dX4_rows_14 (by decide) ?_
    exact g_ireturn C hQ rfl (by omega) (by omega) dX4_rows_18 (by first | exact ⟨by rw [rowsA, if_pos c5, nI_clamp (by omega)], rfl⟩ | exact ⟨by rw [rowsA, if_neg (by rw [c5]; decide)], rfl⟩)
def rowA (T : JT) (x i c : Int32) : Int32 := if isT T x = true ∧ (nI 0 ≤ i ∧ i ≤ nI (tm T x.toNatClampNeg) - nI 1) ∧ (nI 0 ≤ c ∧ c ≤ nI (tc T x.toNatClampNeg) - nI 1) then tv T x.toNatClampNeg i.toNatClampNeg c.toNatClampNeg else 0
theorem m_X4_row (l : Launch) (z : JZ) (T : JT) (x i c : Int32) (hL : mdL z) (hT : wT T) (h : mTs z T) : jCt l yX4_row cX4_row 4 (some FieldType.int) 3 0 0 [.ref (zA z (40, 0)), .int x, .int i, .int c] z (jRi (rowA T x i c) z) := by
  refine (jCt.of "JoinLoomModel" "row" [(0, _), (1, _), (2, _), (3, _)] rfl rfl (by decide) (Nat.le_of_ble_eq_true rfl) rfl (fun Γ C hQ => ?_))
  refine g_aload_n C dX4_row_0 rfl rfl ?_
  refine g_iload_n C dX4_row_1 rfl rfl ?_
  refine g_cfi (g_runV C (m_X4_isTable l z T x hL hT h) ciX4_isTable q873 (Or.inl qs25) (Or.inl q871) (hL _ (by decide)) rfl rfl rfl rfl (Nat.le_of_ble_eq_true rfl) dX4_row_2 (by decide)) ?_
  refine g_if_eq_b (tgt := 50) C dX4_row_5 (by decide) (fun c5 => ?_) (fun c5 => ?_)
  · refine g_iconst (v := nI 0) C dX4_row_50 (by decide) ?_
    exact g_ireturn C hQ rfl (by omega) (by omega) dX4_row_51 (by first | exact ⟨by rw [rowA, if_pos ⟨c5, by rw [ex]; exact of_decide_eq_true c21, by rw [ex]; exact of_decide_eq_true c37⟩, ex, nI_clamp (by omega), nI_clamp (by omega)], rfl⟩ | exact ⟨by rw [rowA, if_neg (fun e => of_decide_eq_false c37 (by have := e.2.2; rw [ex] at this; exact this))]; rfl, rfl⟩ | exact ⟨by rw [rowA, if_neg (fun e => of_decide_eq_false c21 (by have := e.2.1; rw [ex] at this; exact this))]; rfl, rfl⟩ | exact ⟨by rw [rowA, if_neg (fun e => by rw [c5] at e; exact absurd e.1 (by decide))]; rfl, rfl⟩)
  · obtain ⟨t, ht, rfl, h0⟩ := isT_ok c5
    obtain ⟨t1, t2, -⟩ := hT t ht
    have ex : (nI t).toNatClampNeg = t := nI_clamp (by omega)
    refine g_iload_n C dX4_row_8 rfl rfl ?_
    refine g_iconst (v := nI 0) C dX4_row_9 (by decide) ?_
    refine g_aload_n C dX4_row_10 rfl rfl ?_
    refine f_X4_many C (hL _ (by decide)) (Or.inl q766) (Or.inl rfl) dX4_row_11 ?_
    refine g_iload_n C dX4_row_14 rfl rfl ?_
    refine g_iald (n := 8) C rfl (hL _ (by decide)) rfl (by omega) (by decide) dX4_row_15 ?_
    refine g_top ((h t ht).2.1) ?_
    refine g_iconst (v := nI 1) C dX4_row_16 (by decide) ?_
    refine g_isub C dX4_row_17 ?_
    refine g_cfi (g_runS C (m_X4_lies l z _ _ _) ciX4_lies q865 (Or.inl q864) rfl rfl (Nat.le_of_ble_eq_true rfl) dX4_row_18 (by decide)) ?_
    refine g_if_eq_b (tgt := 50) C dX4_row_21 (by decide) (fun c21 => ?_) (fun c21 => ?_)
    · refine g_iconst (v := nI 0) C dX4_row_50 (by decide) ?_
      exact g_ireturn C hQ rfl (by omega) (by omega) dX4_row_51 (by first | exact ⟨by rw [rowA, if_pos ⟨c5, by rw [ex]; exact of_decide_eq_true c21, by rw [ex]; exact of_decide_eq_true c37⟩, ex, nI_clamp (by omega), nI_clamp (by omega)], rfl⟩ | exact ⟨by rw [rowA, if_neg (fun e => of_decide_eq_false c37 (by have := e.2.2; rw [ex] at this; exact this))]; rfl, rfl⟩ | exact ⟨by rw [rowA, if_neg (fun e => of_decide_eq_false c21 (by have := e.2.1; rw [ex] at this; exact this))]; rfl, rfl⟩ | exact ⟨by rw [rowA, if_neg (fun e => by rw [c5] at e; exact absurd e.1 (by decide))]; rfl, rfl⟩)
    · refine g_iload_n C dX4_row_24 rfl rfl ?_
      refine g_iconst (v := nI 0) C dX4_row_25 (by decide) ?_
      refine g_aload_n C dX4_row_26 rfl rfl ?_
      refine f_X4_columns C (hL _ (by decide)) (Or.inl q765) (Or.inl rfl) dX4_row_27 ?_
      refine g_iload_n C dX4_row_30 rfl rfl ?_
      refine g_iald (n := 8) C rfl (hL _ (by decide)) rfl (by omega) (by decide) dX4_row_31 ?_
      refine g_top ((h t ht).1) ?_
      refine g_iconst (v := nI 1) C dX4_row_32 (by decide) ?_
      refine g_isub C dX4_row_33 ?_
      refine g_cfi (g_runS C (m_X4_lies l z _ _ _) ciX4_lies q865 (Or.inl q864) rfl rfl (Nat.le_of_ble_eq_true rfl) dX4_row_34 (by decide)) ?_
      refine g_if_eq_b (tgt := 50) C dX4_row_37 (by decide) (fun c37 => ?_) (fun c37 => ?_)
      · refine g_iconst (v := nI 0) C dX4_row_50 (by decide) ?_
        exact g_ireturn C hQ rfl (by omega) (by omega) dX4_row_51 (by first | exact ⟨by rw [rowA, if_pos ⟨c5, by rw [ex]; exact of_decide_eq_true c21, by rw [ex]; exact of_decide_eq_true c37⟩, ex, nI_clamp (by omega), nI_clamp (by omega)], rfl⟩ | exact ⟨by rw [rowA, if_neg (fun e => of_decide_eq_false c37 (by have := e.2.2; rw [ex] at this; exact this))]; rfl, rfl⟩ | exact ⟨by rw [rowA, if_neg (fun e => of_decide_eq_false c21 (by have := e.2.1; rw [ex] at this; exact this))]; rfl, rfl⟩ | exact ⟨by rw [rowA, if_neg (fun e => by rw [c5] at e; exact absurd e.1 (by decide))]; rfl, rfl⟩)
      · obtain ⟨a, ha, rfl⟩ := (ltR (by omega)).mp (of_decide_eq_true c21)
        obtain ⟨b, hb, rfl⟩ := (ltR (by omega)).mp (of_decide_eq_true c37)
        refine g_aload_n C dX4_row_40 rfl rfl ?_
        refine g_iload_n C dX4_row_41 rfl rfl ?_
        refine g_iload_n C dX4_row_42 rfl rfl ?_
        refine g_iload_n C dX4_row_43 rfl rfl ?_
        refine g_cfi (g_runV C (mT_cell l z T t a b hL ht hT (h t ht) ha hb) ciX4_cell q885 (Or.inl qs28) (Or.inl q883) (hL _ (by decide)) rfl rfl rfl rfl (Nat.le_of_ble_eq_true rfl) dX4_row_44 (by decide)) ?_
        refine g_goto (tgt := 51) C dX4_row_47 (by decide) ?_
        exact g_ireturn C hQ rfl (by omega) (by omega) dX4_row_51 (by first | exact ⟨by rw [rowA, if_pos ⟨c5, by rw [ex]; exact of_decide_eq_true c21, by rw [ex]; exact of_decide_eq_true c37⟩, ex, nI_clamp (by omega), nI_clamp (by omega)], rfl⟩ | exact ⟨by rw [rowA, if_neg (fun e => of_decide_eq_false c37 (by have := e.2.2; rw [ex] at this; exact this))]; rfl, rfl⟩ | exact ⟨by rw [rowA, if_neg (fun e => of_decide_eq_false c21 (by have := e.2.1; rw [ex] at this; exact this))]; rfl, rfl⟩ | exact ⟨by rw [rowA, if_neg (fun e => by rw [c5] at e; exact absurd e.1 (by decide))]; rfl, rfl⟩)
