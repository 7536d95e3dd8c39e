set_option maxRecDepth 100000
/-! ===== the abstract value: tables and the question ===== -/
abbrev JT : Type := (Nat → Nat) × (Nat → Nat) × (Nat → Nat → Nat → Int32)
def tc (T : JT) : Nat → Nat := T.1
def tm (T : JT) : Nat → Nat := T.2.1
def tv (T : JT) : Nat → Nat → Nat → Int32 := T.2.2
abbrev JQ : Type := Nat × Nat × (Nat → Nat) × (Nat → Nat) × (Nat → Nat) × (Nat → Nat → Int32) × (Nat → Nat → Int32) × (Nat → Nat)
def qn (Q : JQ) : Nat := Q.1
def qp (Q : JQ) : Nat := Q.2.1
def qk (Q : JQ) : Nat → Nat := Q.2.2.1
def qt (Q : JQ) : Nat → Nat := Q.2.2.2.1
def ql (Q : JQ) : Nat → Nat := Q.2.2.2.2.1
def qm (Q : JQ) : Nat → Nat → Int32 := Q.2.2.2.2.2.1
def qv (Q : JQ) : Nat → Nat → Int32 := Q.2.2.2.2.2.2.1
def qo (Q : JQ) : Nat → Nat := Q.2.2.2.2.2.2.2
def qTag (k : Nat) : Nat := if k = 0 then 29 else if k = 1 then 32 else if k = 2 then 35 else 36
def cntF (P : Nat → Bool) : Nat → Nat
  | 0 => 0
  | n + 1 => cntF P n + (if P n = true then 1 else 0)
def hav (Q : JQ) : Nat := cntF (fun p => decide (qk Q p = 0)) (qp Q)
/-- tables: few columns, few rows, rows in strict order -/
def wT (T : JT) : Prop := ∀ t, t < 8 → tc T t ≤ 3 ∧ tm T t ≤ 40 ∧ ∀ a b, a < b → b < tm T t → cmpF (tv T t a) (tv T t b) (tc T t) 0 < 0
def wPt (T : JT) (Q : JQ) (p : Nat) : Prop := qk Q p ≤ 3 ∧ (qk Q p ≤ 1 → qt Q p < 8 ∧ 0 < tc T (qt Q p) ∧ ql Q p ≤ tc T (qt Q p)) ∧ (2 ≤ qk Q p → ql Q p = 2 ∧ ∃ a, a < qn Q ∧ qm Q p 0 = nI a) ∧ ∀ i, i < ql Q p → qm Q p i = -1 ∨ ∃ j, j < qn Q ∧ qm Q p i = nI j
def wQ (T : JT) (Q : JQ) : Prop := qn Q ≤ 6 ∧ qp Q ≤ 10 ∧ (∀ p, p < qp Q → wPt T Q p) ∧ hav Q ≤ 5 ∧ (∀ k, k < qn Q → qo Q k < qn Q) ∧ ∀ a b, a < qn Q → b < qn Q → qo Q a = qo Q b → a = b
/-- the system's table t -/
def sTb (z : JZ) (T : JT) (t : Nat) : Prop := zL z (27, t) = true ∧ zL z (28, t) = true ∧ zM z (27, t) 0 = nI (tc T t) ∧ zM z (27, t) 2 = nI (tm T t) ∧ ∀ r c, r < tm T t → c < tc T t → zM z (28, t) (r * 3 + c) = tv T t r c
/-- the system's part p -/
def sPt (z : JZ) (Q : JQ) (p : Nat) : Prop := zR z (25, 0) p = some (zA z (qTag (qk Q p), p)) ∧ zL z (qTag (qk Q p), p) = true ∧ zM z (qTag (qk Q p), p) 0 = nI (qk Q p) ∧ (qk Q p ≤ 1 → zL z (30, p) = true ∧ zL z (31, p) = true ∧ zR z (qTag (qk Q p), p) 1 = some (zA z (27, qt Q p)) ∧ zM z (qTag (qk Q p), p) 2 = nI (qt Q p) ∧ zM z (qTag (qk Q p), p) 5 = nI (ql Q p) ∧ ∀ i, i < ql Q p → zM z (30, p) i = qm Q p i ∧ (qm Q p i = -1 → zM z (31, p) i = qv Q p i)) ∧ (2 ≤ qk Q p → zM z (qTag (qk Q p), p) 1 = qm Q p 0 ∧ zM z (qTag (qk Q p), p) 2 = qm Q p 1 ∧ (qm Q p 1 = -1 → zM z (qTag (qk Q p), p) 3 = qv Q p 1))
/-- the system's question, its parts, its tables -/
def sQn (z : JZ) (T : JT) (Q : JQ) : Prop := zL z (24, 0) = true ∧ zL z (25, 0) = true ∧ zL z (26, 0) = true ∧ zM z (24, 0) 0 = nI (qn Q) ∧ zM z (24, 0) 2 = nI (qp Q) ∧ zM z (24, 0) 3 = nI (hav Q) ∧ (∀ k, k < qn Q → zM z (26, 0) k = nI (qo Q k)) ∧ (∀ p, p < qp Q → sPt z Q p) ∧ ∀ p, p < qp Q → qk Q p ≤ 1 → sTb z T (qt Q p)
/-! first of some -/
def firstF (P : Nat → Bool) : Nat → Nat → Option Nat
  | 0, _ => none
  | n + 1, k => if P k = true then some k else firstF P n (k + 1)
theorem firstF_some {P : Nat → Bool} : ∀ {n k j : Nat}, k ≤ j → j < k + n → P j = true → (∀ i, k ≤ i → i < j → P i = false) → firstF P n k = some j
  | 0, k, j, h1, h2, _, _ => by omega
  | n + 1, k, j, h1, h2, h3, h4 => by
    unfold firstF
    by_cases e : j = k
    · subst e; rw [if_pos h3]
    · rw [if_neg (by rw [h4 k (Nat.le_refl _) (by omega)]; decide)]
      exact firstF_some (by omega) (by omega) h3 (fun i hi hi2 => h4 i (by omega) hi2)
theorem firstF_none {P : Nat → Bool} : ∀ {n k : Nat}, (∀ i, k ≤ i → i < k + n → P i = false) → firstF P n k = none
  | 0, _, _ => rfl
  | n + 1, k, h => by
    unfold firstF
    rw [if_neg (by rw [h k (Nat.le_refl _) (by omega)]; decide)]
    exact firstF_none (fun i hi hi2 => h i (by omega) (by omega))
theorem firstF_cases {P : Nat → Bool} : ∀ (n k : Nat), (firstF P n k = none ∧ ∀ i, k ≤ i → i < k + n → P i = false) ∨ ∃ j, firstF P n k = some j ∧ k ≤ j ∧ j < k + n ∧ P j = true ∧ ∀ i, k ≤ i → i < j → P i = false
  | 0, k => Or.inl ⟨rfl, fun i h1 h2 => by omega⟩
  | n + 1, k => by
    unfold firstF
    by_cases e : P k = true
    · rw [if_pos e]
      exact Or.inr ⟨k, rfl, Nat.le_refl _, by omega, e, fun i h1 h2 => by omega⟩
    · rw [if_neg e]
      have e' : P k = false := by cases h : P k with | false => rfl | true => exact absurd h e
      rcases firstF_cases (P := P) n (k + 1) with ⟨h1, h2⟩ | ⟨j, h1, h2, h3, h4, h5⟩
      · refine Or.inl ⟨h1, fun i hi hi2 => ?_⟩
        rcases Nat.lt_or_ge k i with h | h
        · exact h2 i (by omega) (by omega)
        · have : i = k := by omega
          rw [this]; exact e'
      · refine Or.inr ⟨j, h1, by omega, by omega, h4, fun i hi hi2 => ?_⟩
        rcases Nat.lt_or_ge k i with h | h
        · exact h5 i (by omega) hi2
        · have : i = k := by omega
          rw [this]; exact e'
def oI (o : Option Nat) : Int32 := match o with
  | some k => nI k
  | none => -1
theorem oI_some (k : Nat) : oI (some k) = nI k := rfl
/-- the row of a table that has the values v -/
def rowO (T : JT) (t : Nat) (v : Nat → Int32) : Option Nat := firstF (fun r => decide (cmpF (tv T t r) v (tc T t) 0 = 0)) (tm T t) 0
/-- the first row of a table that is not ahead of v -/
def plcO (T : JT) (t : Nat) (v : Nat → Int32) : Nat := (firstF (fun r => decide (¬ cmpF (tv T t r) v (tc T t) 0 < 0)) (tm T t) 0).getD (tm T t)
theorem cmpF_lt_trans {u v w : Nat → Int32} {n k : Nat} (h1 : cmpF u v n k < 0) (h2 : ¬ 0 < cmpF v w n k) : cmpF u w n k < 0 := by
  have h1' := cmpF_asym.mpr h1
  rw [← cmpF_asym]
  apply Classical.byContradiction
  intro h
  exact cmpF_le_trans h2 h h1'
theorem cmpF_lt_trans2 {u v w : Nat → Int32} {n k : Nat} (h1 : ¬ 0 < cmpF u v n k) (h2 : cmpF v w n k < 0) : cmpF u w n k < 0 := by
  have h2' := cmpF_asym.mpr h2
  rw [← cmpF_asym]
  apply Classical.byContradiction
  intro h
  exact cmpF_le_trans h h1 h2'
theorem i32_lt_ne {x : Int32} (h : x < 0) : ¬ x = 0 := fun e => by rw [e] at h; exact absurd h (by decide)
theorem i32_lt_np {x : Int32} (h : x < 0) : ¬ 0 < x := fun e => by
  rw [Int32.lt_iff_toInt_lt] at h e
  omega
theorem i32_z_np {x : Int32} (h : x = 0) : ¬ 0 < x := fun e => by rw [h] at e; exact absurd e (by decide)
theorem plc_spec {T : JT} {t : Nat} (hs : ∀ a b, a < b → b < tm T t → cmpF (tv T t a) (tv T t b) (tc T t) 0 < 0) (v : Nat → Int32) : plcO T t v ≤ tm T t ∧ (∀ i, i < plcO T t v → cmpF (tv T t i) v (tc T t) 0 < 0) ∧ (∀ i, plcO T t v ≤ i → i < tm T t → ¬ cmpF (tv T t i) v (tc T t) 0 < 0) ∧ rowO T t v = (if plcO T t v < tm T t ∧ cmpF (tv T t (plcO T t v)) v (tc T t) 0 = 0 then some (plcO T t v) else none) := by
  rcases firstF_cases (P := fun r => decide (¬ cmpF (tv T t r) v (tc T t) 0 < 0)) (tm T t) 0 with ⟨h1, h2⟩ | ⟨j, h1, h2, h3, h4, h5⟩
  · have e : plcO T t v = tm T t := by unfold plcO; rw [h1]; rfl
    have hl : ∀ i, i < tm T t → cmpF (tv T t i) v (tc T t) 0 < 0 := fun i hi => Classical.not_not.mp (of_decide_eq_false (h2 i (by omega) (by omega)))
    rw [e]
    refine ⟨Nat.le_refl _, hl, fun i h1 h2 => by omega, ?_⟩
    rw [if_neg (by omega)]
    exact firstF_none (fun i _ hi => decide_eq_false (i32_lt_ne (hl i (by omega))))
  · have e : plcO T t v = j := by unfold plcO; rw [h1]; rfl
    have hl : ∀ i, i < j → cmpF (tv T t i) v (tc T t) 0 < 0 := fun i hi => Classical.not_not.mp (of_decide_eq_false (h5 i (by omega) hi))
    have hj := of_decide_eq_true h4
    have hg : ∀ i, j ≤ i → i < tm T t → ¬ cmpF (tv T t i) v (tc T t) 0 < 0 := by
      intro i hi hi2 hc
      rcases Nat.lt_or_ge j i with h | h
      · exact hj (cmpF_lt_trans (hs j i h hi2) (i32_lt_np hc))
      · have : i = j := by omega
        rw [this] at hc
        exact hj hc
    rw [e]
    refine ⟨by omega, hl, hg, ?_⟩
    by_cases hz : cmpF (tv T t j) v (tc T t) 0 = 0
    · rw [if_pos ⟨by omega, hz⟩]
      exact firstF_some (by omega) h3 (decide_eq_true hz) (fun i _ hi => decide_eq_false (i32_lt_ne (hl i hi)))
    · rw [if_neg (fun h => hz h.2)]
      refine firstF_none (fun i _ hi => decide_eq_false (fun hc => ?_))
      rcases Nat.lt_or_ge i j with h | h
      · exact i32_lt_ne (hl i h) hc
      · rcases Nat.lt_or_ge j i with h6 | h6
        · exact hj (cmpF_lt_trans (hs j i h6 (by omega)) (i32_z_np hc))
        · have : i = j := by omega
          rw [this] at hc
          exact hz hc
theorem sTb_cmp {z : JZ} {T : JT} {t : Nat} (h : sTb z T t) {r : Nat} (hr : r < tm T t) (v : Nat → Int32) : cmpF (fun k => zM z (28, t) (r * 3 + k)) v (tc T t) 0 = cmpF (tv T t r) v (tc T t) 0 :=
  cmpF_congr (fun i _ hi => ⟨h.2.2.2.2 r i hr (by omega), rfl⟩)
theorem sTb_pl {z : JZ} {T : JT} {t : Nat} (h : sTb z T t) (hs : ∀ a b, a < b → b < tm T t → cmpF (tv T t a) (tv T t b) (tc T t) 0 < 0) (a b c : Int32) : jPl3 z t (tc T t) (tm T t) (plcO T t (sel3 a b c)) a b c ∧ jFind z t (tc T t) (tm T t) (plcO T t (sel3 a b c)) a b c = oI (rowO T t (sel3 a b c)) := by
  obtain ⟨h1, h2, h3, h4⟩ := plc_spec hs (sel3 a b c)
  refine ⟨⟨h1, fun i hi => by rw [sTb_cmp h (by omega)]; exact h2 i hi, fun i hi hi2 => by rw [sTb_cmp h hi2]; exact h3 i hi hi2⟩, ?_⟩
  rw [h4]
  unfold jFind
  by_cases e : plcO T t (sel3 a b c) < tm T t
  · rw [sTb_cmp h e]
    split <;> rfl
  · rw [if_neg (fun x => e x.1), if_neg (fun x => e x.1)]
    rfl
/-! ===== at the abstract value ===== -/
theorem mT_find (l : Launch) (z : JZ) (T : JT) (t : Nat) (ht : t < 8) (hT : wT T) (h : sTb z T t) (a b c : Int32) : jCt l yX5_find cX5_find 5 (some FieldType.int) 4 0 0 [.ref (zA z (27, t)), .int a, .int b, .int c] z (jRi (oI (rowO T t (sel3 a b c))) z) := by
  obtain ⟨w1, w2, w3⟩ := hT t ht
  obtain ⟨e1, e2⟩ := sTb_pl h w3 a b c
  rw [← e2]
  exact m_X5_find l z t (tc T t) (tm T t) _ a b c h.1 h.2.1 h.2.2.1 w1 w2 h.2.2.2.1 e1
theorem mT_place (l : Launch) (z : JZ) (T : JT) (t : Nat) (ht : t < 8) (hT : wT T) (h : sTb z T t) (a b c : Int32) : jCt l yX5_place cX5_place 7 (some FieldType.int) 3 0 0 [.ref (zA z (27, t)), .int a, .int b, .int c] z (jRi (nI (plcO T t (sel3 a b c))) z) := by
  obtain ⟨w1, w2, w3⟩ := hT t ht
  obtain ⟨e1, e2⟩ := sTb_pl h w3 a b c
  exact m_X5_place l z t (tc T t) (tm T t) _ a b c h.1 h.2.1 h.2.2.1 w1 w2 h.2.2.2.1 e1
theorem mT_at (l : Launch) (z : JZ) (T : JT) (t r c : Nat) (ht : t < 8) (hT : wT T) (h : sTb z T t) (hr : r < tm T t) (hc : c < tc T t) : jCt l yX5_at cX5_at 3 (some FieldType.int) 1 0 0 [.ref (zA z (27, t)), .int (nI r), .int (nI c)] z (jRi (tv T t r c) z) := by
  obtain ⟨w1, w2, w3⟩ := hT t ht
  rw [← h.2.2.2.2 r c hr hc]
  exact m_X5_at l z t r c h.1 h.2.1 (by omega)
