set_option maxRecDepth 100000
theorem qTag_or (k : Nat) : qTag k = 29 ∨ qTag k = 32 ∨ qTag k = 35 ∨ qTag k = 36 := by
  unfold qTag
  split
  · exact Or.inl rfl
  · split
    · exact Or.inr (Or.inl rfl)
    · split
      · exact Or.inr (Or.inr (Or.inl rfl))
      · exact Or.inr (Or.inr (Or.inr rfl))
theorem qTag_le {k : Nat} (h : k ≤ 1) : qTag k = 29 ∨ qTag k = 32 := by
  rcases (show k = 0 ∨ k = 1 by omega) with rfl | rfl
  · exact Or.inl rfl
  · exact Or.inr rfl
theorem nmF_congr {f g : Nat → Int32} : ∀ {n : Nat}, (∀ i, i < n → f i = g i) → nmF f n = nmF g n
  | 0, _ => rfl
  | n + 1, h => by
    have ih := nmF_congr (f := f) (g := g) (n := n) (fun i hi => h i (by omega))
    simp only [nmF, h n (by omega), ih]
/-- the value of a place of a part, out of a row of values by names -/
def plV (Q : JQ) (p : Nat) (va : Nat → Int32) (i : Nat) : Int32 := if qm Q p i = -1 then qv Q p i else va (qm Q p i).toNatClampNeg
/-- whether a part that is no 'has' is true of values -/
def trP (T : JT) (Q : JQ) (p : Nat) (va : Nat → Int32) : Bool := if qk Q p = 1 then decide (rowO T (qt Q p) (plV Q p va) = none) else if qk Q p = 2 then decide (plV Q p va 0 = plV Q p va 1) else decide (rk (plV Q p va 0) < rk (plV Q p va 1))
def whP (T : JT) (Q : JQ) (p : Nat) : Bool := decide (qk Q p ≤ 1 → ql Q p = tc T (qt Q p))
theorem rowO_congr {T : JT} {t : Nat} {u v : Nat → Int32} (h : ∀ i, i < tc T t → u i = v i) : rowO T t u = rowO T t v := by
  unfold rowO
  congr 1
  funext r
  rw [cmpF_congr (u' := tv T t r) (v' := v) (fun i _ hi => ⟨rfl, h i (by omega)⟩)]
theorem rowO_lt {T : JT} {t : Nat} {v : Nat → Int32} {r : Nat} (h : rowO T t v = some r) : r < tm T t := by
  rcases firstF_cases (P := fun r => decide (cmpF (tv T t r) v (tc T t) 0 = 0)) (tm T t) 0 with ⟨h1, -⟩ | ⟨j, h1, h2, h3, -⟩
  · unfold rowO at h; rw [h1] at h; cases h
  · unfold rowO at h; rw [h1] at h; cases h; omega
theorem oI_none {o : Option Nat} (h : ∀ r, o = some r → r < 2147483648) : oI o = -1 ↔ o = none := by
  cases o with
  | none => exact ⟨fun _ => rfl, fun _ => rfl⟩
  | some k => exact ⟨fun e => absurd e (nI_ne_m1 (h k rfl)), fun e => by cases e⟩
/-- a has or not of the system: its row for values -/
theorem mP_row (l : Launch) (z : JZ) (T : JT) (Q : JQ) (p tv_ jv : Nat) (hT : wT T) (hw : wPt T Q p) (hn6 : qn Q ≤ 6) (hk : qk Q p ≤ 1) (hwh : ql Q p = tc T (qt Q p)) (hp : sPt z Q p) (hb : sTb z T (qt Q p)) (hkv : kd tv_ = .inl (0, 6)) (h4 : zL z (tv_, jv) = true) :
    jPl3 z (qt Q p) (tc T (qt Q p)) (tm T (qt Q p)) (plcO T (qt Q p) (sel3 (vlF (ql Q p) (zM z (30, p)) (zM z (31, p)) (zM z (tv_, jv)) 0) (vlF (ql Q p) (zM z (30, p)) (zM z (31, p)) (zM z (tv_, jv)) 1) (vlF (ql Q p) (zM z (30, p)) (zM z (31, p)) (zM z (tv_, jv)) 2))) (vlF (ql Q p) (zM z (30, p)) (zM z (31, p)) (zM z (tv_, jv)) 0) (vlF (ql Q p) (zM z (30, p)) (zM z (31, p)) (zM z (tv_, jv)) 1) (vlF (ql Q p) (zM z (30, p)) (zM z (31, p)) (zM z (tv_, jv)) 2) ∧ jFind z (qt Q p) (tc T (qt Q p)) (tm T (qt Q p)) (plcO T (qt Q p) (sel3 (vlF (ql Q p) (zM z (30, p)) (zM z (31, p)) (zM z (tv_, jv)) 0) (vlF (ql Q p) (zM z (30, p)) (zM z (31, p)) (zM z (tv_, jv)) 1) (vlF (ql Q p) (zM z (30, p)) (zM z (31, p)) (zM z (tv_, jv)) 2))) (vlF (ql Q p) (zM z (30, p)) (zM z (31, p)) (zM z (tv_, jv)) 0) (vlF (ql Q p) (zM z (30, p)) (zM z (31, p)) (zM z (tv_, jv)) 1) (vlF (ql Q p) (zM z (30, p)) (zM z (31, p)) (zM z (tv_, jv)) 2) = oI (rowO T (qt Q p) (plV Q p (zM z (tv_, jv)))) ∧ nmOk (ql Q p) (zM z (30, p)) := by
  obtain ⟨p1, p2, p3, p4, -⟩ := hp
  obtain ⟨a30, a31, hr, htn, hpl, hpm⟩ := p4 hk
  obtain ⟨w1, w2, -, w4⟩ := hw
  obtain ⟨ht8, htc, hlc⟩ := w2 hk
  obtain ⟨x1, x2, x3⟩ := hT _ ht8
  obtain ⟨e1, e2⟩ := sTb_pl hb x3 (vlF (ql Q p) (zM z (30, p)) (zM z (31, p)) (zM z (tv_, jv)) 0) (vlF (ql Q p) (zM z (30, p)) (zM z (31, p)) (zM z (tv_, jv)) 1) (vlF (ql Q p) (zM z (30, p)) (zM z (31, p)) (zM z (tv_, jv)) 2)
  refine ⟨e1, ?_, fun k hk2 => ?_⟩
  · rw [e2]
    congr 1
    apply rowO_congr
    intro i hi
    have hv : ∀ i, i < ql Q p → vlF (ql Q p) (zM z (30, p)) (zM z (31, p)) (zM z (tv_, jv)) i = plV Q p (zM z (tv_, jv)) i := by
      intro i hi
      unfold vlF plV
      rw [if_pos hi, (hpm i hi).1]
      by_cases e : qm Q p i = -1
      · rw [if_pos e, if_pos e, (hpm i hi).2 e]
      · rw [if_neg e, if_neg e]
    have : i = 0 ∨ i = 1 ∨ i = 2 := by omega
    rcases this with rfl | rfl | rfl
    · exact hv 0 (by omega)
    · exact hv 1 (by omega)
    · exact hv 2 (by omega)
  · rw [(hpm k hk2).1]
    rcases w4 k hk2 with h | ⟨j, hj, e⟩
    · exact Or.inl h
    · exact Or.inr ⟨j, by omega, e⟩
section JPART
variable {Γ : JC} {l : Launch} {R : Room} {cc : ByteArray} {own : String} {ret : Option FieldType} {nL : Nat} {cells slots : Nat} {z : JZ} {pc : Nat} {lv : List (Nat × Value)} {st : List Value} {T : JT} {Q : JQ} {p idx : Nat}
theorem g_pnames (C : jOk Γ l R cc own ret nL) (hn6 : qn Q ≤ 6) (hw : wPt T Q p) (hp : sPt z Q p) (hlp : qk Q p ≤ 1 → ql Q p ≤ 3) (q1 : Cond.methodLink own idx ⟨"JoinLoom$Part", "names", "()I"⟩ ∈ lw_all) (hcat : (st.map fun v => v.category).sum ≤ 8) (d : decode cc pc = .ok (.invokevirtual idx, 3)) (hf : jFit R cells slots 1 0 0 3) (k : jG Γ cells slots z (pc + 3) lv (.int (nmF (qm Q p) (ql Q p)) :: st)) : jG Γ cells slots z pc lv (.ref (zA z (qTag (qk Q p), p)) :: st) := by
  obtain ⟨p1, p2, p3, p4, p5⟩ := hp
  obtain ⟨w1, w2, w3, w4⟩ := hw
  have hf1 : jFit R cells slots 1 0 0 1 := ⟨⟨hf.1.1, by have := hf.1.2; omega⟩, hf.2⟩
  have h4 : qk Q p = 0 ∨ qk Q p = 1 ∨ qk Q p = 2 ∨ qk Q p = 3 := by omega
  have hsm : 2 ≤ qk Q p → smN (qm Q p 0) (qm Q p 1) = nmF (qm Q p) (ql Q p) := fun h => by
    obtain ⟨e1, a, ha, e2⟩ := w3 h
    rw [e1]
    simp only [nmF, smN]
    rw [if_neg (show ¬ qm Q p 0 = -1 by rw [e2]; exact nI_ne_m1 (by omega))]
    by_cases e : qm Q p 1 = -1
    · rw [if_pos e, if_pos e]; simp
    · rw [if_neg e, if_neg e]; simp
  rcases h4 with e | e | e | e
  · rw [e] at p2 p4 ⊢
    obtain ⟨a30, a31, hr, htn, hpl, hpm⟩ := p4 (by decide)
    rw [← nmF_congr (f := zM z (30, p)) (fun i hi => (hpm i hi).1)] at k
    exact g_cfi (g_runU (x := ⟨"JoinLoom$Part", "names", "()I"⟩) (owner := "JoinLoom$Part") C (m_X8_names l z 29 p _ (Or.inl rfl) p2 a30 hpl (hlp (by omega))) ciX8_names (Or.inl nq491) rfl (by decide) q1 q492 q493 q494 p2 rfl rfl rfl rfl hcat d hf) k
  · rw [e] at p2 p4 ⊢
    obtain ⟨a30, a31, hr, htn, hpl, hpm⟩ := p4 (by decide)
    rw [← nmF_congr (f := zM z (30, p)) (fun i hi => (hpm i hi).1)] at k
    exact g_cfi (g_runU (x := ⟨"JoinLoom$Part", "names", "()I"⟩) (owner := "JoinLoom$Part") C (m_X8_names l z 32 p _ (Or.inr rfl) p2 a30 hpl (hlp (by omega))) ciX8_names (Or.inl nq491) rfl (by decide) q1 q492 q499 q494 p2 rfl rfl rfl rfl hcat d hf) k
  · rw [← hsm (by omega)] at k
    rw [e] at p2 p5 ⊢
    obtain ⟨h1, h2, h3⟩ := p5 (by decide)
    rw [← h1, ← h2] at k
    exact g_cfi (g_runU (x := ⟨"JoinLoom$Part", "names", "()I"⟩) (owner := "JoinLoom$Part") C (m_X10_names l z 35 p (Or.inl rfl) p2) ciX10_names (Or.inl nq491) rfl (by decide) q1 q492 q500 q497 p2 rfl rfl rfl rfl hcat d hf1) k
  · rw [← hsm (by omega)] at k
    rw [e] at p2 p5 ⊢
    obtain ⟨h1, h2, h3⟩ := p5 (by decide)
    rw [← h1, ← h2] at k
    exact g_cfi (g_runU (x := ⟨"JoinLoom$Part", "names", "()I"⟩) (owner := "JoinLoom$Part") C (m_X10_names l z 36 p (Or.inr rfl) p2) ciX10_names (Or.inl nq491) rfl (by decide) q1 q492 q496 q497 p2 rfl rfl rfl rfl hcat d hf1) k
theorem g_pwhole (C : jOk Γ l R cc own ret nL) (hw : wPt T Q p) (hp : sPt z Q p) (hT : wT T) (hb : qk Q p ≤ 1 → sTb z T (qt Q p)) (q1 : Cond.methodLink own idx ⟨"JoinLoom$Part", "isWhole", "()Z"⟩ ∈ lw_all) (hcat : (st.map fun v => v.category).sum ≤ 8) (d : decode cc pc = .ok (.invokevirtual idx, 3)) (hf : jFit R cells slots 1 0 0 1) (k : jG Γ cells slots z (pc + 3) lv (.int (jb (whP T Q p)) :: st)) : jG Γ cells slots z pc lv (.ref (zA z (qTag (qk Q p), p)) :: st) := by
  obtain ⟨p1, p2, p3, p4, p5⟩ := hp
  obtain ⟨w1, w2, w3, w4⟩ := hw
  have h4 : qk Q p = 0 ∨ qk Q p = 1 ∨ qk Q p = 2 ∨ qk Q p = 3 := by omega
  unfold whP at k
  rcases h4 with e | e | e | e
  · have hb := hb (by omega)
    obtain ⟨ht8, htc, hlc⟩ := w2 (by omega)
    have hc3 := (hT _ ht8).1
    rw [e] at p2 p4 k ⊢
    obtain ⟨a30, a31, hr, htn, hpl, hpm⟩ := p4 (by decide)
    rw [show decide ((0 : Nat) ≤ 1 → ql Q p = tc T (qt Q p)) = decide (ql Q p = tc T (qt Q p)) by simp] at k
    exact g_cfi (g_runU (x := ⟨"JoinLoom$Part", "isWhole", "()Z"⟩) (owner := "JoinLoom$Part") C (m_X8_isWhole l z 29 p _ _ _ (Or.inl rfl) p2 hr hb.1 hpl (by omega) hb.2.2.1 hc3) ciX8_isWhole (Or.inr (Or.inr ⟨q481, _, _, _, ciX7_isWhole.1⟩)) rfl (by decide) q1 q482 q483 q484 p2 rfl rfl rfl rfl hcat d hf) k
  · have hb := hb (by omega)
    obtain ⟨ht8, htc, hlc⟩ := w2 (by omega)
    have hc3 := (hT _ ht8).1
    rw [e] at p2 p4 k ⊢
    obtain ⟨a30, a31, hr, htn, hpl, hpm⟩ := p4 (by decide)
    rw [show decide ((1 : Nat) ≤ 1 → ql Q p = tc T (qt Q p)) = decide (ql Q p = tc T (qt Q p)) by simp] at k
    exact g_cfi (g_runU (x := ⟨"JoinLoom$Part", "isWhole", "()Z"⟩) (owner := "JoinLoom$Part") C (m_X8_isWhole l z 32 p _ _ _ (Or.inr rfl) p2 hr hb.1 hpl (by omega) hb.2.2.1 hc3) ciX8_isWhole (Or.inr (Or.inr ⟨q481, _, _, _, ciX7_isWhole.1⟩)) rfl (by decide) q1 q482 q487 q484 p2 rfl rfl rfl rfl hcat d hf) k
  · rw [e] at p2 k ⊢
    rw [show decide ((2 : Nat) ≤ 1 → ql Q p = tc T (qt Q p)) = true by simp] at k
    exact g_cfi (g_runU (x := ⟨"JoinLoom$Part", "isWhole", "()Z"⟩) (owner := "JoinLoom$Part") C (m_X7_isWhole l z _) ciX7_isWhole (Or.inr (Or.inl rfl)) rfl (by decide) q1 q482 q488 q481 p2 rfl rfl rfl rfl hcat d hf) k
  · rw [e] at p2 k ⊢
    rw [show decide ((3 : Nat) ≤ 1 → ql Q p = tc T (qt Q p)) = true by simp] at k
    exact g_cfi (g_runU (x := ⟨"JoinLoom$Part", "isWhole", "()Z"⟩) (owner := "JoinLoom$Part") C (m_X7_isWhole l z _) ciX7_isWhole (Or.inr (Or.inl rfl)) rfl (by decide) q1 q482 q486 q481 p2 rfl rfl rfl rfl hcat d hf) k
theorem g_ptrue (C : jOk Γ l R cc own ret nL) (hw : wPt T Q p) (hp : sPt z Q p) (hT : wT T) (hn6 : qn Q ≤ 6) (h0 : qk Q p ≠ 0) (hwh : qk Q p ≤ 1 → ql Q p = tc T (qt Q p)) (hb : qk Q p ≤ 1 → sTb z T (qt Q p)) (h11 : zL z (11, 0) = true) (q1 : Cond.methodLink own idx ⟨"JoinLoom$Part", "isTrue", "([I)Z"⟩ ∈ lw_all) (hcat : (st.map fun v => v.category).sum ≤ 8) (d : decode cc pc = .ok (.invokevirtual idx, 3)) (hf : jFit R cells slots 7 0 0 2) (k : jG Γ cells slots z (pc + 3) lv (.int (jb (trP T Q p (zM z (11, 0)))) :: st)) : jG Γ cells slots z pc lv (.ref (zA z (11, 0)) :: .ref (zA z (qTag (qk Q p), p)) :: st) := by
  have hp0 := hp
  obtain ⟨p1, p2, p3, p4, p5⟩ := hp
  have hw0 := hw
  obtain ⟨w1, w2, w3, w4⟩ := hw
  have hf2 : jFit R cells slots 2 0 0 2 := ⟨⟨by have := hf.1.1; omega, by have := hf.1.2; omega⟩, hf.2⟩
  have h4 : qk Q p = 1 ∨ qk Q p = 2 ∨ qk Q p = 3 := by omega
  unfold trP at k
  rcases h4 with e | e | e
  · have hb := hb (by omega)
    obtain ⟨ht8, htc, hlc⟩ := w2 (by omega)
    obtain ⟨hc3, hm4, -⟩ := hT _ ht8
    obtain ⟨r1, r2, r3⟩ := mP_row l z T Q p 11 0 hT hw0 hn6 (by omega) (hwh (by omega)) hp0 hb rfl h11
    rw [if_pos e] at k
    rw [e] at p2 p4 ⊢
    obtain ⟨a30, a31, hr, htn, hpl, hpm⟩ := p4 (by decide)
    have hk2 : jb (decide (rowO T (qt Q p) (plV Q p (zM z (11, 0))) = none)) = jb (decide (oI (rowO T (qt Q p) (plV Q p (zM z (11, 0)))) = -1)) := by
      congr 1
      rw [decide_eq_decide]
      exact (oI_none (fun r hr => by have := rowO_lt hr; omega)).symm
    rw [hk2, ← r2] at k
    exact g_cfi (g_runU (x := ⟨"JoinLoom$Part", "isTrue", "([I)Z"⟩) (owner := "JoinLoom$Part") (As := [.ref (zA z (11, 0))]) C (m_X9_isTrue l z p _ _ _ _ 11 0 _ p2 a30 a31 hpl (by omega) rfl h11 r3 hr hb.1 hb.2.1 hb.2.2.1 hc3 hb.2.2.2.1 hm4 r1) ciX9_isTrue (Or.inl nq583) rfl (by decide) q1 q584 q609 q610 p2 rfl rfl rfl rfl hcat d hf) k
  · obtain ⟨hl2, a, ha, ea⟩ := w3 (by omega)
    rw [if_neg (by omega), if_pos e] at k
    have w41 := w4 1 (by omega)
    rw [e] at p2 p5 ⊢
    obtain ⟨h1, h2, h3⟩ := p5 (by decide)
    have h1 : zM z (35, p) 1 = qm Q p 0 := h1
    have h2 : zM z (35, p) 2 = qm Q p 1 := h2
    have h3 : qm Q p 1 = -1 → zM z (35, p) 3 = qv Q p 1 := h3
    have e0 : plV Q p (zM z (11, 0)) 0 = zM z (11, 0) a := by
      unfold plV
      rw [ea, if_neg (nI_ne_m1 (by omega)), nI_clamp (by omega)]
    have e1 : plV Q p (zM z (11, 0)) 1 = smO (zM z (35, p) 2) (zM z (35, p) 3) (zM z (11, 0)) := by
      unfold plV smO
      rw [← h2]
      by_cases e9 : zM z (35, p) 2 = -1
      · rw [if_pos e9, if_pos e9, h3 (h2 ▸ e9)]
      · rw [if_neg e9, if_neg e9]
    rw [e0, e1] at k
    exact g_cfi (g_runU (x := ⟨"JoinLoom$Part", "isTrue", "([I)Z"⟩) (owner := "JoinLoom$Part") (As := [.ref (zA z (11, 0))]) C (m_X10_isTrue l z p 11 0 a p2 rfl h11 (by omega) (h1.trans ea) (by rw [h2]; rcases w41 with h | ⟨j, hj, e⟩; exact Or.inl h; exact Or.inr ⟨j, by omega, e⟩)) ciX10_isTrue (Or.inl nq583) rfl (by decide) q1 q584 q613 q614 p2 rfl rfl rfl rfl hcat d hf2) k
  · obtain ⟨hl2, a, ha, ea⟩ := w3 (by omega)
    rw [if_neg (by omega), if_neg (by omega)] at k
    have w41 := w4 1 (by omega)
    rw [e] at p2 p5 ⊢
    obtain ⟨h1, h2, h3⟩ := p5 (by decide)
    have h1 : zM z (36, p) 1 = qm Q p 0 := h1
    have h2 : zM z (36, p) 2 = qm Q p 1 := h2
    have h3 : qm Q p 1 = -1 → zM z (36, p) 3 = qv Q p 1 := h3
    have e0 : plV Q p (zM z (11, 0)) 0 = zM z (11, 0) a := by
      unfold plV
      rw [ea, if_neg (nI_ne_m1 (by omega)), nI_clamp (by omega)]
    have e1 : plV Q p (zM z (11, 0)) 1 = smO (zM z (36, p) 2) (zM z (36, p) 3) (zM z (11, 0)) := by
      unfold plV smO
      rw [← h2]
      by_cases e9 : zM z (36, p) 2 = -1
      · rw [if_pos e9, if_pos e9, h3 (h2 ▸ e9)]
      · rw [if_neg e9, if_neg e9]
    rw [e0, e1] at k
    exact g_cfi (g_runU (x := ⟨"JoinLoom$Part", "isTrue", "([I)Z"⟩) (owner := "JoinLoom$Part") (As := [.ref (zA z (11, 0))]) C (m_X11_isTrue l z p 11 0 a p2 rfl h11 (by omega) (h1.trans ea) (by rw [h2]; rcases w41 with h | ⟨j, hj, e⟩; exact Or.inl h; exact Or.inr ⟨j, by omega, e⟩)) ciX11_isTrue (Or.inl nq583) rfl (by decide) q1 q584 q599 q600 p2 rfl rfl rfl rfl hcat d hf2) k
/-- whether a part is a has or a not -/
theorem g_pinst (C : jOk Γ l R cc own ret nL) (hw : wPt T Q p) (hp : sPt z Q p) (hlink : Cond.classLink own idx "JoinLoom$Has" ∈ lw_all) (d : decode cc pc = .ok (.instanceof idx, 3)) (k : jG Γ cells slots z (pc + 3) lv (.int (jb (decide (qk Q p ≤ 1))) :: st)) : jG Γ cells slots z pc lv (.ref (zA z (qTag (qk Q p), p)) :: st) := by
  obtain ⟨p1, p2, p3, p4, p5⟩ := hp
  have h4 : qk Q p = 0 ∨ qk Q p = 1 ∨ qk Q p = 2 ∨ qk Q p = 3 := by have := hw.1; omega
  rcases h4 with e | e | e | e
  · rw [e] at p2 k ⊢
    exact g_instS (nm := "JoinLoom$Has") C rfl p2 rfl (Or.inl rfl) hlink d k
  · rw [e] at p2 k ⊢
    exact g_instS (nm := "JoinLoom$Has") C rfl p2 rfl (Or.inr nq1110) hlink d k
  · rw [e] at p2 k ⊢
    exact g_instN C rfl p2 rfl (Or.inl rfl) hlink d k
  · rw [e] at p2 k ⊢
    exact g_instN C rfl p2 rfl (Or.inr rfl) hlink d k
theorem g_pcast (C : jOk Γ l R cc own ret nL) (hp : sPt z Q p) (hk : qk Q p ≤ 1) (hlink : Cond.classLink own idx "JoinLoom$Has" ∈ lw_all) (d : decode cc pc = .ok (.checkcast idx, 3)) (k : jG Γ cells slots z (pc + 3) lv (.ref (zA z (qTag (qk Q p), p)) :: st)) : jG Γ cells slots z pc lv (.ref (zA z (qTag (qk Q p), p)) :: st) := by
  obtain ⟨p1, p2, p3, p4, p5⟩ := hp
  have h4 : qk Q p = 0 ∨ qk Q p = 1 := by omega
  rcases h4 with e | e
  · rw [e] at p2 k ⊢
    exact g_castS (nm := "JoinLoom$Has") C rfl p2 rfl (Or.inl rfl) hlink d k
  · rw [e] at p2 k ⊢
    exact g_castS (nm := "JoinLoom$Has") C rfl p2 rfl (Or.inr nq1110) hlink d k
end JPART
