set_option maxRecDepth 100000
/-! ===== walkers side by side ===== -/
/-- the store where the walkers (trees of H, each at its level v) stand at the places f -/
def mtZ (z : JZ) (H : Nat → Bool) (v : Nat → Nat) (sp : Nat → Nat → Nat) (f : Nat → Nat) : JZ := wM z (fun id => if id.1 = 22 ∧ H id.2 = true then upd (zM z id) (v id.2) (nI (f id.2)) else if id.1 = 23 ∧ H id.2 = true then upd (zM z id) (v id.2) (nI (sp id.2 (f id.2))) else zM z id)
theorem mt_22 {z : JZ} {H : Nat → Bool} {v : Nat → Nat} {sp : Nat → Nat → Nat} {f : Nat → Nat} {i : Nat} (h : H i = true) : zM (mtZ z H v sp f) (22, i) (v i) = nI (f i) := by
  show (if (22 : Nat) = 22 ∧ H i = true then upd (zM z (22, i)) (v i) (nI (f i)) else _) (v i) = _
  rw [if_pos ⟨rfl, h⟩, pk_us]
theorem mt_23 {z : JZ} {H : Nat → Bool} {v : Nat → Nat} {sp : Nat → Nat → Nat} {f : Nat → Nat} {i : Nat} (h : H i = true) : zM (mtZ z H v sp f) (23, i) (v i) = nI (sp i (f i)) := by
  show (if (23 : Nat) = 23 ∧ H i = true then upd (zM z (23, i)) (v i) (nI (sp i (f i))) else zM z (23, i)) (v i) = _
  rw [if_pos ⟨rfl, h⟩, pk_us]
theorem mt_set {z : JZ} {H : Nat → Bool} {v : Nat → Nat} {sp : Nat → Nat → Nat} {f : Nat → Nat} {i q : Nat} (h : H i = true) : sFT (mtZ z H v sp f) i (v i) q (sp i q) = mtZ z H v sp (va_up f i q) := by
  have e22 : ∀ j, j ≠ i → (va_up f i q) j = f j := fun j hj => va_up_ne f q hj
  unfold sFT sM sA mtZ wM
  simp only [Prod.mk.injEq, true_and, and_true]
  funext id
  obtain ⟨t, j⟩ := id
  by_cases h23 : (t, j) = ((23, i) : JId)
  · rw [if_pos h23]
    cases h23
    simp only [zM]
    simp (config := { decide := true }) only [h, if_true, if_false, and_self, and_true, Prod.mk.injEq, va_up]
    rw [bx_updd]
  · rw [if_neg h23]
    by_cases h22 : (t, j) = ((22, i) : JId)
    · rw [if_pos h22]
      cases h22
      simp only [zM]
      simp (config := { decide := true }) only [h, if_true, if_false, and_self, and_true, va_up]
      rw [bx_updd]
    · rw [if_neg h22]
      simp only [zM]
      by_cases c1 : t = 22 ∧ H j = true
      · rw [if_pos c1, if_pos c1, e22 j (fun e => h22 (by rw [c1.1, e]))]
      · rw [if_neg c1, if_neg c1]
        by_cases c2 : t = 23 ∧ H j = true
        · rw [if_pos c2, if_pos c2, e22 j (fun e => h23 (by rw [c2.1, e]))]
        · rw [if_neg c2, if_neg c2]
/-- what lasts of a walker: its tree i at level v, the rows lo .. hi - 1, sorted by value -/
def wkS (z : JZ) (pt tb v lo hi : Nat → Nat) (i : Nat) : Prop := trA z i (pt i) (tb i) ∧ zM z (16, i) 10 = nI (v i) ∧ v i < 3 ∧ zM z (21, i) (v i) = nI (hi i) ∧ lo i ≤ hi i ∧ hi i ≤ 40 ∧ trR z i (hi i) ∧ trC z i (v i + 1) ∧ ∀ a b, lo i ≤ a → a ≤ b → b < hi i → rk (kyF z i (tb i) (v i) a) ≤ rk (kyF z i (tb i) (v i) b)
theorem skP_ex {g : Nat → Int32} {w : Int64} {lo f h : Nat} (hlf : lo ≤ f) (hf : f ≤ h) (hs : ∀ a b, lo ≤ a → a ≤ b → b < h → rk (g a) ≤ rk (g b)) : ∃ q, skP g w f h q := by
  rcases firstF_cases (P := fun k => decide (¬ rkL (g k) < w)) (h - f) f with ⟨h1, h2⟩ | ⟨j, h1, h2, h3, h4, h5⟩
  · exact ⟨h, hf, Nat.le_refl _, fun k a b => Classical.not_not.mp (of_decide_eq_false (h2 k a (by omega))), fun k a b => by omega⟩
  · refine ⟨j, h2, by omega, fun k a b => Classical.not_not.mp (of_decide_eq_false (h5 k a b)), fun k a b hc => ?_⟩
    have hj := of_decide_eq_true h4
    have := hs j k (by omega) a b
    apply hj
    rw [Int64.lt_iff_toInt_lt, rkL_int] at hc ⊢
    omega
/-- a value that all walkers have -/
def comV (z : JZ) (hs : Nat → Nat) (M : Nat) (tb v lo hi : Nat → Nat) (u : Int32) : Prop := ∀ j, j < M → ∃ k, lo (hs j) ≤ k ∧ k < hi (hs j) ∧ kyF z (hs j) (tb (hs j)) (v (hs j)) k = u
/-- the places f: nothing at B or behind it is passed; the first walker has passed all that is ahead of B -/
def mtPre (z : JZ) (hs : Nat → Nat) (M : Nat) (tb v lo hi : Nat → Nat) (f : Nat → Nat) (B : Int) : Prop := (∀ j, j < M → lo (hs j) ≤ f (hs j) ∧ f (hs j) ≤ hi (hs j) ∧ ∀ k, lo (hs j) ≤ k → k < f (hs j) → rk (kyF z (hs j) (tb (hs j)) (v (hs j)) k) < B) ∧ ∀ k, f (hs 0) ≤ k → k < hi (hs 0) → B ≤ rk (kyF z (hs 0) (tb (hs 0)) (v (hs 0)) k)
/-- the walkers are at one value u: the first that all have, at B or behind -/
def mtAt (z : JZ) (hs : Nat → Nat) (M : Nat) (tb v lo hi : Nat → Nat) (f : Nat → Nat) (B : Int) (u : Int32) : Prop := B ≤ rk u ∧ (∀ x, comV z hs M tb v lo hi x → B ≤ rk x → rk u ≤ rk x) ∧ ∀ j, j < M → lo (hs j) ≤ f (hs j) ∧ f (hs j) < hi (hs j) ∧ kyF z (hs j) (tb (hs j)) (v (hs j)) (f (hs j)) = u ∧ ∀ k, lo (hs j) ≤ k → k < f (hs j) → rk (kyF z (hs j) (tb (hs j)) (v (hs j)) k) < rk u
def mtPost (z : JZ) (hs : Nat → Nat) (M : Nat) (H : Nat → Bool) (tb v lo hi : Nat → Nat) (sp : Nat → Nat → Nat) (B : Int) (r : Int32) (z' : JZ) : Prop := ∃ (b : Bool) (f' : Nat → Nat), r = jb b ∧ z' = mtZ z H v sp f' ∧ (b = true → ∃ u, mtAt z hs M tb v lo hi f' B u) ∧ (b = false → (∀ x, comV z hs M tb v lo hi x → ¬ B ≤ rk x) ∧ ∀ j, j < M → lo (hs j) ≤ f' (hs j) ∧ f' (hs j) ≤ hi (hs j))
def gtC (z : JZ) (hs : Nat → Nat) (tb v hi : Nat → Nat) (u : Int32) : Nat → Nat
  | 0 => 0
  | j + 1 => gtC z hs tb v hi u j + cntF (fun k => decide (rk u < rk (kyF z (hs j) (tb (hs j)) (v (hs j)) k))) (hi (hs j))
theorem cntF_mono {P Q : Nat → Bool} : ∀ {n : Nat}, (∀ k, k < n → P k = true → Q k = true) → cntF P n ≤ cntF Q n
  | 0, _ => Nat.le_refl _
  | n + 1, h => by
    have ih := cntF_mono (P := P) (Q := Q) (n := n) (fun k hk => h k (by omega))
    have hn := h n (by omega)
    simp only [cntF]
    by_cases e : P n = true
    · rw [if_pos e, if_pos (hn e)]; omega
    · rw [if_neg e]; omega
theorem cntF_lt {P Q : Nat → Bool} : ∀ {n : Nat}, (∀ k, k < n → P k = true → Q k = true) → (∃ k, k < n ∧ P k = false ∧ Q k = true) → cntF P n < cntF Q n
  | 0, _, ⟨k, hk, _⟩ => by omega
  | n + 1, h, ⟨k, hk, hp, hq⟩ => by
    have hm := cntF_mono (P := P) (Q := Q) (n := n) (fun k hk => h k (by omega))
    simp only [cntF]
    rcases Nat.lt_or_ge k n with h1 | h1
    · have ih := cntF_lt (P := P) (Q := Q) (n := n) (fun k hk => h k (by omega)) ⟨k, h1, hp, hq⟩
      have hn := h n (by omega)
      by_cases e : P n = true
      · rw [if_pos e, if_pos (hn e)]; omega
      · rw [if_neg e]; omega
    · have : k = n := by omega
      subst this
      rw [if_neg (by rw [hp]; decide), if_pos hq]
      omega
theorem gtC_lt {z : JZ} {hs : Nat → Nat} {tb v hi : Nat → Nat} {u w : Int32} (huw : rk u < rk w) : ∀ {M : Nat}, (∃ j, j < M ∧ ∃ k, k < hi (hs j) ∧ kyF z (hs j) (tb (hs j)) (v (hs j)) k = w) → gtC z hs tb v hi w M < gtC z hs tb v hi u M
  | 0, ⟨j, hj, _⟩ => by omega
  | M + 1, ⟨j, hj, k, hk, e⟩ => by
    simp only [gtC]
    have hmono : ∀ M, gtC z hs tb v hi w M ≤ gtC z hs tb v hi u M := by
      intro M
      induction M with
      | zero => exact Nat.le_refl _
      | succ M ih =>
        simp only [gtC]
        have := cntF_mono (P := fun k => decide (rk w < rk (kyF z (hs M) (tb (hs M)) (v (hs M)) k))) (Q := fun k => decide (rk u < rk (kyF z (hs M) (tb (hs M)) (v (hs M)) k))) (n := hi (hs M)) (fun k _ h => decide_eq_true (by have := of_decide_eq_true h; omega))
        omega
    rcases Nat.lt_or_ge j M with h1 | h1
    · have ih := gtC_lt (M := M) huw ⟨j, h1, k, hk, e⟩
      have := cntF_mono (P := fun k => decide (rk w < rk (kyF z (hs M) (tb (hs M)) (v (hs M)) k))) (Q := fun k => decide (rk u < rk (kyF z (hs M) (tb (hs M)) (v (hs M)) k))) (n := hi (hs M)) (fun k _ h => decide_eq_true (by have := of_decide_eq_true h; omega))
      omega
    · have : j = M := by omega
      subst this
      have h2 := hmono j
      have h3 := cntF_lt (P := fun k => decide (rk w < rk (kyF z (hs j) (tb (hs j)) (v (hs j)) k))) (Q := fun k => decide (rk u < rk (kyF z (hs j) (tb (hs j)) (v (hs j)) k))) (n := hi (hs j)) (fun k _ h => decide_eq_true (by have := of_decide_eq_true h; omega)) ⟨k, hk, decide_eq_false (by rw [e]; omega), decide_eq_true (by rw [e]; exact huw)⟩
      omega
def prv (j M y : Nat) : Nat := if y < j then j - 1 - y else j + M - 1 - y
def mtG (z : JZ) (tb v hi f : Nat → Nat) (u : Int32) (i : Nat) : Prop := f i < hi i ∧ kyF z i (tb i) (v i) (f i) = u
theorem prv_all {M j : Nat} {P : Nat → Prop} (hj : j < M) (h : ∀ y, y < M → P (prv j M y)) : ∀ a, a < M → P a := by
  intro a ha
  rcases Nat.lt_or_ge a j with h1 | h1
  · have := h (j - 1 - a) (by omega)
    rw [prv, if_pos (by omega), show j - 1 - (j - 1 - a) = a by omega] at this
    exact this
  · have := h (j + M - 1 - a) (by omega)
    rw [prv, if_neg (by omega), show j + M - 1 - (j + M - 1 - a) = a by omega] at this
    exact this
theorem prv_step {M j al : Nat} {P R : Nat → Prop} (hj : j < M) (hal : al < M) (h : ∀ y, y < al → P (prv j M y)) (hR : R j) (hPR : ∀ a, a < M → P a → R a) : ∀ y, y < al + 1 → R (prv ((j + 1) % M) M y) := by
  have key : ∀ y, y < al + 1 → (y = 0 ∧ prv ((j + 1) % M) M y = j) ∨ (0 < y ∧ prv ((j + 1) % M) M y = prv j M (y - 1)) := by
    intro y hy
    rcases Nat.lt_or_ge (j + 1) M with h1 | h1
    · rw [Nat.mod_eq_of_lt h1]
      unfold prv
      rcases Nat.eq_zero_or_pos y with h0 | h0
      · subst h0; exact Or.inl ⟨rfl, by rw [if_pos (by omega)]; omega⟩
      · refine Or.inr ⟨h0, ?_⟩
        by_cases c : y < j + 1
        · rw [if_pos c, if_pos (by omega)]; omega
        · rw [if_neg c, if_neg (by omega)]; omega
    · have e : j + 1 = M := by omega
      rw [e, Nat.mod_self]
      unfold prv
      rcases Nat.eq_zero_or_pos y with h0 | h0
      · subst h0; exact Or.inl ⟨rfl, by rw [if_neg (by omega)]; omega⟩
      · refine Or.inr ⟨h0, ?_⟩
        rw [if_neg (by omega), if_pos (by omega)]; omega
  intro y hy
  rcases key y hy with ⟨-, e⟩ | ⟨h0, e⟩
  · rw [e]; exact hR
  · rw [e]
    refine hPR _ ?_ (h (y - 1) (by omega))
    unfold prv
    split <;> omega
theorem lp_X2_meets {Γ : JC} {l : Launch} {z : JZ} {dd M : Nat} {hs pt tb v lo hi : Nat → Nat} {H : Nat → Bool} {B : Int} (C : jOk Γ l (jrm 5 0 0) cX2_meets "JoinLoom$Loom" (some FieldType.boolean) 9) (hQ : jRt Γ (jPi (mtPost z hs M H tb v lo hi (fun i x => spF z i (tb i) (v i) x (hi i)) B)) 0 0 "meets") (a10 : zL z (10, dd) = true) (hM0 : 0 < M) (hM : M ≤ 5) (hH : ∀ j, j < M → H (hs j) = true) (hr : ∀ j, j < M → zR z (10, dd) j = some (zA z (16, hs j))) (hw : ∀ j, j < M → wkS z pt tb v lo hi (hs j)) :
    ∀ (x al j : Nat) (u : Int32) (f : Nat → Nat), gtC z hs tb v hi u M * 10 + (M - al) ≤ x → al ≤ M → j < M → B ≤ rk u → (∀ y, comV z hs M tb v lo hi y → B ≤ rk y → rk u ≤ rk y) → (∀ a, a < M → lo (hs a) ≤ f (hs a) ∧ f (hs a) ≤ hi (hs a) ∧ ∀ k, lo (hs a) ≤ k → k < f (hs a) → rk (kyF z (hs a) (tb (hs a)) (v (hs a)) k) < rk u) → (∀ y, y < al → mtG z tb v hi f u (hs (prv j M y))) → jG Γ 0 0 (mtZ z H v (fun i x => spF z i (tb i) (v i) x (hi i)) f) 26 [(0, .ref (zA z (10, dd))), (1, .int (nI M)), (2, .int (nI al)), (3, .int (nI j)), (4, .long (rkL u))] [] := by
  intro x
  induction x with
  | zero =>
    intro al j u f hx hal hj hB hmin hf hlast
    have e : al = M := by omega
    subst e
    refine g_iload_n C dX2_meets_26 rfl rfl ?_
    refine g_iload_n C dX2_meets_27 rfl rfl ?_
    first | refine g_icmp_ge_n (tgt := 92) C dX2_meets_28 (by decide) (by omega) (by omega) (fun c28 => ?_) (fun c28 => ?_) | refine g_icmp_ge (tgt := 92) C dX2_meets_28 (by decide) (fun c28 => ?_) (fun c28 => ?_)
    · refine g_iconst (v := nI 1) C dX2_meets_92 (by decide) ?_
      exact g_ireturn C hQ rfl (by omega) (by omega) dX2_meets_93 (⟨_, rfl, true, f, rfl, rfl, fun _ => ⟨u, hB, hmin, fun a ha => ⟨(hf a ha).1, (prv_all (P := fun a => mtG z tb v hi f u (hs a)) hj hlast a ha).1, (prv_all (P := fun a => mtG z tb v hi f u (hs a)) hj hlast a ha).2, (hf a ha).2.2⟩⟩, fun h => by cases h⟩)
    · omega
  | succ x ih =>
    intro al j u f hx hal hj hB hmin hf hlast
    obtain ⟨hA, hv, hv3, hh, hlh, hh4, hR, hC, hso⟩ := hw j hj
    obtain ⟨f1, f2, f3⟩ := hf j hj
    obtain ⟨q, hq⟩ := skP_ex (w := rkL u) f1 f2 hso
    obtain ⟨q1, q2, q3, q4⟩ := hq
    have hHj := hH j hj
    have hlow : ∀ k, lo (hs j) ≤ k → k < q → rk (kyF z (hs j) (tb (hs j)) (v (hs j)) k) < rk u := by
      intro k k1 k2
      rcases Nat.lt_or_ge k (f (hs j)) with h | h
      · exact f3 k k1 h
      · exact (rkL_lt _ _).mp (q3 k h k2)
    have hf2 : ∀ a, a < M → lo (hs a) ≤ va_up f (hs j) q (hs a) ∧ va_up f (hs j) q (hs a) ≤ hi (hs a) := by
      intro a ha
      by_cases e : hs a = hs j
      · rw [e, va_up_self]; exact ⟨by omega, q2⟩
      · rw [va_up_ne _ _ e]; exact ⟨(hf a ha).1, (hf a ha).2.1⟩
    have hf3 : ∀ (w : Int32), rk u ≤ rk w → ∀ a, a < M → lo (hs a) ≤ va_up f (hs j) q (hs a) ∧ va_up f (hs j) q (hs a) ≤ hi (hs a) ∧ ∀ k, lo (hs a) ≤ k → k < va_up f (hs j) q (hs a) → rk (kyF z (hs a) (tb (hs a)) (v (hs a)) k) < rk w := by
      intro w hw a ha
      refine ⟨(hf2 a ha).1, (hf2 a ha).2, ?_⟩
      by_cases e : hs a = hs j
      · rw [e, va_up_self]; intro k k1 k2; have := hlow k k1 k2; omega
      · rw [va_up_ne _ _ e]; intro k k1 k2; have := (hf a ha).2.2 k k1 k2; omega
    have hset := mt_set (z := z) (v := v) (sp := fun i x => spF z i (tb i) (v i) x (hi i)) (f := f) (q := q) hHj
    have J78f : q < hi (hs j) → rk u ≤ rk (kyF z (hs j) (tb (hs j)) (v (hs j)) q) → (∀ y, comV z hs M tb v lo hi y → B ≤ rk y → rk (kyF z (hs j) (tb (hs j)) (v (hs j)) q) ≤ rk y) → ∀ al' : Nat, al' ≤ M → gtC z hs tb v hi (kyF z (hs j) (tb (hs j)) (v (hs j)) q) M * 10 + (M - al') ≤ x → (∀ y, y < al' → mtG z tb v hi (va_up f (hs j) q) (kyF z (hs j) (tb (hs j)) (v (hs j)) q) (hs (prv ((j + 1) % M) M y))) → ∀ a6 : Nat, jG Γ 0 0 (mtZ z H v (fun i x => spF z i (tb i) (v i) x (hi i)) (va_up f (hs j) q)) 78 [(0, .ref (zA z (10, dd))), (1, .int (nI M)), (2, .int (nI al)), (3, .int (nI j)), (4, .long (rkL u)), (6, .ref a6), (7, .long (rkL (kyF z (hs j) (tb (hs j)) (v (hs j)) q)))] [.int (nI al')] := by
      intro hqh hge hmin2 al' hal' hx' hl' a6
      refine g_istore_n (lv' := [(0, _), (1, _), (2, _), (3, _), (4, _), (6, _), (7, _)]) C dX2_meets_78 rfl (by decide) rfl ?_
      refine g_lload C dX2_meets_79 rfl ?_
      refine g_lstore (lv' := [(0, _), (1, _), (2, _), (3, _), (4, _), (6, _), (7, _)]) C dX2_meets_81 (by decide) rfl ?_
      refine g_iload_n C dX2_meets_83 rfl rfl ?_
      refine g_iconst (v := nI 1) C dX2_meets_84 (by decide) ?_
      first | refine g_iadd_n C dX2_meets_85 ?_ | refine g_iadd C dX2_meets_85 ?_
      refine g_iload_n C dX2_meets_86 rfl rfl ?_
      first | refine g_irem_n C dX2_meets_87 (by omega) (by omega) (by omega) ?_ | refine g_irem C dX2_meets_87 (by decide) ?_
      refine g_istore_n (lv' := [(0, _), (1, _), (2, _), (3, _), (4, _), (6, _), (7, _)]) C dX2_meets_88 rfl (by decide) rfl ?_
      refine g_goto (tgt := 26) C dX2_meets_89 (by decide) ?_
      refine g_take 5 rfl ?_
      exact ih al' _ _ _ hx' hal' (Nat.mod_lt _ hM0) (by omega) hmin2 (hf3 _ hge) hl'
    refine g_iload_n C dX2_meets_26 rfl rfl ?_
    refine g_iload_n C dX2_meets_27 rfl rfl ?_
    first | refine g_icmp_ge_n (tgt := 92) C dX2_meets_28 (by decide) (by omega) (by omega) (fun c28 => ?_) (fun c28 => ?_) | refine g_icmp_ge (tgt := 92) C dX2_meets_28 (by decide) (fun c28 => ?_) (fun c28 => ?_)
    · have e : al = M := by omega
      subst e
      refine g_iconst (v := nI 1) C dX2_meets_92 (by decide) ?_
      exact g_ireturn C hQ rfl (by omega) (by omega) dX2_meets_93 (⟨_, rfl, true, f, rfl, rfl, fun _ => ⟨u, hB, hmin, fun a ha => ⟨(hf a ha).1, (prv_all (P := fun a => mtG z tb v hi f u (hs a)) hj hlast a ha).1, (prv_all (P := fun a => mtG z tb v hi f u (hs a)) hj hlast a ha).2, (hf a ha).2.2⟩⟩, fun h => by cases h⟩)
    · refine g_aload_n C dX2_meets_31 rfl rfl ?_
      refine g_iload_n C dX2_meets_32 rfl rfl ?_
      refine g_aald (n := 5) C rfl (by decide) a10 rfl (by omega) (by decide) dX2_meets_33 ?_
      refine g_topR (hr j hj) ?_
      refine g_astore (lv' := [(0, _), (1, _), (2, _), (3, _), (4, _), (6, _)]) C dX2_meets_34 (by decide) rfl ?_
      refine g_aload C dX2_meets_36 rfl ?_
      refine g_lload C dX2_meets_38 rfl ?_
      refine g_cfv (g_runV C (m_X3_seeks l _ (hs j) (pt (hs j)) (tb (hs j)) (v (hs j)) (f (hs j)) (hi (hs j)) q (rkL u) hA hv hv3 (mt_22 hHj) hh hh4 hR hC ⟨q1, q2, q3, q4⟩) ciX3_seeks q571 (Or.inl q572) (Or.inl q570) (hA.1 _ (by decide)) rfl rfl rfl rfl (Nat.le_of_ble_eq_true rfl) dX2_meets_40 (by decide)) ?_
      refine g_z hset ?_
      refine g_aload C dX2_meets_43 rfl ?_
      refine g_cfi (g_runV C (m_X3_isAtEnd l _ (hs j) (v (hs j)) q (hi (hs j)) hA.1 hv hv3 (show _ = nI q by rw [mt_22 hHj]; simp [va_up]) hh (by omega) hh4) ciX3_isAtEnd q562 (Or.inl q563) (Or.inl q561) (hA.1 _ (by decide)) rfl rfl rfl rfl (Nat.le_of_ble_eq_true rfl) dX2_meets_45 (by decide)) ?_
      refine g_if_eq_b (tgt := 53) C dX2_meets_48 (by decide) (fun c48 => ?_) (fun c48 => ?_)
      · have hqh : q < hi (hs j) := by have := of_decide_eq_false c48; omega
        have hge : rk u ≤ rk (kyF z (hs j) (tb (hs j)) (v (hs j)) q) := Int.not_lt.mp (fun e => q4 q (Nat.le_refl _) hqh ((rkL_lt _ _).mpr e))
        have hmin2 : ∀ y, comV z hs M tb v lo hi y → B ≤ rk y → rk (kyF z (hs j) (tb (hs j)) (v (hs j)) q) ≤ rk y := fun y hy hBy => (by
          obtain ⟨k, k1, k2, k3⟩ := hy j hj
          rcases Nat.lt_or_ge k q with h | h
          · have h9 := hlow k k1 h
            rw [k3] at h9
            have := hmin y hy hBy
            omega
          · have := hso q k (by omega) h k2
            rw [k3] at this
            exact this)
        have J78 := J78f hqh hge hmin2
        refine g_aload C dX2_meets_53 rfl ?_
        refine g_cfi (g_runV C (m_X3_value l _ (hs j) (pt (hs j)) (tb (hs j)) (v (hs j)) q hA hv hv3 (show _ = nI q by rw [mt_22 hHj]; simp [va_up]) (fun k hk => hR k (by omega)) hC (by omega)) ciX3_value q566 (Or.inl q567) (Or.inl q565) (hA.1 _ (by decide)) rfl rfl rfl rfl (Nat.le_of_ble_eq_true rfl) dX2_meets_55 (by decide)) ?_
        refine g_cfl (g_runS C (m_X0_rank l _ _) ciX0_rank q285 (Or.inr ⟨_, nq569⟩) rfl rfl (Nat.le_of_ble_eq_true rfl) dX2_meets_58 (by decide)) ?_
        refine g_lstore (lv' := [(0, _), (1, _), (2, _), (3, _), (4, _), (6, _), (7, _)]) C dX2_meets_61 (by decide) rfl ?_
        refine g_lload C dX2_meets_63 rfl ?_
        refine g_lload C dX2_meets_65 rfl ?_
        refine g_lcmp C dX2_meets_67 ?_
        refine g_if_ne_c (tgt := 77) C dX2_meets_68 (by decide) (fun c68 => ?_) (fun c68 => ?_)
        · have hlt : rk u < rk (kyF z (hs j) (tb (hs j)) (v (hs j)) q) := by
            have : rk u ≠ rk (kyF z (hs j) (tb (hs j)) (v (hs j)) q) := fun e => c68 ((rkL_eq _ _).mpr (rk_inj e).symm)
            omega
          have hgt := gtC_lt (z := z) (hs := hs) (tb := tb) (v := v) (hi := hi) hlt (M := M) ⟨j, hj, q, hqh, rfl⟩
          have J9 := J78 1 (by omega) (by omega) (prv_step (al := 0) (P := fun _ => False) (R := fun a => mtG z tb v hi (va_up f (hs j) q) (kyF z (hs j) (tb (hs j)) (v (hs j)) q) (hs a)) hj (by omega) (fun y hy => by omega) ⟨by rw [va_up_self]; exact hqh, by rw [va_up_self]⟩ (fun a _ h => h.elim))
          refine g_iconst (v := nI 1) C dX2_meets_77 (by decide) ?_
          exact J9 _
        · have e68 : kyF z (hs j) (tb (hs j)) (v (hs j)) q = u := (rkL_eq _ _).mp c68
          have hR9 : ∀ y, y < al + 1 → mtG z tb v hi (va_up f (hs j) q) (kyF z (hs j) (tb (hs j)) (v (hs j)) q) (hs (prv ((j + 1) % M) M y)) := by
            refine prv_step (P := fun a => mtG z tb v hi f u (hs a)) (R := fun a => mtG z tb v hi (va_up f (hs j) q) (kyF z (hs j) (tb (hs j)) (v (hs j)) q) (hs a)) hj c28 hlast ⟨by rw [va_up_self]; exact hqh, by rw [va_up_self]⟩ (fun a ha hPa => ?_)
            unfold mtG at hPa ⊢
            by_cases e : hs a = hs j
            · rw [e, va_up_self]; exact ⟨hqh, rfl⟩
            · rw [va_up_ne _ _ e, e68]; exact hPa
          have J9 := J78 (al + 1) (by omega) (by rw [e68]; omega) hR9
          refine g_iload_n C dX2_meets_71 rfl rfl ?_
          refine g_iconst (v := nI 1) C dX2_meets_72 (by decide) ?_
          first | refine g_iadd_n C dX2_meets_73 ?_ | refine g_iadd C dX2_meets_73 ?_
          refine g_goto (tgt := 78) C dX2_meets_74 (by decide) ?_
          exact J9 _
      · refine g_iconst (v := nI 0) C dX2_meets_51 (by decide) ?_
        exact g_ireturn C hQ rfl (by omega) (by omega) dX2_meets_52 (⟨_, rfl, false, va_up f (hs j) q, rfl, rfl, fun h => (by cases h), fun _ => ⟨fun y hy hBy => (by obtain ⟨k, k1, k2, k3⟩ := hy j hj; have h9 := hlow k k1 (by have := of_decide_eq_true c48; omega); rw [k3] at h9; have := hmin y hy hBy; omega), fun a ha => (hf2 a ha)⟩⟩)
theorem m_X2_meets (l : Launch) (z : JZ) (dd M : Nat) (hs pt tb v lo hi f : Nat → Nat) (H : Nat → Bool) (B : Int) (a10 : zL z (10, dd) = true) (hM0 : 0 < M) (hM : M ≤ 5) (hH : ∀ j, j < M → H (hs j) = true) (hr : ∀ j, j < M → zR z (10, dd) j = some (zA z (16, hs j))) (hw : ∀ j, j < M → wkS z pt tb v lo hi (hs j)) (hp : mtPre z hs M tb v lo hi f B) : jCt l yX2_meets cX2_meets 9 (some FieldType.boolean) 5 0 0 [.ref (zA z (10, dd)), .int (nI M)] (mtZ z H v (fun i x => spF z i (tb i) (v i) x (hi i)) f) (jPi (mtPost z hs M H tb v lo hi (fun i x => spF z i (tb i) (v i) x (hi i)) B)) := by
  obtain ⟨hA, hv, hv3, hh, hlh, hh4, hR, hC, hso⟩ := hw 0 hM0
  obtain ⟨hp1, hp2⟩ := hp
  obtain ⟨f1, f2, f3⟩ := hp1 0 hM0
  have hH0 := hH 0 hM0
  refine (jCt.of "JoinLoom$Loom" "meets" [(0, _), (1, _)] rfl rfl (by decide) (Nat.le_of_ble_eq_true rfl) rfl (fun Γ C hQ => ?_))
  refine g_iconst (v := nI 0) C dX2_meets_0 (by decide) ?_
  refine g_istore_n (lv' := [(0, _), (1, _), (2, _)]) C dX2_meets_1 rfl (by decide) rfl ?_
  refine g_iconst (v := nI 0) C dX2_meets_2 (by decide) ?_
  refine g_istore_n (lv' := [(0, _), (1, _), (2, _), (3, _)]) C dX2_meets_3 rfl (by decide) rfl ?_
  refine g_aload_n C dX2_meets_4 rfl rfl ?_
  refine g_iconst (v := nI 0) C dX2_meets_5 (by decide) ?_
  refine g_aald (n := 5) C rfl (by decide) a10 rfl (by omega) (by decide) dX2_meets_6 ?_
  refine g_topR (hr 0 hM0) ?_
  refine g_cfi (g_runV C (m_X3_isAtEnd l _ (hs 0) (v (hs 0)) (f (hs 0)) (hi (hs 0)) hA.1 hv hv3 (mt_22 hH0) hh (by omega) hh4) ciX3_isAtEnd q562 (Or.inl q563) (Or.inl q561) (hA.1 _ (by decide)) rfl rfl rfl rfl (Nat.le_of_ble_eq_true rfl) dX2_meets_7 (by decide)) ?_
  refine g_if_eq_b (tgt := 15) C dX2_meets_10 (by decide) (fun c10 => ?_) (fun c10 => ?_)
  · have hlt : f (hs 0) < hi (hs 0) := by have := of_decide_eq_false c10; omega
    refine g_aload_n C dX2_meets_15 rfl rfl ?_
    refine g_iconst (v := nI 0) C dX2_meets_16 (by decide) ?_
    refine g_aald (n := 5) C rfl (by decide) a10 rfl (by omega) (by decide) dX2_meets_17 ?_
    refine g_topR (hr 0 hM0) ?_
    refine g_cfi (g_runV C (m_X3_value l _ (hs 0) (pt (hs 0)) (tb (hs 0)) (v (hs 0)) (f (hs 0)) hA hv hv3 (mt_22 hH0) (fun k hk => hR k (by omega)) hC (by omega)) ciX3_value q566 (Or.inl q567) (Or.inl q565) (hA.1 _ (by decide)) rfl rfl rfl rfl (Nat.le_of_ble_eq_true rfl) dX2_meets_18 (by decide)) ?_
    refine g_cfl (g_runS C (m_X0_rank l _ _) ciX0_rank q285 (Or.inr ⟨_, nq569⟩) rfl rfl (Nat.le_of_ble_eq_true rfl) dX2_meets_21 (by decide)) ?_
    refine g_lstore (lv' := [(0, _), (1, _), (2, _), (3, _), (4, _)]) C dX2_meets_24 (by decide) rfl ?_
    have hm0 : ∀ y, comV z hs M tb v lo hi y → B ≤ rk y → rk (kyF z (hs 0) (tb (hs 0)) (v (hs 0)) (f (hs 0))) ≤ rk y := by
      intro y hy hBy
      obtain ⟨k, k1, k2, k3⟩ := hy 0 hM0
      rcases Nat.lt_or_ge k (f (hs 0)) with h | h
      · have h9 := f3 k k1 h
        rw [k3] at h9
        omega
      · have := hso _ k f1 h k2
        rw [k3] at this
        exact this
    exact lp_X2_meets C hQ a10 hM0 hM hH hr hw _ 0 0 (kyF z (hs 0) (tb (hs 0)) (v (hs 0)) (f (hs 0))) f (Nat.le_refl _) (by omega) hM0 (hp2 _ (Nat.le_refl _) hlt) hm0 (fun a ha => ⟨(hp1 a ha).1, (hp1 a ha).2.1, fun k k1 k2 => Int.lt_of_lt_of_le ((hp1 a ha).2.2 k k1 k2) (hp2 _ (Nat.le_refl _) hlt)⟩) (fun y hy => absurd hy (Nat.not_lt_zero _))
  · refine g_iconst (v := nI 0) C dX2_meets_13 (by decide) ?_
    exact g_ireturn C hQ rfl (by omega) (by omega) dX2_meets_14 (⟨_, rfl, false, f, rfl, rfl, fun h => (by cases h), fun _ => ⟨fun y hy hBy => (by obtain ⟨k, k1, k2, k3⟩ := hy 0 hM0; have h9 := f3 k k1 (by have := of_decide_eq_true c10; omega); rw [k3] at h9; omega), fun a ha => ⟨(hp1 a ha).1, (hp1 a ha).2.1⟩⟩⟩)
