section
/-! matchings on ten points; m v < 10 is v's partner, else v has none -/
def ma_G (adj : Nat → Nat → Prop) : Prop := ∀ u v, adj u v → adj v u ∧ u ≠ v ∧ u < 10 ∧ v < 10
def ma_M (adj : Nat → Nat → Prop) (m : Nat → Nat) : Prop := ∀ v, v < 10 → m v < 10 → m (m v) = v ∧ adj v (m v)
/-- how many of the first k points have a partner -/
def ma_cn (m : Nat → Nat) : Nat → Nat
  | 0 => 0
  | k + 1 => ma_cn m k + (if m k < 10 then 1 else 0)
def ma_c (m : Nat → Nat) : Nat := ma_cn m 10
def ma_up (f : Nat → Nat) (k x : Nat) : Nat → Nat := fun j => if j = k then x else f j
theorem ma_us {f : Nat → Nat} {k x : Nat} : ma_up f k x k = x := by simp [ma_up]
theorem ma_un {f : Nat → Nat} {k x j : Nat} (h : j ≠ k) : ma_up f k x j = f j := by simp [ma_up, h]
theorem ma_cn_top (m : Nat → Nat) (k : Nat) : ma_cn m k ≤ k := by
  induction k with
  | zero => exact Nat.le_refl 0
  | succ k ih =>
    simp only [ma_cn]
    split <;> omega
theorem ma_cn_le {m n : Nat → Nat} {k : Nat} (h : ∀ v, v < k → m v < 10 → n v < 10) : ma_cn m k ≤ ma_cn n k := by
  induction k with
  | zero => exact Nat.le_refl 0
  | succ k ih =>
    have i := ih (fun v hv => h v (by omega))
    have j := h k (by omega)
    simp only [ma_cn]
    split
    · rename_i t
      rw [if_pos (j t)]
      omega
    · split <;> omega
theorem ma_cn_eq {m n : Nat → Nat} {k : Nat} (h : ∀ v, v < k → (m v < 10 ↔ n v < 10)) : ma_cn m k = ma_cn n k :=
  Nat.le_antisymm (ma_cn_le fun v hv => (h v hv).mp) (ma_cn_le fun v hv => (h v hv).mpr)
theorem ma_cn_lt {m n : Nat → Nat} {k q : Nat} (h : ∀ v, v < k → m v < 10 → n v < 10) (hq : q < k) (h1 : ¬ m q < 10) (h2 : n q < 10) : ma_cn m k + 1 ≤ ma_cn n k := by
  induction k with
  | zero => omega
  | succ k ih =>
    simp only [ma_cn]
    by_cases e : q = k
    · subst e
      rw [if_neg h1, if_pos h2]
      have := ma_cn_le (k := q) (fun v hv => h v (by omega))
      omega
    · have i := ih (fun v hv => h v (by omega)) (by omega)
      have j := h k (by omega)
      split
      · rename_i t
        rw [if_pos (j t)]
        omega
      · split <;> omega
theorem ma_cn_pt {m : Nat → Nat} {k q : Nat} (hq : q < k) (h1 : ¬ m q < 10) : ma_cn (ma_up m q 0) k = ma_cn m k + 1 := by
  induction k with
  | zero => omega
  | succ k ih =>
    simp only [ma_cn]
    by_cases e : q = k
    · subst e
      rw [if_neg h1, ma_us, if_pos (by omega)]
      have := ma_cn_eq (m := ma_up m q 0) (n := m) (k := q) (fun v hv => by rw [ma_un (by omega)])
      omega
    · rw [ih (by omega), ma_un (fun z => e z.symm)]
      omega
theorem ma_cn_ex {m n : Nat → Nat} {k : Nat} (h : ma_cn m k < ma_cn n k) : ∃ q, q < k ∧ ¬ m q < 10 ∧ n q < 10 := by
  refine Classical.byContradiction (fun hc => ?_)
  have : ma_cn n k ≤ ma_cn m k := ma_cn_le (fun v hv hn => Classical.byContradiction (fun hm => hc ⟨v, hv, hm, hn⟩))
  omega
/-- two points joined anew; the old partner of x is left free -/
def ma_rw (m : Nat → Nat) (v x : Nat) : Nat → Nat := fun z => if z = v then x else if z = x then v else if z = m x then 10 else m z
theorem ma_rw_v {m : Nat → Nat} {v x : Nat} : ma_rw m v x v = x := by simp [ma_rw]
theorem ma_rw_x {m : Nat → Nat} {v x : Nat} (h : v ≠ x) : ma_rw m v x x = v := by simp [ma_rw, Ne.symm h]
theorem ma_rw_y {m : Nat → Nat} {v x : Nat} (h : m x ≠ v) (h2 : m x ≠ x) : ma_rw m v x (m x) = 10 := by simp [ma_rw, h, h2]
theorem ma_rw_o {m : Nat → Nat} {v x z : Nat} (h : z ≠ v) (h2 : z ≠ x) (h3 : z ≠ m x) : ma_rw m v x z = m z := by simp [ma_rw, h, h2, h3]
theorem ma_inv {adj : Nat → Nat → Prop} {m : Nat → Nat} (hm : ma_M adj m) {u v : Nat} (hu : u < 10) (hv : v < 10) (h : m u = v) : m v = u := by
  subst h
  exact (hm u hu hv).1
theorem ma_rw_M {adj : Nat → Nat → Prop} {m : Nat → Nat} {v x : Nat} (G : ma_G adj) (hm : ma_M adj m) (hv : ¬ m v < 10) (ha : adj v x) : ma_M adj (ma_rw m v x) := by
  obtain ⟨ha', hne, hv10, hx10⟩ := G v x ha
  intro z hz hz'
  by_cases e1 : z = v
  · subst e1
    rw [ma_rw_v, ma_rw_x hne]
    exact ⟨rfl, ha⟩
  by_cases e2 : z = x
  · subst e2
    rw [ma_rw_x hne, ma_rw_v]
    exact ⟨rfl, ha'⟩
  by_cases e3 : z = m x
  · rw [e3, ma_rw_y (fun h => e1 (e3.trans h)) (fun h => e2 (e3.trans h))] at hz'
    omega
  rw [ma_rw_o e1 e2 e3] at hz' ⊢
  obtain ⟨k1, k2⟩ := hm z hz hz'
  refine ⟨?_, k2⟩
  rw [ma_rw_o, k1]
  · intro h
    rw [h] at k1
    rw [k1] at hv
    exact hv hz
  · intro h
    rw [h] at k1
    exact e3 k1.symm
  · intro h
    have e : m (m x) = x := (hm x hx10 (by omega)).1
    have e' : z = x := by rw [← k1, h, e]
    exact e2 e'
theorem ma_rw_c {adj : Nat → Nat → Prop} {m : Nat → Nat} {v x z : Nat} (G : ma_G adj) (ha : adj v x) (hz : z < 10) : ma_rw m v x z < 10 ↔ z = v ∨ z = x ∨ (z ≠ m x ∧ m z < 10) := by
  obtain ⟨ha', hne, hv10, hx10⟩ := G v x ha
  unfold ma_rw
  by_cases e1 : z = v
  · simp [e1, hx10]
  by_cases e2 : z = x
  · rw [if_neg e1, if_pos e2]
    exact ⟨fun _ => Or.inr (Or.inl e2), fun _ => hv10⟩
  by_cases e3 : z = m x
  · rw [if_neg e1, if_neg e2, if_pos e3]
    exact ⟨fun h => absurd h (by omega), fun h => by rcases h with h | h | h; exact absurd h e1; exact absurd h e2; exact absurd e3 h.1⟩
  · rw [if_neg e1, if_neg e2, if_neg e3]
    exact ⟨fun h => Or.inr (Or.inr ⟨e3, h⟩), fun h => by rcases h with h | h | h; exact absurd h e1; exact absurd h e2; exact h.2⟩
/-- where n agrees with m -/
def ma_ag (m n : Nat → Nat) : Nat → Nat := fun v => if m v < 10 ∧ n v = m v then 0 else 10
theorem ma_ag_i {m n : Nat → Nat} {v : Nat} : ma_ag m n v < 10 ↔ m v < 10 ∧ n v = m v := by
  unfold ma_ag
  split
  · rename_i h
    exact ⟨fun _ => h, fun _ => by omega⟩
  · rename_i h
    exact ⟨fun z => absurd z (by omega), fun z => absurd z h⟩
/-- some matching covers all that m covers and is no smaller than n -/
theorem ma_ext {adj : Nat → Nat → Prop} {m : Nat → Nat} (G : ma_G adj) (hm : ma_M adj m) : ∀ (d : Nat) (n : Nat → Nat), ma_M adj n → 10 ≤ d + ma_c (ma_ag m n) → ∃ n', ma_M adj n' ∧ (∀ v, v < 10 → m v < 10 → n' v < 10) ∧ ma_c n ≤ ma_c n' := by
  intro d
  induction d with
  | zero =>
    intro n hn hd
    refine ⟨n, hn, fun v hv hmv => Classical.byContradiction (fun hc => ?_), Nat.le_refl _⟩
    have h1 : ma_cn (ma_ag m n) 10 + 1 ≤ ma_cn (fun _ => 0) 10 := ma_cn_lt (q := v) (fun _ _ _ => Nat.succ_pos 9) hv (fun h => hc ((ma_ag_i.mp h).2 ▸ hmv)) (Nat.succ_pos 9)
    have h2 := ma_cn_top (fun _ => 0) 10
    unfold ma_c at hd
    omega
  | succ d ih =>
    intro n hn hd
    by_cases hall : ∀ v, v < 10 → m v < 10 → n v < 10
    · exact ⟨n, hn, hall, Nat.le_refl _⟩
    · have hex : ∃ v, v < 10 ∧ m v < 10 ∧ ¬ n v < 10 := Classical.byContradiction (fun hc => hall (fun v hv hmv => Classical.byContradiction (fun hnv => hc ⟨v, hv, hmv, hnv⟩)))
      obtain ⟨v, hv, hmv, hnv⟩ := hex
      obtain ⟨k1, k2⟩ := hm v hv hmv
      have hne := (G _ _ k2).2.1
      have hM := ma_rw_M G hn hnv k2
      have hvw : ma_rw n v (m v) v = m v := ma_rw_v
      have hag : ∀ z, z < 10 → ma_ag m n z < 10 → ma_ag m (ma_rw n v (m v)) z < 10 := by
        intro z hz h
        obtain ⟨a1, a2⟩ := ma_ag_i.mp h
        refine ma_ag_i.mpr ⟨a1, ?_⟩
        rw [ma_rw_o, a2]
        · intro e
          rw [e] at a2
          omega
        · intro e
          rw [e, k1] at a2
          have := ma_inv hn hmv hv a2
          omega
        · intro e
          have e1 : n (m v) = z := e.symm
          have e2 : n z = m v := ma_inv hn hmv hz e1
          rw [e2] at a2
          have e3 : m z = m v := a2.symm
          have e4 : m (m v) = z := ma_inv hm hz hmv e3
          rw [k1] at e4
          rw [← e4] at e2
          omega
      have hagc : ma_cn (ma_ag m n) 10 + 1 ≤ ma_cn (ma_ag m (ma_rw n v (m v))) 10 := by
        refine ma_cn_lt hag hv (fun h => ?_) (ma_ag_i.mpr ⟨hmv, hvw⟩)
        have := (ma_ag_i.mp h).2
        omega
      have hcc : ma_c n ≤ ma_c (ma_rw n v (m v)) := by
        unfold ma_c
        by_cases hw : n (m v) < 10
        · have e1 : ma_cn (ma_up (ma_up n (n (m v)) 10) (n (m v)) 0) 10 = ma_cn (ma_up n (n (m v)) 10) 10 + 1 := ma_cn_pt hw (by rw [ma_us]; omega)
          have e2 : ma_cn (ma_up (ma_up n (n (m v)) 10) (n (m v)) 0) 10 = ma_cn n 10 := by
            refine ma_cn_eq (fun z hz => ?_)
            by_cases e : z = n (m v)
            · rw [e, ma_us, (hn _ hmv hw).1]
              exact ⟨fun _ => hmv, fun _ => by omega⟩
            · rw [ma_un e, ma_un e]
          have e3 : ma_cn (ma_up n (n (m v)) 10) 10 + 1 ≤ ma_cn (ma_rw n v (m v)) 10 := by
            refine ma_cn_lt (q := v) (fun z hz h => ?_) hv ?_ (by rw [hvw]; exact hmv)
            · by_cases e : z = n (m v)
              · rw [e, ma_us] at h
                omega
              · rw [ma_un e] at h
                exact (ma_rw_c G k2 hz).mpr (Or.inr (Or.inr ⟨e, h⟩))
            · by_cases e : v = n (m v)
              · rw [← e, ma_us]
                omega
              · rw [ma_un e]
                exact hnv
          omega
        · exact ma_cn_le (fun z hz h => (ma_rw_c G k2 hz).mpr (Or.inr (Or.inr ⟨fun e => hw (e ▸ hz), h⟩)))
      obtain ⟨n', h1, h2, h3⟩ := ih _ hM (by unfold ma_c at hd ⊢; omega)
      exact ⟨n', h1, h2, Nat.le_trans hcc h3⟩
theorem ma_extend {adj : Nat → Nat → Prop} {m n : Nat → Nat} (G : ma_G adj) (hm : ma_M adj m) (hn : ma_M adj n) : ∃ n', ma_M adj n' ∧ (∀ v, v < 10 → m v < 10 → n' v < 10) ∧ ma_c n ≤ ma_c n' :=
  ma_ext G hm 10 n hn (by omega)
/-- no matching covers all that m covers and r -/
def ma_F (adj : Nat → Nat → Prop) (m : Nat → Nat) (r : Nat) : Prop := ∀ n, ma_M adj n → (∀ v, v < 10 → m v < 10 → n v < 10) → ¬ n r < 10
theorem ma_F_mono {adj : Nat → Nat → Prop} {m m' : Nat → Nat} {r : Nat} (h : ma_F adj m r) (hc : ∀ v, v < 10 → m v < 10 → m' v < 10) : ma_F adj m' r :=
  fun n hn hcv => h n hn (fun v hv hmv => hcv v hv (hc v hv hmv))
theorem ma_max {adj : Nat → Nat → Prop} {m : Nat → Nat} (G : ma_G adj) (hm : ma_M adj m) (hF : ∀ r, r < 10 → ¬ m r < 10 → ma_F adj m r) : ∀ n, ma_M adj n → ma_c n ≤ ma_c m := by
  intro n hn
  refine Classical.byContradiction (fun hc => ?_)
  obtain ⟨n', h1, h2, h3⟩ := ma_extend G hm hn
  have : ma_cn m 10 < ma_cn n' 10 := by unfold ma_c at *; omega
  obtain ⟨q, hq, hq1, hq2⟩ := ma_cn_ex this
  exact hF q hq hq1 n' h1 h2 hq2
end
section
/-! no matching covers a whole Hungarian tree; points missed by some largest matching; turning a way -/
theorem ma_php {u : Nat → Nat} (h : ∀ i, u i < 10) (hi : ∀ i d, u i ≠ u (i + d + 1)) : False := by
  have hn : ((List.range 11).map u).Nodup := by
    refine List.Pairwise.map u (R := (· < ·)) (fun a b hab => ?_) (List.pairwise_lt_range (n := 11))
    have := hi a (b - a - 1)
    rw [show a + (b - a - 1) + 1 = b by omega] at this
    exact this
  have hs : ((List.range 11).map u) ⊆ List.range 10 := by
    intro x hx
    obtain ⟨i, _, rfl⟩ := List.mem_map.mp hx
    exact List.mem_range.mpr (h i)
  have := hn.length_le_of_subset hs
  simp at this
def ma_u (m n : Nat → Nat) (r : Nat) : Nat → Nat
  | 0 => r
  | i + 1 => m (n (ma_u m n r i))
theorem ma_odd {adj : Nat → Nat → Prop} {m n : Nat → Nat} {r : Nat} (G : ma_G adj) (hm : ma_M adj m) (hn : ma_M adj n) (k : Nat) (ha : ∀ i, i ≤ k → ma_u m n r i < 10 ∧ n (ma_u m n r i) < 10) : ∀ d j, j + d ≤ k → n (ma_u m n r (j + d)) ≠ ma_u m n r j := by
  intro d
  induction d using Nat.strongRecOn with
  | _ d ih =>
    intro j hj h
    match d, ih, hj, h with
    | 0, _, hj, h =>
      have a := ha j (by omega)
      have b := (hn _ a.1 a.2).2
      rw [Nat.add_zero] at h
      rw [h] at b
      exact (G _ _ b).2.1 rfl
    | 1, _, hj, h =>
      have a := ha j (by omega)
      have a1 := ha (j + 1) (by omega)
      have e := ma_inv hn a1.1 a.1 h
      have e2 : ma_u m n r (j + 1) = m (n (ma_u m n r j)) := rfl
      rw [e] at e2
      have b := (hm _ a1.1 (by rw [← e2]; exact a1.1)).2
      rw [← e2] at b
      exact (G _ _ b).2.1 rfl
    | d + 2, ih, hj, h =>
      have a := ha j (by omega)
      have a1 := ha (j + 1) (by omega)
      have a2 := ha (j + d + 1) (by omega)
      have a3 := ha (j + (d + 2)) hj
      have e := ma_inv hn a3.1 a.1 h
      have e2 : ma_u m n r (j + 1) = m (n (ma_u m n r j)) := rfl
      rw [e] at e2
      have e3 : ma_u m n r (j + (d + 2)) = m (n (ma_u m n r (j + d + 1))) := rfl
      have e4 := ma_inv hm a2.2 a3.1 e3.symm
      refine ih d (by omega) (j + 1) (by omega) ?_
      rw [show j + 1 + d = j + d + 1 by omega, ← e4, e2]
theorem ma_HT {adj : Nat → Nat → Prop} {m n b : Nat → Nat} {o : Nat → Prop} {r : Nat} (G : ma_G adj) (hm : ma_M adj m) (hn : ma_M adj n) (hr : r < 10) (hmr : ¬ m r < 10) (ho : o r) (hb : b r = r)
    (hcl : ∀ v w, v < 10 → o v → adj v w → (o w ∧ b w = b v) ∨ (m w < 10 ∧ o (m w) ∧ b (m w) = m w))
    (h5 : ∀ v, v < 10 → o v → b v ≠ v → m v < 10 ∧ o (m v) ∧ b (m v) = b v)
    (hcov : ∀ v, v < 10 → o v → n v < 10) : False := by
  have key : ∀ i j, j ≤ i → ma_u m n r j < 10 ∧ o (ma_u m n r j) ∧ ∃ k, k ≤ j ∧ b (ma_u m n r j) = ma_u m n r k := by
    intro i
    induction i with
    | zero =>
      intro j hj
      rw [show j = 0 by omega]
      exact ⟨hr, ho, 0, Nat.le_refl 0, hb⟩
    | succ i ih =>
      intro j hj
      by_cases e : j ≤ i
      · exact ih j e
      · rw [show j = i + 1 by omega]
        obtain ⟨p1, p2, k, hk, p3⟩ := ih i (Nat.le_refl i)
        have hw := hcov _ p1 p2
        have had := (hn _ p1 hw).2
        show m (n (ma_u m n r i)) < 10 ∧ o (m (n (ma_u m n r i))) ∧ ∃ k, k ≤ i + 1 ∧ b (m (n (ma_u m n r i))) = ma_u m n r k
        rcases hcl _ _ p1 p2 had with ⟨c1, c2⟩ | ⟨c1, c2, c3⟩
        · have hne : b (n (ma_u m n r i)) ≠ n (ma_u m n r i) := by
            intro h
            have h2 : n (ma_u m n r (k + (i - k))) = ma_u m n r k := by
              rw [show k + (i - k) = i by omega, ← p3, ← c2, h]
            exact ma_odd G hm hn i (fun z hz => ⟨(ih z hz).1, hcov _ (ih z hz).1 (ih z hz).2.1⟩) (i - k) k (by omega) h2
          obtain ⟨q1, q2, q3⟩ := h5 _ hw c1 hne
          exact ⟨q1, q2, k, by omega, by rw [q3, c2, p3]⟩
        · exact ⟨c1, c2, i + 1, Nat.le_refl _, c3⟩
  have al : ∀ i, ma_u m n r i < 10 := fun i => (key i i (Nat.le_refl i)).1
  have cv : ∀ i, n (ma_u m n r i) < 10 := fun i => hcov _ (al i) (key i i (Nat.le_refl i)).2.1
  refine ma_php al (fun i => ?_)
  induction i with
  | zero =>
    intro d h
    have e : ma_u m n r (0 + d + 1) = m (n (ma_u m n r (0 + d))) := rfl
    rw [e] at h
    have h' : m (n (ma_u m n r (0 + d))) = r := h.symm
    have := ma_inv hm (cv (0 + d)) hr h'
    rw [this] at hmr
    exact hmr (cv _)
  | succ i ih =>
    intro d h
    have e1 : ma_u m n r (i + 1) = m (n (ma_u m n r i)) := rfl
    have e2 : ma_u m n r (i + 1 + d + 1) = m (n (ma_u m n r (i + d + 1))) := by
      rw [show i + 1 + d + 1 = (i + d + 1) + 1 by omega]
      rfl
    have f1 := ma_inv hm (cv i) (al (i + 1)) e1.symm
    have f2 := ma_inv hm (cv (i + d + 1)) (al (i + 1 + d + 1)) e2.symm
    rw [← h, f1] at f2
    have g1 := (hn _ (al i) (cv i)).1
    have g2 := (hn _ (al (i + d + 1)) (cv (i + d + 1))).1
    rw [← f2, g1] at g2
    exact ih d g2
/-- a point that some largest matching misses lies in one of the trees -/
theorem ma_gal {adj : Nat → Nat → Prop} {m n : Nat → Nat} {q : Nat} (G : ma_G adj) (hm : ma_M adj m) (hx : ∀ n, ma_M adj n → ma_c n ≤ ma_c m) (hq : q < 10) (hn : ma_M adj n) (hc : ma_c m ≤ ma_c n) (hnq : ¬ n q < 10)
    (hO : ∀ p, p < 10 → ¬ m p < 10 → ∃ O : Nat → Prop, O p ∧ (∀ v, v < 10 → O v → m v < 10 ∨ v = p) ∧ ¬ O q ∧ ∀ n', ma_M adj n' → ¬ ∀ v, v < 10 → O v → n' v < 10) : False := by
  by_cases hmq : m q < 10
  · obtain ⟨k1, k2⟩ := hm q hq hmq
    have hne := (G _ _ k2).2.1
    have G' : ma_G (fun u v => adj u v ∧ u ≠ q ∧ v ≠ q) := fun u v h => ⟨⟨(G u v h.1).1, h.2.2, h.2.1⟩, (G u v h.1).2⟩
    have hm' : ma_M (fun u v => adj u v ∧ u ≠ q ∧ v ≠ q) (ma_up (ma_up m q 10) (m q) 10) := by
      intro v hv h
      by_cases e1 : v = m q
      · rw [e1, ma_us] at h
        omega
      · by_cases e2 : v = q
        · rw [ma_un e1, e2, ma_us] at h
          omega
        · rw [ma_un e1, ma_un e2] at h ⊢
          obtain ⟨l1, l2⟩ := hm v hv h
          have n1 : m v ≠ q := fun z => e1 (ma_inv hm hv hq z).symm
          have n2 : m v ≠ m q := fun z => e2 (by rw [← l1, z, k1])
          rw [ma_un n2, ma_un n1]
          exact ⟨l1, l2, e2, n1⟩
    have hn' : ma_M (fun u v => adj u v ∧ u ≠ q ∧ v ≠ q) n := by
      intro v hv h
      obtain ⟨l1, l2⟩ := hn v hv h
      refine ⟨l1, l2, fun z => hnq (z ▸ h), fun z => ?_⟩
      rw [z] at l1
      exact hnq (l1 ▸ hv)
    obtain ⟨s, s1, s2, s3⟩ := ma_extend G' hm' hn'
    have t1 : ma_M adj s := fun v hv h => ⟨(s1 v hv h).1, (s1 v hv h).2.1⟩
    have t2 : ¬ s q < 10 := fun h => (s1 q hq h).2.2.1 rfl
    have t3 : s (m q) < 10 := by
      refine Classical.byContradiction (fun hw => ?_)
      have M2 := ma_rw_M G t1 t2 k2
      have c1 : ma_cn s 10 + 1 ≤ ma_cn (ma_rw s q (m q)) 10 :=
        ma_cn_lt (q := q) (fun z hz h => (ma_rw_c G k2 hz).mpr (Or.inr (Or.inr ⟨fun e => hw (e ▸ hz), h⟩))) hq t2 (by rw [ma_rw_v]; exact hmq)
      have c2 := hx _ M2
      unfold ma_c at *
      omega
    have t4 : ∃ p, p < 10 ∧ s p < 10 ∧ ¬ m p < 10 := by
      refine Classical.byContradiction (fun hw => ?_)
      have c1 : ma_cn s 10 + 1 ≤ ma_cn m 10 := ma_cn_lt (q := q) (fun z hz h => Classical.byContradiction (fun g => hw ⟨z, hz, h, g⟩)) hq t2 hmq
      unfold ma_c at *
      omega
    obtain ⟨p, hp, p1, p2⟩ := t4
    obtain ⟨O, _, o1, o2, o3⟩ := hO p hp p2
    refine o3 s t1 (fun v hv hv2 => ?_)
    by_cases e1 : v = m q
    · rw [e1]
      exact t3
    · rcases o1 v hv hv2 with h | h
      · refine s2 v hv ?_
        rw [ma_un e1, ma_un (fun z : v = q => o2 (z ▸ hv2))]
        exact h
      · rw [h]
        exact p1
  · obtain ⟨O, h1, _, h3, _⟩ := hO q hq hmq
    exact h3 h1
/-! runs of a function -/
def se_it (f : Nat → Nat) : List Nat → Nat → Nat → Prop
  | [], x, t => x = t
  | y :: X, x, t => x = y ∧ se_it f X (f y) t
theorem se_it_app {f : Nat → Nat} {Y : List Nat} {y t : Nat} : ∀ {X : List Nat} {x : Nat}, se_it f X x y → se_it f Y y t → se_it f (X ++ Y) x t
  | [], x, h, h' => by
    have h : x = y := h
    rw [h]
    exact h'
  | z :: X, x, h, h' => ⟨h.1, se_it_app (X := X) h.2 h'⟩
theorem se_it_split {f : Nat → Nat} {Y : List Nat} {y t : Nat} : ∀ {X : List Nat} {x : Nat}, se_it f (X ++ y :: Y) x t → se_it f X x y ∧ se_it f (y :: Y) y t
  | [], x, h => ⟨h.1, rfl, h.2⟩
  | z :: X, x, h => ⟨⟨h.1, (se_it_split (X := X) h.2).1⟩, (se_it_split (X := X) h.2).2⟩
theorem se_it_congr {f g : Nat → Nat} {t : Nat} : ∀ {X : List Nat} {x : Nat}, (∀ x, x ∈ X → f x = g x) → se_it f X x t → se_it g X x t
  | [], x, _, h => h
  | z :: X, x, hc, h => ⟨h.1, by
    have := se_it_congr (X := X) (fun y hy => hc y (List.mem_cons_of_mem z hy)) h.2
    rw [hc z (List.mem_cons_self ..)] at this
    exact this⟩
/-- two runs from one point: the one whose end the other doesn't pass goes on over the other's end -/
theorem se_it_pre {f : Nat → Nat} {d t : Nat} : ∀ {X E : List Nat} {x : Nat}, se_it f X x d → se_it f E x t → t ∉ X → ∃ Y, E = X ++ Y ∧ se_it f Y d t
  | [], E, x, h, h', _ => by
    have h : x = d := h
    exact ⟨E, rfl, h ▸ h'⟩
  | z :: X, [], x, h, h', hn => by
    have h' : x = t := h'
    exact absurd (List.mem_cons.mpr (Or.inl (h'.symm.trans h.1))) hn
  | z :: X, e :: E, x, h, h', hn => by
    obtain ⟨h1, h2⟩ := h
    obtain ⟨h3, h4⟩ := h'
    have : e = z := h3.symm.trans h1
    subst this
    obtain ⟨Y, k1, k2⟩ := se_it_pre (X := X) (E := E) h2 h4 (fun z => hn (List.mem_cons_of_mem _ z))
    exact ⟨Y, by rw [k1]; rfl, k2⟩
theorem se_it_nodup {f : Nat → Nat} {t : Nat} : ∀ {X : List Nat} {x : Nat}, se_it f X x t → t ∉ X → X.Nodup
  | [], x, _, _ => List.nodup_nil
  | z :: X, x, h, hn => by
    have hX : t ∉ X := fun q => hn (List.mem_cons_of_mem _ q)
    refine List.nodup_cons.mpr ⟨fun hz => ?_, se_it_nodup (X := X) h.2 hX⟩
    obtain ⟨A, B, e⟩ := List.append_of_mem hz
    rw [e] at h
    have h2 : se_it f ((z :: A) ++ z :: B) x t := h
    obtain ⟨h3, h4⟩ := se_it_split h2
    have h1 : x = z := h.1
    rw [h1] at h2
    obtain ⟨Y, k1, k2⟩ := se_it_pre (X := z :: B) h4 h2 (fun q => hX (e ▸ List.mem_append_right A q))
    have k3 : Y = [] := by
      match Y, k2 with
      | [], _ => rfl
      | y :: Y, k2 =>
        have : t = y := k2.1
        have ht : t ∈ (z :: A) ++ z :: B := by
          rw [k1, this]
          exact List.mem_append_right _ (List.mem_cons_self ..)
        rw [← List.cons_append] at *
        exact absurd (show t ∈ z :: X by rw [e]; exact ht) hn
    rw [k3] at k1
    have := congrArg List.length k1
    simp at this
    omega
theorem se_len {X : List Nat} (h : X.Nodup) (hb : ∀ x, x ∈ X → x < 10) : X.length ≤ 10 := by
  have := h.length_le_of_subset (l₂ := List.range 10) (fun x hx => List.mem_range.mpr (hb x hx))
  simpa using this
theorem se_len9 {X : List Nat} {t : Nat} (h : X.Nodup) (hb : ∀ x, x ∈ X → x < 10) (ht : t < 10) (hn : t ∉ X) : X.length ≤ 9 := by
  have := se_len (X := t :: X) (List.nodup_cons.mpr ⟨hn, h⟩) (fun x hx => by
    rcases List.mem_cons.mp hx with e | e
    · rw [e]; exact ht
    · exact hb x e)
  simpa using this
/-! turning a way: v is free, the way goes on over p v -/
def ma_T (adj : Nat → Nat → Prop) (p m : Nat → Nat) (r v : Nat) (X : List Nat) : Prop :=
  ma_M adj m ∧ ¬ m v < 10 ∧ adj v (p v) ∧ se_it (fun x => p (m x)) X (p v) r ∧ r < 10 ∧ ¬ m r < 10 ∧ v ≠ r ∧ X.Nodup ∧ r ∉ X ∧ v ∉ X ∧ ∀ x, x ∈ X → x < 10 ∧ m x < 10 ∧ adj (m x) (p (m x)) ∧ m x ∉ X
theorem ma_T_0 {adj : Nat → Nat → Prop} {p m : Nat → Nat} {r v : Nat} (G : ma_G adj) (h : ma_T adj p m r v []) : p v = r ∧ v < 10 ∧ ma_M adj (ma_rw m v r) ∧ ∀ z, z < 10 → (ma_rw m v r z < 10 ↔ m z < 10 ∨ z = v ∨ z = r) := by
  obtain ⟨h1, h2, h3, h4, h5, h6, h7, _, _, _, _⟩ := h
  have h4 : p v = r := h4
  rw [h4] at h3
  refine ⟨h4, (G _ _ h3).2.2.1, ma_rw_M G h1 h2 h3, fun z hz => ?_⟩
  rw [ma_rw_c G h3 hz]
  constructor
  · rintro (h | h | h)
    · exact Or.inr (Or.inl h)
    · exact Or.inr (Or.inr h)
    · exact Or.inl h.2
  · rintro (h | h | h)
    · exact Or.inr (Or.inr ⟨fun e => h6 (e ▸ hz), h⟩)
    · exact Or.inl h
    · exact Or.inr (Or.inl h)
theorem ma_T_s {adj : Nat → Nat → Prop} {p m : Nat → Nat} {r v x : Nat} {X : List Nat} (G : ma_G adj) (h : ma_T adj p m r v (x :: X)) : p v = x ∧ v < 10 ∧ x < 10 ∧ v ≠ x ∧ m x < 10 ∧ m x ≠ v ∧ m x ≠ x ∧ ma_T adj p (ma_rw m v x) r (m x) X ∧ ∀ z, z < 10 → ((ma_rw m v x z < 10 ∨ z = m x ∨ z = r) ↔ m z < 10 ∨ z = v ∨ z = r) := by
  obtain ⟨h1, h2, h3, ⟨h4, h4'⟩, h5, h6, h7, h8, h9, h10, h11⟩ := h
  obtain ⟨x1, x2, x3, x4⟩ := h11 x (List.mem_cons_self ..)
  have hpv : p v = x := h4
  rw [hpv] at h3
  have hv := (G _ _ h3).2.2.1
  have hvx := (G _ _ h3).2.1
  obtain ⟨k1, k2⟩ := h1 x x1 x2
  have n1 : m x ≠ v := fun e => h2 (by rw [e] at k1; rw [k1]; exact x1)
  have n2 : m x ≠ x := fun e => x4 (by rw [e]; exact List.mem_cons_self ..)
  have n3 : r ≠ x := fun e => h9 (e ▸ List.mem_cons_self ..)
  have n4 : r ≠ m x := fun e => h6 (by rw [e, k1]; exact x1)
  obtain ⟨d1, d2⟩ := List.nodup_cons.mp h8
  have hX : ∀ y, y ∈ X → ma_rw m v x y = m y := fun y hy => ma_rw_o (fun e => h10 (List.mem_cons_of_mem _ (e ▸ hy))) (fun e => d1 (e ▸ hy)) (fun e => x4 (List.mem_cons_of_mem _ (e ▸ hy)))
  refine ⟨hpv, hv, x1, hvx, x2, n1, n2, ⟨ma_rw_M G h1 h2 h3, ?_, x3, ?_, h5, ?_, fun e => n4 e.symm, d2, fun hr => h9 (List.mem_cons_of_mem _ hr), fun hr => x4 (List.mem_cons_of_mem _ hr), fun y hy => ?_⟩, fun z hz => ?_⟩
  · rw [ma_rw_y n1 n2]
    omega
  · exact se_it_congr (fun y hy => by show p (m y) = p (ma_rw m v x y); rw [hX y hy]) h4'
  · rw [ma_rw_o (fun e => h7 e.symm) n3 n4]
    exact h6
  · obtain ⟨y1, y2, y3, y4⟩ := h11 y (List.mem_cons_of_mem _ hy)
    rw [hX y hy]
    exact ⟨y1, y2, y3, fun q => y4 (List.mem_cons_of_mem _ q)⟩
  · rw [ma_rw_c G h3 hz]
    constructor
    · rintro ((h | h | h) | h | h)
      · exact Or.inr (Or.inl h)
      · rw [h]
        exact Or.inl x2
      · exact Or.inl h.2
      · rw [h, k1]
        exact Or.inl x1
      · exact Or.inr (Or.inr h)
    · rintro (h | h | h)
      · by_cases e : z = m x
        · exact Or.inr (Or.inl e)
        · exact Or.inl (Or.inr (Or.inr ⟨e, h⟩))
      · exact Or.inl (Or.inl h)
      · exact Or.inr (Or.inr h)
theorem ma_T_all {adj : Nat → Nat → Prop} {p : Nat → Nat} {r : Nat} (G : ma_G adj) : ∀ (X : List Nat) (m : Nat → Nat) (v : Nat), ma_T adj p m r v X → ∃ m', ma_M adj m' ∧ ∀ z, z < 10 → (m' z < 10 ↔ m z < 10 ∨ z = v ∨ z = r)
  | [], m, v, h => ⟨_, (ma_T_0 G h).2.2⟩
  | x :: X, m, v, h => by
    obtain ⟨_, _, _, _, _, _, _, h1, h2⟩ := ma_T_s G h
    obtain ⟨m', k1, k2⟩ := ma_T_all G X _ _ h1
    exact ⟨m', k1, fun z hz => (k2 z hz).trans (h2 z hz)⟩
end
section
/-! the search from a free point r: p reachedFrom, b base, o outer; rk: a rank that falls from a ring's base to the next one above -/
def se_H (adj : Nat → Nat → Prop) (m : Nat → Nat) (r : Nat) : Prop := ma_G adj ∧ ma_M adj m ∧ r < 10 ∧ ¬ m r < 10
def se_I (adj : Nat → Nat → Prop) (m : Nat → Nat) (r : Nat) (p b : Nat → Nat) (o : Nat → Prop) (rk : Nat → Nat) : Prop :=
  (o r ∧ b r = r) ∧
  (∀ v, v < 10 → b v < 10 ∧ b (b v) = b v ∧ (¬ o v → b v = v) ∧ (o v → o (b v))) ∧
  (∀ v, v < 10 → p v < 10 → m v < 10 ∧ o (m v) ∧ adj v (p v) ∧ o (p v)) ∧
  (∀ v, v < 10 → o v → v ≠ r → m v < 10 ∧ p (m v) < 10) ∧
  (∀ v, v < 10 → o v → b v ≠ v → o (m v) ∧ b (m v) = b v) ∧
  (∀ v, v < 10 → o v → b v = v → v ≠ r → ¬ o (m v)) ∧
  (∀ v, v < 10 → o v → b v = v → v ≠ r → rk (b (p (m v))) < rk v) ∧
  (∀ v, v < 10 → o v → ∃ X, se_it (fun x => p (m x)) X v (b v) ∧ ∀ x, x ∈ X → x < 10 ∧ o x ∧ b x = b v ∧ x ≠ b v ∧ m x ∉ X)
theorem se_init {adj : Nat → Nat → Prop} {m : Nat → Nat} {r : Nat} {p b : Nat → Nat} {o : Nat → Prop} (H : se_H adj m r) (hp : ∀ v, v < 10 → ¬ p v < 10) (hb : ∀ v, v < 10 → b v = v) (ho : ∀ v, o v ↔ v = r) : se_I adj m r p b o (fun _ => 0) := by
  obtain ⟨G, hm, hr, hmr⟩ := H
  refine ⟨⟨(ho r).mpr rfl, hb r hr⟩, fun v hv => ?_, fun v hv h => absurd h (hp v hv), fun v hv h1 h2 => absurd ((ho v).mp h1) h2, fun v hv h1 h2 => absurd (hb v hv) h2, fun v hv h1 _ h2 => absurd ((ho v).mp h1) h2, fun v hv h1 _ h2 => absurd ((ho v).mp h1) h2, fun v hv h1 => ⟨[], (hb v hv).symm, fun x hx => absurd hx List.not_mem_nil⟩⟩
  rw [hb v hv, hb v hv]
  exact ⟨hv, rfl, fun _ => rfl, fun h => h⟩
theorem se_grow {adj : Nat → Nat → Prop} {m : Nat → Nat} {r v w : Nat} {p b : Nat → Nat} {o : Nat → Prop} {rk : Nat → Nat} (H : se_H adj m r) (I : se_I adj m r p b o rk) (hov : o v) (ha : adj v w) (hw : ¬ o w) (hp : ¬ p w < 10) (hmw : m w < 10) :
    ∃ rk', se_I adj m r (ma_up p w v) b (fun x => o x ∨ x = m w) rk' := by
  obtain ⟨G, hm, hr, hmr⟩ := H
  obtain ⟨⟨i1, i1'⟩, i2, i3, i4, i5, i6, i7, i8⟩ := I
  obtain ⟨ha', hne, hv10, hw10⟩ := G _ _ ha
  obtain ⟨k1, k2⟩ := hm w hw10 hmw
  have hwr : w ≠ r := fun e => hw (e ▸ i1)
  have hzr : m w ≠ r := fun e => hmr (by rw [← e, k1]; exact hw10)
  have hoz : ¬ o (m w) := fun h => hp (by have := (i4 _ hmw h hzr).2; rw [k1] at this; exact this)
  have hbz : b (m w) = m w := (i2 _ hmw).2.2.1 hoz
  have hbw : b w = w := (i2 _ hw10).2.2.1 hw
  have hzw : m w ≠ w := fun e => (G _ _ k2).2.1 e.symm
  have hmo : ∀ x, x < 10 → o x → m x ≠ w := fun x hx hx2 e => hoz (by rw [ma_inv hm hx hw10 e]; exact hx2)
  have hmz : ∀ x, x < 10 → o x → m x ≠ m w := fun x hx hx2 e => by
    have := ma_inv hm hx hmw e
    rw [k1] at this
    exact hw (this ▸ hx2)
  refine ⟨ma_up rk (m w) (rk (b v) + 1), ⟨Or.inl i1, i1'⟩, fun x hx => ?_, fun x hx h => ?_, fun x hx h1 h2 => ?_, fun x hx h1 h2 => ?_, fun x hx h1 h2 h3 => ?_, fun x hx h1 h2 h3 => ?_, fun x hx h1 => ?_⟩
  · obtain ⟨a1, a2, a3, a4⟩ := i2 x hx
    refine ⟨a1, a2, fun h => a3 (fun g => h (Or.inl g)), fun h => ?_⟩
    rcases h with h | h
    · exact Or.inl (a4 h)
    · rw [h, hbz]
      exact Or.inr rfl
  · by_cases e : x = w
    · subst e
      rw [ma_us]
      exact ⟨hmw, Or.inr rfl, ha', Or.inl hov⟩
    · rw [ma_un e] at h ⊢
      obtain ⟨a1, a2, a3, a4⟩ := i3 x hx h
      exact ⟨a1, Or.inl a2, a3, Or.inl a4⟩
  · rcases h1 with h1 | h1
    · obtain ⟨a1, a2⟩ := i4 x hx h1 h2
      rw [ma_un (hmo x hx h1)]
      exact ⟨a1, a2⟩
    · rw [h1, k1, ma_us]
      exact ⟨hw10, hv10⟩
  · rcases h1 with h1 | h1
    · obtain ⟨a1, a2⟩ := i5 x hx h1 h2
      exact ⟨Or.inl a1, a2⟩
    · rw [h1] at h2
      exact absurd hbz h2
  · rcases h1 with h1 | h1
    · rintro (g | g)
      · exact i6 x hx h1 h2 h3 g
      · exact hmz x hx h1 g
    · rw [h1, k1]
      rintro (g | g)
      · exact hw g
      · exact hzw g.symm
  · rcases h1 with h1 | h1
    · rw [ma_un (hmo x hx h1), ma_un (j := x) (fun e : x = m w => hoz (e ▸ h1))]
      obtain ⟨a1, a2⟩ := i4 x hx h1 h3
      have a3 := (i3 _ a1 a2).2.2.2
      have a4 := (i2 _ a2).2.2.2 a3
      rw [ma_un (fun e : b (p (m x)) = m w => hoz (e ▸ a4))]
      exact i7 x hx h1 h2 h3
    · rw [h1, k1, ma_us, ma_us]
      have a4 := (i2 _ hv10).2.2.2 hov
      rw [ma_un (fun e : b v = m w => hoz (e ▸ a4))]
      omega
  · rcases h1 with h1 | h1
    · obtain ⟨X, x1, x2⟩ := i8 x hx h1
      refine ⟨X, se_it_congr (fun y hy => ?_) x1, fun y hy => ?_⟩
      · obtain ⟨y1, y2, _⟩ := x2 y hy
        show p (m y) = ma_up p w v (m y)
        rw [ma_un (hmo y y1 y2)]
      · obtain ⟨y1, y2, y3, y4, y5⟩ := x2 y hy
        exact ⟨y1, Or.inl y2, y3, y4, y5⟩
    · refine ⟨[], ?_, fun y hy => absurd hy List.not_mem_nil⟩
      rw [h1]
      exact hbz.symm
/-- a rank that falls along a run -/
theorem se_rk {g rk : Nat → Nat} {c : Nat} : ∀ {D : List Nat} {x : Nat}, se_it g D x c → (∀ d, d ∈ D → rk (g d) < rk d) → rk c ≤ rk x ∧ ∀ d, d ∈ D → rk c < rk d ∧ rk d ≤ rk x
  | [], x, h, _ => by
    have h : x = c := h
    rw [h]
    exact ⟨Nat.le_refl _, fun d hd => absurd hd List.not_mem_nil⟩
  | y :: D, x, h, hk => by
    obtain ⟨h1, h2⟩ := h
    have k := hk y (List.mem_cons_self ..)
    obtain ⟨j1, j2⟩ := se_rk (D := D) h2 (fun d hd => hk d (List.mem_cons_of_mem _ hd))
    rw [h1]
    refine ⟨by omega, fun d hd => ?_⟩
    rcases List.mem_cons.mp hd with e | e
    · rw [e]
      omega
    · have := j2 d e
      omega
def se_D (o : Nat → Prop) (b : Nat → Nat) (r : Nat) (D : List Nat) : Prop := ∀ d, d ∈ D → d < 10 ∧ o d ∧ b d = d ∧ d ≠ r
theorem se_chain {adj : Nat → Nat → Prop} {m : Nat → Nat} {r : Nat} {p b : Nat → Nat} {o : Nat → Prop} {rk : Nat → Nat} (I : se_I adj m r p b o rk) : ∀ (k v : Nat), v < 10 → o v → rk (b v) < k → ∃ D, se_it (fun x => b (p (m x))) D (b v) r ∧ se_D o b r D := by
  intro k
  induction k with
  | zero => intro v _ _ h; omega
  | succ k ih =>
    intro v hv hov hk
    have I' := I
    obtain ⟨⟨i1, i1'⟩, i2, i3, i4, i5, i6, i7, i8⟩ := I'
    obtain ⟨a1, a2, a3, a4⟩ := i2 v hv
    by_cases e : b v = r
    · exact ⟨[], e, fun d hd => absurd hd List.not_mem_nil⟩
    · obtain ⟨c1, c2⟩ := i4 _ a1 (a4 hov) e
      have c3 := i7 _ a1 (a4 hov) a2 e
      obtain ⟨D, d1, d2⟩ := ih (p (m (b v))) c2 (i3 _ c1 c2).2.2.2 (by omega)
      refine ⟨b v :: D, ⟨rfl, d1⟩, fun d hd => ?_⟩
      rcases List.mem_cons.mp hd with g | g
      · rw [g]
        exact ⟨a1, a4 hov, a2, e⟩
      · exact d2 d g
/-- the way from v up to the ring with base c: E, then t, the first point of that ring -/
def se_W (m p b : Nat → Nat) (o : Nat → Prop) (r : Nat) (D E : List Nat) (v t c : Nat) : Prop :=
  se_it (fun x => p (m x)) E v t ∧ t < 10 ∧ o t ∧ b t = c ∧ ∀ e, e ∈ E → e < 10 ∧ o e ∧ b e ∈ D ∧ b e ∈ E ∧ m e ∉ E ∧ e ≠ r
theorem se_way {adj : Nat → Nat → Prop} {m : Nat → Nat} {r c : Nat} {p b : Nat → Nat} {o : Nat → Prop} {rk : Nat → Nat} (H : se_H adj m r) (I : se_I adj m r p b o rk) : ∀ (D : List Nat) (v : Nat), v < 10 → o v → se_it (fun x => b (p (m x))) D (b v) c → se_D o b r D → ∃ E t, se_W m p b o r D E v t c := by
  intro D
  induction D with
  | nil =>
    intro v hv hov h _
    exact ⟨[], v, rfl, hv, hov, h, fun e he => absurd he List.not_mem_nil⟩
  | cons d D ih =>
    intro v hv hov h hD
    obtain ⟨h1, h2⟩ := h
    have hDt : se_D o b r D := fun x hx => hD x (List.mem_cons_of_mem _ hx)
    obtain ⟨d1, d2, d3, d4⟩ := hD d (List.mem_cons_self ..)
    have I' := I
    obtain ⟨⟨i1, i1'⟩, i2, i3, i4, i5, i6, i7, i8⟩ := I'
    have hm := H.2.1
    obtain ⟨c1, c2⟩ := i4 _ d1 d2 d4
    have c3 := (i3 _ c1 c2).2.2.2
    have hdD : d ∉ D := by
      intro hd
      have k1 := (se_rk (rk := rk) h2 (fun x hx => i7 x (hDt x hx).1 (hDt x hx).2.1 (hDt x hx).2.2.1 (hDt x hx).2.2.2)).2 d hd
      have k2 := i7 d d1 d2 d3 d4
      have k3 : rk d ≤ rk (b (p (m d))) := k1.2
      omega
    obtain ⟨E, t, e1, e2, e3, e4, e5⟩ := ih (p (m d)) c2 c3 h2 hDt
    obtain ⟨X, x1, x2⟩ := i8 v hv hov
    have h1' : b v = d := h1
    rw [h1'] at x1 x2
    refine ⟨X ++ d :: E, t, se_it_app x1 ⟨rfl, e1⟩, e2, e3, e4, ?_⟩
    have hmd : ¬ o (m d) := i6 d d1 d2 d3 d4
    have hall : ∀ y, y ∈ X ++ d :: E → o y := by
      intro y hy
      rcases List.mem_append.mp hy with g | g
      · exact (x2 y g).2.1
      · rcases List.mem_cons.mp g with g | g
        · rw [g]
          exact d2
        · exact (e5 y g).2.1
    have hEd : ∀ y, y ∈ E → b y ≠ d := fun y hy g => hdD (g ▸ (e5 y hy).2.2.1)
    have hXm : ∀ y, y ∈ X → m y < 10 ∧ o (m y) ∧ b (m y) = d ∧ y ≠ r := by
      intro y hy
      obtain ⟨y1, y2, y3, y4, y5⟩ := x2 y hy
      have yr : y ≠ r := fun g => d4 (by rw [g] at y3; rw [← y3]; exact i1')
      have := i5 y y1 y2 (fun g => y4 (by rw [← g]; exact y3))
      exact ⟨(i4 y y1 y2 yr).1, this.1, by rw [this.2]; exact y3, yr⟩
    intro e he
    rcases List.mem_append.mp he with g | g
    · obtain ⟨y1, y2, y3, y4, y5⟩ := x2 e g
      obtain ⟨z1, z2, z3, z4⟩ := hXm e g
      refine ⟨y1, y2, by rw [y3]; exact List.mem_cons_self .., by rw [y3]; exact List.mem_append_right _ (List.mem_cons_self ..), fun q => ?_, z4⟩
      rcases List.mem_append.mp q with q | q
      · exact y5 q
      · rcases List.mem_cons.mp q with q | q
        · have := ma_inv hm y1 d1 q
          rw [this] at hmd
          exact hmd y2
        · exact hEd _ q z3
    · rcases List.mem_cons.mp g with g | g
      · rw [g, d3]
        exact ⟨d1, d2, List.mem_cons_self .., List.mem_append_right _ (List.mem_cons_self ..), fun q => hmd (hall _ q), d4⟩
      · obtain ⟨y1, y2, y3, y4, y5, y6⟩ := e5 e g
        refine ⟨y1, y2, List.mem_cons_of_mem _ y3, List.mem_append_right _ (List.mem_cons_of_mem _ y4), fun q => ?_, y6⟩
        have hbm : b e ≠ e := fun z => i6 e y1 y2 z y6 (hall _ q)
        have hb2 := (i5 e y1 y2 hbm).2
        rcases List.mem_append.mp q with q | q
        · rw [(x2 _ q).2.2.1] at hb2
          exact hEd e g hb2.symm
        · rcases List.mem_cons.mp q with q | q
          · rw [q, d3] at hb2
            exact hEd e g hb2.symm
          · exact y5 q
/-- the whole way from an outer point to the root -/
theorem se_path {adj : Nat → Nat → Prop} {m : Nat → Nat} {r v : Nat} {p b : Nat → Nat} {o : Nat → Prop} {rk : Nat → Nat} (H : se_H adj m r) (I : se_I adj m r p b o rk) (hv : v < 10) (hov : o v) : ∃ X, se_it (fun x => p (m x)) X v r ∧ ∀ x, x ∈ X → x < 10 ∧ o x ∧ x ≠ r ∧ m x ∉ X := by
  obtain ⟨D, d1, d2⟩ := se_chain I (rk (b v) + 1) v hv hov (by omega)
  obtain ⟨E, t, e1, e2, e3, e4, e5⟩ := se_way H I D v hv hov d1 d2
  obtain ⟨⟨i1, i1'⟩, i2, i3, i4, i5, i6, i7, i8⟩ := I
  obtain ⟨X, x1, x2⟩ := i8 t e2 e3
  rw [e4] at x1 x2
  refine ⟨E ++ X, se_it_app e1 x1, fun x hx => ?_⟩
  have hrD : r ∉ D := fun z => (d2 r z).2.2.2 rfl
  rcases List.mem_append.mp hx with g | g
  · obtain ⟨y1, y2, y3, y4, y5, y6⟩ := e5 x g
    refine ⟨y1, y2, y6, fun q => ?_⟩
    rcases List.mem_append.mp q with q | q
    · exact y5 q
    · obtain ⟨z1, z2, z3, z4, z5⟩ := x2 _ q
      have hbm : b x ≠ x := fun z => i6 x y1 y2 z y6 z2
      have hb2 := (i5 x y1 y2 hbm).2
      rw [z3] at hb2
      exact hrD (hb2 ▸ y3)
  · obtain ⟨y1, y2, y3, y4, y5⟩ := x2 x g
    refine ⟨y1, y2, y4, fun q => ?_⟩
    rcases List.mem_append.mp q with q | q
    · have hb2 := (i5 x y1 y2 (fun z => y4 (by rw [← z]; exact y3))).2
      have := (e5 _ q).2.2.1
      rw [hb2, y3] at this
      exact hrD this
    · exact y5 q
/-- a free point is reached: a longer matching -/
theorem se_aug {adj : Nat → Nat → Prop} {m : Nat → Nat} {r v w : Nat} {p b : Nat → Nat} {o : Nat → Prop} {rk : Nat → Nat} (H : se_H adj m r) (I : se_I adj m r p b o rk) (hov : o v) (ha : adj v w) (hw : ¬ o w) (hmw : ¬ m w < 10) :
    ∃ X, ma_T adj (ma_up p w v) m r w X := by
  have I' := I
  obtain ⟨⟨i1, i1'⟩, i2, i3, i4, i5, i6, i7, i8⟩ := I'
  obtain ⟨G, hm, hr, hmr⟩ := H
  obtain ⟨ha', hne, hv10, hw10⟩ := G _ _ ha
  obtain ⟨X, x1, x2⟩ := se_path ⟨G, hm, hr, hmr⟩ I hv10 hov
  have hrX : r ∉ X := fun z => (x2 r z).2.2.1 rfl
  have hmx : ∀ x, x ∈ X → m x < 10 ∧ p (m x) < 10 ∧ m x ≠ w := by
    intro x hx
    obtain ⟨y1, y2, y3, y4⟩ := x2 x hx
    obtain ⟨z1, z2⟩ := i4 x y1 y2 y3
    exact ⟨z1, z2, fun e => hmw (by rw [ma_inv hm y1 hw10 e]; exact y1)⟩
  refine ⟨X, hm, hmw, ?_, ?_, hr, hmr, fun e => hw (e ▸ i1), se_it_nodup x1 hrX, hrX, fun z => hw (x2 w z).2.1, fun x hx => ?_⟩
  · rw [ma_us]
    exact ha'
  · rw [ma_us]
    refine se_it_congr (fun x hx => ?_) x1
    show p (m x) = ma_up p w v (m x)
    rw [ma_un (hmx x hx).2.2]
  · obtain ⟨y1, y2, y3, y4⟩ := x2 x hx
    obtain ⟨z1, z2, z3⟩ := hmx x hx
    rw [ma_un z3]
    exact ⟨y1, z1, (i3 _ z1 z2).2.2.1, y4⟩
/-- an outer point is missed by some matching of the same size -/
theorem se_miss {adj : Nat → Nat → Prop} {m : Nat → Nat} {r q : Nat} {p b : Nat → Nat} {o : Nat → Prop} {rk : Nat → Nat} (H : se_H adj m r) (I : se_I adj m r p b o rk) (hq : q < 10) (hoq : o q) :
    ∃ n, ma_M adj n ∧ ma_c m ≤ ma_c n ∧ ¬ n q < 10 := by
  by_cases e : q = r
  · exact ⟨m, H.2.1, Nat.le_refl _, e ▸ H.2.2.2⟩
  obtain ⟨X, x1, x2⟩ := se_path H I hq hoq
  obtain ⟨G, hm, hr, hmr⟩ := H
  obtain ⟨⟨i1, i1'⟩, i2, i3, i4, i5, i6, i7, i8⟩ := I
  have hrX : r ∉ X := fun z => (x2 r z).2.2.1 rfl
  have hnd := se_it_nodup x1 hrX
  match X, x1, x2, hrX, hnd with
  | [], x1, _, _, _ => exact absurd x1 e
  | y :: X, x1, x2, hrX, hnd =>
    obtain ⟨x3, x4⟩ := x1
    subst x3
    obtain ⟨k1, k2⟩ := i4 q hq hoq e
    obtain ⟨l1, l2⟩ := hm q hq k1
    have hne := (G _ _ l2).2.1
    have hmr2 : m q ≠ r := fun z => hmr (by rw [ma_inv hm hq hr z]; exact hq)
    obtain ⟨nd1, nd2⟩ := List.nodup_cons.mp hnd
    have hX : ∀ x, x ∈ X → ma_up (ma_up m q 10) (m q) 10 x = m x := fun x hx => by
      rw [ma_un (fun z : x = m q => (x2 q (List.mem_cons_self ..)).2.2.2 (List.mem_cons_of_mem _ (z ▸ hx))), ma_un (fun z : x = q => nd1 (z ▸ hx))]
    have hM : ma_M adj (ma_up (ma_up m q 10) (m q) 10) := by
      intro v hv h
      by_cases e1 : v = m q
      · rw [e1, ma_us] at h
        omega
      · by_cases e2 : v = q
        · rw [ma_un e1, e2, ma_us] at h
          omega
        · rw [ma_un e1, ma_un e2] at h ⊢
          obtain ⟨s1, s2⟩ := hm v hv h
          have n1 : m v ≠ q := fun z => e1 (ma_inv hm hv hq z).symm
          have n2 : m v ≠ m q := fun z => e2 (by rw [← s1, z, l1])
          rw [ma_un n2, ma_un n1]
          exact ⟨s1, s2⟩
    have hT : ma_T adj p (ma_up (ma_up m q 10) (m q) 10) r (m q) X := by
      refine ⟨hM, by rw [ma_us]; omega, (i3 _ k1 k2).2.2.1, se_it_congr (fun x hx => ?_) x4, hr, ?_, hmr2, nd2, fun z => hrX (List.mem_cons_of_mem _ z), fun z => (x2 q (List.mem_cons_self ..)).2.2.2 (List.mem_cons_of_mem _ z), fun x hx => ?_⟩
      · show p (m x) = p (ma_up (ma_up m q 10) (m q) 10 x)
        rw [hX x hx]
      · rw [ma_un (Ne.symm hmr2), ma_un (Ne.symm e)]
        exact hmr
      · obtain ⟨y1, y2, y3, y4⟩ := x2 x (List.mem_cons_of_mem _ hx)
        obtain ⟨z1, z2⟩ := i4 x y1 y2 y3
        rw [hX x hx]
        exact ⟨y1, z1, (i3 _ z1 z2).2.2.1, fun z => y4 (List.mem_cons_of_mem _ z)⟩
    obtain ⟨n, n1, n2⟩ := ma_T_all G X _ _ hT
    refine ⟨n, n1, ?_, fun h => ?_⟩
    · have c1 : ma_cn (ma_up (ma_up m q 10) q 0) 10 = ma_cn (ma_up m q 10) 10 + 1 := ma_cn_pt hq (by rw [ma_us]; omega)
      have c2 : ma_cn (ma_up (ma_up m q 10) q 0) 10 = ma_cn m 10 := ma_cn_eq (fun z hz => by
        by_cases g : z = q
        · rw [g, ma_us]
          exact ⟨fun _ => k1, fun _ => by omega⟩
        · rw [ma_un g, ma_un g])
      have c3 : ma_cn (ma_up m q 10) 10 + 1 ≤ ma_cn n 10 := by
        refine ma_cn_lt (q := r) (fun z hz h => ?_) hr (by rw [ma_un (Ne.symm e)]; exact hmr) ((n2 r hr).mpr (Or.inr (Or.inr rfl)))
        by_cases g : z = m q
        · exact (n2 z hz).mpr (Or.inr (Or.inl g))
        · refine (n2 z hz).mpr (Or.inl ?_)
          rw [ma_un g]
          exact h
      unfold ma_c
      omega
    · rcases (n2 q hq).mp h with g | g | g
      · rw [ma_un hne, ma_us] at g
        omega
      · exact hne g
      · exact e g
end
section
/-! an odd ring is drawn together -/
def se_R (m b : Nat → Nat) (K : List Nat) (x : Nat) : Prop := ∃ e, e ∈ K ∧ (x = b e ∨ x = b (m e))
theorem se_ring1 {adj : Nat → Nat → Prop} {m : Nat → Nat} {r x : Nat} {p b : Nat → Nat} {o : Nat → Prop} {rk : Nat → Nat} {K : List Nat} (I : se_I adj m r p b o rk) (hK : ∀ e, e ∈ K → e < 10 ∧ o e ∧ b e ∈ K ∧ e ≠ r) (hx : se_R m b K x) : ∃ d, d ∈ K ∧ b d = d ∧ (x = d ∨ (x = m d ∧ ¬ o x)) := by
  obtain ⟨⟨i1, i1'⟩, i2, i3, i4, i5, i6, i7, i8⟩ := I
  obtain ⟨e, he, h⟩ := hx
  obtain ⟨e1, e2, e3, e4⟩ := hK e he
  rcases h with h | h
  · exact ⟨b e, e3, (i2 e e1).2.1, Or.inl h⟩
  · by_cases g : b e = e
    · have hn := i6 e e1 e2 g e4
      have hb := (i2 _ (i4 e e1 e2 e4).1).2.2.1 hn
      rw [hb] at h
      exact ⟨e, he, g, Or.inr ⟨h, h ▸ hn⟩⟩
    · rw [(i5 e e1 e2 g).2] at h
      exact ⟨b e, e3, (i2 e e1).2.1, Or.inl h⟩
theorem se_blossom {adj : Nat → Nat → Prop} {m : Nat → Nat} {r c : Nat} {p b p' b' : Nat → Nat} {o o' : Nat → Prop} {rk : Nat → Nat} {K : List Nat} (H : se_H adj m r) (I : se_I adj m r p b o rk)
    (hK : ∀ e, e ∈ K → e < 10 ∧ o e ∧ b e ∈ K ∧ e ≠ r) (hKc : ∀ e, e ∈ K → b e ≠ c ∧ rk c < rk (b e)) (hc : c < 10 ∧ o c ∧ b c = c)
    (hA : ∀ x, x ∉ K → p' x = p x) (hC : ∀ x, x ∈ K → p' x < 10 ∧ adj x (p' x) ∧ o' (p' x))
    (hb1 : ∀ x, x < 10 → se_R m b K (b x) → b' x = c) (hb2 : ∀ x, x < 10 → ¬ se_R m b K (b x) → b' x = b x) (ho : ∀ x, x < 10 → (o' x ↔ o x ∨ se_R m b K (b x)))
    (h8 : ∀ v d, v < 10 → d ∈ K → b d = d → (v = m d ∨ (o v ∧ b v = d)) → ∃ X, se_it (fun x => p' (m x)) X v c ∧ ∀ x, x ∈ X → x < 10 ∧ x ≠ c ∧ m x ∉ X ∧ ((o x ∧ b x = c) ∨ se_R m b K (b x))) :
    se_I adj m r p' b' o' rk := by
  have I' := I
  obtain ⟨⟨i1, i1'⟩, i2, i3, i4, i5, i6, i7, i8⟩ := I'
  obtain ⟨G, hm, hr, hmr⟩ := H
  obtain ⟨c1, c2, c3⟩ := hc
  have ring : ∀ x, se_R m b K x → ∃ d, d ∈ K ∧ b d = d ∧ (x = d ∨ (x = m d ∧ ¬ o x)) := fun x => se_ring1 I hK
  have hKm : ∀ e, e ∈ K → m e < 10 ∧ m (m e) = e := fun e he => by
    obtain ⟨e1, e2, e3, e4⟩ := hK e he
    have := (i4 e e1 e2 e4).1
    exact ⟨this, (hm e e1 this).1⟩
  have nRr : ¬ se_R m b K r := by
    intro h
    obtain ⟨d, d1, d2, d3⟩ := ring r h
    rcases d3 with d3 | d3
    · exact (hK d d1).2.2.2 d3.symm
    · exact d3.2 i1
  have nRc : ¬ se_R m b K c := by
    intro h
    obtain ⟨d, d1, d2, d3⟩ := ring c h
    rcases d3 with d3 | d3
    · exact (hKc d d1).1 (by rw [d2, d3])
    · exact d3.2 c2
  have Rself : ∀ e, e ∈ K → se_R m b K (b e) := fun e he => ⟨e, he, Or.inl rfl⟩
  have Rmate : ∀ e, e ∈ K → se_R m b K (b (m e)) := fun e he => ⟨e, he, Or.inr rfl⟩
  have omono : ∀ x, x < 10 → o x → o' x := fun x hx h => (ho x hx).mpr (Or.inl h)
  have oring : ∀ x, x < 10 → se_R m b K (b x) → o' x := fun x hx h => (ho x hx).mpr (Or.inr h)
  -- a point of the ring
  have inr : ∀ v, v < 10 → se_R m b K (b v) → ∃ d, d ∈ K ∧ b d = d ∧ (v = m d ∧ ¬ o v ∨ (o v ∧ b v = d)) := by
    intro v hv h
    obtain ⟨d, d1, d2, d3⟩ := ring _ h
    obtain ⟨a1, a2, a3, a4⟩ := i2 v hv
    refine ⟨d, d1, d2, ?_⟩
    by_cases hov : o v
    · rcases d3 with d3 | d3
      · exact Or.inr ⟨hov, d3⟩
      · exact absurd (a4 hov) d3.2
    · rw [a3 hov] at d3
      rcases d3 with d3 | d3
      · exact absurd (d3 ▸ (hK d d1).2.1) hov
      · exact Or.inl d3
  -- a base that stays one
  have stay : ∀ v, v < 10 → o' v → b' v = v → ¬ se_R m b K (b v) ∧ o v ∧ b v = v := by
    intro v hv hov hbv
    by_cases h : se_R m b K (b v)
    · have := hb1 v hv h
      rw [hbv] at this
      rw [this, c3] at h
      exact absurd h nRc
    · rw [hb2 v hv h] at hbv
      refine ⟨h, ?_, hbv⟩
      rcases (ho v hv).mp hov with g | g
      · exact g
      · exact absurd g h
  refine ⟨⟨omono r hr i1, ?_⟩, fun v hv => ?_, fun v hv h => ?_, fun v hv h1 h2 => ?_, fun v hv h1 h2 => ?_, fun v hv h1 h2 h3 => ?_, fun v hv h1 h2 h3 => ?_, fun v hv h1 => ?_⟩
  · rw [hb2 r hr (by rw [i1']; exact nRr), i1']
  · obtain ⟨a1, a2, a3, a4⟩ := i2 v hv
    by_cases h : se_R m b K (b v)
    · rw [hb1 v hv h, hb2 c c1 (by rw [c3]; exact nRc), c3]
      exact ⟨c1, rfl, fun g => absurd (oring v hv h) g, fun _ => omono c c1 c2⟩
    · rw [hb2 v hv h, hb2 (b v) a1 (by rw [a2]; exact h), a2]
      refine ⟨a1, rfl, fun g => a3 (fun z => g (omono v hv z)), fun g => ?_⟩
      rcases (ho v hv).mp g with g | g
      · exact omono _ a1 (a4 g)
      · exact absurd g h
  · by_cases e : v ∈ K
    · obtain ⟨e1, e2⟩ := hKm v e
      exact ⟨e1, oring _ e1 (Rmate v e), (hC v e).2⟩
    · rw [hA v e] at h ⊢
      obtain ⟨a1, a2, a3, a4⟩ := i3 v hv h
      exact ⟨a1, omono _ a1 a2, a3, omono _ h a4⟩
  · have keep : ∀ x, p x < 10 → p' x < 10 := fun x hx => by
      by_cases e : x ∈ K
      · exact (hC x e).1
      · rw [hA x e]
        exact hx
    rcases (ho v hv).mp h1 with g | g
    · obtain ⟨a1, a2⟩ := i4 v hv g h2
      exact ⟨a1, keep _ a2⟩
    · obtain ⟨d, d1, d2, d3⟩ := inr v hv g
      rcases d3 with d3 | d3
      · rw [d3.1, (hKm d d1).2]
        exact ⟨(hK d d1).1, (hC d d1).1⟩
      · obtain ⟨a1, a2⟩ := i4 v hv d3.1 h2
        exact ⟨a1, keep _ a2⟩
  · by_cases h : se_R m b K (b v)
    · have key : m v < 10 ∧ se_R m b K (b (m v)) := by
        obtain ⟨d, d1, d2, d3⟩ := inr v hv h
        rcases d3 with d3 | d3
        · rw [d3.1, (hKm d d1).2]
          exact ⟨(hK d d1).1, Rself d d1⟩
        · by_cases e : v = d
          · rw [e]
            exact ⟨(hKm d d1).1, Rmate d d1⟩
          · have hne : b v ≠ v := fun z => e (by rw [← d3.2, z])
            have hvr : v ≠ r := fun z => e (by rw [z] at d3 ⊢; rw [← d3.2, i1'])
            rw [(i5 v hv d3.1 hne).2]
            exact ⟨(i4 v hv d3.1 hvr).1, h⟩
      rw [hb1 v hv h, hb1 _ key.1 key.2]
      exact ⟨oring _ key.1 key.2, rfl⟩
    · rw [hb2 v hv h] at h2 ⊢
      have hov : o v := by
        rcases (ho v hv).mp h1 with g | g
        · exact g
        · exact absurd g h
      obtain ⟨a1, a2⟩ := i5 v hv hov h2
      have hvr : v ≠ r := fun z => h2 (by rw [z]; exact i1')
      have a3 := (i4 v hv hov hvr).1
      rw [hb2 _ a3 (by rw [a2]; exact h), a2]
      exact ⟨omono _ a3 a1, rfl⟩
  · obtain ⟨s1, s2, s3⟩ := stay v hv h1 h2
    have a1 := (i4 v hv s2 h3).1
    have a2 := i6 v hv s2 s3 h3
    have a3 := (i2 _ a1).2.2.1 a2
    intro g
    rcases (ho _ a1).mp g with g | g
    · exact a2 g
    · rw [a3] at g
      obtain ⟨d, d1, d2, d3⟩ := ring _ g
      rcases d3 with d3 | d3
      · exact a2 (d3 ▸ (hK d d1).2.1)
      · have : v = d := by rw [← (hm v hv a1).1, d3.1, (hKm d d1).2]
        refine s1 ?_
        rw [this]
        exact Rself d d1
  · obtain ⟨s1, s2, s3⟩ := stay v hv h1 h2
    obtain ⟨a1, a0⟩ := i4 v hv s2 h3
    have a2 := i6 v hv s2 s3 h3
    rw [hA (m v) (fun z => a2 (hK _ z).2.1)]
    have a5 := i7 v hv s2 s3 h3
    by_cases h : se_R m b K (b (p (m v)))
    · rw [hb1 _ a0 h]
      obtain ⟨d, d1, d2, d3⟩ := inr _ a0 h
      rcases d3 with d3 | d3
      · exact absurd (i3 _ a1 a0).2.2.2 d3.2
      · have := (hKc d d1).2
        rw [d2] at this
        rw [d3.2] at a5
        omega
    · rw [hb2 _ a0 h]
      exact a5
  · by_cases h : se_R m b K (b v)
    · rw [hb1 v hv h]
      obtain ⟨d, d1, d2, d3⟩ := inr v hv h
      obtain ⟨X, x1, x2⟩ := h8 v d hv d1 d2 (by rcases d3 with d3 | d3; exact Or.inl d3.1; exact Or.inr d3)
      refine ⟨X, x1, fun x hx => ?_⟩
      obtain ⟨y1, y2, y3, y4⟩ := x2 x hx
      rcases y4 with y4 | y4
      · exact ⟨y1, omono x y1 y4.1, by rw [hb2 x y1 (by rw [y4.2]; exact nRc), y4.2], y2, y3⟩
      · exact ⟨y1, oring x y1 y4, hb1 x y1 y4, y2, y3⟩
    · have hov : o v := by
        rcases (ho v hv).mp h1 with g | g
        · exact g
        · exact absurd g h
      rw [hb2 v hv h]
      obtain ⟨X, x1, x2⟩ := i8 v hv hov
      refine ⟨X, se_it_congr (fun x hx => ?_) x1, fun x hx => ?_⟩
      · obtain ⟨y1, y2, y3, y4, y5⟩ := x2 x hx
        have hbm := (i5 x y1 y2 (fun z => y4 (by rw [← z]; exact y3))).2
        show p (m x) = p' (m x)
        rw [hA (m x) (fun z => h (by rw [← y3, ← hbm]; exact Rself _ z))]
      · obtain ⟨y1, y2, y3, y4, y5⟩ := x2 x hx
        exact ⟨y1, omono x y1 y2, by rw [hb2 x y1 (by rw [y3]; exact h), y3], y4, y5⟩
end
section
/-! the runs inside a new ring -/
theorem se_first {P : Nat → Prop} : ∀ (X : List Nat), (∀ x, x ∈ X → ¬ P x) ∨ ∃ Y y Z, X = Y ++ y :: Z ∧ P y ∧ ∀ x, x ∈ Y → ¬ P x
  | [] => Or.inl (fun x hx => absurd hx List.not_mem_nil)
  | z :: X => by
    by_cases h : P z
    · exact Or.inr ⟨[], z, X, rfl, h, fun x hx => absurd hx List.not_mem_nil⟩
    · rcases se_first (P := P) X with g | ⟨Y, y, Z, g1, g2, g3⟩
      · refine Or.inl (fun x hx => ?_)
        rcases List.mem_cons.mp hx with e | e
        · rw [e]
          exact h
        · exact g x e
      · refine Or.inr ⟨z :: Y, y, Z, by rw [g1]; rfl, g2, fun x hx => ?_⟩
        rcases List.mem_cons.mp hx with e | e
        · rw [e]
          exact h
        · exact g3 x e
theorem se_seg {adj : Nat → Nat → Prop} {m : Nat → Nat} {r c u w te tf v d : Nat} {p b p' : Nat → Nat} {o : Nat → Prop} {rk : Nat → Nat} {D1 D2 E F : List Nat} (H : se_H adj m r) (I : se_I adj m r p b o rk)
    (hE : se_W m p b o r D1 E u te c) (hF : se_W m p b o r D2 F w tf c) (hc1 : c ∉ D1) (hc2 : c ∉ D2) (hdis : ∀ d, d ∈ D1 → d ∉ D2)
    (hA : ∀ x, x ∉ E → x ∉ F → p' x = p x) (hrev : ∀ E1 e E2, E = E1 ++ e :: E2 → se_it (fun x => p' (m x)) (m e :: E1.reverse.map m) (m e) w)
    (hv : v < 10) (hd : d ∈ E) (hdd : b d = d) (hvd : v = m d ∨ (o v ∧ b v = d)) :
    ∃ X, se_it (fun x => p' (m x)) X v c ∧ ∀ x, x ∈ X → x < 10 ∧ x ≠ c ∧ m x ∉ X ∧ ((o x ∧ b x = c) ∨ se_R m b (E ++ F) (b x)) := by
  obtain ⟨⟨i1, i1'⟩, i2, i3, i4, i5, i6, i7, i8⟩ := I
  obtain ⟨G, hm, hr, hmr⟩ := H
  obtain ⟨e1, te1, te2, te3, fE⟩ := hE
  obtain ⟨f1, tf1, tf2, tf3, fF⟩ := hF
  have hc10 : c < 10 := by rw [← te3]; exact (i2 te te1).1
  have hcc : b c = c := by rw [← te3]; exact (i2 te te1).2.1
  have hoc : o c := by rw [← te3]; exact (i2 te te1).2.2.2 te2
  have bmo : ∀ x, x < 10 → o x → x ≠ r → o (m x) → b (m x) = b x := by
    intro x hx h1 h2 h3
    by_cases g : b x = x
    · exact absurd h3 (i6 x hx h1 g h2)
    · exact (i5 x hx h1 g).2
  have mm : ∀ x, x < 10 → o x → x ≠ r → m x < 10 ∧ m (m x) = x := by
    intro x hx h1 h2
    have := (i4 x hx h1 h2).1
    exact ⟨this, (hm x hx this).1⟩
  -- a point of the ring of c that isn't c
  have ptc : ∀ x, x < 10 → o x → b x = c → x ≠ c → x ≠ r ∧ m x < 10 ∧ o (m x) ∧ b (m x) = c := by
    intro x hx h1 h2 h3
    have hxr : x ≠ r := fun z => h3 (by rw [z] at h2 ⊢; rw [← h2]; exact i1'.symm)
    have := i5 x hx h1 (fun z => h3 (by rw [← z]; exact h2))
    exact ⟨hxr, (mm x hx h1 hxr).1, this.1, by rw [this.2, h2]⟩
  have nEc : ∀ x, x ∈ E → b x ≠ c := fun x hx z => hc1 (z ▸ (fE x hx).2.2.1)
  have nFc : ∀ x, x ∈ F → b x ≠ c := fun x hx z => hc2 (z ▸ (fF x hx).2.2.1)
  have nEF : ∀ x y, x ∈ E → y ∈ F → b x ≠ b y := fun x y hx hy z => hdis _ (fE x hx).2.2.1 (z ▸ (fF y hy).2.2.1)
  have mEF : ∀ x, x ∈ E → m x ∉ F := by
    intro x hx h
    obtain ⟨x1, x2, _, _, _, x6⟩ := fE x hx
    exact nEF x _ hx h (bmo x x1 x2 x6 (fF _ h).2.1).symm
  have mFE : ∀ x, x ∈ F → m x ∉ E := by
    intro x hx h
    obtain ⟨x1, x2, _, _, _, x6⟩ := fF x hx
    exact nEF _ x h hx (bmo x x1 x2 x6 (fE _ h).2.1)
  have ff : ∀ x, m x ∉ E → m x ∉ F → p (m x) = p' (m x) := fun x h1 h2 => (hA _ h1 h2).symm
  -- the run from tf to c
  obtain ⟨T, t1, t2⟩ := i8 tf tf1 tf2
  rw [tf3] at t1 t2
  obtain ⟨S, s1, s2⟩ := i8 te te1 te2
  rw [te3] at s1 s2
  have cc : ∀ x, x < 10 → o x → b x = c → x ≠ c → m x ∉ E ∧ m x ∉ F := by
    intro x hx h1 h2 h3
    have := (ptc x hx h1 h2 h3).2.2.2
    exact ⟨fun z => nEc _ z this, fun z => nFc _ z this⟩
  have Qrun : se_it (fun x => p' (m x)) (F ++ T) w c := by
    refine se_it_app (se_it_congr (fun x hx => ?_) f1) (se_it_congr (fun x hx => ?_) t1)
    · exact ff x (mFE x hx) (fF x hx).2.2.2.2.1
    · obtain ⟨y1, y2, y3, y4, y5⟩ := t2 x hx
      have := cc x y1 y2 y3 y4
      exact ff x this.1 this.2
  have Qb : ∀ y, y ∈ F ++ T → y < 10 ∧ o y ∧ y ≠ c ∧ y ≠ r ∧ (y ∈ F ∨ b y = c) := by
    intro y hy
    rcases List.mem_append.mp hy with g | g
    · obtain ⟨x1, x2, x3, _, _, x6⟩ := fF y g
      exact ⟨x1, x2, fun z => nFc y g (by rw [z]; exact hcc), x6, Or.inl g⟩
    · obtain ⟨y1, y2, y3, y4, y5⟩ := t2 y g
      exact ⟨y1, y2, y4, (ptc y y1 y2 y3 y4).1, Or.inr y3⟩
  have Qm : ∀ y, y ∈ F ++ T → m y ∉ F ++ T := by
    intro y hy h
    obtain ⟨q1, q2, q3, q4, q5⟩ := Qb y hy
    have hb := bmo y q1 q2 q4 (Qb _ h).2.1
    rcases List.mem_append.mp hy with g | g
    · rcases List.mem_append.mp h with h | h
      · exact (fF y g).2.2.2.2.1 h
      · rw [(t2 _ h).2.2.1] at hb
        exact nFc y g hb.symm
    · rcases List.mem_append.mp h with h | h
      · rw [(t2 y g).2.2.1] at hb
        exact nFc _ h hb
      · exact (t2 y g).2.2.2.2 h
  have QE : ∀ y, y ∈ F ++ T → y ∉ E := by
    intro y hy h
    rcases (Qb y hy).2.2.2.2 with g | g
    · exact nEF y y h g rfl
    · exact nEc y h g
  have good : ∀ x y, (x ∈ F ++ T ∨ ∃ e, e ∈ E ∧ x = m e) → (y ∈ F ++ T ∨ ∃ e, e ∈ E ∧ y = m e) → m x ≠ y := by
    intro x y hx hy h
    rcases hx with hx | ⟨e, he, hx⟩
    · rcases hy with hy | ⟨e', he', hy⟩
      · exact Qm x hx (h ▸ hy)
      · obtain ⟨q1, q2, q3, q4, q5⟩ := Qb x hx
        obtain ⟨x1, x2, x3, x4, x5, x6⟩ := fE e' he'
        have : x = e' := by rw [← (mm x q1 q2 q4).2, h, hy, (mm e' x1 x2 x6).2]
        exact QE x hx (this ▸ he')
    · obtain ⟨x1, x2, x3, x4, x5, x6⟩ := fE e he
      have hxe : m x = e := by rw [hx, (mm e x1 x2 x6).2]
      rw [hxe] at h
      rcases hy with hy | ⟨e', he', hy⟩
      · exact QE y hy (h ▸ he)
      · exact (fE e' he').2.2.2.2.1 (by rw [← hy, ← h]; exact he)
  have prop : ∀ x, (x ∈ F ++ T ∨ ∃ e, e ∈ E ∧ x = m e) → x < 10 ∧ x ≠ c ∧ ((o x ∧ b x = c) ∨ se_R m b (E ++ F) (b x)) := by
    intro x hx
    rcases hx with hx | ⟨e, he, hx⟩
    · obtain ⟨q1, q2, q3, q4, q5⟩ := Qb x hx
      refine ⟨q1, q3, ?_⟩
      rcases q5 with g | g
      · exact Or.inr ⟨x, List.mem_append_right _ g, Or.inl rfl⟩
      · exact Or.inl ⟨q2, g⟩
    · obtain ⟨x1, x2, x3, x4, x5, x6⟩ := fE e he
      rw [hx]
      refine ⟨(mm e x1 x2 x6).1, fun z => ?_, Or.inr ⟨e, List.mem_append_left _ he, Or.inr rfl⟩⟩
      have := bmo e x1 x2 x6 (by rw [z]; exact hoc)
      rw [z, hcc] at this
      exact nEc e he this.symm
  have revq : ∀ e, e ∈ E → ∃ X, se_it (fun x => p' (m x)) X (m e) c ∧ ∀ x, x ∈ X → x ∈ F ++ T ∨ ∃ e, e ∈ E ∧ x = m e := by
    intro e he
    obtain ⟨E1, E2, hEE⟩ := List.append_of_mem he
    refine ⟨(m e :: E1.reverse.map m) ++ (F ++ T), se_it_app (hrev E1 e E2 hEE) Qrun, fun x hx => ?_⟩
    rcases List.mem_append.mp hx with g | g
    · rcases List.mem_cons.mp g with g | g
      · exact Or.inr ⟨e, he, g⟩
      · obtain ⟨z, hz, hzx⟩ := List.mem_map.mp g
        exact Or.inr ⟨z, by rw [hEE]; exact List.mem_append_left _ (List.mem_reverse.mp hz), hzx.symm⟩
    · exact Or.inl g
  rcases hvd with hvd | ⟨hov, hvd⟩
  · obtain ⟨X, x1, x2⟩ := revq d hd
    rw [hvd]
    refine ⟨X, x1, fun x hx => ?_⟩
    obtain ⟨q1, q2, q3⟩ := prop x (x2 x hx)
    exact ⟨q1, q2, fun z => good x _ (x2 x hx) (x2 _ z) rfl, q3⟩
  obtain ⟨X, x1, x2⟩ := i8 v hv hov
  rw [hvd] at x1 x2
  have hdD : d ∈ D1 := by
    have := (fE d hd).2.2.1
    rw [hdd] at this
    exact this
  have xx : ∀ x, x ∈ X → x ≠ r ∧ m x < 10 ∧ m (m x) = x ∧ o (m x) ∧ b (m x) = d := by
    intro x hx
    obtain ⟨y1, y2, y3, y4, y5⟩ := x2 x hx
    have hxr : x ≠ r := fun z => y4 (by rw [z] at y3 ⊢; rw [← y3]; exact i1'.symm)
    have := i5 x y1 y2 (fun z => y4 (by rw [← z]; exact y3))
    obtain ⟨z1, z2⟩ := mm x y1 y2 hxr
    exact ⟨hxr, z1, z2, this.1, by rw [this.2, y3]⟩
  have xF : ∀ x, x ∈ X → m x ∉ F := fun x hx z => hdis d hdD (by rw [← (xx x hx).2.2.2.2]; exact (fF _ z).2.2.1)
  have hdc : d ≠ c := fun z => hc1 (z ▸ hdD)
  have Rd : ∀ x, b x = d → se_R m b (E ++ F) (b x) := fun x hx => ⟨d, List.mem_append_left _ hd, Or.inl (by rw [hx, hdd])⟩
  rcases se_first (P := fun x => m x ∈ E) X with hn | ⟨Y, y, Z, hX, hy, hY⟩
  · obtain ⟨E1, E2, hEE⟩ := List.append_of_mem hd
    rw [hEE] at e1
    obtain ⟨_, e2⟩ := se_it_split e1
    have hsub : ∀ x, x ∈ d :: E2 → x ∈ E := fun x hx => by rw [hEE]; exact List.mem_append_right _ hx
    have run2 : se_it (fun x => p' (m x)) ((d :: E2) ++ S) d c := by
      refine se_it_app (se_it_congr (fun x hx => ?_) e2) (se_it_congr (fun x hx => ?_) s1)
      · exact ff x (fE x (hsub x hx)).2.2.2.2.1 (mEF x (hsub x hx))
      · obtain ⟨y1, y2, y3, y4, y5⟩ := s2 x hx
        have := cc x y1 y2 y3 y4
        exact ff x this.1 this.2
    refine ⟨X ++ ((d :: E2) ++ S), se_it_app (se_it_congr (fun x hx => ff x (hn x hx) (xF x hx)) x1) run2, fun x hx => ?_⟩
    rcases List.mem_append.mp hx with g | g
    · obtain ⟨y1, y2, y3, y4, y5⟩ := x2 x g
      obtain ⟨z1, z2, z3, z4, z5⟩ := xx x g
      refine ⟨y1, fun z => hdc (by rw [z, hcc] at y3; exact y3.symm), fun z => ?_, Or.inr (Rd x y3)⟩
      rcases List.mem_append.mp z with z | z
      · exact y5 z
      · rcases List.mem_append.mp z with z | z
        · exact hn x g (hsub _ z)
        · rw [(s2 _ z).2.2.1] at z5
          exact hdc z5.symm
    · rcases List.mem_append.mp g with g | g
      · obtain ⟨y1, y2, y3, y4, y5, y6⟩ := fE x (hsub x g)
        refine ⟨y1, fun z => nEc x (hsub x g) (by rw [z]; exact hcc), fun z => ?_, Or.inr ⟨x, List.mem_append_left _ (hsub x g), Or.inl rfl⟩⟩
        rcases List.mem_append.mp z with z | z
        · have := hn _ z
          rw [(mm x y1 y2 y6).2] at this
          exact this (hsub x g)
        · rcases List.mem_append.mp z with z | z
          · exact y5 (hsub _ z)
          · have := bmo x y1 y2 y6 (s2 _ z).2.1
            rw [(s2 _ z).2.2.1] at this
            exact nEc x (hsub x g) this.symm
      · obtain ⟨y1, y2, y3, y4, y5⟩ := s2 x g
        obtain ⟨z1, z2, z3, z4⟩ := ptc x y1 y2 y3 y4
        refine ⟨y1, y4, fun z => ?_, Or.inl ⟨y2, y3⟩⟩
        rcases List.mem_append.mp z with z | z
        · rw [(x2 _ z).2.2.1] at z4
          exact hdc z4
        · rcases List.mem_append.mp z with z | z
          · exact nEc _ (hsub _ z) z4
          · exact y5 z
  · rw [hX] at x1
    obtain ⟨x3, x4⟩ := se_it_split x1
    have hyX : y ∈ X := by rw [hX]; exact List.mem_append_right _ (List.mem_cons_self ..)
    have hYX : ∀ x, x ∈ Y → x ∈ X := fun x hx => by rw [hX]; exact List.mem_append_left _ hx
    obtain ⟨W, w1, w2⟩ := revq (m y) hy
    rw [(xx y hyX).2.2.1] at w1
    have YE : ∀ x, x ∈ Y → x ∉ E := by
      intro x hx hxE
      obtain ⟨Y1, Y2, hYY⟩ := List.append_of_mem hx
      obtain ⟨E1, E2, hEE⟩ := List.append_of_mem hxE
      rw [hYY, List.append_assoc] at x1
      have x5 := (se_it_split (X := Y1) (y := x) (Y := Y2 ++ y :: Z) x1).2
      rw [hEE] at e1
      have e2 := (se_it_split e1).2
      obtain ⟨V, v1, _⟩ := se_it_pre x5 e2 (fun z => by
        have z' : te ∈ X := by
          rw [hX, hYY, List.append_assoc]
          exact List.mem_append_right _ z
        have := (x2 te z').2.2.1
        rw [te3] at this
        exact hdc this.symm)
      have hyE : y ∈ E := by
        rw [hEE]
        refine List.mem_append_right _ ?_
        rw [v1]
        exact List.mem_append_left _ (List.mem_cons_of_mem _ (List.mem_append_right _ (List.mem_cons_self ..)))
      exact (fE y hyE).2.2.2.2.1 hy
    refine ⟨Y ++ W, se_it_app (se_it_congr (fun x hx => ff x (hY x hx) (xF x (hYX x hx))) x3) w1, fun x hx => ?_⟩
    rcases List.mem_append.mp hx with g | g
    · obtain ⟨y1, y2, y3, y4, y5⟩ := x2 x (hYX x g)
      obtain ⟨z1, z2, z3, z4, z5⟩ := xx x (hYX x g)
      refine ⟨y1, fun z => hdc (by rw [z, hcc] at y3; exact y3.symm), fun z => ?_, Or.inr (Rd x y3)⟩
      rcases List.mem_append.mp z with z | z
      · exact y5 (hYX _ z)
      · rcases w2 _ z with z | ⟨e, he, hz⟩
        · rcases (Qb _ z).2.2.2.2 with z | z
          · exact xF x (hYX x g) z
          · exact hdc (z5.symm.trans z)
        · obtain ⟨u1, u2, u3, u4, u5, u6⟩ := fE e he
          have : x = e := by rw [← z3, hz, (mm e u1 u2 u6).2]
          exact YE x g (this ▸ he)
    · obtain ⟨q1, q2, q3⟩ := prop x (w2 x g)
      refine ⟨q1, q2, fun z => ?_, q3⟩
      rcases List.mem_append.mp z with z | z
      · rcases w2 x g with h | ⟨e, he, h⟩
        · obtain ⟨b1, b2, b3, b4, b5⟩ := Qb x h
          obtain ⟨y1, y2, y3, y4, y5⟩ := x2 _ (hYX _ z)
          have hb := bmo x b1 b2 b4 y2
          rw [y3] at hb
          rcases b5 with b5 | b5
          · exact hdis d hdD (by rw [hb]; exact (fF x b5).2.2.1)
          · exact hdc (hb.trans b5)
        · obtain ⟨u1, u2, u3, u4, u5, u6⟩ := fE e he
          rw [h, (mm e u1 u2 u6).2] at z
          exact YE e z he
      · exact good x _ (w2 x g) (w2 _ z) rfl
end
section
/-! a way marked: each point of it is reached the other way round -/
def se_mk (m : Nat → Nat) : List Nat → (Nat → Nat) → Nat → (Nat → Nat)
  | [], p, _ => p
  | e :: E, p, c => se_mk m E (ma_up p e c) (m e)
theorem se_mk_o {m : Nat → Nat} {x : Nat} : ∀ {E : List Nat} {p : Nat → Nat} {c : Nat}, x ∉ E → se_mk m E p c x = p x
  | [], _, _, _ => rfl
  | e :: E, p, c, h => by
    show se_mk m E (ma_up p e c) (m e) x = p x
    rw [se_mk_o (E := E) (fun z => h (List.mem_cons_of_mem _ z)), ma_un (fun z : x = e => h (List.mem_cons.mpr (Or.inl z)))]
theorem se_mk_val {m f : Nat → Nat} {Q : Nat → Nat → Prop} {t : Nat} : ∀ {E : List Nat} {p : Nat → Nat} {v c : Nat}, E.Nodup → se_it f E v t → Q v c → (∀ e, e ∈ E → Q (f e) (m e)) → ∀ x, x ∈ E → Q x (se_mk m E p c x)
  | [], _, _, _, _, _, _, _, x, hx => absurd hx List.not_mem_nil
  | e :: E, p, v, c, hn, h, h0, hq, x, hx => by
    obtain ⟨n1, n2⟩ := List.nodup_cons.mp hn
    obtain ⟨h1, h2⟩ := h
    show Q x (se_mk m E (ma_up p e c) (m e) x)
    rcases List.mem_cons.mp hx with g | g
    · rw [g, se_mk_o n1, ma_us, ← h1]
      exact h0
    · exact se_mk_val (E := E) n2 h2 (hq e (List.mem_cons_self ..)) (fun y hy => hq y (List.mem_cons_of_mem _ hy)) x g
theorem se_mk_rev {m : Nat → Nat} : ∀ {E : List Nat} {p : Nat → Nat} {c : Nat}, E.Nodup → (∀ e, e ∈ E → m (m e) = e) → ∀ E1 e E2, E = E1 ++ e :: E2 → se_it (fun x => se_mk m E p c (m x)) (m e :: E1.reverse.map m) (m e) c
  | [], p, c, _, _, E1, e, E2, h => by
    have := congrArg List.length h
    simp at this
  | y :: E, p, c, hn, hm, E1, e, E2, h => by
    obtain ⟨n1, n2⟩ := List.nodup_cons.mp hn
    show se_it (fun x => se_mk m E (ma_up p y c) (m y) (m x)) (m e :: E1.reverse.map m) (m e) c
    have hy : se_mk m E (ma_up p y c) (m y) (m (m y)) = c := by
      rw [hm y (List.mem_cons_self ..), se_mk_o n1, ma_us]
    match E1, h with
    | [], h =>
      have h1 : y = e := (List.cons.inj h).1
      subst h1
      exact ⟨rfl, hy⟩
    | z :: E1, h =>
      obtain ⟨h1, h2⟩ := List.cons.inj h
      have h1 : y = z := h1
      subst h1
      have ih := se_mk_rev (E := E) (p := ma_up p y c) (c := m y) n2 (fun x hx => hm x (List.mem_cons_of_mem _ hx)) E1 e E2 h2
      have hl : (m e :: (y :: E1).reverse.map m) = (m e :: E1.reverse.map m) ++ [m y] := by simp
      rw [hl]
      exact se_it_app ih ⟨rfl, hy⟩
theorem se_W_nd {m p b : Nat → Nat} {o : Nat → Prop} {r v t c : Nat} {D E : List Nat} (h : se_W m p b o r D E v t c) (hc : c ∉ D) : E.Nodup :=
  se_it_nodup h.1 (fun z => hc (by rw [← h.2.2.2.1]; exact (h.2.2.2.2 t z).2.2.1))
theorem se_draw {adj : Nat → Nat → Prop} {m : Nat → Nat} {r c u w te tf : Nat} {p b b' : Nat → Nat} {o o' : Nat → Prop} {rk : Nat → Nat} {D1 D2 E F : List Nat} (H : se_H adj m r) (I : se_I adj m r p b o rk)
    (hou : o u) (how : o w) (ha : adj u w) (c1 : se_it (fun x => b (p (m x))) D1 (b u) c) (c2 : se_it (fun x => b (p (m x))) D2 (b w) c) (d1 : se_D o b r D1) (d2 : se_D o b r D2) (hdis : ∀ d, d ∈ D1 → d ∉ D2)
    (hE : se_W m p b o r D1 E u te c) (hF : se_W m p b o r D2 F w tf c)
    (hb1 : ∀ x, x < 10 → se_R m b (E ++ F) (b x) → b' x = c) (hb2 : ∀ x, x < 10 → ¬ se_R m b (E ++ F) (b x) → b' x = b x) (ho : ∀ x, x < 10 → (o' x ↔ o x ∨ se_R m b (E ++ F) (b x))) :
    se_I adj m r (se_mk m F (se_mk m E p w) u) b' o' rk := by
  have I' := I
  obtain ⟨⟨i1, i1'⟩, i2, i3, i4, i5, i6, i7, i8⟩ := I'
  have H' := H
  obtain ⟨G, hm, hr, hmr⟩ := H'
  obtain ⟨ha', hne, hu, hw⟩ := G _ _ ha
  have r1 := (se_rk (rk := rk) c1 (fun x hx => i7 x (d1 x hx).1 (d1 x hx).2.1 (d1 x hx).2.2.1 (d1 x hx).2.2.2)).2
  have r2 := (se_rk (rk := rk) c2 (fun x hx => i7 x (d2 x hx).1 (d2 x hx).2.1 (d2 x hx).2.2.1 (d2 x hx).2.2.2)).2
  have hc1 : c ∉ D1 := fun z => by have := (r1 c z).1; omega
  have hc2 : c ∉ D2 := fun z => by have := (r2 c z).1; omega
  have nE := se_W_nd hE hc1
  have nF := se_W_nd hF hc2
  have fE := hE.2.2.2.2
  have fF := hF.2.2.2.2
  have hEF : ∀ x, x ∈ E → x ∉ F := fun x h1 h2 => hdis _ (fE x h1).2.2.1 (fF x h2).2.2.1
  have hmm : ∀ x, x < 10 → o x → x ≠ r → m x < 10 ∧ m (m x) = x ∧ p (m x) < 10 := by
    intro x hx h1 h2
    obtain ⟨a1, a2⟩ := i4 x hx h1 h2
    exact ⟨a1, (hm x hx a1).1, a2⟩
  have hA : ∀ x, x ∉ E → x ∉ F → se_mk m F (se_mk m E p w) u x = p x := fun x h1 h2 => by rw [se_mk_o h2, se_mk_o h1]
  have revE : ∀ E1 e E2, E = E1 ++ e :: E2 → se_it (fun x => se_mk m F (se_mk m E p w) u (m x)) (m e :: E1.reverse.map m) (m e) w := by
    intro E1 e E2 h
    have := se_mk_rev (p := p) (c := w) nE (fun x hx => (hmm x (fE x hx).1 (fE x hx).2.1 (fE x hx).2.2.2.2.2).2.1) E1 e E2 h
    refine se_it_congr (fun x hx => ?_) this
    have hx2 : ∃ y, y ∈ E ∧ x = m y := by
      rcases List.mem_cons.mp hx with g | g
      · exact ⟨e, by rw [h]; exact List.mem_append_right _ (List.mem_cons_self ..), g⟩
      · obtain ⟨z, hz, hzx⟩ := List.mem_map.mp g
        exact ⟨z, by rw [h]; exact List.mem_append_left _ (List.mem_reverse.mp hz), hzx.symm⟩
    obtain ⟨y, hy, hxy⟩ := hx2
    show se_mk m E p w (m x) = se_mk m F (se_mk m E p w) u (m x)
    rw [hxy, (hmm y (fE y hy).1 (fE y hy).2.1 (fE y hy).2.2.2.2.2).2.1, se_mk_o (hEF y hy)]
  have revF : ∀ E1 e E2, F = E1 ++ e :: E2 → se_it (fun x => se_mk m F (se_mk m E p w) u (m x)) (m e :: E1.reverse.map m) (m e) u :=
    fun E1 e E2 h => se_mk_rev (p := se_mk m E p w) (c := u) nF (fun x hx => (hmm x (fF x hx).1 (fF x hx).2.1 (fF x hx).2.2.2.2.2).2.1) E1 e E2 h
  have fK : ∀ e, e ∈ E ++ F → e < 10 ∧ o e ∧ b e ∈ E ++ F ∧ e ≠ r := by
    intro e he
    rcases List.mem_append.mp he with g | g
    · obtain ⟨a1, a2, a3, a4, a5, a6⟩ := fE e g
      exact ⟨a1, a2, List.mem_append_left _ a4, a6⟩
    · obtain ⟨a1, a2, a3, a4, a5, a6⟩ := fF e g
      exact ⟨a1, a2, List.mem_append_right _ a4, a6⟩
  have ring : ∀ e, e ∈ E ++ F → m e < 10 ∧ adj (p (m e)) (m e) ∧ o' (m e) := by
    intro e he
    obtain ⟨a1, a2, a3, a4⟩ := fK e he
    obtain ⟨b1, b2, b3⟩ := hmm e a1 a2 a4
    exact ⟨b1, (G _ _ (i3 _ b1 b3).2.2.1).1, (ho _ b1).mpr (Or.inr ⟨e, he, Or.inr rfl⟩)⟩
  refine se_blossom (K := E ++ F) (c := c) H I fK ?_ ?_ ?_ ?_ hb1 hb2 ho ?_
  · intro e he
    rcases List.mem_append.mp he with g | g
    · exact ⟨fun z => hc1 (z ▸ (fE e g).2.2.1), (r1 _ (fE e g).2.2.1).1⟩
    · exact ⟨fun z => hc2 (z ▸ (fF e g).2.2.1), (r2 _ (fF e g).2.2.1).1⟩
  · obtain ⟨_, t1, t2, t3, _⟩ := hE
    obtain ⟨a1, a2, a3, a4⟩ := i2 te t1
    rw [t3] at a1 a2 a4
    exact ⟨a1, a4 t2, a2⟩
  · exact fun x hx => hA x (fun z => hx (List.mem_append_left _ z)) (fun z => hx (List.mem_append_right _ z))
  · intro x hx
    by_cases g : x ∈ F
    · refine se_mk_val (Q := fun x y => y < 10 ∧ adj x y ∧ o' y) nF hF.1 ⟨hu, ha', (ho u hu).mpr (Or.inl hou)⟩ (fun e he => ring e (List.mem_append_right _ he)) x g
    · have g2 : x ∈ E := by
        rcases List.mem_append.mp hx with z | z
        · exact z
        · exact absurd z g
      rw [se_mk_o g]
      exact se_mk_val (Q := fun x y => y < 10 ∧ adj x y ∧ o' y) nE hE.1 ⟨hw, ha, (ho w hw).mpr (Or.inl how)⟩ (fun e he => ring e (List.mem_append_left _ he)) x g2
  · intro v d hv hd hdd hvd
    rcases List.mem_append.mp hd with g | g
    · exact se_seg H I hE hF hc1 hc2 hdis hA revE hv g hdd hvd
    · obtain ⟨X, x1, x2⟩ := se_seg H I hF hE hc2 hc1 (fun d h1 h2 => hdis d h2 h1) (fun x h1 h2 => hA x h2 h1) revF hv g hdd hvd
      refine ⟨X, x1, fun x hx => ?_⟩
      obtain ⟨y1, y2, y3, y4⟩ := x2 x hx
      refine ⟨y1, y2, y3, ?_⟩
      rcases y4 with y4 | ⟨e, he, y4⟩
      · exact Or.inl y4
      · refine Or.inr ⟨e, ?_, y4⟩
        rcases List.mem_append.mp he with z | z
        · exact List.mem_append_right _ z
        · exact List.mem_append_left _ z
/-! what has been looked at: D v w says that the line from v to w was followed -/
def se_C (adj : Nat → Nat → Prop) (p b : Nat → Nat) (o : Nat → Prop) (D : Nat → Nat → Prop) : Prop :=
  ∀ v w, D v w → o v ∧ (adj v w → (o w ∨ p w < 10) ∧ (o w → D w v → b v = b w))
/-- the state only grows -/
def se_E (p b p' b' : Nat → Nat) (o o' : Nat → Prop) : Prop :=
  (∀ x, x < 10 → o x → o' x) ∧ (∀ x, x < 10 → p x < 10 → p' x < 10) ∧ (∀ x y, x < 10 → y < 10 → b x = b y → b' x = b' y)
theorem se_E_refl {p b : Nat → Nat} {o : Nat → Prop} : se_E p b p b o o := ⟨fun _ _ h => h, fun _ _ h => h, fun _ _ _ _ h => h⟩
theorem se_C_step {adj : Nat → Nat → Prop} {p b p' b' : Nat → Nat} {o o' : Nat → Prop} {D : Nat → Nat → Prop} {v w : Nat} (G : ma_G adj) (hD : ∀ x y, D x y → x < 10) (hC : se_C adj p b o D) (hE : se_E p b p' b' o o') (hv : v < 10) (hov : o v)
    (hn : adj v w → (o' w ∨ p' w < 10) ∧ (o' w → b' v = b' w)) : se_C adj p' b' o' (fun x y => D x y ∨ (x = v ∧ y = w)) := by
  obtain ⟨e1, e2, e3⟩ := hE
  intro x y hxy
  rcases hxy with h | ⟨h1, h2⟩
  · obtain ⟨k1, k2⟩ := hC x y h
    have hx := hD x y h
    refine ⟨e1 x hx k1, fun ha => ?_⟩
    have hy := (G _ _ ha).2.2.2
    obtain ⟨k3, k4⟩ := k2 ha
    refine ⟨?_, fun h3 h4 => ?_⟩
    · rcases k3 with k3 | k3
      · exact Or.inl (e1 y hy k3)
      · exact Or.inr (e2 y hy k3)
    · rcases h4 with h4 | ⟨h5, h6⟩
      · exact e3 x y hx hy (k4 (hC y x h4).1 h4)
      · rw [h5, h6] at ha
        rw [h5, h6]
        exact ((hn (G _ _ ha).1).2 (h6 ▸ e1 x hx k1)).symm
  · rw [h1, h2]
    refine ⟨e1 v hv hov, fun ha => ⟨(hn ha).1, fun h3 _ => (hn ha).2 h3⟩⟩
/-- all looked at: no matching covers all outer points -/
theorem se_HT {adj : Nat → Nat → Prop} {m : Nat → Nat} {r : Nat} {p b : Nat → Nat} {o : Nat → Prop} {rk : Nat → Nat} {D : Nat → Nat → Prop} (H : se_H adj m r) (I : se_I adj m r p b o rk) (hC : se_C adj p b o D) (hD : ∀ v w, v < 10 → o v → w < 10 → D v w) :
    ∀ n, ma_M adj n → ¬ ∀ v, v < 10 → o v → n v < 10 := by
  obtain ⟨⟨i1, i1'⟩, i2, i3, i4, i5, i6, i7, i8⟩ := I
  obtain ⟨G, hm, hr, hmr⟩ := H
  intro n hn hcov
  refine ma_HT (b := b) G hm hn hr hmr i1 i1' ?_ ?_ hcov
  · intro v w hv hov ha
    have hw := (G _ _ ha).2.2.2
    obtain ⟨k1, k2⟩ := (hC v w (hD v w hv hov hw)).2 ha
    by_cases g : o w
    · exact Or.inl ⟨g, (k2 g (hD w v hw g hv)).symm⟩
    · rcases k1 with k1 | k1
      · exact absurd k1 g
      · obtain ⟨a1, a2, _, _⟩ := i3 w hw k1
        refine Or.inr ⟨a1, a2, Classical.byContradiction (fun z => g ?_)⟩
        have := (i5 _ a1 a2 z).1
        rw [(hm w hw a1).1] at this
        exact this
  · intro v hv hov hb
    have hvr : v ≠ r := fun z => hb (by rw [z]; exact i1')
    obtain ⟨a1, a2⟩ := i5 v hv hov hb
    exact ⟨(i4 v hv hov hvr).1, a1, a2⟩
theorem se_cov {adj : Nat → Nat → Prop} {m : Nat → Nat} {r v : Nat} {p b : Nat → Nat} {o : Nat → Prop} {rk : Nat → Nat} (I : se_I adj m r p b o rk) (hv : v < 10) (hov : o v) : m v < 10 ∨ v = r := by
  by_cases e : v = r
  · exact Or.inr e
  · exact Or.inl (I.2.2.2.1 v hv hov e).1
end
section
/-! bits of an int (the first rows turned from the kit's laws/BITS) -/
def bi_t (x : Int32) (i : Nat) : Bool := x.toBitVec.getLsbD i
theorem bi_ext {x y : Int32} (h : ∀ i, i < 32 → bi_t x i = bi_t y i) : x = y := Int32.toBitVec_inj.mp (BitVec.eq_of_getLsbD_eq (fun i hi => h i hi))
theorem bi_or (x y : Int32) (i : Nat) : bi_t (x ||| y) i = (bi_t x i || bi_t y i) := by unfold bi_t; rw [Int32.toBitVec_or, BitVec.getLsbD_or]
theorem bi_and (x y : Int32) (i : Nat) : bi_t (x &&& y) i = (bi_t x i && bi_t y i) := by unfold bi_t; rw [Int32.toBitVec_and, BitVec.getLsbD_and]
theorem bi_xor (x y : Int32) (i : Nat) : bi_t (x ^^^ y) i = (bi_t x i ^^ bi_t y i) := by unfold bi_t; rw [Int32.toBitVec_xor, BitVec.getLsbD_xor]
theorem bi_m1 : ∀ i, i < 32 → bi_t (-1) i = true := by decide +kernel
theorem bi_0 (i : Nat) : bi_t 0 i = false := BitVec.getLsbD_zero
theorem bi_su : ∀ n, n < 32 → (((nI n).toUInt32 &&& Int32.toUInt32 31).toBitVec % 32).toNat = n := by decide +kernel
theorem bi_ushr (n : Nat) (hn : n < 32) (x : Int32) (i : Nat) : bi_t ((x.toUInt32 >>> ((nI n).toUInt32 &&& Int32.toUInt32 31)).toInt32) i = bi_t x (n + i) := by
  show (x.toUInt32 >>> ((nI n).toUInt32 &&& Int32.toUInt32 31)).toBitVec.getLsbD i = x.toUInt32.toBitVec.getLsbD (n + i)
  rw [UInt32.toBitVec_shiftRight]
  show (x.toUInt32.toBitVec >>> (((nI n).toUInt32 &&& Int32.toUInt32 31).toBitVec % 32).toNat).getLsbD i = _
  rw [bi_su n hn, BitVec.getLsbD_ushiftRight]
/-- one bit alone -/
theorem bi_one : ∀ n, n < 10 → ∀ i, i < 32 → bi_t ((1 : Int32) <<< (nI n &&& 31)) i = decide (i = n) := by decide +kernel
theorem bi_lit1 : ∀ i, i < 32 → bi_t 1 i = decide (i = 0) := by decide +kernel
theorem bi_and1 (y : Int32) : y &&& 1 = if bi_t y 0 = true then 1 else 0 := by
  refine bi_ext (fun i hi => ?_)
  rw [bi_and, bi_lit1 i hi]
  by_cases e : i = 0
  · rw [e]
    by_cases h : bi_t y 0 = true
    · rw [if_pos h, h]
      rfl
    · rw [if_neg h, bi_0]
      simp at h
      simp [h]
  · rw [decide_eq_false e, Bool.and_false]
    by_cases h : bi_t y 0 = true
    · rw [if_pos h, bi_lit1 i hi, decide_eq_false e]
    · rw [if_neg h, bi_0]
theorem bi_bit {x : Int32} {n : Nat} (hn : n < 10) : ((x.toUInt32 >>> ((nI n).toUInt32 &&& Int32.toUInt32 31)).toInt32 &&& 1) = if bi_t x n = true then 1 else 0 := by
  rw [bi_and1, bi_ushr n (by omega)]
  rfl
theorem bi_bit0 {x : Int32} {n : Nat} (hn : n < 10) : ((x.toUInt32 >>> ((nI n).toUInt32 &&& Int32.toUInt32 31)).toInt32 &&& 1) = 0 ↔ ¬ bi_t x n = true := by
  rw [bi_bit hn]
  split
  · rename_i h
    exact ⟨fun z => absurd z (by decide), fun z => absurd h z⟩
  · rename_i h
    exact ⟨fun _ => h, fun _ => rfl⟩
/-! tables as arrays -/
def wa_e (k : Nat) : Int32 := if k < 10 then nI k else -1
theorem wa_e_lt {k : Nat} (h : k < 10) : wa_e k = nI k := if_pos h
theorem wa_e_ge {k : Nat} (h : ¬ k < 10) : wa_e k = -1 := if_neg h
def wa_R (a : Nat → Int32) (f : Nat → Nat) : Prop := ∀ i, i < 10 → a i = wa_e (f i)
theorem wa_R_in {a : Nat → Int32} {f : Nat → Nat} {i : Nat} (h : wa_R a f) (hi : i < 10) (hf : f i < 10) : a i = nI (f i) := by rw [h i hi, wa_e_lt hf]
theorem wa_R_neg {a : Nat → Int32} {f : Nat → Nat} {i : Nat} (h : wa_R a f) (hi : i < 10) : a i < 0 ↔ ¬ f i < 10 := by
  rw [h i hi]
  by_cases g : f i < 10
  · rw [wa_e_lt g]
    exact ⟨fun z => absurd z (nI_pos (by omega)), fun z => absurd g z⟩
  · rw [wa_e_ge g]
    exact ⟨fun _ => g, fun _ => by decide⟩
theorem wa_R_pos {a : Nat → Int32} {f : Nat → Nat} {i : Nat} (h : wa_R a f) (hi : i < 10) : 0 ≤ a i ↔ f i < 10 := by
  rw [h i hi]
  by_cases g : f i < 10
  · rw [wa_e_lt g]
    exact ⟨fun _ => g, fun _ => nI_pos' (by omega)⟩
  · rw [wa_e_ge g]
    exact ⟨fun z => absurd z (by decide), fun z => absurd z g⟩
theorem wa_R_up {a : Nat → Int32} {f : Nat → Nat} {k x : Nat} (h : wa_R a f) (hx : x < 10) : wa_R (upd a k (nI x)) (ma_up f k x) := by
  intro i hi
  by_cases e : i = k
  · rw [e, pk_us, ma_us, wa_e_lt hx]
  · rw [pk_un e, ma_un e]
    exact h i hi
def wa_B (a : Nat → Int32) (o : Nat → Prop) : Prop := ∀ i, i < 10 → (a i = 0 ↔ ¬ o i)
theorem wa_B_set {a : Nat → Int32} {o : Nat → Prop} {k : Nat} (h : wa_B a o) : wa_B (upd a k 1) (fun x => o x ∨ x = k) := by
  intro i hi
  by_cases e : i = k
  · rw [e, pk_us]
    exact ⟨fun z => absurd z (by decide), fun z => absurd (Or.inr rfl) z⟩
  · rw [pk_un e, h i hi]
    exact ⟨fun z g => g.elim z e, fun z g => z (Or.inl g)⟩
theorem wa_B_iff {a : Nat → Int32} {o o' : Nat → Prop} (h : wa_B a o) (e : ∀ x, x < 10 → (o x ↔ o' x)) : wa_B a o' := by
  intro i hi
  rw [h i hi, e i hi]
def wa_Q (a : Nat → Int32) (q : Int32) (L : List Nat) (o : Nat → Prop) : Prop := q = nI L.length ∧ L.Nodup ∧ (∀ x, x ∈ L ↔ x < 10 ∧ o x) ∧ ∀ j x, L[j]? = some x → a j = nI x
theorem wa_Q_iff {a : Nat → Int32} {q : Int32} {L : List Nat} {o o' : Nat → Prop} (h : wa_Q a q L o) (e : ∀ x, x < 10 → (o x ↔ o' x)) : wa_Q a q L o' := by
  obtain ⟨h1, h2, h3, h4⟩ := h
  exact ⟨h1, h2, fun x => (h3 x).trans ⟨fun z => ⟨z.1, (e x z.1).mp z.2⟩, fun z => ⟨z.1, (e x z.1).mpr z.2⟩⟩, h4⟩
theorem wa_Q_len {a : Nat → Int32} {q : Int32} {L : List Nat} {o : Nat → Prop} (h : wa_Q a q L o) : L.length ≤ 10 :=
  se_len h.2.1 (fun x hx => ((h.2.2.1 x).mp hx).1)
def wa_G (a : Nat → Int32) (g : Nat → Nat → Prop) : Prop := ∀ u v, u < 10 → v < 10 → (bi_t (a u) v = true ↔ g u v)
def wa_Z (x : Int32) (S : Nat → Prop) : Prop := ∀ v, v < 10 → (bi_t x v = true ↔ S v)
theorem wa_makeOuter {post : St1 → Prop} {ab qe : Int32} {a1 a2 a3 a4 a5 a6 a7 a8 : Nat → Int32} {o : Nat → Prop} {L : List Nat} {i : Nat} (hi : i < 10) (hB : wa_B a3 o) (hQ : wa_Q a8 qe L o)
    (h : ∀ qe' a3' a8' L', wa_B a3' (fun x => o x ∨ x = i) → wa_Q a8' qe' L' (fun x => o x ∨ x = i) → (∃ K, L' = L ++ K) → post (ab, qe', a1, a2, a3', a4, a5, a6, a7, a8')) :
    wpX_makeOuter post (ab, qe, a1, a2, a3, a4, a5, a6, a7, a8) (nI i) := by
  unfold wpX_makeOuter
  dsimp only
  rw [nI_clamp (show i < 2 ^ 31 by omega)]
  refine ⟨pk_in i 10 hi, fun h0 => ?_, fun h0 => ?_⟩
  · have hno : ¬ o i := (hB i hi).mp h0
    obtain ⟨q1, q2, q3, q4⟩ := hQ
    have hiL : i ∉ L := fun z => hno ((q3 i).mp z).2
    have hL : L.length ≤ 9 := se_len9 q2 (fun x hx => ((q3 x).mp hx).1) hi hiL
    refine ⟨pk_in i 10 hi, nm_e ⟨pk_in L.length 10 (by omega) q1, nm_e (nm_e ?_)⟩⟩
    rw [q1, nI_clamp (show L.length < 2 ^ 31 by omega), nI_1]
    refine h _ _ _ (L ++ [i]) (wa_B_set hB) ⟨by simp, ?_, fun x => ?_, fun j x hj => ?_⟩ ⟨[i], rfl⟩
    · refine List.nodup_append.mpr ⟨q2, by simp, fun a ha b hb => ?_⟩
      rw [List.mem_singleton.mp hb]
      exact fun z => hiL (z ▸ ha)
    · rw [List.mem_append, q3 x, List.mem_singleton]
      exact ⟨fun z => z.elim (fun g => ⟨g.1, Or.inl g.2⟩) (fun g => ⟨g ▸ hi, Or.inr g⟩), fun z => z.2.elim (fun g => Or.inl ⟨z.1, g⟩) Or.inr⟩
    · by_cases e : j = L.length
      · rw [e, pk_us]
        rw [e] at hj
        simp at hj
        rw [hj]
      · rw [pk_un e]
        by_cases e2 : j < L.length
        · rw [List.getElem?_append_left e2] at hj
          exact q4 j x hj
        · rw [List.getElem?_eq_none (by simp; omega)] at hj
          exact absurd hj.symm (Option.some_ne_none x)
  · have hno : o i := Classical.byContradiction (fun z => h0 ((hB i hi).mpr z))
    have e : ∀ x, x < 10 → (o x ↔ (o x ∨ x = i)) := fun x _ => ⟨Or.inl, fun z => z.elim id (fun g => g ▸ hno)⟩
    exact h _ _ _ L (wa_B_iff hB e) (wa_Q_iff hQ e) ⟨[], (List.append_nil L).symm⟩
theorem wa_isLine {post : Int32 → Prop} {ab qe : Int32} {a1 a2 a3 a4 a5 a6 a7 a8 : Nat → Int32} {g : Nat → Nat → Prop} {u v : Nat} (hu : u < 10) (hv : v < 10) (hG : wa_G a1 g) (h1 : g u v → post 1) (h0 : ¬ g u v → post 0) :
    wpX_isLine post (ab, qe, a1, a2, a3, a4, a5, a6, a7, a8) (nI u) (nI v) := by
  unfold wpX_isLine
  dsimp only
  rw [nI_clamp (show u < 2 ^ 31 by omega)]
  refine ⟨pk_in u 10 hu, fun z => h0 (fun k => ?_), fun z => h1 (Classical.byContradiction (fun k => ?_))⟩
  · exact (bi_bit0 hv).mp z ((hG u v hu hv).mpr k)
  · exact z ((bi_bit0 hv).mpr (fun t => k ((hG u v hu hv).mp t)))
/-- the bound of a loop that counts to 10 -/
theorem wa_le10 {A B : Prop} {i : Nat} (hi : i ≤ 10) (f : i = 10 → A) (g : i < 10 → B) : ((10 : Int32) ≤ nI i → A) ∧ (¬ (10 : Int32) ≤ nI i → B) :=
  pk_le 10 i (fun h => f (by omega)) (fun h => g h)
end
section
/-! meetingBase -/
def wa_ok (m p b : Nat → Nat) (o : Nat → Prop) (r : Nat) : Prop := ∀ d, d < 10 → o d → d ≠ r → m d < 10 ∧ p (m d) < 10 ∧ b (p (m d)) < 10
theorem wa_I_ok {adj : Nat → Nat → Prop} {m : Nat → Nat} {r : Nat} {p b : Nat → Nat} {o : Nat → Prop} {rk : Nat → Nat} (I : se_I adj m r p b o rk) : wa_ok m p b o r := by
  intro d hd h1 h2
  obtain ⟨a1, a2⟩ := I.2.2.2.1 d hd h1 h2
  exact ⟨a1, a2, (I.2.1 _ a2).1⟩
theorem wa_mb95 {post : Int32 → St1 → Prop} {ab qe : Int32} {a1 a2 a3 a4 a5 a6 a7 a8 : Nat → Int32} {m p b : Nat → Nat} {o P : Nat → Prop} {r : Nat} (hR2 : wa_R a2 m) (hR4 : wa_R a4 p) (hR5 : wa_R a5 b) (hB : wa_B a7 P) (hPr : P r) (hok : wa_ok m p b o r) :
    ∀ (D : List Nat) (y s n : Nat), y < 10 → se_it (fun x => b (p (m x))) D y r → se_D o b r D → s + D.length ≤ 10 → D.length < n →
    (∀ c D', c < 10 → se_it (fun x => b (p (m x))) D' y c → (∀ d, d ∈ D' → ¬ P d ∧ d ∈ D) → P c → post (nI c) (ab, qe, a1, a2, a3, a4, a5, a6, a7, a8)) →
    wX_meetingBase_95 post ab qe a1 a2 a3 a4 a5 a6 a7 a8 n (nI y) (nI s) := by
  intro D
  induction D with
  | nil =>
    intro y s n hy h hD hs hn H
    have h : y = r := h
    have hPy : P y := h ▸ hPr
    have HH := H y [] hy rfl (fun d hd => absurd hd List.not_mem_nil) hPy
    match n, hn with
    | n + 1, _ =>
      refine wa_le10 (i := s) (by simpa using hs) (fun _ => HH) (fun _ => ⟨pk_in y 10 hy, ?_⟩)
      rw [nI_clamp (show y < 2 ^ 31 by omega)]
      exact ⟨fun z => absurd hPy ((hB y hy).mp z), fun _ => HH⟩
  | cons d D ih =>
    intro y s n hy h hD hs hn H
    obtain ⟨h1, h2⟩ := h
    have h1 : y = d := h1
    subst h1
    obtain ⟨d1, d2, d3, d4⟩ := hD y (List.mem_cons_self ..)
    obtain ⟨k1, k2, k3⟩ := hok y hy d2 d4
    rw [List.length_cons] at hs hn
    match n, hn with
    | n + 1, hn =>
      refine wa_le10 (i := s) (by omega) (fun e => absurd hs (by omega)) (fun _ => ⟨pk_in y 10 hy, ?_⟩)
      rw [nI_clamp (show y < 2 ^ 31 by omega)]
      refine ⟨fun z => ?_, fun z => H y [] hy rfl (fun d hd => absurd hd List.not_mem_nil) (Classical.byContradiction (fun g => z ((hB y hy).mpr g)))⟩
      have hnP := (hB y hy).mp z
      rw [wa_R_in hR2 hy k1, nI_clamp (show m y < 2 ^ 31 by omega), wa_R_in hR4 k1 k2, nI_clamp (show p (m y) < 2 ^ 31 by omega), wa_R_in hR5 k2 k3]
      refine ⟨pk_in y 10 hy, pk_in (m y) 10 k1, pk_in (p (m y)) 10 k2, nm_e (nm_r (nI_1 s) ?_)⟩
      refine ih (b (p (m y))) (s + 1) n k3 h2 (fun x hx => hD x (List.mem_cons_of_mem _ hx)) (by omega) (by omega) (fun c D' c1 c2 c3 c4 => ?_)
      refine H c (y :: D') c1 ⟨rfl, c2⟩ (fun x hx => ?_) c4
      rcases List.mem_cons.mp hx with g | g
      · rw [g]
        exact ⟨hnP, List.mem_cons_self ..⟩
      · exact ⟨(c3 x g).1, List.mem_cons_of_mem _ (c3 x g).2⟩
theorem wa_mb38 {post : Int32 → St1 → Prop} {ab qe : Int32} {a1 a2 a3 a4 a5 a6 a8 : Nat → Int32} {m p b : Nat → Nat} {o : Nat → Prop} {r w : Nat} (hR2 : wa_R a2 m) (hR4 : wa_R a4 p) (hR5 : wa_R a5 b) (hmr : ¬ m r < 10) (hok : wa_ok m p b o r) (hw : w < 10) (hbw : b w < 10) :
    ∀ (D : List Nat) (x s n : Nat) (a7 : Nat → Int32) (P : Nat → Prop), x < 10 → se_it (fun x => b (p (m x))) D x r → se_D o b r D → s + D.length ≤ 10 → D.length < n → wa_B a7 P → P x →
    (∀ a7', wa_B a7' (fun z => P z ∨ z ∈ D ∨ z = r) → ∃ fu95 : Nat, wX_meetingBase_95 post ab qe a1 a2 a3 a4 a5 a6 a7' a8 fu95 (nI (b w)) 0) →
    wX_meetingBase_38 post (nI w) ab qe n (nI x) (nI s) a1 a2 a3 a4 a5 a6 a7 a8 := by
  intro D
  induction D with
  | nil =>
    intro x s n a7 P hx h hD hs hn hB hP H
    have h : x = r := h
    have HH := H a7 (wa_B_iff hB (fun z _ => ⟨Or.inl, fun g => g.elim id (fun g => g.elim (fun g => absurd g List.not_mem_nil) (fun g => by rw [g, ← h]; exact hP))⟩))
    have X : vp_in (nI w) 10 ∧ ∀ x4_8 : Int32, x4_8 = a5 (nI w).toNatClampNeg → ∃ fu95 : Nat, wX_meetingBase_95 post ab qe a1 a2 a3 a4 a5 a6 a7 a8 fu95 x4_8 0 := by
      rw [nI_clamp (show w < 2 ^ 31 by omega), wa_R_in hR5 hw hbw]
      exact ⟨pk_in w 10 hw, nm_e HH⟩
    match n, hn with
    | n + 1, _ =>
      refine wa_le10 (i := s) (by simpa using hs) (fun _ => X) (fun _ => ⟨pk_in x 10 hx, ?_⟩)
      refine br_t ?_ X
      rw [nI_clamp (show x < 2 ^ 31 by omega)]
      exact (wa_R_neg hR2 hx).mpr (h ▸ hmr)
  | cons d D ih =>
    intro x s n a7 P hx h hD hs hn hB hP H
    obtain ⟨h1, h2⟩ := h
    have h1 : x = d := h1
    subst h1
    obtain ⟨d1, d2, d3, d4⟩ := hD x (List.mem_cons_self ..)
    obtain ⟨k1, k2, k3⟩ := hok x hx d2 d4
    rw [List.length_cons] at hs hn
    match n, hn with
    | n + 1, hn =>
      refine wa_le10 (i := s) (by omega) (fun e => absurd hs (by omega)) (fun _ => ⟨pk_in x 10 hx, ?_⟩)
      rw [nI_clamp (show x < 2 ^ 31 by omega)]
      refine br_f (fun z => (wa_R_neg hR2 hx).mp z k1) ?_
      rw [wa_R_in hR2 hx k1, nI_clamp (show m x < 2 ^ 31 by omega), wa_R_in hR4 k1 k2, nI_clamp (show p (m x) < 2 ^ 31 by omega), wa_R_in hR5 k2 k3]
      refine ⟨pk_in x 10 hx, pk_in (m x) 10 k1, pk_in (p (m x)) 10 k2, nm_e ⟨pk_in (b (p (m x))) 10 k3, nm_e (nm_r (nI_1 s) ?_)⟩⟩
      rw [nI_clamp (show b (p (m x)) < 2 ^ 31 by omega)]
      refine ih (b (p (m x))) (s + 1) n _ _ k3 h2 (fun x hx => hD x (List.mem_cons_of_mem _ hx)) (by omega) (by omega) (wa_B_set hB) (Or.inr rfl) (fun a7' hB' => H a7' (wa_B_iff hB' (fun z _ => ?_)))
      have hx' : b (p (m x)) ∈ D ∨ b (p (m x)) = r := by
        match D, h2 with
        | [], h2 => exact Or.inr h2
        | y :: D, h2 => exact Or.inl (by rw [show b (p (m x)) = y from h2.1]; exact List.mem_cons_self ..)
      constructor
      · rintro ((g | g) | g | g)
        · exact Or.inl g
        · rcases hx' with e | e
          · exact Or.inr (Or.inl (List.mem_cons_of_mem _ (g ▸ e)))
          · exact Or.inr (Or.inr (g.trans e))
        · exact Or.inr (Or.inl (List.mem_cons_of_mem _ g))
        · exact Or.inr (Or.inr g)
      · rintro (g | g | g)
        · exact Or.inl (Or.inl g)
        · rcases List.mem_cons.mp g with g | g
          · exact Or.inl (Or.inl (g ▸ hP))
          · exact Or.inr (Or.inl g)
        · exact Or.inr (Or.inr g)
theorem wa_clr {a : Nat → Int32} {i : Nat} (h : ∀ j, j < i → a j = 0) : ∀ j, j < i + 1 → upd a i 0 j = 0 := by
  intro j hj
  by_cases e : j = i
  · rw [e, pk_us]
  · rw [pk_un e]
    exact h j (by omega)
theorem wa_mb2 {post : Int32 → St1 → Prop} {x1 x2 ab qe : Int32} {a1 a2 a3 a4 a5 a6 a8 : Nat → Int32} {u : Nat} (hx : x1 = nI u) (hu : u < 10) {y : Nat} (hy : a5 u = nI y) (hy10 : y < 10)
    (H : ∀ a7, (∀ j, j < 10 → a7 j = 0) → ∃ fu38 : Nat, wX_meetingBase_38 post x2 ab qe fu38 (nI y) 0 a1 a2 a3 a4 a5 a6 (upd a7 y 1) a8) :
    ∀ (n i : Nat) (a7 : Nat → Int32), i ≤ 10 → 10 - i < n → (∀ j, j < i → a7 j = 0) → wX_meetingBase_2 post x1 x2 ab qe n (nI i) a1 a2 a3 a4 a5 a6 a7 a8 := by
  intro n
  induction n with
  | zero => intro i a7 _ h; omega
  | succ n ih =>
    intro i a7 hi hn h0
    refine wa_le10 hi (fun e => ?_) (fun hlt => ⟨pk_in i 10 hlt, nm_e (nm_r (nI_1 i) ?_)⟩)
    · rw [hx, nI_clamp (show u < 2 ^ 31 by omega), hy]
      refine ⟨pk_in u 10 hu, nm_e ⟨pk_in y 10 hy10, nm_e ?_⟩⟩
      rw [nI_clamp (show y < 2 ^ 31 by omega)]
      exact H a7 (fun j hj => h0 j (by omega))
    · rw [nI_clamp (show i < 2 ^ 31 by omega)]
      exact ih (i + 1) _ (by omega) (by omega) (wa_clr h0)
/-- what meetingBase answers: c, the ways of bases to it -/
def wa_meet (m p b : Nat → Nat) (o : Nat → Prop) (r u w c : Nat) (D1 D2 : List Nat) : Prop :=
  c < 10 ∧ se_it (fun x => b (p (m x))) D1 (b u) c ∧ se_it (fun x => b (p (m x))) D2 (b w) c ∧ se_D o b r D1 ∧ se_D o b r D2 ∧ ∀ d, d ∈ D1 → d ∉ D2
theorem wa_meetingBase {post : Int32 → St1 → Prop} {ab qe : Int32} {a1 a2 a3 a4 a5 a6 a7 a8 : Nat → Int32} {adj : Nat → Nat → Prop} {m p b : Nat → Nat} {o : Nat → Prop} {rk : Nat → Nat} {r u w : Nat} (S : se_H adj m r) (I : se_I adj m r p b o rk) (hR2 : wa_R a2 m) (hR4 : wa_R a4 p) (hR5 : wa_R a5 b)
    (hu : u < 10) (hw : w < 10) (hou : o u) (how : o w) (H : ∀ a7' c D1 D2, wa_meet m p b o r u w c D1 D2 → post (nI c) (ab, qe, a1, a2, a3, a4, a5, a6, a7', a8)) :
    wpX_meetingBase post (ab, qe, a1, a2, a3, a4, a5, a6, a7, a8) (nI u) (nI w) := by
  obtain ⟨DA, da1, da2⟩ := se_chain I (rk (b u) + 1) u hu hou (by omega)
  obtain ⟨DB, db1, db2⟩ := se_chain I (rk (b w) + 1) w hw how (by omega)
  have hok := wa_I_ok I
  have hbu := (I.2.1 u hu).1
  have hbw := (I.2.1 w hw).1
  have lA : DA.length ≤ 10 := se_len (se_it_nodup da1 (fun z => (da2 r z).2.2.2 rfl)) (fun x hx => (da2 x hx).1)
  have lB : DB.length ≤ 10 := se_len (se_it_nodup db1 (fun z => (db2 r z).2.2.2 rfl)) (fun x hx => (db2 x hx).1)
  refine ⟨11, wa_mb2 rfl hu (wa_R_in hR5 hu hbu) hbu (fun a7 h0 => ⟨11, ?_⟩) 11 0 a7 (by omega) (by omega) (fun j hj => absurd hj (by omega))⟩
  have hB0 : wa_B (upd a7 (b u) 1) (fun z => False ∨ z = b u) := wa_B_set (fun i hi => ⟨fun _ z => z, fun _ => h0 i hi⟩)
  refine wa_mb38 hR2 hR4 hR5 S.2.2.2 hok hw hbw DA (b u) 0 11 _ _ hbu da1 da2 (by omega) (by omega) hB0 (Or.inr rfl) (fun a7' hB' => ⟨11, ?_⟩)
  refine wa_mb95 hR2 hR4 hR5 hB' (Or.inr (Or.inr rfl)) hok DB (b w) 0 11 hbw db1 db2 (by omega) (by omega) (fun c D2 hc c1 c2 c3 => ?_)
  have hbuA : b u ∈ DA ∨ b u = r := by
    match DA, da1 with
    | [], h => exact Or.inr h
    | y :: DA, h => exact Or.inl (by rw [show b u = y from h.1]; exact List.mem_cons_self ..)
  have hc3 : c ∈ DA ∨ c = r := by
    rcases c3 with (g | g) | g | g
    · exact absurd g id
    · rw [g]
      exact hbuA
    · exact Or.inl g
    · exact Or.inr g
  have key : ∃ D1, se_it (fun x => b (p (m x))) D1 (b u) c ∧ ∀ d, d ∈ D1 → d ∈ DA := by
    rcases hc3 with g | g
    · obtain ⟨A, B, e⟩ := List.append_of_mem g
      rw [e] at da1
      exact ⟨A, (se_it_split da1).1, fun d hd => by rw [e]; exact List.mem_append_left _ hd⟩
    · exact ⟨DA, g ▸ da1, fun d hd => hd⟩
  obtain ⟨D1, k1, k2⟩ := key
  exact H a7' c D1 D2 ⟨hc, k1, c1, fun d hd => da2 d (k2 d hd), fun d hd => db2 d (c2 d hd).2, fun d h1 h2 => (c2 d h2).1 (Or.inr (Or.inl (k2 d h1)))⟩
end
section
/-! markWay, drawTogether -/
theorem wa_mw9 {post : St1 → Prop} {ab qe : Int32} {a1 a2 a3 a5 a7 a8 : Nat → Int32} {m b : Nat → Nat} {c t : Nat} (hR2 : wa_R a2 m) (hR5 : wa_R a5 b) (hb : ∀ x, x < 10 → b x < 10) (hc : c < 10) (ht : t < 10) (hbt : b t = c) :
    ∀ (E : List Nat) (v ch s n : Nat) (p : Nat → Nat) (a4 a6 : Nat → Int32) (Z : Nat → Prop), se_it (fun x => p (m x)) E v t → (∀ e, e ∈ E → e < 10 ∧ m e < 10 ∧ p (m e) < 10 ∧ b e ≠ c ∧ m e ∉ E) → s + E.length ≤ 10 → E.length < n → ch < 10 → wa_R a4 p → wa_B a6 Z →
    (∀ a4' a6', wa_R a4' (se_mk m E p ch) → wa_B a6' (fun x => Z x ∨ se_R m b E x) → post (ab, qe, a1, a2, a3, a4', a5, a6', a7, a8)) →
    wX_markWay_9 post (nI c) ab qe n (nI v) (nI ch) (nI s) a1 a2 a3 a4 a5 a6 a7 a8 := by
  intro E
  induction E with
  | nil =>
    intro v ch s n p a4 a6 Z h hE hs hn hch hR4 hB H
    have h : v = t := h
    have HH := H a4 a6 hR4 (wa_B_iff hB (fun x _ => ⟨Or.inl, fun g => g.elim id (fun ⟨e, he, _⟩ => absurd he List.not_mem_nil)⟩))
    match n, hn with
    | n + 1, _ =>
      refine wa_le10 (i := s) (by simpa using hs) (fun _ => HH) (fun _ => ⟨pk_in v 10 (h ▸ ht), ?_⟩)
      rw [h, nI_clamp (show t < 2 ^ 31 by omega), wa_R_in hR5 ht (hb t ht), hbt]
      exact br_t rfl HH
  | cons e E ih =>
    intro v ch s n p a4 a6 Z h hE hs hn hch hR4 hB H
    obtain ⟨h1, h2⟩ := h
    have h1 : v = e := h1
    subst h1
    obtain ⟨e1, e2, e3, e4, e5⟩ := hE v (List.mem_cons_self ..)
    have hne : m v ≠ v := fun z => e5 (List.mem_cons.mpr (Or.inl z))
    have hbv := hb v e1
    have hbm := hb (m v) e2
    rw [List.length_cons] at hs hn
    match n, hn with
    | n + 1, hn =>
      refine wa_le10 (i := s) (by omega) (fun e => absurd hs (by omega)) (fun _ => ⟨pk_in v 10 e1, ?_⟩)
      rw [nI_clamp (show v < 2 ^ 31 by omega), wa_R_in hR5 e1 hbv]
      refine br_f (fun z => e4 ((nI_eq (by omega) (by omega)).mp z)) ?_
      rw [wa_R_in hR2 e1 e2, nI_clamp (show m v < 2 ^ 31 by omega), wa_R_in hR5 e2 hbm, nI_clamp (show b v < 2 ^ 31 by omega), nI_clamp (show b (m v) < 2 ^ 31 by omega)]
      refine ⟨pk_in v 10 e1, pk_in (b v) 10 hbv, nm_e ⟨pk_in v 10 e1, pk_in (m v) 10 e2, pk_in (b (m v)) 10 hbm, nm_e ⟨pk_in v 10 e1, nm_e ⟨pk_in v 10 e1, nm_e ⟨pk_in v 10 e1, pk_in (m v) 10 e2, nm_r (e' := nI (p (m v))) ?_ (nm_r (nI_1 s) ?_)⟩⟩⟩⟩⟩
      · rw [pk_un hne]
        exact wa_R_in hR4 e2 e3
      · refine ih (p (m v)) (m v) (s + 1) n (ma_up p v ch) _ _ _ (se_it_congr (fun x hx => ?_) h2) (fun x hx => ?_) (by omega) (by omega) e2 (wa_R_up hR4 hch) (wa_B_set (wa_B_set hB)) (fun a4' a6' r4 r6 => H a4' a6' r4 (wa_B_iff r6 (fun x _ => ?_)))
        · show p (m x) = ma_up p v ch (m x)
          rw [ma_un (fun z : m x = v => (hE x (List.mem_cons_of_mem _ hx)).2.2.2.2 (List.mem_cons.mpr (Or.inl z)))]
        · obtain ⟨x1, x2, x3, x4, x5⟩ := hE x (List.mem_cons_of_mem _ hx)
          refine ⟨x1, x2, ?_, x4, fun z => x5 (List.mem_cons_of_mem _ z)⟩
          rw [ma_un (fun z : m x = v => x5 (List.mem_cons.mpr (Or.inl z)))]
          exact x3
        · constructor
          · rintro (((g | g) | g) | ⟨y, hy, g⟩)
            · exact Or.inl g
            · exact Or.inr ⟨v, List.mem_cons_self .., Or.inl g⟩
            · exact Or.inr ⟨v, List.mem_cons_self .., Or.inr g⟩
            · exact Or.inr ⟨y, List.mem_cons_of_mem _ hy, g⟩
          · rintro (g | ⟨y, hy, g⟩)
            · exact Or.inl (Or.inl (Or.inl g))
            · rcases List.mem_cons.mp hy with e | e
              · rw [e] at g
                rcases g with g | g
                · exact Or.inl (Or.inl (Or.inr g))
                · exact Or.inl (Or.inr g)
              · exact Or.inr ⟨y, e, g⟩
theorem wa_dt48 {post : St1 → Prop} {ab : Int32} {a1 a2 a4 a6 a7 : Nat → Int32} {b : Nat → Nat} {o Z : Nat → Prop} {c : Nat} {L0 : List Nat} (hb : ∀ x, x < 10 → b x < 10) (hc : c < 10) (hZ : wa_B a6 Z)
    (H : ∀ qe' a3' a5' a8' b' L', wa_R a5' b' → (∀ x, x < 10 → Z (b x) → b' x = c) → (∀ x, x < 10 → ¬ Z (b x) → b' x = b x) → wa_B a3' (fun x => o x ∨ Z (b x)) → wa_Q a8' qe' L' (fun x => o x ∨ Z (b x)) → (∃ K, L' = L0 ++ K) → post (ab, qe', a1, a2, a3', a4, a5', a6, a7, a8')) :
    ∀ (n i : Nat) (qe : Int32) (a3 a5 a8 : Nat → Int32) (bi : Nat → Nat) (L : List Nat), i ≤ 10 → 10 - i < n → wa_R a5 bi → (∀ x, x < 10 → x < i → Z (b x) → bi x = c) → (∀ x, x < 10 → (i ≤ x ∨ ¬ Z (b x)) → bi x = b x) →
    wa_B a3 (fun x => o x ∨ (x < i ∧ Z (b x))) → wa_Q a8 qe L (fun x => o x ∨ (x < i ∧ Z (b x))) → (∃ K, L = L0 ++ K) → wX_drawTogether_48 post (nI c) n (nI i) ab qe a1 a2 a3 a4 a5 a6 a7 a8 := by
  intro n
  induction n with
  | zero => intro i _ _ _ _ _ _ _ h; omega
  | succ n ih =>
    intro i qe a3 a5 a8 bi L hi hn hR h1 h2 hB hQ hL
    refine wa_le10 hi (fun e => ?_) (fun hlt => ?_)
    · have ee : ∀ x, x < 10 → ((o x ∨ (x < i ∧ Z (b x))) ↔ (o x ∨ Z (b x))) := fun x hx => ⟨fun g => g.elim Or.inl (fun g => Or.inr g.2), fun g => g.elim Or.inl (fun g => Or.inr ⟨by omega, g⟩)⟩
      exact H qe a3 a5 a8 bi L hR (fun x hx => h1 x hx (by omega)) (fun x hx g => h2 x hx (Or.inr g)) (wa_B_iff hB ee) (wa_Q_iff hQ ee) hL
    · have hbi : bi i = b i := h2 i hlt (Or.inl (Nat.le_refl i))
      have hb10 := hb i hlt
      have e5 : a5 i = nI (b i) := by rw [wa_R_in hR hlt (by rw [hbi]; exact hb10), hbi]
      rw [nI_clamp (show i < 2 ^ 31 by omega), e5, nI_clamp (show b i < 2 ^ 31 by omega)]
      refine ⟨pk_in i 10 hlt, pk_in (b i) 10 hb10, fun z => nm_r (nI_1 i) ?_, fun z => ⟨pk_in i 10 hlt, nm_e ?_⟩⟩
      · have hnZ := (hZ (b i) hb10).mp z
        have ee : ∀ x, x < 10 → ((o x ∨ (x < i ∧ Z (b x))) ↔ (o x ∨ (x < i + 1 ∧ Z (b x)))) := by
          intro x hx
          refine ⟨fun g => g.elim Or.inl (fun g => Or.inr ⟨by omega, g.2⟩), fun g => g.elim Or.inl (fun g => ?_)⟩
          by_cases e : x = i
          · rw [e] at g
            exact absurd g.2 hnZ
          · exact Or.inr ⟨by omega, g.2⟩
        refine ih (i + 1) qe a3 a5 a8 bi L (by omega) (by omega) hR (fun x hx hx2 g => ?_) (fun x hx g => ?_) (wa_B_iff hB ee) (wa_Q_iff hQ ee) hL
        · by_cases e : x = i
          · rw [e] at g
            exact absurd g hnZ
          · exact h1 x hx (by omega) g
        · by_cases e : x = i
          · rw [e]
            exact hbi
          · exact h2 x hx (g.elim (fun g => Or.inl (by omega)) Or.inr)
      · have hyZ : Z (b i) := Classical.byContradiction (fun g => z ((hZ (b i) hb10).mpr g))
        have ee : ∀ x, x < 10 → (((o x ∨ (x < i ∧ Z (b x))) ∨ x = i) ↔ (o x ∨ (x < i + 1 ∧ Z (b x)))) := by
          intro x hx
          constructor
          · rintro ((g | g) | g)
            · exact Or.inl g
            · exact Or.inr ⟨by omega, g.2⟩
            · rw [g]
              exact Or.inr ⟨by omega, hyZ⟩
          · rintro (g | g)
            · exact Or.inl (Or.inl g)
            · by_cases e : x = i
              · exact Or.inr e
              · exact Or.inl (Or.inr ⟨by omega, g.2⟩)
        refine wa_makeOuter hlt hB hQ (fun qe' a3' a8' L' hB' hQ' hL' => nm_r (nI_1 i) ?_)
        refine ih (i + 1) qe' a3' _ a8' (ma_up bi i c) L' (by omega) (by omega) (wa_R_up hR hc) (fun x hx hx2 g => ?_) (fun x hx g => ?_) (wa_B_iff hB' ee) (wa_Q_iff hQ' ee) ?_
        · by_cases e : x = i
          · rw [e, ma_us]
          · rw [ma_un e]
            exact h1 x hx (by omega) g
        · have e : x ≠ i := by
            rintro rfl
            exact g.elim (fun g => by omega) (fun g => g hyZ)
          rw [ma_un e]
          exact h2 x hx (g.elim (fun g => Or.inl (by omega)) Or.inr)
        · obtain ⟨K, hK⟩ := hL
          obtain ⟨K', hK'⟩ := hL'
          exact ⟨K ++ K', by rw [hK', hK, List.append_assoc]⟩
theorem wa_dt10 {post : St1 → Prop} {x1 x2 x3 ab qe : Int32} {a1 a2 a3 a4 a5 a7 a8 : Nat → Int32}
    (H : ∀ a6 : Nat → Int32, (∀ j, j < 10 → a6 j = 0) → wpX_markWay (fun u => match u with | (f0_absent_30, f0_queueEnd_31, am351_34, am352_37, am353_40, am354_43, am355_46, am356_49, am357_52, am358_55) => (wpX_markWay (fun u => match u with | (f0_absent_57, f0_queueEnd_58, am421_61, am422_64, am423_67, am424_70, am425_73, am426_76, am427_79, am428_82) => (∃ fu48 : Nat, wX_drawTogether_48 post x3 fu48 0 f0_absent_57 f0_queueEnd_58 am421_61 am422_64 am423_67 am424_70 am425_73 am426_76 am427_79 am428_82)) (f0_absent_30, f0_queueEnd_31, am351_34, am352_37, am353_40, am354_43, am355_46, am356_49, am357_52, am358_55) x2 x3 x1)) (ab, qe, a1, a2, a3, a4, a5, a6, a7, a8) x1 x3 x2) :
    ∀ (n i : Nat) (a6 : Nat → Int32), i ≤ 10 → 10 - i < n → (∀ j, j < i → a6 j = 0) → wX_drawTogether_10 post x1 x2 x3 ab qe n (nI i) a1 a2 a3 a4 a5 a6 a7 a8 := by
  intro n
  induction n with
  | zero => intro i a6 _ h; omega
  | succ n ih =>
    intro i a6 hi hn h0
    refine wa_le10 hi (fun e => H a6 (fun j hj => h0 j (by omega))) (fun hlt => ⟨pk_in i 10 hlt, nm_e (nm_r (nI_1 i) ?_)⟩)
    rw [nI_clamp (show i < 2 ^ 31 by omega)]
    exact ih (i + 1) _ (by omega) (by omega) (wa_clr h0)
theorem wa_drawTogether {post : St1 → Prop} {ab qe : Int32} {a1 a2 a3 a4 a5 a6 a7 a8 : Nat → Int32} {adj : Nat → Nat → Prop} {m p b : Nat → Nat} {o : Nat → Prop} {rk : Nat → Nat} {r u w : Nat} {L : List Nat} (S : se_H adj m r) (I : se_I adj m r p b o rk) (hR2 : wa_R a2 m) (hR4 : wa_R a4 p) (hR5 : wa_R a5 b) (hB : wa_B a3 o) (hQ : wa_Q a8 qe L o)
    (hou : o u) (how : o w) (ha : adj u w) (H : ∀ qe' a3' a4' a5' a6' a7' a8' p' b' o' L', se_I adj m r p' b' o' rk → se_E p b p' b' o o' → b' u = b' w → o' w → wa_R a4' p' → wa_R a5' b' → wa_B a3' o' → wa_Q a8' qe' L' o' → (∃ K, L' = L ++ K) → post (ab, qe', a1, a2, a3', a4', a5', a6', a7', a8')) :
    wpX_drawTogether post (ab, qe, a1, a2, a3, a4, a5, a6, a7, a8) (nI u) (nI w) := by
  obtain ⟨ha', hne, hu, hw⟩ := S.1 _ _ ha
  unfold wpX_drawTogether
  dsimp only
  refine wa_meetingBase S I hR2 hR4 hR5 hu hw hou how (fun a7' c D1 D2 hmt => ?_)
  obtain ⟨hc, c1, c2, d1, d2, hdis⟩ := hmt
  obtain ⟨E, te, hE⟩ := se_way S I D1 u hu hou c1 d1
  obtain ⟨F, tf, hF⟩ := se_way S I D2 w hw how c2 d2
  have I' := I
  obtain ⟨⟨i1, i1'⟩, i2, i3, i4, i5, i6, i7, i8⟩ := I'
  have r1 := (se_rk (rk := rk) c1 (fun x hx => i7 x (d1 x hx).1 (d1 x hx).2.1 (d1 x hx).2.2.1 (d1 x hx).2.2.2)).2
  have r2 := (se_rk (rk := rk) c2 (fun x hx => i7 x (d2 x hx).1 (d2 x hx).2.1 (d2 x hx).2.2.1 (d2 x hx).2.2.2)).2
  have hc1 : c ∉ D1 := fun z => by have := (r1 c z).1; omega
  have hc2 : c ∉ D2 := fun z => by have := (r2 c z).1; omega
  have nE := se_W_nd hE hc1
  have nF := se_W_nd hF hc2
  have W1 := hE
  have W2 := hF
  obtain ⟨e1, te1, te2, te3, fE⟩ := W1
  obtain ⟨f1, tf1, tf2, tf3, fF⟩ := W2
  have hb10 : ∀ x, x < 10 → b x < 10 := fun x hx => (i2 x hx).1
  have lE := se_len nE (fun x hx => (fE x hx).1)
  have lF := se_len nF (fun x hx => (fF x hx).1)
  have mFE : ∀ x, x ∈ F → m x ∉ E := by
    intro x hx h
    obtain ⟨x1, x2, x3, _, _, x6⟩ := fF x hx
    obtain ⟨y1, y2, y3, _, _, y6⟩ := fE _ h
    have hbx : b x ≠ x := fun z => i6 x x1 x2 z x6 y2
    rw [(i5 x x1 x2 hbx).2] at y3
    exact hdis _ y3 x3
  refine ⟨11, wa_dt10 (fun a6 h0 => ⟨11, ?_⟩) 11 0 a6 (by omega) (by omega) (fun j hj => absurd hj (by omega))⟩
  refine wa_mw9 hR2 hR5 hb10 hc te1 te3 E u w 0 11 p a4 a6 (fun _ => False) e1 (fun e he => ?_) (by omega) (by omega) hw hR4 (fun i hi => ⟨fun _ z => z, fun _ => h0 i hi⟩) (fun a4' a6' r4 r6 => ⟨11, ?_⟩)
  · obtain ⟨x1, x2, x3, x4, x5, x6⟩ := fE e he
    obtain ⟨y1, y2⟩ := i4 e x1 x2 x6
    exact ⟨x1, y1, y2, fun z => hc1 (z ▸ x3), x5⟩
  refine wa_mw9 hR2 hR5 hb10 hc tf1 tf3 F w u 0 11 (se_mk m E p w) a4' a6' _ (se_it_congr (fun x hx => ?_) f1) (fun e he => ?_) (by omega) (by omega) hu r4 r6 (fun a4'' a6'' r4' r6' => ⟨11, ?_⟩)
  · show p (m x) = se_mk m E p w (m x)
    rw [se_mk_o (mFE x hx)]
  · obtain ⟨x1, x2, x3, x4, x5, x6⟩ := fF e he
    obtain ⟨y1, y2⟩ := i4 e x1 x2 x6
    refine ⟨x1, y1, ?_, fun z => hc2 (z ▸ x3), x5⟩
    rw [se_mk_o (mFE e he)]
    exact y2
  have r6'' : wa_B a6'' (se_R m b (E ++ F)) := wa_B_iff r6' (fun x _ => by
    constructor
    · rintro ((g | ⟨y, hy, g⟩) | ⟨y, hy, g⟩)
      · exact absurd g id
      · exact ⟨y, List.mem_append_left _ hy, g⟩
      · exact ⟨y, List.mem_append_right _ hy, g⟩
    · rintro ⟨y, hy, g⟩
      rcases List.mem_append.mp hy with h | h
      · exact Or.inl (Or.inr ⟨y, h, g⟩)
      · exact Or.inr ⟨y, h, g⟩)
  have ee : ∀ x, x < 10 → (o x ↔ (o x ∨ (x < 0 ∧ se_R m b (E ++ F) (b x)))) := fun x _ => ⟨Or.inl, fun g => g.elim id (fun g => absurd g.1 (by omega))⟩
  refine wa_dt48 (o := o) (L0 := L) hb10 hc r6'' (fun qe' a3' a5' a8' b' L' s1 s2 s3 s4 s5 s6 => ?_) 11 0 qe a3 a5 a8 b L (by omega) (by omega) hR5 (fun x _ hx => absurd hx (by omega)) (fun x _ _ => rfl) (wa_B_iff hB ee) (wa_Q_iff hQ ee) ⟨[], (List.append_nil L).symm⟩
  have I2 := se_draw S I hou how ha c1 c2 d1 d2 hdis hE hF s2 s3 (o' := fun x => o x ∨ se_R m b (E ++ F) (b x)) (fun x _ => Iff.rfl)
  have base : ∀ (A : List Nat) (x t : Nat), x < 10 → se_it (fun x => p (m x)) A x t → b t = c → (∀ y, y ∈ A → y ∈ E ++ F) → b' x = c := by
    intro A x t hx hA ht hsub
    by_cases g : se_R m b (E ++ F) (b x)
    · exact s2 x hx g
    · rw [s3 x hx g]
      match A, hA, hsub with
      | [], hA, _ =>
        have hA : x = t := hA
        rw [hA]
        exact ht
      | y :: A, hA, hsub =>
        have hA : x = y := hA.1
        exact absurd ⟨y, hsub y (List.mem_cons_self ..), Or.inl (by rw [hA])⟩ g
  refine H _ _ _ _ _ _ _ _ b' _ L' I2 ⟨fun x _ g => Or.inl g, fun x hx g => ?_, fun x y hx hy g => ?_⟩ ?_ (Or.inl how) r4' s1 s4 s5 s6
  · obtain ⟨j1, j2, _, _⟩ := i3 x hx g
    have hmx := (S.2.1 x hx j1).1
    have := I2.2.2.2.1 (m x) j1 (Or.inl j2) (fun z => S.2.2.2 (by rw [← z, hmx]; exact hx))
    rw [hmx] at this
    exact this.2
  · by_cases gg : se_R m b (E ++ F) (b x)
    · rw [s2 x hx gg, s2 y hy (g ▸ gg)]
    · rw [s3 x hx gg, s3 y hy (g ▸ gg), g]
  · rw [base E u te hu e1 te3 (fun y hy => List.mem_append_left _ hy), base F w tf hw f1 tf3 (fun y hy => List.mem_append_right _ hy)]
end
section
/-! follow, turn -/
def wa_S (adj : Nat → Nat → Prop) (m : Nat → Nat) (r : Nat) (L : List Nat) (p b : Nat → Nat) (o : Nat → Prop) (rk : Nat → Nat) (qe : Int32) (a3 a4 a5 a8 : Nat → Int32) : Prop :=
  se_I adj m r p b o rk ∧ wa_R a4 p ∧ wa_R a5 b ∧ wa_B a3 o ∧ wa_Q a8 qe L o
theorem wa_follow {post : Int32 → St1 → Prop} {ab qe : Int32} {a1 a2 a3 a4 a5 a6 a7 a8 : Nat → Int32} {adj : Nat → Nat → Prop} {m p b : Nat → Nat} {o : Nat → Prop} {rk : Nat → Nat} {r v w : Nat} {L : List Nat} (S : se_H adj m r) (hR2 : wa_R a2 m) (T : wa_S adj m r L p b o rk qe a3 a4 a5 a8) (hov : o v) (ha : adj v w)
    (H1 : ∀ qe' a3' a4' a5' a6' a7' a8' L' p' b' o' rk', wa_S adj m r L' p' b' o' rk' qe' a3' a4' a5' a8' → se_E p b p' b' o o' → (o' w ∨ p' w < 10) → (o' w → b' v = b' w) → (∃ K, L' = L ++ K) → post (-1) (ab, qe', a1, a2, a3', a4', a5', a6', a7', a8'))
    (H2 : ∀ a4' p' X, wa_R a4' p' → ma_T adj p' m r w X → post (nI w) (ab, qe, a1, a2, a3, a4', a5, a6, a7, a8)) :
    wpX_follow post (ab, qe, a1, a2, a3, a4, a5, a6, a7, a8) (nI v) (nI w) (nI r) := by
  obtain ⟨I, hR4, hR5, hB, hQ⟩ := T
  obtain ⟨ha', hne, hv, hw⟩ := S.1 _ _ ha
  have I' := I
  obtain ⟨⟨i1, i1'⟩, i2, i3, i4, i5, i6, i7, i8⟩ := I'
  have S' := S
  obtain ⟨G, hm, hr, hmr⟩ := S'
  have same : (o w ∨ p w < 10) → (o w → b v = b w) → post (-1) (ab, qe, a1, a2, a3, a4, a5, a6, a7, a8) := fun h1 h2 => H1 _ _ _ _ _ _ _ L p b o rk ⟨I, hR4, hR5, hB, hQ⟩ se_E_refl h1 h2 ⟨[], (List.append_nil L).symm⟩
  have f55 : o w → wX_follow_55 post (nI v) (nI w) ab qe a1 a2 a3 a4 a5 a6 a7 a8 := by
    intro how
    refine br_f (by decide) ?_
    refine wa_drawTogether S I hR2 hR4 hR5 hB hQ hov how ha (fun qe' a3' a4' a5' a6' a7' a8' p' b' o' L' s1 s2 s3 s4 s5 s6 s7 s8 s9 => ?_)
    exact H1 _ _ _ _ _ _ _ L' p' b' o' rk ⟨s1, s5, s6, s7, s8⟩ s2 (Or.inl s4) (fun _ => s3) s9
  have f59 : ¬ o w → wX_follow_59 post (nI v) (nI w) ab qe a1 a2 a3 a4 a5 a6 a7 a8 := by
    intro how
    refine br_t rfl ?_
    rw [nI_clamp (show w < 2 ^ 31 by omega)]
    refine ⟨pk_in w 10 hw, fun z => same (Or.inr ((wa_R_pos hR4 hw).mp z)) (fun z => absurd z how), fun z => ⟨pk_in w 10 hw, nm_e ⟨pk_in w 10 hw, fun y => ⟨pk_in w 10 hw, ?_⟩, fun y => ?_⟩⟩⟩
    · have hpw : ¬ p w < 10 := fun q => z ((wa_R_pos hR4 hw).mpr q)
      have hmw := (wa_R_pos hR2 hw).mp y
      rw [wa_R_in hR2 hw hmw]
      obtain ⟨rk', I2⟩ := se_grow S I hov ha how hpw hmw
      refine wa_makeOuter hmw hB hQ (fun qe' a3' a8' L' hB' hQ' hL' => ?_)
      refine H1 _ _ _ _ _ _ _ L' (ma_up p w v) b _ rk' ⟨I2, wa_R_up hR4 hv, hR5, hB', hQ'⟩ ⟨fun x _ g => Or.inl g, fun x _ g => ?_, fun _ _ _ _ g => g⟩ (Or.inr (by rw [ma_us]; exact hv)) (fun g => ?_) hL'
      · by_cases e : x = w
        · rw [e, ma_us]
          exact hv
        · rw [ma_un e]
          exact g
      · rcases g with g | g
        · exact absurd g how
        · exact absurd g (G _ _ (hm w hw hmw).2).2.1
    · have hmw : ¬ m w < 10 := fun q => y ((wa_R_pos hR2 hw).mpr q)
      obtain ⟨X, hX⟩ := se_aug S I hov ha how hmw
      exact H2 _ _ X (wa_R_up hR4 hv) hX
  unfold wpX_follow
  dsimp only
  rw [nI_clamp (show v < 2 ^ 31 by omega), nI_clamp (show w < 2 ^ 31 by omega), wa_R_in hR5 hv (i2 v hv).1, wa_R_in hR5 hw (i2 w hw).1]
  refine ⟨pk_in v 10 hv, pk_in w 10 hw, pk_eq (b v) (b w) (fun e => ?_) (fun e => ⟨pk_in v 10 hv, fun z => ?_, fun z => ?_⟩) rfl rfl (by have := (i2 v hv).1; omega) (by have := (i2 w hw).1; omega)⟩
  · refine same (Or.inl (Classical.byContradiction (fun g => ?_))) (fun _ => e)
    have h1 := (i2 v hv).2.2.2 hov
    rw [e, (i2 w hw).2.2.1 g] at h1
    exact g h1
  · have hmv : m v = w := by
      by_cases g : m v < 10
      · rw [wa_R_in hR2 hv g] at z
        exact (nI_eq (by omega) (by omega)).mp z
      · have h1 := (wa_R_neg hR2 hv).mpr g
        rw [z] at h1
        exact absurd h1 (nI_pos (by omega))
    have hvr : v ≠ r := fun q => hmr (by rw [← q, hmv]; exact hw)
    have h4 := i4 v hv hov hvr
    rw [hmv] at h4
    refine same (Or.inr h4.2) (fun g => ?_)
    by_cases hb : b v = v
    · have := i6 v hv hov hb hvr
      rw [hmv] at this
      exact absurd g this
    · have := (i5 v hv hov hb).2
      rw [hmv] at this
      exact this.symm
  · refine pk_eq w r (fun e' => f55 (e' ▸ i1)) (fun e' => ⟨pk_in w 10 hw, fun y => f59 (fun q => ?_), fun y => ?_⟩)
    · exact (wa_R_neg hR2 hw).mp y (i4 w hw q e').1
    · have hmw : m w < 10 := Classical.byContradiction (fun q => y ((wa_R_neg hR2 hw).mpr q))
      rw [wa_R_in hR2 hw hmw, nI_clamp (show m w < 2 ^ 31 by omega)]
      refine ⟨pk_in w 10 hw, pk_in (m w) 10 hmw, fun x => f59 (fun q => ?_), fun x => f55 ?_⟩
      · exact (wa_R_neg hR4 hmw).mp x (i4 w hw q e').2
      · have hp : p (m w) < 10 := Classical.byContradiction (fun q => x ((wa_R_neg hR4 hmw).mpr q))
        have := (i3 _ hmw hp).2.1
        rw [(hm w hw hmw).1] at this
        exact this
theorem wa_turn4 {post : St1 → Prop} {ab qe : Int32} {a1 a3 a4 a5 a6 a7 a8 : Nat → Int32} {adj : Nat → Nat → Prop} {p : Nat → Nat} {r : Nat} (G : ma_G adj) (hR4 : wa_R a4 p) :
    ∀ (X : List Nat) (v s n : Nat) (m : Nat → Nat) (a2 : Nat → Int32), ma_T adj p m r v X → (∀ i, i < 10 → i ≠ v → a2 i = wa_e (m i)) → s + X.length + 1 ≤ 10 → X.length + 1 < n →
    (∀ a2' m', wa_R a2' m' → ma_M adj m' → (∀ z, z < 10 → (m' z < 10 ↔ m z < 10 ∨ z = v ∨ z = r)) → post (ab, qe, a1, a2', a3, a4, a5, a6, a7, a8)) →
    wX_turn_4 post ab qe n (nI v) (nI s) a1 a2 a3 a4 a5 a6 a7 a8 := by
  intro X
  induction X with
  | nil =>
    intro v s n m a2 hT hA hs hn H
    obtain ⟨t1, t2, t3, t4⟩ := ma_T_0 G hT
    obtain ⟨_, _, _, _, hr, hmr, hvr, _, _, _, _⟩ := hT
    rw [List.length_nil] at hs hn
    match n, hn with
    | n + 2, _ =>
      refine wa_le10 (i := s) (by omega) (fun e => absurd hs (by omega)) (fun _ => br_f (nI_pos (by omega)) ?_)
      rw [nI_clamp (show v < 2 ^ 31 by omega), wa_R_in hR4 t2 (by rw [t1]; exact hr), t1]
      refine ⟨pk_in v 10 t2, nm_e ⟨pk_in r 10 hr, nm_r (e' := -1) ?_ ⟨pk_in v 10 t2, nm_e ⟨pk_in r 10 hr, nm_e (nm_r (nI_1 s) ?_)⟩⟩⟩⟩
      · rw [nI_clamp (show r < 2 ^ 31 by omega), hA r hr (Ne.symm hvr), wa_e_ge hmr]
      · have HH : post (ab, qe, a1, upd (upd a2 v (nI r)) (nI r).toNatClampNeg (nI v), a3, a4, a5, a6, a7, a8) := by
          rw [nI_clamp (show r < 2 ^ 31 by omega)]
          refine H _ (ma_rw m v r) (fun i hi => ?_) t3 t4
          by_cases e1 : i = r
          · rw [e1, pk_us, ma_rw_x hvr, wa_e_lt t2]
          · rw [pk_un e1]
            by_cases e2 : i = v
            · rw [e2, pk_us, ma_rw_v, wa_e_lt hr]
            · rw [pk_un e2, ma_rw_o e2 e1 (fun z : i = m r => hmr (z ▸ hi))]
              exact hA i hi e2
        exact br_c (fun _ => HH) (fun _ => br_t (by decide) HH)
  | cons x X ih =>
    intro v s n m a2 hT hA hs hn H
    obtain ⟨t1, t2, t3, t4, t5, t6, t7, t8, t9⟩ := ma_T_s G hT
    rw [List.length_cons] at hs hn
    match n, hn with
    | n + 1, hn =>
      refine wa_le10 (i := s) (by omega) (fun e => absurd hs (by omega)) (fun _ => br_f (nI_pos (by omega)) ?_)
      rw [nI_clamp (show v < 2 ^ 31 by omega), wa_R_in hR4 t2 (by rw [t1]; exact t3), t1]
      refine ⟨pk_in v 10 t2, nm_e ⟨pk_in x 10 t3, nm_r (e' := nI (m x)) ?_ ⟨pk_in v 10 t2, nm_e ⟨pk_in x 10 t3, nm_e (nm_r (nI_1 s) ?_)⟩⟩⟩⟩
      · rw [nI_clamp (show x < 2 ^ 31 by omega), hA x t3 (Ne.symm t4), wa_e_lt t5]
      · rw [nI_clamp (show x < 2 ^ 31 by omega)]
        refine ih (m x) (s + 1) n (ma_rw m v x) _ t8 (fun i hi hne => ?_) (by omega) (by omega) (fun a2' m' u1 u2 u3 => H a2' m' u1 u2 (fun z hz => (u3 z hz).trans (t9 z hz)))
        by_cases e1 : i = x
        · rw [e1, pk_us, ma_rw_x t4, wa_e_lt t2]
        · rw [pk_un e1]
          by_cases e2 : i = v
          · rw [e2, pk_us, ma_rw_v, wa_e_lt t3]
          · rw [pk_un e2, ma_rw_o e2 e1 hne]
            exact hA i hi e2
theorem wa_turn {post : St1 → Prop} {ab qe : Int32} {a1 a2 a3 a4 a5 a6 a7 a8 : Nat → Int32} {adj : Nat → Nat → Prop} {p m : Nat → Nat} {r v : Nat} {X : List Nat} (G : ma_G adj) (hR4 : wa_R a4 p) (hR2 : wa_R a2 m) (hT : ma_T adj p m r v X)
    (H : ∀ a2' m', wa_R a2' m' → ma_M adj m' → (∀ z, z < 10 → (m' z < 10 ↔ m z < 10 ∨ z = v ∨ z = r)) → post (ab, qe, a1, a2', a3, a4, a5, a6, a7, a8)) :
    wpX_turn post (ab, qe, a1, a2, a3, a4, a5, a6, a7, a8) (nI v) := by
  have hT' := hT
  obtain ⟨_, _, _, _, hr, _, _, hnd, hrX, _, hX⟩ := hT'
  have hl := se_len9 hnd (fun x hx => (hX x hx).1) hr hrX
  exact ⟨11, wa_turn4 G hR4 X v 0 11 m a2 hT (fun i hi _ => hR2 i hi) (by omega) (by omega) H⟩
end
section
/-! search -/
def wa_adj (g : Nat → Nat → Prop) (S : Nat → Prop) : Nat → Nat → Prop := fun u v => u < 10 ∧ v < 10 ∧ g u v ∧ ¬ S u ∧ ¬ S v
def wa_Inv (adj : Nat → Nat → Prop) (m : Nat → Nat) (r k : Nat) (L : List Nat) (p b : Nat → Nat) (o : Nat → Prop) (rk : Nat → Nat) (D : Nat → Nat → Prop) (qe : Int32) (a3 a4 a5 a8 : Nat → Int32) : Prop :=
  wa_S adj m r L p b o rk qe a3 a4 a5 a8 ∧ se_C adj p b o D ∧ (∀ x y, D x y → x < 10) ∧ ∀ j x, j < k → L[j]? = some x → ∀ w, w < 10 → D x w
theorem wa_s63 {post : Int32 → St1 → Prop} {J47 : Int32 → Int32 → Int32 → (Nat → Int32) → (Nat → Int32) → (Nat → Int32) → (Nat → Int32) → (Nat → Int32) → (Nat → Int32) → (Nat → Int32) → (Nat → Int32) → Prop} {ab : Int32} {a1 a2 : Nat → Int32} {g : Nat → Nat → Prop} {Sx : Nat → Prop} {m : Nat → Nat} {r k v : Nat} (S : se_H (wa_adj g Sx) m r) (hR2 : wa_R a2 m) (hG : wa_G a1 g) (hZ : wa_Z ab Sx) (hSr : ¬ Sx r) (hk : k < 10)
    (HJ : ∀ qe a3 a4 a5 a6 a7 a8 L p b o rk D, wa_Inv (wa_adj g Sx) m r (k + 1) L p b o rk D qe a3 a4 a5 a8 → J47 (nI (k + 1)) ab qe a1 a2 a3 a4 a5 a6 a7 a8)
    (H2 : ∀ qe a3 a4 a5 a6 a7 a8 e p X, e < 10 → wa_R a4 p → ma_T (wa_adj g Sx) p m r e X → post (nI e) (ab, qe, a1, a2, a3, a4, a5, a6, a7, a8)) :
    ∀ (n t : Nat) (qe : Int32) (a3 a4 a5 a6 a7 a8 : Nat → Int32) (L : List Nat) (p b : Nat → Nat) (o : Nat → Prop) (rk : Nat → Nat) (D : Nat → Nat → Prop), t ≤ 10 → 10 - t < n → wa_Inv (wa_adj g Sx) m r k L p b o rk D qe a3 a4 a5 a8 → L[k]? = some v → (∀ w, w < t → D v w) →
    wX_search_63 post J47 (nI r) (nI k) n (nI t) ab qe a1 a2 a3 a4 a5 a6 a7 a8 := by
  intro n
  induction n with
  | zero => intro t _ _ _ _ _ _ _ _ _ _ _ _ _ _ h; omega
  | succ n ih =>
    intro t qe a3 a4 a5 a6 a7 a8 L p b o rk D ht hn hI hv hDv
    have hI' := hI
    obtain ⟨⟨I, hR4, hR5, hB, hQ⟩, hC, hD, hDj⟩ := hI'
    have hvL : v ∈ L := List.mem_of_getElem? hv
    obtain ⟨hv10, hov⟩ := (hQ.2.2.1 v).mp hvL
    have hkL : k < L.length := by
      refine Classical.byContradiction (fun z => ?_)
      rw [List.getElem?_eq_none (by omega)] at hv
      exact absurd hv.symm (Option.some_ne_none v)
    have hSv : ¬ Sx v := by
      rcases se_cov I hv10 hov with h | h
      · exact (S.2.1 v hv10 h).2.2.2.2.1
      · rw [h]
        exact hSr
    -- one line looked at, the state grown
    have next : ∀ qe' a3' a4' a5' a6' a7' a8' L' p' b' o' rk', t < 10 → wa_S (wa_adj g Sx) m r L' p' b' o' rk' qe' a3' a4' a5' a8' → se_E p b p' b' o o' → (wa_adj g Sx v t → (o' t ∨ p' t < 10) ∧ (o' t → b' v = b' t)) → (∃ K, L' = L ++ K) → wX_search_122 post J47 (wX_search_63 post J47 (nI r) (nI k) n) (nI r) (nI k) (nI t) (-1) ab qe' a1 a2 a3' a4' a5' a6' a7' a8' := by
      intro qe' a3' a4' a5' a6' a7' a8' L' p' b' o' rk' hlt hS' hE hn' hL'
      obtain ⟨K, hK⟩ := hL'
      refine br_t (by decide) (nm_r (nI_1 t) ?_)
      refine ih (t + 1) qe' a3' a4' a5' a6' a7' a8' L' p' b' o' rk' (fun x y => D x y ∨ (x = v ∧ y = t)) (by omega) (by omega) ⟨hS', se_C_step S.1 hD hC hE hv10 hov hn', fun x y h => ?_, fun j x hj hx w hw => Or.inl (hDj j x hj ?_ w hw)⟩ ?_ (fun w hw => ?_)
      · rcases h with h | h
        · exact hD x y h
        · rw [h.1]
          exact hv10
      · rw [hK, List.getElem?_append_left (by omega)] at hx
        exact hx
      · rw [hK, List.getElem?_append_left hkL]
        exact hv
      · by_cases e : w = t
        · exact Or.inr ⟨rfl, e⟩
        · exact Or.inl (hDv w (by omega))
    refine wa_le10 ht (fun e => nm_r (nI_1 k) ?_) (fun hlt => ⟨pk_in k 10 hk, ?_⟩)
    · refine HJ qe a3 a4 a5 a6 a7 a8 L p b o rk D ⟨⟨I, hR4, hR5, hB, hQ⟩, hC, hD, fun j x hj hx w hw => ?_⟩
      by_cases e2 : j = k
      · rw [e2, hv] at hx
        rw [← Option.some.inj hx]
        exact hDv w (by omega)
      · exact hDj j x (by omega) hx w hw
    · have h8 : a8 k = nI v := hQ.2.2.2 k v hv
      have same : ¬ wa_adj g Sx v t → wX_search_98 post J47 (wX_search_63 post J47 (nI r) (nI k) n) (nI r) (nI k) (nI t) ab qe a1 a2 a3 a4 a5 a6 a7 a8 := fun h =>
        br_t rfl (next qe a3 a4 a5 a6 a7 a8 L p b o rk hlt ⟨I, hR4, hR5, hB, hQ⟩ se_E_refl (fun z => absurd z h) ⟨[], (List.append_nil L).symm⟩)
      rw [nI_clamp (show k < 2 ^ 31 by omega), h8]
      refine wa_isLine hv10 hlt hG (fun hg => br_f (by decide) ⟨fun z => ?_, fun z => same (fun h => ?_)⟩) (fun hg => br_t rfl (same (fun h => hg h.2.2.1)))
      · have ha : wa_adj g Sx v t := ⟨hv10, hlt, hg, hSv, fun q => (bi_bit0 hlt).mp z ((hZ t hlt).mpr q)⟩
        refine br_f (by decide) ⟨pk_in k 10 hk, ?_⟩
        rw [nI_clamp (show k < 2 ^ 31 by omega), h8]
        refine wa_follow S hR2 ⟨I, hR4, hR5, hB, hQ⟩ hov ha (fun qe' a3' a4' a5' a6' a7' a8' L' p' b' o' rk' s1 s2 s3 s4 s5 => ?_) (fun a4' p' X s1 s2 => ?_)
        · exact next qe' a3' a4' a5' a6' a7' a8' L' p' b' o' rk' hlt s1 s2 (fun _ => ⟨s3, s4⟩) s5
        · exact br_f (nI_pos (by omega)) (H2 qe a3 a4' a5 a6 a7 a8 t p' X hlt s1 s2)
      · exact z ((bi_bit0 hlt).mpr (fun q => h.2.2.2.2 ((hZ t hlt).mp q)))
theorem wa_s47 {post : Int32 → St1 → Prop} {ab : Int32} {a1 a2 : Nat → Int32} {g : Nat → Nat → Prop} {Sx : Nat → Prop} {m : Nat → Nat} {r : Nat} (S : se_H (wa_adj g Sx) m r) (hR2 : wa_R a2 m) (hG : wa_G a1 g) (hZ : wa_Z ab Sx) (hSr : ¬ Sx r)
    (H0 : ∀ qe a3 a4 a5 a6 a7 a8 p b o rk, se_I (wa_adj g Sx) m r p b o rk → wa_B a3 o → (∀ n, ma_M (wa_adj g Sx) n → ¬ ∀ v, v < 10 → o v → n v < 10) → post (-1) (ab, qe, a1, a2, a3, a4, a5, a6, a7, a8))
    (H2 : ∀ qe a3 a4 a5 a6 a7 a8 e p X, e < 10 → wa_R a4 p → ma_T (wa_adj g Sx) p m r e X → post (nI e) (ab, qe, a1, a2, a3, a4, a5, a6, a7, a8)) :
    ∀ (n k : Nat) (qe : Int32) (a3 a4 a5 a6 a7 a8 : Nat → Int32) (L : List Nat) (p b : Nat → Nat) (o : Nat → Prop) (rk : Nat → Nat) (D : Nat → Nat → Prop), k ≤ 10 → 10 - k < n → wa_Inv (wa_adj g Sx) m r k L p b o rk D qe a3 a4 a5 a8 →
    wX_search_47 post (nI r) n (nI k) ab qe a1 a2 a3 a4 a5 a6 a7 a8 := by
  intro n
  induction n with
  | zero => intro k _ _ _ _ _ _ _ _ _ _ _ _ _ _ h; omega
  | succ n ih =>
    intro k qe a3 a4 a5 a6 a7 a8 L p b o rk D hk hn hI
    have hI' := hI
    obtain ⟨⟨I, hR4, hR5, hB, hQ⟩, hC, hD, hDj⟩ := hI'
    have hl := wa_Q_len hQ
    have fin : L.length ≤ k → post (-1) (ab, qe, a1, a2, a3, a4, a5, a6, a7, a8) := by
      intro hle
      refine H0 qe a3 a4 a5 a6 a7 a8 p b o rk I hB (se_HT S I hC (fun v w hv hov hw => ?_))
      obtain ⟨j, hj⟩ := List.getElem?_of_mem ((hQ.2.2.1 v).mpr ⟨hv, hov⟩)
      have hjl : j < L.length := by
        refine Classical.byContradiction (fun z => ?_)
        rw [List.getElem?_eq_none (by omega)] at hj
        exact absurd hj.symm (Option.some_ne_none v)
      exact hDj j v (by omega) hj w hw
    refine pk_le L.length k fin (fun h => wa_le10 hk (fun e => fin (by omega)) (fun hlt => ⟨11, ?_⟩)) hQ.1
    obtain ⟨v, hv⟩ : ∃ v, L[k]? = some v := ⟨L[k], List.getElem?_eq_getElem h⟩
    exact wa_s63 S hR2 hG hZ hSr hlt (fun qe a3 a4 a5 a6 a7 a8 L p b o rk D hI => ih (k + 1) qe a3 a4 a5 a6 a7 a8 L p b o rk D (by omega) (by omega) hI) H2 11 0 qe a3 a4 a5 a6 a7 a8 L p b o rk D (by omega) (by omega) hI hv (fun w hw => absurd hw (by omega))
theorem wa_s2 {post : Int32 → St1 → Prop} {x1 ab qe : Int32} {a1 a2 a6 a7 a8 : Nat → Int32}
    (H : ∀ a3 a4 a5 : Nat → Int32, (∀ j, j < 10 → a3 j = 0 ∧ a4 j = -1 ∧ a5 j = nI j) → wpX_makeOuter (fun u => match u with | (f0_absent_3, f0_queueEnd_4, am421_7, am422_10, am423_13, am424_16, am425_19, am426_22, am427_25, am428_28) => (∃ fu47 : Nat, wX_search_47 post x1 fu47 0 f0_absent_3 f0_queueEnd_4 am421_7 am422_10 am423_13 am424_16 am425_19 am426_22 am427_25 am428_28)) (ab, 0, a1, a2, a3, a4, a5, a6, a7, a8) x1) :
    ∀ (n i : Nat) (a3 a4 a5 : Nat → Int32), i ≤ 10 → 10 - i < n → (∀ j, j < i → a3 j = 0 ∧ a4 j = -1 ∧ a5 j = nI j) → wX_search_2 post x1 ab qe n (nI i) a1 a2 a3 a4 a5 a6 a7 a8 := by
  intro n
  induction n with
  | zero => intro i _ _ _ _ h; omega
  | succ n ih =>
    intro i a3 a4 a5 hi hn h0
    refine wa_le10 hi (fun e => H a3 a4 a5 (fun j hj => h0 j (by omega))) (fun hlt => ⟨pk_in i 10 hlt, nm_e ⟨pk_in i 10 hlt, nm_e ⟨pk_in i 10 hlt, nm_e (nm_r (nI_1 i) ?_)⟩⟩⟩)
    rw [nI_clamp (show i < 2 ^ 31 by omega)]
    refine ih (i + 1) _ _ _ (by omega) (by omega) (fun j hj => ?_)
    by_cases e : j = i
    · rw [e, pk_us, pk_us, pk_us]
      exact ⟨rfl, rfl, rfl⟩
    · rw [pk_un e, pk_un e, pk_un e]
      exact h0 j (by omega)
theorem wa_search {post : Int32 → St1 → Prop} {ab qe : Int32} {a1 a2 a3 a4 a5 a6 a7 a8 : Nat → Int32} {g : Nat → Nat → Prop} {Sx : Nat → Prop} {m : Nat → Nat} {r : Nat} (S : se_H (wa_adj g Sx) m r) (hR2 : wa_R a2 m) (hG : wa_G a1 g) (hZ : wa_Z ab Sx) (hSr : ¬ Sx r)
    (H0 : ∀ qe a3 a4 a5 a6 a7 a8 p b o rk, se_I (wa_adj g Sx) m r p b o rk → wa_B a3 o → (∀ n, ma_M (wa_adj g Sx) n → ¬ ∀ v, v < 10 → o v → n v < 10) → post (-1) (ab, qe, a1, a2, a3, a4, a5, a6, a7, a8))
    (H2 : ∀ qe a3 a4 a5 a6 a7 a8 e p X, e < 10 → wa_R a4 p → ma_T (wa_adj g Sx) p m r e X → post (nI e) (ab, qe, a1, a2, a3, a4, a5, a6, a7, a8)) :
    wpX_search post (ab, qe, a1, a2, a3, a4, a5, a6, a7, a8) (nI r) := by
  refine ⟨11, wa_s2 (fun a3 a4 a5 h0 => ?_) 11 0 a3 a4 a5 (by omega) (by omega) (fun j hj => absurd hj (by omega))⟩
  have hr := S.2.2.1
  refine wa_makeOuter (o := fun _ => False) (L := []) hr (fun i hi => ⟨fun _ z => z, fun _ => (h0 i hi).1⟩) ⟨rfl, List.nodup_nil, fun x => ⟨fun z => absurd z List.not_mem_nil, fun z => absurd z.2 id⟩, fun j x hx => by simp at hx⟩ (fun qe' a3' a8' L' hB' hQ' _ => ⟨11, ?_⟩)
  refine wa_s47 S hR2 hG hZ hSr H0 H2 11 0 qe' a3' a4 a5 a6 a7 a8' L' (fun _ => 10) (fun x => x) _ (fun _ => 0) (fun _ _ => False) (by omega) (by omega) ⟨⟨se_init S (fun v _ => by omega) (fun v _ => rfl) (fun v => ⟨fun z => z.elim (fun z => absurd z id) id, Or.inr⟩), fun i hi => ?_, fun i hi => ?_, hB', hQ'⟩, fun v w h => absurd h id, fun v w h => absurd h id, fun j x hj => absurd hj (by omega)⟩
  · exact (h0 i hi).2.1.trans (wa_e_ge (k := 10) (by omega)).symm
  · rw [(h0 i hi).2.2, wa_e_lt hi]
end
section
/-! pairWithout, spares -/
def wa_g (g : Nat → Nat → Prop) : Prop := (∀ u v, u < 10 → v < 10 → g u v → g v u) ∧ ∀ v, v < 10 → ¬ g v v
theorem wa_adj_G {g : Nat → Nat → Prop} {S : Nat → Prop} (h : wa_g g) : ma_G (wa_adj g S) := by
  rintro u v ⟨h1, h2, h3, h4, h5⟩
  exact ⟨⟨h2, h1, h.1 u v h1 h2 h3, h5, h4⟩, fun e => h.2 u h1 (by rw [← e] at h3; exact h3), h1, h2⟩
theorem ma_c_2 {m m' : Nat → Nat} {v r : Nat} (hv : v < 10) (hr : r < 10) (hvr : v ≠ r) (h1 : ¬ m v < 10) (h2 : ¬ m r < 10) (h : ∀ z, z < 10 → (m' z < 10 ↔ m z < 10 ∨ z = v ∨ z = r)) : ma_c m' = ma_c m + 2 := by
  unfold ma_c
  have e1 := ma_cn_pt (m := m) hv h1
  have e2 := ma_cn_pt (m := ma_up m v 0) hr (by rw [ma_un (Ne.symm hvr)]; exact h2)
  have e3 : ma_cn m' 10 = ma_cn (ma_up (ma_up m v 0) r 0) 10 := ma_cn_eq (fun z hz => by
    rw [h z hz]
    by_cases a : z = r
    · rw [a, ma_us]
      exact ⟨fun _ => by omega, fun _ => Or.inr (Or.inr rfl)⟩
    · rw [ma_un a]
      by_cases b : z = v
      · rw [b, ma_us]
        exact ⟨fun _ => by omega, fun _ => Or.inr (Or.inl rfl)⟩
      · rw [ma_un b]
        exact ⟨fun g => g.elim id (fun g => g.elim (fun g => absurd g b) (fun g => absurd g a)), Or.inl⟩)
  omega
theorem ma_c_top (m : Nat → Nat) : ma_c m ≤ 10 := ma_cn_top m 10
theorem wa_pw30 {post : Int32 → St1 → Prop} {ab : Int32} {a1 : Nat → Int32} {g : Nat → Nat → Prop} {Sx : Nat → Prop} (hg : wa_g g) (hG : wa_G a1 g) (hZ : wa_Z ab Sx)
    (H : ∀ k m qe a2 a3 a4 a5 a6 a7 a8, k ≤ 5 → wa_R a2 m → ma_M (wa_adj g Sx) m → ma_c m = 2 * k → (∀ n, ma_M (wa_adj g Sx) n → ma_c n ≤ 2 * k) → post (nI k) (ab, qe, a1, a2, a3, a4, a5, a6, a7, a8)) :
    ∀ (n i k : Nat) (m : Nat → Nat) (qe : Int32) (a2 a3 a4 a5 a6 a7 a8 : Nat → Int32), i ≤ 10 → 10 - i < n → wa_R a2 m → ma_M (wa_adj g Sx) m → ma_c m = 2 * k → (∀ j, j < i → ¬ Sx j → ¬ m j < 10 → ma_F (wa_adj g Sx) m j) →
    wX_pairWithout_30 post n (nI k) (nI i) ab qe a1 a2 a3 a4 a5 a6 a7 a8 := by
  intro n
  have G : ma_G (wa_adj g Sx) := wa_adj_G hg
  induction n with
  | zero => intro i _ _ _ _ _ _ _ _ _ _ _ h; omega
  | succ n ih =>
    intro i k m qe a2 a3 a4 a5 a6 a7 a8 hi hn hR2 hm hc hF
    have hk : k ≤ 5 := by have := ma_c_top m; omega
    refine wa_le10 hi (fun e => ?_) (fun hlt => ⟨pk_in i 10 hlt, ?_⟩)
    · refine H k m qe a2 a3 a4 a5 a6 a7 a8 hk hR2 hm hc ?_
      rw [← hc]
      refine ma_max G hm (fun r hr hmr => ?_)
      by_cases s : Sx r
      · exact fun n hn' _ hnr => (hn' r hr hnr).2.2.2.2.1 s
      · exact hF r (by omega) s hmr
    · rw [nI_clamp (show i < 2 ^ 31 by omega)]
      refine ⟨fun z => nm_r (nI_1 i) ?_, fun z => ⟨fun y => ?_, fun y => nm_r (nI_1 i) ?_⟩⟩
      · have hmi := (wa_R_pos hR2 hlt).mp z
        refine ih (i + 1) k m qe a2 a3 a4 a5 a6 a7 a8 (by omega) (by omega) hR2 hm hc (fun j hj hs hmj => ?_)
        by_cases e : j = i
        · rw [e] at hmj
          exact absurd hmi hmj
        · exact hF j (by omega) hs hmj
      · have hmi : ¬ m i < 10 := fun q => z ((wa_R_pos hR2 hlt).mpr q)
        have hSi : ¬ Sx i := fun q => (bi_bit0 hlt).mp y ((hZ i hlt).mpr q)
        refine wa_search ⟨G, hm, hlt, hmi⟩ hR2 hG hZ hSi (fun qe a3 a4 a5 a6 a7 a8 p b o rk I hB hT => ?_) (fun qe a3 a4 a5 a6 a7 a8 e p X he hR4 hT => ?_)
        · refine br_t (by decide) (nm_r (nI_1 i) ?_)
          refine ih (i + 1) k m qe a2 a3 a4 a5 a6 a7 a8 (by omega) (by omega) hR2 hm hc (fun j hj hs hmj => ?_)
          by_cases e : j = i
          · rw [e]
            refine fun n' hn' hcov hni => hT n' hn' (fun v hv hov => ?_)
            rcases se_cov I hv hov with h | h
            · exact hcov v hv h
            · rw [h]
              exact hni
          · exact hF j (by omega) hs hmj
        · refine br_f (nI_pos (by omega)) ?_
          refine wa_turn G hR4 hR2 hT (fun a2' m' t1 t2 t3 => nm_r (nI_1 k) (nm_r (nI_1 i) ?_))
          have hT' := hT
          obtain ⟨_, u1, _, _, _, _, u2, _⟩ := hT'
          refine ih (i + 1) (k + 1) m' qe a2' a3 a4 a5 a6 a7 a8 (by omega) (by omega) t1 t2 (by rw [ma_c_2 he hlt u2 u1 hmi t3]; omega) (fun j hj hs hmj => ?_)
          by_cases e' : j = i
          · exact absurd ((t3 j (by omega)).mpr (Or.inr (Or.inr e'))) hmj
          · refine ma_F_mono (hF j (by omega) hs (fun q => hmj ((t3 j (by omega)).mpr (Or.inl q)))) (fun v hv q => (t3 v hv).mpr (Or.inl q))
      · have hSi : Sx i := Classical.byContradiction (fun q => y ((bi_bit0 hlt).mpr (fun t => q ((hZ i hlt).mp t))))
        refine ih (i + 1) k m qe a2 a3 a4 a5 a6 a7 a8 (by omega) (by omega) hR2 hm hc (fun j hj hs hmj => ?_)
        by_cases e : j = i
        · rw [e] at hs
          exact absurd hSi hs
        · exact hF j (by omega) hs hmj
theorem wa_pw7 {post : Int32 → St1 → Prop} {ab qe : Int32} {a1 a3 a4 a5 a6 a7 a8 : Nat → Int32} (H : ∀ a2 : Nat → Int32, (∀ j, j < 10 → a2 j = -1) → ∃ fu30 : Nat, wX_pairWithout_30 post fu30 0 0 ab qe a1 a2 a3 a4 a5 a6 a7 a8) :
    ∀ (n i : Nat) (a2 : Nat → Int32), i ≤ 10 → 10 - i < n → (∀ j, j < i → a2 j = -1) → wX_pairWithout_7 post ab qe n (nI i) a1 a2 a3 a4 a5 a6 a7 a8 := by
  intro n
  induction n with
  | zero => intro i _ _ h; omega
  | succ n ih =>
    intro i a2 hi hn h0
    refine wa_le10 hi (fun e => H a2 (fun j hj => h0 j (by omega))) (fun hlt => ⟨pk_in i 10 hlt, nm_e (nm_r (nI_1 i) ?_)⟩)
    rw [nI_clamp (show i < 2 ^ 31 by omega)]
    refine ih (i + 1) _ (by omega) (by omega) (fun j hj => ?_)
    by_cases e : j = i
    · rw [e, pk_us]
    · rw [pk_un e]
      exact h0 j (by omega)
theorem ma_c_none : ma_c (fun _ => 10) = 0 := by decide
theorem wa_pairWithout {post : Int32 → St1 → Prop} {x ab qe : Int32} {a1 a2 a3 a4 a5 a6 a7 a8 : Nat → Int32} {g : Nat → Nat → Prop} {Sx : Nat → Prop} (hg : wa_g g) (hG : wa_G a1 g) (hZ : wa_Z x Sx)
    (H : ∀ k m qe a2 a3 a4 a5 a6 a7 a8, k ≤ 5 → wa_R a2 m → ma_M (wa_adj g Sx) m → ma_c m = 2 * k → (∀ n, ma_M (wa_adj g Sx) n → ma_c n ≤ 2 * k) → post (nI k) (x, qe, a1, a2, a3, a4, a5, a6, a7, a8)) :
    wpX_pairWithout post (ab, qe, a1, a2, a3, a4, a5, a6, a7, a8) x := by
  refine ⟨11, wa_pw7 (fun a2 h0 => ⟨11, ?_⟩) 11 0 a2 (by omega) (by omega) (fun j hj => absurd hj (by omega))⟩
  refine wa_pw30 hg hG hZ H 11 0 0 (fun _ => 10) qe a2 a3 a4 a5 a6 a7 a8 (by omega) (by omega) (fun i hi => ?_) (fun v hv h => absurd h (show ¬ (10 : Nat) < 10 by omega)) ma_c_none (fun j hj => absurd hj (by omega))
  exact (h0 i hi).trans (wa_e_ge (k := 10) (by omega)).symm
/-! spares -/
theorem wa_sp27 {post : Int32 → St1 → Prop} {J4 : Int32 → Int32 → Int32 → Int32 → (Nat → Int32) → (Nat → Int32) → (Nat → Int32) → (Nat → Int32) → (Nat → Int32) → (Nat → Int32) → (Nat → Int32) → (Nat → Int32) → Prop} {ab qe : Int32} {a1 a2 a3 a4 a5 a6 a7 a8 : Nat → Int32} {o P : Nat → Prop} {t : Nat} (hB : wa_B a3 o)
    (HJ : ∀ x, (∀ q, q < 10 → (bi_t x q = true ↔ P q ∨ o q)) → J4 x (nI (t + 1)) ab qe a1 a2 a3 a4 a5 a6 a7 a8) :
    ∀ (n i : Nat) (x : Int32), i ≤ 10 → 10 - i < n → (∀ q, q < 10 → (bi_t x q = true ↔ P q ∨ (q < i ∧ o q))) → wX_spares_27 post J4 (nI t) ab qe a1 a2 a3 a4 a5 a6 a7 a8 n x (nI i) := by
  intro n
  induction n with
  | zero => intro i _ _ h; omega
  | succ n ih =>
    intro i x hi hn hx
    refine wa_le10 hi (fun e => nm_r (nI_1 t) (HJ x (fun q hq => ?_))) (fun hlt => ⟨pk_in i 10 hlt, ?_⟩)
    · rw [hx q hq]
      exact ⟨fun z => z.elim Or.inl (fun z => Or.inr z.2), fun z => z.elim Or.inl (fun z => Or.inr ⟨by omega, z⟩)⟩
    · rw [nI_clamp (show i < 2 ^ 31 by omega)]
      refine ⟨fun z => nm_e (nm_r (nI_1 i) (ih (i + 1) _ (by omega) (by omega) (fun q hq => ?_))), fun z => nm_e (nm_r (nI_1 i) (ih (i + 1) _ (by omega) (by omega) (fun q hq => ?_)))⟩
      · have hno := (hB i hlt).mp z
        rw [bi_or, bi_0, Bool.or_false, hx q hq]
        refine ⟨fun y => y.elim Or.inl (fun y => Or.inr ⟨by omega, y.2⟩), fun y => y.elim Or.inl (fun y => ?_)⟩
        by_cases e : q = i
        · rw [e] at y
          exact absurd y.2 hno
        · exact Or.inr ⟨by omega, y.2⟩
      · have hyo : o i := Classical.byContradiction (fun q => z ((hB i hlt).mpr q))
        rw [bi_or, bi_one i hlt q (by omega), Bool.or_eq_true, hx q hq, decide_eq_true_eq]
        constructor
        · rintro ((y | y) | y)
          · exact Or.inl y
          · exact Or.inr ⟨by omega, y.2⟩
          · rw [y]
            exact Or.inr ⟨by omega, hyo⟩
        · rintro (y | y)
          · exact Or.inl (Or.inl y)
          · by_cases e : q = i
            · exact Or.inr e
            · exact Or.inl (Or.inr ⟨by omega, y.2⟩)
/-- q is missed by a matching no smaller than m -/
def wa_mi (adj : Nat → Nat → Prop) (m : Nat → Nat) (q : Nat) : Prop := ∃ n, ma_M adj n ∧ ma_c m ≤ ma_c n ∧ ¬ n q < 10
theorem wa_sp4 {post : Int32 → St1 → Prop} {ab : Int32} {a1 a2 : Nat → Int32} {g : Nat → Nat → Prop} {Sx : Nat → Prop} {m : Nat → Nat} (hg : wa_g g) (hG : wa_G a1 g) (hZ : wa_Z ab Sx) (hS : ∀ v, ¬ Sx v) (hR2 : wa_R a2 m) (hm : ma_M (wa_adj g Sx) m) (hx : ∀ n, ma_M (wa_adj g Sx) n → ma_c n ≤ ma_c m)
    (H : ∀ x qe a3 a4 a5 a6 a7 a8, (∀ q, q < 10 → (bi_t x q = true ↔ wa_mi (wa_adj g Sx) m q)) → post x (ab, qe, a1, a2, a3, a4, a5, a6, a7, a8)) :
    ∀ (n i : Nat) (x qe : Int32) (a3 a4 a5 a6 a7 a8 : Nat → Int32), i ≤ 10 → 10 - i < n → (∀ q, q < 10 → bi_t x q = true → wa_mi (wa_adj g Sx) m q) →
    (∀ p, p < i → ¬ m p < 10 → ∃ O : Nat → Prop, O p ∧ (∀ v, v < 10 → O v → m v < 10 ∨ v = p) ∧ (∀ v, v < 10 → O v → bi_t x v = true) ∧ ∀ n', ma_M (wa_adj g Sx) n' → ¬ ∀ v, v < 10 → O v → n' v < 10) →
    wX_spares_4 post n x (nI i) ab qe a1 a2 a3 a4 a5 a6 a7 a8 := by
  intro n
  have G : ma_G (wa_adj g Sx) := wa_adj_G hg
  induction n with
  | zero => intro i _ _ _ _ _ _ _ _ _ h; omega
  | succ n ih =>
    intro i x qe a3 a4 a5 a6 a7 a8 hi hn h1 h2
    refine wa_le10 hi (fun e => H x qe a3 a4 a5 a6 a7 a8 (fun q hq => ⟨h1 q hq, fun z => Classical.byContradiction (fun y => ?_)⟩)) (fun hlt => ⟨pk_in i 10 hlt, ?_⟩)
    · obtain ⟨n', z1, z2, z3⟩ := z
      refine ma_gal G hm hx hq z1 z2 z3 (fun p hp hmp => ?_)
      obtain ⟨O, o1, o2, o3, o4⟩ := h2 p (by omega) hmp
      exact ⟨O, o1, o2, fun t => y (o3 q hq t), o4⟩
    · rw [nI_clamp (show i < 2 ^ 31 by omega)]
      refine ⟨fun z => nm_r (nI_1 i) ?_, fun z => ?_⟩
      · have hmi := (wa_R_pos hR2 hlt).mp z
        refine ih (i + 1) x qe a3 a4 a5 a6 a7 a8 (by omega) (by omega) h1 (fun p hp hmp => ?_)
        by_cases e : p = i
        · rw [e] at hmp
          exact absurd hmi hmp
        · exact h2 p (by omega) hmp
      · have hmi : ¬ m i < 10 := fun q => z ((wa_R_pos hR2 hlt).mpr q)
        refine wa_search ⟨G, hm, hlt, hmi⟩ hR2 hG hZ (hS i) (fun qe a3 a4 a5 a6 a7 a8 p b o rk I hB hT => ⟨11, ?_⟩) (fun qe a3 a4 a5 a6 a7 a8 e p X he hR4 hT => ?_)
        · refine wa_sp27 (P := fun q => bi_t x q = true) hB (fun x' hx' => ?_) 11 0 x (by omega) (by omega) (fun q hq => ⟨Or.inl, fun t => t.elim id (fun t => absurd t.1 (by omega))⟩)
          refine ih (i + 1) x' qe a3 a4 a5 a6 a7 a8 (by omega) (by omega) (fun q hq t => ?_) (fun p' hp' hmp' => ?_)
          · rcases (hx' q hq).mp t with t | t
            · exact h1 q hq t
            · exact se_miss ⟨G, hm, hlt, hmi⟩ I hq t
          · by_cases e : p' = i
            · rw [e]
              exact ⟨o, I.1.1, fun v hv hov => se_cov I hv hov, fun v hv hov => (hx' v hv).mpr (Or.inr hov), hT⟩
            · obtain ⟨O, o1, o2, o3, o4⟩ := h2 p' (by omega) hmp'
              exact ⟨O, o1, o2, fun v hv t => (hx' v hv).mpr (Or.inl (o3 v hv t)), o4⟩
        · exfalso
          have hT' := hT
          obtain ⟨_, u1, _, _, _, _, u2, _⟩ := hT'
          obtain ⟨m', t1, t2⟩ := ma_T_all G X m e hT
          have c1 := ma_c_2 he hlt u2 u1 hmi t2
          have c2 := hx m' t1
          omega
theorem wa_spares {post : Int32 → St1 → Prop} {ab qe : Int32} {a1 a2 a3 a4 a5 a6 a7 a8 : Nat → Int32} {g : Nat → Nat → Prop} {Sx : Nat → Prop} {m : Nat → Nat} (hg : wa_g g) (hG : wa_G a1 g) (hZ : wa_Z ab Sx) (hS : ∀ v, ¬ Sx v) (hR2 : wa_R a2 m) (hm : ma_M (wa_adj g Sx) m) (hx : ∀ n, ma_M (wa_adj g Sx) n → ma_c n ≤ ma_c m)
    (H : ∀ x qe a3 a4 a5 a6 a7 a8, (∀ q, q < 10 → (bi_t x q = true ↔ wa_mi (wa_adj g Sx) m q)) → post x (ab, qe, a1, a2, a3, a4, a5, a6, a7, a8)) :
    wpX_spares post (ab, qe, a1, a2, a3, a4, a5, a6, a7, a8) :=
  ⟨11, wa_sp4 hg hG hZ hS hR2 hm hx H 11 0 0 qe a3 a4 a5 a6 a7 a8 (by omega) (by omega) (fun q _ h => by rw [bi_0] at h; exact absurd h (by decide)) (fun p hp => absurd hp (by omega))⟩
end
section
/-! how the largest sizes hang together -/
def la_N (g : Nat → Nat → Prop) (S : Nat → Prop) (k : Nat) : Prop := (∃ n, ma_M (wa_adj g S) n ∧ ma_c n = 2 * k) ∧ ∀ n, ma_M (wa_adj g S) n → ma_c n ≤ 2 * k
def la_0 : Nat → Prop := fun _ => False
def la_1 (a : Nat) : Nat → Prop := fun v => v = a
def la_2 (a b : Nat) : Nat → Prop := fun v => v = a ∨ v = b
theorem la_uniq {g : Nat → Nat → Prop} {S : Nat → Prop} {k k' : Nat} (h : la_N g S k) (h' : la_N g S k') : k = k' := by
  obtain ⟨⟨n, n1, n2⟩, hx⟩ := h
  obtain ⟨⟨n', n1', n2'⟩, hx'⟩ := h'
  have := hx n' n1'
  have := hx' n n1
  omega
theorem la_le5 {g : Nat → Nat → Prop} {S : Nat → Prop} {k : Nat} (h : la_N g S k) : k ≤ 5 := by
  obtain ⟨⟨n, _, n2⟩, _⟩ := h
  have := ma_c_top n
  omega
theorem la_sub {adj adj' : Nat → Nat → Prop} {n : Nat → Nat} (h : ma_M adj n) (hs : ∀ u v, adj u v → adj' u v) : ma_M adj' n := fun v hv hn => ⟨(h v hv hn).1, hs _ _ (h v hv hn).2⟩
/-- some largest matching misses a -/
def la_sp (g : Nat → Nat → Prop) (a : Nat) : Prop := ∃ n, ma_M (wa_adj g la_0) n ∧ (∀ n', ma_M (wa_adj g la_0) n' → ma_c n' ≤ ma_c n) ∧ ¬ n a < 10
theorem la_free {g : Nat → Nat → Prop} {S : Nat → Prop} {n : Nat → Nat} (h : ma_M (wa_adj g la_0) n) (hS : ∀ v, v < 10 → n v < 10 → ¬ S v) : ma_M (wa_adj g S) n := by
  intro v hv hn
  obtain ⟨h1, h2, h3, h4, h5, h6⟩ := h v hv hn
  exact ⟨h1, h2, h3, h4, hS v hv hn, hS _ h3 (by rw [h1]; exact hv)⟩
theorem la_all {g : Nat → Nat → Prop} {S : Nat → Prop} {n : Nat → Nat} (h : ma_M (wa_adj g S) n) : ma_M (wa_adj g la_0) n := la_sub h (fun u v z => ⟨z.1, z.2.1, z.2.2.1, id, id⟩)
theorem la_out {g : Nat → Nat → Prop} {S : Nat → Prop} {n : Nat → Nat} {a : Nat} (h : ma_M (wa_adj g S) n) (ha : a < 10) (hS : S a) : ¬ n a < 10 := fun z => (h a ha z).2.2.2.2.1 hS
theorem la_spare_iff {g : Nat → Nat → Prop} {a k k' : Nat} (ha : a < 10) (h : la_N g la_0 k) (h' : la_N g (la_1 a) k') : la_sp g a ↔ k' = k := by
  obtain ⟨⟨n, n1, n2⟩, hx⟩ := h
  obtain ⟨⟨n', n1', n2'⟩, hx'⟩ := h'
  have d1 := hx n' (la_all n1')
  constructor
  · rintro ⟨s, s1, s2, s3⟩
    have d2 := s2 n n1
    have d3 := hx' s (la_free s1 (fun v hv hn e => s3 (by rw [← show v = a from e]; exact hn)))
    omega
  · intro e
    refine ⟨n', la_all n1', fun s hs => ?_, la_out n1' ha rfl⟩
    have := hx s hs
    omega
theorem la_full {g : Nat → Nat → Prop} {a : Nat} (ha : a < 10) (h : la_N g la_0 5) : ¬ la_sp g a := by
  rintro ⟨s, s1, s2, s3⟩
  obtain ⟨⟨n, n1, n2⟩, hx⟩ := h
  have d1 := s2 n n1
  have d2 : ma_cn s 10 + 1 ≤ ma_cn (fun _ => 0) 10 := ma_cn_lt (q := a) (fun _ _ _ => Nat.succ_pos 9) ha s3 (Nat.succ_pos 9)
  have d3 := ma_cn_top (fun _ => 0) 10
  unfold ma_c at *
  omega
/-- the graph without, and with, one line -/
def la_off (g : Nat → Nat → Prop) (a b : Nat) : Nat → Nat → Prop := fun u v => g u v ∧ ¬ ((u = a ∧ v = b) ∨ (u = b ∧ v = a))
def la_on (g : Nat → Nat → Prop) (a b : Nat) : Nat → Nat → Prop := fun u v => g u v ∨ (u = a ∧ v = b) ∨ (u = b ∧ v = a)
theorem la_off_g {g : Nat → Nat → Prop} {a b : Nat} (h : wa_g g) : wa_g (la_off g a b) := by
  refine ⟨fun u v hu hv z => ⟨h.1 u v hu hv z.1, fun y => z.2 ?_⟩, fun v hv z => h.2 v hv z.1⟩
  rcases y with y | y
  · exact Or.inr ⟨y.2, y.1⟩
  · exact Or.inl ⟨y.2, y.1⟩
theorem la_on_g {g : Nat → Nat → Prop} {a b : Nat} (h : wa_g g) (hab : a ≠ b) : wa_g (la_on g a b) := by
  refine ⟨fun u v hu hv z => ?_, fun v hv z => ?_⟩
  · rcases z with z | z | z
    · exact Or.inl (h.1 u v hu hv z)
    · exact Or.inr (Or.inr ⟨z.2, z.1⟩)
    · exact Or.inr (Or.inl ⟨z.2, z.1⟩)
  · rcases z with z | z | z
    · exact h.2 v hv z
    · exact hab (z.1.symm.trans z.2)
    · exact hab (z.2.symm.trans z.1)
/-- a matching that doesn't use the line ab lives without it -/
theorem la_unused {g : Nat → Nat → Prop} {n : Nat → Nat} {a b : Nat} (hn : ma_M (wa_adj g la_0) n) (ha : a < 10) (hb : b < 10) (h : n a ≠ b) : ma_M (wa_adj (la_off g a b) la_0) n := by
  intro v hv hnv
  obtain ⟨h1, h2, h3, h4, h5, h6⟩ := hn v hv hnv
  refine ⟨h1, h2, h3, ⟨h4, fun z => ?_⟩, h5, h6⟩
  rcases z with ⟨z1, z2⟩ | ⟨z1, z2⟩
  · rw [z1] at z2
    exact h z2
  · rw [z1] at z2
    exact h (ma_inv hn hb ha z2)
theorem la_needed {g : Nat → Nat → Prop} {a b k k' : Nat} (hg : wa_g g) (ha : a < 10) (hb : b < 10) (h : la_N g la_0 k) (h' : la_N (la_off g a b) la_0 k') (hlt : k' < k) :
    g a b ∧ ¬ la_sp g a ∧ ¬ la_sp g b ∧ ∀ k2, la_N g (la_2 a b) k2 → k2 + 1 = k := by
  have G : ma_G (wa_adj g la_0) := wa_adj_G hg
  obtain ⟨⟨n, n1, n2⟩, hx⟩ := h
  obtain ⟨_, hx'⟩ := h'
  have use : ∀ s, ma_M (wa_adj g la_0) s → ma_c n ≤ ma_c s → s a = b := by
    intro s s1 s2
    refine Classical.byContradiction (fun z => ?_)
    have := hx' s (la_unused s1 ha hb z)
    omega
  have hnab := use n n1 (Nat.le_refl _)
  have hna : n a < 10 := by rw [hnab]; exact hb
  have hadj := (n1 a ha hna).2
  rw [hnab] at hadj
  have hgab : g a b := hadj.2.2.1
  have hne := (G _ _ hadj).2.1
  refine ⟨hgab, ?_, ?_, fun k2 hk2 => ?_⟩
  · rintro ⟨s, s1, s2, s3⟩
    rw [use s s1 (s2 n n1)] at s3
    exact s3 hb
  · rintro ⟨s, s1, s2, s3⟩
    have e := use s s1 (s2 n n1)
    rw [ma_inv s1 ha hb e] at s3
    exact s3 ha
  · obtain ⟨⟨s, s1, s2⟩, hs⟩ := hk2
    have u1 : ¬ s a < 10 := la_out s1 ha (Or.inl rfl)
    have u2 : ¬ s b < 10 := la_out s1 hb (Or.inr rfl)
    have M1 := ma_rw_M G (la_all s1) u1 hadj
    have c1 : ma_c (ma_rw s a b) = ma_c s + 2 := ma_c_2 ha hb hne u1 u2 (fun z hz => by
      rw [ma_rw_c G hadj hz]
      constructor
      · rintro (y | y | y)
        · exact Or.inr (Or.inl y)
        · exact Or.inr (Or.inr y)
        · exact Or.inl y.2
      · rintro (y | y | y)
        · exact Or.inr (Or.inr ⟨fun e => u2 (e ▸ hz), y⟩)
        · exact Or.inl y
        · exact Or.inr (Or.inl y))
    have c2 := hx _ M1
    have hnb : n b = a := ma_inv n1 ha hb hnab
    have M2 : ma_M (wa_adj g la_0) (ma_up (ma_up n a 10) b 10) := by
      intro v hv h
      by_cases e1 : v = b
      · rw [e1, ma_us] at h
        omega
      · by_cases e2 : v = a
        · rw [ma_un e1, e2, ma_us] at h
          omega
        · rw [ma_un e1, ma_un e2] at h ⊢
          obtain ⟨l1, l2⟩ := n1 v hv h
          have m1 : n v ≠ b := fun z => e2 (by rw [← l1, z, hnb])
          have m2 : n v ≠ a := fun z => e1 (by rw [← l1, z, hnab])
          rw [ma_un m1, ma_un m2]
          exact ⟨l1, l2⟩
    have v1 : ¬ ma_up (ma_up n a 10) b 10 a < 10 := by
      rw [ma_un hne, ma_us]
      omega
    have v2 : ¬ ma_up (ma_up n a 10) b 10 b < 10 := by
      rw [ma_us]
      omega
    have c3 : ma_c n = ma_c (ma_up (ma_up n a 10) b 10) + 2 := ma_c_2 ha hb hne v1 v2 (fun z hz => by
      by_cases e1 : z = b
      · rw [e1, hnb]
        exact ⟨fun _ => Or.inr (Or.inr rfl), fun _ => ha⟩
      · by_cases e2 : z = a
        · rw [e2]
          exact ⟨fun _ => Or.inr (Or.inl rfl), fun _ => hna⟩
        · rw [ma_un e1, ma_un e2]
          exact ⟨Or.inl, fun y => y.elim id (fun y => y.elim (fun y => absurd y e2) (fun y => absurd y e1))⟩)
    have c4 := hs _ (la_free (S := la_2 a b) M2 (fun v hv h e => by
      rcases e with e | e
      · rw [show v = a from e] at h
        exact v1 h
      · rw [show v = b from e] at h
        exact v2 h))
    omega
end
section
/-! the methods that the law calls -/
theorem bi_1023 : ∀ i, i < 10 → bi_t 1023 i = true := by decide +kernel
theorem la_z0 : wa_Z 0 la_0 := fun v _ => by
  rw [bi_0]
  exact ⟨fun h => absurd h (by decide), fun h => absurd h id⟩
theorem la_zm {x : Int32} {S : Nat → Prop} (h : wa_Z x S) : wa_Z (x &&& 1023) S := fun v hv => by
  rw [bi_and, bi_1023 v hv, Bool.and_true]
  exact h v hv
theorem la_z1 {a : Nat} (ha : a < 10) : wa_Z ((1 : Int32) <<< (nI a &&& 31)) (la_1 a) := fun v hv => by
  rw [bi_one a ha v (by omega), decide_eq_true_eq]
  exact Iff.rfl
theorem la_z2 {a b : Nat} (ha : a < 10) (hb : b < 10) : wa_Z (((1 : Int32) <<< (nI a &&& 31)) ||| ((1 : Int32) <<< (nI b &&& 31))) (la_2 a b) := fun v hv => by
  rw [bi_or, Bool.or_eq_true, bi_one a ha v (by omega), bi_one b hb v (by omega), decide_eq_true_eq, decide_eq_true_eq]
  exact Iff.rfl
theorem la_most {post : Int32 → St1 → Prop} {ab qe : Int32} {a1 a2 a3 a4 a5 a6 a7 a8 : Nat → Int32} {g : Nat → Nat → Prop} (hg : wa_g g) (hG : wa_G a1 g)
    (H : ∀ k ab qe a1 a2 a3 a4 a5 a6 a7 a8, k ≤ 5 → la_N g la_0 k → wa_G a1 g → post (nI k) (ab, qe, a1, a2, a3, a4, a5, a6, a7, a8)) :
    wpX_most post (ab, qe, a1, a2, a3, a4, a5, a6, a7, a8) :=
  wa_pairWithout (ab := ab) hg hG la_z0 (fun k m qe a2 a3 a4 a5 a6 a7 a8 h1 h2 h3 h4 h5 => H k 0 qe a1 a2 a3 a4 a5 a6 a7 a8 h1 ⟨⟨m, h3, h4⟩, h5⟩ hG)
theorem la_mostWithout {post : Int32 → St1 → Prop} {x ab qe : Int32} {a1 a2 a3 a4 a5 a6 a7 a8 : Nat → Int32} {g : Nat → Nat → Prop} {S : Nat → Prop} (hg : wa_g g) (hG : wa_G a1 g) (hZ : wa_Z x S)
    (H : ∀ k ab qe a1 a2 a3 a4 a5 a6 a7 a8, k ≤ 5 → la_N g S k → wa_G a1 g → post (nI k) (ab, qe, a1, a2, a3, a4, a5, a6, a7, a8)) :
    wpX_mostWithout post (ab, qe, a1, a2, a3, a4, a5, a6, a7, a8) x :=
  wa_pairWithout (ab := ab) hg hG (la_zm hZ) (fun k m qe a2 a3 a4 a5 a6 a7 a8 h1 h2 h3 h4 h5 => H k (x &&& 1023) qe a1 a2 a3 a4 a5 a6 a7 a8 h1 ⟨⟨m, h3, h4⟩, h5⟩ hG)
theorem la_spare {post : Int32 → St1 → Prop} {ab qe : Int32} {a1 a2 a3 a4 a5 a6 a7 a8 : Nat → Int32} {g : Nat → Nat → Prop} {a : Nat} (hg : wa_g g) (hG : wa_G a1 g) (ha : a < 10)
    (H1 : la_sp g a → ∀ ab qe a1 a2 a3 a4 a5 a6 a7 a8, wa_G a1 g → post 1 (ab, qe, a1, a2, a3, a4, a5, a6, a7, a8))
    (H0 : ¬ la_sp g a → ∀ ab qe a1 a2 a3 a4 a5 a6 a7 a8, wa_G a1 g → post 0 (ab, qe, a1, a2, a3, a4, a5, a6, a7, a8)) :
    wpX_spare post (ab, qe, a1, a2, a3, a4, a5, a6, a7, a8) (nI a) := by
  refine br_f (nI_pos (by omega)) (pk_le a 9 (fun _ => ?_) (fun h => absurd ha (by omega)))
  refine wa_pairWithout hg hG la_z0 (fun k m qe a2 a3 a4 a5 a6 a7 a8 h1 h2 h3 h4 h5 => ?_)
  refine wa_spares hg hG la_z0 (fun v => id) h2 h3 (fun n hn => by have := h5 n hn; omega) (fun x qe a3 a4 a5 a6 a7 a8 hx => ?_)
  have e : wa_mi (wa_adj g la_0) m a ↔ la_sp g a := by
    constructor
    · rintro ⟨n, n1, n2, n3⟩
      exact ⟨n, n1, fun n' hn' => by have := h5 n' hn'; omega, n3⟩
    · rintro ⟨n, n1, n2, n3⟩
      exact ⟨n, n1, n2 m h3, n3⟩
  show post (((x.toUInt32 >>> ((nI a).toUInt32 &&& Int32.toUInt32 31)).toInt32) &&& 1) (0, qe, a1, a2, a3, a4, a5, a6, a7, a8)
  rw [bi_bit ha]
  by_cases h : bi_t x a = true
  · rw [if_pos h]
    exact H1 (e.mp ((hx a ha).mp h)) _ _ _ _ _ _ _ _ _ _ hG
  · rw [if_neg h]
    exact H0 (fun z => h ((hx a ha).mpr (e.mpr z))) _ _ _ _ _ _ _ _ _ _ hG
theorem la_isPair {post : Int32 → Prop} {a b : Nat} (ha : a < 10) (hb : b < 10) (h1 : a ≠ b → post 1) (h0 : a = b → post 0) : wpX_isPair post () (nI a) (nI b) :=
  br_f (nI_pos (by omega)) (pk_lt 9 a (fun h => absurd ha (by omega)) (fun _ => br_f (nI_pos (by omega)) (pk_lt 9 b (fun h => absurd hb (by omega)) (fun _ => pk_eq a b h0 h1))))
theorem la_m1 : ∀ k1, k1 < 6 → ∀ k2, k2 < 6 → (nI k2 = nI k1 - 1 ↔ k2 + 1 = k1) := by decide +kernel
theorem la_usable {post : Int32 → St1 → Prop} {ab qe : Int32} {a1 a2 a3 a4 a5 a6 a7 a8 : Nat → Int32} {g : Nat → Nat → Prop} {a b : Nat} (hg : wa_g g) (hG : wa_G a1 g) (ha : a < 10) (hb : b < 10) (hab : a ≠ b)
    (H : ∀ x k1 k2 ab qe a1 a2 a3 a4 a5 a6 a7 a8, la_N g la_0 k1 → la_N g (la_2 a b) k2 → (x = 1 ∧ g a b ∧ k2 + 1 = k1) ∨ (x = 0 ∧ ¬ (g a b ∧ k2 + 1 = k1)) → wa_G a1 g → post x (ab, qe, a1, a2, a3, a4, a5, a6, a7, a8)) :
    wpX_usable post (ab, qe, a1, a2, a3, a4, a5, a6, a7, a8) (nI a) (nI b) := by
  unfold wpX_usable
  dsimp only
  refine la_isPair ha hb (fun _ => br_f (by decide) ?_) (fun e => absurd e hab)
  refine wa_pairWithout hg hG la_z0 (fun k1 m1 qe a2 a3 a4 a5 a6 a7 a8 h1 h2 h3 h4 h5 => ?_)
  refine wa_pairWithout hg hG (la_z2 ha hb) (fun k2 m2 qe a2 a3 a4 a5 a6 a7 a8 q1 q2 q3 q4 q5 => ?_)
  have n1 : la_N g la_0 k1 := ⟨⟨m1, h3, h4⟩, h5⟩
  have n2 : la_N g (la_2 a b) k2 := ⟨⟨m2, q3, q4⟩, q5⟩
  have e := la_m1 k1 (by omega) k2 (by omega)
  refine wa_isLine ha hb hG (fun hgab => br_f (by decide) (ek_if e (fun z => ?_) (fun z => ?_))) (fun hgab => br_t rfl ?_)
  · exact H _ _ _ _ _ _ _ _ _ _ _ _ _ n1 n2 (Or.inl ⟨rfl, hgab, z⟩) hG
  · exact H _ _ _ _ _ _ _ _ _ _ _ _ _ n1 n2 (Or.inr ⟨rfl, fun y => z y.2⟩) hG
  · exact H _ _ _ _ _ _ _ _ _ _ _ _ _ n1 n2 (Or.inr ⟨rfl, fun y => hgab y.1⟩) hG
theorem la_usable_eq {post : Int32 → St1 → Prop} {ab qe : Int32} {a1 a2 a3 a4 a5 a6 a7 a8 : Nat → Int32} {a : Nat} (ha : a < 10) (H : post (-1) (ab, qe, a1, a2, a3, a4, a5, a6, a7, a8)) :
    wpX_usable post (ab, qe, a1, a2, a3, a4, a5, a6, a7, a8) (nI a) (nI a) := by
  unfold wpX_usable
  dsimp only
  exact la_isPair ha ha (fun h => absurd rfl h) (fun _ => br_t rfl H)
theorem la_needed_eq {post : Int32 → St1 → Prop} {ab qe : Int32} {a1 a2 a3 a4 a5 a6 a7 a8 : Nat → Int32} {a : Nat} (ha : a < 10) (H : post (-1) (ab, qe, a1, a2, a3, a4, a5, a6, a7, a8)) :
    wpX_needed post (ab, qe, a1, a2, a3, a4, a5, a6, a7, a8) (nI a) (nI a) := by
  unfold wpX_needed
  dsimp only
  exact la_isPair ha ha (fun h => absurd rfl h) (fun _ => br_t rfl H)
/-! join, part -/
theorem la_G_on {a1 : Nat → Int32} {g : Nat → Nat → Prop} {a b : Nat} (hG : wa_G a1 g) (ha : a < 10) (hb : b < 10) (hab : a ≠ b) :
    wa_G (upd (upd a1 a (a1 a ||| ((1 : Int32) <<< (nI b &&& 31)))) b (upd a1 a (a1 a ||| ((1 : Int32) <<< (nI b &&& 31))) b ||| ((1 : Int32) <<< (nI a &&& 31)))) (la_on g a b) := by
  intro u v hu hv
  by_cases e1 : u = b
  · rw [e1, pk_us, pk_un (Ne.symm hab), bi_or, Bool.or_eq_true, bi_one a ha v (by omega), decide_eq_true_eq, hG b v hb hv]
    exact ⟨fun z => z.elim Or.inl (fun z => Or.inr (Or.inr ⟨rfl, z⟩)), fun z => z.elim Or.inl (fun z => z.elim (fun z => absurd z.1 (Ne.symm hab)) (fun z => Or.inr z.2))⟩
  · rw [pk_un e1]
    by_cases e2 : u = a
    · rw [e2, pk_us, bi_or, Bool.or_eq_true, bi_one b hb v (by omega), decide_eq_true_eq, hG a v ha hv]
      exact ⟨fun z => z.elim Or.inl (fun z => Or.inr (Or.inl ⟨rfl, z⟩)), fun z => z.elim Or.inl (fun z => z.elim (fun z => Or.inr z.2) (fun z => absurd z.1 hab))⟩
    · rw [pk_un e2, hG u v hu hv]
      exact ⟨Or.inl, fun z => z.elim id (fun z => z.elim (fun z => absurd z.1 e2) (fun z => absurd z.1 e1))⟩
theorem la_bnot {x : Int32} {a v : Nat} (ha : a < 10) (hv : v < 10) : bi_t (x &&& (((1 : Int32) <<< (nI a &&& 31)) ^^^ (-1))) v = true ↔ bi_t x v = true ∧ v ≠ a := by
  rw [bi_and, bi_xor, bi_one a ha v (by omega), bi_m1 v (by omega), Bool.and_eq_true]
  by_cases e : v = a
  · rw [decide_eq_true e]
    exact ⟨fun z => absurd z.2 (by decide), fun z => absurd e z.2⟩
  · rw [decide_eq_false e]
    exact ⟨fun z => ⟨z.1, e⟩, fun z => ⟨z.1, rfl⟩⟩
theorem la_G_off {a1 : Nat → Int32} {g : Nat → Nat → Prop} {a b : Nat} (hG : wa_G a1 g) (ha : a < 10) (hb : b < 10) (hab : a ≠ b) :
    wa_G (upd (upd a1 a (a1 a &&& (((1 : Int32) <<< (nI b &&& 31)) ^^^ (-1)))) b (upd a1 a (a1 a &&& (((1 : Int32) <<< (nI b &&& 31)) ^^^ (-1))) b &&& (((1 : Int32) <<< (nI a &&& 31)) ^^^ (-1)))) (la_off g a b) := by
  intro u v hu hv
  by_cases e1 : u = b
  · rw [e1, pk_us, pk_un (Ne.symm hab), la_bnot ha hv, hG b v hb hv]
    exact ⟨fun z => ⟨z.1, fun y => y.elim (fun y => absurd y.1 (Ne.symm hab)) (fun y => z.2 y.2)⟩, fun z => ⟨z.1, fun y => z.2 (Or.inr ⟨rfl, y⟩)⟩⟩
  · rw [pk_un e1]
    by_cases e2 : u = a
    · rw [e2, pk_us, la_bnot hb hv, hG a v ha hv]
      exact ⟨fun z => ⟨z.1, fun y => y.elim (fun y => z.2 y.2) (fun y => absurd y.1 hab)⟩, fun z => ⟨z.1, fun y => z.2 (Or.inl ⟨rfl, y⟩)⟩⟩
    · rw [pk_un e2, hG u v hu hv]
      exact ⟨fun z => ⟨z, fun y => y.elim (fun y => absurd y.1 e2) (fun y => absurd y.1 e1)⟩, fun z => z.1⟩
theorem la_join {post : Int32 → St1 → Prop} {ab qe : Int32} {a1 a2 a3 a4 a5 a6 a7 a8 : Nat → Int32} {g : Nat → Nat → Prop} {a b : Nat} (hG : wa_G a1 g) (ha : a < 10) (hb : b < 10) (hab : a ≠ b)
    (H : ∀ x a1', (x = 0 ∧ g a b) ∨ (x = 1 ∧ ¬ g a b) → wa_G a1' (la_on g a b) → post x (ab, qe, a1', a2, a3, a4, a5, a6, a7, a8)) :
    wpX_join post (ab, qe, a1, a2, a3, a4, a5, a6, a7, a8) (nI a) (nI b) := by
  have key : ∀ x, (x = 0 ∧ g a b) ∨ (x = 1 ∧ ¬ g a b) → wX_join_24 post (nI a) (nI b) x ab qe a1 a2 a3 a4 a5 a6 a7 a8 := by
    intro x hx
    unfold wX_join_24
    rw [nI_clamp (show a < 2 ^ 31 by omega), nI_clamp (show b < 2 ^ 31 by omega)]
    exact ⟨pk_in a 10 ha, pk_in a 10 ha, nm_e ⟨pk_in b 10 hb, pk_in b 10 hb, nm_e (H x _ hx (la_G_on hG ha hb hab))⟩⟩
  unfold wpX_join
  dsimp only
  refine la_isPair ha hb (fun _ => br_f (by decide) ?_) (fun e => absurd e hab)
  exact wa_isLine ha hb hG (fun h => br_f (by decide) (key 0 (Or.inl ⟨rfl, h⟩))) (fun h => br_t rfl (key 1 (Or.inr ⟨rfl, h⟩)))
theorem la_part {post : Int32 → St1 → Prop} {ab qe : Int32} {a1 a2 a3 a4 a5 a6 a7 a8 : Nat → Int32} {g : Nat → Nat → Prop} {a b : Nat} (hG : wa_G a1 g) (ha : a < 10) (hb : b < 10) (hab : a ≠ b)
    (H : ∀ x a1', (x = 1 ∧ g a b) ∨ (x = 0 ∧ ¬ g a b) → wa_G a1' (la_off g a b) → post x (ab, qe, a1', a2, a3, a4, a5, a6, a7, a8)) :
    wpX_part post (ab, qe, a1, a2, a3, a4, a5, a6, a7, a8) (nI a) (nI b) := by
  have key : ∀ x, (x = 1 ∧ g a b) ∨ (x = 0 ∧ ¬ g a b) → wX_part_24 post (nI a) (nI b) x ab qe a1 a2 a3 a4 a5 a6 a7 a8 := by
    intro x hx
    unfold wX_part_24
    rw [nI_clamp (show a < 2 ^ 31 by omega), nI_clamp (show b < 2 ^ 31 by omega)]
    exact ⟨pk_in a 10 ha, pk_in a 10 ha, nm_e ⟨pk_in b 10 hb, pk_in b 10 hb, nm_e (H x _ hx (la_G_off hG ha hb hab))⟩⟩
  unfold wpX_part
  dsimp only
  refine la_isPair ha hb (fun _ => br_f (by decide) ?_) (fun e => absurd e hab)
  exact wa_isLine ha hb hG (fun h => br_f (by decide) (key 1 (Or.inl ⟨rfl, h⟩))) (fun h => br_t rfl (key 0 (Or.inr ⟨rfl, h⟩)))
theorem la_G_iff {a1 : Nat → Int32} {g g' : Nat → Nat → Prop} (h : wa_G a1 g) (e : ∀ u v, u < 10 → v < 10 → (g u v ↔ g' u v)) : wa_G a1 g' := fun u v hu hv => (h u v hu hv).trans (e u v hu hv)
theorem la_need {post : Int32 → St1 → Prop} {ab qe : Int32} {a1 a2 a3 a4 a5 a6 a7 a8 : Nat → Int32} {g : Nat → Nat → Prop} {a b : Nat} (hg : wa_g g) (hG : wa_G a1 g) (ha : a < 10) (hb : b < 10) (hab : a ≠ b)
    (H0 : ∀ ab qe a1 a2 a3 a4 a5 a6 a7 a8, wa_G a1 g → post 0 (ab, qe, a1, a2, a3, a4, a5, a6, a7, a8))
    (H1 : ∀ k ab qe a1 a2 a3 a4 a5 a6 a7 a8, la_N g la_0 k → g a b → ¬ la_sp g a → ¬ la_sp g b → (∀ k2, la_N g (la_2 a b) k2 → k2 + 1 = k) → wa_G a1 g → post 1 (ab, qe, a1, a2, a3, a4, a5, a6, a7, a8)) :
    wpX_needed post (ab, qe, a1, a2, a3, a4, a5, a6, a7, a8) (nI a) (nI b) := by
  unfold wpX_needed
  dsimp only
  refine la_isPair ha hb (fun _ => br_f (by decide) ?_) (fun e => absurd e hab)
  refine wa_pairWithout hg hG la_z0 (fun k1 m1 qe a2 a3 a4 a5 a6 a7 a8 h1 h2 h3 h4 h5 => ?_)
  refine la_part hG ha hb hab (fun x a1' hx hG' => ?_)
  refine wa_pairWithout (la_off_g hg) hG' la_z0 (fun k2 m2 qe a2 a3 a4 a5 a6 a7 a8 q1 q2 q3 q4 q5 => ?_)
  have n1 : la_N g la_0 k1 := ⟨⟨m1, h3, h4⟩, h5⟩
  have n2 : la_N (la_off g a b) la_0 k2 := ⟨⟨m2, q3, q4⟩, q5⟩
  have fin : ∀ ab qe a1 a2 a3 a4 a5 a6 a7 a8, wa_G a1 g → wX_needed_44 post (nI k1) (nI k2) ab qe a1 a2 a3 a4 a5 a6 a7 a8 := by
    intro ab qe a1 a2 a3 a4 a5 a6 a7 a8 hG1
    refine pk_le k1 k2 (fun _ => H0 _ _ _ _ _ _ _ _ _ _ hG1) (fun hlt => ?_)
    obtain ⟨s1, s2, s3, s4⟩ := la_needed hg ha hb n1 n2 hlt
    exact H1 k1 _ _ _ _ _ _ _ _ _ _ n1 s1 s2 s3 s4 hG1
  rcases hx with ⟨hx, hgab⟩ | ⟨hx, hgab⟩
  · rw [hx]
    refine br_t rfl (la_join hG' ha hb hab (fun y a1'' hy hG'' => fin _ _ _ _ _ _ _ _ _ _ (la_G_iff hG'' (fun u v hu hv => ?_))))
    constructor
    · rintro (z | z | z)
      · exact z.1
      · rw [z.1, z.2]
        exact hgab
      · rw [z.1, z.2]
        exact hg.1 a b ha hb hgab
    · intro z
      by_cases y : (u = a ∧ v = b) ∨ (u = b ∧ v = a)
      · exact Or.inr y
      · exact Or.inl ⟨z, y⟩
  · rw [hx]
    refine br_f (by decide) (fin _ _ _ _ _ _ _ _ _ _ (la_G_iff hG' (fun u v hu hv => ⟨fun z => z.1, fun z => ⟨z, fun y => hgab ?_⟩⟩)))
    rcases y with y | y
    · rw [y.1, y.2] at z
      exact z
    · rw [y.1, y.2] at z
      exact hg.1 b a hb ha z
end
section
/-! the law's own bit tables -/
def lb_t (x : Int64) (i : Nat) : Bool := x.toBitVec.getLsbD i
theorem lb_ext {x y : Int64} (h : ∀ i, i < 64 → lb_t x i = lb_t y i) : x = y := Int64.toBitVec_inj.mp (BitVec.eq_of_getLsbD_eq (fun i hi => h i hi))
theorem lb_or (x y : Int64) (i : Nat) : lb_t (x ||| y) i = (lb_t x i || lb_t y i) := by unfold lb_t; rw [Int64.toBitVec_or, BitVec.getLsbD_or]
theorem lb_and (x y : Int64) (i : Nat) : lb_t (x &&& y) i = (lb_t x i && lb_t y i) := by unfold lb_t; rw [Int64.toBitVec_and, BitVec.getLsbD_and]
theorem lb_xor (x y : Int64) (i : Nat) : lb_t (x ^^^ y) i = (lb_t x i ^^ lb_t y i) := by unfold lb_t; rw [Int64.toBitVec_xor, BitVec.getLsbD_xor]
theorem lb_m1 : ∀ i, i < 64 → lb_t (-1) i = true := by decide +kernel
theorem lb_0 (i : Nat) : lb_t 0 i = false := BitVec.getLsbD_zero
theorem lb_lit1 : ∀ i, i < 64 → lb_t 1 i = decide (i = 0) := by decide +kernel
theorem lb_one : ∀ n, n < 50 → ∀ i, i < 64 → lb_t ((1 : Int64) <<< ((nI n).toInt64 &&& 63)) i = decide (i = n) := by decide +kernel
theorem lb_sl : ∀ n, n < 50 → (((nI n).toInt64 &&& 63).toBitVec.smod 64).toNat = n := by decide +kernel
theorem lb_sshr0 {n : Nat} (hn : n < 50) (x : Int64) : lb_t (x >>> ((nI n).toInt64 &&& 63)) 0 = lb_t x n := by
  unfold lb_t
  rw [Int64.toBitVec_shiftRight]
  show (x.toBitVec.sshiftRight (((nI n).toInt64 &&& 63).toBitVec.smod 64).toNat).getLsbD 0 = _
  rw [lb_sl n hn, BitVec.getLsbD_sshiftRight]
  simp [show n < 64 by omega]
theorem lb_and1 (y : Int64) : (y &&& 1) = 1 ↔ lb_t y 0 = true := by
  constructor
  · intro h
    have := congrArg (fun z => lb_t z 0) h
    simp only [lb_and, lb_lit1 0 (by omega)] at this
    simpa using this
  · intro h
    refine lb_ext (fun i hi => ?_)
    rw [lb_and, lb_lit1 i hi]
    by_cases e : i = 0
    · rw [e, h]
      rfl
    · rw [decide_eq_false e, Bool.and_false]
def la_L (lo hi : Int64) (g : Nat → Nat → Prop) : Prop := ∀ a b, a < b → b < 10 → (lb_t (if 10 * a + b < 50 then lo else hi) ((10 * a + b) % 50) = true ↔ g a b)
theorem la_L_iff {lo hi : Int64} {g g' : Nat → Nat → Prop} (h : la_L lo hi g) (e : ∀ u v, u < 10 → v < 10 → (g u v ↔ g' u v)) : la_L lo hi g' := fun a b hab hb => (h a b hab hb).trans (e a b (by omega) hb)
theorem la_n50 {n : Nat} (h : n < 100) : nI n - nI n / 50 * 50 = nI (n % 50) := pk_rem (d := 50) (by omega) (by omega) (by omega)
theorem la_l26 {post : Int32 → Prop} {lo hi : Int64} {g : Nat → Nat → Prop} {c d : Nat} (hL : la_L lo hi g) (hcd : c < d) (hd : d < 10) (h1 : g c d → post 1) (h0 : ¬ g c d → post 0) : wL_line_26 post lo hi (nI (10 * c + d)) := by
  have key : ∀ z, (lb_t z ((10 * c + d) % 50) = true ↔ g c d) → wL_line_40 post (nI (10 * c + d)) z := by
    intro z hz
    unfold wL_line_40
    rw [la_n50 (show 10 * c + d < 100 by omega)]
    have e : ((z >>> ((nI ((10 * c + d) % 50)).toInt64 &&& 63)) &&& 1) = 1 ↔ g c d := by
      rw [lb_and1, lb_sshr0 (Nat.mod_lt _ (by omega)), hz]
    exact ⟨by decide, ek_if e h1 h0⟩
  have hh := hL c d hcd hd
  refine pk_le 50 (10 * c + d) (fun h => key hi ?_) (fun h => key lo ?_)
  · rw [if_neg (by omega)] at hh
    exact hh
  · rw [if_pos h] at hh
    exact hh
theorem la_ix (a b : Nat) : (10 : Int32) * nI a + nI b = nI (10 * a + b) := by
  show nI 10 * nI a + nI b = _
  rw [pk_mul, nI_add]
theorem la_line {post : Int32 → Prop} {lo hi : Int64} {g : Nat → Nat → Prop} {a b : Nat} (hg : wa_g g) (hL : la_L lo hi g) (ha : a < 10) (hb : b < 10) (hab : a ≠ b) (h1 : g a b → post 1) (h0 : ¬ g a b → post 0) : wpL_line post () lo hi (nI a) (nI b) := by
  unfold wpL_line
  rw [la_ix, la_ix]
  refine pk_le b a (fun h => ?_) (fun h => ?_)
  · exact la_l26 hL (by omega) ha (fun z => h1 (hg.1 b a hb ha z)) (fun z => h0 (fun y => z (hg.1 a b ha hb y)))
  · exact la_l26 hL h hb h1 h0
theorem la_L_on {lo hi : Int64} {g : Nat → Nat → Prop} {c d : Nat} (hL : la_L lo hi g) (hcd : c < d) (hd : d < 10) :
    (10 * c + d < 50 → la_L (lo ||| ((1 : Int64) <<< ((nI ((10 * c + d) % 50)).toInt64 &&& 63))) hi (la_on g c d)) ∧ (¬ 10 * c + d < 50 → la_L lo (hi ||| ((1 : Int64) <<< ((nI ((10 * c + d) % 50)).toInt64 &&& 63))) (la_on g c d)) := by
  have hk : (10 * c + d) % 50 < 50 := Nat.mod_lt _ (by omega)
  have key : ∀ a b, a < b → b < 10 → (la_on g c d a b ↔ g a b ∨ 10 * a + b = 10 * c + d) := by
    intro a b hab hb
    unfold la_on
    constructor
    · rintro (z | z | z)
      · exact Or.inl z
      · exact Or.inr (by omega)
      · exact absurd hab (by omega)
    · rintro (z | z)
      · exact Or.inl z
      · exact Or.inr (Or.inl (by omega))
  constructor
  · intro h a b hab hb
    have hh := hL a b hab hb
    rw [key a b hab hb]
    by_cases e : 10 * a + b < 50
    · rw [if_pos e] at hh ⊢
      rw [lb_or, Bool.or_eq_true, lb_one _ hk _ (by omega), decide_eq_true_eq, hh]
      exact ⟨fun z => z.elim Or.inl (fun z => Or.inr (by omega)), fun z => z.elim Or.inl (fun z => Or.inr (by omega))⟩
    · rw [if_neg e] at hh ⊢
      rw [hh]
      exact ⟨Or.inl, fun z => z.elim id (fun z => absurd h (by omega))⟩
  · intro h a b hab hb
    have hh := hL a b hab hb
    rw [key a b hab hb]
    by_cases e : 10 * a + b < 50
    · rw [if_pos e] at hh ⊢
      rw [hh]
      exact ⟨Or.inl, fun z => z.elim id (fun z => absurd h (by omega))⟩
    · rw [if_neg e] at hh ⊢
      rw [lb_or, Bool.or_eq_true, lb_one _ hk _ (by omega), decide_eq_true_eq, hh]
      exact ⟨fun z => z.elim Or.inl (fun z => Or.inr (by omega)), fun z => z.elim Or.inl (fun z => Or.inr (by omega))⟩
theorem lb_bnot {x : Int64} {k i : Nat} (hk : k < 50) (hi : i < 64) : lb_t (x &&& (((1 : Int64) <<< ((nI k).toInt64 &&& 63)) ^^^ (-1))) i = true ↔ lb_t x i = true ∧ i ≠ k := by
  rw [lb_and, lb_xor, lb_one k hk i hi, lb_m1 i hi, Bool.and_eq_true]
  by_cases e : i = k
  · rw [decide_eq_true e]
    exact ⟨fun z => absurd z.2 (by decide), fun z => absurd e z.2⟩
  · rw [decide_eq_false e]
    exact ⟨fun z => ⟨z.1, e⟩, fun z => ⟨z.1, rfl⟩⟩
theorem la_L_off {lo hi : Int64} {g : Nat → Nat → Prop} {c d : Nat} (hL : la_L lo hi g) (hcd : c < d) (hd : d < 10) :
    (10 * c + d < 50 → la_L (lo &&& (((1 : Int64) <<< ((nI ((10 * c + d) % 50)).toInt64 &&& 63)) ^^^ (-1))) hi (la_off g c d)) ∧ (¬ 10 * c + d < 50 → la_L lo (hi &&& (((1 : Int64) <<< ((nI ((10 * c + d) % 50)).toInt64 &&& 63)) ^^^ (-1))) (la_off g c d)) := by
  have hk : (10 * c + d) % 50 < 50 := Nat.mod_lt _ (by omega)
  have key : ∀ a b, a < b → b < 10 → (la_off g c d a b ↔ g a b ∧ 10 * a + b ≠ 10 * c + d) := by
    intro a b hab hb
    unfold la_off
    constructor
    · rintro ⟨z1, z2⟩
      exact ⟨z1, fun y => z2 (Or.inl (by omega))⟩
    · rintro ⟨z1, z2⟩
      refine ⟨z1, fun y => ?_⟩
      rcases y with y | y
      · exact z2 (by omega)
      · exact absurd hab (by omega)
  constructor
  · intro h a b hab hb
    have hh := hL a b hab hb
    rw [key a b hab hb]
    by_cases e : 10 * a + b < 50
    · rw [if_pos e] at hh ⊢
      rw [lb_bnot hk (by omega), hh]
      exact ⟨fun z => ⟨z.1, fun y => z.2 (by omega)⟩, fun z => ⟨z.1, fun y => z.2 (by omega)⟩⟩
    · rw [if_neg e] at hh ⊢
      rw [hh]
      exact ⟨fun z => ⟨z, by omega⟩, fun z => z.1⟩
  · intro h a b hab hb
    have hh := hL a b hab hb
    rw [key a b hab hb]
    by_cases e : 10 * a + b < 50
    · rw [if_pos e] at hh ⊢
      rw [hh]
      exact ⟨fun z => ⟨z, by omega⟩, fun z => z.1⟩
    · rw [if_neg e] at hh ⊢
      rw [lb_bnot hk (by omega), hh]
      exact ⟨fun z => ⟨z.1, fun y => z.2 (by omega)⟩, fun z => ⟨z.1, fun y => z.2 (by omega)⟩⟩
/-! holds -/
theorem la_204 {post : Int32 → St1 → Prop} {x9 z : Int32} {ab qe : Int32} {a1 a2 a3 a4 a5 a6 a7 a8 : Nat → Int32} {g : Nat → Nat → Prop} {a b k1 k2 : Nat} (hg : wa_g g) (hG : wa_G a1 g) (ha : a < 10) (hb : b < 10) (hab : a ≠ b) (n1 : la_N g la_0 k1) (n2 : la_N g (la_2 a b) k2)
    (hx : (x9 = 1 ∧ g a b ∧ k2 + 1 = k1) ∨ (x9 = 0 ∧ ¬ (g a b ∧ k2 + 1 = k1)))
    (H : ∀ ab qe a1 a2 a3 a4 a5 a6 a7 a8, wa_G a1 g → post 1 (ab, qe, a1, a2, a3, a4, a5, a6, a7, a8)) :
    wL_holds_204 post (nI a) (nI b) x9 z z ab qe a1 a2 a3 a4 a5 a6 a7 a8 := by
  have h0 : 0 ≤ x9 := by
    rcases hx with h | h
    · rw [h.1]
      decide
    · rw [h.1]
      decide
  unfold wL_holds_204
  refine br_t rfl (br_t h0 ?_)
  refine la_need hg hG ha hb hab (fun ab qe a1 a2 a3 a4 a5 a6 a7 a8 hG1 => br_t rfl (H _ _ _ _ _ _ _ _ _ _ hG1)) (fun k ab qe a1 a2 a3 a4 a5 a6 a7 a8 s1 s2 s3 s4 s5 hG1 => ?_)
  have hx1 : x9 = 1 := by
    rcases hx with h | h
    · exact h.1
    · exact absurd ⟨s2, (s5 k2 n2).trans (la_uniq s1 n1)⟩ h.2
  refine br_f (by decide) (br_t rfl (br_t hx1 ?_))
  refine la_spare hg hG1 ha (fun y => absurd y s3) (fun _ ab qe a1 a2 a3 a4 a5 a6 a7 a8 hG2 => br_t rfl ?_)
  exact la_spare hg hG2 hb (fun y => absurd y s4) (fun _ ab qe a1 a2 a3 a4 a5 a6 a7 a8 hG3 => br_t rfl (H _ _ _ _ _ _ _ _ _ _ hG3))
theorem la_174 {post : Int32 → St1 → Prop} {x9 x10 z : Int32} {ab qe : Int32} {a1 a2 a3 a4 a5 a6 a7 a8 : Nat → Int32} {g : Nat → Nat → Prop} {a b k1 k2 : Nat} (hg : wa_g g) (hG : wa_G a1 g) (ha : a < 10) (hb : b < 10) (hab : a ≠ b) (n1 : la_N g la_0 k1) (n2 : la_N g (la_2 a b) k2)
    (hx : (x9 = 1 ∧ g a b ∧ k2 + 1 = k1) ∨ (x9 = 0 ∧ ¬ (g a b ∧ k2 + 1 = k1))) (hz : z = x9) (h10 : (x10 = 1 ∧ g a b) ∨ (x10 = 0 ∧ ¬ g a b))
    (H : ∀ ab qe a1 a2 a3 a4 a5 a6 a7 a8, wa_G a1 g → post 1 (ab, qe, a1, a2, a3, a4, a5, a6, a7, a8)) :
    wL_holds_174 post (nI a) (nI b) (nI k1) x9 x10 z ab qe a1 a2 a3 a4 a5 a6 a7 a8 := by
  unfold wL_holds_174
  rcases h10 with ⟨h10, hgab⟩ | ⟨h10, hgab⟩
  · refine br_f (by rw [h10]; decide) ?_
    refine la_mostWithout hg hG (la_z2 ha hb) (fun k ab qe a1 a2 a3 a4 a5 a6 a7 a8 hk hN hG1 => ?_)
    have hkk := la_uniq hN n2
    rw [hkk]
    have e := la_m1 k1 (by have := la_le5 n1; omega) k2 (by have := la_le5 n2; omega)
    refine ek_if e (fun y => ?_) (fun y => ?_)
    · have : z = 1 := by
        rcases hx with h | h
        · rw [hz, h.1]
        · exact absurd ⟨hgab, y⟩ h.2
      rw [this]
      exact la_204 hg hG1 ha hb hab n1 n2 hx H
    · have : z = 0 := by
        rcases hx with h | h
        · exact absurd h.2.2 y
        · rw [hz, h.1]
      rw [this]
      exact la_204 hg hG1 ha hb hab n1 n2 hx H
  · refine br_t h10 ?_
    have : z = 0 := by
      rcases hx with h | h
      · exact absurd h.2.1 hgab
      · rw [hz, h.1]
    rw [this]
    exact la_204 hg hG ha hb hab n1 n2 hx H
theorem la_h35 {post : Int32 → St1 → Prop} {lo hi : Int64} {x8 : Int32} {g : Nat → Nat → Prop} {a b k : Nat} (hg : wa_g g) (hL : la_L lo hi g) (ha : a < 10) (hb : b < 10) (hk : k ≤ 5) (hN : la_N g la_0 k) (h8 : x8 = 0 ∨ k = 5)
    (H : ∀ ab qe a1 a2 a3 a4 a5 a6 a7 a8, wa_G a1 g → post 1 (ab, qe, a1, a2, a3, a4, a5, a6, a7, a8)) :
    ∀ (n i : Nat) (ab qe : Int32) (a1 a2 a3 a4 a5 a6 a7 a8 : Nat → Int32), i ≤ 10 → 10 - i < n → wa_G a1 g → wL_holds_35 post lo hi (nI a) (nI b) (nI k) x8 n (nI i) ab qe a1 a2 a3 a4 a5 a6 a7 a8 := by
  intro n
  induction n with
  | zero => intro i _ _ _ _ _ _ _ _ _ _ _ h; omega
  | succ n ih =>
    intro i ab qe a1 a2 a3 a4 a5 a6 a7 a8 hi10 hn hG
    refine wa_le10 hi10 (fun e => ?_) (fun hlt => ?_)
    · refine pk_eq a b (fun e => ?_) (fun hab => ?_)
      · subst e
        exact la_usable_eq ha (br_t rfl (la_needed_eq ha (br_t rfl (H _ _ _ _ _ _ _ _ _ _ hG))))
      · refine la_usable hg hG ha hb hab (fun x k1 k2 ab qe a1 a2 a3 a4 a5 a6 a7 a8 n1 n2 hx hG1 => ?_)
        rw [la_uniq hN n1]
        have fin : ∀ y z, ((y = 1 ∧ g a b) ∨ (y = 0 ∧ ¬ g a b)) → z = x → wL_holds_174 post (nI a) (nI b) (nI k1) x y z ab qe a1 a2 a3 a4 a5 a6 a7 a8 := fun y z hy hz => la_174 hg hG1 ha hb hab n1 n2 hx hz hy H
        have fin2 : ∀ y, ((y = 1 ∧ g a b) ∨ (y = 0 ∧ ¬ g a b)) → ((x = 1 → wL_holds_174 post (nI a) (nI b) (nI k1) x y 1 ab qe a1 a2 a3 a4 a5 a6 a7 a8) ∧ (¬ x = 1 → wL_holds_174 post (nI a) (nI b) (nI k1) x y 0 ab qe a1 a2 a3 a4 a5 a6 a7 a8)) := fun y hy => ⟨fun z => fin y 1 hy z.symm, fun z => fin y 0 hy (by
          rcases hx with h | h
          · exact absurd h.1 z
          · exact h.1.symm)⟩
        exact la_line hg hL ha hb hab (fun h => fin2 1 (Or.inl ⟨rfl, h⟩)) (fun h => fin2 0 (Or.inr ⟨rfl, h⟩))
    · have fin : ∀ (x z : Int32) ab qe a1 a2 a3 a4 a5 a6 a7 a8, wa_G a1 g → ((x = 1 ∧ la_sp g i) ∨ (x = 0 ∧ ¬ la_sp g i)) → z = x → wL_holds_61 post (wL_holds_35 post lo hi (nI a) (nI b) (nI k) x8 n) lo hi (nI a) (nI b) (nI k) x8 (nI i) x z ab qe a1 a2 a3 a4 a5 a6 a7 a8 := by
        intro x z ab qe a1 a2 a3 a4 a5 a6 a7 a8 hG1 hx hz
        unfold wL_holds_61
        refine la_mostWithout hg hG1 (la_z1 hlt) (fun k' ab qe a1 a2 a3 a4 a5 a6 a7 a8 hk' hN' hG2 => ?_)
        have e := la_spare_iff hlt hN hN'
        have go : wL_holds_79 post (wL_holds_35 post lo hi (nI a) (nI b) (nI k) x8 n) lo hi (nI a) (nI b) (nI k) x8 (nI i) x z z ab qe a1 a2 a3 a4 a5 a6 a7 a8 := by
          unfold wL_holds_79
          have J : ∀ x9 : Int32, x9 = nI i + 1 → wL_holds_35 post lo hi (nI a) (nI b) (nI k) x8 n x9 ab qe a1 a2 a3 a4 a5 a6 a7 a8 := nm_r (nI_1 i) (ih (i + 1) ab qe a1 a2 a3 a4 a5 a6 a7 a8 (by omega) (by omega) hG2)
          have hneg : ¬ x < 0 := by
            rcases hx with h | h
            · rw [h.1]
              decide
            · rw [h.1]
              decide
          refine br_t rfl (br_f hneg (br_c (fun _ => J) (fun y => br_t ?_ J)))
          rcases h8 with h8 | h8
          · exact absurd h8 y
          · rcases hx with h | h
            · rw [h8] at hN
              exact absurd h.2 (la_full hlt hN)
            · exact h.1
        refine pk_eq k' k (fun y => ?_) (fun y => ?_)
        · have : z = 1 := by
            rcases hx with h | h
            · rw [hz, h.1]
            · exact absurd (e.mpr y) h.2
          rw [this] at go ⊢
          exact go
        · have : z = 0 := by
            rcases hx with h | h
            · exact absurd (e.mp h.2) y
            · rw [hz, h.1]
          rw [this] at go ⊢
          exact go
      refine la_spare hg hG hlt (fun hs ab qe a1 a2 a3 a4 a5 a6 a7 a8 hG1 => ?_) (fun hs ab qe a1 a2 a3 a4 a5 a6 a7 a8 hG1 => ?_)
      · exact br_t rfl (fin 1 1 _ _ _ _ _ _ _ _ _ _ hG1 (Or.inl ⟨rfl, hs⟩) rfl)
      · exact br_f (by decide) (fin 0 0 _ _ _ _ _ _ _ _ _ _ hG1 (Or.inr ⟨rfl, hs⟩) rfl)
theorem la_holds {post : Int32 → St1 → Prop} {lo hi : Int64} {ab qe : Int32} {a1 a2 a3 a4 a5 a6 a7 a8 : Nat → Int32} {g : Nat → Nat → Prop} {a b : Nat} (hg : wa_g g) (hL : la_L lo hi g) (hG : wa_G a1 g) (ha : a < 10) (hb : b < 10)
    (H : ∀ ab qe a1 a2 a3 a4 a5 a6 a7 a8, wa_G a1 g → post 1 (ab, qe, a1, a2, a3, a4, a5, a6, a7, a8)) :
    wpL_holds post (ab, qe, a1, a2, a3, a4, a5, a6, a7, a8) lo hi (nI a) (nI b) := by
  unfold wpL_holds
  dsimp only
  refine la_most hg hG (fun k ab qe a1 a2 a3 a4 a5 a6 a7 a8 hk hN hG1 => ?_)
  have go : ∀ x8, (x8 = 0 ∨ k = 5) → wL_holds_17 post lo hi (nI a) (nI b) (nI k) x8 ab qe a1 a2 a3 a4 a5 a6 a7 a8 := fun x8 h8 =>
    br_f (nI_pos (by omega)) (pk_le k 5 (fun _ => ⟨11, la_h35 hg hL ha hb hk hN h8 H 11 0 ab qe a1 a2 a3 a4 a5 a6 a7 a8 (by omega) (by omega) hG1⟩) (fun h => absurd hk (by omega)))
  exact pk_eq k 5 (fun e => go 1 (Or.inr e)) (fun e => go 0 (Or.inl rfl))
end
section
/-! the law's loop -/
theorem la_on_sym {g : Nat → Nat → Prop} {a b c d : Nat} (h : (a = c ∧ b = d) ∨ (a = d ∧ b = c)) (u v : Nat) : la_on g c d u v ↔ la_on g a b u v := by
  unfold la_on
  rcases h with ⟨h1, h2⟩ | ⟨h1, h2⟩
  · rw [h1, h2]
  · rw [h1, h2]
    exact ⟨fun z => z.elim Or.inl (fun z => Or.inr (Or.symm z)), fun z => z.elim Or.inl (fun z => Or.inr (Or.symm z))⟩
theorem la_off_sym {g : Nat → Nat → Prop} {a b c d : Nat} (h : (a = c ∧ b = d) ∨ (a = d ∧ b = c)) (u v : Nat) : la_off g c d u v ↔ la_off g a b u v := by
  unfold la_off
  rcases h with ⟨h1, h2⟩ | ⟨h1, h2⟩
  · rw [h1, h2]
  · rw [h1, h2]
    exact ⟨fun z => ⟨z.1, fun y => z.2 (Or.symm y)⟩, fun z => ⟨z.1, fun y => z.2 (Or.symm y)⟩⟩
theorem la_255 (x : Int32) : ∃ j, j < 10 ∧ (x &&& 255) - (x &&& 255) / 10 * 10 = nI j := by
  obtain ⟨j, hj, e⟩ := pk_andE x (m := 255) 8 (by decide)
  refine ⟨j % 10, Nat.mod_lt _ (by omega), ?_⟩
  rw [e]
  exact pk_rem (d := 10) (by omega) (by omega) (by omega)
theorem la_261 {post : Int32 → Prop} {L : Nat} {xs : Nat → Int32} {J16 : Int64 → Int64 → Int32 → Int32 → Int32 → (Nat → Int32) → (Nat → Int32) → (Nat → Int32) → (Nat → Int32) → (Nat → Int32) → (Nat → Int32) → (Nat → Int32) → (Nat → Int32) → Prop} {lo hi : Int64} {kc ks : Nat} {ab qe : Int32} {a1 a2 a3 a4 a5 a6 a7 a8 : Nat → Int32} {g : Nat → Nat → Prop} {a b i : Nat} (hg : wa_g g) (hL : la_L lo hi g) (hG : wa_G a1 g) (ha : a < 10) (hb : b < 10) (hi3 : i + 3 ≤ L) (hL260 : L ≤ 260)
    (HJ : ∀ lo hi g ab qe a1 a2 a3 a4 a5 a6 a7 a8, wa_g g → la_L lo hi g → wa_G a1 g → J16 lo hi (nI (i + 3)) ab qe a1 a2 a3 a4 a5 a6 a7 a8) :
    wL_law_261 post L xs J16 lo hi (nI i) (nI a) (nI b) kc ks ab qe a1 a2 a3 a4 a5 a6 a7 a8 := by
  unfold wL_law_261
  refine la_holds hg hL hG ha hb (fun ab qe a1 a2 a3 a4 a5 a6 a7 a8 hG1 => br_f (by decide) ⟨by decide, ?_, by decide, ?_⟩)
  · exact pk_in (i + 2) L (by omega) (nI_add i 2) (by omega)
  · obtain ⟨j, hj, e⟩ := la_255 ((xs (nI i + 2).toNatClampNeg) >>> ((8 : Int32) &&& 31))
    rw [e, nI_1 a]
    rw [show nI (a + 1) - nI (a + 1) / 10 * 10 = nI ((a + 1) % 10) from pk_rem (d := 10) (by omega) (by omega) (by omega)]
    refine la_holds hg hL hG1 (Nat.mod_lt _ (by omega)) hj (fun ab qe a1 a2 a3 a4 a5 a6 a7 a8 hG2 => br_f (by decide) (nm_r (nI_add i 3) ?_))
    exact HJ lo hi g ab qe a1 a2 a3 a4 a5 a6 a7 a8 hg hL hG2
theorem la_152 {post : Int32 → Prop} {L : Nat} {xs : Nat → Int32} {J16 : Int64 → Int64 → Int32 → Int32 → Int32 → (Nat → Int32) → (Nat → Int32) → (Nat → Int32) → (Nat → Int32) → (Nat → Int32) → (Nat → Int32) → (Nat → Int32) → (Nat → Int32) → Prop} {lo hi : Int64} {z : Int32} {kc ks : Nat} {ab qe : Int32} {a1 a2 a3 a4 a5 a6 a7 a8 : Nat → Int32} {g : Nat → Nat → Prop} {a b i c d : Nat} (hg : wa_g g) (hL : la_L lo hi g) (hG : wa_G a1 (la_on g a b)) (ha : a < 10) (hb : b < 10) (hab : a ≠ b) (hi3 : i + 3 ≤ L) (hL260 : L ≤ 260)
    (hcd : c < d) (hcd2 : (a = c ∧ b = d) ∨ (a = d ∧ b = c)) (hd : d < 10)
    (HJ : ∀ lo hi g ab qe a1 a2 a3 a4 a5 a6 a7 a8, wa_g g → la_L lo hi g → wa_G a1 g → J16 lo hi (nI (i + 3)) ab qe a1 a2 a3 a4 a5 a6 a7 a8) :
    wL_law_152 post L xs J16 lo hi (nI i) (nI a) (nI b) (nI (10 * c + d)) ((1 : Int64) <<< ((nI ((10 * c + d) % 50)).toInt64 &&& 63)) z z kc ks ab qe a1 a2 a3 a4 a5 a6 a7 a8 := by
  obtain ⟨l1, l2⟩ := la_L_on hL hcd hd
  have hg1 : wa_g (la_on g a b) := la_on_g hg hab
  refine br_t rfl (pk_le 50 (10 * c + d) (fun h => ?_) (fun h => ?_))
  · refine pk_le 50 (10 * c + d) (fun _ => ?_) (fun h' => absurd h (by omega))
    exact la_261 hg1 (la_L_iff (l2 (by omega)) (fun u v _ _ => la_on_sym hcd2 u v)) hG ha hb hi3 hL260 HJ
  · refine pk_le 50 (10 * c + d) (fun h' => absurd h (by omega)) (fun _ => ?_)
    exact la_261 hg1 (la_L_iff (l1 h) (fun u v _ _ => la_on_sym hcd2 u v)) hG ha hb hi3 hL260 HJ
theorem la_213 {post : Int32 → Prop} {L : Nat} {xs : Nat → Int32} {J16 : Int64 → Int64 → Int32 → Int32 → Int32 → (Nat → Int32) → (Nat → Int32) → (Nat → Int32) → (Nat → Int32) → (Nat → Int32) → (Nat → Int32) → (Nat → Int32) → (Nat → Int32) → Prop} {lo hi : Int64} {z : Int32} {kc ks : Nat} {ab qe : Int32} {a1 a2 a3 a4 a5 a6 a7 a8 : Nat → Int32} {g : Nat → Nat → Prop} {a b i c d : Nat} (hg : wa_g g) (hL : la_L lo hi g) (hG : wa_G a1 (la_off g a b)) (ha : a < 10) (hb : b < 10) (hab : a ≠ b) (hi3 : i + 3 ≤ L) (hL260 : L ≤ 260)
    (hcd : c < d) (hcd2 : (a = c ∧ b = d) ∨ (a = d ∧ b = c)) (hd : d < 10)
    (HJ : ∀ lo hi g ab qe a1 a2 a3 a4 a5 a6 a7 a8, wa_g g → la_L lo hi g → wa_G a1 g → J16 lo hi (nI (i + 3)) ab qe a1 a2 a3 a4 a5 a6 a7 a8) :
    wL_law_213 post L xs J16 lo hi (nI i) (nI a) (nI b) (nI (10 * c + d)) ((1 : Int64) <<< ((nI ((10 * c + d) % 50)).toInt64 &&& 63)) z z kc ks ab qe a1 a2 a3 a4 a5 a6 a7 a8 := by
  obtain ⟨l1, l2⟩ := la_L_off hL hcd hd
  have hg1 : wa_g (la_off g a b) := la_off_g hg
  refine br_t rfl (pk_le 50 (10 * c + d) (fun h => ?_) (fun h => ?_))
  · refine pk_le 50 (10 * c + d) (fun _ => ?_) (fun h' => absurd h (by omega))
    exact la_261 hg1 (la_L_iff (l2 (by omega)) (fun u v _ _ => la_off_sym hcd2 u v)) hG ha hb hi3 hL260 HJ
  · refine pk_le 50 (10 * c + d) (fun h' => absurd h (by omega)) (fun _ => ?_)
    exact la_261 hg1 (la_L_iff (l1 h) (fun u v _ _ => la_off_sym hcd2 u v)) hG ha hb hi3 hL260 HJ
theorem la_98 {post : Int32 → Prop} {L : Nat} {xs : Nat → Int32} {J16 : Int64 → Int64 → Int32 → Int32 → Int32 → (Nat → Int32) → (Nat → Int32) → (Nat → Int32) → (Nat → Int32) → (Nat → Int32) → (Nat → Int32) → (Nat → Int32) → (Nat → Int32) → Prop} {lo hi : Int64} {x7 : Int32} {kc ks : Nat} {ab qe : Int32} {a1 a2 a3 a4 a5 a6 a7 a8 : Nat → Int32} {g : Nat → Nat → Prop} {a b i c d : Nat} (hg : wa_g g) (hL : la_L lo hi g) (hG : wa_G a1 g) (ha : a < 10) (hb : b < 10) (hi3 : i + 3 ≤ L) (hL260 : L ≤ 260)
    (hcd : (c = d ∧ a = b) ∨ (c < d ∧ ((a = c ∧ b = d) ∨ (a = d ∧ b = c)))) (hd : c < 10 ∧ d < 10)
    (HJ : ∀ lo hi g ab qe a1 a2 a3 a4 a5 a6 a7 a8, wa_g g → la_L lo hi g → wa_G a1 g → J16 lo hi (nI (i + 3)) ab qe a1 a2 a3 a4 a5 a6 a7 a8) :
    wL_law_98 post L xs J16 lo hi (nI i) x7 (nI a) (nI b) (nI (10 * c + d)) kc ks ab qe a1 a2 a3 a4 a5 a6 a7 a8 := by
  unfold wL_law_98
  rw [la_n50 (show 10 * c + d < 100 by omega)]
  refine ⟨by decide, nm_e (pk_eq a b (fun _ => la_261 hg hL hG ha hb hi3 hL260 HJ) (fun hab => ?_))⟩
  have hlt : c < d ∧ ((a = c ∧ b = d) ∨ (a = d ∧ b = c)) := by
    rcases hcd with h | h
    · exact absurd h.2 hab
    · exact h
  obtain ⟨hcd, hcd2⟩ := hlt
  refine la_line hg hL ha hb hab (fun h => br_c (fun _ => ?_) (fun _ => ?_)) (fun h => br_c (fun _ => ?_) (fun _ => ?_))
  · refine la_part hG ha hb hab (fun x a1' hx hG1 => br_f (by decide) ?_)
    have hx1 : x = 1 := hx.elim (fun z => z.1) (fun z => absurd h z.2)
    rw [hx1]
    exact la_213 hg hL hG1 ha hb hab hi3 hL260 hcd hcd2 hd.2 HJ
  · refine la_join hG ha hb hab (fun x a1' hx hG1 => br_f (by decide) ?_)
    have hx1 : x = 0 := hx.elim (fun z => z.1) (fun z => absurd h z.2)
    rw [hx1]
    exact la_152 hg hL hG1 ha hb hab hi3 hL260 hcd hcd2 hd.2 HJ
  · refine la_part hG ha hb hab (fun x a1' hx hG1 => br_t rfl ?_)
    have hx1 : x = 0 := hx.elim (fun z => absurd z.2 h) (fun z => z.1)
    rw [hx1]
    exact la_213 hg hL hG1 ha hb hab hi3 hL260 hcd hcd2 hd.2 HJ
  · refine la_join hG ha hb hab (fun x a1' hx hG1 => br_t rfl ?_)
    have hx1 : x = 1 := hx.elim (fun z => absurd z.2 h) (fun z => z.1)
    rw [hx1]
    exact la_152 hg hL hG1 ha hb hab hi3 hL260 hcd hcd2 hd.2 HJ
theorem la_law16 {post : Int32 → Prop} {L : Nat} {xs : Nat → Int32} {kc ks : Nat} (hL260 : L ≤ 260) (H : post 1) :
    ∀ (n i : Nat) (lo hi : Int64) (g : Nat → Nat → Prop) (ab qe : Int32) (a1 a2 a3 a4 a5 a6 a7 a8 : Nat → Int32), i ≤ 160 → 200 - i < n → wa_g g → la_L lo hi g → wa_G a1 g → wL_law_16 post L xs kc ks n lo hi (nI i) ab qe a1 a2 a3 a4 a5 a6 a7 a8 := by
  intro n
  induction n with
  | zero => intro i _ _ _ _ _ _ _ _ _ _ _ _ _ _ h; omega
  | succ n ih =>
    intro i lo hi g ab qe a1 a2 a3 a4 a5 a6 a7 a8 hi160 hn hg hL hG
    refine pk_lt L (i + 3) (fun _ => H) (fun h3 => pk_le 150 i (fun _ => H) (fun h150 => ⟨pk_in i L (by omega) rfl (by omega), nm_e ⟨pk_in (i + 1) L (by omega) (nI_add i 1) (by omega), by decide, ?_⟩⟩)) rfl (nI_add i 3) (by omega) (by omega)
    obtain ⟨a, ha, ea⟩ := la_255 (xs (nI i + 1).toNatClampNeg)
    obtain ⟨b, hb, eb⟩ := la_255 (xs (nI i + 2).toNatClampNeg)
    rw [ea, eb]
    refine nm_e ⟨pk_in (i + 2) L (by omega) (nI_add i 2) (by omega), by decide, nm_e ?_⟩
    rw [la_ix, la_ix]
    have HJ : ∀ lo hi g ab qe a1 a2 a3 a4 a5 a6 a7 a8, wa_g g → la_L lo hi g → wa_G a1 g → wL_law_16 post L xs kc ks n lo hi (nI (i + 3)) ab qe a1 a2 a3 a4 a5 a6 a7 a8 :=
      fun lo hi g ab qe a1 a2 a3 a4 a5 a6 a7 a8 h1 h2 h4 => ih (i + 3) lo hi g ab qe a1 a2 a3 a4 a5 a6 a7 a8 (by omega) (by omega) h1 h2 h4
    refine pk_le b a (fun h => ?_) (fun h => ?_)
    · exact la_98 hg hL hG ha hb h3 hL260 (by omega) ⟨hb, ha⟩ HJ
    · exact la_98 hg hL hG ha hb h3 hL260 (by omega) ⟨ha, hb⟩ HJ
theorem i_vc (xs : Nat → Int32) (L : Nat) (hL : L ≤ 260) : wpL_law (fun r => r = 1) L xs := by
  refine ⟨8, 80, by omega, by omega, ?_⟩
  refine ⟨by omega, by omega, by omega, by omega, by omega, by omega, by omega, by omega, by omega, by omega, by omega, by omega, by omega, by omega, by omega, by omega, 201, ?_⟩
  refine la_law16 (post := fun r => r = 1) hL rfl 201 0 0 0 (fun _ _ => False) 0 0 _ _ _ _ _ _ _ _ (by omega) (by omega) ⟨fun _ _ _ _ h => h, fun _ _ h => h⟩ (fun a b _ _ => ?_) (fun u v _ _ => ?_)
  · rw [show (if 10 * a + b < 50 then (0 : Int64) else 0) = 0 by split <;> rfl, lb_0]
    exact ⟨fun h => absurd h (by decide), fun h => absurd h id⟩
  · show bi_t 0 v = true ↔ False
    rw [bi_0]
    exact ⟨fun h => absurd h (by decide), fun h => absurd h id⟩
end
