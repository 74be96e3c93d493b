section
variable {post : Int32 → Prop} {co ta pl st x1 : Int32} {a1 a2 a3 a4 a5 a6 a7 a8 a9 a10 : Nat → Int32} {n : Nat} {C P : Nat → Nat}
/-- the parts as the readers see them: n tasks, task k in part 2 k on core 0, its deadline its period; no other part is placed -/
def ed_rd (n : Nat) (C P : Nat → Nat) (a2 a3 a4 a5 : Nat → Int32) : Prop :=
  (∀ k, k < n → a2 k = nI (P k) ∧ a3 (2 * k) = 0 ∧ a4 (2 * k) = nI (C k) ∧ a5 (2 * k) = nI (P k)) ∧
  (∀ i, i < 26 → (i % 2 = 1 ∨ 2 * n ≤ i) → a3 i = -1)
/-- a period: it divides the cycle -/
def ed_per (p : Nat) : Prop := 1 ≤ p ∧ p ≤ 60 ∧ p * (60 / p) = 60
def ed_pr (n : Nat) (C P : Nat → Nat) : Prop := n ≤ 13 ∧ ∀ k, k < n → ed_per (P k) ∧ C k ≤ 60
/-- the load -/
def ed_L (C P : Nat → Nat) : Nat → Nat
  | 0 => 0
  | n + 1 => ed_L C P n + C n * (60 / P n)
/-- how many tasks stand below place i -/
def ed_m (n i : Nat) : Nat := min n ((i + 1) / 2)
theorem ed_m0 (n : Nat) : ed_m n 0 = 0 := by unfold ed_m; omega
theorem ed_m26 (h : n ≤ 13) : ed_m n 26 = n := by unfold ed_m; omega
theorem ed_q60 {p : Nat} (h : ed_per p) : 60 / p ≤ 60 := Nat.div_le_self 60 p
theorem ed_Lb (h : ed_pr n C P) : ∀ m, m ≤ n → ed_L C P m ≤ 3600 * m := by
  intro m
  induction m with
  | zero => intro _; exact Nat.le_refl 0
  | succ m ih =>
    intro hm
    have h1 := ih (by omega)
    have h2 := h.2 m (by omega)
    have h3 : C m * (60 / P m) ≤ 60 * 60 := Nat.mul_le_mul h2.2 (ed_q60 h2.1)
    show ed_L C P m + C m * (60 / P m) ≤ 3600 * (m + 1)
    omega
theorem ed_cs (hr : ed_rd n C P a2 a3 a4 a5) {i : Nat} (hi : i < 26) :
    (∃ k, k < n ∧ i = 2 * k ∧ ed_m n i = k ∧ ed_m n (i + 1) = k + 1 ∧ a3 i = 0 ∧ a2 (i / 2) = nI (P k) ∧ a4 i = nI (C k) ∧ a5 i = nI (P k)) ∨
    (¬ a3 i = 0 ∧ ed_m n (i + 1) = ed_m n i) := by
  by_cases h : i % 2 = 1 ∨ 2 * n ≤ i
  · refine Or.inr ⟨?_, ?_⟩
    · rw [hr.2 i hi h]
      decide
    · unfold ed_m
      omega
  · refine Or.inl ⟨i / 2, by omega, by omega, by unfold ed_m; omega, by unfold ed_m; omega, ?_⟩
    have h1 := hr.1 (i / 2) (by omega)
    rw [show 2 * (i / 2) = i by omega] at h1
    exact ⟨h1.2.1, h1.1, h1.2.2.1, h1.2.2.2⟩
theorem ed_h {i : Nat} (hi : i < 64) : nI i / 2 = nI (i / 2) := pk_div (d := 2) (by omega) (by decide) (by decide)
theorem ed_hc {i : Nat} (hi : i < 64) : (nI i / 2).toNatClampNeg = i / 2 := by
  rw [ed_h hi, nI_clamp (by omega)]
theorem ed_hv {i : Nat} (hi : i < 26) : vp_in (nI i / 2) 13 := by
  rw [ed_h (by omega)]
  exact vp_in_nI (by omega) (by decide)
theorem ed_20 : ¬ (2 : Int32) = 0 := by decide
theorem ed_load (hr : ed_rd n C P a2 a3 a4 a5) (hp : ed_pr n C P) (H : post (nI (ed_L C P n))) :
    wpX_loadOf post (co, ta, pl, st, a1, a2, a3, a4, a5, a6, a7, a8, a9, a10) 0 := by
  refine pk_loop (fun k i s => wX_loadOf_4 post 0 co ta pl st a1 a2 a3 a4 a5 a6 a7 a8 a9 a10 k s (nI i)) (fun i s => s = nI (ed_L C P (ed_m n i))) 26 0 0 (by omega) ?_ ?_ ?_
  · rw [ed_m0]
    rfl
  · intro k s hs
    refine pk_le 26 26 (fun _ => ?_) (fun z => absurd z (by omega))
    rw [hs, ed_m26 hp.1]
    exact H
  · intro k i s hi hs hw
    refine pk_le 26 i (fun z => absurd z (by omega)) (fun _ => ⟨pk_in i 26 hi, ?_⟩)
    rw [nI_clamp (show i < 2 ^ 31 by omega), ed_hc (show i < 64 by omega)]
    rcases ed_cs hr hi with ⟨j, hj, e, m1, m2, e3, e2, e4, e5⟩ | ⟨e3, m2⟩
    · have hq := (hp.2 j hj).1
      rw [e2, e4]
      refine br_t e3 ⟨pk_in i 26 hi, ed_20, ed_hv hi, nI_ne0 (by have := hq.1; omega) (by have := hq.2.1; omega), nm_e (nm_r (nI_1 i) (hw _ ?_))⟩
      rw [m2, hs, m1]
      show nI (ed_L C P j) + nI (C j) * (nI 60 / nI (P j)) = nI (ed_L C P j + C j * (60 / P j))
      rw [pk_div (by omega) hq.1 (by have := hq.2.1; omega), pk_mul, nI_add]
    · exact br_f e3 (nm_r (nI_1 i) (hw _ (by rw [m2]; exact hs)))
theorem ed_least (hr : ed_rd n C P a2 a3 a4 a5) (hp : ed_pr n C P) (H : ∀ m, m ≤ 60 → post (nI m)) :
    wpX_leastDeadline post (co, ta, pl, st, a1, a2, a3, a4, a5, a6, a7, a8, a9, a10) 0 := by
  refine pk_loop (fun k i s => wX_leastDeadline_5 post 0 co ta pl st a1 a2 a3 a4 a5 a6 a7 a8 a9 a10 k s (nI i)) (fun _ s => ∃ m : Nat, m ≤ 60 ∧ s = nI m) 26 0 60 (by omega) ⟨60, by omega, rfl⟩ ?_ ?_
  · intro k s ⟨m, hm, hs⟩
    refine pk_le 26 26 (fun _ => ?_) (fun z => absurd z (by omega))
    rw [hs]
    exact H m hm
  · intro k i s hi ⟨m, hm, hs⟩ hw
    refine pk_le 26 i (fun z => absurd z (by omega)) (fun _ => ⟨pk_in i 26 hi, ?_⟩)
    rw [nI_clamp (show i < 2 ^ 31 by omega)]
    rcases ed_cs hr hi with ⟨j, hj, e, m1, m2, e3, e2, e4, e5⟩ | ⟨e3, m2⟩
    · have hq := (hp.2 j hj).1
      rw [e5]
      refine br_t e3 ⟨pk_in i 26 hi, br_c (fun _ => nm_r (nI_1 i) (hw _ ⟨m, hm, hs⟩)) (fun _ => ⟨pk_in i 26 hi, nm_e (nm_r (nI_1 i) (hw _ ⟨P j, hq.2.1, rfl⟩))⟩)⟩
    · exact br_f e3 (nm_r (nI_1 i) (hw _ ⟨m, hm, hs⟩))
theorem ed_dm {t p c D l : Nat} (hp : ed_per p) (ht : p ≤ t) (h : 60 * D ≤ t * l) : 60 * (D + ((t - p) / p + 1) * c) ≤ t * (l + c * (60 / p)) := by
  have e : (t - p) / p + 1 = t / p := by
    have := Nat.add_div_right (t - p) hp.1
    rw [show t - p + p = t by omega] at this
    exact this.symm
  rw [e]
  have h1 : t / p * p ≤ t := Nat.div_mul_le_self t p
  have h2 : 60 * (t / p * c) ≤ t * (c * (60 / p)) := by
    calc 60 * (t / p * c) = (p * (60 / p)) * (t / p * c) := by rw [hp.2.2]
      _ = (t / p * p) * (c * (60 / p)) := by
        ac_rfl
      _ ≤ t * (c * (60 / p)) := Nat.mul_le_mul_right _ h1
  rw [Nat.mul_add, Nat.mul_add]
  omega
theorem ed_demand (hr : ed_rd n C P a2 a3 a4 a5) (hp : ed_pr n C P) {t : Nat} (ht : t ≤ 60) (H : ∀ D, 60 * D ≤ t * ed_L C P n → post (nI D)) :
    wpX_demand post (co, ta, pl, st, a1, a2, a3, a4, a5, a6, a7, a8, a9, a10) 0 (nI t) := by
  refine pk_loop (fun k i s => wX_demand_5 post 0 (nI t) co ta pl st a1 a2 a3 a4 a5 a6 a7 a8 a9 a10 k s (nI i)) (fun i s => ∃ D : Nat, 60 * D ≤ t * ed_L C P (ed_m n i) ∧ s = nI D) 26 0 0 (by omega) ⟨0, by omega, rfl⟩ ?_ ?_
  · intro k s ⟨D, hD, hs⟩
    refine pk_le 26 26 (fun _ => ?_) (fun z => absurd z (by omega))
    rw [ed_m26 hp.1] at hD
    rw [hs]
    exact H D hD
  · intro k i s hi ⟨D, hD, hs⟩ hw
    refine pk_le 26 i (fun z => absurd z (by omega)) (fun _ => ⟨pk_in i 26 hi, ?_⟩)
    rw [nI_clamp (show i < 2 ^ 31 by omega), ed_hc (show i < 64 by omega)]
    rcases ed_cs hr hi with ⟨j, hj, e, m1, m2, e3, e2, e4, e5⟩ | ⟨e3, m2⟩
    · have hq := (hp.2 j hj).1
      have hq1 := hq.1
      have hq2 := hq.2.1
      rw [m1] at hD
      rw [e2, e4, e5]
      refine br_t e3 ⟨pk_in i 26 hi, pk_lt t (P j) (fun z => nm_r (nI_1 i) (hw _ ⟨D, ?_, hs⟩)) (fun z => ⟨pk_in i 26 hi, ed_20, ed_hv hi, nI_ne0 (by omega) (by omega), pk_in i 26 hi, nm_e (nm_r (nI_1 i) (hw _ ⟨D + ((t - P j) / P j + 1) * C j, ?_, ?_⟩))⟩)⟩
      · rw [m2]
        exact Nat.le_trans hD (Nat.mul_le_mul_left t (Nat.le_add_right _ _))
      · rw [m2]
        exact ed_dm hq z hD
      · rw [hs, pk_sub z, pk_div (by omega) hq1 (by omega), nI_1, pk_mul, nI_add]
    · exact br_f e3 (nm_r (nI_1 i) (hw _ ⟨D, by rw [m2]; exact hD, hs⟩))
theorem ed_before (hr : ed_rd n C P a2 a3 a4 a5) (hp : ed_pr n C P) {t : Nat} (ht : t ≤ 60) (h1 : 1 ≤ t) (H : ∀ m, m < t → post (nI m)) :
    wpX_deadlineBefore post (co, ta, pl, st, a1, a2, a3, a4, a5, a6, a7, a8, a9, a10) 0 (nI t) := by
  refine pk_loop (fun k i s => wX_deadlineBefore_5 post 0 (nI t) co ta pl st a1 a2 a3 a4 a5 a6 a7 a8 a9 a10 k s (nI i)) (fun _ s => ∃ m : Nat, m < t ∧ s = nI m) 26 0 0 (by omega) ⟨0, by omega, rfl⟩ ?_ ?_
  · intro k s ⟨m, hm, hs⟩
    refine pk_le 26 26 (fun _ => ?_) (fun z => absurd z (by omega))
    rw [hs]
    exact H m hm
  · intro k i s hi ⟨m, hm, hs⟩ hw
    refine pk_le 26 i (fun z => absurd z (by omega)) (fun _ => ⟨pk_in i 26 hi, ?_⟩)
    rw [nI_clamp (show i < 2 ^ 31 by omega), ed_hc (show i < 64 by omega)]
    rcases ed_cs hr hi with ⟨j, hj, e, m1, m2, e3, e2, e4, e5⟩ | ⟨e3, m2⟩
    · have hq := (hp.2 j hj).1
      have hq1 := hq.1
      have hq2 := hq.2.1
      rw [e2, e5]
      refine br_t e3 ⟨pk_in i 26 hi, pk_le t (P j) (fun z => nm_r (nI_1 i) (hw _ ⟨m, hm, hs⟩)) (fun z => ⟨pk_in i 26 hi, pk_in i 26 hi, ed_20, ed_hv hi, nI_ne0 (by omega) (by omega), ed_20, ed_hv hi, nm_r (e' := nI (P j + (t - 1 - P j) / P j * P j)) ?_ (br_c (fun _ => nm_r (nI_1 i) (hw _ ⟨m, hm, hs⟩)) (fun _ => nm_r (nI_1 i) (hw _ ⟨P j + (t - 1 - P j) / P j * P j, ?_, rfl⟩)))⟩)⟩
      · show nI (P j) + (nI t - nI 1 - nI (P j)) / nI (P j) * nI (P j) = _
        rw [pk_sub h1, pk_sub (show P j ≤ t - 1 by omega), pk_div (by omega) hq1 (by omega), pk_mul, nI_add]
      · have := Nat.div_mul_le_self (t - 1 - P j) (P j)
        omega
    · exact br_f e3 (nm_r (nI_1 i) (hw _ ⟨m, hm, hs⟩))
end
section
variable {post : Int32 → Prop} {co ta pl st x1 : Int32} {a1 a2 a3 a4 a5 a6 a7 a8 a9 a10 : Nat → Int32} {n : Nat} {C P : Nat → Nat}
theorem ed_dL {D t L : Nat} (h : 60 * D ≤ t * L) (hL : L ≤ 60) : D ≤ t := by
  have : t * L ≤ t * 60 := Nat.mul_le_mul_left t hL
  omega
theorem ed_ploop (hr : ed_rd n C P a2 a3 a4 a5) (hp : ed_pr n C P) (hL : ed_L C P n ≤ 60) {l D : Nat} (hl : l ≤ 60) (hD : D ≤ 60) (H : post 1) :
    ∃ fu, wX_passes_36 post 0 (nI l) co ta pl st a1 a2 a3 a4 a5 a6 a7 a8 a9 a10 fu 60 (nI D) 0 := by
  refine pk_loop (fun k i s => wX_passes_36 post 0 (nI l) co ta pl st a1 a2 a3 a4 a5 a6 a7 a8 a9 a10 k s.1 s.2 (nI i)) (fun i s => ∃ t E : Nat, t + i ≤ 60 ∧ E ≤ t ∧ s = (nI t, nI E)) 62 0 (60, nI D) (by omega) ⟨60, D, by omega, hD, rfl⟩ ?_ ?_
  · intro k s ⟨t, E, h1, h2, hs⟩
    exact absurd h1 (by omega)
  · intro k i s hi ⟨t, E, h1, h2, hs⟩ hw
    subst hs
    have hJ : ∀ t', t' + (i + 1) ≤ 60 → wX_passes_75 post (wX_passes_36 post 0 (nI l) co ta pl st a1 a2 a3 a4 a5 a6 a7 a8 a9 a10 k) 0 (nI l) (nI i) (nI t') co ta pl st a1 a2 a3 a4 a5 a6 a7 a8 a9 a10 := by
      intro t' ht'
      refine ed_demand hr hp (t := t') (by omega) (fun D' hD' => nm_r (nI_1 i) ?_)
      exact hw (nI t', nI D') ⟨t', D', ht', ed_dL hD' hL, rfl⟩
    have h92 : E ≤ l → wX_passes_92 post (nI l) (nI t) (nI E) co ta pl st a1 a2 a3 a4 a5 a6 a7 a8 a9 a10 := fun g => pk_lt t E (fun z => absurd z (by omega)) (fun _ => pk_lt l E (fun z => absurd z (by omega)) (fun _ => H))
    refine pk_le 62 i (fun z => absurd z (by omega)) (fun _ => pk_lt t E (fun z => absurd z (by omega)) (fun _ => pk_le E l (fun z => h92 z) (fun z => pk_le t E (fun g => ?_) (fun g => hJ E (by omega)))))
    exact ed_before hr hp (t := t) (by omega) (by omega) (fun m hm => hJ m (by omega))
theorem ed_passes (hr : ed_rd n C P a2 a3 a4 a5) (hp : ed_pr n C P) (H : post (if ed_L C P n ≤ 60 then 1 else 0)) :
    wpX_passes post (co, ta, pl, st, a1, a2, a3, a4, a5, a6, a7, a8, a9, a10) 0 := by
  have hb := ed_Lb hp n (Nat.le_refl n)
  have hn := hp.1
  refine ed_load hr hp (pk_le (ed_L C P n) 60 (fun z => ?_) (fun z => ?_))
  · rw [if_pos z] at H
    exact ed_least hr hp (fun l hl => ed_demand hr hp (t := 60) (by omega) (fun D hD => ed_ploop hr hp z hl (ed_dL hD z) H))
  · rw [if_neg (by omega)] at H
    exact H
/-! the same walks where nothing is asked but an answer -/
def ed_nz (x1 : Int32) (a2 a3 : Nat → Int32) : Prop := ∀ i, i < 26 → a3 i = x1 → ¬ a2 (i / 2) = 0
theorem ed_loadA (hz : ed_nz x1 a2 a3) (H : ∀ r, post r) : wpX_loadOf post (co, ta, pl, st, a1, a2, a3, a4, a5, a6, a7, a8, a9, a10) x1 := by
  refine pk_loop (fun k i s => wX_loadOf_4 post x1 co ta pl st a1 a2 a3 a4 a5 a6 a7 a8 a9 a10 k s (nI i)) (fun _ _ => True) 26 0 0 (by omega) trivial ?_ ?_
  · intro k s _
    exact pk_le 26 26 (fun _ => H s) (fun z => absurd z (by omega))
  · intro k i s hi _ hw
    refine pk_le 26 i (fun z => absurd z (by omega)) (fun _ => ⟨pk_in i 26 hi, ?_⟩)
    rw [nI_clamp (show i < 2 ^ 31 by omega), ed_hc (show i < 64 by omega)]
    exact br_c (fun e => ⟨pk_in i 26 hi, ed_20, ed_hv hi, hz i hi e, nm_e (nm_r (nI_1 i) (hw _ trivial))⟩) (fun _ => nm_r (nI_1 i) (hw _ trivial))
theorem ed_leastA (H : ∀ r, post r) : wpX_leastDeadline post (co, ta, pl, st, a1, a2, a3, a4, a5, a6, a7, a8, a9, a10) x1 := by
  refine pk_loop (fun k i s => wX_leastDeadline_5 post x1 co ta pl st a1 a2 a3 a4 a5 a6 a7 a8 a9 a10 k s (nI i)) (fun _ _ => True) 26 0 60 (by omega) trivial ?_ ?_
  · intro k s _
    exact pk_le 26 26 (fun _ => H s) (fun z => absurd z (by omega))
  · intro k i s hi _ hw
    refine pk_le 26 i (fun z => absurd z (by omega)) (fun _ => ⟨pk_in i 26 hi, ?_⟩)
    exact br_c (fun e => ⟨pk_in i 26 hi, br_c (fun _ => nm_r (nI_1 i) (hw _ trivial)) (fun _ => ⟨pk_in i 26 hi, nm_e (nm_r (nI_1 i) (hw _ trivial))⟩)⟩) (fun _ => nm_r (nI_1 i) (hw _ trivial))
theorem ed_demandA (hz : ed_nz x1 a2 a3) {t : Int32} (H : ∀ r, post r) : wpX_demand post (co, ta, pl, st, a1, a2, a3, a4, a5, a6, a7, a8, a9, a10) x1 t := by
  refine pk_loop (fun k i s => wX_demand_5 post x1 t co ta pl st a1 a2 a3 a4 a5 a6 a7 a8 a9 a10 k s (nI i)) (fun _ _ => True) 26 0 0 (by omega) trivial ?_ ?_
  · intro k s _
    exact pk_le 26 26 (fun _ => H s) (fun z => absurd z (by omega))
  · intro k i s hi _ hw
    refine pk_le 26 i (fun z => absurd z (by omega)) (fun _ => ⟨pk_in i 26 hi, ?_⟩)
    rw [nI_clamp (show i < 2 ^ 31 by omega), ed_hc (show i < 64 by omega)]
    exact br_c (fun e => ⟨pk_in i 26 hi, br_c (fun _ => nm_r (nI_1 i) (hw _ trivial)) (fun _ => ⟨pk_in i 26 hi, ed_20, ed_hv hi, hz i hi e, pk_in i 26 hi, nm_e (nm_r (nI_1 i) (hw _ trivial))⟩)⟩) (fun _ => nm_r (nI_1 i) (hw _ trivial))
theorem ed_beforeA (hz : ed_nz x1 a2 a3) {t : Int32} (H : ∀ r, post r) : wpX_deadlineBefore post (co, ta, pl, st, a1, a2, a3, a4, a5, a6, a7, a8, a9, a10) x1 t := by
  refine pk_loop (fun k i s => wX_deadlineBefore_5 post x1 t co ta pl st a1 a2 a3 a4 a5 a6 a7 a8 a9 a10 k s (nI i)) (fun _ _ => True) 26 0 0 (by omega) trivial ?_ ?_
  · intro k s _
    exact pk_le 26 26 (fun _ => H s) (fun z => absurd z (by omega))
  · intro k i s hi _ hw
    refine pk_le 26 i (fun z => absurd z (by omega)) (fun _ => ⟨pk_in i 26 hi, ?_⟩)
    rw [nI_clamp (show i < 2 ^ 31 by omega), ed_hc (show i < 64 by omega)]
    exact br_c (fun e => ⟨pk_in i 26 hi, br_c (fun _ => nm_r (nI_1 i) (hw _ trivial)) (fun _ => ⟨pk_in i 26 hi, pk_in i 26 hi, ed_20, ed_hv hi, hz i hi e, ed_20, ed_hv hi, nm_e (br_c (fun _ => nm_r (nI_1 i) (hw _ trivial)) (fun _ => nm_r (nI_1 i) (hw _ trivial)))⟩)⟩) (fun _ => nm_r (nI_1 i) (hw _ trivial))
theorem ed_passesA (hz : ed_nz x1 a2 a3) (H : ∀ r, (r = 0 ∨ r = 1) → post r) : wpX_passes post (co, ta, pl, st, a1, a2, a3, a4, a5, a6, a7, a8, a9, a10) x1 := by
  have H0 := H 0 (Or.inl rfl)
  have H1 := H 1 (Or.inr rfl)
  have h92 : ∀ u v w, wX_passes_92 post u v w co ta pl st a1 a2 a3 a4 a5 a6 a7 a8 a9 a10 := fun u v w => br_c (fun _ => H0) (fun _ => br_c (fun _ => H0) (fun _ => H1))
  refine ed_loadA hz (fun r => br_c (fun _ => ed_leastA (fun l => ed_demandA hz (fun D => ?_))) (fun _ => H0))
  refine pk_loop (fun k i s => wX_passes_36 post x1 l co ta pl st a1 a2 a3 a4 a5 a6 a7 a8 a9 a10 k s.1 s.2 (nI i)) (fun _ _ => True) 62 0 (60, D) (by omega) trivial ?_ ?_
  · intro k s _
    exact pk_le 62 62 (fun _ => h92 _ _ _) (fun z => absurd z (by omega))
  · intro k i s hi _ hw
    have hJ : ∀ t', wX_passes_75 post (wX_passes_36 post x1 l co ta pl st a1 a2 a3 a4 a5 a6 a7 a8 a9 a10 k) x1 l (nI i) t' co ta pl st a1 a2 a3 a4 a5 a6 a7 a8 a9 a10 :=
      fun t' => ed_demandA hz (fun D' => nm_r (nI_1 i) (hw (t', D') trivial))
    exact pk_le 62 i (fun z => absurd z (by omega)) (fun _ => br_c (fun _ => h92 _ _ _) (fun _ => br_c (fun _ => h92 _ _ _) (fun _ => br_c (fun _ => ed_beforeA hz (fun m => hJ m)) (fun _ => hJ _))))
end
section
variable {co ta pl st x1 : Int32} {a1 a2 a3 a4 a5 a6 a7 a8 a9 a10 : Nat → Int32} {n : Nat} {C P : Nat → Nat}
def ed_up (C : Nat → Nat) (n c : Nat) : Nat → Nat := fun k => if k = n then c else C k
theorem ed_upS (C : Nat → Nat) (n c : Nat) : ed_up C n c n = c := if_pos rfl
theorem ed_upN (C : Nat → Nat) {n c k : Nat} (h : k ≠ n) : ed_up C n c k = C k := if_neg h
theorem ed_LupB (C P : Nat → Nat) (n c p : Nat) : ∀ m, m ≤ n → ed_L (ed_up C n c) (ed_up P n p) m = ed_L C P m := by
  intro m
  induction m with
  | zero => intro _; rfl
  | succ m ih =>
    intro hm
    show ed_L (ed_up C n c) (ed_up P n p) m + ed_up C n c m * (60 / ed_up P n p m) = ed_L C P m + C m * (60 / P m)
    rw [ih (by omega), ed_upN C (by omega), ed_upN P (by omega)]
theorem ed_Lup (C P : Nat → Nat) (n c p : Nat) : ed_L (ed_up C n c) (ed_up P n p) (n + 1) = ed_L C P n + c * (60 / p) := by
  show ed_L (ed_up C n c) (ed_up P n p) n + ed_up C n c n * (60 / ed_up P n p n) = _
  rw [ed_LupB C P n c p n (Nat.le_refl n), ed_upS, ed_upS]
theorem ed_prup {c p : Nat} (h : ed_pr n C P) (hn : n < 13) (hp : ed_per p) (hc : c ≤ 60) : ed_pr (n + 1) (ed_up C n c) (ed_up P n p) := by
  refine ⟨by omega, fun k hk => ?_⟩
  by_cases e : k = n
  · rw [e, ed_upS, ed_upS]
    exact ⟨hp, hc⟩
  · rw [ed_upN C e, ed_upN P e]
    exact h.2 k (by omega)
theorem ed_rdup {c p : Nat} (h : ed_rd n C P a2 a3 a4 a5) (ha : a2 n = nI p) : ed_rd (n + 1) (ed_up C n c) (ed_up P n p) a2 (upd a3 (2 * n) 0) (upd a4 (2 * n) (nI c)) (upd a5 (2 * n) (nI p)) := by
  refine ⟨fun k hk => ?_, fun i hi hd => ?_⟩
  · by_cases e : k = n
    · rw [e, ed_upS, ed_upS, pk_us, pk_us, pk_us]
      exact ⟨ha, rfl, rfl, rfl⟩
    · rw [ed_upN C e, ed_upN P e, pk_un (by omega), pk_un (by omega), pk_un (by omega)]
      exact h.1 k (by omega)
  · rw [pk_un (by omega)]
    exact h.2 i hi (by omega)
theorem ed_rdoff {v w z : Int32} (h : ed_rd n C P a2 a3 a4 a5) : ed_rd n C P a2 (upd (upd a3 (2 * n) v) (2 * n) (-1)) (upd a4 (2 * n) w) (upd a5 (2 * n) z) := by
  refine ⟨fun k hk => ?_, fun i hi hd => ?_⟩
  · rw [pk_un (by omega), pk_un (by omega), pk_un (by omega), pk_un (by omega)]
    exact h.1 k hk
  · by_cases e : i = 2 * n
    · rw [e, pk_us]
    · rw [pk_un e, pk_un e]
      exact h.2 i hi hd
theorem ed_rda2 {v : Int32} (h : ed_rd n C P a2 a3 a4 a5) : ed_rd n C P (upd a2 n v) a3 a4 a5 := by
  refine ⟨fun k hk => ?_, h.2⟩
  rw [pk_un (by omega)]
  exact h.1 k hk
theorem ed_nzup (h : ed_rd n C P a2 a3 a4 a5) (hp : ed_pr n C P) (ha : ¬ a2 n = 0) : ed_nz 0 a2 (upd a3 (2 * n) 0) := by
  intro i hi e
  by_cases g : i = 2 * n
  · rw [g, show 2 * n / 2 = n by omega]
    exact ha
  · rw [pk_un g] at e
    rcases ed_cs h hi with ⟨j, hj, _, _, _, _, e2, _, _⟩ | ⟨e3, _⟩
    · have hq := (hp.2 j hj).1
      rw [e2]
      exact nI_ne0 hq.1 (by have := hq.2.1; omega)
    · exact absurd e e3
theorem ed_nar {r : Int32} (h : r = 0 ∨ r = 1) : narrow .boolean (.int r) = .int r := by
  rcases h with h | h
  · subst h; rfl
  · subst h; rfl
theorem ed_if01 (c : Prop) [Decidable c] : (if c then (1 : Int32) else 0) = 0 ∨ (if c then (1 : Int32) else 0) = 1 := by
  by_cases h : c
  · rw [if_pos h]; exact Or.inr rfl
  · rw [if_neg h]; exact Or.inl rfl
theorem ed_set {post : St2 → Prop} {i : Int32} {v w z : Int32} (hi : i = nI (2 * n)) (hn : n < 13)
    (H : post (co, ta, pl, st, a1, a2, upd a3 (2 * n) v, upd a4 (2 * n) w, upd a5 (2 * n) z, a6, a7, a8, a9, a10)) :
    wpX_setPart post (co, ta, pl, st, a1, a2, a3, a4, a5, a6, a7, a8, a9, a10) i v w z := by
  have e : i.toNatClampNeg = 2 * n := pk_cl (2 * n) hi
  have g : vp_in i 26 := pk_in (2 * n) 26 (by omega) hi
  refine ⟨g, nm_r (by rw [e]) ⟨g, nm_r (by rw [e]) ⟨g, nm_r (by rw [e]) H⟩⟩⟩
theorem ed_pw {post : Int32 → St2 → Prop} {i : Int32} {c p : Nat} (hi : i = nI (2 * n)) (hn : n < 13) (hr : ed_rd n C P a2 a3 a4 a5) (hp : ed_pr n C P) (ha : a2 n = nI p) (hq : ed_per p) (hc : c ≤ 60)
    (H : ∀ b3 b4 b5, ed_rd n C P a2 b3 b4 b5 → post (if ed_L C P n + c * (60 / p) ≤ 60 then 1 else 0) (co, ta, pl, st, a1, a2, b3, b4, b5, a6, a7, a8, a9, a10)) :
    wpX_passesWith post (co, ta, pl, st, a1, a2, a3, a4, a5, a6, a7, a8, a9, a10) 0 i (nI c) (nI p) := by
  have e : i.toNatClampNeg = 2 * n := pk_cl (2 * n) hi
  have g : vp_in i 26 := pk_in (2 * n) 26 (by omega) hi
  unfold wpX_passesWith
  refine ed_set hi hn ?_
  refine ed_passes (ed_rdup hr ha) (ed_prup hp hn hq hc) ⟨g, nm_r (by rw [e]) ⟨ed_nar (ed_if01 _), ?_⟩⟩
  rw [ed_Lup]
  exact H _ _ _ (ed_rdoff hr)
theorem ed_pwA {post : Int32 → St2 → Prop} {i : Int32} {x y : Int32} (hi : i = nI (2 * n)) (hn : n < 13) (hr : ed_rd n C P a2 a3 a4 a5) (hp : ed_pr n C P) (ha : ¬ a2 n = 0)
    (H : ∀ r b3 b4 b5, ed_rd n C P a2 b3 b4 b5 → post r (co, ta, pl, st, a1, a2, b3, b4, b5, a6, a7, a8, a9, a10)) :
    wpX_passesWith post (co, ta, pl, st, a1, a2, a3, a4, a5, a6, a7, a8, a9, a10) 0 i x y := by
  have e : i.toNatClampNeg = 2 * n := pk_cl (2 * n) hi
  have g : vp_in i 26 := pk_in (2 * n) 26 (by omega) hi
  unfold wpX_passesWith
  refine ed_set hi hn ?_
  exact ed_passesA (ed_nzup hr hp ha) (fun r h01 => ⟨g, nm_r (by rw [e]) ⟨ed_nar h01, H r _ _ _ (ed_rdoff hr)⟩⟩)
theorem ed_2n (n : Nat) : 2 * nI n = nI (2 * n) := pk_mul 2 n
theorem ed_whole {post : Int32 → St2 → Prop} {c p : Nat} (hn : n < 13) (hr : ed_rd n C P a2 a3 a4 a5) (hp : ed_pr n C P) (ha : a2 n = nI p) (hq : ed_per p) (hc : c ≤ 60)
    (H1 : ed_L C P n + c * (60 / p) ≤ 60 → ∀ b3 b4 b5, ed_rd (n + 1) (ed_up C n c) (ed_up P n p) a2 b3 b4 b5 → post 1 (1, ta, pl, st, a1, a2, b3, b4, b5, a6, a7, a8, a9, a10))
    (H0 : ¬ ed_L C P n + c * (60 / p) ≤ 60 → ∀ b3 b4 b5, ed_rd n C P a2 b3 b4 b5 → post 0 (1, ta, pl, st, a1, a2, b3, b4, b5, a6, a7, a8, a9, a10)) :
    wpX_placeWhole post (1, ta, pl, st, a1, a2, a3, a4, a5, a6, a7, a8, a9, a10) (nI n) (nI c) (nI p) := by
  refine ⟨2, pk_le 1 0 (fun z => absurd z (by omega)) (fun _ => ed_pw (ed_2n n) hn hr hp ha hq hc (fun b3 b4 b5 hb => ?_))⟩
  by_cases z : ed_L C P n + c * (60 / p) ≤ 60
  · rw [if_pos z]
    exact br_f (by decide) (ed_set (ed_2n n) hn (H1 z _ _ _ (ed_rdup hb ha)))
  · rw [if_neg z]
    exact br_t rfl (nm_r (nI_1 0) (pk_le 1 1 (fun _ => H0 z _ _ _ hb) (fun z => absurd z (by omega))))
theorem ed_rest {post : Int32 → St2 → Prop} {x3 x4 : Int32} (H : post (-1) (1, ta, pl, st, a1, a2, a3, a4, a5, a6, a7, a8, a9, a10)) :
    wpX_coreForRest post (1, ta, pl, st, a1, a2, a3, a4, a5, a6, a7, a8, a9, a10) x1 0 x3 x4 :=
  ⟨2, pk_le 1 0 (fun z => absurd z (by omega)) (fun _ => br_t rfl (nm_r (nI_1 0) (pk_le 1 1 (fun _ => H) (fun z => absurd z (by omega)))))⟩
theorem ed_split {post : Int32 → St2 → Prop} {x c d : Int32} (hn : n < 13) (hr : ed_rd n C P a2 a3 a4 a5) (hp : ed_pr n C P) (ha : ¬ a2 n = 0)
    (H : ∀ b3 b4 b5, ed_rd n C P a2 b3 b4 b5 → post 0 (1, ta, pl, st, a1, a2, b3, b4, b5, a6, a7, a8, a9, a10)) :
    wpX_placeSplit post (1, ta, pl, st, a1, a2, a3, a4, a5, a6, a7, a8, a9, a10) (nI n) x c d := by
  have h2 : ∀ x5 b3 b4 b5, ed_rd n C P a2 b3 b4 b5 → wX_placeSplit_9 post (nI n) x c d 1 x5 (-1) (nI 1) 1 ta pl st a1 a2 b3 b4 b5 a6 a7 a8 a9 a10 :=
    fun x5 b3 b4 b5 hb => pk_le 1 1 (fun _ => br_f (by decide) (H _ _ _ hb)) (fun z => absurd z (by omega))
  refine ⟨2, pk_le 1 0 (fun z => absurd z (by omega)) (fun _ => br_f (by decide) (ed_pwA (ed_2n n) hn hr hp ha (fun r b3 b4 b5 hb => ?_)))⟩
  exact br_c (fun _ => nm_r (nI_1 0) (h2 _ _ _ _ hb)) (fun _ => ed_rest (br_t (by decide) (nm_r (nI_1 0) (h2 _ _ _ _ hb))))
theorem ed_badP {post : Int32 → Prop} {p : Nat} (h2 : 2 ≤ p) (hq : ed_per p) (H : post 0) : wpX_badPeriod post () (nI p) := by
  have hq2 := hq.2.1
  have e : 60 % p = 0 := by
    have := Nat.div_add_mod 60 p
    have := hq.2.2
    omega
  refine pk_lt p 2 (fun z => absurd z (by omega)) (fun _ => pk_lt 60 p (fun z => absurd z (by omega)) (fun _ => ⟨nI_ne0 (by omega) (by omega), br_t ?_ H⟩))
  show nI 60 - nI 60 / nI p * nI p = 0
  rw [pk_rem (by omega) (by omega) (by omega), e]
  rfl
/-- the flags -/
def ed_us (n : Nat) (a1 : Nat → Int32) : Prop := (∀ k, k < n → a1 k = 1) ∧ (∀ k, n ≤ k → k < 13 → a1 k = 0)
theorem ed_free {post : Int32 → Prop} (hn : n < 12) (hu : ed_us n a1) (H : post (nI n)) : wpX_freeId post (co, ta, pl, st, a1, a2, a3, a4, a5, a6, a7, a8, a9, a10) := by
  refine pk_loop (σ := Unit) (fun k i _ => wX_freeId_2 post co ta pl st a1 a2 a3 a4 a5 a6 a7 a8 a9 a10 k (nI i)) (fun _ _ => True) n 0 () (by omega) trivial ?_ ?_
  · intro k _ _
    refine pk_le 12 n (fun z => absurd z (by omega)) (fun _ => ⟨pk_in n 13 (by omega), br_t ?_ H⟩)
    rw [nI_clamp (by omega)]
    exact hu.2 n (by omega) (by omega)
  · intro k i _ hi _ hw
    refine pk_le 12 i (fun z => absurd z (by omega)) (fun _ => ⟨pk_in i 13 (by omega), br_f ?_ (nm_r (nI_1 i) (hw () trivial))⟩)
    rw [nI_clamp (by omega), hu.1 i hi]
    decide
theorem ed_usup (hn : n < 13) (hu : ed_us n a1) : ed_us (n + 1) (upd a1 n 1) := by
  refine ⟨fun k hk => ?_, fun k hk h13 => ?_⟩
  · by_cases e : k = n
    · rw [e, pk_us]
    · rw [pk_un e]
      exact hu.1 k (by omega)
  · rw [pk_un (by omega)]
    exact hu.2 k (by omega) h13
theorem ed_usdn (hn : n < 13) (hu : ed_us (n + 1) a1) : ed_us n (upd a1 n 0) := by
  refine ⟨fun k hk => ?_, fun k hk h13 => ?_⟩
  · rw [pk_un (by omega)]
    exact hu.1 k (by omega)
  · by_cases e : k = n
    · rw [e, pk_us]
    · rw [pk_un e]
      exact hu.2 k (by omega) h13
theorem ed_rng {c : Int32} {p : Nat} (hp : p < 2 ^ 31) (h1 : ¬ c < 1) (h2 : ¬ nI p < c) : ∃ m, c = nI m ∧ 1 ≤ m ∧ m ≤ p := by
  have h0 : ¬ c < 0 := by
    intro z
    apply h1
    rw [Int32.lt_iff_toInt_lt] at z ⊢
    have e0 : (0 : Int32).toInt = 0 := by decide
    have e1 : (1 : Int32).toInt = 1 := by decide
    omega
  obtain ⟨j, hj, e⟩ := nI_of h0
  subst e
  refine ⟨j, rfl, ?_, ?_⟩
  · have : ¬ nI j < nI 1 := h1
    rw [nI_ltI hj (by decide)] at this
    omega
  · rw [nI_ltI hp hj] at h2
    omega
theorem ed_admit {post : Int32 → St2 → Prop} {c : Int32} {p : Nat} (hn : n < 12) (hr : ed_rd n C P a2 a3 a4 a5) (hp : ed_pr n C P) (hu : ed_us n a1) (h2 : 2 ≤ p) (hq : ed_per p)
    (Hb : (c < 1 ∨ nI p < c) → post (-2) (1, nI n, pl, st, a1, a2, a3, a4, a5, a6, a7, a8, a9, a10))
    (H1 : ∀ m, c = nI m → 1 ≤ m → m ≤ p → ed_L C P n + m * (60 / p) ≤ 60 → ∀ b1 b2 b3 b4 b5, ed_us (n + 1) b1 → ed_rd (n + 1) (ed_up C n m) (ed_up P n p) b2 b3 b4 b5 → post (nI n) (1, nI (n + 1), (-1), st, b1, b2, b3, b4, b5, a6, a7, a8, a9, a10))
    (H0 : ∀ m, c = nI m → 1 ≤ m → m ≤ p → ¬ ed_L C P n + m * (60 / p) ≤ 60 → ∀ b2 b3 b4 b5, ed_rd n C P b2 b3 b4 b5 → post (-4) (1, nI n, pl, st, a1, b2, b3, b4, b5, a6, a7, a8, a9, a10)) :
    wpX_admit post (1, nI n, pl, st, a1, a2, a3, a4, a5, a6, a7, a8, a9, a10) c (nI p) (nI p) := by
  have hq2 := hq.2.1
  unfold wpX_admit
  refine ed_badP h2 hq ?_
  refine br_t rfl (br_c (fun z => Hb (Or.inl z)) (fun z1 => br_c (fun z => Hb (Or.inr z)) (fun z2 => ?_)))
  obtain ⟨m, rfl, hm1, hm2⟩ := ed_rng (show p < 2 ^ 31 by omega) z1 z2
  refine pk_lt p 1 (fun z => absurd z (by omega)) (fun _ => pk_lt p p (fun z => absurd z (by omega)) (fun _ => pk_le m p (fun _ => pk_lt n 12 (fun _ => ?_) (fun z => absurd z (by omega))) (fun z => absurd z (by omega))))
  refine ed_free hn hu ⟨pk_in n 13 (by omega), nm_r (by rw [nI_clamp (by omega)]) ?_⟩
  have ha : upd a2 n (nI p) n = nI p := pk_us
  have hr' : ed_rd n C P (upd a2 n (nI p)) a3 a4 a5 := ed_rda2 hr
  refine ed_whole (by omega) hr' hp ha hq (by omega) (fun z b3 b4 b5 hb => ?_) (fun z b3 b4 b5 hb => ?_)
  · refine nm_r (e' := nI (m - 1)) (pk_sub (b := 1) hm1) ⟨1, ?_⟩
    have g : wX_admit_107 post (nI n) 1 1 (nI n) pl st a1 (upd a2 n (nI p)) b3 b4 b5 a6 a7 a8 a9 a10 :=
      br_f (by decide) ⟨pk_in n 13 (by omega), nm_r (by rw [nI_clamp (by omega)]) (nm_r (nI_1 n) (H1 m rfl hm1 hm2 z _ _ _ _ _ (ed_usup (by omega) hu) hb))⟩
    exact br_c (fun _ => g) (fun _ => br_f (by decide) g)
  · refine nm_r (e' := nI (m - 1)) (pk_sub (b := 1) hm1) ⟨m - 1 + 1, ?_⟩
    refine pk_loopD (fun k i s => wX_admit_78 post (nI m) (nI p) (nI n) k 0 (nI i) 1 (nI n) pl st a1 (upd a2 n (nI p)) s.1 s.2.1 s.2.2 a6 a7 a8 a9 a10) (fun i s => i ≤ 60 ∧ ed_rd n C P (upd a2 n (nI p)) s.1 s.2.1 s.2.2) ?_ ?_ (m - 1) (b3, b4, b5) ⟨by omega, hb⟩
    · intro k s ⟨_, hs⟩
      exact pk_lt 0 1 (fun _ => br_t rfl (H0 m rfl hm1 hm2 z _ _ _ _ hs)) (fun z => absurd z (by omega))
    · intro k i s ⟨hi, hs⟩ hw
      refine pk_lt (i + 1) 1 (fun z => absurd z (by omega)) (fun _ => br_t rfl (ed_split (by omega) hs hp (by rw [ha]; exact nI_ne0 (by omega) (by omega)) (fun b3 b4 b5 hb => nm_r (pk_m1 i) (hw (b3, b4, b5) ⟨by omega, hb⟩))))
end
section
variable {co ta pl st x1 : Int32} {a1 a2 a3 a4 a5 a6 a7 a8 a9 a10 : Nat → Int32} {n : Nat} {C P : Nat → Nat}
theorem ed_badC {post : Int32 → Prop} (H : post 0) : wpX_badCore post (1, ta, pl, st, a1, a2, a3, a4, a5, a6, a7, a8, a9, a10) 0 :=
  br_f (by decide) (br_t (by decide) H)
theorem ed_mid {lo hi : Nat} (h : hi ≤ 61) (hl : lo < hi) : (nI lo + nI hi) / 2 = nI ((lo + hi) / 2) := by
  rw [nI_add]
  exact pk_div (d := 2) (by omega) (by decide) (by decide)
theorem ed_halve {post : Int32 → St2 → Prop} {p : Nat} (hn : n < 13) (hp : ed_pr n C P) (ha : a2 n = nI p) (hq : ed_per p) (hL : ed_L C P n ≤ 60)
    (hr : ed_rd n C P a2 a3 a4 a5)
    (H : ∀ lo, ed_L C P n + lo * (60 / p) ≤ 60 → 60 < ed_L C P n + (lo + 1) * (60 / p) → ∀ b3 b4 b5, ed_rd n C P a2 b3 b4 b5 → post (nI lo) (co, ta, pl, st, a1, a2, b3, b4, b5, a6, a7, a8, a9, a10)) :
    ∃ fu, wX_spare_40 post 0 (nI p) (nI n) fu 0 (nI (p + 1)) co ta pl st a1 a2 a3 a4 a5 a6 a7 a8 a9 a10 := by
  have hq2 := hq.2.1
  refine loop_m (σ := Nat × Nat × (Nat → Int32) × (Nat → Int32) × (Nat → Int32)) (fun k s => wX_spare_40 post 0 (nI p) (nI n) k (nI s.1) (nI s.2.1) co ta pl st a1 a2 s.2.2.1 s.2.2.2.1 s.2.2.2.2 a6 a7 a8 a9 a10)
    (fun s => s.1 < s.2.1 ∧ s.2.1 ≤ 61 ∧ ed_L C P n + s.1 * (60 / p) ≤ 60 ∧ 60 < ed_L C P n + s.2.1 * (60 / p) ∧ ed_rd n C P a2 s.2.2.1 s.2.2.2.1 s.2.2.2.2) (fun s => s.2.1 - s.1) ?_ (0, p + 1, a3, a4, a5) ⟨?_, ?_, ?_, ?_, hr⟩
  · intro k s
    obtain ⟨lo, hi, b3, b4, b5⟩ := s
    intro ⟨h1, h2, h3, h4, hb⟩ hw
    dsimp only at h1 h2 h3 h4 hb hw ⊢
    refine pk_le (hi - lo) 1 (fun z => ?_) (fun z => ⟨ed_20, nm_r (ed_mid h2 h1) (ed_pw (ed_2n n) hn hb hp ha hq (c := (lo + hi) / 2) (by omega) (fun c3 c4 c5 hc => ?_))⟩) (pk_sub (by omega)) rfl
    · have e : hi = lo + 1 := by omega
      rw [e] at h4
      exact H lo h3 h4 _ _ _ hb
    · by_cases g : ed_L C P n + (lo + hi) / 2 * (60 / p) ≤ 60
      · rw [if_pos g]
        exact br_f (by decide) (hw ((lo + hi) / 2, hi, c3, c4, c5) ⟨by dsimp only; omega, h2, g, h4, hc⟩ (by dsimp only; omega))
      · rw [if_neg g]
        exact br_t rfl (hw (lo, (lo + hi) / 2, c3, c4, c5) ⟨by dsimp only; omega, by dsimp only; omega, h3, by dsimp only; omega, hc⟩ (by dsimp only; omega))
  · show 0 < p + 1
    omega
  · show p + 1 ≤ 61
    omega
  · show ed_L C P n + 0 * (60 / p) ≤ 60
    omega
  · show 60 < ed_L C P n + (p + 1) * (60 / p)
    have h1 : 1 ≤ 60 / p := by
      rcases Nat.eq_zero_or_pos (60 / p) with z | z
      · have := hq.2.2
        rw [z] at this
        omega
      · exact z
    rw [Nat.add_mul, hq.2.2]
    omega
theorem ed_spare {post : Int32 → St2 → Prop} {p : Nat} (hn : n < 12) (hr : ed_rd n C P a2 a3 a4 a5) (hp : ed_pr n C P) (hu : ed_us n a1) (h2 : 2 ≤ p) (hq : ed_per p) (hL : ed_L C P n ≤ 60)
    (H : ∀ lo, ed_L C P n + lo * (60 / p) ≤ 60 → 60 < ed_L C P n + (lo + 1) * (60 / p) → ∀ b2 b3 b4 b5, ed_rd n C P b2 b3 b4 b5 → post (nI lo) (1, ta, pl, st, a1, b2, b3, b4, b5, a6, a7, a8, a9, a10)) :
    wpX_spare post (1, ta, pl, st, a1, a2, a3, a4, a5, a6, a7, a8, a9, a10) 0 (nI p) := by
  unfold wpX_spare
  refine ed_badC ?_
  refine br_t rfl ?_
  refine ed_badP h2 hq ?_
  refine br_t rfl ?_
  refine ed_free hn hu ⟨pk_in n 13 (by omega), nm_r (by rw [nI_clamp (by omega)]) (nm_r (nI_1 p) ?_)⟩
  exact ed_halve (by omega) hp pk_us hq hL (ed_rda2 hr) (fun lo h h' b3 b4 b5 hb => H lo h h' _ _ _ _ hb)
theorem ed_ld {post : Int32 → Prop} (hr : ed_rd n C P a2 a3 a4 a5) (hp : ed_pr n C P) (H : post (nI (ed_L C P n))) :
    wpX_load post (1, ta, pl, st, a1, a2, a3, a4, a5, a6, a7, a8, a9, a10) 0 := by
  unfold wpX_load
  refine ed_badC ?_
  exact br_t rfl (ed_load hr hp H)
/-- id: the last task's place, or the first free one -/
theorem ed_noT {post : Int32 → Prop} {d : Nat} (hd : d < 12) (hu : ed_us n a1) (H1 : n ≤ d → post 1) (H0 : d < n → post 0) :
    wpX_noTask post (co, ta, pl, st, a1, a2, a3, a4, a5, a6, a7, a8, a9, a10) (nI d) := by
  refine pk_lt d 0 (fun z => absurd z (by omega)) (fun _ => pk_le 12 d (fun z => absurd z (by omega)) (fun _ => ⟨pk_in d 13 (by omega), ?_⟩))
  rw [nI_clamp (by omega)]
  by_cases h : d < n
  · rw [hu.1 d h]
    exact br_f (by decide) (H0 h)
  · exact br_t (hu.2 d (by omega) (by omega)) (H1 (by omega))
theorem ed_2n1 (n : Nat) : 2 * nI n + 1 = nI (2 * n + 1) := by rw [ed_2n, nI_1]
theorem ed_fc {post : Int32 → Prop} {d : Nat} (hd : d < 12) (hu : ed_us n a1) (H1 : n ≤ d → post (-5)) (H0 : d < n → post (a4 (2 * d))) :
    wpX_firstCost post (co, ta, pl, st, a1, a2, a3, a4, a5, a6, a7, a8, a9, a10) (nI d) := by
  unfold wpX_firstCost
  refine ed_noT hd hu (fun z => ?_) (fun z => ?_)
  · exact br_f (by decide) (H1 z)
  · refine br_t rfl ⟨pk_in (2 * d) 26 (by omega) (ed_2n d), ?_⟩
    rw [pk_cl (2 * d) (ed_2n d)]
    exact H0 z
theorem ed_sc {post : Int32 → Prop} {d : Nat} (hd : d < 12) (hu : ed_us n a1) (hr : ed_rd n C P a2 a3 a4 a5) (H1 : n ≤ d → post (-5)) (H0 : d < n → post (-4)) :
    wpX_secondCore post (co, ta, pl, st, a1, a2, a3, a4, a5, a6, a7, a8, a9, a10) (nI d) := by
  unfold wpX_secondCore
  refine ed_noT hd hu (fun z => ?_) (fun z => ?_)
  · exact br_f (by decide) (H1 z)
  · refine br_t rfl ⟨pk_in (2 * d + 1) 26 (by omega) (ed_2n1 d), ?_⟩
    rw [pk_cl (2 * d + 1) (ed_2n1 d), hr.2 (2 * d + 1) (by omega) (by omega)]
    exact br_f (by decide) (H0 z)
theorem ed_rddn (hr : ed_rd (n + 1) C P a2 a3 a4 a5) : ed_rd n C P a2 (upd (upd a3 (2 * n) (-1)) (2 * n + 1) (-1)) a4 a5 := by
  refine ⟨fun k hk => ?_, fun i hi hd => ?_⟩
  · rw [pk_un (by omega), pk_un (by omega)]
    exact hr.1 k (by omega)
  · by_cases e : i = 2 * n + 1
    · rw [e, pk_us]
    · rw [pk_un e]
      by_cases e' : i = 2 * n
      · rw [e', pk_us]
      · rw [pk_un e']
        exact hr.2 i hi (by omega)
theorem ed_rm {post : Int32 → St2 → Prop} {d : Nat} (hd : d < 12) (hu : ed_us n a1) (hr : ed_rd n C P a2 a3 a4 a5)
    (H1 : n ≤ d → post (-5) (co, nI n, pl, st, a1, a2, a3, a4, a5, a6, a7, a8, a9, a10))
    (H0 : n = d + 1 → ∀ b1 b3, ed_us d b1 → ed_rd d C P a2 b3 a4 a5 → post (nI d) (co, nI d, (-1), st, b1, a2, b3, a4, a5, a6, a7, a8, a9, a10)) (hl : n ≤ d + 1) :
    wpX_remove post (co, nI n, pl, st, a1, a2, a3, a4, a5, a6, a7, a8, a9, a10) (nI d) := by
  unfold wpX_remove
  refine ed_noT hd hu (fun z => ?_) (fun z => ?_)
  · exact br_f (by decide) (H1 z)
  · have e : n = d + 1 := by omega
    subst e
    refine br_t rfl ⟨pk_in d 13 (by omega), nm_r (by rw [nI_clamp (by omega)]) ⟨pk_in (2 * d) 26 (by omega) (ed_2n d), nm_r (by rw [pk_cl (2 * d) (ed_2n d)]) ⟨pk_in (2 * d + 1) 26 (by omega) (ed_2n1 d), nm_r (by rw [pk_cl (2 * d + 1) (ed_2n1 d)]) (nm_r (nI_pred d) (H0 rfl _ _ (ed_usdn (by omega) hu) (ed_rddn hr)))⟩⟩⟩
theorem ed_init {post : St2 → Prop} {mc ms : Nat} (hc : 10 ≤ mc) (hs : 310 ≤ ms) (H : ∀ b3, ed_rd 0 C P (fun _ => 0) b3 (fun _ => 0) (fun _ => 0) → post (1, 0, (-1), 0, (fun _ => 0), (fun _ => 0), b3, (fun _ => 0), (fun _ => 0), (fun _ => 0), (fun _ => 0), (fun _ => 0), (fun _ => 0), (fun _ => 0))) :
    wpX_init post mc ms (0, 0, 0, 0) 1 := by
  unfold wpX_init
  refine ⟨by omega, by omega, by omega, by omega, by omega, by omega, by omega, by omega, by omega, by omega, by omega, by omega, by omega, by omega, by omega, by omega, by omega, by omega, by omega, by omega, br_t (by decide) (br_t (by decide) ?_)⟩
  refine pk_loop (fun k i s => wX_init_107 post mc ms 10 310 1 0 0 0 k (nI i) (fun _ => 0) (fun _ => 0) s (fun _ => 0) (fun _ => 0) (fun _ => 0) (fun _ => 0) (fun _ => 0) (fun _ => 0) (fun _ => 0)) (fun i s => ∀ j, j < i → s j = -1) 26 0 (fun _ => 0) (by omega) (fun j hj => absurd hj (by omega)) ?_ ?_
  · intro k s hs
    refine pk_le 26 26 (fun _ => H s ⟨fun k hk => absurd hk (by omega), fun i hi _ => hs i hi⟩) (fun z => absurd z (by omega))
  · intro k i s hi hs hw
    refine pk_le 26 i (fun z => absurd z (by omega)) (fun _ => ⟨pk_in i 26 hi, nm_r (by rw [nI_clamp (by omega)]) (nm_r (nI_1 i) (hw _ (fun j hj => ?_)))⟩)
    by_cases e : j = i
    · rw [e, pk_us]
    · rw [pk_un e]
      exact hs j (by omega)
end
section
variable {co ta pl st x1 : Int32} {a1 a2 a3 a4 a5 a6 a7 a8 a9 a10 : Nat → Int32} {n : Nat} {C P : Nat → Nat}
/-! any stretch: only place k of endOf and taskIn is written -/
theorem ed_51A {post : St2 → Prop} {i : Nat} (hi : i < 26) (H : ∀ b8 b9, post (co, ta, pl, st, a1, a2, a3, a4, a5, a6, a7, b8, b9, a10)) :
    wX_advance_51 post (nI i) co ta pl st a1 a2 a3 a4 a5 a6 a7 a8 a9 a10 :=
  ⟨pk_in i 26 hi, ed_20, ed_hv hi, pk_in i 26 hi, nm_e ⟨pk_in i 26 hi, br_c (fun _ => ⟨pk_in i 26 hi, nm_e (H _ _)⟩) (fun _ => ⟨pk_in i 26 hi, pk_in i 26 hi, nm_e (H _ _)⟩)⟩⟩
theorem ed_advA {post : St2 → Prop} {i : Nat} {p1 p2 : Int32} (hi : i < 26) (H : ∀ b8 b9 b10, post (co, ta, pl, st, a1, a2, a3, a4, a5, a6, a7, b8, b9, b10)) :
    wpX_advance post (co, ta, pl, st, a1, a2, a3, a4, a5, a6, a7, a8, a9, a10) (nI i) p1 p2 :=
  ⟨pk_in i 26 hi, pk_in i 26 hi, nm_e ⟨pk_in i 26 hi, br_c (fun _ => ⟨pk_in i 26 hi, nm_e ⟨pk_in i 26 hi, br_c (fun _ => ed_51A hi (fun b8 b9 => H b8 b9 _)) (fun _ => ⟨pk_in i 26 hi, nm_e (ed_51A hi (fun b8 b9 => H b8 b9 _))⟩)⟩⟩) (fun _ => H _ _ _)⟩⟩
def ed_bo (b : Int32) : Prop := b = -1 ∨ ∃ j : Nat, j < 26 ∧ b = nI j
theorem ed_m10 : (-1 : Int32) < 0 := by decide
theorem ed_m1n : ¬ (0 : Int32) ≤ -1 := by decide
theorem ed_187A {post : Int32 → St2 → Prop} {k : Nat} {x2 x3 x5 : Int32} (hk : k < 64) (hb : ed_bo x3)
    (H : ∀ r b6 b7 b8 b9 b10, (∀ j, j ≠ k → b6 j = a6 j ∧ b7 j = a7 j) → post r (co, ta, pl, nI (k + 1), a1, a2, a3, a4, a5, b6, b7, b8, b9, b10)) :
    wX_stretch_187 post x2 x3 x5 co ta pl (nI k) a1 a2 a3 a4 a5 a6 a7 a8 a9 a10 := by
  have g : ∀ (v w : Int32) j, j ≠ k → upd a6 k v j = a6 j ∧ upd a7 k w j = a7 j := fun v w j hj => ⟨pk_un hj, pk_un hj⟩
  refine ⟨pk_in k 64 hk, nm_r (by rw [nI_clamp (show k < 2 ^ 31 by omega)]) ?_⟩
  rcases hb with e | ⟨j, hj, e⟩
  · rw [e]
    exact br_f ed_m1n ⟨pk_in k 64 hk, nm_r (by rw [nI_clamp (show k < 2 ^ 31 by omega)]) (nm_r (nI_1 k) (br_t ed_m10 (H _ _ _ _ _ _ (g _ _))))⟩
  · rw [e]
    exact br_t (nI_pos' (by omega)) ⟨ed_20, pk_in k 64 hk, nm_r (by rw [nI_clamp (show k < 2 ^ 31 by omega)]) (nm_r (nI_1 k) (br_f (nI_pos (by omega)) (ed_advA hj (fun b8 b9 b10 => H _ _ _ _ _ _ (g _ _)))))⟩
theorem ed_91A {post : Int32 → St2 → Prop} {J : Int32 → Int32 → Int32 → Prop} {i : Nat} {x2 x3 x4 : Int32} (hi : i < 26) (hb : ed_bo x3)
    (H : ∀ b v, ed_bo b → J b v (nI (i + 1))) :
    wX_stretch_91 post J x1 x2 x3 x4 (nI i) co ta pl st a1 a2 a3 a4 a5 a6 a7 a8 a9 a10 := by
  have hi' : ed_bo (nI i) := Or.inr ⟨i, hi, rfl⟩
  refine ⟨pk_in i 26 hi, br_c (fun _ => nm_r (nI_1 i) (H _ _ hb)) (fun _ => ⟨pk_in i 26 hi, br_c (fun _ => nm_r (nI_1 i) (H _ _ hb)) (fun _ => br_c (fun _ => nm_r (nI_1 i) (H _ _ hi')) (fun z => ?_))⟩)⟩
  rcases hb with e | ⟨j, hj, e⟩
  · rw [e] at z
    exact absurd ed_m10 z
  · have hb : ed_bo x3 := Or.inr ⟨j, hj, e⟩
    exact ⟨pk_in i 26 hi, pk_in i 26 hi, pk_in j 26 hj e, pk_in j 26 hj e, br_c (fun _ => nm_r (nI_1 i) (H _ _ hb)) (fun _ => nm_r (nI_1 i) (H _ _ hi'))⟩
theorem ed_78A {post : Int32 → St2 → Prop} {J : Int32 → Int32 → Int32 → Prop} {i : Nat} {x2 x3 x4 z0 : Int32} (hi : i < 26) (hb : ed_bo x3)
    (H : ∀ b v, ed_bo b → J b v (nI (i + 1))) :
    wX_stretch_78 post J x1 x2 x3 x4 (nI i) z0 co ta pl st a1 a2 a3 a4 a5 a6 a7 a8 a9 a10 :=
  br_c (fun _ => ed_91A hi hb H) (fun _ => ed_91A hi hb H)
theorem ed_strA {post : Int32 → St2 → Prop} {k : Nat} {now : Int32} (hk : k < 64)
    (H : ∀ r b6 b7 b8 b9 b10, (∀ j, j ≠ k → b6 j = a6 j ∧ b7 j = a7 j) → post r (co, ta, pl, nI (k + 1), a1, a2, a3, a4, a5, b6, b7, b8, b9, b10)) :
    wpX_stretch post (co, ta, pl, nI k, a1, a2, a3, a4, a5, a6, a7, a8, a9, a10) x1 now := by
  refine pk_loop (fun f i s => wX_stretch_9 post x1 now co ta pl (nI k) a1 a2 a3 a4 a5 a6 a7 a8 a9 a10 f s.1 s.2 (nI i)) (fun _ s => ed_bo s.1) 26 0 (-1, 60) (by omega) (Or.inl rfl) ?_ ?_
  · intro f s hs
    refine pk_le 26 26 (fun _ => br_c (fun _ => ed_187A hk hs H) (fun z => ?_)) (fun z => absurd z (by omega))
    rcases hs with e | ⟨j, hj, e⟩
    · rw [e] at z
      exact absurd ed_m10 z
    · have hs : ed_bo s.1 := Or.inr ⟨j, hj, e⟩
      exact ⟨pk_in j 26 hj e, br_c (fun _ => ed_187A hk hs H) (fun _ => ⟨pk_in j 26 hj e, nm_e (ed_187A hk hs H)⟩)⟩
  · intro f i s hi hs hw
    have hw' : ∀ b v, ed_bo b → wX_stretch_9 post x1 now co ta pl (nI k) a1 a2 a3 a4 a5 a6 a7 a8 a9 a10 f b v (nI (i + 1)) := fun b v h => hw (b, v) h
    have h61 : wX_stretch_61 post (wX_stretch_9 post x1 now co ta pl (nI k) a1 a2 a3 a4 a5 a6 a7 a8 a9 a10 f) x1 now s.1 s.2 (nI i) co ta pl (nI k) a1 a2 a3 a4 a5 a6 a7 a8 a9 a10 :=
      ⟨pk_in i 26 hi, ed_20, ed_hv hi, ed_78A hi hs hw'⟩
    exact pk_le 26 i (fun z => absurd z (by omega)) (fun _ => ⟨pk_in i 26 hi, br_c (fun _ => ⟨pk_in i 26 hi, br_c (fun _ => h61) (fun _ => ⟨pk_in i 26 hi, br_c (fun _ => h61) (fun _ => ⟨pk_in i 26 hi, ed_78A hi hs hw'⟩)⟩)⟩) (fun _ => nm_r (nI_1 i) (hw' _ _ hs))⟩)
/-- the rest of a plan: it ends, and what was planned stays -/
theorem ed_tail {post : St2 → Prop} : ∀ (f k : Nat) (now : Int32) (a6 a7 a8 a9 a10 : Nat → Int32), k ≤ 60 → 60 - k < f →
    (∀ k' b6 b7 b8 b9 b10, k ≤ k' → k' ≤ 60 → (∀ j, j < k → b6 j = a6 j ∧ b7 j = a7 j) → post (co, ta, pl, nI k', a1, a2, a3, a4, a5, b6, b7, b8, b9, b10)) →
    wX_plan_77 post x1 f now (nI k) co ta pl (nI k) a1 a2 a3 a4 a5 a6 a7 a8 a9 a10 := by
  intro f
  induction f with
  | zero => intro k now a6 a7 a8 a9 a10 _ h; exact absurd h (by omega)
  | succ f ih =>
    intro k now a6 a7 a8 a9 a10 hk hf H
    have H0 := H k a6 a7 a8 a9 a10 (Nat.le_refl k) hk (fun j _ => ⟨rfl, rfl⟩)
    refine pk_le 60 k (fun _ => H0) (fun z => br_c (fun _ => H0) (fun _ => ed_strA (by omega) (fun r b6 b7 b8 b9 b10 hb => nm_r (nI_1 k) (ih (k + 1) r b6 b7 b8 b9 b10 (by omega) (by omega) (fun k' c6 c7 c8 c9 c10 h1 h2 h3 => H k' c6 c7 c8 c9 c10 (by omega) h2 (fun j hj => ?_))))))
    have g1 := h3 j (by omega)
    have g2 := hb j (by omega)
    exact ⟨g1.1.trans g2.1, g1.2.trans g2.2⟩
/-! exact stretches -/
theorem ed_51 {post : St2 → Prop} {i r p : Nat} (hi : i < 26) (h9 : a9 i = nI r) (h2 : a2 (i / 2) = nI p) (hrp : r + p < 60)
    (H : post (co, ta, pl, st, a1, a2, a3, a4, a5, a6, a7, upd a8 i (a4 i), upd a9 i (nI (r + p)), a10)) :
    wX_advance_51 post (nI i) co ta pl st a1 a2 a3 a4 a5 a6 a7 a8 a9 a10 := by
  unfold wX_advance_51
  rw [nI_clamp (show i < 2 ^ 31 by omega), ed_hc (show i < 64 by omega), h9, h2, nI_add]
  refine ⟨pk_in i 26 hi, ed_20, ed_hv hi, pk_in i 26 hi, nm_e ⟨pk_in i 26 hi, ?_⟩⟩
  rw [pk_us]
  exact pk_le 60 (r + p) (fun z => absurd z (by omega)) (fun _ => ⟨pk_in i 26 hi, pk_in i 26 hi, nm_e H⟩)
theorem ed_adv {post : St2 → Prop} {i l r p t e : Nat} (hi : i < 26) (h8 : a8 i = nI l) (h9 : a9 i = nI r) (h2 : a2 (i / 2) = nI p) (hrp : r + p < 60) (hl : l ≤ 60) (ht : t ≤ e) (he : e ≤ t + l)
    (H : ∀ b8 b9 b10, (e = t + l → b8 i = a4 i ∧ (∀ j, j ≠ i → b8 j = a8 j) ∧ b9 i = nI (r + p) ∧ (∀ j, j ≠ i → b9 j = a9 j)) → post (co, ta, pl, st, a1, a2, a3, a4, a5, a6, a7, b8, b9, b10)) :
    wpX_advance post (co, ta, pl, st, a1, a2, a3, a4, a5, a6, a7, a8, a9, a10) (nI i) (nI t) (nI e) := by
  refine ⟨pk_in i 26 hi, pk_in i 26 hi, nm_r (e' := upd a8 i (nI (l - (e - t)))) (by rw [nI_clamp (show i < 2 ^ 31 by omega), h8, pk_sub ht, pk_sub (show e - t ≤ l by omega)]) ⟨pk_in i 26 hi, ?_⟩⟩
  rw [nI_clamp (show i < 2 ^ 31 by omega), pk_us]
  have g : ∀ v w, (upd (upd a8 i v) i (a4 i)) i = a4 i ∧ (∀ j, j ≠ i → (upd (upd a8 i v) i (a4 i)) j = a8 j) ∧ (upd a9 i w) i = w ∧ (∀ j, j ≠ i → (upd a9 i w) j = a9 j) :=
    fun v w => ⟨pk_us, fun j hj => by rw [pk_un hj, pk_un hj], pk_us, fun j hj => pk_un hj⟩
  refine pk_le (l - (e - t)) 0 (fun _ => ⟨pk_in i 26 hi, nm_e ⟨pk_in i 26 hi, ?_⟩⟩) (fun z => H _ _ _ (fun w => absurd w (by omega)))
  exact br_c (fun _ => ed_51 hi h9 h2 hrp (H _ _ _ (fun _ => g _ _))) (fun _ => ⟨pk_in i 26 hi, nm_e (ed_51 hi h9 h2 hrp (H _ _ _ (fun _ => g _ _)))⟩)
theorem ed_idle {post : Int32 → St2 → Prop} {k f : Nat} {x2 nx : Int32} (hk : k < 64)
    (H : post nx (co, ta, pl, nI (k + 1), a1, a2, a3, a4, a5, upd a6 k nx, upd a7 k (-5), a8, a9, a10)) :
    wX_stretch_9 post x1 x2 co ta pl (nI k) a1 a2 a3 a4 a5 a6 a7 a8 a9 a10 (f + 1) (-1) nx (nI 26) := by
  refine pk_le 26 26 (fun _ => br_t ed_m10 ⟨pk_in k 64 hk, nm_r (by rw [nI_clamp (show k < 2 ^ 31 by omega)]) (br_f ed_m1n ⟨pk_in k 64 hk, nm_r (by rw [nI_clamp (show k < 2 ^ 31 by omega)]) (nm_r (nI_1 k) (br_t ed_m10 H))⟩)⟩) (fun z => absurd z (by omega))
theorem ed_187 {post : Int32 → St2 → Prop} {k j l r p t e : Nat} (hk : k < 64) (hj : j < 26) (h8 : a8 j = nI l) (h9 : a9 j = nI r) (h2 : a2 (j / 2) = nI p) (hrp : r + p < 60) (hl : l ≤ 60) (ht : t ≤ e) (he : e ≤ t + l)
    (H : ∀ b8 b9 b10, (e = t + l → b8 j = a4 j ∧ (∀ i, i ≠ j → b8 i = a8 i) ∧ b9 j = nI (r + p) ∧ (∀ i, i ≠ j → b9 i = a9 i)) → post (nI e) (co, ta, pl, nI (k + 1), a1, a2, a3, a4, a5, upd a6 k (nI e), upd a7 k (nI (j / 2)), b8, b9, b10)) :
    wX_stretch_187 post (nI t) (nI j) (nI e) co ta pl (nI k) a1 a2 a3 a4 a5 a6 a7 a8 a9 a10 := by
  refine ⟨pk_in k 64 hk, nm_r (by rw [nI_clamp (show k < 2 ^ 31 by omega)]) (br_t (nI_pos' (by omega)) ⟨ed_20, ?_⟩)⟩
  rw [ed_h (show j < 64 by omega)]
  refine ⟨pk_in k 64 hk, nm_r (by rw [nI_clamp (show k < 2 ^ 31 by omega)]) (nm_r (nI_1 k) (br_f (nI_pos (by omega)) ?_))⟩
  exact ed_adv hj h8 h9 h2 hrp hl ht he (fun b8 b9 b10 hb => H b8 b9 b10 hb)
theorem ed_busy {post : Int32 → St2 → Prop} {k f j l r p t m : Nat} (hk : k < 64) (hj : j < 26) (h8 : a8 j = nI l) (h9 : a9 j = nI r) (h2 : a2 (j / 2) = nI p) (hrp : r + p < 60) (hl : l ≤ 60) (ht : t ≤ m) (hm : m ≤ 60)
    (H : ∀ b8 b9 b10, (min m (t + l) = t + l → b8 j = a4 j ∧ (∀ i, i ≠ j → b8 i = a8 i) ∧ b9 j = nI (r + p) ∧ (∀ i, i ≠ j → b9 i = a9 i)) → post (nI (min m (t + l))) (co, ta, pl, nI (k + 1), a1, a2, a3, a4, a5, upd a6 k (nI (min m (t + l))), upd a7 k (nI (j / 2)), b8, b9, b10)) :
    wX_stretch_9 post x1 (nI t) co ta pl (nI k) a1 a2 a3 a4 a5 a6 a7 a8 a9 a10 (f + 1) (nI j) (nI m) (nI 26) := by
  refine pk_le 26 26 (fun _ => br_f (nI_pos (by omega)) ⟨pk_in j 26 hj, ?_⟩) (fun z => absurd z (by omega))
  rw [nI_clamp (show j < 2 ^ 31 by omega), h8, nI_add]
  refine pk_le m (t + l) (fun z => ?_) (fun z => ⟨pk_in j 26 hj, nm_e ?_⟩)
  · rw [show min m (t + l) = m by omega] at H
    exact ed_187 hk hj h8 h9 h2 hrp hl ht z H
  · rw [show min m (t + l) = t + l by omega] at H
    exact ed_187 hk hj h8 h9 h2 hrp hl (by omega) (by omega) H
theorem ed_skip {post : Int32 → St2 → Prop} {i f : Nat} {x2 b nx : Int32} (hi : i < 26) (h3 : ¬ a3 i = x1)
    (H : wX_stretch_9 post x1 x2 co ta pl st a1 a2 a3 a4 a5 a6 a7 a8 a9 a10 f b nx (nI (i + 1))) :
    wX_stretch_9 post x1 x2 co ta pl st a1 a2 a3 a4 a5 a6 a7 a8 a9 a10 (f + 1) b nx (nI i) := by
  refine pk_le 26 i (fun z => absurd z (by omega)) (fun _ => ⟨pk_in i 26 hi, br_f ?_ (nm_r (nI_1 i) H)⟩)
  rw [nI_clamp (show i < 2 ^ 31 by omega)]
  exact h3
theorem ed_skips {post : Int32 → St2 → Prop} {x2 b nx : Int32} (d : Nat) : ∀ i, i + d = 26 → (∀ j, i ≤ j → j < 26 → ¬ a3 j = x1) →
    wX_stretch_9 post x1 x2 co ta pl st a1 a2 a3 a4 a5 a6 a7 a8 a9 a10 1 b nx (nI 26) →
    wX_stretch_9 post x1 x2 co ta pl st a1 a2 a3 a4 a5 a6 a7 a8 a9 a10 (d + 1) b nx (nI i) := by
  induction d with
  | zero =>
    intro i hi _ H
    rw [show i = 26 by omega]
    exact H
  | succ d ih =>
    intro i hi h H
    exact ed_skip (by omega) (h i (by omega) (by omega)) (ih (i + 1) (by omega) (fun j hj => h j (by omega)) H)
theorem ed_78 {post : Int32 → St2 → Prop} {J : Int32 → Int32 → Int32 → Prop} {m z : Nat} {x2 x3 x5 : Int32} (hm : m ≤ 60) (hz : z ≤ 1000)
    (H : wX_stretch_91 post J x1 x2 x3 (nI (min m z)) x5 co ta pl st a1 a2 a3 a4 a5 a6 a7 a8 a9 a10) :
    wX_stretch_78 post J x1 x2 x3 (nI m) x5 (nI z) co ta pl st a1 a2 a3 a4 a5 a6 a7 a8 a9 a10 := by
  refine pk_le m z (fun g => ?_) (fun g => ?_)
  · rw [show min m z = m by omega] at H
    exact H
  · rw [show min m z = z by omega] at H
    exact H
theorem ed_later {post : Int32 → St2 → Prop} {i f l r m t : Nat} {b : Int32} (hi : i < 26) (h3 : a3 i = x1) (h8 : a8 i = nI l) (h9 : a9 i = nI r) (hl : 1 ≤ l) (hl' : l ≤ 60) (hr : r ≤ 60) (hm : m ≤ 60) (ht : t < r)
    (H : wX_stretch_9 post x1 (nI t) co ta pl st a1 a2 a3 a4 a5 a6 a7 a8 a9 a10 f b (nI (min m r)) (nI (i + 1))) :
    wX_stretch_9 post x1 (nI t) co ta pl st a1 a2 a3 a4 a5 a6 a7 a8 a9 a10 (f + 1) b (nI m) (nI i) := by
  refine pk_le 26 i (fun z => absurd z (by omega)) (fun _ => ⟨pk_in i 26 hi, ?_⟩)
  rw [nI_clamp (show i < 2 ^ 31 by omega), h8, h9]
  refine br_t h3 ⟨pk_in i 26 hi, pk_le l 0 (fun z => absurd z (by omega)) (fun _ => ⟨pk_in i 26 hi, pk_le r t (fun z => absurd z (by omega)) (fun _ => ⟨pk_in i 26 hi, ed_78 hm (by omega) ?_⟩)⟩)⟩
  refine ⟨pk_in i 26 hi, ?_⟩
  rw [nI_clamp (show i < 2 ^ 31 by omega), h8, h9]
  exact pk_le l 0 (fun z => absurd z (by omega)) (fun _ => ⟨pk_in i 26 hi, pk_lt t r (fun _ => nm_r (nI_1 i) H) (fun z => absurd z (by omega))⟩)
theorem ed_now {post : Int32 → St2 → Prop} {i f l r m t p : Nat} {b : Int32} (hi : i < 26) (h3 : a3 i = x1) (h8 : a8 i = nI l) (h9 : a9 i = nI r) (h2 : a2 (i / 2) = nI p) (hl : 1 ≤ l) (hl' : l ≤ 60) (hr : r ≤ 60) (hm : m ≤ 60) (hp : p ≤ 60) (ht : r ≤ t) (ht' : t ≤ 60)
    (H : wX_stretch_91 post (wX_stretch_9 post x1 (nI t) co ta pl st a1 a2 a3 a4 a5 a6 a7 a8 a9 a10 f) x1 (nI t) b (nI (min m (r + p))) (nI i) co ta pl st a1 a2 a3 a4 a5 a6 a7 a8 a9 a10) :
    wX_stretch_9 post x1 (nI t) co ta pl st a1 a2 a3 a4 a5 a6 a7 a8 a9 a10 (f + 1) b (nI m) (nI i) := by
  refine pk_le 26 i (fun z => absurd z (by omega)) (fun _ => ⟨pk_in i 26 hi, ?_⟩)
  rw [nI_clamp (show i < 2 ^ 31 by omega), h8, h9]
  refine br_t h3 ⟨pk_in i 26 hi, pk_le l 0 (fun z => absurd z (by omega)) (fun _ => ⟨pk_in i 26 hi, pk_le r t (fun _ => ⟨pk_in i 26 hi, ed_20, ed_hv hi, ?_⟩) (fun z => absurd z (by omega))⟩)⟩
  rw [nI_clamp (show i < 2 ^ 31 by omega), ed_hc (show i < 64 by omega), h9, h2, nI_add]
  exact ed_78 hm (by omega) H
theorem ed_first {post : Int32 → St2 → Prop} {i f l r m t p : Nat} (hi : i < 26) (h3 : a3 i = x1) (h8 : a8 i = nI l) (h9 : a9 i = nI r) (h2 : a2 (i / 2) = nI p) (hl : 1 ≤ l) (hl' : l ≤ 60) (hr : r ≤ 60) (hm : m ≤ 60) (hp : p ≤ 60) (ht : r ≤ t) (ht' : t ≤ 60)
    (H : wX_stretch_9 post x1 (nI t) co ta pl st a1 a2 a3 a4 a5 a6 a7 a8 a9 a10 f (nI i) (nI (min m (r + p))) (nI (i + 1))) :
    wX_stretch_9 post x1 (nI t) co ta pl st a1 a2 a3 a4 a5 a6 a7 a8 a9 a10 (f + 1) (-1) (nI m) (nI i) := by
  refine ed_now hi h3 h8 h9 h2 hl hl' hr hm hp ht ht' ⟨pk_in i 26 hi, ?_⟩
  rw [nI_clamp (show i < 2 ^ 31 by omega), h8, h9]
  exact pk_le l 0 (fun z => absurd z (by omega)) (fun _ => ⟨pk_in i 26 hi, pk_lt t r (fun z => absurd z (by omega)) (fun _ => br_t ed_m10 (nm_r (nI_1 i) H))⟩)
theorem ed_keep {post : Int32 → St2 → Prop} {i f l r m t p j rj dj di : Nat} (hi : i < 26) (h3 : a3 i = x1) (h8 : a8 i = nI l) (h9 : a9 i = nI r) (h2 : a2 (i / 2) = nI p) (hl : 1 ≤ l) (hl' : l ≤ 60) (hr : r ≤ 60) (hm : m ≤ 60) (hp : p ≤ 60) (ht : r ≤ t) (ht' : t ≤ 60)
    (hj : j < 26) (g9 : a9 j = nI rj) (g5 : a5 j = nI dj) (h5 : a5 i = nI di) (hd : rj + dj ≤ r + di) (hdi : di ≤ 60)
    (H : wX_stretch_9 post x1 (nI t) co ta pl st a1 a2 a3 a4 a5 a6 a7 a8 a9 a10 f (nI j) (nI (min m (r + p))) (nI (i + 1))) :
    wX_stretch_9 post x1 (nI t) co ta pl st a1 a2 a3 a4 a5 a6 a7 a8 a9 a10 (f + 1) (nI j) (nI m) (nI i) := by
  refine ed_now hi h3 h8 h9 h2 hl hl' hr hm hp ht ht' ⟨pk_in i 26 hi, ?_⟩
  rw [nI_clamp (show i < 2 ^ 31 by omega), nI_clamp (show j < 2 ^ 31 by omega), h8, h9, g9, g5, h5, nI_add, nI_add]
  exact pk_le l 0 (fun z => absurd z (by omega)) (fun _ => ⟨pk_in i 26 hi, pk_lt t r (fun z => absurd z (by omega)) (fun _ => br_f (nI_pos (by omega)) ⟨pk_in i 26 hi, pk_in i 26 hi, pk_in j 26 hj, pk_in j 26 hj, pk_le (rj + dj) (r + di) (fun _ => nm_r (nI_1 i) H) (fun z => absurd z (by omega))⟩)⟩)
end
section
variable {co ta pl st x1 : Int32} {a1 a2 a3 a4 a5 a6 a7 a8 a9 a10 : Nat → Int32} {n : Nat} {C P : Nat → Nat}
/-- what a plan is made for: the slot q lies in stretch m, which holds v -/
def ed_goal (post : St2 → Prop) (co ta pl : Int32) (a1 a2 a3 a4 a5 : Nat → Int32) (q : Nat) (v : Int32) : Prop :=
  ∀ (m k : Nat) (b6 b7 b8 b9 b10 : Nat → Int32), m < k → k ≤ 60 → (∀ j, j < m → ¬ nI q < b6 j) → nI q < b6 m → b7 m = v → post (co, ta, pl, nI k, a1, a2, a3, a4, a5, b6, b7, b8, b9, b10)
theorem ed_last {post : St2 → Prop} {q m f : Nat} {v now : Int32} (H : ed_goal post co ta pl a1 a2 a3 a4 a5 q v) (hm : m < 60) (hf : 60 - (m + 1) < f)
    (h1 : ∀ j, j < m → ¬ nI q < a6 j) (h2 : nI q < a6 m) (h3 : a7 m = v) :
    wX_plan_77 post x1 f now (nI (m + 1)) co ta pl (nI (m + 1)) a1 a2 a3 a4 a5 a6 a7 a8 a9 a10 := by
  refine ed_tail f (m + 1) now a6 a7 a8 a9 a10 (by omega) hf (fun k b6 b7 b8 b9 b10 hk hk' hb => H m k b6 b7 b8 b9 b10 (by omega) hk' (fun j hj => ?_) ?_ ?_)
  · rw [(hb j (by omega)).1]
    exact h1 j hj
  · rw [(hb m (by omega)).1]
    exact h2
  · rw [(hb m (by omega)).2]
    exact h3
theorem ed_c0 {post : St2 → Prop} {q : Nat} (hq : q < 10) (h3 : ∀ j, 0 ≤ j → j < 26 → ¬ a3 j = 0) (H : ed_goal post co ta pl a1 a2 a3 a4 a5 q (-5)) :
    wX_plan_77 post 0 61 (nI 0) (nI 0) co ta pl (nI 0) a1 a2 a3 a4 a5 a6 a7 a8 a9 a10 := by
  refine pk_le 60 0 (fun z => absurd z (by omega)) (fun _ => pk_le 60 0 (fun z => absurd z (by omega)) (fun _ => ⟨27, ?_⟩))
  refine ed_skips 26 0 rfl h3 ?_
  refine ed_idle (k := 0) (f := 0) (by omega) (nm_r (nI_1 0) ?_)
  exact ed_last H (m := 0) (f := 60) (by omega) (by omega) (fun j hj => absurd hj (by omega)) (by rw [pk_us]; exact nI_lt (b := 60) (by omega) (by omega)) pk_us
theorem ed_c1 {post : St2 → Prop} {c p q : Nat} {v : Int32} (hq : q < 10) (hc : 1 ≤ c) (hcp : c ≤ p) (hp : 10 ≤ p) (hp' : p ≤ 15)
    (h3 : ∀ j, 1 ≤ j → j < 26 → ¬ a3 j = 0) (e3 : a3 0 = 0) (e2 : a2 0 = nI p) (e4 : a4 0 = nI c) (e8 : a8 0 = nI c) (e9 : a9 0 = nI 0)
    (hv : v = if q < c then 0 else -5) (H : ed_goal post co ta pl a1 a2 a3 a4 a5 q v) :
    wX_plan_77 post 0 61 (nI 0) (nI 0) co ta pl (nI 0) a1 a2 a3 a4 a5 a6 a7 a8 a9 a10 := by
  refine pk_le 60 0 (fun z => absurd z (by omega)) (fun _ => pk_le 60 0 (fun z => absurd z (by omega)) (fun _ => ⟨27, ?_⟩))
  refine ed_first (i := 0) (t := 0) (m := 60) (by omega) e3 e8 e9 e2 hc (by omega) (by omega) (by omega) (by omega) (by omega) (by omega) ?_
  refine ed_skips 25 1 rfl h3 ?_
  refine ed_busy (k := 0) (f := 0) (j := 0) (t := 0) (by omega) (by omega) e8 e9 e2 (by omega) (by omega) (by omega) (by omega) (fun b8 b9 b10 hb => nm_r (nI_1 0) ?_)
  rw [show min (min 60 (0 + p)) (0 + c) = c by omega] at hb ⊢
  have hb := hb (by omega)
  by_cases g : q < c
  · rw [if_pos g] at hv
    exact ed_last H (m := 0) (f := 60) (by omega) (by omega) (fun j hj => absurd hj (by omega)) (by rw [pk_us]; exact nI_lt g (by omega)) (by rw [pk_us, hv]; rfl)
  · rw [if_neg g] at hv
    refine pk_le 60 1 (fun z => absurd z (by omega)) (fun _ => pk_le 60 c (fun z => absurd z (by omega)) (fun _ => ⟨27, ?_⟩))
    refine ed_later (i := 0) (t := c) (m := 60) (by omega) e3 (hb.1.trans e4) hb.2.2.1 hc (by omega) (by omega) (by omega) (by omega) ?_
    refine ed_skips 25 1 rfl h3 ?_
    refine ed_idle (k := 1) (f := 0) (by omega) (nm_r (nI_1 1) ?_)
    rw [show min 60 (0 + p) = p by omega]
    refine ed_last H (m := 1) (f := 59) (by omega) (by omega) (fun j hj => ?_) (by rw [pk_us]; exact nI_lt (by omega) (by omega)) (by rw [pk_us, hv])
    rw [show j = 0 by omega, pk_un (by omega), pk_us]
    exact nI_nlt (by omega) (by omega)
theorem ed_c2 {post : St2 → Prop} {x y q : Nat} {v : Int32} (hq : q < 10) (hx : 1 ≤ x) (hx' : x ≤ 9) (hy : 1 ≤ y) (hy' : y ≤ 15)
    (h3 : ∀ j, j < 26 → j ≠ 0 → j ≠ 2 → ¬ a3 j = 0) (e3 : a3 0 = 0) (f3 : a3 2 = 0) (e2 : a2 0 = nI 10) (f2 : a2 1 = nI 15) (e4 : a4 0 = nI x) (f4 : a4 2 = nI y)
    (e5 : a5 0 = nI 10) (f5 : a5 2 = nI 15) (e8 : a8 0 = nI x) (f8 : a8 2 = nI y) (e9 : a9 0 = nI 0) (f9 : a9 2 = nI 0)
    (hv : v = if q < x then 0 else if q < x + y then 1 else -5) (H : ed_goal post co ta pl a1 a2 a3 a4 a5 q v) :
    wX_plan_77 post 0 61 (nI 0) (nI 0) co ta pl (nI 0) a1 a2 a3 a4 a5 a6 a7 a8 a9 a10 := by
  have h31 : ¬ a3 1 = 0 := h3 1 (by omega) (by omega) (by omega)
  have h33 : ∀ j, 3 ≤ j → j < 26 → ¬ a3 j = 0 := fun j hj hj' => h3 j hj' (by omega) (by omega)
  refine pk_le 60 0 (fun z => absurd z (by omega)) (fun _ => pk_le 60 0 (fun z => absurd z (by omega)) (fun _ => ⟨27, ?_⟩))
  refine ed_first (i := 0) (t := 0) (m := 60) (by omega) e3 e8 e9 e2 hx (by omega) (by omega) (by omega) (by omega) (by omega) (by omega) ?_
  refine ed_skip (i := 1) (by omega) h31 ?_
  refine ed_keep (i := 2) (t := 0) (m := 10) (j := 0) (by omega) f3 f8 f9 f2 hy (by omega) (by omega) (by omega) (by omega) (by omega) (by omega) (by omega) e9 e5 f5 (by omega) (by omega) ?_
  refine ed_skips 23 3 rfl h33 ?_
  refine ed_busy (k := 0) (f := 0) (j := 0) (t := 0) (m := 10) (by omega) (by omega) e8 e9 e2 (by omega) (by omega) (by omega) (by omega) (fun b8 b9 b10 hb => nm_r (nI_1 0) ?_)
  rw [show min 10 (0 + x) = x by omega] at hb ⊢
  have hb := hb (by omega)
  by_cases g : q < x
  · rw [if_pos g] at hv
    exact ed_last H (m := 0) (f := 60) (by omega) (by omega) (fun j hj => absurd hj (by omega)) (by rw [pk_us]; exact nI_lt g (by omega)) (by rw [pk_us, hv]; rfl)
  · rw [if_neg g] at hv
    have k8 : b8 2 = nI y := (hb.2.1 2 (by omega)).trans f8
    have k9 : b9 2 = nI 0 := (hb.2.2.2 2 (by omega)).trans f9
    refine pk_le 60 1 (fun z => absurd z (by omega)) (fun _ => pk_le 60 x (fun z => absurd z (by omega)) (fun _ => ⟨27, ?_⟩))
    refine ed_later (i := 0) (t := x) (m := 60) (r := 10) (by omega) e3 (hb.1.trans e4) hb.2.2.1 hx (by omega) (by omega) (by omega) (by omega) ?_
    refine ed_skip (i := 1) (by omega) h31 ?_
    refine ed_first (i := 2) (t := x) (m := 10) (by omega) f3 k8 k9 f2 hy (by omega) (by omega) (by omega) (by omega) (by omega) (by omega) ?_
    refine ed_skips 23 3 rfl h33 ?_
    refine ed_busy (k := 1) (f := 0) (j := 2) (t := x) (m := 10) (by omega) (by omega) k8 k9 f2 (by omega) (by omega) (by omega) (by omega) (fun c8 c9 c10 hc => nm_r (nI_1 1) ?_)
    have u0 : ∀ (w : Int32) j, j < 1 → ¬ nI q < upd (upd a6 0 (nI x)) 1 w j := by
      intro w j hj
      rw [show j = 0 by omega, pk_un (by omega), pk_us]
      exact nI_nlt (by omega) (by omega)
    by_cases g2 : q < x + y
    · rw [if_pos g2] at hv
      exact ed_last H (m := 1) (f := 59) (by omega) (by omega) (u0 _) (by rw [pk_us]; exact nI_lt (by omega) (by omega)) (by rw [pk_us, hv]; rfl)
    · rw [if_neg g2] at hv
      rw [show min 10 (x + y) = x + y by omega] at hc ⊢
      have hc := hc (by omega)
      have l8 : c8 0 = nI x := (hc.2.1 0 (by omega)).trans (hb.1.trans e4)
      have l9 : c9 0 = nI 10 := (hc.2.2.2 0 (by omega)).trans hb.2.2.1
      refine pk_le 60 2 (fun z => absurd z (by omega)) (fun _ => pk_le 60 (x + y) (fun z => absurd z (by omega)) (fun _ => ⟨27, ?_⟩))
      refine ed_later (i := 0) (t := x + y) (m := 60) (r := 10) (by omega) e3 l8 l9 hx (by omega) (by omega) (by omega) (by omega) ?_
      refine ed_skip (i := 1) (by omega) h31 ?_
      refine ed_later (i := 2) (t := x + y) (m := 10) (r := 15) (by omega) f3 (hc.1.trans f4) hc.2.2.1 hy (by omega) (by omega) (by omega) (by omega) ?_
      refine ed_skips 23 3 rfl h33 ?_
      refine ed_idle (k := 2) (f := 0) (by omega) (nm_r (nI_1 2) ?_)
      refine ed_last H (m := 2) (f := 58) (by omega) (by omega) (fun j hj => ?_) (by rw [pk_us]; exact nI_lt (b := 10) (by omega) (by omega)) (by rw [pk_us, hv])
      rw [pk_un (by omega)]
      by_cases e : j = 1
      · rw [e, pk_us]
        exact nI_nlt (by omega) (by omega)
      · exact u0 _ j (by omega)
theorem ed_plan {post : St2 → Prop}
    (H : ∀ b8 b9 b10, (∀ i, i < 26 → a3 i = 0 → b8 i = a4 i) → (∀ i, i < 26 → b9 i = nI 0) → wX_plan_77 post 0 61 (nI 0) (nI 0) co ta (nI 0) (nI 0) a1 a2 a3 a4 a5 a6 a7 b8 b9 b10) :
    wpX_plan post (co, ta, (-1), st, a1, a2, a3, a4, a5, a6, a7, a8, a9, a10) 0 := by
  refine br_f (by decide) ?_
  refine pk_loop (σ := (Nat → Int32) × (Nat → Int32) × (Nat → Int32)) (fun k i s => wX_plan_21 post 0 co ta 0 0 k (nI i) a1 a2 a3 a4 a5 a6 a7 s.1 s.2.1 s.2.2) (fun i s => (∀ j, j < i → a3 j = 0 → s.1 j = a4 j) ∧ (∀ j, j < i → s.2.1 j = nI 0)) 26 0 (a8, a9, a10) (by omega) ⟨fun j hj => absurd hj (by omega), fun j hj => absurd hj (by omega)⟩ ?_ ?_
  · intro k s hs
    exact pk_le 26 26 (fun _ => ⟨61, H _ _ _ hs.1 hs.2⟩) (fun z => absurd z (by omega))
  · intro k i s hi hs hw
    have g : ∀ v : Int32, (a3 i = 0 → v = a4 i) → wX_plan_52 post (wX_plan_21 post 0 co ta 0 0 k) 0 (nI i) v (nI i) co ta 0 0 a1 a2 a3 a4 a5 a6 a7 s.1 s.2.1 s.2.2 := by
      intro v hv
      have e : (nI i).toNatClampNeg = i := nI_clamp (by omega)
      refine ⟨pk_in i 26 hi, nm_r (by rw [e]) ⟨pk_in i 26 hi, nm_r (by rw [e]) ⟨pk_in i 26 hi, nm_r (by rw [e]) (nm_r (nI_1 i) (hw (upd s.1 i v, upd s.2.1 i 0, upd s.2.2 i 0) ⟨fun j hj h3 => ?_, fun j hj => ?_⟩))⟩⟩⟩
      · show upd s.1 i v j = a4 j
        by_cases ej : j = i
        · subst ej
          rw [pk_us]
          exact hv h3
        · rw [pk_un ej]
          exact hs.1 j (by omega) h3
      · show upd s.2.1 i 0 j = nI 0
        by_cases ej : j = i
        · rw [ej, pk_us]
          rfl
        · rw [pk_un ej]
          exact hs.2 j (by omega)
    refine pk_le 26 i (fun z => absurd z (by omega)) (fun _ => ⟨pk_in i 26 hi, ?_⟩)
    rw [nI_clamp (show i < 2 ^ 31 by omega)]
    exact br_c (fun e => ⟨pk_in i 26 hi, g _ (fun _ => rfl)⟩) (fun e => g _ (fun z => absurd z e))
theorem ed_r31 {post : Int32 → St2 → Prop} {q m k : Nat} (hm : m < k) (hk : k ≤ 60) (h1 : ∀ j, j < m → ¬ nI q < a6 j) (h2 : nI q < a6 m)
    (H : post (a7 m) (co, ta, pl, nI k, a1, a2, a3, a4, a5, a6, a7, a8, a9, a10)) :
    ∃ fu, wX_running_31 post (nI q) co ta pl (nI k) a1 a2 a3 a4 a5 a6 a7 a8 a9 a10 fu 0 := by
  have e : nI k - 1 = nI (k - 1) := pk_sub (b := 1) (by omega)
  refine pk_loop (σ := Unit) (fun f i _ => wX_running_31 post (nI q) co ta pl (nI k) a1 a2 a3 a4 a5 a6 a7 a8 a9 a10 f (nI i)) (fun _ _ => True) m 0 () (by omega) trivial ?_ ?_
  · intro f _ _
    have c : (nI m).toNatClampNeg = m := nI_clamp (by omega)
    refine pk_le (k - 1) m (fun _ => ⟨pk_in m 64 (by omega), ?_⟩) (fun _ => ⟨pk_in m 64 (by omega), br_t ?_ ⟨pk_in m 64 (by omega), ?_⟩⟩) e rfl
    · rw [c]
      exact H
    · rw [c]
      exact h2
    · rw [c]
      exact H
  · intro f i _ hi _ hw
    have c : (nI i).toNatClampNeg = i := nI_clamp (by omega)
    refine pk_le (k - 1) i (fun z => absurd z (by omega)) (fun _ => ⟨pk_in i 64 (by omega), br_f ?_ (nm_r (nI_1 i) (hw () trivial))⟩) e rfl
    rw [c]
    exact h1 i hi
theorem ed_run {post : Int32 → St2 → Prop} {q : Nat} {v : Int32} (hq : q < 10)
    (Hp : ∀ b8 b9 b10, (∀ i, i < 26 → a3 i = 0 → b8 i = a4 i) → (∀ i, i < 26 → b9 i = nI 0) → ∀ po : St2 → Prop, ed_goal po 1 ta (nI 0) a1 a2 a3 a4 a5 q v → wX_plan_77 po 0 61 (nI 0) (nI 0) 1 ta (nI 0) (nI 0) a1 a2 a3 a4 a5 a6 a7 b8 b9 b10)
    (H : ∀ k b6 b7 b8 b9 b10, post v (1, ta, 0, k, a1, a2, a3, a4, a5, b6, b7, b8, b9, b10)) :
    wpX_running post (1, ta, (-1), st, a1, a2, a3, a4, a5, a6, a7, a8, a9, a10) 0 (nI q) := by
  unfold wpX_running
  refine ed_badC ?_
  refine br_t rfl (pk_lt q 0 (fun z => absurd z (by omega)) (fun _ => pk_lt q 60 (fun _ => ?_) (fun z => absurd z (by omega))))
  refine ed_plan (fun b8 b9 b10 h8 h9 => Hp b8 b9 b10 h8 h9 _ ?_)
  intro m k b6 b7 c8 c9 c10 hm hk h1 h2 h3
  refine ed_r31 hm hk h1 h2 ?_
  rw [h3]
  exact H _ _ _ _ _ _
end
section
variable {post : Int32 → St0 → Prop} {mc ms kc ks : Nat} {ta pl st : Int32} {a1 a2 a3 a4 a5 a6 a7 a8 a9 a10 : Nat → Int32} {n d x y : Nat} {C P : Nat → Nat} {x1 x2 x5 x7 x8 : Int32}
/-- the tasks that the law may have put in: none, the first, the second alone, both; d: the second's id; x, y: the costs -/
def ed_sh (n d x y : Nat) (C P : Nat → Nat) : Prop :=
  (n = 0 ∧ d = 0 ∧ x = 0 ∧ y = 0) ∨
  (n = 1 ∧ d = 1 ∧ C 0 = x ∧ P 0 = 10 ∧ y = 0 ∧ 1 ≤ x ∧ x ≤ 10) ∨
  (n = 1 ∧ d = 0 ∧ C 0 = y ∧ P 0 = 15 ∧ x = 0 ∧ 1 ≤ y ∧ y ≤ 15) ∨
  (n = 2 ∧ d = 1 ∧ C 0 = x ∧ P 0 = 10 ∧ C 1 = y ∧ P 1 = 15 ∧ 1 ≤ x ∧ x ≤ 10 ∧ 1 ≤ y ∧ y ≤ 15 ∧ 3 * x + 2 * y ≤ 30)
theorem ed_p10 : ed_per 10 := by unfold ed_per; decide
theorem ed_p15 : ed_per 15 := by unfold ed_per; decide
theorem ed_p60 : ed_per 60 := by unfold ed_per; decide
theorem ed_shP (h : ed_sh n d x y C P) : ed_pr n C P := by
  rcases h with ⟨rfl, _⟩ | ⟨rfl, _, h1, h2, _, _, h3⟩ | ⟨rfl, _, h1, h2, _, _, h3⟩ | ⟨rfl, _, h1, h2, h3, h4, _, h5, _, h6, _⟩
  · exact ⟨by omega, fun k hk => absurd hk (by omega)⟩
  · refine ⟨by omega, fun k hk => ?_⟩
    rw [show k = 0 by omega, h1, h2]
    exact ⟨ed_p10, by omega⟩
  · refine ⟨by omega, fun k hk => ?_⟩
    rw [show k = 0 by omega, h1, h2]
    exact ⟨ed_p15, by omega⟩
  · refine ⟨by omega, fun k hk => ?_⟩
    by_cases e : k = 0
    · rw [e, h1, h2]
      exact ⟨ed_p10, by omega⟩
    · rw [show k = 1 by omega, h3, h4]
      exact ⟨ed_p15, by omega⟩
theorem ed_L1 (C P : Nat → Nat) : ed_L C P 1 = C 0 * (60 / P 0) := Nat.zero_add _
theorem ed_L2 (C P : Nat → Nat) : ed_L C P 2 = C 0 * (60 / P 0) + C 1 * (60 / P 1) := by
  show ed_L C P 1 + C 1 * (60 / P 1) = _
  rw [ed_L1]
theorem ed_q10 : 60 / 10 = 6 := rfl
theorem ed_q15 : 60 / 15 = 4 := rfl
theorem ed_q6 : 60 / 60 = 1 := rfl
theorem ed_shL (h : ed_sh n d x y C P) : ed_L C P n = 6 * x + 4 * y := by
  rcases h with ⟨rfl, _, rfl, rfl⟩ | ⟨rfl, _, h1, h2, h3, _, _⟩ | ⟨rfl, _, h1, h2, h3, _, _⟩ | ⟨rfl, _, h1, h2, h3, h4, _⟩
  · rfl
  · rw [ed_L1, h1, h2, ed_q10]; omega
  · rw [ed_L1, h1, h2, ed_q15]; omega
  · rw [ed_L2, h1, h2, h3, h4, ed_q10, ed_q15]; omega
theorem ed_shD (h : ed_sh n d x y C P) : ed_L C P d = 6 * x := by
  rcases h with ⟨rfl, rfl, rfl, rfl⟩ | ⟨rfl, rfl, h1, h2, h3, _, _⟩ | ⟨rfl, rfl, h1, h2, h3, _, _⟩ | ⟨rfl, rfl, h1, h2, h3, h4, _⟩
  · rfl
  · rw [ed_L1, h1, h2, ed_q10]; omega
  · rw [h3]; rfl
  · rw [ed_L1, h1, h2, ed_q10]; omega
theorem ed_shB (h : ed_sh n d x y C P) : x ≤ 10 ∧ y ≤ 15 ∧ 6 * x + 4 * y ≤ 60 ∧ d ≤ 1 ∧ d ≤ n ∧ n ≤ d + 1 := by
  rcases h with h | h | h | h <;> omega
theorem ed_shY (h : ed_sh n d x y C P) (e : n = d + 1) : C d = y := by
  rcases h with ⟨h1, h2, _⟩ | ⟨h1, h2, _⟩ | ⟨h1, h2, h3, _⟩ | ⟨h1, h2, _, _, h3, _⟩
  · omega
  · omega
  · rw [h2]; exact h3
  · rw [h2]; exact h3
theorem ed_prd {m : Nat} (h : ed_pr n C P) (hm : m ≤ n) : ed_pr m C P := ⟨Nat.le_trans hm h.1, fun k hk => h.2 k (by omega)⟩
/-- the second's flag -/
def ed_fl (n d : Nat) (x7 : Int32) : Prop := (x7 = 0 ∧ n = d) ∨ (x7 = 1 ∧ n = d + 1)
theorem ed_10 : ¬ (1 : Int32) = 0 := by decide
theorem ed_t331 (H : post 1 ()) {z : Int32} (hr : ed_rd n C P a2 a3 a4 a5) (hp : ed_pr n C P) (hu : ed_us n a1) (hn : n < 12) (hL : ed_L C P n = 6 * x) (hx : x ≤ 10) :
    wL_lawOf_331 post mc ms (nI x) z z kc ks 1 ta pl st a1 a2 a3 a4 a5 a6 a7 a8 a9 a10 := by
  refine br_t rfl ?_
  refine ed_spare (p := 10) hn hr hp hu (by omega) ed_p10 (by omega) (fun lo h h' b2 b3 b4 b5 hb => br_t ?_ H)
  rw [hL, ed_q10] at h h'
  have e : lo = 10 - x := by omega
  rw [e]
  exact (pk_sub (a := 10) hx).symm
theorem ed_t308 (H : post 1 ()) {z : Int32} (hr : ed_rd n C P a2 a3 a4 a5) (hu : ed_us n a1) (hs : ed_sh n d x y C P) (hf : ed_fl n d x7) :
    wL_lawOf_308 post mc ms (nI x) x7 (nI d) z z kc ks 1 (nI n) pl st a1 a2 a3 a4 a5 a6 a7 a8 a9 a10 := by
  have hB := ed_shB hs
  have hp := ed_shP hs
  have hL := ed_shD hs
  refine br_t rfl ?_
  refine ed_rm (by omega) hu hr (fun z => ?_) (fun z b1 b3 hu' hr' => ?_) (by omega)
  · have e : n = d := by omega
    subst e
    rcases hf with ⟨e7, _⟩ | ⟨_, e⟩
    · exact br_t e7 (ed_t331 H hr hp hu (by omega) hL hB.1)
    · exact absurd e (by omega)
  · rcases hf with ⟨_, e⟩ | ⟨e7, _⟩
    · exact absurd e (by omega)
    · rw [e7]
      exact br_f ed_10 (ed_t331 H hr' (ed_prd hp (by omega)) hu' (by omega) hL hB.1)
theorem ed_t287 (H : post 1 ()) {z : Int32} (hr : ed_rd n C P a2 a3 a4 a5) (hu : ed_us n a1) (hs : ed_sh n d x y C P) (hf : ed_fl n d x7) :
    wL_lawOf_287 post mc ms (nI x) x7 (nI d) z z kc ks 1 (nI n) pl st a1 a2 a3 a4 a5 a6 a7 a8 a9 a10 := by
  have hB := ed_shB hs
  refine br_t rfl ?_
  refine ed_sc (by omega) hu hr (fun z => ?_) (fun z => ?_)
  · rcases hf with ⟨e7, e⟩ | ⟨_, e⟩
    · exact br_t e7 (ed_t308 H hr hu hs (Or.inl ⟨e7, e⟩))
    · exact absurd e (by omega)
  · rcases hf with ⟨_, e⟩ | ⟨e7, e⟩
    · exact absurd e (by omega)
    · exact br_f (by rw [e7]; exact ed_10) (ed_t308 H hr hu hs (Or.inr ⟨e7, e⟩))
theorem ed_t270 (H : post 1 ()) (hr : ed_rd n C P a2 a3 a4 a5) (hu : ed_us n a1) (hs : ed_sh n d x y C P) (hf : ed_fl n d x7) (h1 : n = d + 1 → x1 = nI y) :
    wL_lawOf_270 post mc ms x1 (nI x) x7 (nI d) kc ks 1 (nI n) pl st a1 a2 a3 a4 a5 a6 a7 a8 a9 a10 := by
  have hB := ed_shB hs
  unfold wL_lawOf_270
  refine ed_fc (by omega) hu (fun z => ?_) (fun z => ?_)
  · rcases hf with ⟨e7, e⟩ | ⟨_, e⟩
    · exact br_t e7 (ed_t287 H hr hu hs (Or.inl ⟨e7, e⟩))
    · exact absurd e (by omega)
  · rcases hf with ⟨_, e⟩ | ⟨e7, e⟩
    · exact absurd e (by omega)
    · rw [(hr.1 d z).2.2.1, ed_shY hs e, h1 e]
      exact br_f (by rw [e7]; exact ed_10) (ed_t287 H hr hu hs (Or.inr ⟨e7, e⟩))
theorem ed_runS {po : Int32 → St2 → Prop} {q : Nat} {v : Int32} (hq : q < 10) (hr : ed_rd n C P a2 a3 a4 a5) (hs : ed_sh n d x y C P)
    (hv : v = if q < x then 0 else if q < x + y then nI d else -5)
    (H : ∀ k b6 b7 b8 b9 b10, po v (1, ta, 0, k, a1, a2, a3, a4, a5, b6, b7, b8, b9, b10)) :
    wpX_running po (1, ta, (-1), st, a1, a2, a3, a4, a5, a6, a7, a8, a9, a10) 0 (nI q) := by
  refine ed_run hq (fun b8 b9 b10 h8 h9 po' hg => ?_) H
  have hm : ∀ j, j < 26 → (j % 2 = 1 ∨ 2 * n ≤ j) → ¬ a3 j = 0 := by
    intro j hj hj'
    rw [hr.2 j hj hj']
    decide
  rcases hs with ⟨rfl, rfl, rfl, rfl⟩ | ⟨rfl, rfl, h1, h2, rfl, h3, h4⟩ | ⟨rfl, rfl, h1, h2, rfl, h3, h4⟩ | ⟨rfl, rfl, h1, h2, h3, h4, h5, h6, h7, h8', h9'⟩
  · rw [if_neg (by omega), if_neg (by omega)] at hv
    rw [hv] at hg
    exact ed_c0 hq (fun j _ hj => hm j hj (by omega)) hg
  · have g := hr.1 0 (by omega)
    rw [h1, h2] at g
    have hv' : v = if q < x then 0 else -5 := by
      rw [hv]
      by_cases e : q < x
      · rw [if_pos e, if_pos e]
      · rw [if_neg e, if_neg e, if_neg (by omega)]
    exact ed_c1 hq h3 h4 (by omega) (by omega) (fun j hj hj' => hm j hj' (by omega)) g.2.1 g.1 g.2.2.1 ((h8 0 (by omega) g.2.1).trans g.2.2.1) (h9 0 (by omega)) hv' hg
  · have g := hr.1 0 (by omega)
    rw [h1, h2] at g
    have hv' : v = if q < y then 0 else -5 := by
      rw [hv, if_neg (by omega), show 0 + y = y by omega]
      rfl
    exact ed_c1 hq h3 h4 (by omega) (by omega) (fun j hj hj' => hm j hj' (by omega)) g.2.1 g.1 g.2.2.1 ((h8 0 (by omega) g.2.1).trans g.2.2.1) (h9 0 (by omega)) hv' hg
  · have g := hr.1 0 (by omega)
    have g' := hr.1 1 (by omega)
    rw [h1, h2] at g
    rw [h3, h4] at g'
    exact ed_c2 hq h5 (by omega) h7 h8' (fun j hj j0 j2 => hm j hj (by omega)) g.2.1 g'.2.1 g.1 g'.1 g.2.2.1 g'.2.2.1 g.2.2.2 g'.2.2.2 ((h8 0 (by omega) g.2.1).trans g.2.2.1) ((h8 2 (by omega) g'.2.1).trans g'.2.2.1) (h9 0 (by omega)) (h9 2 (by omega)) hv hg
theorem ed_t247 (H : post 1 ()) {q : Nat} {z : Int32} (hq : q < 16) (hr : ed_rd n C P a2 a3 a4 a5) (hu : ed_us n a1) (hs : ed_sh n d x y C P) (hf : ed_fl n d x7) (h1 : n = d + 1 → x1 = nI y)
    (hz : q < 10 → z = if q < x then 0 else if q < x + y then nI d else -5) :
    wL_lawOf_247 post mc ms x1 (nI x) x7 (nI d) (nI q) z kc ks 1 (nI n) (-1) st a1 a2 a3 a4 a5 a6 a7 a8 a9 a10 := by
  refine pk_le 10 q (fun _ => ed_t270 H hr hu hs hf h1) (fun g => ?_)
  exact ed_runS g hr hs (hz g) (fun k b6 b7 b8 b9 b10 => br_t rfl (ed_t270 H hr hu hs hf h1))
theorem ed_t162 (H : post 1 ()) {z : Int32} (hr : ed_rd n C P a2 a3 a4 a5) (hu : ed_us n a1) (hs : ed_sh n d x y C P) (hf : ed_fl n d x7) (h1 : n = d + 1 → x1 = nI y) :
    wL_lawOf_162 post mc ms x1 x2 (nI x) x7 (nI y) (nI d) z z kc ks 1 (nI n) (-1) st a1 a2 a3 a4 a5 a6 a7 a8 a9 a10 := by
  have hB := ed_shB hs
  have hp := ed_shP hs
  have hL := ed_shL hs
  refine br_t rfl (nm_r (e' := nI (6 * x + 4 * y)) ?_ ?_)
  · rw [← nI_add, ← pk_mul, ← pk_mul]
    rfl
  refine ed_ld hr hp ?_
  rw [hL]
  refine br_t rfl ?_
  refine ed_spare (p := 60) (by omega) hr hp hu (by omega) ed_p60 (by omega) (fun lo h h' b2 b3 b4 b5 hb => ?_)
  rw [hL, ed_q6] at h h'
  have e : lo = 60 - (6 * x + 4 * y) := by omega
  refine br_t (by rw [e]; exact (pk_sub (a := 60) hB.2.2.1).symm) ?_
  obtain ⟨q, hq, eq⟩ := pk_andE x2 (m := 15) 4 (by decide)
  have hq : q < 16 := hq
  refine nm_r eq ?_
  refine pk_le x q (fun g1 => ?_) (fun g1 => ?_)
  · rw [nI_add]
    refine pk_le (x + y) q (fun g2 => ?_) (fun g2 => pk_le 10 q (fun g3 => ?_) (fun g3 => ?_))
    · exact ed_t247 H hq hb hu hs hf h1 (fun _ => by rw [if_neg (by omega), if_neg (by omega)])
    · exact ed_t247 H hq hb hu hs hf h1 (fun g => absurd g (by omega))
    · exact ed_t247 H hq hb hu hs hf h1 (fun _ => by rw [if_neg (by omega), if_pos g2])
  · exact ed_t247 H hq hb hu hs hf h1 (fun _ => by rw [if_pos g1])
/-- the second admission's three ways -/
def ed_gd (x : Nat) (x1 x5 x7 x8 : Int32) : Prop :=
  (x5 = 0 ∧ x7 = 0 ∧ x8 = 0 ∧ (x1 < 1 ∨ 15 < x1)) ∨
  (∃ b : Nat, x5 = 1 ∧ x1 = nI b ∧ 1 ≤ b ∧ b ≤ 15 ∧ x7 = 0 ∧ x8 = 0 ∧ 30 < 3 * x + 2 * b) ∨
  (∃ b : Nat, x5 = 1 ∧ x1 = nI b ∧ 1 ≤ b ∧ b ≤ 15 ∧ x7 = 1 ∧ x8 = nI b ∧ 3 * x + 2 * b ≤ 30)
theorem ed_nin {b : Nat} (h1 : 1 ≤ b) (h2 : b ≤ 15) (h : nI b < 1 ∨ 15 < nI b) : False := by
  rcases h with h | h
  · have h : nI b < nI 1 := h
    rw [nI_ltI (by omega) (by omega)] at h
    omega
  · have h : nI 15 < nI b := h
    rw [nI_ltI (by omega) (by omega)] at h
    omega
theorem ed_ninj {b m : Nat} (hb : b ≤ 15) (hm : m ≤ 15) (h : nI b = nI m) : m = b := ((nI_eq (by omega) (by omega)).mp h).symm
theorem ed_out {x1 : Int32} {m p : Nat} (h : x1 < 1 ∨ nI p < x1) (e : x1 = nI m) (h1 : 1 ≤ m) (h2 : m ≤ p) (hp : p ≤ 60) : False := by
  rw [e] at h
  rcases h with h | h
  · have h : nI m < nI 1 := h
    rw [nI_ltI (by omega) (by omega)] at h
    omega
  · rw [nI_ltI (by omega) (by omega)] at h
    omega
theorem ed_t129 (H : post 1 ()) (hg : ed_gd x x1 x5 x7 x8) (hr : ed_rd d C P a2 a3 a4 a5) (hu : ed_us d a1) (hs : ed_sh d d x 0 C P) :
    wL_lawOf_129 post mc ms x1 x2 x5 (nI x) x7 x8 (nI d) kc ks 1 (nI d) (-1) st a1 a2 a3 a4 a5 a6 a7 a8 a9 a10 := by
  have hB := ed_shB hs
  have hp := ed_shP hs
  have hL := ed_shL hs
  unfold wL_lawOf_129
  refine ed_admit (p := 15) (by omega) hr hp hu (by omega) ed_p15 (fun hb => ?_) (fun m e m1 m2 hl b1 b2 b3 b4 b5 hu' hr' => ?_) (fun m e m1 m2 hl b2 b3 b4 b5 hr' => ?_)
  · rcases hg with ⟨e5, e7, e8, _⟩ | ⟨b, _, e1, b1, b2, _⟩ | ⟨b, _, e1, b1, b2, _⟩
    · rw [e8]
      exact br_t e5 (ed_t162 H hr hu hs (Or.inl ⟨e7, rfl⟩) (fun z => absurd z (by omega)))
    · exact absurd (ed_out hb e1 b1 b2 (by omega)) id
    · exact absurd (ed_out hb e1 b1 b2 (by omega)) id
  · rw [hL, ed_q15] at hl
    rcases hg with ⟨_, _, _, hb⟩ | ⟨b, _, e1, b1', b2', _, _, hb⟩ | ⟨b, e5, e1, b1', b2', e7, e8, hb⟩
    · exact absurd (ed_out (p := 15) hb e m1 m2 (by omega)) id
    · have e' : b = m := ed_ninj m2 b2' (e.symm.trans e1)
      exact absurd hb (by omega)
    · have e' : b = m := ed_ninj m2 b2' (e.symm.trans e1)
      subst e'
      rw [e8]
      refine br_f (by rw [e5]; exact ed_10) (br_f (by rw [e7]; exact ed_10) (ed_t162 H hr' hu' ?_ (Or.inr ⟨e7, rfl⟩) (fun _ => e1)))
      rcases hs with ⟨_, rfl, rfl, _⟩ | ⟨_, rfl, h1, h2, _, h3, h4⟩ | ⟨h1, h2, _⟩ | ⟨h1, h2, _⟩
      · exact Or.inr (Or.inr (Or.inl ⟨rfl, rfl, ed_upS C 0 b, ed_upS P 0 15, rfl, b1', b2'⟩))
      · exact Or.inr (Or.inr (Or.inr ⟨rfl, rfl, (ed_upN C (by omega)).trans h1, (ed_upN P (by omega)).trans h2, ed_upS C 1 b, ed_upS P 1 15, h3, h4, b1', b2', hb⟩))
      · exact absurd h1 (by omega)
      · exact absurd h1 (by omega)
  · rw [hL, ed_q15] at hl
    rcases hg with ⟨_, _, _, hb⟩ | ⟨b, e5, e1, b1', b2', e7, e8, hb⟩ | ⟨b, _, e1, b1', b2', _, _, hb⟩
    · exact absurd (ed_out (p := 15) hb e m1 m2 (by omega)) id
    · rw [e8]
      exact br_f (by rw [e5]; exact ed_10) (br_t e7 (ed_t162 H hr' hu hs (Or.inl ⟨e7, rfl⟩) (fun z => absurd z (by omega))))
    · have e' : b = m := ed_ninj m2 b2' (e.symm.trans e1)
      exact absurd hb (by omega)
/-- the first admission's two ways -/
def ed_fs (x : Nat) (x0 x4 : Int32) : Prop :=
  (x4 = 0 ∧ x = 0 ∧ (x0 < 1 ∨ 10 < x0)) ∨ (x4 = 1 ∧ x0 = nI x ∧ 1 ≤ x ∧ x ≤ 10)
theorem ed_us0 : ed_us 0 (fun _ => 0) := ⟨fun k hk => absurd hk (by omega), fun _ _ _ => rfl⟩
theorem ed_t92 (H : post 1 ()) {x0 x4 : Int32} (hf : ed_fs x x0 x4) (hg : ed_gd x x1 x5 x7 x8) (hr : ed_rd 0 C P a2 a3 a4 a5) (hu : ed_us 0 a1) :
    wL_lawOf_92 post mc ms x0 x1 x2 x4 x5 (nI x) x7 x8 kc ks 1 0 (-1) st a1 a2 a3 a4 a5 a6 a7 a8 a9 a10 := by
  have hp : ed_pr 0 C P := ⟨by omega, fun k hk => absurd hk (by omega)⟩
  unfold wL_lawOf_92
  refine ed_admit (n := 0) (p := 10) (by omega) hr hp hu (by omega) ed_p10 (fun hb => ?_) (fun m e m1 m2 hl b1 b2 b3 b4 b5 hu' hr' => ?_) (fun m e m1 m2 hl b2 b3 b4 b5 hr' => ?_)
  · rcases hf with ⟨e4, ex, _⟩ | ⟨_, e0, h1, h2⟩
    · subst ex
      exact br_t e4 (br_t rfl (br_t e4 (ed_t129 (d := 0) H hg hr hu (Or.inl ⟨rfl, rfl, rfl, rfl⟩))))
    · exact absurd (ed_out hb e0 h1 h2 (by omega)) id
  · rcases hf with ⟨_, _, hb⟩ | ⟨e4, e0, h1, h2⟩
    · exact absurd (ed_out (p := 10) hb e m1 m2 (by omega)) id
    · have e' : x = m := ed_ninj (by omega) (by omega) (e.symm.trans e0)
      subst e'
      have n4 : ¬ x4 = 0 := by rw [e4]; exact ed_10
      exact br_f n4 (br_t rfl (br_f n4 (ed_t129 (d := 1) H hg hr' hu' (Or.inr (Or.inl ⟨rfl, rfl, ed_upS C 0 x, ed_upS P 0 10, rfl, h1, h2⟩)))))
  · exact absurd hl (by rw [ed_q10]; show ¬ ¬ 0 + m * 6 ≤ 60; omega)
theorem ed_t80 (H : post 1 ()) {x0 x4 z0 : Int32} (hf : ed_fs x x0 x4) (hg : (z0 = 0 → ed_gd x x1 x5 0 0) ∧ (¬ z0 = 0 → ed_gd x x1 x5 z0 x1)) (hr : ed_rd 0 C P a2 a3 a4 a5) (hu : ed_us 0 a1) :
    wL_lawOf_80 post mc ms x0 x1 x2 x4 x5 (nI x) z0 kc ks 1 0 (-1) st a1 a2 a3 a4 a5 a6 a7 a8 a9 a10 :=
  br_c (fun e => ed_t92 H hf (by rw [e]; exact hg.1 e) hr hu) (fun e => ed_t92 H hf (hg.2 e) hr hu)
theorem ed_t55 (H : post 1 ()) {x0 x4 : Int32} (hf : ed_fs x x0 x4) (hg : (x5 = 0 ∧ (x1 < 1 ∨ 15 < x1)) ∨ (∃ b : Nat, x5 = 1 ∧ x1 = nI b ∧ 1 ≤ b ∧ b ≤ 15)) (hr : ed_rd 0 C P a2 a3 a4 a5) (hu : ed_us 0 a1) :
    wL_lawOf_55 post mc ms x0 x1 x2 x4 x5 (nI x) kc ks 1 0 (-1) st a1 a2 a3 a4 a5 a6 a7 a8 a9 a10 := by
  have hx : x ≤ 10 := by rcases hf with ⟨_, e, _⟩ | ⟨_, _, _, h⟩ <;> omega
  rcases hg with ⟨e5, hb⟩ | ⟨b, e5, e1, b1, b2⟩
  · refine br_t e5 (ed_t80 H hf ⟨fun _ => Or.inl ⟨e5, rfl, rfl, hb⟩, fun z => absurd rfl z⟩ hr hu)
  · refine br_f (by rw [e5]; exact ed_10) (pk_lt 30 (3 * x + 2 * b) (fun z => ?_) (fun z => ?_) rfl ?_)
    · exact ed_t80 H hf ⟨fun _ => Or.inr (Or.inl ⟨b, e5, e1, b1, b2, rfl, rfl, z⟩), fun z => absurd rfl z⟩ hr hu
    · exact ed_t80 H hf ⟨fun z => absurd z ed_10, fun _ => Or.inr (Or.inr ⟨b, e5, e1, b1, b2, rfl, e1, z⟩)⟩ hr hu
    · rw [e1, ← nI_add, ← pk_mul, ← pk_mul]
      rfl
theorem ed_t43 (H : post 1 ()) {x0 x4 : Int32} (hf : ed_fs x x0 x4) (hg : (x5 = 0 ∧ (x1 < 1 ∨ 15 < x1)) ∨ (∃ b : Nat, x5 = 1 ∧ x1 = nI b ∧ 1 ≤ b ∧ b ≤ 15)) (hr : ed_rd 0 C P a2 a3 a4 a5) (hu : ed_us 0 a1) :
    wL_lawOf_43 post mc ms x0 x1 x2 x4 x5 kc ks 1 0 (-1) st a1 a2 a3 a4 a5 a6 a7 a8 a9 a10 := by
  have h := ed_t55 (mc := mc) (ms := ms) (kc := kc) (ks := ks) (st := st) (x2 := x2) (a6 := a6) (a7 := a7) (a8 := a8) (a9 := a9) (a10 := a10) H hf hg hr hu
  rcases hf with ⟨e4, ex, _⟩ | ⟨e4, e0, _⟩
  · subst ex
    exact br_t e4 h
  · rw [← e0] at h
    exact br_f (by rw [e4]; exact ed_10) h
theorem ed_t25 (H : post 1 ()) {x0 x4 : Int32} (hf : ed_fs x x0 x4) (hr : ed_rd 0 C P a2 a3 a4 a5) (hu : ed_us 0 a1) :
    wL_lawOf_25 post mc ms x0 x1 x2 x4 kc ks 1 0 (-1) st a1 a2 a3 a4 a5 a6 a7 a8 a9 a10 := by
  refine br_c (fun z => ed_t43 H hf (Or.inl ⟨rfl, Or.inl z⟩) hr hu) (fun z1 => br_c (fun z => ed_t43 H hf (Or.inl ⟨rfl, Or.inr z⟩) hr hu) (fun z2 => ?_))
  obtain ⟨b, e, b1, b2⟩ := ed_rng (p := 15) (by decide) z1 z2
  exact ed_t43 H hf (Or.inr ⟨b, rfl, e, b1, b2⟩) hr hu
theorem ed_lawOf (H : post 1 ()) (x0 x1 x2 : Int32) : wpL_lawOf post 11 324 () x0 x1 x2 := by
  refine ⟨by omega, by omega, 10, 310, by omega, by omega, ?_⟩
  refine ed_init (C := fun _ => 0) (P := fun _ => 0) (by omega) (by omega) (fun b3 hr => ?_)
  refine br_c (fun z => ed_t25 (x := 0) H (Or.inl ⟨rfl, rfl, Or.inl z⟩) hr ed_us0) (fun z1 => br_c (fun z => ed_t25 (x := 0) H (Or.inl ⟨rfl, rfl, Or.inr z⟩) hr ed_us0) (fun z2 => ?_))
  obtain ⟨a, e, h1, h2⟩ := ed_rng (p := 10) (by decide) z1 z2
  exact ed_t25 (x := a) H (Or.inr ⟨rfl, e, h1, h2⟩) hr ed_us0
theorem ed_cell {po : Int32 → Prop} {L : Nat} {xs : Nat → Int32} (hL : L ≤ 3) (i : Nat) (hi : i < 3) (H : ∀ v, po v) : wpL_cellAt po L xs () (nI i) :=
  pk_le L i (fun _ => H _) (fun z => ⟨pk_in i L z, H _⟩)
theorem i_vc (xs : Nat → Int32) (L : Nat) (hL : L ≤ 3) : wpL_law (fun r => r = 1) L xs := by
  unfold wpL_law
  refine ed_cell hL 0 (by omega) (fun v0 => ?_)
  refine ed_cell hL 1 (by omega) (fun v1 => ?_)
  refine ed_cell hL 2 (by omega) (fun v2 => ?_)
  exact ⟨11, 324, by omega, by omega, ed_lawOf rfl v0 v1 v2⟩
end
