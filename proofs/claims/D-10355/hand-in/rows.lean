section
/-! the pure protocol: terms, walk, localFrom -/
theorem gp_pg : ∀ (N : Nat) (f : Nat → Nat), (∀ i, i ≤ N → f i < N) → ∃ a b, a < b ∧ b ≤ N ∧ f a = f b := by
  intro N
  induction N with
  | zero => intro f h; exact absurd (h 0 (Nat.le_refl 0)) (by omega)
  | succ N ih =>
    intro f h
    by_cases hc : ∃ i, i ≤ N ∧ f i = f (N + 1)
    · obtain ⟨i, hi, e⟩ := hc
      exact ⟨i, N + 1, by omega, by omega, e⟩
    · have h2 := h (N + 1) (by omega)
      obtain ⟨a, b, hab, hb, e⟩ := ih (fun i => if f i = N then f (N + 1) else f i) (by
        intro i hi
        have h1 := h i (by omega)
        have h3 : f i ≠ f (N + 1) := fun e => hc ⟨i, hi, e⟩
        split <;> omega)
      have ha3 : f a ≠ f (N + 1) := fun e => hc ⟨a, by omega, e⟩
      have hb3 : f b ≠ f (N + 1) := fun e => hc ⟨b, hb, e⟩
      refine ⟨a, b, hab, by omega, ?_⟩
      split at e <;> split at e <;> omega
/-- walk with fuel -/
def gp_W (P : Nat → Nat → Nat) : Nat → Nat → Nat
  | 0, n => n
  | f + 1, n => if P 1 n = 3 then gp_W P f (P 5 n) else if P 1 n = 4 then gp_W P f (P 7 n) else n
/-- one term -/
def gp_nd (P : Nat → Nat → Nat) (sz j : Nat) : Prop := P 1 j ≤ 4 ∧ (P 1 j = 1 → P 2 j < 3 ∧ P 3 j < 3 ∧ P 2 j ≠ P 3 j ∧ P 4 j ≤ 3) ∧ (P 1 j = 2 → P 2 j < 3 ∧ P 6 j < sz) ∧ (P 1 j = 1 ∨ P 1 j = 2 ∨ P 1 j = 3 → P 5 j < sz) ∧ (P 1 j = 4 → P 7 j < sz)
/-- a protocol: every term is well formed; a rank falls along loop and again -/
def gp_ok (P : Nat → Nat → Nat) (sz : Nat) : Prop := 0 < sz ∧ sz ≤ 20 ∧ (∀ j, j < sz → gp_nd P sz j) ∧ ∃ k : Nat → Nat, ∀ j, j < sz → k j ≤ 40 ∧ (P 1 j = 3 → k (P 5 j) < k j) ∧ (P 1 j = 4 → k (P 7 j) < k j)
theorem gp_W_in {P : Nat → Nat → Nat} {sz : Nat} (h : ∀ j, j < sz → gp_nd P sz j) : ∀ f n, n < sz → gp_W P f n < sz := by
  intro f
  induction f with
  | zero => intro n hn; exact hn
  | succ f ih =>
    intro n hn
    obtain ⟨_, _, _, h5, h7⟩ := h n hn
    unfold gp_W
    split
    · exact ih _ (h5 (by omega))
    · split
      · exact ih _ (h7 (by omega))
      · exact hn
theorem gp_W_k {P : Nat → Nat → Nat} {sz : Nat} (h : ∀ j, j < sz → gp_nd P sz j) {k : Nat → Nat} (hk : ∀ j, j < sz → k j ≤ 40 ∧ (P 1 j = 3 → k (P 5 j) < k j) ∧ (P 1 j = 4 → k (P 7 j) < k j)) : ∀ f n, n < sz → k n ≤ f → P 1 (gp_W P f n) ≤ 2 := by
  intro f
  induction f with
  | zero =>
    intro n hn hf
    obtain ⟨h1, _⟩ := h n hn
    obtain ⟨_, h3, h4⟩ := hk n hn
    unfold gp_W
    by_cases e3 : P 1 n = 3
    · have := h3 e3; omega
    · by_cases e4 : P 1 n = 4
      · have := h4 e4; omega
      · omega
  | succ f ih =>
    intro n hn hf
    obtain ⟨h1, _, _, h5, h7⟩ := h n hn
    obtain ⟨_, h3, h4⟩ := hk n hn
    unfold gp_W
    split
    · rename_i e
      have := h3 e
      exact ih _ (h5 (by omega)) (by omega)
    · split
      · rename_i _ e
        have := h4 e
        exact ih _ (h7 (by omega)) (by omega)
      · omega
theorem gp_W_ok {P : Nat → Nat → Nat} {sz : Nat} (h : gp_ok P sz) {n : Nat} (hn : n < sz) : gp_W P 40 n < sz ∧ P 1 (gp_W P 40 n) ≤ 2 := by
  obtain ⟨_, _, h1, k, hk⟩ := h
  exact ⟨gp_W_in h1 40 n hn, gp_W_k h1 hk 40 n hn (hk n hn).1⟩
/-- localFrom's end -/
def gp_tl (P : Nat → Nat → Nat) (n : Nat) : Int32 := if P 1 n = 2 then nI n else if P 1 n = 0 then -1 else -2
def gp_nx (P : Nat → Nat → Nat) (n : Nat) : Nat := gp_W P 40 (P 5 n)
/-- localFrom's loop, from a term that was walked to -/
def gp_L (P : Nat → Nat → Nat) (r : Nat) : Nat → Nat → Int32
  | 0, n => gp_tl P n
  | f + 1, n => if P 1 n = 1 then (if P 2 n = r ∨ P 3 n = r then nI n else gp_L P r f (gp_nx P n)) else gp_tl P n
def gp_sk (P : Nat → Nat → Nat) (r n : Nat) : Prop := P 1 n = 1 ∧ P 2 n ≠ r ∧ P 3 n ≠ r
def gp_it (P : Nat → Nat → Nat) : Nat → Nat → Nat
  | 0, n => n
  | k + 1, n => gp_it P k (gp_nx P n)
theorem gp_it_s (P : Nat → Nat → Nat) : ∀ k n, gp_it P (k + 1) n = gp_nx P (gp_it P k n) := by
  intro k
  induction k with
  | zero => intro n; rfl
  | succ k ih => intro n; exact ih (gp_nx P n)
theorem gp_it_a (P : Nat → Nat → Nat) : ∀ a k n, gp_it P (k + a) n = gp_it P a (gp_it P k n) := by
  intro a
  induction a with
  | zero => intro k n; rfl
  | succ a ih =>
    intro k n
    rw [show k + (a + 1) = (k + a) + 1 from rfl, gp_it_s, gp_it_s, ih]
theorem gp_it_in {P : Nat → Nat → Nat} {sz r : Nat} (h : gp_ok P sz) : ∀ k n, n < sz → (∀ i, i < k → gp_sk P r (gp_it P i n)) → gp_it P k n < sz := by
  intro k
  induction k with
  | zero => intro n hn _; exact hn
  | succ k ih =>
    intro n hn hs
    have h0 : gp_sk P r n := hs 0 (by omega)
    refine ih (gp_nx P n) (gp_W_ok h ((h.2.2.1 n hn).2.2.2.1 (Or.inl h0.1))).1 (fun i hi => hs (i + 1) (by omega))
def gp_rs (P : Nat → Nat → Nat) (n : Nat) : Int32 := if P 1 n = 1 then nI n else gp_tl P n
theorem gp_L_stop {P : Nat → Nat → Nat} {r : Nat} : ∀ f n k, k < f → (∀ i, i < k → gp_sk P r (gp_it P i n)) → ¬ gp_sk P r (gp_it P k n) → gp_L P r f n = gp_rs P (gp_it P k n) := by
  intro f
  induction f with
  | zero => intro n k hk; omega
  | succ f ih =>
    intro n k hk hs hn
    cases k with
    | zero =>
      have hn' : ¬ gp_sk P r n := hn
      unfold gp_L
      show _ = gp_rs P n
      unfold gp_rs
      by_cases e : P 1 n = 1
      · rw [if_pos e, if_pos e]
        by_cases e2 : P 2 n = r ∨ P 3 n = r
        · rw [if_pos e2]
        · exact absurd ⟨e, fun z => e2 (Or.inl z), fun z => e2 (Or.inr z)⟩ hn'
      · rw [if_neg e, if_neg e]
    | succ k =>
      have h0 : gp_sk P r n := hs 0 (by omega)
      unfold gp_L
      rw [if_pos h0.1, if_neg (fun z => z.elim h0.2.1 h0.2.2)]
      exact ih (gp_nx P n) k (by omega) (fun i hi => hs (i + 1) (by omega)) hn
theorem gp_L_all {P : Nat → Nat → Nat} {r : Nat} : ∀ f n, (∀ i, i < f → gp_sk P r (gp_it P i n)) → gp_L P r f n = gp_tl P (gp_it P f n) := by
  intro f
  induction f with
  | zero => intro n _; rfl
  | succ f ih =>
    intro n hs
    have h0 : gp_sk P r n := hs 0 (by omega)
    unfold gp_L
    rw [if_pos h0.1, if_neg (fun z => z.elim h0.2.1 h0.2.2)]
    exact ih (gp_nx P n) (fun i hi => hs (i + 1) (by omega))
theorem gp_tl2 {P : Nat → Nat → Nat} {n : Nat} (h : P 1 n = 1) : gp_tl P n = -2 := by
  unfold gp_tl
  rw [if_neg (by omega), if_neg (by omega)]
theorem gp_L_st {P : Nat → Nat → Nat} {sz r : Nat} (h : gp_ok P sz) {n : Nat} (hn : n < sz) : gp_L P r 20 n = gp_L P r 21 n := by
  by_cases hc : ∃ k, k < 20 ∧ ¬ gp_sk P r (gp_it P k n)
  · obtain ⟨k, ⟨hk, hs⟩, hm⟩ := pk_least (fun k => k < 20 ∧ ¬ gp_sk P r (gp_it P k n)) hc
    have ha : ∀ i, i < k → gp_sk P r (gp_it P i n) := fun i hi => Classical.byContradiction fun z => hm i hi ⟨by omega, z⟩
    rw [gp_L_stop 20 n k hk ha hs, gp_L_stop 21 n k (by omega) ha hs]
  · have ha : ∀ i, i < 20 → gp_sk P r (gp_it P i n) := fun i hi => Classical.byContradiction fun z => hc ⟨i, hi, z⟩
    obtain ⟨a, b, hab, hb, e⟩ := gp_pg 20 (fun i => gp_it P i n) (fun i hi => Nat.lt_of_lt_of_le (gp_it_in (r := r) h i n hn (fun j hj => ha j (by omega))) h.2.1)
    have e' : gp_it P a n = gp_it P b n := e
    have s20 : gp_it P 20 n = gp_it P (a + (20 - b)) n := by
      rw [gp_it_a P (20 - b) a n, e', ← gp_it_a P (20 - b) b n, show b + (20 - b) = 20 by omega]
    have k20 : gp_sk P r (gp_it P 20 n) := by rw [s20]; exact ha _ (by omega)
    have ha' : ∀ i, i < 21 → gp_sk P r (gp_it P i n) := fun i hi => by
      by_cases ei : i = 20
      · rw [ei]; exact k20
      · exact ha i (by omega)
    have s21 : gp_it P 21 n = gp_it P (a + (20 - b) + 1) n := by
      rw [show (21 : Nat) = 20 + 1 from rfl, gp_it_s, s20, ← gp_it_s]
    have k21 : gp_sk P r (gp_it P 21 n) := by rw [s21]; exact ha' _ (by omega)
    rw [gp_L_all 20 n ha, gp_L_all 21 n ha', gp_tl2 k20.1, gp_tl2 k21.1]
/-- a message in which r has no part is passed over -/
theorem gp_L_sh {P : Nat → Nat → Nat} {sz r : Nat} (h : gp_ok P sz) {n : Nat} (hn : n < sz) (hs : gp_sk P r n) : gp_L P r 21 n = gp_L P r 21 (gp_nx P n) := by
  rw [← gp_L_st h (n := gp_nx P n) (gp_W_ok h ((h.2.2.1 n hn).2.2.2.1 (Or.inl hs.1))).1]
  show gp_L P r (20 + 1) n = _
  rw [gp_L, if_pos hs.1, if_neg (fun z => z.elim hs.2.1 hs.2.2)]
theorem gp_L_ch {P : Nat → Nat → Nat} {r n f : Nat} (h : P 1 n = 2) : gp_L P r f n = nI n := by
  cases f with
  | zero => show gp_tl P n = _; unfold gp_tl; rw [if_pos h]
  | succ f => unfold gp_L; rw [if_neg (by omega)]; unfold gp_tl; rw [if_pos h]
/-- what localFrom may answer -/
theorem gp_L_find {P : Nat → Nat → Nat} {sz r : Nat} (h : gp_ok P sz) : ∀ f n, n < sz → P 1 n ≤ 2 → gp_L P r f n = -1 ∨ gp_L P r f n = -2 ∨ ∃ k, (∀ i, i < k → gp_sk P r (gp_it P i n)) ∧ ¬ gp_sk P r (gp_it P k n) ∧ (P 1 (gp_it P k n) = 1 ∨ P 1 (gp_it P k n) = 2) ∧ gp_it P k n < sz ∧ gp_L P r f n = nI (gp_it P k n) := by
  have tl : ∀ n, n < sz → gp_tl P n = -1 ∨ gp_tl P n = -2 ∨ ∃ k, (∀ i, i < k → gp_sk P r (gp_it P i n)) ∧ ¬ gp_sk P r (gp_it P k n) ∧ (P 1 (gp_it P k n) = 1 ∨ P 1 (gp_it P k n) = 2) ∧ gp_it P k n < sz ∧ gp_tl P n = nI (gp_it P k n) := by
    intro n hn
    by_cases e : P 1 n = 2
    · refine Or.inr (Or.inr ⟨0, fun i hi => absurd hi (by omega), fun z => ?_, Or.inr e, hn, ?_⟩)
      · have z1 : P 1 n = 1 := z.1
        omega
      · unfold gp_tl; rw [if_pos e]; rfl
    · unfold gp_tl
      rw [if_neg e]
      by_cases e0 : P 1 n = 0
      · rw [if_pos e0]; exact Or.inl rfl
      · rw [if_neg e0]; exact Or.inr (Or.inl rfl)
  intro f
  induction f with
  | zero => intro n hn _; exact tl n hn
  | succ f ih =>
    intro n hn hk
    unfold gp_L
    by_cases e : P 1 n = 1
    · rw [if_pos e]
      by_cases e2 : P 2 n = r ∨ P 3 n = r
      · rw [if_pos e2]
        exact Or.inr (Or.inr ⟨0, fun i hi => absurd hi (by omega), fun z => e2.elim z.2.1 z.2.2, Or.inl e, hn, rfl⟩)
      · rw [if_neg e2]
        obtain ⟨w1, w2⟩ := gp_W_ok h ((h.2.2.1 n hn).2.2.2.1 (Or.inl e))
        rcases ih (gp_nx P n) w1 w2 with z | z | ⟨k, z1, z2, z3, z4, z5⟩
        · exact Or.inl z
        · exact Or.inr (Or.inl z)
        · refine Or.inr (Or.inr ⟨k + 1, fun i hi => ?_, z2, z3, z4, z5⟩)
          cases i with
          | zero => exact ⟨e, fun z => e2 (Or.inl z), fun z => e2 (Or.inr z)⟩
          | succ i => exact z1 i (by omega)
    · rw [if_neg e]
      exact tl n hn
end
section
/-! the global path, where a role stands on it -/
def gp_le (p : Nat) : Nat := if p = 0 then 1 else 0
def gp_gr (p : Nat) : Nat := if p = 2 then 1 else 2
def gp_pt (P : Nat → Nat → Nat) (n h : Nat) : Nat := if h = 1 then P 5 n else P 6 n
/-- one event on: s = (term, 0: nothing told yet; 1, 2: the lesser other was told pick 0, 1) -/
def gp_st (P : Nat → Nat → Nat) (b : Nat) (s : Nat × Nat) : Nat × Nat :=
  if P 1 s.1 = 1 then (gp_nx P s.1, 0) else if P 1 s.1 = 2 then (if s.2 = 0 then (s.1, b + 1) else (gp_W P 40 (gp_pt P s.1 s.2), 0)) else s
def gp_g (P : Nat → Nat → Nat) (n0 : Nat) (c : Nat → Nat) : Nat → Nat × Nat
  | 0 => (gp_W P 40 n0, 0)
  | i + 1 => gp_st P (c i) (gp_g P n0 c i)
/-- a place on the path -/
def gp_gd (P : Nat → Nat → Nat) (sz : Nat) (s : Nat × Nat) : Prop := s.1 < sz ∧ P 1 s.1 ≤ 2 ∧ (P 1 s.1 ≠ 2 → s.2 = 0) ∧ s.2 ≤ 2
def gp_to (P : Nat → Nat → Nat) (s : Nat × Nat) : Nat := if P 1 s.1 = 1 then P 3 s.1 else if s.2 = 0 then gp_le (P 2 s.1) else gp_gr (P 2 s.1)
abbrev gp_ev (P : Nat → Nat → Nat) (s : Nat × Nat) (p q : Nat) : Prop := (P 1 s.1 = 1 ∨ P 1 s.1 = 2) ∧ P 2 s.1 = p ∧ gp_to P s = q
def gp_in (P : Nat → Nat → Nat) (s : Nat × Nat) (r : Nat) : Prop := (P 1 s.1 = 1 ∨ P 1 s.1 = 2) ∧ (P 2 s.1 = r ∨ gp_to P s = r)
/-- where role r is, at s -/
def gp_loc (P : Nat → Nat → Nat) (r : Nat) (s : Nat × Nat) : Int32 :=
  if P 1 s.1 = 2 ∧ s.2 ≠ 0 ∧ r = gp_le (P 2 s.1) then gp_L P r 21 (gp_W P 40 (gp_pt P s.1 s.2)) else gp_L P r 21 s.1
def gp_hf (P : Nat → Nat → Nat) (s : Nat × Nat) (r : Nat) : Prop := P 1 s.1 = 2 ∧ s.2 ≠ 0 ∧ P 2 s.1 = r
theorem gp_pt_in {P : Nat → Nat → Nat} {sz n h : Nat} (hP : gp_ok P sz) (hn : n < sz) (h2 : P 1 n = 2) : gp_pt P n h < sz := by
  obtain ⟨_, _, h6, h5, _⟩ := hP.2.2.1 n hn
  unfold gp_pt
  split
  · exact h5 (by omega)
  · exact (h6 h2).2
theorem gp_st1 {P : Nat → Nat → Nat} {b : Nat} {s : Nat × Nat} (h : P 1 s.1 = 1) : gp_st P b s = (gp_nx P s.1, 0) := by
  unfold gp_st; rw [if_pos h]
theorem gp_st20 {P : Nat → Nat → Nat} {b : Nat} {s : Nat × Nat} (h : P 1 s.1 = 2) (h0 : s.2 = 0) : gp_st P b s = (s.1, b + 1) := by
  unfold gp_st; rw [if_neg (by omega), if_pos h, if_pos h0]
theorem gp_st2 {P : Nat → Nat → Nat} {b : Nat} {s : Nat × Nat} (h : P 1 s.1 = 2) (h0 : s.2 ≠ 0) : gp_st P b s = (gp_W P 40 (gp_pt P s.1 s.2), 0) := by
  unfold gp_st; rw [if_neg (by omega), if_pos h, if_neg h0]
theorem gp_st0 {P : Nat → Nat → Nat} {b : Nat} {s : Nat × Nat} (h : P 1 s.1 = 0) : gp_st P b s = s := by
  unfold gp_st; rw [if_neg (by omega), if_neg (by omega)]
theorem gp_st_gd {P : Nat → Nat → Nat} {sz b : Nat} {s : Nat × Nat} (hP : gp_ok P sz) (hb : b < 2) (h : gp_gd P sz s) : gp_gd P sz (gp_st P b s) := by
  obtain ⟨h1, h2, h3, h4⟩ := h
  by_cases e1 : P 1 s.1 = 1
  · rw [gp_st1 e1]
    obtain ⟨w1, w2⟩ := gp_W_ok hP ((hP.2.2.1 s.1 h1).2.2.2.1 (Or.inl e1))
    exact ⟨w1, w2, fun _ => rfl, by simp⟩
  · by_cases e2 : P 1 s.1 = 2
    · by_cases e3 : s.2 = 0
      · rw [gp_st20 e2 e3]
        exact ⟨h1, h2, fun z => absurd e2 z, by show b + 1 ≤ 2; omega⟩
      · rw [gp_st2 e2 e3]
        obtain ⟨w1, w2⟩ := gp_W_ok hP (gp_pt_in (h := s.2) hP h1 e2)
        exact ⟨w1, w2, fun _ => rfl, by simp⟩
    · rw [gp_st0 (by omega)]
      exact ⟨h1, h2, h3, h4⟩
theorem gp_g_gd {P : Nat → Nat → Nat} {sz n0 : Nat} {c : Nat → Nat} (hP : gp_ok P sz) (h0 : n0 < sz) (hc : ∀ i, c i < 2) : ∀ i, gp_gd P sz (gp_g P n0 c i) := by
  intro i
  induction i with
  | zero =>
    obtain ⟨w1, w2⟩ := gp_W_ok hP h0
    exact ⟨w1, w2, fun _ => rfl, by simp [gp_g]⟩
  | succ i ih => exact gp_st_gd hP (hc i) ih
theorem gp_roles : ∀ p, p < 3 → gp_le p < 3 ∧ gp_gr p < 3 ∧ gp_le p ≠ p ∧ gp_gr p ≠ p ∧ gp_le p ≠ gp_gr p ∧ ∀ r, r < 3 → r = p ∨ r = gp_le p ∨ r = gp_gr p := by decide
theorem gp_ev_in {P : Nat → Nat → Nat} {sz : Nat} {s : Nat × Nat} (hP : gp_ok P sz) (h : gp_gd P sz s) (he : P 1 s.1 = 1 ∨ P 1 s.1 = 2) : P 2 s.1 < 3 ∧ gp_to P s < 3 ∧ P 2 s.1 ≠ gp_to P s := by
  obtain ⟨_, m1, m2, _, _⟩ := hP.2.2.1 s.1 h.1
  unfold gp_to
  by_cases e1 : P 1 s.1 = 1
  · rw [if_pos e1]
    exact ⟨(m1 e1).1, (m1 e1).2.1, (m1 e1).2.2.1⟩
  · have e2 : P 1 s.1 = 2 := by omega
    have hp := (m2 e2).1
    obtain ⟨r1, r2, r3, r4, r5, _⟩ := gp_roles _ hp
    rw [if_neg e1]
    split
    · exact ⟨hp, r1, fun z => r3 z.symm⟩
    · exact ⟨hp, r2, fun z => r4 z.symm⟩
/-- an event in which r has no part doesn't move it -/
theorem gp_loc_sk {P : Nat → Nat → Nat} {sz b r : Nat} {s : Nat × Nat} (hP : gp_ok P sz) (h : gp_gd P sz s) (hr : r < 3) (hn : ¬ gp_in P s r) : gp_loc P r (gp_st P b s) = gp_loc P r s := by
  obtain ⟨h1, h2, h3, h4⟩ := h
  have plain : ∀ m, gp_loc P r (m, 0) = gp_L P r 21 m := fun m => by
    unfold gp_loc; rw [if_neg (fun z => z.2.1 rfl)]
  by_cases e1 : P 1 s.1 = 1
  · rw [gp_st1 e1, plain]
    have hs : gp_sk P r s.1 := by
      refine ⟨e1, fun z => hn ⟨Or.inl e1, Or.inl z⟩, fun z => hn ⟨Or.inl e1, Or.inr ?_⟩⟩
      unfold gp_to; rw [if_pos e1]; exact z
    unfold gp_loc
    rw [if_neg (fun z => by omega)]
    exact (gp_L_sh hP h1 hs).symm
  · by_cases e2 : P 1 s.1 = 2
    · have hp := ((hP.2.2.1 s.1 h1).2.2.1 e2).1
      obtain ⟨r1, r2, r3, r4, r5, r6⟩ := gp_roles _ hp
      by_cases e3 : s.2 = 0
      · have nl : r ≠ gp_le (P 2 s.1) := fun z => hn ⟨Or.inr e2, Or.inr (by unfold gp_to; rw [if_neg e1, if_pos e3]; exact z.symm)⟩
        rw [gp_st20 e2 e3]
        unfold gp_loc
        rw [if_neg (fun z => nl z.2.2), if_neg (fun z => nl z.2.2)]
      · have ng : r ≠ gp_gr (P 2 s.1) := fun z => hn ⟨Or.inr e2, Or.inr (by unfold gp_to; rw [if_neg e1, if_neg e3]; exact z.symm)⟩
        have np : r ≠ P 2 s.1 := fun z => hn ⟨Or.inr e2, Or.inl z.symm⟩
        have il : r = gp_le (P 2 s.1) := by
          rcases r6 r hr with z | z | z
          · exact absurd z np
          · exact z
          · exact absurd z ng
        rw [gp_st2 e2 e3, plain]
        unfold gp_loc
        rw [if_pos ⟨e2, e3, il⟩]
    · rw [gp_st0 (by omega)]
theorem gp_loc_skn {P : Nat → Nat → Nat} {sz n0 r : Nat} {c : Nat → Nat} (hP : gp_ok P sz) (h0 : n0 < sz) (hc : ∀ i, c i < 2) (hr : r < 3) (a : Nat) : ∀ d, (∀ i, a ≤ i → i < a + d → ¬ gp_in P (gp_g P n0 c i) r) → gp_loc P r (gp_g P n0 c (a + d)) = gp_loc P r (gp_g P n0 c a) := by
  intro d
  induction d with
  | zero => intro _; rfl
  | succ d ih =>
    intro h
    rw [← ih (fun i h1 h2 => h i h1 (by omega))]
    exact gp_loc_sk hP (gp_g_gd hP h0 hc (a + d)) hr (h (a + d) (by omega) (by omega))
/-- the next event of r from a on is j -/
def gp_nxt (P : Nat → Nat → Nat) (n0 : Nat) (c : Nat → Nat) (a r j : Nat) : Prop := a ≤ j ∧ (∀ i, a ≤ i → i < j → ¬ gp_in P (gp_g P n0 c i) r) ∧ gp_in P (gp_g P n0 c j) r
theorem gp_find0 {P : Nat → Nat → Nat} {sz n0 r : Nat} {c : Nat → Nat} (hP : gp_ok P sz) (h0 : n0 < sz) (hc : ∀ i, c i < 2) (hr : r < 3) : ∀ k a, (gp_g P n0 c a).2 = 0 → (∀ i, i < k → gp_sk P r (gp_it P i (gp_g P n0 c a).1)) → ¬ gp_sk P r (gp_it P k (gp_g P n0 c a).1) → (P 1 (gp_it P k (gp_g P n0 c a).1) = 1 ∨ P 1 (gp_it P k (gp_g P n0 c a).1) = 2) → ∃ j, gp_nxt P n0 c a r j ∧ (gp_g P n0 c j).1 = gp_it P k (gp_g P n0 c a).1 := by
  intro k
  induction k with
  | zero =>
    intro a ha _ hs hk
    have hs' : ¬ gp_sk P r (gp_g P n0 c a).1 := hs
    have hk' : P 1 (gp_g P n0 c a).1 = 1 ∨ P 1 (gp_g P n0 c a).1 = 2 := hk
    by_cases e1 : P 1 (gp_g P n0 c a).1 = 1
    · refine ⟨a, ⟨Nat.le_refl a, fun i h1 h2 => absurd h2 (by omega), Or.inl e1, ?_⟩, rfl⟩
      by_cases e2 : P 2 (gp_g P n0 c a).1 = r
      · exact Or.inl e2
      · refine Or.inr ?_
        unfold gp_to
        rw [if_pos e1]
        exact Classical.byContradiction fun z => hs' ⟨e1, e2, z⟩
    · have e2 : P 1 (gp_g P n0 c a).1 = 2 := by omega
      have hp := ((hP.2.2.1 _ (gp_g_gd hP h0 hc a).1).2.2.1 e2).1
      obtain ⟨r1, r2, r3, r4, r5, r6⟩ := gp_roles _ hp
      have to0 : gp_to P (gp_g P n0 c a) = gp_le (P 2 (gp_g P n0 c a).1) := by
        unfold gp_to; rw [if_neg e1, if_pos ha]
      rcases r6 r hr with z | z | z
      · exact ⟨a, ⟨Nat.le_refl a, fun i h1 h2 => absurd h2 (by omega), Or.inr e2, Or.inl z.symm⟩, rfl⟩
      · exact ⟨a, ⟨Nat.le_refl a, fun i h1 h2 => absurd h2 (by omega), Or.inr e2, Or.inr (to0.trans z.symm)⟩, rfl⟩
      · have e : gp_g P n0 c (a + 1) = ((gp_g P n0 c a).1, c a + 1) := gp_st20 e2 ha
        refine ⟨a + 1, ⟨by omega, fun i h1 h2 => ?_, ?_⟩, ?_⟩
        · have : i = a := by omega
          rw [this]
          intro w
          rcases w.2 with w | w
          · exact r4 (by rw [← z, w])
          · exact r5 (by rw [← z, ← to0, w])
        · rw [e]
          refine ⟨Or.inr e2, Or.inr ?_⟩
          unfold gp_to
          rw [if_neg e1, if_neg (by simp)]
          exact z.symm
        · rw [e]; rfl
  | succ k ih =>
    intro a ha hs hn hk
    have hsk : gp_sk P r (gp_g P n0 c a).1 := hs 0 (by omega)
    have e : gp_g P n0 c (a + 1) = (gp_nx P (gp_g P n0 c a).1, 0) := gp_st1 hsk.1
    have e1 : (gp_g P n0 c (a + 1)).1 = gp_nx P (gp_g P n0 c a).1 := by rw [e]
    obtain ⟨j, ⟨j1, j2, j3⟩, j4⟩ := ih (a + 1) (by rw [e]) (fun i hi => by rw [e1]; exact hs (i + 1) (by omega)) (by rw [e1]; exact hn) (by rw [e1]; exact hk)
    refine ⟨j, ⟨by omega, fun i h1 h2 => ?_, j3⟩, by rw [j4, e1]; rfl⟩
    by_cases ei : i = a
    · rw [ei]
      intro w
      rcases w.2 with w | w
      · exact hsk.2.1 w
      · unfold gp_to at w
        rw [if_pos hsk.1] at w
        exact hsk.2.2 w
    · exact j2 i (by omega) h2
/-- a role's place is -1, -2, or the term of its next event -/
theorem gp_find {P : Nat → Nat → Nat} {sz n0 r : Nat} {c : Nat → Nat} (hP : gp_ok P sz) (h0 : n0 < sz) (hc : ∀ i, c i < 2) (hr : r < 3) (a : Nat) : gp_loc P r (gp_g P n0 c a) = -1 ∨ gp_loc P r (gp_g P n0 c a) = -2 ∨ ∃ j, gp_nxt P n0 c a r j ∧ gp_loc P r (gp_g P n0 c a) = nI (gp_g P n0 c j).1 := by
  have zero : ∀ a, (gp_g P n0 c a).2 = 0 → gp_loc P r (gp_g P n0 c a) = -1 ∨ gp_loc P r (gp_g P n0 c a) = -2 ∨ ∃ j, gp_nxt P n0 c a r j ∧ gp_loc P r (gp_g P n0 c a) = nI (gp_g P n0 c j).1 := by
    intro a ha
    obtain ⟨g1, g2, g3, g4⟩ := gp_g_gd hP h0 hc a
    unfold gp_loc
    rw [if_neg (fun z => z.2.1 ha)]
    rcases gp_L_find (r := r) hP 21 _ g1 g2 with z | z | ⟨k, z1, z2, z3, z4, z5⟩
    · exact Or.inl z
    · exact Or.inr (Or.inl z)
    · obtain ⟨j, j1, j2⟩ := gp_find0 hP h0 hc hr k a ha z1 z2 z3
      exact Or.inr (Or.inr ⟨j, j1, by rw [z5, j2]⟩)
  by_cases ha : (gp_g P n0 c a).2 = 0
  · exact zero a ha
  · obtain ⟨g1, g2, g3, g4⟩ := gp_g_gd hP h0 hc a
    have e2 : P 1 (gp_g P n0 c a).1 = 2 := Classical.byContradiction fun z => ha (g3 z)
    have hp := ((hP.2.2.1 _ g1).2.2.1 e2).1
    obtain ⟨r1, r2, r3, r4, r5, r6⟩ := gp_roles _ hp
    have to0 : gp_to P (gp_g P n0 c a) = gp_gr (P 2 (gp_g P n0 c a).1) := by
      unfold gp_to; rw [if_neg (by omega), if_neg ha]
    by_cases el : r = gp_le (P 2 (gp_g P n0 c a).1)
    · have nin : ¬ gp_in P (gp_g P n0 c a) r := by
        intro w
        rcases w.2 with w | w
        · exact r3 (by rw [← el, w])
        · exact r5 (by rw [← el, ← w, to0])
      have e : gp_g P n0 c (a + 1) = (gp_W P 40 (gp_pt P (gp_g P n0 c a).1 (gp_g P n0 c a).2), 0) := gp_st2 e2 ha
      have el : gp_loc P r (gp_g P n0 c (a + 1)) = gp_loc P r (gp_g P n0 c a) := gp_loc_sk hP (gp_g_gd hP h0 hc a) hr nin
      rcases zero (a + 1) (by rw [e]) with z | z | ⟨j, ⟨j1, j2, j3⟩, j4⟩
      · exact Or.inl (by rw [← el]; exact z)
      · exact Or.inr (Or.inl (by rw [← el]; exact z))
      · refine Or.inr (Or.inr ⟨j, ⟨by omega, fun i h1 h2 => ?_, j3⟩, by rw [← el]; exact j4⟩)
        by_cases ei : i = a
        · rw [ei]; exact nin
        · exact j2 i (by omega) h2
    · refine Or.inr (Or.inr ⟨a, ⟨Nat.le_refl a, fun i h1 h2 => absurd h2 (by omega), Or.inr e2, ?_⟩, ?_⟩)
      · rcases r6 r hr with z | z | z
        · exact Or.inl z.symm
        · exact absurd z el
        · exact Or.inr (to0.trans z.symm)
      · unfold gp_loc
        rw [if_neg (fun z => el z.2.2)]
        exact gp_L_ch e2
/-- at the chooser's next event: half told or not, as at its own index -/
theorem gp_hf_j {P : Nat → Nat → Nat} {n0 r a j : Nat} {c : Nat → Nat} (hj : gp_nxt P n0 c a r j) (hp : P 2 (gp_g P n0 c j).1 = r) (h2 : P 1 (gp_g P n0 c j).1 = 2) : (gp_g P n0 c j).2 ≠ 0 ↔ gp_hf P (gp_g P n0 c a) r := by
  obtain ⟨j1, j2, j3⟩ := hj
  constructor
  · intro h
    by_cases e : j = a
    · rw [← e]; exact ⟨h2, h, hp⟩
    · exfalso
      obtain ⟨i, rfl⟩ : ∃ i, j = i + 1 := ⟨j - 1, by omega⟩
      have hi := j2 i (by omega) (by omega)
      have e : gp_g P n0 c (i + 1) = gp_st P (c i) (gp_g P n0 c i) := rfl
      by_cases k1 : P 1 (gp_g P n0 c i).1 = 1
      · rw [e, gp_st1 k1] at h; exact h rfl
      · by_cases k2 : P 1 (gp_g P n0 c i).1 = 2
        · by_cases k3 : (gp_g P n0 c i).2 = 0
          · rw [e, gp_st20 k2 k3] at hp
            exact hi ⟨Or.inr k2, Or.inl hp⟩
          · rw [e, gp_st2 k2 k3] at h; exact h rfl
        · have e' : gp_g P n0 c (i + 1) = gp_g P n0 c i := by
            rw [e]; unfold gp_st; rw [if_neg k1, if_neg k2]
          rw [e'] at h2
          exact k2 h2
  · intro h
    by_cases e : j = a
    · rw [e]; exact h.2.1
    · exact absurd ⟨Or.inr h.1, Or.inl h.2.2⟩ (j2 a (Nat.le_refl a) (by omega))
theorem gp_g_eq {P : Nat → Nat → Nat} {n0 : Nat} {c c' : Nat → Nat} : ∀ j, (∀ i, i < j → c' i = c i) → gp_g P n0 c' j = gp_g P n0 c j := by
  intro j
  induction j with
  | zero => intro _; rfl
  | succ j ih =>
    intro h
    show gp_st P (c' j) (gp_g P n0 c' j) = gp_st P (c j) (gp_g P n0 c j)
    rw [ih (fun i hi => h i (by omega)), h j (by omega)]
end
section
/-! the roles' indices on the path, the queues between them, one step, progress -/
def gp_up (t : Nat → Nat) (r v : Nat) : Nat → Nat := fun x => if x = r then v else t x
theorem gp_up_s {t : Nat → Nat} {r v : Nat} : gp_up t r v r = v := by unfold gp_up; rw [if_pos rfl]
theorem gp_up_n {t : Nat → Nat} {r v x : Nat} (h : x ≠ r) : gp_up t r v x = t x := by unfold gp_up; rw [if_neg h]
/-- what was received was sent -/
def gp_RS (P : Nat → Nat → Nat) (n0 : Nat) (c t : Nat → Nat) : Prop := ∀ i p q, gp_ev P (gp_g P n0 c i) p q → i < t q → i < t p
/-- a role's index is just behind an event of its own -/
def gp_LZ (P : Nat → Nat → Nat) (n0 : Nat) (c t : Nat → Nat) : Prop := ∀ r, r < 3 → t r = 0 ∨ gp_in P (gp_g P n0 c (t r - 1)) r
/-- the events on the way from p to q -/
def gp_ql (P : Nat → Nat → Nat) (n0 : Nat) (c t : Nat → Nat) (p q : Nat) : List Nat := (List.range (t p)).filter (fun i => decide (t q ≤ i ∧ gp_ev P (gp_g P n0 c i) p q))
theorem gp_f_ext {p : Nat → Bool} {a : Nat} : ∀ d, (∀ i, a ≤ i → i < a + d → p i = false) → (List.range (a + d)).filter p = (List.range a).filter p := by
  intro d
  induction d with
  | zero => intro _; rfl
  | succ d ih =>
    intro h
    rw [show a + (d + 1) = (a + d) + 1 from rfl, List.range_succ, List.filter_append, ih (fun i h1 h2 => h i h1 (by omega))]
    have : List.filter p [a + d] = [] := by
      rw [List.filter_cons_of_neg (by rw [h (a + d) (by omega) (by omega)]; decide), List.filter_nil]
    rw [this, List.append_nil]
theorem gp_f_cg {p q : Nat → Bool} {b : Nat} (h : ∀ i, i < b → p i = q i) : (List.range b).filter p = (List.range b).filter q :=
  List.filter_congr (fun i hi => h i (List.mem_range.mp hi))
theorem gp_f_no {p : Nat → Bool} {b : Nat} (h : ∀ i, i < b → p i = false) : (List.range b).filter p = [] :=
  List.filter_eq_nil_iff.mpr (fun i hi => by rw [h i (List.mem_range.mp hi)]; decide)
theorem gp_f_hd {p q : Nat → Bool} {j : Nat} (hj : p j = true) (h0 : ∀ i, i < j → p i = false) (hq : ∀ i, q i = (decide (j < i) && p i)) : ∀ b, j < b → (List.range b).filter p = j :: (List.range b).filter q := by
  intro b
  induction b with
  | zero => intro h; omega
  | succ b ih =>
    intro h
    rw [List.range_succ, List.filter_append, List.filter_append]
    by_cases e : j = b
    · subst e
      rw [gp_f_no h0, gp_f_no (p := q) (fun i hi => by rw [hq i, h0 i hi, Bool.and_false])]
      rw [List.filter_cons_of_pos hj, List.filter_cons_of_neg (by rw [hq j]; simp)]
      rfl
    · rw [ih (by omega)]
      have eb : p b = q b := by
        rw [hq b, decide_eq_true (show j < b by omega), Bool.true_and]
      have : List.filter p [b] = List.filter q [b] := by
        unfold List.filter
        rw [eb]
        rfl
      rw [this, List.cons_append]
section
variable {P : Nat → Nat → Nat} {sz n0 : Nat} {c t : Nat → Nat}
/-- nobody is beyond a choose that isn't made -/
theorem gp_dec (hP : gp_ok P sz) (h0 : n0 < sz) (hc : ∀ i, c i < 2) (hS : gp_RS P n0 c t) (hZ : gp_LZ P n0 c t) {i x : Nat} (hx : x < 3) (h2 : P 1 (gp_g P n0 c i).1 = 2) (hh : (gp_g P n0 c i).2 = 0) (hi : i < t x) : i < t (P 2 (gp_g P n0 c i).1) := by
  have hp := ((hP.2.2.1 _ (gp_g_gd hP h0 hc i).1).2.2.1 h2).1
  obtain ⟨r1, r2, r3, r4, r5, r6⟩ := gp_roles _ hp
  have to0 : gp_to P (gp_g P n0 c i) = gp_le (P 2 (gp_g P n0 c i).1) := by
    unfold gp_to; rw [if_neg (by omega), if_pos hh]
  rcases r6 x hx with z | z | z
  · rw [← z]; exact hi
  · exact hS i _ _ ⟨Or.inr h2, rfl, to0⟩ (by rw [← z]; exact hi)
  · have e : gp_g P n0 c (i + 1) = ((gp_g P n0 c i).1, c i + 1) := gp_st20 h2 hh
    have hne : t x - 1 ≠ i := by
      intro w
      rcases hZ x hx with y | y
      · omega
      · rw [w] at y
        rcases y.2 with y | y
        · exact r4 (by rw [← z, y])
        · exact r5 (by rw [← z, ← y, to0])
    have := hS (i + 1) (P 2 (gp_g P n0 c i).1) x (by
      rw [e]
      refine ⟨Or.inr h2, rfl, ?_⟩
      unfold gp_to
      rw [if_neg (show ¬ P 1 (gp_g P n0 c i).1 = 1 by omega), if_neg (by simp)]
      exact z.symm) (by omega)
    omega
theorem gp_loc_in (hP : gp_ok P sz) {s : Nat × Nat} {r : Nat} (h : gp_gd P sz s) (hi : gp_in P s r) : gp_loc P r s = nI s.1 := by
  obtain ⟨h1, h2, h3, h4⟩ := h
  by_cases e1 : P 1 s.1 = 1
  · unfold gp_loc
    rw [if_neg (fun z => by omega)]
    rw [gp_L, if_pos e1, if_pos]
    rcases hi.2 with z | z
    · exact Or.inl z
    · unfold gp_to at z; rw [if_pos e1] at z; exact Or.inr z
  · have e2 : P 1 s.1 = 2 := by rcases hi.1 with z | z <;> omega
    have hp := ((hP.2.2.1 _ h1).2.2.1 e2).1
    obtain ⟨r1, r2, r3, r4, r5, r6⟩ := gp_roles _ hp
    unfold gp_loc
    rw [if_neg, gp_L_ch e2]
    intro z
    rcases hi.2 with w | w
    · exact r3 (by rw [← z.2.2, w])
    · unfold gp_to at w
      rw [if_neg e1, if_neg z.2.1] at w
      exact r5 (by rw [← z.2.2, ← w])
/-- role r does its next event, j -/
theorem gp_adv (hP : gp_ok P sz) (h0 : n0 < sz) (hc : ∀ i, c i < 2) (hS : gp_RS P n0 c t) (hZ : gp_LZ P n0 c t) {c' : Nat → Nat} {r j : Nat} (hr : r < 3) (hj : gp_nxt P n0 c (t r) r j) (hc' : ∀ i, c' i < 2)
    (hA : ∀ i, i ≤ j → gp_g P n0 c' i = gp_g P n0 c i) (hB : ∀ x, x < 3 → ∀ i, i ≤ t x → gp_g P n0 c' i = gp_g P n0 c i) (hs : P 2 (gp_g P n0 c j).1 ≠ r → j < t (P 2 (gp_g P n0 c j).1)) :
    gp_RS P n0 c' (gp_up t r (j + 1)) ∧ gp_LZ P n0 c' (gp_up t r (j + 1)) ∧ ∀ p q, p < 3 → q < 3 → ¬ gp_ev P (gp_g P n0 c j) p q → gp_ql P n0 c' (gp_up t r (j + 1)) p q = gp_ql P n0 c t p q := by
  obtain ⟨j1, j2, j3⟩ := hj
  refine ⟨?_, ?_, ?_⟩
  · intro i p q he hi
    obtain ⟨d1, d2, d3⟩ := gp_ev_in hP (gp_g_gd hP h0 hc' i) he.1
    have hp3 : p < 3 := by rw [← he.2.1]; exact d1
    have hq3 : q < 3 := by rw [← he.2.2]; exact d2
    have hpq : p ≠ q := by rw [← he.2.1, ← he.2.2]; exact d3
    by_cases eq : q = r
    · rw [eq, gp_up_s] at hi
      have hpr : p ≠ r := fun z => hpq (z.trans eq.symm)
      rw [gp_up_n hpr]
      rw [hA i (by omega)] at he
      by_cases e1 : i < t r
      · exact hS i p q he (by rw [eq]; exact e1)
      · by_cases e2 : i < j
        · exact absurd ⟨he.1, Or.inr (he.2.2.trans eq)⟩ (j2 i (by omega) e2)
        · have : i = j := by omega
          subst this
          have := hs (by rw [he.2.1]; exact hpr)
          rw [he.2.1] at this
          exact this
    · rw [gp_up_n eq] at hi
      rw [hB q hq3 i (by omega)] at he
      have := hS i p q he hi
      by_cases ep : p = r
      · rw [ep, gp_up_s]; rw [ep] at this; omega
      · rw [gp_up_n ep]; exact this
  · intro x hx
    by_cases e : x = r
    · rw [e, gp_up_s]
      refine Or.inr ?_
      rw [show j + 1 - 1 = j from rfl, hA j (Nat.le_refl j)]
      exact j3
    · rw [gp_up_n e]
      rcases hZ x hx with z | z
      · exact Or.inl z
      · refine Or.inr ?_
        rw [hB x hx _ (by omega)]
        exact z
  · intro p q hp hq hn
    unfold gp_ql
    by_cases ep : p = r
    · by_cases eq : q = r
      · rw [ep, eq, gp_up_s, gp_f_no, gp_f_no]
        · intro i hi
          exact decide_eq_false (fun z => by omega)
        · intro i hi
          exact decide_eq_false (fun z => by omega)
      · rw [ep, gp_up_s, gp_up_n eq]
        rw [show j + 1 = t r + (j + 1 - t r) by omega, gp_f_ext]
        · refine gp_f_cg (fun i hi => ?_)
          rw [hB r hr i (by omega)]
        · intro i h1 h2
          refine decide_eq_false (fun z => ?_)
          rw [hA i (by omega)] at z
          by_cases e2 : i < j
          · exact j2 i h1 e2 ⟨z.2.1, Or.inl z.2.2.1⟩
          · have : i = j := by omega
            subst this
            exact hn (by rw [ep]; exact z.2)
    · rw [gp_up_n ep]
      by_cases eq : q = r
      · rw [eq, gp_up_s]
        refine gp_f_cg (fun i hi => ?_)
        rw [hB p hp i (by omega)]
        refine decide_eq_decide.mpr ⟨fun z => ⟨by omega, z.2⟩, fun z => ⟨?_, z.2⟩⟩
        refine Classical.byContradiction fun w => ?_
        by_cases e2 : i < j
        · exact j2 i z.1 e2 ⟨z.2.1, Or.inr z.2.2.2⟩
        · have : i = j := by omega
          subst this
          exact hn (by rw [eq]; exact z.2)
      · rw [gp_up_n eq]
        refine gp_f_cg (fun i hi => ?_)
        rw [hB p hp i (by omega)]
theorem gp_ql_send (hP : gp_ok P sz) (h0 : n0 < sz) (hc : ∀ i, c i < 2) (hS : gp_RS P n0 c t) {c' : Nat → Nat} {r j : Nat} (hr : r < 3) (hj : gp_nxt P n0 c (t r) r j)
    (hA : ∀ i, i ≤ j → gp_g P n0 c' i = gp_g P n0 c i) (hp : P 2 (gp_g P n0 c j).1 = r) :
    gp_ql P n0 c' (gp_up t r (j + 1)) r (gp_to P (gp_g P n0 c j)) = gp_ql P n0 c t r (gp_to P (gp_g P n0 c j)) ++ [j] := by
  obtain ⟨j1, j2, j3⟩ := hj
  obtain ⟨d1, d2, d3⟩ := gp_ev_in hP (gp_g_gd hP h0 hc j) j3.1
  have ne : gp_to P (gp_g P n0 c j) ≠ r := fun z => d3 (by rw [hp, z])
  have tj : t (gp_to P (gp_g P n0 c j)) ≤ j := by
    refine Classical.byContradiction fun z => ?_
    have := hS j r _ ⟨j3.1, hp, rfl⟩ (by omega)
    omega
  unfold gp_ql
  rw [gp_up_s, gp_up_n ne, List.range_succ, List.filter_append]
  have e1 : List.filter (fun i => decide (t (gp_to P (gp_g P n0 c j)) ≤ i ∧ gp_ev P (gp_g P n0 c' i) r (gp_to P (gp_g P n0 c j)))) [j] = [j] := by
    rw [List.filter_cons_of_pos, List.filter_nil]
    refine decide_eq_true ⟨tj, ?_⟩
    rw [hA j (Nat.le_refl j)]
    exact ⟨j3.1, hp, rfl⟩
  rw [e1]
  congr 1
  rw [show List.range j = List.range (t r + (j - t r)) by rw [show t r + (j - t r) = j by omega], gp_f_ext]
  · refine gp_f_cg (fun i hi => ?_)
    rw [hA i (by omega)]
  · intro i h1 h2
    refine decide_eq_false (fun z => ?_)
    rw [hA i (by omega)] at z
    exact j2 i h1 (by omega) ⟨z.2.1, Or.inl z.2.2.1⟩
theorem gp_ql_recv {r j : Nat} (hj : gp_nxt P n0 c (t r) r j) {p : Nat} (he : gp_ev P (gp_g P n0 c j) p r) (hp : p ≠ r) (hs : j < t p) :
    gp_ql P n0 c t p r = j :: gp_ql P n0 c (gp_up t r (j + 1)) p r := by
  obtain ⟨j1, j2, j3⟩ := hj
  unfold gp_ql
  rw [gp_up_s, gp_up_n hp]
  refine gp_f_hd (decide_eq_true ⟨j1, he⟩) (fun i hi => decide_eq_false (fun z => j2 i z.1 hi ⟨z.2.1, Or.inr z.2.2.2⟩)) (fun i => ?_) _ hs
  rw [← Bool.decide_and]
  exact decide_eq_decide.mpr ⟨fun z => ⟨by omega, by omega, z.2⟩, fun z => ⟨by omega, z.2.2⟩⟩
theorem gp_ql_mem {p q i : Nat} : i ∈ gp_ql P n0 c t p q ↔ i < t p ∧ t q ≤ i ∧ gp_ev P (gp_g P n0 c i) p q := by
  unfold gp_ql
  rw [List.mem_filter, List.mem_range, decide_eq_true_iff]
/-- the queue from r's next event's sender isn't empty: that event was sent -/
theorem gp_sent {r j : Nat} (hj : gp_nxt P n0 c (t r) r j) {p : Nat} (hq : gp_ql P n0 c t p r ≠ []) : j < t p := by
  obtain ⟨i, l, e⟩ := List.exists_cons_of_ne_nil hq
  have hi : i ∈ gp_ql P n0 c t p r := by rw [e]; exact List.mem_cons_self
  obtain ⟨h1, h2, h3⟩ := gp_ql_mem.mp hi
  have : ¬ i < j := fun z => hj.2.1 i h2 z ⟨h3.1, Or.inr h3.2.2⟩
  omega
theorem gp_end (hP : gp_ok P sz) {m : Nat} (h : P 1 (gp_g P n0 c m).1 = 0) : ∀ d, gp_g P n0 c (m + d) = gp_g P n0 c m := by
  intro d
  induction d with
  | zero => rfl
  | succ d ih =>
    show gp_st P (c (m + d)) (gp_g P n0 c (m + d)) = _
    rw [ih, gp_st0 h]
/-- somebody may go on, or all is over -/
theorem gp_prog (hP : gp_ok P sz) (h0 : n0 < sz) (hc : ∀ i, c i < 2) :
    ((∀ r, r < 3 → gp_loc P r (gp_g P n0 c (t r)) = -1) ∧ ∀ p q, p < 3 → q < 3 → gp_ql P n0 c t p q = []) ∨
    ∃ r j, r < 3 ∧ gp_nxt P n0 c (t r) r j ∧ ((P 2 (gp_g P n0 c j).1 = r ∧ gp_ql P n0 c t r (gp_to P (gp_g P n0 c j)) = []) ∨ (P 2 (gp_g P n0 c j).1 ≠ r ∧ gp_ql P n0 c t (P 2 (gp_g P n0 c j).1) r ≠ [])) := by
  have gd := gp_g_gd hP h0 hc
  obtain ⟨m, hm, hl⟩ := pk_least (fun i => P 1 (gp_g P n0 c i).1 = 0 ∨ t (P 2 (gp_g P n0 c i).1) ≤ i ∨ t (gp_to P (gp_g P n0 c i)) ≤ i) (by
    refine ⟨t 0 + t 1 + t 2, ?_⟩
    by_cases e : P 1 (gp_g P n0 c (t 0 + t 1 + t 2)).1 = 0
    · exact Or.inl e
    · have := (gd (t 0 + t 1 + t 2)).2.1
      have d1 := (gp_ev_in hP (gd (t 0 + t 1 + t 2)) (by omega)).1
      refine Or.inr (Or.inl ?_)
      have h3 : ∀ x, x < 3 → t x ≤ t 0 + t 1 + t 2 := by
        intro x hx
        have : x = 0 ∨ x = 1 ∨ x = 2 := by omega
        rcases this with z | z | z <;> rw [z] <;> omega
      exact h3 _ d1)
  have F : ∀ r i, i < m → gp_in P (gp_g P n0 c i) r → i < t r := by
    intro r i hi hin
    refine Classical.byContradiction fun z => hl i hi ?_
    rcases hin.2 with w | w
    · exact Or.inr (Or.inl (by rw [w]; omega))
    · exact Or.inr (Or.inr (by rw [w]; omega))
  have E : ∀ p q i, i ∈ gp_ql P n0 c t p q → m ≤ i := by
    intro p q i hi
    obtain ⟨h1, h2, h3⟩ := gp_ql_mem.mp hi
    refine Classical.byContradiction fun z => ?_
    have := F q i (by omega) ⟨h3.1, Or.inr h3.2.2⟩
    omega
  by_cases e0 : P 1 (gp_g P n0 c m).1 = 0
  · refine Or.inl ⟨fun r hr => ?_, fun p q hp hq => ?_⟩
    · have el : gp_loc P r (gp_g P n0 c m) = -1 := by
        unfold gp_loc
        rw [if_neg (fun z => by omega), gp_L, if_neg (by omega)]
        unfold gp_tl
        rw [if_neg (by omega), if_pos e0]
      by_cases ht : t r ≤ m
      · have := gp_loc_skn hP h0 hc hr (t r) (m - t r) (fun i h1 h2 h3 => by have := F r i (by omega) h3; omega)
        rw [show t r + (m - t r) = m by omega] at this
        rw [← this]
        exact el
      · have := gp_end (c := c) hP e0 (t r - m)
        rw [show m + (t r - m) = t r by omega] at this
        rw [this]
        exact el
    · refine List.eq_nil_iff_forall_not_mem.mpr (fun i hi => ?_)
      have h1 := E p q i hi
      obtain ⟨_, _, h3⟩ := gp_ql_mem.mp hi
      have := gp_end (c := c) hP e0 (i - m)
      rw [show m + (i - m) = i by omega] at this
      rw [this] at h3
      rcases h3.1 with z | z <;> omega
  · have k2 := (gd m).2.1
    have ek : P 1 (gp_g P n0 c m).1 = 1 ∨ P 1 (gp_g P n0 c m).1 = 2 := by omega
    obtain ⟨d1, d2, d3⟩ := gp_ev_in hP (gd m) ek
    refine Or.inr ?_
    by_cases hp : t (P 2 (gp_g P n0 c m).1) ≤ m
    · refine ⟨P 2 (gp_g P n0 c m).1, m, d1, ⟨hp, fun i h1 h2 h3 => by have := F _ i h2 h3; omega, ek, Or.inl rfl⟩, Or.inl ⟨rfl, ?_⟩⟩
      refine List.eq_nil_iff_forall_not_mem.mpr (fun i hi => ?_)
      have h1 := E _ _ i hi
      obtain ⟨h2, _, _⟩ := gp_ql_mem.mp hi
      omega
    · have hq : t (gp_to P (gp_g P n0 c m)) ≤ m := by omega
      refine ⟨gp_to P (gp_g P n0 c m), m, d2, ⟨hq, fun i h1 h2 h3 => by have := F _ i h2 h3; omega, ek, Or.inr rfl⟩, Or.inr ⟨d3, fun z => ?_⟩⟩
      have : m ∈ gp_ql P n0 c t (P 2 (gp_g P n0 c m).1) (gp_to P (gp_g P n0 c m)) := gp_ql_mem.mpr ⟨by omega, hq, ek, rfl, rfl⟩
      rw [z] at this
      exact absurd this List.not_mem_nil
end
end
section
/-! queues: the codes on the way, the ring buffers that hold them, the law's longs -/
def gp_lab (P : Nat → Nat → Nat) (n0 : Nat) (c : Nat → Nat) (i : Nat) : Nat := if P 1 (gp_g P n0 c i).1 = 1 then P 4 (gp_g P n0 c i).1 else if (gp_g P n0 c i).2 = 0 then c i else (gp_g P n0 c i).2 - 1
/-- what is on the way from p to q: value + 1024 label -/
def gp_cq (P : Nat → Nat → Nat) (n0 : Nat) (c v t : Nat → Nat) (p q : Nat) : List Nat := (gp_ql P n0 c t p q).map (fun i => v i + 1024 * gp_lab P n0 c i)
theorem gp_lab_lt {P : Nat → Nat → Nat} {sz n0 : Nat} {c : Nat → Nat} (hP : gp_ok P sz) (h0 : n0 < sz) (hc : ∀ i, c i < 2) (i : Nat) : (P 1 (gp_g P n0 c i).1 = 1 ∨ P 1 (gp_g P n0 c i).1 = 2) → gp_lab P n0 c i < 4 := by
  intro he
  obtain ⟨h1, h2, h3, h4⟩ := gp_g_gd hP h0 hc i
  unfold gp_lab
  split
  · rename_i e
    have := ((hP.2.2.1 _ h1).2.1 e).2.2.2
    omega
  · split
    · have := hc i; omega
    · omega
/-- the ring buffer k holds l -/
def gp_bf (a16 a17 a18 a19 : Nat → Int32) (k : Nat) (l : List Nat) : Prop := ∃ hd, hd < 4 ∧ a16 k = nI hd ∧ a17 k = nI l.length ∧ l.length ≤ 4 ∧ ∀ m, m < l.length → a18 (4 * k + (hd + m) % 4) = nI (l.getD m 0 / 1024) ∧ a19 (4 * k + (hd + m) % 4) = nI (l.getD m 0 % 1024)
theorem gp_gd1 {l : List Nat} {e m : Nat} (h : m < l.length) : (l ++ [e]).getD m 0 = l.getD m 0 := by
  rw [List.getD_eq_getElem?_getD, List.getD_eq_getElem?_getD, List.getElem?_append_left h]
theorem gp_gd2 {l : List Nat} {e : Nat} : (l ++ [e]).getD l.length 0 = e := by
  rw [List.getD_eq_getElem?_getD, List.getElem?_append_right (Nat.le_refl _), Nat.sub_self]
  rfl
theorem gp_bf_put {a16 a17 a18 a19 : Nat → Int32} {k hd e : Nat} {l : List Nat} (h1 : hd < 4) (h2 : a16 k = nI hd) (h4 : l.length < 4) (h5 : ∀ m, m < l.length → a18 (4 * k + (hd + m) % 4) = nI (l.getD m 0 / 1024) ∧ a19 (4 * k + (hd + m) % 4) = nI (l.getD m 0 % 1024)) :
    gp_bf a16 (upd a17 k (nI (l.length + 1))) (upd a18 (4 * k + (hd + l.length) % 4) (nI (e / 1024))) (upd a19 (4 * k + (hd + l.length) % 4) (nI (e % 1024))) k (l ++ [e]) := by
  have hl : (l ++ [e]).length = l.length + 1 := by rw [List.length_append]; rfl
  refine ⟨hd, h1, h2, by rw [pk_us, hl], by omega, fun m hm => ?_⟩
  by_cases em : m = l.length
  · rw [em, pk_us, pk_us, gp_gd2]
    exact ⟨rfl, rfl⟩
  · have hm' : m < l.length := by omega
    rw [pk_un (by omega), pk_un (by omega), gp_gd1 hm']
    exact h5 m hm'
theorem gp_bf_put' {a16 a17 a18 a19 : Nat → Int32} {k k' y : Nat} {x x1 x2 : Int32} {l : List Nat} (hk : k' ≠ k) (hy : y < 4) (h : gp_bf a16 a17 a18 a19 k' l) :
    gp_bf a16 (upd a17 k x) (upd a18 (4 * k + y) x1) (upd a19 (4 * k + y) x2) k' l := by
  obtain ⟨hd, h1, h2, h3, h4, h5⟩ := h
  refine ⟨hd, h1, h2, by rw [pk_un hk]; exact h3, h4, fun m hm => ?_⟩
  rw [pk_un (by omega), pk_un (by omega)]
  exact h5 m hm
theorem gp_bf_take {a16 a17 a18 a19 : Nat → Int32} {k hd e : Nat} {l : List Nat} (h1 : hd < 4) (h4 : (e :: l).length ≤ 4) (h5 : ∀ m, m < (e :: l).length → a18 (4 * k + (hd + m) % 4) = nI ((e :: l).getD m 0 / 1024) ∧ a19 (4 * k + (hd + m) % 4) = nI ((e :: l).getD m 0 % 1024)) :
    gp_bf (upd a16 k (nI ((hd + 1) % 4))) (upd a17 k (nI l.length)) a18 a19 k l := by
  have hl : (e :: l).length = l.length + 1 := rfl
  refine ⟨(hd + 1) % 4, by omega, pk_us, pk_us, by omega, fun m hm => ?_⟩
  have := h5 (m + 1) (by omega)
  rw [show (hd + (m + 1)) % 4 = ((hd + 1) % 4 + m) % 4 by omega, List.getD_cons_succ] at this
  exact this
theorem gp_bf_take' {a16 a17 a18 a19 : Nat → Int32} {k k' : Nat} {x y : Int32} {l : List Nat} (hk : k' ≠ k) (h : gp_bf a16 a17 a18 a19 k' l) : gp_bf (upd a16 k x) (upd a17 k y) a18 a19 k' l := by
  obtain ⟨hd, h1, h2, h3, h4, h5⟩ := h
  exact ⟨hd, h1, by rw [pk_un hk]; exact h2, by rw [pk_un hk]; exact h3, h4, h5⟩
/-! the law's longs (rows on lN out of kit/laws/BITS.to-paste) -/
theorem gw_tn {n : Nat} (h : n < 2 ^ 64) : (UInt64.ofNat n).toNat = n := Nat.mod_eq_of_lt h
theorem gw_tn32 {n : Nat} (h : n < 2 ^ 32) : (UInt32.ofNat n).toNat = n := Nat.mod_eq_of_lt h
theorem gw_and {a b c : Nat} (ha : a < 2 ^ 64) (hb : b < 2 ^ 64) (hc : a &&& b = c) : lN a &&& lN b = lN c := by
  subst hc
  have h : UInt64.ofNat a &&& UInt64.ofNat b = UInt64.ofNat (a &&& b) := UInt64.toNat_inj.mp (by rw [UInt64.toNat_and, gw_tn ha, gw_tn hb, gw_tn (Nat.and_lt_two_pow a hb)])
  have h2 := congrArg UInt64.toInt64 h
  exact h2
theorem gw_mask {a s p : Nat} (hp : 2 ^ s = p) (hs : s < 64) (ha : a < 2 ^ 64) : lN a &&& lN (p - 1) = lN (a % p) := by
  subst hp
  have := Nat.pow_lt_pow_right (show 1 < 2 by decide) hs
  exact gw_and ha (by omega) (Nat.and_two_pow_sub_one_eq_mod a s)
theorem gw_or {k p a b : Nat} (hp : 2 ^ k = p) (ha : a < p) (h : b * p + a < 2 ^ 64) : lN (b * p) ||| lN a = lN (b * p + a) := by
  subst hp
  have h1 : b * 2 ^ k ||| a = b * 2 ^ k + a := by rw [← Nat.shiftLeft_eq, Nat.shiftLeft_add_eq_or_of_lt ha]
  have h3 : UInt64.ofNat (b * 2 ^ k) ||| UInt64.ofNat a = UInt64.ofNat (b * 2 ^ k + a) := UInt64.toNat_inj.mp (by rw [UInt64.toNat_or, gw_tn (by omega), gw_tn (by omega), gw_tn h, h1])
  have h2 := congrArg UInt64.toInt64 h3
  exact h2
theorem gw_or' {k p a b : Nat} (hp : 2 ^ k = p) (ha : a < p) (h : a + b * p < 2 ^ 64) : lN a ||| lN (b * p) = lN (a + b * p) := by
  rw [Int64.or_comm, gw_or hp ha (by omega), Nat.add_comm]
theorem gw_or32 {k p a b : Nat} (hp : 2 ^ k = p) (ha : a < p) (h : a + b * p < 2 ^ 32) : nI a ||| nI (b * p) = nI (a + b * p) := by
  subst hp
  have h1 : a ||| b * 2 ^ k = a + b * 2 ^ k := by rw [Nat.or_comm, ← Nat.shiftLeft_eq, ← Nat.shiftLeft_add_eq_or_of_lt ha, Nat.add_comm]
  have h3 : UInt32.ofNat a ||| UInt32.ofNat (b * 2 ^ k) = UInt32.ofNat (a + b * 2 ^ k) := UInt32.toNat_inj.mp (by rw [UInt32.toNat_or, gw_tn32 (by omega), gw_tn32 (by omega), gw_tn32 h, h1])
  have h2 := congrArg UInt32.toInt32 h3
  exact h2
theorem gw_shl {a k p : Nat} {y : Int64} (hy : y.toBitVec.smod 64 = BitVec.ofNat 64 k) (hk : k < 64) (hp : 2 ^ k = p) (ha : a < 2 ^ 64) : lN a <<< y = lN (a * p) := by
  subst hp
  apply Int64.toBitVec_inj.mp
  rw [Int64.toBitVec_shiftLeft, hy]
  apply BitVec.eq_of_toNat_eq
  have hb : (lN a).toBitVec.toNat = a := Nat.mod_eq_of_lt ha
  have hk' : (BitVec.ofNat 64 k).toNat = k := Nat.mod_eq_of_lt (by omega)
  have h : ((lN a).toBitVec <<< BitVec.ofNat 64 k).toNat = (a * 2 ^ k) % 2 ^ 64 := by simp only [BitVec.shiftLeft_eq', BitVec.toNat_shiftLeft, hb, hk', Nat.shiftLeft_eq]
  exact h
theorem gw_shr {a d : Nat} {D : Int64} (hD : (D.toBitVec.smod 64).toNat = d) (h : a < 2 ^ 62) : lN a >>> D = lN (a / 2 ^ d) := by
  have hd : a / 2 ^ d ≤ a := Nat.div_le_self _ _
  apply Int64.toInt_inj.mp
  have e : (lN a >>> D).toInt = (lN a).toInt >>> d := by
    rw [← hD]
    exact BitVec.toInt_sshiftRight ..
  rw [e, Int.shiftRight_eq_div_pow, pk_lT (by omega), pk_lT (by omega)]
  rfl
theorem gw_sm : ∀ k, k < 64 → ((nI k).toInt64 &&& 63).toBitVec.smod 64 = BitVec.ofNat 64 k := by decide +kernel
/-- the long that holds l -/
def gp_en : List Nat → Nat
  | [] => 0
  | e :: l => e + 4096 * gp_en l
theorem gp_en_ap (e : Nat) : ∀ l : List Nat, gp_en (l ++ [e]) = gp_en l + e * 2 ^ (12 * l.length) := by
  intro l
  induction l with
  | nil => show e + 4096 * 0 = 0 + e * 2 ^ (12 * 0); omega
  | cons x l ih =>
    show x + 4096 * gp_en (l ++ [e]) = x + 4096 * gp_en l + e * 2 ^ (12 * (l.length + 1))
    rw [ih, show 12 * (l.length + 1) = 12 * l.length + 12 by omega, Nat.pow_add, Nat.mul_add, ← Nat.mul_assoc, Nat.add_assoc]
    congr 2
    rw [show (2 : Nat) ^ 12 = 4096 by decide, Nat.mul_comm 4096 e, Nat.mul_assoc, Nat.mul_comm 4096]
theorem gp_en_lt : ∀ l : List Nat, (∀ e, e ∈ l → e < 4096) → gp_en l < 2 ^ (12 * l.length) := by
  intro l
  induction l with
  | nil => intro _; decide
  | cons x l ih =>
    intro h
    have h1 := h x List.mem_cons_self
    have h2 := ih (fun e he => h e (List.mem_cons_of_mem _ he))
    show x + 4096 * gp_en l < 2 ^ (12 * (l.length + 1))
    rw [show 12 * (l.length + 1) = 12 * l.length + 12 by omega, Nat.pow_add]
    have : 4096 * (gp_en l + 1) ≤ 4096 * 2 ^ (12 * l.length) := Nat.mul_le_mul_left 4096 h2
    omega
theorem gp_en48 {l : List Nat} (h : ∀ e, e ∈ l → e < 4096) (h4 : l.length ≤ 4) : gp_en l < 2 ^ 48 :=
  Nat.lt_of_lt_of_le (gp_en_lt l h) (Nat.pow_le_pow_right (by decide) (by omega))
/-- put of the law -/
theorem gp_put_l {l : List Nat} {v b : Nat} (h : ∀ e, e ∈ l → e < 4096) (h4 : l.length < 4) (hv : v < 1024) (hb : b < 4) :
    lN (gp_en l) ||| ((nI v ||| (nI b <<< ((10 : Int32) &&& 31))).toInt64 <<< ((12 * nI l.length).toInt64 &&& 63)) = lN (gp_en (l ++ [v + 1024 * b])) := by
  have e1 : nI b <<< ((10 : Int32) &&& 31) = nI (b * 1024) := pk_shlN _ 10 (by decide) (by omega)
  have e2 : nI v ||| nI (b * 1024) = nI (v + b * 1024) := gw_or32 (k := 10) rfl hv (by omega)
  have e3 : (12 : Int32) * nI l.length = nI (12 * l.length) := pk_mul 12 l.length
  rw [e1, e2, e3, nI_l (by omega), gp_en_ap]
  have p1 : 2 ^ (12 * l.length) ≤ 2 ^ 36 := Nat.pow_le_pow_right (by decide) (by omega)
  have p2 : (v + b * 1024) * 2 ^ (12 * l.length) ≤ 4095 * 2 ^ 36 := Nat.mul_le_mul (by omega) p1
  have p3 := gp_en_lt l h
  rw [gw_shl (k := 12 * l.length) (gw_sm _ (by omega)) (by omega) rfl (by omega), gw_or' (k := 12 * l.length) rfl p3 (by omega), show v + 1024 * b = v + b * 1024 by omega]
theorem gp_take_l {l : List Nat} {e : Nat} (h : ∀ x, x ∈ e :: l → x < 4096) (h4 : (e :: l).length ≤ 4) :
    lN (gp_en (e :: l)) >>> ((12 : Int32).toInt64 &&& 63) = lN (gp_en l) ∧ (lN (gp_en (e :: l)) &&& 1023).toInt32 = nI (e % 1024) ∧ ((lN (gp_en (e :: l)) >>> ((10 : Int32).toInt64 &&& 63)) &&& 3).toInt32 = nI (e / 1024) := by
  have h1 := h e List.mem_cons_self
  have h2 := gp_en48 h h4
  have h3 : gp_en (e :: l) = e + 4096 * gp_en l := rfl
  rw [gw_shr (d := 12) (by decide) (by omega), gw_shr (d := 10) (by decide) (by omega)]
  have m1 : lN (gp_en (e :: l)) &&& 1023 = lN (gp_en (e :: l) % 1024) := gw_mask (s := 10) (p := 1024) (by decide) (by decide) (by omega)
  have m2 : lN (gp_en (e :: l) / 2 ^ 10) &&& 3 = lN (gp_en (e :: l) / 2 ^ 10 % 4) := gw_mask (s := 2) (p := 4) (by decide) (by decide) (by omega)
  rw [m1, m2, lN_i, lN_i, h3]
  exact ⟨by congr 1; omega, by congr 1; omega, by congr 1; omega⟩
end
section
/-! the methods that only look -/
/-- the protocol's arrays -/
def gp_rep (P : Nat → Nat → Nat) (sz : Nat) (a1 a2 a3 a4 a5 a6 a7 : Nat → Int32) : Prop := ∀ j, j < sz → a1 j = nI (P 1 j) ∧ a2 j = nI (P 2 j) ∧ a3 j = nI (P 3 j) ∧ a4 j = nI (P 4 j) ∧ a5 j = nI (P 5 j) ∧ a6 j = nI (P 6 j) ∧ a7 j = nI (P 7 j)
/-- the roles' arrays -/
def gp_rl (P : Nat → Nat → Nat) (n0 : Nat) (c t : Nat → Nat) (a11 a12 a13 : Nat → Int32) : Prop := ∀ r, r < 3 → a11 r = gp_loc P r (gp_g P n0 c (t r)) ∧ (gp_hf P (gp_g P n0 c (t r)) r → a12 r = 1 ∧ a13 r = nI ((gp_g P n0 c (t r)).2 - 1)) ∧ (¬ gp_hf P (gp_g P n0 c (t r)) r → a12 r = 0)
/-- all that runs -/
def gp_I (P : Nat → Nat → Nat) (sz : Nat) (c v t : Nat → Nat) (a1 a2 a3 a4 a5 a6 a7 a11 a12 a13 a16 a17 a18 a19 : Nat → Int32) : Prop := gp_ok P sz ∧ (∀ i, c i < 2) ∧ (∀ i, v i < 1024) ∧ gp_RS P (sz - 1) c t ∧ gp_LZ P (sz - 1) c t ∧ gp_rep P sz a1 a2 a3 a4 a5 a6 a7 ∧ gp_rl P (sz - 1) c t a11 a12 a13 ∧ ∀ p q, p < 3 → q < 3 → gp_bf a16 a17 a18 a19 (3 * p + q) (gp_cq P (sz - 1) c v t p q)
theorem gs_nb : ∀ m, m < 128 → (nI m).toInt8.toInt32 = nI m := by decide +kernel
section
variable {f0_size f0_made f0_height f0_sendings : Int32} {a1 a2 a3 a4 a5 a6 a7 a8 a9 a10 a11 a12 a13 a14 a15 a16 a17 a18 a19 a20 : Nat → Int32}
variable {P : Nat → Nat → Nat} {sz : Nat} {c v t : Nat → Nat}
theorem gs_walk4 {post : Int32 → Prop} (hP : gp_ok P sz) (hR : gp_rep P sz a1 a2 a3 a4 a5 a6 a7) : ∀ d i n, i + d = 40 → n < sz → post (nI (gp_W P d n)) → wX_walk_4 post f0_size f0_made f0_height f0_sendings a1 a2 a3 a4 a5 a6 a7 a8 a9 a10 a11 a12 a13 a14 a15 a16 a17 a18 a19 a20 (d + 1) (nI n) (nI i) := by
  intro d
  induction d with
  | zero => intro i n hi hn h; exact pk_le 40 i (fun _ => h) (fun z => absurd z (by omega))
  | succ d ih =>
    intro i n hi hn h
    have hz := hP.2.1
    obtain ⟨k1, _, _, h5, h7⟩ := hP.2.2.1 n hn
    obtain ⟨e1, _, _, _, e5, _, e7⟩ := hR n hn
    have hcl : (nI n).toNatClampNeg = n := nI_clamp (by omega)
    have e1' : a1 (nI n).toNatClampNeg = nI (P 1 n) := by rw [hcl]; exact e1
    have e5' : a5 (nI n).toNatClampNeg = nI (P 5 n) := by rw [hcl]; exact e5
    have e7' : a7 (nI n).toNatClampNeg = nI (P 7 n) := by rw [hcl]; exact e7
    unfold gp_W at h
    refine pk_le 40 i (fun z => absurd z (by omega)) (fun _ => ⟨pk_in n 40 (by omega), pk_lt (P 1 n) 3 (fun z => ?_) (fun z => ⟨pk_in n 40 (by omega), pk_eq (P 1 n) 3 (fun y => ⟨pk_in n 40 (by omega), nm_r e5' (nm_r (nI_1 i) ?_)⟩) (fun y => ⟨pk_in n 20 (by omega), nm_r e7' (nm_r (nI_1 i) ?_)⟩) e1'⟩) e1'⟩)
    · rw [if_neg (by omega), if_neg (by omega)] at h; exact h
    · rw [if_pos y] at h; exact ih (i + 1) _ (by omega) (h5 (by omega)) h
    · rw [if_neg y, if_pos (by omega)] at h; exact ih (i + 1) _ (by omega) (h7 (by omega)) h
theorem gs_walk {post : Int32 → Prop} (hP : gp_ok P sz) (hR : gp_rep P sz a1 a2 a3 a4 a5 a6 a7) {n : Nat} {x : Int32} (hn : n < sz) (hx : x = nI n) (h : post (nI (gp_W P 40 n))) : wpX_walk post (f0_size, f0_made, f0_height, f0_sendings, a1, a2, a3, a4, a5, a6, a7, a8, a9, a10, a11, a12, a13, a14, a15, a16, a17, a18, a19, a20) x := by
  subst hx
  exact ⟨41, gs_walk4 hP hR 40 0 n (by omega) hn h⟩
theorem gs_lf65 {post : Int32 → Prop} (hP : gp_ok P sz) (hR : gp_rep P sz a1 a2 a3 a4 a5 a6 a7) {n : Nat} (hn : n < sz) (h : post (gp_tl P n)) : wX_localFrom_65 post (nI n) f0_size f0_made f0_height f0_sendings a1 a2 a3 a4 a5 a6 a7 a8 a9 a10 a11 a12 a13 a14 a15 a16 a17 a18 a19 a20 := by
  have hz := hP.2.1
  obtain ⟨k1, _⟩ := hP.2.2.1 n hn
  have hcl : (nI n).toNatClampNeg = n := nI_clamp (by omega)
  have e1' : a1 (nI n).toNatClampNeg = nI (P 1 n) := by rw [hcl]; exact (hR n hn).1
  unfold gp_tl at h
  refine ⟨pk_in n 40 (by omega), pk_eq (P 1 n) 2 (fun z => ?_) (fun z => ⟨pk_in n 40 (by omega), pk_eq (P 1 n) 0 (fun y => ?_) (fun y => ?_) e1'⟩) e1'⟩
  · rw [if_pos z] at h; exact h
  · rw [if_neg z, if_pos y] at h; exact h
  · rw [if_neg z, if_neg y] at h; exact h
theorem gs_lf9 {post : Int32 → Prop} (hP : gp_ok P sz) (hR : gp_rep P sz a1 a2 a3 a4 a5 a6 a7) {r : Nat} (hr : r < 3) : ∀ d i n, i + d = 21 → n < sz → post (gp_L P r d n) → wX_localFrom_9 post (nI r) f0_size f0_made f0_height f0_sendings a1 a2 a3 a4 a5 a6 a7 a8 a9 a10 a11 a12 a13 a14 a15 a16 a17 a18 a19 a20 (d + 1) (nI n) (nI i) := by
  intro d
  induction d with
  | zero => intro i n hi hn h; exact pk_lt 20 i (fun _ => gs_lf65 hP hR hn h) (fun z => absurd z (by omega))
  | succ d ih =>
    intro i n hi hn h
    have hz := hP.2.1
    obtain ⟨k1, m1, _, h5, h7⟩ := hP.2.2.1 n hn
    obtain ⟨e1, e2, e3, _, e5, _, _⟩ := hR n hn
    have hcl : (nI n).toNatClampNeg = n := nI_clamp (by omega)
    have e1' : a1 (nI n).toNatClampNeg = nI (P 1 n) := by rw [hcl]; exact e1
    have e2' : a2 (nI n).toNatClampNeg = nI (P 2 n) := by rw [hcl]; exact e2
    have e3' : a3 (nI n).toNatClampNeg = nI (P 3 n) := by rw [hcl]; exact e3
    have e5' : a5 (nI n).toNatClampNeg = nI (P 5 n) := by rw [hcl]; exact e5
    unfold gp_L at h
    refine pk_lt 20 i (fun z => absurd z (by omega)) (fun _ => ⟨pk_in n 40 (by omega), pk_eq (P 1 n) 1 (fun z => ?_) (fun z => ?_) e1'⟩)
    · rw [if_pos z] at h
      obtain ⟨q1, q2, q3, q4⟩ := m1 z
      refine ⟨pk_in n 40 (by omega), pk_eq (P 2 n) r (fun y => ?_) (fun y => ⟨pk_in n 40 (by omega), pk_eq (P 3 n) r (fun w => ?_) (fun w => ⟨pk_in n 40 (by omega), ?_⟩) e3'⟩) e2'⟩
      · rw [if_pos (Or.inl y)] at h; exact h
      · rw [if_pos (Or.inr w)] at h; exact h
      · rw [if_neg (fun z => z.elim y w)] at h
        exact gs_walk hP hR (h5 (Or.inl z)) e5' (nm_r (nI_1 i) (ih (i + 1) _ (by omega) (gp_W_ok hP (h5 (Or.inl z))).1 h))
    · rw [if_neg z] at h
      exact gs_lf65 hP hR hn h
theorem gs_lf {post : Int32 → Prop} (hP : gp_ok P sz) (hR : gp_rep P sz a1 a2 a3 a4 a5 a6 a7) {n r : Nat} {x : Int32} (hn : n < sz) (hx : x = nI n) (hr : r < 3) (h : post (gp_L P r 21 (gp_W P 40 n))) : wpX_localFrom post (f0_size, f0_made, f0_height, f0_sendings, a1, a2, a3, a4, a5, a6, a7, a8, a9, a10, a11, a12, a13, a14, a15, a16, a17, a18, a19, a20) (nI r) x := by
  unfold wpX_localFrom
  exact gs_walk hP hR hn hx ⟨22, gs_lf9 hP hR hr 21 0 _ (by omega) (gp_W_ok hP hn).1 h⟩
theorem gs_Lb (hP : gp_ok P sz) {n r : Nat} (hn : n < sz) : (gp_L P r 21 (gp_W P 40 n)).toInt8.toInt32 = gp_L P r 21 (gp_W P 40 n) := by
  obtain ⟨w1, w2⟩ := gp_W_ok hP hn
  have hz := hP.2.1
  rcases gp_L_find (r := r) hP 21 _ w1 w2 with z | z | ⟨k, _, _, _, z4, z5⟩
  · rw [z]; decide
  · rw [z]; decide
  · rw [z5]; exact gs_nb _ (by omega)
theorem gs_bad {post : Int32 → Prop} {r : Nat} (hr : r < 3) (h : post 0) : wpX_badRole post (f0_size, f0_made, f0_height, f0_sendings, a1, a2, a3, a4, a5, a6, a7, a8, a9, a10, a11, a12, a13, a14, a15, a16, a17, a18, a19, a20) (nI r) :=
  pk_lt r 0 (fun z => absurd z (by omega)) (fun _ => pk_lt r 3 (fun _ => h) (fun z => absurd z (by omega)))
theorem gs_qof {post : Int32 → Prop} {p q : Nat} (h : post (nI (3 * p + q))) : wpX_queueOf post (f0_size, f0_made, f0_height, f0_sendings, a1, a2, a3, a4, a5, a6, a7, a8, a9, a10, a11, a12, a13, a14, a15, a16, a17, a18, a19, a20) (nI p) (nI q) := by
  have e9 : (3 : Int32) * nI p + nI q = nI (3 * p + q) := by rw [show (3 : Int32) = nI 3 from rfl, pk_mul, nI_add]
  show post ((3 : Int32) * nI p + nI q)
  rw [e9]
  exact h
theorem gp_nxt_u {n0 a r j j' : Nat} (h : gp_nxt P n0 c a r j) (h' : gp_nxt P n0 c a r j') : j = j' := by
  rcases Nat.lt_trichotomy j j' with z | z | z
  · exact absurd h.2.2 (h'.2.1 j h.1 z)
  · exact z
  · exact absurd h'.2.2 (h.2.1 j' h'.1 z)
/-- a role's place -/
theorem gs_role (hI : gp_I P sz c v t a1 a2 a3 a4 a5 a6 a7 a11 a12 a13 a16 a17 a18 a19) {r : Nat} (hr : r < 3) : a11 r = -1 ∨ a11 r = -2 ∨ ∃ j, gp_nxt P (sz - 1) c (t r) r j ∧ a11 r = nI (gp_g P (sz - 1) c j).1 := by
  obtain ⟨hP, hc, hv, hS, hZ, hR, hL, hB⟩ := hI
  rw [(hL r hr).1]
  exact gp_find hP (by have := hP.1; omega) hc hr (t r)
def gp_pn (P : Nat → Nat → Nat) (s : Nat × Nat) (r : Nat) : Nat := if P 2 s.1 = r then gp_to P s else P 2 s.1
/-- what is known of a role that isn't over -/
theorem gs_node (hI : gp_I P sz c v t a1 a2 a3 a4 a5 a6 a7 a11 a12 a13 a16 a17 a18 a19) {r j : Nat} (hr : r < 3) (hj : gp_nxt P (sz - 1) c (t r) r j) : (gp_g P (sz - 1) c j).1 < sz ∧ (P 1 (gp_g P (sz - 1) c j).1 = 1 ∨ P 1 (gp_g P (sz - 1) c j).1 = 2) ∧ P 2 (gp_g P (sz - 1) c j).1 < 3 ∧ gp_to P (gp_g P (sz - 1) c j) < 3 ∧ P 2 (gp_g P (sz - 1) c j).1 ≠ gp_to P (gp_g P (sz - 1) c j) := by
  obtain ⟨hP, hc, hv, hS, hZ, hR, hL, hB⟩ := hI
  have h0 : sz - 1 < sz := by have := hP.1; omega
  have gd := gp_g_gd hP h0 hc j
  obtain ⟨d1, d2, d3⟩ := gp_ev_in hP gd hj.2.2.1
  exact ⟨gd.1, hj.2.2.1, d1, d2, d3⟩
theorem gs_sends {post : Int32 → Prop} (hR : gp_rep P sz a1 a2 a3 a4 a5 a6 a7) {r n : Nat} (hr : r < 3) (hz : sz ≤ 20) (hn : n < sz) (h2 : P 2 n < 3) (ha : a11 r = nI n) (h1 : P 2 n = r → post 1) (h0 : P 2 n ≠ r → post 0) : wpX_sends post (f0_size, f0_made, f0_height, f0_sendings, a1, a2, a3, a4, a5, a6, a7, a8, a9, a10, a11, a12, a13, a14, a15, a16, a17, a18, a19, a20) (nI r) := by
  have hcr : (nI r).toNatClampNeg = r := nI_clamp (by omega)
  have hcl : (nI n).toNatClampNeg = n := nI_clamp (by omega)
  refine ⟨pk_in r 3 hr, nm_r (e' := nI n) (by rw [hcr]; exact ha) ?_⟩
  refine pk_lt n 0 (fun z => absurd z (by omega)) (fun _ => ⟨pk_in n 40 (by omega), pk_eq (P 2 n) r h1 h0 (by rw [hcl]; exact (hR n hn).2.1)⟩)
theorem gs_partnerOf {post : Int32 → Prop} (hI : gp_I P sz c v t a1 a2 a3 a4 a5 a6 a7 a11 a12 a13 a16 a17 a18 a19) {r j : Nat} (hr : r < 3) (hj : gp_nxt P (sz - 1) c (t r) r j) (ha : a11 r = nI (gp_g P (sz - 1) c j).1) (h : post (nI (gp_pn P (gp_g P (sz - 1) c j) r))) : wpX_partnerOf post (f0_size, f0_made, f0_height, f0_sendings, a1, a2, a3, a4, a5, a6, a7, a8, a9, a10, a11, a12, a13, a14, a15, a16, a17, a18, a19, a20) (nI r) := by
  obtain ⟨n1, n2, n3, n4, n5⟩ := gs_node hI hr hj
  obtain ⟨hP, hc, hv, hS, hZ, hR, hL, hB⟩ := hI
  have hz := hP.2.1
  have hcr : (nI r).toNatClampNeg = r := nI_clamp (by omega)
  have hcl : (nI (gp_g P (sz - 1) c j).1).toNatClampNeg = (gp_g P (sz - 1) c j).1 := nI_clamp (by omega)
  obtain ⟨e1, e2, e3, _⟩ := hR _ n1
  unfold gp_pn at h
  refine ⟨pk_in r 3 hr, nm_r (e' := nI (gp_g P (sz - 1) c j).1) (by rw [hcr]; exact ha) ?_⟩
  refine ⟨vp_in_nI (by omega) (by omega), pk_eq (P 2 (gp_g P (sz - 1) c j).1) r (fun z => ⟨vp_in_nI (by omega) (by omega), pk_eq (P 1 (gp_g P (sz - 1) c j).1) 1 (fun y => ⟨vp_in_nI (by omega) (by omega), ?_⟩) (fun y => ⟨pk_in r 3 hr, ?_⟩) (by rw [hcl]; exact e1)⟩) (fun z => ⟨vp_in_nI (by omega) (by omega), ?_⟩) (by rw [hcl]; exact e2)⟩
  · rw [if_pos z] at h
    unfold gp_to at h
    rw [if_pos y] at h
    rw [hcl, e3]
    exact h
  · rw [if_pos z] at h
    have e2' : P 1 (gp_g P (sz - 1) c j).1 = 2 := by omega
    have hh := gp_hf_j hj z e2'
    unfold gp_to at h
    rw [if_neg y, z] at h
    rw [hcr]
    by_cases hf : gp_hf P (gp_g P (sz - 1) c (t r)) r
    · have a12r := ((hL r hr).2.1 hf).1
      rw [if_neg (hh.mpr hf)] at h
      refine br_f (by rw [a12r]; decide) ?_
      unfold gp_gr at h
      refine pk_eq r 2 (fun w => ?_) (fun w => ?_)
      · rw [if_pos w] at h; exact h
      · rw [if_neg w] at h; exact h
    · have a12r := (hL r hr).2.2 hf
      rw [if_pos (Classical.byContradiction fun w => hf (hh.mp w))] at h
      refine br_t a12r ?_
      unfold gp_le at h
      refine pk_eq r 0 (fun w => ?_) (fun w => ?_)
      · rw [if_pos w] at h; exact h
      · rw [if_neg w] at h; exact h
  · rw [if_neg z] at h
    rw [hcl, e2]
    exact h
theorem gs_len (hI : gp_I P sz c v t a1 a2 a3 a4 a5 a6 a7 a11 a12 a13 a16 a17 a18 a19) {p q : Nat} (hp : p < 3) (hq : q < 3) : a17 (3 * p + q) = nI (gp_cq P (sz - 1) c v t p q).length ∧ (gp_cq P (sz - 1) c v t p q).length ≤ 4 := by
  obtain ⟨hd, _, _, h3, h4, _⟩ := hI.2.2.2.2.2.2.2 p q hp hq
  exact ⟨h3, h4⟩
/-- partner, as the law calls it -/
theorem gs_partner {post : Int32 → Prop} (hI : gp_I P sz c v t a1 a2 a3 a4 a5 a6 a7 a11 a12 a13 a16 a17 a18 a19) {r : Nat} (hr : r < 3) (hO : a11 r = -1 ∨ a11 r = -2 → post (-4)) (hJ : ∀ j, gp_nxt P (sz - 1) c (t r) r j → a11 r = nI (gp_g P (sz - 1) c j).1 → post (nI (gp_pn P (gp_g P (sz - 1) c j) r))) : wpX_partner post (f0_size, f0_made, f0_height, f0_sendings, a1, a2, a3, a4, a5, a6, a7, a8, a9, a10, a11, a12, a13, a14, a15, a16, a17, a18, a19, a20) (nI r) := by
  have hcr : (nI r).toNatClampNeg = r := nI_clamp (by omega)
  unfold wpX_partner
  refine gs_bad hr (br_t rfl ⟨pk_in r 3 hr, ?_⟩)
  rw [hcr]
  rcases gs_role hI hr with z | z | ⟨j, hj, z⟩
  · exact br_f (by rw [z]; decide) (hO (Or.inl z))
  · exact br_f (by rw [z]; decide) (hO (Or.inr z))
  · exact br_t (by rw [z]; exact nI_pos' (by have := (gs_node hI hr hj).1; have := hI.1.2.1; omega)) (gs_partnerOf hI hr hj z (hJ j hj z))
/-- state -/
theorem gs_state (hI : gp_I P sz c v t a1 a2 a3 a4 a5 a6 a7 a11 a12 a13 a16 a17 a18 a19) {r : Nat} (hr : r < 3) : ∃ s : Nat, (∀ post : Int32 → Prop, post (nI s) → wpX_state post (f0_size, f0_made, f0_height, f0_sendings, a1, a2, a3, a4, a5, a6, a7, a8, a9, a10, a11, a12, a13, a14, a15, a16, a17, a18, a19, a20) (nI r)) ∧ ((s = 0 ∧ (a11 r = -1 ∨ a11 r = -2)) ∨ ∃ j, gp_nxt P (sz - 1) c (t r) r j ∧ a11 r = nI (gp_g P (sz - 1) c j).1 ∧
    ((P 2 (gp_g P (sz - 1) c j).1 = r ∧ ((s = 1 ∧ (gp_cq P (sz - 1) c v t r (gp_to P (gp_g P (sz - 1) c j))).length < 4) ∨ (s = 2 ∧ (gp_cq P (sz - 1) c v t r (gp_to P (gp_g P (sz - 1) c j))).length = 4))) ∨
     (P 2 (gp_g P (sz - 1) c j).1 ≠ r ∧ ((s = 3 ∧ gp_cq P (sz - 1) c v t (P 2 (gp_g P (sz - 1) c j).1) r ≠ []) ∨ (s = 4 ∧ gp_cq P (sz - 1) c v t (P 2 (gp_g P (sz - 1) c j).1) r = []))))) := by
  have hcr : (nI r).toNatClampNeg = r := nI_clamp (by omega)
  have neg : ¬ 0 ≤ a11 r → ∀ post : Int32 → Prop, post (nI 0) → wpX_state post (f0_size, f0_made, f0_height, f0_sendings, a1, a2, a3, a4, a5, a6, a7, a8, a9, a10, a11, a12, a13, a14, a15, a16, a17, a18, a19, a20) (nI r) := by
    intro z post h
    unfold wpX_state
    refine gs_bad hr (br_t rfl ⟨pk_in r 3 hr, ?_⟩)
    rw [hcr]
    exact br_f z h
  rcases gs_role hI hr with z | z | ⟨j, hj, z⟩
  · exact ⟨0, neg (by rw [z]; decide), Or.inl ⟨rfl, Or.inl z⟩⟩
  · exact ⟨0, neg (by rw [z]; decide), Or.inl ⟨rfl, Or.inr z⟩⟩
  · obtain ⟨n1, n2, n3, n4, n5⟩ := gs_node hI hr hj
    have hz := hI.1.2.1
    have pos : 0 ≤ a11 r := by rw [z]; exact nI_pos' (by omega)
    by_cases es : P 2 (gp_g P (sz - 1) c j).1 = r
    · obtain ⟨l1, l2⟩ := gs_len hI (p := r) (q := gp_to P (gp_g P (sz - 1) c j)) hr n4
      have key : ∀ post : Int32 → Prop, ((4 ≤ a17 (3 * r + gp_to P (gp_g P (sz - 1) c j)) → post 2) ∧ (¬ 4 ≤ a17 (3 * r + gp_to P (gp_g P (sz - 1) c j)) → post 1)) → wpX_state post (f0_size, f0_made, f0_height, f0_sendings, a1, a2, a3, a4, a5, a6, a7, a8, a9, a10, a11, a12, a13, a14, a15, a16, a17, a18, a19, a20) (nI r) := by
        intro post h
        unfold wpX_state
        refine gs_bad hr (br_t rfl ⟨pk_in r 3 hr, ?_⟩)
        rw [hcr]
        refine br_t pos (gs_partnerOf hI hr hj z (gs_sends hI.2.2.2.2.2.1 hr hz n1 n3 z (fun _ => ?_) (fun w => absurd es w)))
        refine br_f (by decide) ?_
        have eq : gp_pn P (gp_g P (sz - 1) c j) r = gp_to P (gp_g P (sz - 1) c j) := by unfold gp_pn; rw [if_pos es]
        rw [eq]
        refine gs_qof ⟨vp_in_nI (by omega) (by omega), ?_⟩
        rw [nI_clamp (by omega)]
        exact h
      by_cases e4 : (gp_cq P (sz - 1) c v t r (gp_to P (gp_g P (sz - 1) c j))).length < 4
      · refine ⟨1, fun post h => key post (br_f ?_ h), Or.inr ⟨j, hj, z, Or.inl ⟨es, Or.inl ⟨rfl, e4⟩⟩⟩⟩
        rw [l1]
        exact nI_ge (b := 4) e4 (by omega)
      · refine ⟨2, fun post h => key post (br_t ?_ h), Or.inr ⟨j, hj, z, Or.inl ⟨es, Or.inr ⟨rfl, by omega⟩⟩⟩⟩
        rw [l1]
        exact nI_le (a := 4) (by omega) (by omega)
    · obtain ⟨l1, l2⟩ := gs_len hI (p := P 2 (gp_g P (sz - 1) c j).1) (q := r) n3 hr
      have key : ∀ post : Int32 → Prop, ((a17 (3 * P 2 (gp_g P (sz - 1) c j).1 + r) ≤ 0 → post 4) ∧ (¬ a17 (3 * P 2 (gp_g P (sz - 1) c j).1 + r) ≤ 0 → post 3)) → wpX_state post (f0_size, f0_made, f0_height, f0_sendings, a1, a2, a3, a4, a5, a6, a7, a8, a9, a10, a11, a12, a13, a14, a15, a16, a17, a18, a19, a20) (nI r) := by
        intro post h
        unfold wpX_state
        refine gs_bad hr (br_t rfl ⟨pk_in r 3 hr, ?_⟩)
        rw [hcr]
        refine br_t pos (gs_partnerOf hI hr hj z (gs_sends hI.2.2.2.2.2.1 hr hz n1 n3 z (fun w => absurd w es) (fun _ => ?_)))
        refine br_t rfl ?_
        have eq : gp_pn P (gp_g P (sz - 1) c j) r = P 2 (gp_g P (sz - 1) c j).1 := by unfold gp_pn; rw [if_neg es]
        rw [eq]
        refine gs_qof ⟨vp_in_nI (by omega) (by omega), ?_⟩
        rw [nI_clamp (by omega)]
        exact h
      by_cases e4 : gp_cq P (sz - 1) c v t (P 2 (gp_g P (sz - 1) c j).1) r = []
      · refine ⟨4, fun post h => key post (br_t ?_ h), Or.inr ⟨j, hj, z, Or.inr ⟨es, Or.inr ⟨rfl, e4⟩⟩⟩⟩
        rw [l1, e4]
        decide
      · refine ⟨3, fun post h => key post (br_f ?_ h), Or.inr ⟨j, hj, z, Or.inr ⟨es, Or.inl ⟨rfl, e4⟩⟩⟩⟩
        rw [l1]
        exact nI_nle (List.length_pos_iff.mpr e4) (by omega)
theorem gs_onWay {post : Int32 → Prop} (hI : gp_I P sz c v t a1 a2 a3 a4 a5 a6 a7 a11 a12 a13 a16 a17 a18 a19) {p q : Nat} (hp : p < 3) (hq : q < 3) (h : post (nI (gp_cq P (sz - 1) c v t p q).length)) : wpX_onWay post (f0_size, f0_made, f0_height, f0_sendings, a1, a2, a3, a4, a5, a6, a7, a8, a9, a10, a11, a12, a13, a14, a15, a16, a17, a18, a19, a20) (nI p) (nI q) := by
  have e9 : (3 : Int32) * nI p + nI q = nI (3 * p + q) := by rw [show (3 : Int32) = nI 3 from rfl, pk_mul, nI_add]
  unfold wpX_onWay
  refine gs_bad hp (br_t rfl (gs_bad hq (br_t rfl ?_)))
  rw [e9, nI_clamp (by omega), (gs_len hI hp hq).1]
  exact ⟨vp_in_nI (by omega) (by omega), h⟩
theorem gs_got {post : Int32 → Prop} {r : Nat} (hr : r < 3) (h : post (a15 r)) : wpX_got post (f0_size, f0_made, f0_height, f0_sendings, a1, a2, a3, a4, a5, a6, a7, a8, a9, a10, a11, a12, a13, a14, a15, a16, a17, a18, a19, a20) (nI r) := by
  have hcr : (nI r).toNatClampNeg = r := nI_clamp (by omega)
  unfold wpX_got
  refine gs_bad hr (br_t rfl ⟨pk_in r 3 hr, ?_⟩)
  rw [hcr]
  exact h
end
end
section
/-! ways, foremost, canFinish, goes -/
/-- how many are on the way from p -/
def gp_s1 (P : Nat → Nat → Nat) (n0 : Nat) (c v t : Nat → Nat) (p : Nat) : Nat := (gp_cq P n0 c v t p 0).length + (gp_cq P n0 c v t p 1).length + (gp_cq P n0 c v t p 2).length
def gp_sum (P : Nat → Nat → Nat) (n0 : Nat) (c v t : Nat → Nat) : Nat := gp_s1 P n0 c v t 0 + gp_s1 P n0 c v t 1 + gp_s1 P n0 c v t 2
section
variable {f0_size f0_made f0_height f0_sendings : Int32} {a1 a2 a3 a4 a5 a6 a7 a8 a9 a10 a11 a12 a13 a14 a15 a16 a17 a18 a19 a20 : Nat → Int32}
variable {P : Nat → Nat → Nat} {sz : Nat} {c v t : Nat → Nat}
theorem gs_w11 {post : Int32 → Prop} {J4 : Int32 → Int32 → Prop} (hI : gp_I P sz c v t a1 a2 a3 a4 a5 a6 a7 a11 a12 a13 a16 a17 a18 a19) {p s : Nat} (hp : p < 3) (h : J4 (nI (s + gp_s1 P (sz - 1) c v t p)) (nI (p + 1))) : ∃ fu, wL_ways_11 post J4 (nI p) f0_size f0_made f0_height f0_sendings a1 a2 a3 a4 a5 a6 a7 a8 a9 a10 a11 a12 a13 a14 a15 a16 a17 a18 a19 a20 fu (nI s) 0 := by
  have step : ∀ n s q, q < 3 → wL_ways_11 post J4 (nI p) f0_size f0_made f0_height f0_sendings a1 a2 a3 a4 a5 a6 a7 a8 a9 a10 a11 a12 a13 a14 a15 a16 a17 a18 a19 a20 n (nI (s + (gp_cq P (sz - 1) c v t p q).length)) (nI (q + 1)) → wL_ways_11 post J4 (nI p) f0_size f0_made f0_height f0_sendings a1 a2 a3 a4 a5 a6 a7 a8 a9 a10 a11 a12 a13 a14 a15 a16 a17 a18 a19 a20 (n + 1) (nI s) (nI q) := by
    intro n s q hq hw
    have l2 := (gs_len hI hp hq).2
    refine pk_le 3 q (fun z => absurd z (by omega)) (fun _ => gs_onWay hI hp hq ?_)
    refine pk_lt (gp_cq P (sz - 1) c v t p q).length 0 (fun z => absurd z (by omega)) (fun _ => ?_)
    exact pk_le (gp_cq P (sz - 1) c v t p q).length 4 (fun _ => nm_r (nI_add _ _) (nm_r (nI_1 q) hw)) (fun z => absurd z (by omega))
  refine ⟨4, step 3 s 0 (by omega) (step 2 _ 1 (by omega) (step 1 _ 2 (by omega) ?_))⟩
  refine pk_le 3 3 (fun _ => nm_r (nI_1 p) ?_) (fun z => absurd z (by omega))
  unfold gp_s1 at h
  rw [← Nat.add_assoc, ← Nat.add_assoc] at h
  exact h
theorem gs_ways {post : Int32 → Prop} (hI : gp_I P sz c v t a1 a2 a3 a4 a5 a6 a7 a11 a12 a13 a16 a17 a18 a19) (h : post (nI (gp_sum P (sz - 1) c v t))) : wpL_ways post (f0_size, f0_made, f0_height, f0_sendings, a1, a2, a3, a4, a5, a6, a7, a8, a9, a10, a11, a12, a13, a14, a15, a16, a17, a18, a19, a20) := by
  have step : ∀ n s p, p < 3 → wL_ways_4 post f0_size f0_made f0_height f0_sendings a1 a2 a3 a4 a5 a6 a7 a8 a9 a10 a11 a12 a13 a14 a15 a16 a17 a18 a19 a20 n (nI (s + gp_s1 P (sz - 1) c v t p)) (nI (p + 1)) → wL_ways_4 post f0_size f0_made f0_height f0_sendings a1 a2 a3 a4 a5 a6 a7 a8 a9 a10 a11 a12 a13 a14 a15 a16 a17 a18 a19 a20 (n + 1) (nI s) (nI p) := by
    intro n s p hp hw
    exact pk_le 3 p (fun z => absurd z (by omega)) (fun _ => gs_w11 hI hp hw)
  refine ⟨4, step 3 0 0 (by omega) (step 2 _ 1 (by omega) (step 1 _ 2 (by omega) ?_))⟩
  refine pk_le 3 3 (fun _ => ?_) (fun z => absurd z (by omega))
  unfold gp_sum at h
  rw [Nat.zero_add]
  exact h
theorem gs_foremost {post : Int32 → Prop} (h : ∀ r, r < 3 → post (nI r)) : wpX_foremost post (f0_size, f0_made, f0_height, f0_sendings, a1, a2, a3, a4, a5, a6, a7, a8, a9, a10, a11, a12, a13, a14, a15, a16, a17, a18, a19, a20) := by
  have step : ∀ n q, q < 3 → (∀ r, r < 3 → wX_foremost_4 post f0_size f0_made f0_height f0_sendings a1 a2 a3 a4 a5 a6 a7 a8 a9 a10 a11 a12 a13 a14 a15 a16 a17 a18 a19 a20 n (nI r) (nI (q + 1))) → ∀ r, r < 3 → wX_foremost_4 post f0_size f0_made f0_height f0_sendings a1 a2 a3 a4 a5 a6 a7 a8 a9 a10 a11 a12 a13 a14 a15 a16 a17 a18 a19 a20 (n + 1) (nI r) (nI q) := by
    intro n q hq hw r hr
    exact pk_le 3 q (fun z => absurd z (by omega)) (fun _ => ⟨pk_in q 3 hq, pk_in r 3 hr, br_c (fun _ => nm_r (nI_1 q) (hw r hr)) (fun _ => nm_r (nI_1 q) (hw q hq))⟩)
  exact ⟨3, step 2 1 (by omega) (step 1 2 (by omega) (fun r hr => pk_le 3 3 (fun _ => h r hr) (fun z => absurd z (by omega)))) 0 (by omega)⟩
theorem gs_canFinish {post : Int32 → St1 → Prop} (ha : ∀ r, r < 3 → a11 r = -1) (h : post 1 (f0_size, f0_made, f0_height, f0_sendings, a1, a2, a3, a4, a5, a6, a7, a8, a9, a10, a11, a12, a13, a14, a15, a16, a17, a18, a19, a20)) : wpX_canFinish post (f0_size, f0_made, f0_height, f0_sendings, a1, a2, a3, a4, a5, a6, a7, a8, a9, a10, a11, a12, a13, a14, a15, a16, a17, a18, a19, a20) := by
  unfold wpX_canFinish
  refine gs_foremost (fun r hr => ⟨pk_in r 3 hr, nm_r (e' := -1) (by rw [nI_clamp (by omega)]; exact ha r hr) ?_⟩)
  exact br_t (by decide) (br_f (by decide) (br_t rfl h))
theorem gs_g6 {post : Int32 → St1 → Prop} {n o k i s : Nat} (hi : i < 3) (ho : o < 3) (hk : k < 3) (hs : ∀ ps : Int32 → Prop, ps (nI s) → wpX_state ps (f0_size, f0_made, f0_height, f0_sendings, a1, a2, a3, a4, a5, a6, a7, a8, a9, a10, a11, a12, a13, a14, a15, a16, a17, a18, a19, a20) (nI i)) (h4 : s ≤ 4)
    (h : wL_goes_6 post f0_size f0_made f0_height f0_sendings a1 a2 a3 a4 a5 a6 a7 a8 a9 a10 a11 a12 a13 a14 a15 a16 a17 a18 a19 a20 n (nI (if s = 0 then o + 1 else o)) (nI (if s = 1 ∨ s = 3 then k + 1 else k)) (nI (i + 1))) : wL_goes_6 post f0_size f0_made f0_height f0_sendings a1 a2 a3 a4 a5 a6 a7 a8 a9 a10 a11 a12 a13 a14 a15 a16 a17 a18 a19 a20 (n + 1) (nI o) (nI k) (nI i) := by
  have key : ∀ o', wL_goes_6 post f0_size f0_made f0_height f0_sendings a1 a2 a3 a4 a5 a6 a7 a8 a9 a10 a11 a12 a13 a14 a15 a16 a17 a18 a19 a20 n (nI o') (nI (if s = 1 ∨ s = 3 then k + 1 else k)) (nI (i + 1)) → wL_goes_26 post (wL_goes_6 post f0_size f0_made f0_height f0_sendings a1 a2 a3 a4 a5 a6 a7 a8 a9 a10 a11 a12 a13 a14 a15 a16 a17 a18 a19 a20 n) (nI o') (nI k) (nI i) (nI s) f0_size f0_made f0_height f0_sendings a1 a2 a3 a4 a5 a6 a7 a8 a9 a10 a11 a12 a13 a14 a15 a16 a17 a18 a19 a20 := by
    intro o' h
    refine pk_eq s 1 (fun z => nm_r (nI_1 k) (nm_r (nI_1 i) ?_)) (fun z => pk_eq s 3 (fun y => nm_r (nI_1 k) (nm_r (nI_1 i) ?_)) (fun y => nm_r (nI_1 i) ?_))
    · rw [if_pos (Or.inl z)] at h; exact h
    · rw [if_pos (Or.inr y)] at h; exact h
    · rw [if_neg (fun w => w.elim z y)] at h; exact h
  refine pk_le 3 i (fun z => absurd z (by omega)) (fun _ => hs _ ?_)
  refine pk_eq s 0 (fun z => nm_r (nI_1 o) ?_) (fun z => ?_)
  · rw [if_pos z] at h; exact key _ h
  · rw [if_neg z] at h; exact key _ h
theorem gp_cq_nil {n0 p q : Nat} : gp_cq P n0 c v t p q = [] ↔ gp_ql P n0 c t p q = [] := by
  unfold gp_cq
  exact List.map_eq_nil_iff
theorem gs_goes {post : Int32 → St1 → Prop} (hI : gp_I P sz c v t a1 a2 a3 a4 a5 a6 a7 a11 a12 a13 a16 a17 a18 a19) (h : post 1 (f0_size, f0_made, f0_height, f0_sendings, a1, a2, a3, a4, a5, a6, a7, a8, a9, a10, a11, a12, a13, a14, a15, a16, a17, a18, a19, a20)) : wpL_goes post (f0_size, f0_made, f0_height, f0_sendings, a1, a2, a3, a4, a5, a6, a7, a8, a9, a10, a11, a12, a13, a14, a15, a16, a17, a18, a19, a20) := by
  obtain ⟨s0, k0, d0⟩ := gs_state (f0_size := f0_size) (f0_made := f0_made) (f0_height := f0_height) (f0_sendings := f0_sendings) (a8 := a8) (a9 := a9) (a10 := a10) (a14 := a14) (a15 := a15) (a20 := a20) hI (r := 0) (by omega)
  obtain ⟨s1, k1, d1⟩ := gs_state (f0_size := f0_size) (f0_made := f0_made) (f0_height := f0_height) (f0_sendings := f0_sendings) (a8 := a8) (a9 := a9) (a10 := a10) (a14 := a14) (a15 := a15) (a20 := a20) hI (r := 1) (by omega)
  obtain ⟨s2, k2, d2⟩ := gs_state (f0_size := f0_size) (f0_made := f0_made) (f0_height := f0_height) (f0_sendings := f0_sendings) (a8 := a8) (a9 := a9) (a10 := a10) (a14 := a14) (a15 := a15) (a20 := a20) hI (r := 2) (by omega)
  have le4 : ∀ {r s : Nat}, ((s = 0 ∧ (a11 r = -1 ∨ a11 r = -2)) ∨ ∃ j, gp_nxt P (sz - 1) c (t r) r j ∧ a11 r = nI (gp_g P (sz - 1) c j).1 ∧
    ((P 2 (gp_g P (sz - 1) c j).1 = r ∧ ((s = 1 ∧ (gp_cq P (sz - 1) c v t r (gp_to P (gp_g P (sz - 1) c j))).length < 4) ∨ (s = 2 ∧ (gp_cq P (sz - 1) c v t r (gp_to P (gp_g P (sz - 1) c j))).length = 4))) ∨
     (P 2 (gp_g P (sz - 1) c j).1 ≠ r ∧ ((s = 3 ∧ gp_cq P (sz - 1) c v t (P 2 (gp_g P (sz - 1) c j).1) r ≠ []) ∨ (s = 4 ∧ gp_cq P (sz - 1) c v t (P 2 (gp_g P (sz - 1) c j).1) r = []))))) → s ≤ 4 ∧
       (s = 0 ∨ ¬ a11 r = -1) ∧ (∀ j, gp_nxt P (sz - 1) c (t r) r j → a11 r = nI (gp_g P (sz - 1) c j).1 → ((P 2 (gp_g P (sz - 1) c j).1 = r ∧ gp_ql P (sz - 1) c t r (gp_to P (gp_g P (sz - 1) c j)) = []) ∨ (P 2 (gp_g P (sz - 1) c j).1 ≠ r ∧ gp_ql P (sz - 1) c t (P 2 (gp_g P (sz - 1) c j).1) r ≠ [])) → s = 1 ∨ s = 3) := by
    intro r s d
    have hz := hI.1.2.1
    have hz0 := hI.1.1
    rcases d with ⟨e, ea⟩ | ⟨j, hj, ea, d⟩
    · refine ⟨by omega, Or.inl e, fun j hj ej _ => ?_⟩
      have gd := (gp_g_gd hI.1 (show sz - 1 < sz by omega) hI.2.1 j).1
      have pos : 0 ≤ a11 r := by rw [ej]; exact nI_pos' (by omega)
      rcases ea with w | w <;> (rw [w] at pos; exact absurd pos (by decide))
    · have gd := (gp_g_gd hI.1 (show sz - 1 < sz by omega) hI.2.1 j).1
      have nn : ¬ a11 r = -1 := by
        intro w
        have pos : 0 ≤ a11 r := by rw [ea]; exact nI_pos' (by omega)
        rw [w] at pos
        exact absurd pos (by decide)
      refine ⟨?_, Or.inr nn, fun j' hj' ej' hq => ?_⟩
      · rcases d with ⟨_, d | d⟩ | ⟨_, d | d⟩ <;> omega
      · have ej := gp_nxt_u hj' hj
        subst ej
        rcases d with ⟨x, d | d⟩ | ⟨x, d | d⟩
        · omega
        · rcases hq with ⟨_, y⟩ | ⟨y, _⟩
          · have := d.2
            rw [gp_cq_nil.mpr y] at this
            exact absurd this (by decide)
          · exact absurd x y
        · omega
        · rcases hq with ⟨y, _⟩ | ⟨_, y⟩
          · exact absurd y x
          · exact absurd (gp_cq_nil.mp d.2) y
  obtain ⟨b0, n0, p0⟩ := le4 d0
  obtain ⟨b1, n1, p1⟩ := le4 d1
  obtain ⟨b2, n2, p2⟩ := le4 d2
  refine ⟨4, gs_g6 (o := 0) (k := 0) (i := 0) (by omega) (by omega) (by omega) k0 b0 (gs_g6 (by omega) (by split <;> omega) (by split <;> omega) k1 b1 (gs_g6 (by omega) (by split <;> split <;> omega) (by split <;> split <;> omega) k2 b2 ?_))⟩
  have h0 : sz - 1 < sz := by have := hI.1.1; omega
  rcases gp_prog (t := t) hI.1 h0 hI.2.1 with ⟨q1, q2⟩ | ⟨r, j, hr, hj, hq⟩
  · have am : ∀ r, r < 3 → a11 r = -1 := fun r hr => ((hI.2.2.2.2.2.2.1 r hr).1).trans (q1 r hr)
    have e0 : s0 = 0 := n0.elim id (fun z => absurd (am 0 (by omega)) z)
    have e1 : s1 = 0 := n1.elim id (fun z => absurd (am 1 (by omega)) z)
    have e2 : s2 = 0 := n2.elim id (fun z => absurd (am 2 (by omega)) z)
    subst e0 e1 e2
    refine pk_le 3 3 (fun _ => br_t (by decide) (gs_canFinish am (br_t rfl (gs_ways hI (br_t ?_ h))))) (fun z => absurd z (by omega))
    have nil : ∀ p q, p < 3 → q < 3 → gp_cq P (sz - 1) c v t p q = [] := fun p q hp hq => gp_cq_nil.mpr (q2 p q hp hq)
    unfold gp_sum gp_s1
    rw [nil 0 0 (by omega) (by omega), nil 0 1 (by omega) (by omega), nil 0 2 (by omega) (by omega), nil 1 0 (by omega) (by omega), nil 1 1 (by omega) (by omega), nil 1 2 (by omega) (by omega), nil 2 0 (by omega) (by omega), nil 2 1 (by omega) (by omega), nil 2 2 (by omega) (by omega)]
    decide
  · have ea : a11 r = nI (gp_g P (sz - 1) c j).1 := by
      rw [(hI.2.2.2.2.2.2.1 r hr).1]
      have := gp_loc_skn hI.1 h0 hI.2.1 hr (t r) (j - t r) (fun i h1 h2 => hj.2.1 i h1 (by have := hj.1; omega))
      rw [← this, show t r + (j - t r) = j by have := hj.1; omega]
      exact gp_loc_in hI.1 (gp_g_gd hI.1 h0 hI.2.1 j) hj.2.2
    have go : (s0 = 1 ∨ s0 = 3) ∨ (s1 = 1 ∨ s1 = 3) ∨ (s2 = 1 ∨ s2 = 3) := by
      have : r = 0 ∨ r = 1 ∨ r = 2 := by omega
      rcases this with z | z | z
      · subst z; exact Or.inl (p0 j hj ea hq)
      · subst z; exact Or.inr (Or.inl (p1 j hj ea hq))
      · subst z; exact Or.inr (Or.inr (p2 j hj ea hq))
    refine pk_le 3 3 (fun _ => pk_eq _ 3 (fun z => absurd z ?_) (fun _ => pk_le _ 0 (fun z => absurd z ?_) (fun _ => h) (hx := rfl) (ha := ?_)) (hx := rfl) (ha := ?_)) (fun z => absurd z (by omega))
    all_goals (repeat' split) <;> omega
end
end
section
/-! send and receive: the picture -/
section
variable {P : Nat → Nat → Nat} {sz n0 : Nat} {c v t : Nat → Nat}
theorem gp_cq_cg {c' v' t' : Nat → Nat} {p q : Nat} (hl : gp_ql P n0 c' t' p q = gp_ql P n0 c t p q) (hi : ∀ i, i ∈ gp_ql P n0 c t p q → v' i = v i ∧ gp_lab P n0 c' i = gp_lab P n0 c i) : gp_cq P n0 c' v' t' p q = gp_cq P n0 c v t p q := by
  unfold gp_cq
  rw [hl]
  refine List.map_congr_left (fun i h => ?_)
  rw [(hi i h).1, (hi i h).2]
/-- r sends: the pick is taken into the path if r is at a choose of which it told nobody yet -/
theorem gp_snd (hP : gp_ok P sz) (h0 : n0 < sz) (hc : ∀ i, c i < 2) (hS : gp_RS P n0 c t) (hZ : gp_LZ P n0 c t) {r j b : Nat} (hr : r < 3) (hj : gp_nxt P n0 c (t r) r j) (hp : P 2 (gp_g P n0 c j).1 = r) (hb : b < 2) :
    ∃ c' : Nat → Nat, (∀ i, c' i < 2) ∧ (∀ i, i ≤ j → gp_g P n0 c' i = gp_g P n0 c i) ∧ (∀ x, x < 3 → ∀ i, i ≤ t x → gp_g P n0 c' i = gp_g P n0 c i) ∧ gp_RS P n0 c' (gp_up t r (j + 1)) ∧ gp_LZ P n0 c' (gp_up t r (j + 1)) ∧ (P 1 (gp_g P n0 c j).1 = 2 → (gp_g P n0 c j).2 = 0 → c' j = b) ∧
      ∀ (v : Nat → Nat) (w : Nat), gp_cq P n0 c' (gp_up v j w) (gp_up t r (j + 1)) r (gp_to P (gp_g P n0 c j)) = gp_cq P n0 c v t r (gp_to P (gp_g P n0 c j)) ++ [w + 1024 * gp_lab P n0 c' j] ∧
        ∀ p x, p < 3 → x < 3 → ¬ (p = r ∧ x = gp_to P (gp_g P n0 c j)) → gp_cq P n0 c' (gp_up v j w) (gp_up t r (j + 1)) p x = gp_cq P n0 c v t p x := by
  have tj : t r ≤ j := hj.1
  obtain ⟨c', hc', hA, hB, hD, hE⟩ : ∃ c' : Nat → Nat, (∀ i, c' i < 2) ∧ (∀ i, i ≤ j → gp_g P n0 c' i = gp_g P n0 c i) ∧ (∀ x, x < 3 → ∀ i, i ≤ t x → gp_g P n0 c' i = gp_g P n0 c i) ∧ (∀ x, x < 3 → ∀ i, i < t x → c' i = c i) ∧ (P 1 (gp_g P n0 c j).1 = 2 → (gp_g P n0 c j).2 = 0 → c' j = b) := by
    by_cases e : P 1 (gp_g P n0 c j).1 = 2 ∧ (gp_g P n0 c j).2 = 0
    · have tx : ∀ x, x < 3 → t x ≤ j := by
        intro x hx
        refine Classical.byContradiction fun z => ?_
        have := gp_dec hP h0 hc hS hZ hx e.1 e.2 (by omega)
        rw [hp] at this
        omega
      have hA : ∀ i, i ≤ j → gp_g P n0 (gp_up c j b) i = gp_g P n0 c i := fun i hi => gp_g_eq i (fun k hk => gp_up_n (by omega))
      refine ⟨gp_up c j b, fun i => ?_, hA, fun x hx i hi => hA i (by have := tx x hx; omega), fun x hx i hi => gp_up_n (by have := tx x hx; omega), fun _ _ => gp_up_s⟩
      by_cases ei : i = j
      · rw [ei, gp_up_s]; exact hb
      · rw [gp_up_n ei]; exact hc i
    · exact ⟨c, hc, fun i _ => rfl, fun x _ i _ => rfl, fun x _ i _ => rfl, fun e1 e2 => absurd ⟨e1, e2⟩ e⟩
  obtain ⟨a1, a2, a3⟩ := gp_adv hP h0 hc hS hZ hr hj hc' hA hB (fun z => absurd hp z)
  have lab : ∀ x, x < 3 → ∀ i, i < t x → gp_lab P n0 c' i = gp_lab P n0 c i := by
    intro x hx i hi
    unfold gp_lab
    rw [hB x hx i (by omega), hD x hx i hi]
  refine ⟨c', hc', hA, hB, a1, a2, hE, fun v w => ⟨?_, fun p x hp3 hx3 hn => ?_⟩⟩
  · unfold gp_cq
    rw [gp_ql_send hP h0 hc hS hr hj hA hp, List.map_append]
    congr 1
    · refine List.map_congr_left (fun i h => ?_)
      have := (gp_ql_mem.mp h).1
      rw [gp_up_n (by omega), lab r hr i this]
    · show [gp_up v j w j + _] = _
      rw [gp_up_s]
  · refine gp_cq_cg (a3 p x hp3 hx3 (fun z => hn ⟨z.2.1.symm.trans hp, z.2.2.symm⟩)) (fun i h => ?_)
    obtain ⟨m1, m2, m3⟩ := gp_ql_mem.mp h
    refine ⟨gp_up_n (fun z => ?_), lab p hp3 i m1⟩
    rw [z] at m3
    rw [z, ← m3.2.1, hp] at m1
    omega
/-- r receives -/
theorem gp_rcv (hP : gp_ok P sz) (h0 : n0 < sz) (hc : ∀ i, c i < 2) (hS : gp_RS P n0 c t) (hZ : gp_LZ P n0 c t) {r j : Nat} (hr : r < 3) (hj : gp_nxt P n0 c (t r) r j) (hp : P 2 (gp_g P n0 c j).1 ≠ r) (hq : gp_ql P n0 c t (P 2 (gp_g P n0 c j).1) r ≠ []) :
    gp_RS P n0 c (gp_up t r (j + 1)) ∧ gp_LZ P n0 c (gp_up t r (j + 1)) ∧ gp_to P (gp_g P n0 c j) = r ∧ gp_cq P n0 c v t (P 2 (gp_g P n0 c j).1) r = (v j + 1024 * gp_lab P n0 c j) :: gp_cq P n0 c v (gp_up t r (j + 1)) (P 2 (gp_g P n0 c j).1) r ∧
      ∀ p x, p < 3 → x < 3 → ¬ (p = P 2 (gp_g P n0 c j).1 ∧ x = r) → gp_cq P n0 c v (gp_up t r (j + 1)) p x = gp_cq P n0 c v t p x := by
  have hs := gp_sent hj hq
  have to : gp_to P (gp_g P n0 c j) = r := hj.2.2.2.elim (fun z => absurd z hp) id
  obtain ⟨a1, a2, a3⟩ := gp_adv hP h0 hc hS hZ hr hj hc (fun i _ => rfl) (fun x _ i _ => rfl) (fun _ => hs)
  refine ⟨a1, a2, to, ?_, fun p x hp3 hx3 hn => gp_cq_cg (a3 p x hp3 hx3 (fun z => hn ⟨z.2.1.symm, z.2.2.symm.trans to⟩)) (fun i _ => ⟨rfl, rfl⟩)⟩
  unfold gp_cq
  rw [gp_ql_recv hj ⟨hj.2.2.1, rfl, to⟩ hp hs, List.map_cons]
theorem gp_loc_0 {r m : Nat} : gp_loc P r (m, 0) = gp_L P r 21 m := by
  unfold gp_loc; rw [if_neg (fun z => z.2.1 rfl)]
/-- where a receiver goes -/
theorem gp_loc_rc (hP : gp_ok P sz) (h0 : n0 < sz) (hc : ∀ i, c i < 2) {r j : Nat} (he : P 1 (gp_g P n0 c j).1 = 1 ∨ P 1 (gp_g P n0 c j).1 = 2) (hp : P 2 (gp_g P n0 c j).1 ≠ r) (to : gp_to P (gp_g P n0 c j) = r) :
    gp_loc P r (gp_g P n0 c (j + 1)) = gp_L P r 21 (gp_W P 40 (if P 1 (gp_g P n0 c j).1 = 2 ∧ gp_lab P n0 c j = 1 then P 6 (gp_g P n0 c j).1 else P 5 (gp_g P n0 c j).1)) ∧ ¬ gp_hf P (gp_g P n0 c (j + 1)) r := by
  have e : gp_g P n0 c (j + 1) = gp_st P (c j) (gp_g P n0 c j) := rfl
  obtain ⟨g1, g2, g3, g4⟩ := gp_g_gd hP h0 hc j
  have hb := hc j
  by_cases e1 : P 1 (gp_g P n0 c j).1 = 1
  · rw [e, gp_st1 e1, gp_loc_0, if_neg (by omega)]
    exact ⟨rfl, fun z => z.2.1 rfl⟩
  · have e2 : P 1 (gp_g P n0 c j).1 = 2 := by omega
    by_cases e3 : (gp_g P n0 c j).2 = 0
    · rw [e, gp_st20 e2 e3]
      unfold gp_to at to
      rw [if_neg e1, if_pos e3] at to
      refine ⟨?_, fun z => hp z.2.2⟩
      unfold gp_loc gp_lab gp_pt
      rw [if_pos ⟨e2, by simp, to.symm⟩, if_neg e1, if_pos e3]
      dsimp only
      by_cases eb : c j = 1
      · rw [if_neg (by omega), if_pos ⟨e2, eb⟩]
      · rw [if_pos (by omega), if_neg (fun z => eb z.2)]
    · rw [e, gp_st2 e2 e3, gp_loc_0]
      refine ⟨?_, fun z => z.2.1 rfl⟩
      unfold gp_lab gp_pt
      rw [if_neg e1, if_neg e3]
      by_cases eb : (gp_g P n0 c j).2 = 1
      · rw [if_pos eb, if_neg (fun z => by omega)]
      · rw [if_neg eb, if_pos ⟨e2, by omega⟩]
theorem gp_rl_up {c' : Nat → Nat} {a11 a12 a13 b11 b12 b13 : Nat → Int32} {r j : Nat} (hL : gp_rl P n0 c t a11 a12 a13) (hB : ∀ x, x < 3 → ∀ i, i ≤ t x → gp_g P n0 c' i = gp_g P n0 c i) (hx : ∀ x, x < 3 → x ≠ r → b11 x = a11 x ∧ b12 x = a12 x ∧ b13 x = a13 x)
    (h1 : b11 r = gp_loc P r (gp_g P n0 c' (j + 1))) (h2 : gp_hf P (gp_g P n0 c' (j + 1)) r → b12 r = 1 ∧ b13 r = nI ((gp_g P n0 c' (j + 1)).2 - 1)) (h3 : ¬ gp_hf P (gp_g P n0 c' (j + 1)) r → b12 r = 0) : gp_rl P n0 c' (gp_up t r (j + 1)) b11 b12 b13 := by
  intro x h
  by_cases e : x = r
  · subst e
    rw [gp_up_s]
    exact ⟨h1, h2, h3⟩
  · obtain ⟨x1, x2, x3⟩ := hx x h e
    rw [gp_up_n e, hB x h (t x) (Nat.le_refl _), x1, x2, x3]
    exact hL x h
end
end
section
/-! send and receive: the methods -/
section
variable {f0_size f0_made f0_height f0_sendings : Int32} {a1 a2 a3 a4 a5 a6 a7 a8 a9 a10 a11 a12 a13 a14 a15 a16 a17 a18 a19 a20 : Nat → Int32}
variable {P : Nat → Nat → Nat} {sz : Nat} {c v t : Nat → Nat}
theorem gs_put {post : St1 → Prop} {k hd len lb w : Nat} (hk : k < 9) (hh : hd < 4) (h16 : a16 k = nI hd) (h17 : a17 k = nI len) (hl : len < 4) (hb : lb < 4)
    (h : post (f0_size, f0_made, f0_height, f0_sendings + 1, a1, a2, a3, a4, a5, a6, a7, a8, a9, a10, a11, a12, a13, a14, a15, a16, upd a17 k (nI (len + 1)), upd a18 (4 * k + (hd + len) % 4) (nI lb), upd a19 (4 * k + (hd + len) % 4) (nI w), a20)) : wpX_put post (f0_size, f0_made, f0_height, f0_sendings, a1, a2, a3, a4, a5, a6, a7, a8, a9, a10, a11, a12, a13, a14, a15, a16, a17, a18, a19, a20) (nI k) (nI lb) (nI w) := by
  have ck : (nI k).toNatClampNeg = k := nI_clamp (by omega)
  have e16 : a16 (nI k).toNatClampNeg = nI hd := by rw [ck]; exact h16
  have e17 : a17 (nI k).toNatClampNeg = nI len := by rw [ck]; exact h17
  have e4 : (4 : Int32) * nI k + ((a16 (nI k).toNatClampNeg + a17 (nI k).toNatClampNeg) &&& 3) = nI (4 * k + (hd + len) % 4) := by
    rw [e16, e17, nI_add, pk_andN (by omega) 2 (by decide), show (4 : Int32) = nI 4 from rfl, pk_mul, nI_add]
  have c4 : (nI (4 * k + (hd + len) % 4)).toNatClampNeg = 4 * k + (hd + len) % 4 := nI_clamp (by omega)
  have e1 : upd a17 (nI k).toNatClampNeg (a17 (nI k).toNatClampNeg + 1).toInt8.toInt32 = upd a17 k (nI (len + 1)) := by
    rw [e17, ck, nI_1, gs_nb _ (by omega)]
  refine ⟨pk_in k 9 hk, pk_in k 9 hk, nm_r e4 ⟨pk_in (4 * k + (hd + len) % 4) 36 (by omega), nm_r (e' := upd a18 (4 * k + (hd + len) % 4) (nI lb)) (by rw [c4, gs_nb _ (by omega)]) ⟨pk_in (4 * k + (hd + len) % 4) 36 (by omega), nm_r (e' := upd a19 (4 * k + (hd + len) % 4) (nI w)) (by rw [c4]) ⟨pk_in k 9 hk, pk_in k 9 hk, nm_r e1 (nm_e h)⟩⟩⟩⟩
theorem gs_take {post : Int32 → St1 → Prop} {k hd len r : Nat} (hk : k < 9) (hh : hd < 4) (hr : r < 3) (h16 : a16 k = nI hd) (h17 : a17 k = nI (len + 1)) (hl : len < 4)
    (h : post (a18 (4 * k + hd)) (f0_size, f0_made, f0_height, f0_sendings, a1, a2, a3, a4, a5, a6, a7, a8, a9, a10, a11, a12, a13, a14, upd a15 r (a19 (4 * k + hd)), upd a16 k (nI ((hd + 1) % 4)), upd a17 k (nI len), a18, a19, a20)) : wpX_take post (f0_size, f0_made, f0_height, f0_sendings, a1, a2, a3, a4, a5, a6, a7, a8, a9, a10, a11, a12, a13, a14, a15, a16, a17, a18, a19, a20) (nI k) (nI r) := by
  have ck : (nI k).toNatClampNeg = k := nI_clamp (by omega)
  have cr : (nI r).toNatClampNeg = r := nI_clamp (by omega)
  have e16 : a16 (nI k).toNatClampNeg = nI hd := by rw [ck]; exact h16
  have e17 : a17 (nI k).toNatClampNeg = nI (len + 1) := by rw [ck]; exact h17
  have e4 : (4 : Int32) * nI k + a16 (nI k).toNatClampNeg = nI (4 * k + hd) := by
    rw [e16, show (4 : Int32) = nI 4 from rfl, pk_mul, nI_add]
  have c4 : (nI (4 * k + hd)).toNatClampNeg = 4 * k + hd := nI_clamp (by omega)
  have e1 : upd a16 (nI k).toNatClampNeg ((a16 (nI k).toNatClampNeg + 1) &&& 3).toInt8.toInt32 = upd a16 k (nI ((hd + 1) % 4)) := by
    rw [e16, ck, nI_1, pk_andN (by omega) 2 (by decide), gs_nb _ (by omega)]
  have e2 : upd a17 (nI k).toNatClampNeg (a17 (nI k).toNatClampNeg - 1).toInt8.toInt32 = upd a17 k (nI len) := by
    rw [e17, ck, nI_pred, gs_nb _ (by omega)]
  refine ⟨pk_in k 9 hk, nm_r e4 ⟨pk_in k 9 hk, pk_in k 9 hk, nm_r e1 ⟨pk_in k 9 hk, pk_in k 9 hk, nm_r e2 ⟨pk_in (4 * k + hd) 36 (by omega), pk_in r 3 hr, nm_r (e' := upd a15 r (a19 (4 * k + hd))) (by rw [c4, cr]) ⟨pk_in (4 * k + hd) 36 (by omega), ?_⟩⟩⟩⟩⟩
  rw [c4]
  exact h
theorem gs_goOn {post : St1 → Prop} (hP : gp_ok P sz) (hR : gp_rep P sz a1 a2 a3 a4 a5 a6 a7) {r n : Nat} {x : Int32} (hr : r < 3) (hn : n < sz) (hx : x = nI n) (h : post (f0_size, f0_made, f0_height, f0_sendings, a1, a2, a3, a4, a5, a6, a7, a8, a9, a10, upd a11 r (gp_L P r 21 (gp_W P 40 n)), a12, a13, a14, a15, a16, a17, a18, a19, a20)) : wpX_goOn post (f0_size, f0_made, f0_height, f0_sendings, a1, a2, a3, a4, a5, a6, a7, a8, a9, a10, a11, a12, a13, a14, a15, a16, a17, a18, a19, a20) (nI r) x := by
  unfold wpX_goOn
  refine gs_lf hP hR hn hx hr ⟨pk_in r 3 hr, nm_r (e' := upd a11 r (gp_L P r 21 (gp_W P 40 n))) (by rw [nI_clamp (by omega), gs_Lb hP hn]) h⟩
theorem gs_sendMessage {post : Int32 → St1 → Prop} (hP : gp_ok P sz) (hR : gp_rep P sz a1 a2 a3 a4 a5 a6 a7) {r n k hd len w : Nat} (hr : r < 3) (hn : n < sz) (h1 : P 1 n = 1) (ha : a11 r = nI n) (hk : k < 9) (hh : hd < 4) (h16 : a16 k = nI hd) (h17 : a17 k = nI len) (hl : len < 4)
    (h : post (nI (P 4 n)) (f0_size, f0_made, f0_height, f0_sendings + 1, a1, a2, a3, a4, a5, a6, a7, a8, a9, a10, upd a11 r (gp_L P r 21 (gp_nx P n)), a12, a13, a14, a15, a16, upd a17 k (nI (len + 1)), upd a18 (4 * k + (hd + len) % 4) (nI (P 4 n)), upd a19 (4 * k + (hd + len) % 4) (nI w), a20)) : wpX_sendMessage post (f0_size, f0_made, f0_height, f0_sendings, a1, a2, a3, a4, a5, a6, a7, a8, a9, a10, a11, a12, a13, a14, a15, a16, a17, a18, a19, a20) (nI r) (nI k) (nI w) := by
  have hz := hP.2.1
  obtain ⟨_, m1, _, h5, _⟩ := hP.2.2.1 n hn
  obtain ⟨_, _, _, e4, e5, _, _⟩ := hR n hn
  have cn : (nI n).toNatClampNeg = n := nI_clamp (by omega)
  refine ⟨pk_in r 3 hr, nm_r (e' := nI n) (by rw [nI_clamp (by omega)]; exact ha) ⟨pk_in n 40 (by omega), nm_r (e' := nI (P 4 n)) (by rw [cn]; exact e4) (gs_put hk hh h16 h17 hl (by have := (m1 h1).2.2.2; omega) ⟨pk_in n 40 (by omega), gs_goOn hP hR hr (h5 (Or.inl h1)) (by rw [cn]; exact e5) h⟩)⟩⟩
theorem gs_sendPick0 {post : Int32 → St1 → Prop} {r b k hd len w : Nat} (hr : r < 3) (hb : b < 2) (ha : a12 r = 0) (hk : k < 9) (hh : hd < 4) (h16 : a16 k = nI hd) (h17 : a17 k = nI len) (hl : len < 4)
    (h : post (nI b) (f0_size, f0_made, f0_height, f0_sendings + 1, a1, a2, a3, a4, a5, a6, a7, a8, a9, a10, a11, upd a12 r 1, upd a13 r (nI b), upd a14 r (a14 r + 1), a15, a16, upd a17 k (nI (len + 1)), upd a18 (4 * k + (hd + len) % 4) (nI b), upd a19 (4 * k + (hd + len) % 4) (nI w), a20)) : wpX_sendPick post (f0_size, f0_made, f0_height, f0_sendings, a1, a2, a3, a4, a5, a6, a7, a8, a9, a10, a11, a12, a13, a14, a15, a16, a17, a18, a19, a20) (nI r) (nI k) (nI b) (nI w) := by
  have cr : (nI r).toNatClampNeg = r := nI_clamp (by omega)
  refine ⟨pk_in r 3 hr, nm_e ⟨pk_in r 3 hr, br_t (by rw [cr]; exact ha) (pk_lt b 0 (fun z => absurd z (by omega)) (fun _ => pk_le b 1 (fun _ => ?_) (fun z => absurd z (by omega))))⟩⟩
  refine ⟨pk_in r 3 hr, nm_r (e' := upd a12 r 1) (by rw [cr]) ⟨pk_in r 3 hr, nm_r (e' := upd a13 r (nI b)) (by rw [cr, gs_nb _ (by omega)]) ⟨pk_in r 3 hr, pk_in r 3 hr, nm_r (e' := upd a14 r (a14 r + 1)) (by rw [cr]) (gs_put hk hh h16 h17 hl (by omega) h)⟩⟩⟩
theorem gs_sendPick1 {post : Int32 → St1 → Prop} (hP : gp_ok P sz) (hR : gp_rep P sz a1 a2 a3 a4 a5 a6 a7) {r n b l k hd len w : Nat} (hr : r < 3) (hn : n < sz) (h2 : P 1 n = 2) (hl2 : l < 2) (ha : a11 r = nI n) (h12 : a12 r = 1) (h13 : a13 r = nI l) (hk : k < 9) (hh : hd < 4) (h16 : a16 k = nI hd) (h17 : a17 k = nI len) (hl : len < 4)
    (h : post (nI l) (f0_size, f0_made, f0_height, f0_sendings + 1, a1, a2, a3, a4, a5, a6, a7, a8, a9, a10, upd a11 r (gp_L P r 21 (gp_W P 40 (gp_pt P n (l + 1)))), upd a12 r 0, a13, a14, a15, a16, upd a17 k (nI (len + 1)), upd a18 (4 * k + (hd + len) % 4) (nI l), upd a19 (4 * k + (hd + len) % 4) (nI w), a20)) : wpX_sendPick post (f0_size, f0_made, f0_height, f0_sendings, a1, a2, a3, a4, a5, a6, a7, a8, a9, a10, a11, a12, a13, a14, a15, a16, a17, a18, a19, a20) (nI r) (nI k) (nI b) (nI w) := by
  have cr : (nI r).toNatClampNeg = r := nI_clamp (by omega)
  have hz := hP.2.1
  obtain ⟨_, _, m2, h5, _⟩ := hP.2.2.1 n hn
  obtain ⟨_, _, _, _, e5, e6, _⟩ := hR n hn
  have cn : (nI n).toNatClampNeg = n := nI_clamp (by omega)
  refine ⟨pk_in r 3 hr, nm_r (e' := nI n) (by rw [cr]; exact ha) ⟨pk_in r 3 hr, br_f (by rw [cr, h12]; decide) ⟨pk_in r 3 hr, nm_r (e' := nI l) (by rw [cr]; exact h13) (gs_put hk hh h16 h17 hl (by omega) ⟨pk_in r 3 hr, nm_r (e' := upd a12 r 0) (by rw [cr]) (pk_eq l 0 (fun z => ⟨pk_in n 40 (by omega), ?_⟩) (fun z => ⟨pk_in n 40 (by omega), ?_⟩))⟩)⟩⟩⟩
  · unfold wX_sendPick_111
    refine gs_goOn hP hR hr (h5 (by omega)) (by rw [cn]; exact e5) ?_
    unfold gp_pt at h
    rw [if_pos (by omega)] at h
    exact h
  · unfold wX_sendPick_111
    refine gs_goOn hP hR hr (m2 h2).2 (by rw [cn]; exact e6) ?_
    unfold gp_pt at h
    rw [if_neg (by omega)] at h
    exact h
/-- send, by a role that may -/
theorem gs_send {post : Int32 → St1 → Prop} (hI : gp_I P sz c v t a1 a2 a3 a4 a5 a6 a7 a11 a12 a13 a16 a17 a18 a19) {r j b w : Nat} (hr : r < 3) (hj : gp_nxt P (sz - 1) c (t r) r j) (hp : P 2 (gp_g P (sz - 1) c j).1 = r) (hl : (gp_cq P (sz - 1) c v t r (gp_to P (gp_g P (sz - 1) c j))).length < 4) (ha : a11 r = nI (gp_g P (sz - 1) c j).1) (hb : b < 2) (hw : w < 1024)
    (H : ∀ (c' v' t' : Nat → Nat) (lb : Nat) (b11 b12 b13 b14 b17 b18 b19 : Nat → Int32), lb < 4 → gp_I P sz c' v' t' a1 a2 a3 a4 a5 a6 a7 b11 b12 b13 a16 b17 b18 b19 →
      gp_cq P (sz - 1) c' v' t' r (gp_to P (gp_g P (sz - 1) c j)) = gp_cq P (sz - 1) c v t r (gp_to P (gp_g P (sz - 1) c j)) ++ [w + 1024 * lb] →
      (∀ p x, p < 3 → x < 3 → ¬ (p = r ∧ x = gp_to P (gp_g P (sz - 1) c j)) → gp_cq P (sz - 1) c' v' t' p x = gp_cq P (sz - 1) c v t p x) →
      post (nI lb) (f0_size, f0_made, f0_height, f0_sendings + 1, a1, a2, a3, a4, a5, a6, a7, a8, a9, a10, b11, b12, b13, b14, a15, a16, b17, b18, b19, a20)) : wpX_send post (f0_size, f0_made, f0_height, f0_sendings, a1, a2, a3, a4, a5, a6, a7, a8, a9, a10, a11, a12, a13, a14, a15, a16, a17, a18, a19, a20) (nI r) (nI b) (nI w) := by
  obtain ⟨n1, n2, n3, n4, n5⟩ := gs_node hI hr hj
  have hI' := hI
  obtain ⟨hP, hc, hv, hS, hZ, hR, hL, hB⟩ := hI
  have hz := hP.2.1
  have h0 : sz - 1 < sz := by have := hP.1; omega
  obtain ⟨hd, q1, q2, q3, q4, q5⟩ := hB r (gp_to P (gp_g P (sz - 1) c j)) hr n4
  obtain ⟨c', C1, C2, C3, C4, C5, C6, C7⟩ := gp_snd hP h0 hc hS hZ hr hj hp hb
  obtain ⟨K1, K2⟩ := C7 v w
  have gj : gp_g P (sz - 1) c' j = gp_g P (sz - 1) c j := C2 j (Nat.le_refl j)
  have lb4 : gp_lab P (sz - 1) c' j < 4 := gp_lab_lt hP h0 C1 j (by rw [gj]; exact n2)
  have hv' : ∀ i, gp_up v j w i < 1024 := by
    intro i
    by_cases e : i = j
    · rw [e, gp_up_s]; exact hw
    · rw [gp_up_n e]; exact hv i
  -- what every case ends with
  have fin : ∀ b11 b12 b13 b14 : Nat → Int32, gp_rl P (sz - 1) c' (gp_up t r (j + 1)) b11 b12 b13 →
      post (nI (gp_lab P (sz - 1) c' j)) (f0_size, f0_made, f0_height, f0_sendings + 1, a1, a2, a3, a4, a5, a6, a7, a8, a9, a10, b11, b12, b13, b14, a15, a16, upd a17 (3 * r + gp_to P (gp_g P (sz - 1) c j)) (nI ((gp_cq P (sz - 1) c v t r (gp_to P (gp_g P (sz - 1) c j))).length + 1)), upd a18 (4 * (3 * r + gp_to P (gp_g P (sz - 1) c j)) + (hd + (gp_cq P (sz - 1) c v t r (gp_to P (gp_g P (sz - 1) c j))).length) % 4) (nI (gp_lab P (sz - 1) c' j)), upd a19 (4 * (3 * r + gp_to P (gp_g P (sz - 1) c j)) + (hd + (gp_cq P (sz - 1) c v t r (gp_to P (gp_g P (sz - 1) c j))).length) % 4) (nI w), a20) := by
    intro b11 b12 b13 b14 hrl
    refine H c' (gp_up v j w) (gp_up t r (j + 1)) _ b11 b12 b13 b14 _ _ _ lb4 ⟨hP, C1, hv', C4, C5, hR, hrl, fun p x hp3 hx3 => ?_⟩ K1 K2
    by_cases e : p = r ∧ x = gp_to P (gp_g P (sz - 1) c j)
    · obtain ⟨rfl, rfl⟩ := e
      rw [K1]
      have := gp_bf_put (e := w + 1024 * gp_lab P (sz - 1) c' j) (a17 := a17) q1 q2 hl q5
      rw [show (w + 1024 * gp_lab P (sz - 1) c' j) / 1024 = gp_lab P (sz - 1) c' j by omega, show (w + 1024 * gp_lab P (sz - 1) c' j) % 1024 = w by omega] at this
      exact this
    · rw [K2 p x hp3 hx3 e]
      exact gp_bf_put' (fun z => e (by omega)) (by omega) (hB p x hp3 hx3)
  have k9 : 3 * r + gp_to P (gp_g P (sz - 1) c j) < 9 := by omega
  unfold wpX_send
  refine gs_bad hr (br_t rfl (gs_sends hR hr hz n1 n3 ha (fun _ => br_f (by decide) (gs_partnerOf hI' hr hj ha ?_)) (fun z => absurd hp z)))
  rw [show gp_pn P (gp_g P (sz - 1) c j) r = gp_to P (gp_g P (sz - 1) c j) by unfold gp_pn; rw [if_pos hp]]
  refine gs_qof ⟨vp_in_nI k9 (by omega), ?_⟩
  rw [nI_clamp (show 3 * r + gp_to P (gp_g P (sz - 1) c j) < 2 ^ 31 by omega), nI_clamp (show r < 2 ^ 31 by omega), ha, nI_clamp (show (gp_g P (sz - 1) c j).1 < 2 ^ 31 by omega)]
  refine br_f (by rw [q3]; exact fun z => absurd ((nI_eq (b := 4) (by omega) (by omega)).mp z) (by omega)) ⟨pk_in r 3 hr, vp_in_nI (by omega) (by omega), ?_⟩
  have up3 : ∀ {f : Nat → Int32} {y : Int32} (x : Nat), x < 3 → x ≠ r → upd f r y x = f x := fun x _ hx => pk_un hx
  have gj1 : gp_g P (sz - 1) c' (j + 1) = gp_st P (c' j) (gp_g P (sz - 1) c j) := by
    show gp_st P (c' j) (gp_g P (sz - 1) c' j) = _
    rw [gj]
  by_cases e1 : P 1 (gp_g P (sz - 1) c j).1 = 1
  · refine br_t (by rw [(hR _ n1).1, e1]; rfl) ?_
    have el : gp_lab P (sz - 1) c' j = P 4 (gp_g P (sz - 1) c j).1 := by unfold gp_lab; rw [gj, if_pos e1]
    have nh : ¬ gp_hf P (gp_g P (sz - 1) c (t r)) r := by
      intro z
      by_cases ej : j = t r
      · rw [← ej] at z; have := z.1; omega
      · exact hj.2.1 (t r) (Nat.le_refl _) (by have := hj.1; omega) ⟨Or.inr z.1, Or.inl z.2.2⟩
    have := fin (upd a11 r (gp_L P r 21 (gp_nx P (gp_g P (sz - 1) c j).1))) a12 a13 a14 (gp_rl_up (a11 := a11) (a12 := a12) (a13 := a13) hL C3 (fun x hx hxr => ⟨pk_un hxr, rfl, rfl⟩) (by rw [pk_us, gj1, gp_st1 e1, gp_loc_0]) (fun z => absurd rfl (by rw [gj1, gp_st1 e1] at z; exact z.2.1)) (fun _ => (hL r hr).2.2 nh))
    rw [el] at this
    exact gs_sendMessage hP hR hr n1 e1 ha k9 q1 q2 q3 hl this
  · have e2 : P 1 (gp_g P (sz - 1) c j).1 = 2 := by omega
    refine br_f (by rw [(hR _ n1).1, e2]; decide) ?_
    by_cases e3 : (gp_g P (sz - 1) c j).2 = 0
    · have nh : ¬ gp_hf P (gp_g P (sz - 1) c (t r)) r := fun z => (gp_hf_j hj hp e2).mpr z e3
      have el : gp_lab P (sz - 1) c' j = b := by unfold gp_lab; rw [gj, if_neg e1, if_pos e3]; exact C6 e2 e3
      have g1 : gp_g P (sz - 1) c' (j + 1) = ((gp_g P (sz - 1) c j).1, b + 1) := by rw [gj1, gp_st20 e2 e3, C6 e2 e3]
      have hle : r ≠ gp_le (P 2 (gp_g P (sz - 1) c j).1) := by rw [hp]; exact fun z => (gp_roles r hr).2.2.1 z.symm
      have := fin a11 (upd a12 r 1) (upd a13 r (nI b)) (upd a14 r (a14 r + 1)) (gp_rl_up (a11 := a11) (a12 := a12) (a13 := a13) hL C3 (fun x hx hxr => ⟨rfl, pk_un hxr, pk_un hxr⟩) (by
          rw [g1, ha]
          unfold gp_loc
          rw [if_neg (fun z => hle z.2.2)]
          exact (gp_L_ch e2).symm) (fun _ => ⟨pk_us, by rw [pk_us, g1]; rfl⟩) (fun z => absurd ⟨by rw [g1]; exact e2, by rw [g1]; simp, by rw [g1]; exact hp⟩ z))
      rw [el] at this
      exact gs_sendPick0 hr hb ((hL r hr).2.2 nh) k9 q1 q2 q3 hl this
    · have hf : gp_hf P (gp_g P (sz - 1) c (t r)) r := (gp_hf_j hj hp e2).mp e3
      have ej : j = t r := by
        refine Classical.byContradiction fun z => ?_
        exact hj.2.1 (t r) (Nat.le_refl _) (by have := hj.1; omega) ⟨Or.inr hf.1, Or.inl hf.2.2⟩
      have el : gp_lab P (sz - 1) c' j = (gp_g P (sz - 1) c j).2 - 1 := by unfold gp_lab; rw [gj, if_neg e1, if_neg e3]
      have g4 := (gp_g_gd hP h0 hc j).2.2.2
      obtain ⟨x12, x13⟩ := (hL r hr).2.1 hf
      rw [← ej] at x13
      have g1 : gp_g P (sz - 1) c' (j + 1) = (gp_W P 40 (gp_pt P (gp_g P (sz - 1) c j).1 (gp_g P (sz - 1) c j).2), 0) := by rw [gj1, gp_st2 e2 e3]
      have ep : (gp_g P (sz - 1) c j).2 - 1 + 1 = (gp_g P (sz - 1) c j).2 := by omega
      have := fin (upd a11 r (gp_L P r 21 (gp_W P 40 (gp_pt P (gp_g P (sz - 1) c j).1 ((gp_g P (sz - 1) c j).2 - 1 + 1))))) (upd a12 r 0) a13 a14 (gp_rl_up (a11 := a11) (a12 := a12) (a13 := a13) hL C3 (fun x hx hxr => ⟨pk_un hxr, pk_un hxr, rfl⟩) (by
          rw [g1, gp_loc_0, pk_us, ep]) (fun z => absurd rfl (by rw [g1] at z; exact z.2.1)) (fun _ => pk_us))
      rw [el] at this
      exact gs_sendPick1 hP hR hr n1 e2 (by omega) ha x12 x13 k9 q1 q2 q3 hl this
/-- receive, by a role that may -/
theorem gs_receive {post : Int32 → St1 → Prop} (hI : gp_I P sz c v t a1 a2 a3 a4 a5 a6 a7 a11 a12 a13 a16 a17 a18 a19) {r j : Nat} (hr : r < 3) (hj : gp_nxt P (sz - 1) c (t r) r j) (hp : P 2 (gp_g P (sz - 1) c j).1 ≠ r) (hl : gp_cq P (sz - 1) c v t (P 2 (gp_g P (sz - 1) c j).1) r ≠ []) (ha : a11 r = nI (gp_g P (sz - 1) c j).1)
    (H : ∀ (t' : Nat → Nat) (e : Nat) (b11 b14 b15 b16 b17 : Nat → Int32), gp_I P sz c v t' a1 a2 a3 a4 a5 a6 a7 b11 a12 a13 b16 b17 a18 a19 →
      gp_cq P (sz - 1) c v t (P 2 (gp_g P (sz - 1) c j).1) r = e :: gp_cq P (sz - 1) c v t' (P 2 (gp_g P (sz - 1) c j).1) r →
      (∀ p x, p < 3 → x < 3 → ¬ (p = P 2 (gp_g P (sz - 1) c j).1 ∧ x = r) → gp_cq P (sz - 1) c v t' p x = gp_cq P (sz - 1) c v t p x) → b15 r = nI (e % 1024) →
      post (nI (e / 1024)) (f0_size, f0_made, f0_height, f0_sendings, a1, a2, a3, a4, a5, a6, a7, a8, a9, a10, b11, a12, a13, b14, b15, b16, b17, a18, a19, a20)) : wpX_receive post (f0_size, f0_made, f0_height, f0_sendings, a1, a2, a3, a4, a5, a6, a7, a8, a9, a10, a11, a12, a13, a14, a15, a16, a17, a18, a19, a20) (nI r) := by
  obtain ⟨n1, n2, n3, n4, n5⟩ := gs_node hI hr hj
  obtain ⟨hP, hc, hv, hS, hZ, hR, hL, hB⟩ := hI
  have hz := hP.2.1
  have h0 : sz - 1 < sz := by have := hP.1; omega
  obtain ⟨C4, C5, to, K1, K2⟩ := gp_rcv (v := v) hP h0 hc hS hZ hr hj hp (fun z => hl (gp_cq_nil.mpr z))
  obtain ⟨hd, q1, q2, q3, q4, q5⟩ := hB (P 2 (gp_g P (sz - 1) c j).1) r n3 hr
  rw [K1] at q3 q4 q5
  have lb4 : gp_lab P (sz - 1) c j < 4 := gp_lab_lt hP h0 hc j n2
  have vj := hv j
  obtain ⟨l1, l2⟩ := gp_loc_rc hP h0 hc n2 hp to
  have nh : ¬ gp_hf P (gp_g P (sz - 1) c (t r)) r := by
    intro z
    by_cases ej : j = t r
    · rw [← ej] at z; exact hp z.2.2
    · exact hj.2.1 (t r) (Nat.le_refl _) (by have := hj.1; omega) ⟨Or.inr z.1, Or.inl z.2.2⟩
  have k9 : 3 * P 2 (gp_g P (sz - 1) c j).1 + r < 9 := by omega
  have z0 := q5 0 (by simp)
  rw [show (hd + 0) % 4 = hd by omega, List.getD_cons_zero, show (v j + 1024 * gp_lab P (sz - 1) c j) / 1024 = gp_lab P (sz - 1) c j by omega, show (v j + 1024 * gp_lab P (sz - 1) c j) % 1024 = v j by omega] at z0
  have hlen : (gp_cq P (sz - 1) c v (gp_up t r (j + 1)) (P 2 (gp_g P (sz - 1) c j).1) r).length < 4 := by
    have : ((v j + 1024 * gp_lab P (sz - 1) c j) :: gp_cq P (sz - 1) c v (gp_up t r (j + 1)) (P 2 (gp_g P (sz - 1) c j).1) r).length = (gp_cq P (sz - 1) c v (gp_up t r (j + 1)) (P 2 (gp_g P (sz - 1) c j).1) r).length + 1 := rfl
    omega
  have cn : (nI (gp_g P (sz - 1) c j).1).toNatClampNeg = (gp_g P (sz - 1) c j).1 := nI_clamp (by omega)
  have cr : (nI r).toNatClampNeg = r := nI_clamp (by omega)
  obtain ⟨e1, e2, _, _, e5, e6, _⟩ := hR _ n1
  obtain ⟨_, _, m2, m5, _⟩ := hP.2.2.1 _ n1
  have fin : ∀ b14 : Nat → Int32, post (nI (gp_lab P (sz - 1) c j)) (f0_size, f0_made, f0_height, f0_sendings, a1, a2, a3, a4, a5, a6, a7, a8, a9, a10, upd a11 r (gp_loc P r (gp_g P (sz - 1) c (j + 1))), a12, a13, b14, upd a15 r (a19 (4 * (3 * P 2 (gp_g P (sz - 1) c j).1 + r) + hd)), upd a16 (3 * P 2 (gp_g P (sz - 1) c j).1 + r) (nI ((hd + 1) % 4)), upd a17 (3 * P 2 (gp_g P (sz - 1) c j).1 + r) (nI (gp_cq P (sz - 1) c v (gp_up t r (j + 1)) (P 2 (gp_g P (sz - 1) c j).1) r).length), a18, a19, a20) := by
    intro b14
    have := H (gp_up t r (j + 1)) (v j + 1024 * gp_lab P (sz - 1) c j) (upd a11 r (gp_loc P r (gp_g P (sz - 1) c (j + 1)))) b14 (upd a15 r (a19 (4 * (3 * P 2 (gp_g P (sz - 1) c j).1 + r) + hd))) (upd a16 (3 * P 2 (gp_g P (sz - 1) c j).1 + r) (nI ((hd + 1) % 4))) (upd a17 (3 * P 2 (gp_g P (sz - 1) c j).1 + r) (nI (gp_cq P (sz - 1) c v (gp_up t r (j + 1)) (P 2 (gp_g P (sz - 1) c j).1) r).length))
      ⟨hP, hc, hv, C4, C5, hR, gp_rl_up hL (fun x _ i _ => rfl) (fun x hx hxr => ⟨pk_un hxr, rfl, rfl⟩) pk_us (fun z => absurd z l2) (fun _ => (hL r hr).2.2 nh), fun p x hp3 hx3 => by
        by_cases e : p = P 2 (gp_g P (sz - 1) c j).1 ∧ x = r
        · obtain ⟨rfl, rfl⟩ := e
          exact gp_bf_take q1 q4 q5
        · rw [K2 p x hp3 hx3 e]
          exact gp_bf_take' (fun z => e (by omega)) (hB p x hp3 hx3)⟩ K1 K2 (by rw [pk_us, z0.2, show (v j + 1024 * gp_lab P (sz - 1) c j) % 1024 = v j by omega])
    rw [show (v j + 1024 * gp_lab P (sz - 1) c j) / 1024 = gp_lab P (sz - 1) c j by omega] at this
    exact this
  rw [l1] at fin
  unfold wpX_receive
  refine gs_bad hr (br_t rfl ⟨pk_in r 3 hr, nm_r (e' := nI (gp_g P (sz - 1) c j).1) (by rw [cr]; exact ha) ?_⟩)
  refine br_f (nI_pos (by omega)) ⟨vp_in_nI (by omega) (by omega), ?_⟩
  rw [cn, e2]
  refine br_f (fun z => hp ((nI_eq (by omega) (by omega)).mp z)) ⟨vp_in_nI (by omega) (by omega), gs_qof ⟨vp_in_nI k9 (by omega), ?_⟩⟩
  rw [nI_clamp (show 3 * P 2 (gp_g P (sz - 1) c j).1 + r < 2 ^ 31 by omega)]
  refine br_f (by rw [q3]; exact nI_ne0 (by simp) (by omega)) (gs_take k9 q1 hr q2 q3 hlen ?_)
  rw [z0.1]
  have tail : ∀ b14 : Nat → Int32, wX_receive_86 post (nI r) (nI (gp_g P (sz - 1) c j).1) (nI (gp_lab P (sz - 1) c j)) f0_size f0_made f0_height f0_sendings a1 a2 a3 a4 a5 a6 a7 a8 a9 a10 a11 a12 a13 b14 (upd a15 r (a19 (4 * (3 * P 2 (gp_g P (sz - 1) c j).1 + r) + hd))) (upd a16 (3 * P 2 (gp_g P (sz - 1) c j).1 + r) (nI ((hd + 1) % 4))) (upd a17 (3 * P 2 (gp_g P (sz - 1) c j).1 + r) (nI (gp_cq P (sz - 1) c v (gp_up t r (j + 1)) (P 2 (gp_g P (sz - 1) c j).1) r).length)) a18 a19 a20 := by
    intro b14
    have f := fin b14
    have k13 : ¬ (P 1 (gp_g P (sz - 1) c j).1 = 2 ∧ gp_lab P (sz - 1) c j = 1) → wX_receive_113 post (nI (gp_g P (sz - 1) c j).1) (nI (gp_lab P (sz - 1) c j)) (nI r) f0_size f0_made f0_height f0_sendings a1 a2 a3 a4 a5 a6 a7 a8 a9 a10 a11 a12 a13 b14 (upd a15 r (a19 (4 * (3 * P 2 (gp_g P (sz - 1) c j).1 + r) + hd))) (upd a16 (3 * P 2 (gp_g P (sz - 1) c j).1 + r) (nI ((hd + 1) % 4))) (upd a17 (3 * P 2 (gp_g P (sz - 1) c j).1 + r) (nI (gp_cq P (sz - 1) c v (gp_up t r (j + 1)) (P 2 (gp_g P (sz - 1) c j).1) r).length)) a18 a19 a20 := by
      intro e
      rw [if_neg e] at f
      refine ⟨vp_in_nI (by omega) (by omega), ?_⟩
      unfold wX_receive_119
      exact gs_goOn hP hR hr (m5 (by omega)) (by rw [cn]; exact e5) f
    refine ⟨vp_in_nI (by omega) (by omega), pk_eq (P 1 (gp_g P (sz - 1) c j).1) 2 (fun y => pk_eq (gp_lab P (sz - 1) c j) 1 (fun x => ⟨vp_in_nI (by omega) (by omega), ?_⟩) (fun x => k13 (fun w => x w.2))) (fun y => k13 (fun w => y w.1)) (by rw [cn]; exact e1)⟩
    rw [if_pos ⟨y, x⟩] at f
    unfold wX_receive_119
    exact gs_goOn hP hR hr (m2 y).2 (by rw [cn]; exact e6) f
  refine ⟨vp_in_nI (by omega) (by omega), br_c (fun _ => ⟨pk_in r 3 hr, pk_in r 3 hr, nm_e (tail _)⟩) (fun _ => tail _)⟩
end
end
section
/-! making terms -/
def gp_par (M : Nat → Nat → Nat) (w j : Nat) : Prop := ((M 1 w = 1 ∨ M 1 w = 2 ∨ M 1 w = 3) ∧ M 5 w = j) ∨ (M 1 w = 2 ∧ M 6 w = j)
/-- a made term: its parts were made before it -/
def gp_tm (M : Nat → Nat → Nat) (j : Nat) : Prop := M 1 j ≤ 4 ∧ (M 1 j = 1 → M 2 j < 3 ∧ M 3 j < 3 ∧ M 2 j ≠ M 3 j ∧ M 4 j ≤ 3) ∧ (M 1 j = 2 → M 2 j < 3 ∧ M 6 j < j) ∧ (M 1 j = 1 ∨ M 1 j = 2 ∨ M 1 j = 3 → M 5 j < j) ∧ (M 1 j = 3 ∨ M 1 j = 4 → M 2 j < 2) ∧ ∀ f, M f j < 128
/-- the stack holds the roots of a forest -/
def gp_mk (M : Nat → Nat → Nat) (S : Nat → Nat) (md ht : Nat) : Prop := md ≤ 20 ∧ ht ≤ md ∧ (∀ s, s < ht → S s < md) ∧ (0 < md → 0 < ht ∧ S (ht - 1) = md - 1) ∧ (∀ j, j < md → gp_tm M j) ∧ ∀ j, j < md → (∃ s, s < ht ∧ S s = j) ∨ ∃ w, w < md ∧ gp_par M w j
def gp_K (M : Nat → Nat → Nat) (S : Nat → Nat) (md ht : Nat) (a1 a2 a3 a4 a5 a6 a8 : Nat → Int32) : Prop := gp_mk M S md ht ∧ (∀ j, j < md → a1 (20 + j) = nI (M 1 j) ∧ a2 (20 + j) = nI (M 2 j) ∧ a3 (20 + j) = nI (M 3 j) ∧ a4 (20 + j) = nI (M 4 j) ∧ a5 (20 + j) = nI (M 5 j) ∧ a6 (20 + j) = nI (M 6 j)) ∧ ∀ s, s < ht → a8 s = nI (S s)
/-- one term more -/
def gp_new (M : Nat → Nat → Nat) (md x1 x2 x3 x4 x5 x6 : Nat) : Nat → Nat → Nat := fun f j => if j = md then (if f = 1 then x1 else if f = 2 then x2 else if f = 3 then x3 else if f = 4 then x4 else if f = 5 then x5 else if f = 6 then x6 else 0) else M f j
theorem gp_new_o {M : Nat → Nat → Nat} {md x1 x2 x3 x4 x5 x6 f j : Nat} (h : j ≠ md) : gp_new M md x1 x2 x3 x4 x5 x6 f j = M f j := by
  unfold gp_new; rw [if_neg h]
theorem gp_new_1 {M : Nat → Nat → Nat} {md x1 x2 x3 x4 x5 x6 : Nat} : gp_new M md x1 x2 x3 x4 x5 x6 1 md = x1 ∧ gp_new M md x1 x2 x3 x4 x5 x6 2 md = x2 ∧ gp_new M md x1 x2 x3 x4 x5 x6 3 md = x3 ∧ gp_new M md x1 x2 x3 x4 x5 x6 4 md = x4 ∧ gp_new M md x1 x2 x3 x4 x5 x6 5 md = x5 ∧ gp_new M md x1 x2 x3 x4 x5 x6 6 md = x6 := by
  unfold gp_new
  simp
theorem gp_new_lt {M : Nat → Nat → Nat} {md x1 x2 x3 x4 x5 x6 : Nat} (f : Nat) (h1 : x1 < 128) (h2 : x2 < 128) (h3 : x3 < 128) (h4 : x4 < 128) (h5 : x5 < 128) (h6 : x6 < 128) : gp_new M md x1 x2 x3 x4 x5 x6 f md < 128 := by
  unfold gp_new
  rw [if_pos rfl]
  repeat' split
  all_goals omega
theorem gp_tm_o {M M' : Nat → Nat → Nat} {j : Nat} (h : ∀ f, M' f j = M f j) (ht : gp_tm M j) : gp_tm M' j := by
  unfold gp_tm at *
  simp only [h]
  exact ht
theorem gp_par_o {M M' : Nat → Nat → Nat} {w j : Nat} (h : ∀ f, M' f w = M f w) (ht : gp_par M w j) : gp_par M' w j := by
  unfold gp_par at *
  simp only [h]
  exact ht
/-- what may be made, k taken from the stack -/
def gp_args (x1 x2 x3 x4 k : Nat) : Prop := x1 ≤ 4 ∧ x2 < 3 ∧ x3 < 3 ∧ x4 < 4 ∧ (x1 = 1 → x2 ≠ x3) ∧ (x1 = 1 ∨ x1 = 3 → k = 1) ∧ (x1 = 2 → k = 2) ∧ (x1 = 0 ∨ x1 = 4 → k = 0) ∧ (x1 = 3 ∨ x1 = 4 → x2 < 2)
theorem gp_mk_add {M : Nat → Nat → Nat} {S : Nat → Nat} {md ht x1 x2 x3 x4 k : Nat} (h : gp_mk M S md ht) (hm : md < 20) (hk : k ≤ ht) (ha : gp_args x1 x2 x3 x4 k) :
    gp_mk (gp_new M md x1 x2 x3 x4 (if 0 < k then S (ht - k) else 0) (if 1 < k then S (ht - k + 1) else 0)) (gp_up S (ht - k) md) (md + 1) (ht - k + 1) := by
  obtain ⟨h1, h2, h3, h4, h5, h6⟩ := h
  obtain ⟨b1, b2, b3, b4, b5, b6, b7, b8, b9⟩ := ha
  obtain ⟨e1, e2, e3, e4, e5, e6⟩ := gp_new_1 (M := M) (md := md) (x1 := x1) (x2 := x2) (x3 := x3) (x4 := x4) (x5 := if 0 < k then S (ht - k) else 0) (x6 := if 1 < k then S (ht - k + 1) else 0)
  have p5 : 0 < k → (if 0 < k then S (ht - k) else 0) < md := by
    intro z; rw [if_pos z]; exact h3 _ (by omega)
  have p6 : 1 < k → (if 1 < k then S (ht - k + 1) else 0) < md := by
    intro z; rw [if_pos z]; exact h3 _ (by omega)
  refine ⟨by omega, by omega, fun s hs => ?_, fun _ => ⟨by omega, ?_⟩, fun j hj => ?_, fun j hj => ?_⟩
  · by_cases e : s = ht - k
    · rw [e, gp_up_s]; omega
    · rw [gp_up_n e]
      have := h3 s (by omega)
      omega
  · rw [show ht - k + 1 - 1 = ht - k by omega, gp_up_s]; omega
  · by_cases e : j = md
    · subst e
      unfold gp_tm
      refine ⟨by rw [e1]; exact b1, fun z => ?_, fun z => ?_, fun z => ?_, fun z => ?_, fun f => ?_⟩
      · rw [e1] at z; rw [e2, e3, e4]; exact ⟨b2, b3, b5 z, by omega⟩
      · rw [e1] at z; rw [e2, e6]; exact ⟨b2, p6 (by have := b7 z; omega)⟩
      · rw [e1] at z; rw [e5]; exact p5 (by omega)
      · rw [e1] at z; rw [e2]; exact b9 z
      · have q5 : (if 0 < k then S (ht - k) else 0) < 128 := by
          split
          · have := h3 (ht - k) (by omega); omega
          · omega
        have q6 : (if 1 < k then S (ht - k + 1) else 0) < 128 := by
          split
          · have := h3 (ht - k + 1) (by omega); omega
          · omega
        exact gp_new_lt f (by omega) (by omega) (by omega) (by omega) q5 q6
    · exact gp_tm_o (fun f => gp_new_o e) (h5 j (by omega))
  · by_cases e : j = md
    · exact Or.inl ⟨ht - k, by omega, by rw [gp_up_s, e]⟩
    · rcases h6 j (by omega) with ⟨s, hs, hsj⟩ | ⟨w, hw, hp⟩
      · by_cases c1 : s < ht - k
        · exact Or.inl ⟨s, by omega, by rw [gp_up_n (by omega)]; exact hsj⟩
        · refine Or.inr ⟨md, by omega, ?_⟩
          unfold gp_par
          rw [e1, e5, e6]
          by_cases c2 : s = ht - k
          · refine Or.inl ⟨by omega, ?_⟩
            rw [if_pos (by omega), ← c2]; exact hsj
          · refine Or.inr ⟨by omega, ?_⟩
            rw [if_pos (by omega), show ht - k + 1 = s by omega]; exact hsj
      · exact Or.inr ⟨w, by omega, gp_par_o (fun f => gp_new_o (by omega)) hp⟩
theorem gs_nbv {m : Nat} (h : m < 128) : vp_nar .byte (nI m) = nI m := by rw [vp_nar_byte, gs_nb m h]
section
variable {f0_size f0_made f0_height f0_sendings : Int32} {a1 a2 a3 a4 a5 a6 a7 a8 a9 a10 a11 a12 a13 a14 a15 a16 a17 a18 a19 a20 : Nat → Int32}
variable {M : Nat → Nat → Nat} {S : Nat → Nat} {md ht : Nat}
theorem gs_make {post : Int32 → St1 → Prop} (hK : gp_K M S md ht a1 a2 a3 a4 a5 a6 a8) (hm : md < 20) {x1 x2 x3 x4 k : Nat} (hk : k ≤ ht) (ha : gp_args x1 x2 x3 x4 k)
    (H : ∀ (M' : Nat → Nat → Nat) (S' : Nat → Nat) (md' ht' : Nat) (b1 b2 b3 b4 b5 b6 b8 : Nat → Int32) (y : Int32), gp_K M' S' md' ht' b1 b2 b3 b4 b5 b6 b8 → (∀ j, j < 20 → b1 j = a1 j ∧ b2 j = a2 j ∧ b3 j = a3 j ∧ b4 j = a4 j ∧ b5 j = a5 j ∧ b6 j = a6 j) → post y (f0_size, nI md', nI ht', f0_sendings, b1, b2, b3, b4, b5, b6, a7, b8, a9, a10, a11, a12, a13, a14, a15, a16, a17, a18, a19, a20)) :
    wpX_make post (f0_size, nI md, nI ht, f0_sendings, a1, a2, a3, a4, a5, a6, a7, a8, a9, a10, a11, a12, a13, a14, a15, a16, a17, a18, a19, a20) (nI x1) (nI x2) (nI x3) (nI x4) (nI k) := by
  obtain ⟨hmk, hA, h8⟩ := hK
  have hmk' := gp_mk_add hmk hm hk ha
  obtain ⟨h1, h2, h3, h4, h5, h6⟩ := hmk
  obtain ⟨b1, b2, b3, b4, b5, b6, b7, b8, b9⟩ := ha
  have ct : (nI (20 + md)).toNatClampNeg = 20 + md := nI_clamp (by omega)
  have e20 : (20 : Int32) + nI md = nI (20 + md) := nI_add 20 md
  have p5 : (if 0 < k then S (ht - k) else 0) < 128 := by
    split
    · have := h3 (ht - k) (by omega); omega
    · omega
  have p6 : (if 1 < k then S (ht - k + 1) else 0) < 128 := by
    split
    · have := h3 (ht - k + 1) (by omega); omega
    · omega
  obtain ⟨g1, g2, g3, g4, g5, g6⟩ := gp_new_1 (M := M) (md := md) (x1 := x1) (x2 := x2) (x3 := x3) (x4 := x4) (x5 := if 0 < k then S (ht - k) else 0) (x6 := if 1 < k then S (ht - k + 1) else 0)
  have fin : post (nI (ht - k + 1)) (f0_size, nI (md + 1), nI (ht - k + 1), f0_sendings, upd a1 (20 + md) (nI x1), upd a2 (20 + md) (nI x2), upd a3 (20 + md) (nI x3), upd a4 (20 + md) (nI x4), upd a5 (20 + md) (nI (if 0 < k then S (ht - k) else 0)), upd a6 (20 + md) (nI (if 1 < k then S (ht - k + 1) else 0)), a7, upd a8 (ht - k) (nI md), a9, a10, a11, a12, a13, a14, a15, a16, a17, a18, a19, a20) := by
    refine H _ _ _ _ _ _ _ _ _ _ _ _ ⟨hmk', fun j hj => ?_, fun s hs => ?_⟩ (fun j hj => ?_)
    · by_cases e : j = md
      · subst e
        rw [pk_us, pk_us, pk_us, pk_us, pk_us, pk_us, g1, g2, g3, g4, g5, g6]
        exact ⟨rfl, rfl, rfl, rfl, rfl, rfl⟩
      · have n : 20 + j ≠ 20 + md := by omega
        rw [pk_un n, pk_un n, pk_un n, pk_un n, pk_un n, pk_un n, gp_new_o e, gp_new_o e, gp_new_o e, gp_new_o e, gp_new_o e, gp_new_o e]
        exact hA j (by omega)
    · by_cases e : s = ht - k
      · rw [e, pk_us, gp_up_s]
      · rw [pk_un e, gp_up_n e]
        exact h8 s (by omega)
    · have n : j ≠ 20 + md := by omega
      rw [pk_un n, pk_un n, pk_un n, pk_un n, pk_un n, pk_un n]
      exact ⟨rfl, rfl, rfl, rfl, rfl, rfl⟩
  have m109 : ∀ z0 : Int32, z0 = nI (if 1 < k then S (ht - k + 1) else 0) → wX_make_109 post z0 (nI (20 + md)) f0_size (nI md) (nI (ht - k)) f0_sendings (upd a1 (20 + md) (nI x1)) (upd a2 (20 + md) (nI x2)) (upd a3 (20 + md) (nI x3)) (upd a4 (20 + md) (nI x4)) (upd a5 (20 + md) (nI (if 0 < k then S (ht - k) else 0))) a6 a7 a8 a9 a10 a11 a12 a13 a14 a15 a16 a17 a18 a19 a20 := by
    intro z0 ez
    refine ⟨pk_in (20 + md) 40 (by omega), nm_r (e' := upd a6 (20 + md) (nI (if 1 < k then S (ht - k + 1) else 0))) (by rw [ct, ez, gs_nbv p6]) ⟨pk_in (ht - k) 20 (by omega), nm_r (e' := upd a8 (ht - k) (nI md)) (by rw [nI_clamp (by omega), gs_nb md (by omega)]) (nm_r (nI_1 _) (nm_r (nI_1 _) fin))⟩⟩
  have m81 : ∀ z0 : Int32, z0 = nI (if 0 < k then S (ht - k) else 0) → wX_make_81 post (nI k) (nI (20 + md)) z0 (nI (20 + md)) f0_size (nI md) (nI (ht - k)) f0_sendings (upd a1 (20 + md) (nI x1)) (upd a2 (20 + md) (nI x2)) (upd a3 (20 + md) (nI x3)) (upd a4 (20 + md) (nI x4)) a5 a6 a7 a8 a9 a10 a11 a12 a13 a14 a15 a16 a17 a18 a19 a20 := by
    intro z0 ez
    refine ⟨pk_in (20 + md) 40 (by omega), nm_r (e' := upd a5 (20 + md) (nI (if 0 < k then S (ht - k) else 0))) (by rw [ct, ez, gs_nbv p5]) (pk_le k 1 (fun z => m109 _ (by rw [if_neg (by omega)]; rfl)) (fun z => ?_))⟩
    rw [nI_1]
    refine ⟨pk_in (ht - k + 1) 20 (by omega), m109 _ ?_⟩
    rw [if_pos z, nI_clamp (by omega)]
    exact h8 _ (by omega)
  refine nm_r e20 (nm_r (pk_sub hk) ⟨pk_in (20 + md) 40 (by omega), nm_r (e' := upd a1 (20 + md) (nI x1)) (by rw [ct, gs_nb x1 (by omega)]) ⟨pk_in (20 + md) 40 (by omega), nm_r (e' := upd a2 (20 + md) (nI x2)) (by rw [ct, gs_nb x2 (by omega)]) ⟨pk_in (20 + md) 40 (by omega), nm_r (e' := upd a3 (20 + md) (nI x3)) (by rw [ct, gs_nb x3 (by omega)]) ⟨pk_in (20 + md) 40 (by omega), nm_r (e' := upd a4 (20 + md) (nI x4)) (by rw [ct, gs_nb x4 (by omega)]) (pk_le k 0 (fun z => m81 _ (by rw [if_neg (by omega)]; rfl)) (fun z => ⟨pk_in (ht - k) 20 (by omega), m81 _ (by rw [if_pos z, nI_clamp (by omega)]; exact h8 _ (by omega))⟩))⟩⟩⟩⟩)
/-- the law's build -/
theorem gs_build {post : St1 → Prop} (hK : gp_K M S md ht a1 a2 a3 a4 a5 a6 a8) {op : Nat} (hop : op < 9) (d : Int32)
    (H : ∀ (M' : Nat → Nat → Nat) (S' : Nat → Nat) (md' ht' : Nat) (b1 b2 b3 b4 b5 b6 b8 : Nat → Int32), gp_K M' S' md' ht' b1 b2 b3 b4 b5 b6 b8 → (∀ j, j < 20 → b1 j = a1 j ∧ b2 j = a2 j ∧ b3 j = a3 j ∧ b4 j = a4 j ∧ b5 j = a5 j ∧ b6 j = a6 j) → post (f0_size, nI md', nI ht', f0_sendings, b1, b2, b3, b4, b5, b6, a7, b8, a9, a10, a11, a12, a13, a14, a15, a16, a17, a18, a19, a20)) :
    wpL_build post (f0_size, nI md, nI ht, f0_sendings, a1, a2, a3, a4, a5, a6, a7, a8, a9, a10, a11, a12, a13, a14, a15, a16, a17, a18, a19, a20) (nI op) d := by
  obtain ⟨m, hm, em⟩ := pk_andE d (m := 127) 7 (by decide)
  obtain ⟨e, he, ee⟩ := pk_andE (d >>> ((7 : Int32) &&& 31)) (m := 1) 1 (by decide)
  obtain ⟨l, hl, el⟩ := pk_andE (d >>> ((8 : Int32) &&& 31)) (m := 3) 2 (by decide)
  obtain ⟨b, hb, eb⟩ := pk_andE d (m := 1) 1 (by decide)
  have same : post (f0_size, nI md, nI ht, f0_sendings, a1, a2, a3, a4, a5, a6, a7, a8, a9, a10, a11, a12, a13, a14, a15, a16, a17, a18, a19, a20) := H M S md ht a1 a2 a3 a4 a5 a6 a8 hK (fun j _ => ⟨rfl, rfl, rfl, rfl, rfl, rfl⟩)
  have hmd : md ≤ 20 := hK.1.1
  have hht : ht ≤ md := hK.1.2.1
  refine ⟨by decide, nm_r (e' := nI (m % 3)) (by rw [em]; exact pk_rem (d := 3) (by omega) (by omega) (by omega)) ⟨by decide, nm_r (e' := nI ((m % 3 + 1 + e) % 3)) (by rw [ee, nI_1, nI_add]; exact pk_rem (d := 3) (by omega) (by omega) (by omega)) ?_⟩⟩
  rw [eb, el]
  refine pk_le 2 op (fun o1 => pk_eq op 2 (fun o2 => ?_) (fun o2 => pk_le 7 op (fun o3 => pk_eq op 7 (fun o4 => ?_) (fun o4 => ?_)) (fun o3 => ?_))) (fun o1 => ?_)
  · -- again
    refine pk_lt b 0 (fun z => absurd z (by omega)) (fun _ => pk_le b 1 (fun _ => pk_eq md 20 (fun _ => same) (fun z => ?_)) (fun z => absurd z (by omega)))
    exact gs_make hK (by omega) (x1 := 4) (x2 := b) (x3 := 0) (x4 := 0) (k := 0) (by omega) ⟨by omega, by omega, by omega, by omega, by omega, by omega, by omega, by omega, by omega⟩ (fun M' S' md' ht' b1 b2 b3 b4 b5 b6 b8 y h1 h2 => H M' S' md' ht' b1 b2 b3 b4 b5 b6 b8 h1 h2)
  · -- choose
    unfold wpX_choose
    refine gs_bad (by omega) (br_t rfl (pk_eq md 20 (fun _ => same) (fun z => pk_le 2 ht (fun z2 => ?_) (fun _ => same))))
    exact gs_make hK (by omega) (x1 := 2) (x2 := m % 3) (x3 := 0) (x4 := 0) (k := 2) (by omega) ⟨by omega, by omega, by omega, by omega, by omega, by omega, by omega, by omega, by omega⟩ (fun M' S' md' ht' b1 b2 b3 b4 b5 b6 b8 y h1 h2 => H M' S' md' ht' b1 b2 b3 b4 b5 b6 b8 h1 h2)
  · -- loop
    refine pk_lt b 0 (fun z => absurd z (by omega)) (fun _ => pk_le b 1 (fun _ => pk_eq md 20 (fun _ => same) (fun z => pk_le 1 ht (fun z2 => ?_) (fun _ => same))) (fun z => absurd z (by omega)))
    exact gs_make hK (by omega) (x1 := 3) (x2 := b) (x3 := 0) (x4 := 0) (k := 1) (by omega) ⟨by omega, by omega, by omega, by omega, by omega, by omega, by omega, by omega, by omega⟩ (fun M' S' md' ht' b1 b2 b3 b4 b5 b6 b8 y h1 h2 => H M' S' md' ht' b1 b2 b3 b4 b5 b6 b8 h1 h2)
  · -- message
    unfold wpX_message
    refine gs_bad (by omega) (br_t rfl (gs_bad (by omega) (br_t rfl (pk_eq (m % 3) ((m % 3 + 1 + e) % 3) (fun z => absurd z (by omega)) (fun zn => pk_lt l 0 (fun z => absurd z (by omega)) (fun _ => pk_le l 3 (fun _ => pk_eq md 20 (fun _ => same) (fun z => pk_le 1 ht (fun z2 => ?_) (fun _ => same))) (fun z => absurd z (by omega))))))))
    exact gs_make hK (by omega) (x1 := 1) (x2 := m % 3) (x3 := (m % 3 + 1 + e) % 3) (x4 := l) (k := 1) (by omega) ⟨by omega, by omega, by omega, by omega, by omega, by omega, by omega, by omega, by omega⟩ (fun M' S' md' ht' b1 b2 b3 b4 b5 b6 b8 y h1 h2 => H M' S' md' ht' b1 b2 b3 b4 b5 b6 b8 h1 h2)
  · -- end
    refine pk_eq md 20 (fun _ => same) (fun z => ?_)
    exact gs_make hK (by omega) (x1 := 0) (x2 := 0) (x3 := 0) (x4 := 0) (k := 0) (by omega) ⟨by omega, by omega, by omega, by omega, by omega, by omega, by omega, by omega, by omega⟩ (fun M' S' md' ht' b1 b2 b3 b4 b5 b6 b8 y h1 h2 => H M' S' md' ht' b1 b2 b3 b4 b5 b6 b8 h1 h2)
end
end
section
/-! loops around terms: the picture -/
def gp_d (M : Nat → Nat → Nat) : Nat → Nat → Nat
  | 0, n => n
  | f + 1, n => if M 1 n = 3 then gp_d M f (M 5 n) else n
def gp_n (M : Nat → Nat → Nat) : Nat → Nat → Nat
  | 0, _ => 0
  | f + 1, n => if M 1 n = 3 then 1 + gp_n M f (M 5 n) else 0
section
variable {M : Nat → Nat → Nat} {md : Nat}
theorem gp_d_st (hM : ∀ j, j < md → M 1 j = 3 → M 5 j < j) : ∀ f n, n < md → n < f → gp_d M f n = gp_d M (f + 1) n := by
  intro f
  induction f with
  | zero => intro n _ h; omega
  | succ f ih =>
    intro n hm h
    by_cases e : M 1 n = 3
    · have := hM n hm e
      rw [gp_d, if_pos e, ih (M 5 n) (by omega) (by omega)]
      conv => rhs; rw [gp_d, if_pos e]
    · rw [gp_d, if_neg e, gp_d, if_neg e]
theorem gp_n_st (hM : ∀ j, j < md → M 1 j = 3 → M 5 j < j) : ∀ f n, n < md → n < f → gp_n M f n = gp_n M (f + 1) n := by
  intro f
  induction f with
  | zero => intro n _ h; omega
  | succ f ih =>
    intro n hm h
    by_cases e : M 1 n = 3
    · have := hM n hm e
      rw [gp_n, if_pos e, ih (M 5 n) (by omega) (by omega)]
      conv => rhs; rw [gp_n, if_pos e]
    · rw [gp_n, if_neg e, gp_n, if_neg e]
theorem gp_d3 (hM : ∀ j, j < md → M 1 j = 3 → M 5 j < j) (h20 : md ≤ 20) {n : Nat} (hn : n < md) (e : M 1 n = 3) : gp_d M 20 n = gp_d M 20 (M 5 n) := by
  have := hM n hn e
  rw [← gp_d_st hM 19 (M 5 n) (by omega) (by omega)]
  show gp_d M (19 + 1) n = _
  rw [gp_d, if_pos e]
theorem gp_d0 {n : Nat} (e : M 1 n ≠ 3) : gp_d M 20 n = n := by
  show gp_d M (19 + 1) n = _
  rw [gp_d, if_neg e]
theorem gp_n3 (hM : ∀ j, j < md → M 1 j = 3 → M 5 j < j) (h20 : md ≤ 20) {n : Nat} (hn : n < md) (e : M 1 n = 3) : gp_n M 20 n = 1 + gp_n M 20 (M 5 n) := by
  have := hM n hn e
  rw [← gp_n_st hM 19 (M 5 n) (by omega) (by omega)]
  show gp_n M (19 + 1) n = _
  rw [gp_n, if_pos e]
theorem gp_n0 {n : Nat} (e : M 1 n ≠ 3) : gp_n M 20 n = 0 := by
  show gp_n M (19 + 1) n = _
  rw [gp_n, if_neg e]
theorem gp_n_le (hM : ∀ j, j < md → M 1 j = 3 → M 5 j < j) : ∀ f n, n < md → gp_n M f n ≤ n := by
  intro f
  induction f with
  | zero => intro n _; exact Nat.zero_le _
  | succ f ih =>
    intro n hn
    rw [gp_n]
    split
    · rename_i e
      have h1 := hM n hn e
      have h2 := ih (M 5 n) (by omega)
      omega
    · omega
theorem gp_n_f : ∀ f n, gp_n M f n ≤ f := by
  intro f
  induction f with
  | zero => intro n; exact Nat.zero_le _
  | succ f ih =>
    intro n
    rw [gp_n]
    split
    · have := ih (M 5 n); omega
    · omega
end
/-- what badLoops knows of the loops around j, by their names: the loop T; nothing between: going down from T one comes to where one comes from j; something between: from T one comes to a message or a choose -/
def gp_E (M : Nat → Nat → Nat) (md : Nat) (a9 a10 : Nat → Int32) (j : Nat) : Prop := ∀ nm, nm < 2 → a9 (2 * j + nm) = -1 ∨ ∃ T, T < md ∧ a9 (2 * j + nm) = nI T ∧ (a10 (2 * j + nm) = 0 → gp_d M 20 T = gp_d M 20 j) ∧ (a10 (2 * j + nm) ≠ 0 → M 1 (gp_d M 20 T) = 1 ∨ M 1 (gp_d M 20 T) = 2)
theorem gp_E_fr {M : Nat → Nat → Nat} {md p j : Nat} {a9 a10 b9 b10 : Nat → Int32} (h : ∀ i, i ≠ 2 * p → i ≠ 2 * p + 1 → b9 i = a9 i ∧ b10 i = a10 i) (hj : j ≠ p) (hE : gp_E M md a9 a10 j) : gp_E M md b9 b10 j := by
  intro nm hn
  obtain ⟨e1, e2⟩ := h (2 * j + nm) (by omega) (by omega)
  rw [e1, e2]
  exact hE nm hn
/-- the agains from c on go to loops behind which something happens -/
def gp_AG (M : Nat → Nat → Nat) (md : Nat) (a9 : Nat → Int32) (c : Nat) : Prop := ∀ j, c ≤ j → j < md → M 1 j = 4 → ∃ T, T < md ∧ a9 (2 * j + M 2 j) = nI T ∧ (M 1 (gp_d M 20 T) = 1 ∨ M 1 (gp_d M 20 T) = 2)
/-- the protocol that is made of the terms -/
def gp_P (M : Nat → Nat → Nat) (a9 : Nat → Int32) : Nat → Nat → Nat := fun f j => if f = 7 then (if M 1 j = 4 then (a9 (2 * j + M 2 j)).toNatClampNeg else 0) else M f j
theorem gp_P_ok {M : Nat → Nat → Nat} {S : Nat → Nat} {md : Nat} {a9 : Nat → Int32} (hmk : gp_mk M S md 1) (hA : gp_AG M md a9 0) : gp_ok (gp_P M a9) md := by
  obtain ⟨h1, h2, h3, h4, h5, h6⟩ := hmk
  have P1 : ∀ j, gp_P M a9 1 j = M 1 j := fun j => rfl
  have P2 : ∀ j, gp_P M a9 2 j = M 2 j := fun j => rfl
  have P3 : ∀ j, gp_P M a9 3 j = M 3 j := fun j => rfl
  have P4 : ∀ j, gp_P M a9 4 j = M 4 j := fun j => rfl
  have P5 : ∀ j, gp_P M a9 5 j = M 5 j := fun j => rfl
  have P6 : ∀ j, gp_P M a9 6 j = M 6 j := fun j => rfl
  have P7 : ∀ j, j < md → M 1 j = 4 → gp_P M a9 7 j < md ∧ (M 1 (gp_d M 20 (gp_P M a9 7 j)) = 1 ∨ M 1 (gp_d M 20 (gp_P M a9 7 j)) = 2) := by
    intro j hj e
    obtain ⟨T, hT, eT, hk⟩ := hA j (Nat.zero_le _) hj e
    have : gp_P M a9 7 j = T := by
      unfold gp_P
      rw [if_pos rfl, if_pos e, eT, nI_clamp (by omega)]
    rw [this]
    exact ⟨hT, hk⟩
  have hM : ∀ j, j < md → M 1 j = 3 → M 5 j < j := fun j hj e => (h5 j hj).2.2.2.1 (Or.inr (Or.inr e))
  refine ⟨by omega, h1, fun j hj => ?_, fun j => gp_n M 20 j + (if M 1 (gp_d M 20 j) = 4 then 1 + gp_n M 20 (gp_P M a9 7 (gp_d M 20 j)) else 0), fun j hj => ⟨?_, fun e => ?_, fun e => ?_⟩⟩
  · obtain ⟨t1, t2, t3, t4, t5, t6⟩ := h5 j hj
    unfold gp_nd
    rw [P1, P2, P3, P4, P5, P6]
    exact ⟨t1, t2, fun z => ⟨(t3 z).1, by have := (t3 z).2; omega⟩, fun z => by have := t4 z; omega, fun z => (P7 j hj z).1⟩
  · have b1 := gp_n_le hM 20 j hj
    have b2 := gp_n_f (M := M) 20 (gp_P M a9 7 (gp_d M 20 j))
    dsimp only
    split <;> omega
  · rw [P1] at e
    dsimp only
    rw [P5, gp_n3 hM h1 hj e, gp_d3 hM h1 hj e]
    omega
  · rw [P1] at e
    obtain ⟨q1, q2⟩ := P7 j hj e
    dsimp only
    rw [gp_n0 (show M 1 j ≠ 3 by omega), gp_d0 (show M 1 j ≠ 3 by omega), if_pos e, if_neg (by omega)]
    omega
section
variable {f0_size f0_made f0_height f0_sendings : Int32} {a1 a2 a3 a4 a5 a6 a7 a8 a9 a10 a11 a12 a13 a14 a15 a16 a17 a18 a19 a20 : Nat → Int32}
variable {M : Nat → Nat → Nat} {md : Nat}
theorem gs_nb9 {M : Nat → Nat → Nat} {md j nm : Nat} {a9 a10 : Nat → Int32} (hE : gp_E M md a9 a10 j) (h20 : md ≤ 20) (hn : nm < 2) : vp_nar .byte (a9 (2 * j + nm)) = a9 (2 * j + nm) := by
  rcases hE nm hn with z | ⟨T, h1, h2, _⟩
  · rw [z, vp_nar_byte]; decide
  · rw [h2, gs_nbv (by omega)]
theorem gs_sur1 {post : St1 → Prop} {n p w nm : Nat} {x4 : Int32} (hp : p < 20) (hw : w < 20) (hn : nm < 2) (hv : vp_nar .byte (a9 (2 * w + nm)) = a9 (2 * w + nm))
    (h : wX_surround_25 post (nI p) (nI w) (nI (20 + w)) x4 f0_size f0_made f0_height f0_sendings n (nI (nm + 1)) a1 a2 a3 a4 a5 a6 a7 a8 (upd a9 (2 * p + nm) (a9 (2 * w + nm))) (upd a10 (2 * p + nm) (if a10 (2 * w + nm) = 0 ∧ x4 = 0 then 0 else 1)) a11 a12 a13 a14 a15 a16 a17 a18 a19 a20) : wX_surround_25 post (nI p) (nI w) (nI (20 + w)) x4 f0_size f0_made f0_height f0_sendings (n + 1) (nI nm) a1 a2 a3 a4 a5 a6 a7 a8 a9 a10 a11 a12 a13 a14 a15 a16 a17 a18 a19 a20 := by
  have ew : (2 : Int32) * nI w + nI nm = nI (2 * w + nm) := by rw [show (2 : Int32) = nI 2 from rfl, pk_mul, nI_add]
  have ep : (2 : Int32) * nI p + nI nm = nI (2 * p + nm) := by rw [show (2 : Int32) = nI 2 from rfl, pk_mul, nI_add]
  have cw : (nI (2 * w + nm)).toNatClampNeg = 2 * w + nm := nI_clamp (by omega)
  have cp : (nI (2 * p + nm)).toNatClampNeg = 2 * p + nm := nI_clamp (by omega)
  have iw : vp_in ((2 : Int32) * nI w + nI nm) 40 := pk_in (2 * w + nm) 40 (by omega) ew
  have ip : vp_in ((2 : Int32) * nI p + nI nm) 40 := pk_in (2 * p + nm) 40 (by omega) ep
  refine pk_le 2 nm (fun z => absurd z (by omega)) (fun _ => ⟨iw, ip, nm_r (e' := upd a9 (2 * p + nm) (a9 (2 * w + nm))) (by rw [ep, ew, cp, cw, hv]) ⟨iw, ?_⟩⟩)
  rw [ew, cw]
  refine br_c (fun g => br_c (fun y => ⟨ip, nm_r (e' := upd a10 (2 * p + nm) 0) (by rw [ep, cp]) (nm_r (nI_1 nm) ?_)⟩) (fun y => ⟨ip, nm_r (e' := upd a10 (2 * p + nm) 1) (by rw [ep, cp]) (nm_r (nI_1 nm) ?_)⟩)) (fun g => ⟨ip, nm_r (e' := upd a10 (2 * p + nm) 1) (by rw [ep, cp]) (nm_r (nI_1 nm) ?_)⟩)
  · rw [if_pos ⟨g, y⟩] at h; exact h
  · rw [if_neg (fun z => y z.2)] at h; exact h
  · rw [if_neg (fun z => g z.1)] at h; exact h
theorem gs_sur {post : St1 → Prop} {p w : Nat} (h20 : md ≤ 20) (hM : ∀ j, j < md → M 1 j = 3 → M 5 j < j) (hE : gp_E M md a9 a10 w) (hw : w < md) (hp : p < w) (hk : M 1 w = 1 ∨ M 1 w = 2 ∨ M 1 w = 3) (hd : M 1 w = 3 → M 5 w = p ∧ M 2 w < 2) (e1 : a1 (20 + w) = nI (M 1 w)) (e2 : a2 (20 + w) = nI (M 2 w))
    (H : ∀ b9 b10 : Nat → Int32, (∀ i, i ≠ 2 * p → i ≠ 2 * p + 1 → b9 i = a9 i ∧ b10 i = a10 i) → gp_E M md b9 b10 p → post (f0_size, f0_made, f0_height, f0_sendings, a1, a2, a3, a4, a5, a6, a7, a8, b9, b10, a11, a12, a13, a14, a15, a16, a17, a18, a19, a20)) {x : Int32} (hx : x = nI p) : wpX_surround post (f0_size, f0_made, f0_height, f0_sendings, a1, a2, a3, a4, a5, a6, a7, a8, a9, a10, a11, a12, a13, a14, a15, a16, a17, a18, a19, a20) x (nI w) := by
  subst hx
  have e20 : (20 : Int32) + nI w = nI (20 + w) := nI_add 20 w
  have c20 : (nI (20 + w)).toNatClampNeg = 20 + w := nI_clamp (by omega)
  have loop : ∀ x4 : Int32, (x4 = 0 ↔ M 1 w = 3) → ∃ fu, wX_surround_25 post (nI p) (nI w) (nI (20 + w)) x4 f0_size f0_made f0_height f0_sendings fu 0 a1 a2 a3 a4 a5 a6 a7 a8 a9 a10 a11 a12 a13 a14 a15 a16 a17 a18 a19 a20 := by
    intro x4 hx4
    refine ⟨3, gs_sur1 (nm := 0) (by omega) (by omega) (by omega) (gs_nb9 hE h20 (by omega)) (gs_sur1 (nm := 1) (by omega) (by omega) (by omega) ?_ ?_)⟩
    · rw [pk_un (by omega)]; exact gs_nb9 hE h20 (by omega)
    · rw [pk_un (show 2 * w + 1 ≠ 2 * p + 0 by omega), pk_un (show 2 * w + 1 ≠ 2 * p + 0 by omega)]
      -- the arrays behind the two turns
      have fr : ∀ i, i ≠ 2 * p → i ≠ 2 * p + 1 → upd (upd a9 (2 * p + 0) (a9 (2 * w + 0))) (2 * p + 1) (a9 (2 * w + 1)) i = a9 i ∧ upd (upd a10 (2 * p + 0) (if a10 (2 * w + 0) = 0 ∧ x4 = 0 then 0 else 1)) (2 * p + 1) (if a10 (2 * w + 1) = 0 ∧ x4 = 0 then 0 else 1) i = a10 i := by
        intro i i1 i2
        rw [pk_un i2, pk_un (show i ≠ 2 * p + 0 from i1), pk_un i2, pk_un (show i ≠ 2 * p + 0 from i1)]
        exact ⟨rfl, rfl⟩
      have val : ∀ nm, nm < 2 → upd (upd a9 (2 * p + 0) (a9 (2 * w + 0))) (2 * p + 1) (a9 (2 * w + 1)) (2 * p + nm) = a9 (2 * w + nm) ∧ upd (upd a10 (2 * p + 0) (if a10 (2 * w + 0) = 0 ∧ x4 = 0 then 0 else 1)) (2 * p + 1) (if a10 (2 * w + 1) = 0 ∧ x4 = 0 then 0 else 1) (2 * p + nm) = (if a10 (2 * w + nm) = 0 ∧ x4 = 0 then 0 else 1) := by
        intro nm hn
        have : nm = 0 ∨ nm = 1 := by omega
        rcases this with z | z
        · subst z
          rw [pk_un (show 2 * p + 0 ≠ 2 * p + 1 by omega), pk_us, pk_un (show 2 * p + 0 ≠ 2 * p + 1 by omega), pk_us]
          exact ⟨rfl, rfl⟩
        · subst z
          rw [pk_us, pk_us]
          exact ⟨rfl, rfl⟩
      generalize upd (upd a9 (2 * p + 0) (a9 (2 * w + 0))) (2 * p + 1) (a9 (2 * w + 1)) = b9 at fr val ⊢
      generalize upd (upd a10 (2 * p + 0) (if a10 (2 * w + 0) = 0 ∧ x4 = 0 then 0 else 1)) (2 * p + 1) (if a10 (2 * w + 1) = 0 ∧ x4 = 0 then 0 else 1) = b10 at fr val ⊢
      -- an inherited name
      have inh : ∀ nm, nm < 2 → b9 (2 * p + nm) = -1 ∨ ∃ T, T < md ∧ b9 (2 * p + nm) = nI T ∧ (b10 (2 * p + nm) = 0 → gp_d M 20 T = gp_d M 20 p) ∧ (b10 (2 * p + nm) ≠ 0 → M 1 (gp_d M 20 T) = 1 ∨ M 1 (gp_d M 20 T) = 2) := by
        intro nm hn
        obtain ⟨v1, v2⟩ := val nm hn
        rw [v1, v2]
        rcases hE nm hn with z | ⟨T, t1, t2, t3, t4⟩
        · exact Or.inl z
        · refine Or.inr ⟨T, t1, t2, fun z => ?_, fun z => ?_⟩
          · by_cases g : a10 (2 * w + nm) = 0 ∧ x4 = 0
            · rw [t3 g.1, gp_d3 hM h20 hw (hx4.mp g.2), (hd (hx4.mp g.2)).1]
            · rw [if_neg g] at z; exact absurd z (by decide)
          · by_cases g : a10 (2 * w + nm) = 0
            · have k3 : M 1 w ≠ 3 := fun y => z (by rw [if_pos ⟨g, hx4.mpr y⟩])
              rw [t3 g, gp_d0 k3]
              omega
            · exact t4 g
      refine pk_le 2 2 (fun _ => ⟨pk_in (20 + w) 40 (by omega), pk_eq (M 1 w) 3 (fun y => ?_) (fun y => H b9 b10 fr inh) (by rw [c20]; exact e1) (hb := by omega) (ha := by omega)⟩) (fun z => absurd z (by omega))
      obtain ⟨d1, d2⟩ := hd y
      have ei : (2 : Int32) * nI p + a2 (nI (20 + w)).toNatClampNeg = nI (2 * p + M 2 w) := by rw [c20, e2, show (2 : Int32) = nI 2 from rfl, pk_mul, nI_add]
      have ci : (nI (2 * p + M 2 w)).toNatClampNeg = 2 * p + M 2 w := nI_clamp (by omega)
      have ii : vp_in ((2 : Int32) * nI p + a2 (nI (20 + w)).toNatClampNeg) 40 := pk_in (2 * p + M 2 w) 40 (by omega) ei
      refine ⟨pk_in (20 + w) 40 (by omega), ii, nm_r (e' := upd b9 (2 * p + M 2 w) (nI w)) (by rw [ei, ci, gs_nb w (by omega)]) ⟨pk_in (20 + w) 40 (by omega), ii, nm_r (e' := upd b10 (2 * p + M 2 w) 0) (by rw [ei, ci]) (H _ _ (fun i i1 i2 => ?_) (fun nm hn => ?_))⟩⟩
      · rw [pk_un (by omega), pk_un (by omega)]; exact fr i i1 i2
      · by_cases em : nm = M 2 w
        · rw [em, pk_us, pk_us]
          exact Or.inr ⟨w, hw, rfl, fun _ => by rw [gp_d3 hM h20 hw y, d1], fun z => absurd rfl z⟩
        · rw [pk_un (by omega), pk_un (by omega)]
          exact inh nm hn
  refine nm_r e20 ⟨pk_in (20 + w) 40 (by omega), pk_eq (M 1 w) 3 (fun y => loop 0 ⟨fun _ => y, fun _ => rfl⟩) (fun y => loop 1 ⟨fun z => absurd z (by decide), fun z => absurd z y⟩) (by rw [c20]; exact e1) (ha := by omega)⟩
end
end
section
/-! badLoops -/
section
variable {f0_size f0_made f0_height f0_sendings : Int32} {a1 a2 a3 a4 a5 a6 a7 a8 a9 a10 a11 a12 a13 a14 a15 a16 a17 a18 a19 a20 : Nat → Int32}
variable {M : Nat → Nat → Nat} {md : Nat}
theorem gp_par_lt (hT : ∀ j, j < md → gp_tm M j) {w j : Nat} (hw : w < md) (h : gp_par M w j) : j < w := by
  obtain ⟨_, _, t3, t4, _, _⟩ := hT w hw
  rcases h with ⟨k, e⟩ | ⟨k, e⟩
  · rw [← e]; exact t4 k
  · rw [← e]; exact (t3 k).2
theorem gp_AG_fr {a9 a10 b9 b10 : Nat → Int32} {p c : Nat} (hT : ∀ j, j < md → gp_tm M j) (h : ∀ i, i ≠ 2 * p → i ≠ 2 * p + 1 → b9 i = a9 i ∧ b10 i = a10 i) (hp : p < c) (hA : gp_AG M md a9 c) : gp_AG M md b9 c := by
  intro j h1 h2 h3
  have := (hT j h2).2.2.2.2.1 (Or.inr h3)
  rw [(h (2 * j + M 2 j) (by omega) (by omega)).1]
  exact hA j h1 h2 h3
theorem gs_bl54 {post : Int32 → St1 → Prop} (h20 : md ≤ 20) (hT : ∀ j, j < md → gp_tm M j) (cov : ∀ j, j < md → j = md - 1 ∨ ∃ w, w < md ∧ gp_par M w j) (hA : ∀ j, j < md → a1 (20 + j) = nI (M 1 j) ∧ a2 (20 + j) = nI (M 2 j) ∧ a5 (20 + j) = nI (M 5 j) ∧ a6 (20 + j) = nI (M 6 j))
    (H : ∀ (b9 b10 : Nat → Int32) (bd : Int32), (bd = 0 → gp_AG M md b9 0) → post bd (f0_size, f0_made, f0_height, f0_sendings, a1, a2, a3, a4, a5, a6, a7, a8, b9, b10, a11, a12, a13, a14, a15, a16, a17, a18, a19, a20)) :
    ∀ c, c ≤ md → ∀ (bd : Int32) (a9 a10 : Nat → Int32), (bd = 0 ∨ bd = 1) → (∀ j, j < md → (j = md - 1 ∨ ∃ w, c ≤ w ∧ w < md ∧ gp_par M w j) → gp_E M md a9 a10 j) → (bd = 0 → gp_AG M md a9 c) → wX_badLoops_54 post (c + 1) bd (nI c + (-1)) f0_size f0_made f0_height f0_sendings a1 a2 a3 a4 a5 a6 a7 a8 a9 a10 a11 a12 a13 a14 a15 a16 a17 a18 a19 a20 := by
  have hM : ∀ j, j < md → M 1 j = 3 → M 5 j < j := fun j hj e => (hT j hj).2.2.2.1 (Or.inr (Or.inr e))
  intro c
  induction c with
  | zero =>
    intro _ bd a9 a10 hbd hE hG
    exact br_t (by decide) ⟨by rcases hbd with z | z <;> rw [z] <;> rfl, H a9 a10 bd hG⟩
  | succ c ih =>
    intro hc bd a9 a10 hbd hE hG
    have c1 : c < md := by omega
    obtain ⟨t1, t2, t3, t4, t5, t6⟩ := hT c c1
    obtain ⟨e1, e2, e5, e6⟩ := hA c c1
    have e20 : (20 : Int32) + nI c = nI (20 + c) := nI_add 20 c
    have c20 : (nI (20 + c)).toNatClampNeg = 20 + c := nI_clamp (by omega)
    have ihc := ih (by omega)
    -- the last of the three steps: an again
    have k117 : ∀ b9 b10 : Nat → Int32, (∀ j, j < md → (j = md - 1 ∨ ∃ w, c ≤ w ∧ w < md ∧ gp_par M w j) → gp_E M md b9 b10 j) → gp_E M md b9 b10 c → (bd = 0 → gp_AG M md b9 (c + 1)) → wX_badLoops_117 post (wX_badLoops_54 post (c + 1)) bd (nI c) (nI (20 + c)) (nI (M 1 c)) f0_size f0_made f0_height f0_sendings a1 a2 a3 a4 a5 a6 a7 a8 b9 b10 a11 a12 a13 a14 a15 a16 a17 a18 a19 a20 := by
      intro b9 b10 k1 k2 k3
      refine pk_eq (M 1 c) 4 (fun y => ⟨pk_in (20 + c) 40 (by omega), nm_r (e' := nI (2 * c + M 2 c)) (by rw [c20, e2, show (2 : Int32) = nI 2 from rfl, pk_mul, nI_add]) ?_⟩) (fun y => nm_e (ihc bd b9 b10 hbd k1 (fun z => ?_)))
      · have m2 := t5 (Or.inr y)
        have cx : (nI (2 * c + M 2 c)).toNatClampNeg = 2 * c + M 2 c := nI_clamp (by omega)
        rw [cx]
        refine br_c (fun b0 => ⟨pk_in (2 * c + M 2 c) 40 (by omega), ?_⟩) (fun b0 => nm_e (ihc 1 b9 b10 (Or.inr rfl) k1 (fun z => absurd z (by decide))))
        rcases k2 (M 2 c) m2 with z | ⟨T, q1, q2, q3, q4⟩
        · exact br_t (by rw [z]; decide) (nm_e (ihc 1 b9 b10 (Or.inr rfl) k1 (fun z => absurd z (by decide))))
        · refine br_f (by rw [q2]; exact nI_pos (by omega)) ⟨pk_in (2 * c + M 2 c) 40 (by omega), br_c (fun g => nm_e (ihc 1 b9 b10 (Or.inr rfl) k1 (fun z => absurd z (by decide)))) (fun g => nm_e (ihc 0 b9 b10 (Or.inl rfl) k1 (fun _ j h1 h2 h3 => ?_)))⟩
          by_cases ej : j = c
          · rw [ej]; exact ⟨T, q1, q2, q4 g⟩
          · exact k3 b0 j (by omega) h2 h3
      · intro j h1 h2 h3
        by_cases ej : j = c
        · rw [ej] at h3; exact absurd h3 y
        · exact k3 z j (by omega) h2 h3
    have Ec : gp_E M md a9 a10 c := by
      refine hE c c1 ?_
      rcases cov c c1 with z | ⟨w, w1, w2⟩
      · exact Or.inl z
      · exact Or.inr ⟨w, gp_par_lt hT w1 w2, w1, w2⟩
    -- the second: a choose's other part
    have k100 : ∀ b9 b10 : Nat → Int32, (∀ j, j < md → (j = md - 1 ∨ (∃ w, c + 1 ≤ w ∧ w < md ∧ gp_par M w j) ∨ ((M 1 c = 1 ∨ M 1 c = 2 ∨ M 1 c = 3) ∧ M 5 c = j)) → gp_E M md b9 b10 j) → gp_E M md b9 b10 c → (bd = 0 → gp_AG M md b9 (c + 1)) → wX_badLoops_100 post (wX_badLoops_54 post (c + 1)) bd (nI c) (nI (20 + c)) (nI (M 1 c)) f0_size f0_made f0_height f0_sendings a1 a2 a3 a4 a5 a6 a7 a8 b9 b10 a11 a12 a13 a14 a15 a16 a17 a18 a19 a20 := by
      intro b9 b10 k1 k2 k3
      refine pk_eq (M 1 c) 2 (fun y => ⟨pk_in (20 + c) 40 (by omega), ?_⟩) (fun y => k117 b9 b10 (fun j hj hx => k1 j hj ?_) k2 k3)
      · refine gs_sur (p := M 6 c) h20 hM k2 c1 (t3 y).2 (Or.inr (Or.inl y)) (fun z => by omega) e1 e2 (fun d9 d10 fr hp => ?_) (by rw [c20]; exact e6)
        refine k117 d9 d10 (fun j hj hx => ?_) (gp_E_fr fr (by have := (t3 y).2; omega) k2) (fun z => gp_AG_fr hT fr (by have := (t3 y).2; omega) (k3 z))
        by_cases ej : j = M 6 c
        · rw [ej]; exact hp
        · refine gp_E_fr fr ej (k1 j hj ?_)
          rcases hx with z | ⟨w, w1, w2, w3⟩
          · exact Or.inl z
          · by_cases ew : w = c
            · rw [ew] at w3
              rcases w3 with z | z
              · exact Or.inr (Or.inr z)
              · exact absurd z.2.symm ej
            · exact Or.inr (Or.inl ⟨w, by omega, w2, w3⟩)
      · rcases hx with z | ⟨w, w1, w2, w3⟩
        · exact Or.inl z
        · by_cases ew : w = c
          · rw [ew] at w3
            rcases w3 with z | z
            · exact Or.inr (Or.inr z)
            · exact absurd z.1 y
          · exact Or.inr (Or.inl ⟨w, by omega, w2, w3⟩)
    -- the first: the part
    have k89 : (M 1 c = 1 ∨ M 1 c = 2 ∨ M 1 c = 3) → wX_badLoops_89 post (wX_badLoops_54 post (c + 1)) bd (nI c) (nI (20 + c)) (nI (M 1 c)) f0_size f0_made f0_height f0_sendings a1 a2 a3 a4 a5 a6 a7 a8 a9 a10 a11 a12 a13 a14 a15 a16 a17 a18 a19 a20 := by
      intro hk
      have l5 := t4 hk
      refine ⟨pk_in (20 + c) 40 (by omega), gs_sur (p := M 5 c) h20 hM Ec c1 l5 hk (fun z => ⟨rfl, t5 (Or.inl z)⟩) e1 e2 (fun d9 d10 fr hp => ?_) (by rw [c20]; exact e5)⟩
      refine k100 d9 d10 (fun j hj hx => ?_) (gp_E_fr fr (by omega) Ec) (fun z => gp_AG_fr hT fr (by omega) (hG z))
      by_cases ej : j = M 5 c
      · rw [ej]; exact hp
      · refine gp_E_fr fr ej (hE j hj ?_)
        rcases hx with z | z | z
        · exact Or.inl z
        · exact Or.inr z
        · exact absurd z.2.symm ej
    rw [pk_m1]
    refine br_f (nI_pos (by omega)) (nm_r e20 ⟨pk_in (20 + c) 40 (by omega), nm_r (e' := nI (M 1 c)) (by rw [c20]; exact e1) ?_⟩)
    refine pk_eq (M 1 c) 1 (fun y => k89 (Or.inl y)) (fun y1 => pk_eq (M 1 c) 2 (fun y => k89 (Or.inr (Or.inl y))) (fun y2 => pk_eq (M 1 c) 3 (fun y => k89 (Or.inr (Or.inr y))) (fun y3 => k100 a9 a10 (fun j hj hx => hE j hj ?_) Ec hG)))
    rcases hx with z | z | z
    · exact Or.inl z
    · exact Or.inr z
    · exact absurd z.1 (by omega)
theorem gs_badLoops {post : Int32 → St1 → Prop} (h20 : md ≤ 20) (h1 : 1 ≤ md) (hT : ∀ j, j < md → gp_tm M j) (cov : ∀ j, j < md → j = md - 1 ∨ ∃ w, w < md ∧ gp_par M w j) (hA : ∀ j, j < md → a1 (20 + j) = nI (M 1 j) ∧ a2 (20 + j) = nI (M 2 j) ∧ a5 (20 + j) = nI (M 5 j) ∧ a6 (20 + j) = nI (M 6 j))
    (H : ∀ (b9 b10 : Nat → Int32) (bd : Int32), (bd = 0 → gp_AG M md b9 0) → post bd (f0_size, nI md, f0_height, f0_sendings, a1, a2, a3, a4, a5, a6, a7, a8, b9, b10, a11, a12, a13, a14, a15, a16, a17, a18, a19, a20)) : wpX_badLoops post (f0_size, nI md, f0_height, f0_sendings, a1, a2, a3, a4, a5, a6, a7, a8, a9, a10, a11, a12, a13, a14, a15, a16, a17, a18, a19, a20) := by
  obtain ⟨m, rfl⟩ : ∃ m, md = m + 1 := ⟨md - 1, by omega⟩
  have step : ∀ (n nm : Nat) (a9 a10 : Nat → Int32), nm < 2 → wX_badLoops_4 post 0 f0_size (nI (m + 1)) f0_height f0_sendings n (nI (nm + 1)) a1 a2 a3 a4 a5 a6 a7 a8 (upd a9 (2 * m + nm) (-1)) (upd a10 (2 * m + nm) 0) a11 a12 a13 a14 a15 a16 a17 a18 a19 a20 → wX_badLoops_4 post 0 f0_size (nI (m + 1)) f0_height f0_sendings (n + 1) (nI nm) a1 a2 a3 a4 a5 a6 a7 a8 a9 a10 a11 a12 a13 a14 a15 a16 a17 a18 a19 a20 := by
    intro n nm a9 a10 hn h
    have ei : (2 : Int32) * (nI (m + 1) - 1) + nI nm = nI (2 * m + nm) := by rw [nI_pred, show (2 : Int32) = nI 2 from rfl, pk_mul, nI_add]
    have ci : (nI (2 * m + nm)).toNatClampNeg = 2 * m + nm := nI_clamp (by omega)
    have ii : vp_in ((2 : Int32) * (nI (m + 1) - 1) + nI nm) 40 := pk_in (2 * m + nm) 40 (by omega) ei
    exact pk_le 2 nm (fun z => absurd z (by omega)) (fun _ => ⟨ii, nm_r (e' := upd a9 (2 * m + nm) (-1)) (by rw [ei, ci]) ⟨ii, nm_r (e' := upd a10 (2 * m + nm) 0) (by rw [ei, ci]) (nm_r (nI_1 nm) h)⟩⟩)
  refine ⟨3, step 2 0 a9 a10 (by omega) (step 1 1 _ _ (by omega) (pk_le 2 2 (fun _ => nm_r (e' := nI (m + 1) + (-1)) (by rw [nI_pred, pk_m1]) ⟨m + 1 + 1, ?_⟩) (fun z => absurd z (by omega))))⟩
  refine gs_bl54 h20 hT cov hA H (m + 1) (Nat.le_refl _) 0 _ _ (Or.inl rfl) (fun j hj hx => ?_) (fun _ j j1 j2 => by omega)
  have ej : j = m := by
    rcases hx with z | ⟨w, w1, w2, _⟩
    · omega
    · omega
  intro nm hn
  refine Or.inl ?_
  rw [ej]
  by_cases e : nm = 1
  · rw [e, pk_us]
  · have : nm = 0 := by omega
    rw [this, pk_un (by omega), pk_us]
end
end
section
/-! restart, protocol, the constructor -/
section
variable {f0_size f0_made f0_height f0_sendings : Int32} {a1 a2 a3 a4 a5 a6 a7 a8 a9 a10 a11 a12 a13 a14 a15 a16 a17 a18 a19 a20 : Nat → Int32}
theorem gs_r56 {post : St1 → Prop} (h : ∀ b16 b17 : Nat → Int32, (∀ k, k < 9 → b16 k = 0 ∧ b17 k = 0) → post (f0_size, f0_made, f0_height, 0, a1, a2, a3, a4, a5, a6, a7, a8, a9, a10, a11, a12, a13, a14, a15, b16, b17, a18, a19, a20)) : ∃ fu, wX_restart_56 post f0_size f0_made f0_height f0_sendings fu 0 a1 a2 a3 a4 a5 a6 a7 a8 a9 a10 a11 a12 a13 a14 a15 a16 a17 a18 a19 a20 :=
  pk_loop (fun n i (s : (Nat → Int32) × (Nat → Int32)) => wX_restart_56 post f0_size f0_made f0_height f0_sendings n (nI i) a1 a2 a3 a4 a5 a6 a7 a8 a9 a10 a11 a12 a13 a14 a15 s.1 s.2 a18 a19 a20) (fun i (s : (Nat → Int32) × (Nat → Int32)) => ∀ k, k < i → s.1 k = 0 ∧ s.2 k = 0) 9 0 (a16, a17) (by omega) (fun k hk => absurd hk (by omega))
    (fun n s hs => pk_le 9 9 (fun _ => h s.1 s.2 hs) (fun z => absurd z (by omega)))
    (fun n i s hi hs hw => pk_le 9 i (fun z => absurd z (by omega)) (fun _ => ⟨pk_in i 9 hi, nm_r (e' := upd s.1 i 0) (by rw [nI_clamp (by omega)]) ⟨pk_in i 9 hi, nm_r (e' := upd s.2 i 0) (by rw [nI_clamp (by omega)]) (nm_r (nI_1 i) (hw (upd s.1 i 0, upd s.2 i 0) (fun k hk => by
      show upd s.1 i 0 k = 0 ∧ upd s.2 i 0 k = 0
      by_cases e : k = i
      · rw [e, pk_us, pk_us]; exact ⟨rfl, rfl⟩
      · rw [pk_un e, pk_un e]; exact hs k (by omega))))⟩⟩))
theorem gs_restart {post : St1 → Prop} {P : Nat → Nat → Nat} {sz : Nat} (hP : gp_ok P sz) (hR : gp_rep P sz a1 a2 a3 a4 a5 a6 a7)
    (H : ∀ b11 b12 b14 b15 b16 b17 : Nat → Int32, gp_I P sz (fun _ => 0) (fun _ => 0) (fun _ => 0) a1 a2 a3 a4 a5 a6 a7 b11 b12 a13 b16 b17 a18 a19 → post (nI sz, f0_made, f0_height, 0, a1, a2, a3, a4, a5, a6, a7, a8, a9, a10, b11, b12, a13, b14, b15, b16, b17, a18, a19, a20)) : wpX_restart post (nI sz, f0_made, f0_height, f0_sendings, a1, a2, a3, a4, a5, a6, a7, a8, a9, a10, a11, a12, a13, a14, a15, a16, a17, a18, a19, a20) := by
  have h0 : sz - 1 < sz := by have := hP.1; omega
  have es : nI sz - 1 = nI (sz - 1) := by
    have := hP.1
    obtain ⟨m, rfl⟩ : ∃ m, sz = m + 1 := ⟨sz - 1, by omega⟩
    exact nI_pred m
  have step : ∀ (n r : Nat) (a11 a12 a14 a15 : Nat → Int32), r < 3 → wX_restart_2 post (nI sz) f0_made f0_height f0_sendings n (nI (r + 1)) a1 a2 a3 a4 a5 a6 a7 a8 a9 a10 (upd a11 r (gp_L P r 21 (gp_W P 40 (sz - 1)))) (upd a12 r 0) a13 (upd a14 r 0) (upd a15 r 0) a16 a17 a18 a19 a20 → wX_restart_2 post (nI sz) f0_made f0_height f0_sendings (n + 1) (nI r) a1 a2 a3 a4 a5 a6 a7 a8 a9 a10 a11 a12 a13 a14 a15 a16 a17 a18 a19 a20 := by
    intro n r a11 a12 a14 a15 hr h
    have cr : (nI r).toNatClampNeg = r := nI_clamp (by omega)
    exact pk_le 3 r (fun z => absurd z (by omega)) (fun _ => gs_lf hP hR h0 es hr ⟨pk_in r 3 hr, nm_r (e' := upd a11 r (gp_L P r 21 (gp_W P 40 (sz - 1)))) (by rw [cr, gs_Lb hP h0]) ⟨pk_in r 3 hr, nm_r (e' := upd a12 r 0) (by rw [cr]) ⟨pk_in r 3 hr, nm_r (e' := upd a14 r 0) (by rw [cr]) ⟨pk_in r 3 hr, nm_r (e' := upd a15 r 0) (by rw [cr]) (nm_r (nI_1 r) h)⟩⟩⟩⟩)
  refine ⟨4, step 3 0 a11 a12 a14 a15 (by omega) (step 2 1 _ _ _ _ (by omega) (step 1 2 _ _ _ _ (by omega) (pk_le 3 3 (fun _ => gs_r56 (fun b16 b17 hb => H _ _ _ _ b16 b17 ?_)) (fun z => absurd z (by omega)))))⟩
  refine ⟨hP, fun _ => (by decide : 0 < 2), fun _ => (by decide : 0 < 1024), fun i p q _ hi => absurd (show i < 0 from hi) (by omega), fun r _ => Or.inl rfl, hR, fun r hr => ⟨?_, fun z => absurd rfl z.2.1, fun _ => ?_⟩, fun p q hp hq => ?_⟩
  · have e : gp_loc P r (gp_g P (sz - 1) (fun _ => 0) 0) = gp_L P r 21 (gp_W P 40 (sz - 1)) := gp_loc_0
    rw [e]
    have : r = 0 ∨ r = 1 ∨ r = 2 := by omega
    rcases this with z | z | z
    · rw [z, pk_un (by omega), pk_un (by omega), pk_us]
    · rw [z, pk_un (by omega), pk_us]
    · rw [z, pk_us]
  · have : r = 0 ∨ r = 1 ∨ r = 2 := by omega
    rcases this with z | z | z
    · rw [z, pk_un (by omega), pk_un (by omega), pk_us]
    · rw [z, pk_un (by omega), pk_us]
    · rw [z, pk_us]
  · have e : gp_cq P (sz - 1) (fun _ => 0) (fun _ => 0) (fun _ => 0) p q = [] := rfl
    obtain ⟨b1, b2⟩ := hb (3 * p + q) (by omega)
    rw [e]
    exact ⟨0, by omega, b1, b2, by decide, fun m hm => absurd hm (by simp)⟩
theorem gp_cq_0 {P : Nat → Nat → Nat} {n0 : Nat} {c v : Nat → Nat} {p q : Nat} : gp_cq P n0 c v (fun _ => 0) p q = [] := rfl
/-- the copy of the terms -/
theorem gs_p25 {post : Int32 → St1 → Prop} {M : Nat → Nat → Nat} {S : Nat → Nat} {md : Nat} (hmk : gp_mk M S md 1) (hG : gp_AG M md a9 0)
    (H : ∀ b1 b2 b3 b4 b5 b6 b7 b11 b12 b14 b15 b16 b17 : Nat → Int32, gp_I (gp_P M a9) md (fun _ => 0) (fun _ => 0) (fun _ => 0) b1 b2 b3 b4 b5 b6 b7 b11 b12 a13 b16 b17 a18 a19 → post (nI md) (nI md, 0, 0, 0, b1, b2, b3, b4, b5, b6, b7, a8, a9, a10, b11, b12, a13, b14, b15, b16, b17, a18, a19, a20)) :
    ∀ d i, i + d = md → ∀ a1 a2 a3 a4 a5 a6 a7 : Nat → Int32, (∀ j, j < md → a1 (20 + j) = nI (M 1 j) ∧ a2 (20 + j) = nI (M 2 j) ∧ a3 (20 + j) = nI (M 3 j) ∧ a4 (20 + j) = nI (M 4 j) ∧ a5 (20 + j) = nI (M 5 j) ∧ a6 (20 + j) = nI (M 6 j)) → gp_rep (gp_P M a9) i a1 a2 a3 a4 a5 a6 a7 → wX_protocol_25 post f0_size (nI md) f0_height f0_sendings (d + 1) (nI i) a1 a2 a3 a4 a5 a6 a7 a8 a9 a10 a11 a12 a13 a14 a15 a16 a17 a18 a19 a20 := by
  have h20 : md ≤ 20 := hmk.1
  have hP := gp_P_ok hmk hG
  intro d
  induction d with
  | zero =>
    intro i hi a1 a2 a3 a4 a5 a6 a7 hA hR
    have : i = md := by omega
    subst this
    refine pk_le i i (fun _ => ?_) (fun z => absurd z (by omega))
    unfold wpX_discard
    exact gs_restart hP hR (fun b11 b12 b14 b15 b16 b17 hI => H a1 a2 a3 a4 a5 a6 a7 b11 b12 b14 b15 b16 b17 hI)
  | succ d ih =>
    intro i hi a1 a2 a3 a4 a5 a6 a7 hA hR
    have i1 : i < md := by omega
    obtain ⟨e1, e2, e3, e4, e5, e6⟩ := hA i i1
    obtain ⟨t1, t2, t3, t4, t5, t6⟩ := hmk.2.2.2.2.1 i i1
    have e20 : (20 : Int32) + nI i = nI (20 + i) := nI_add 20 i
    have c20 : (nI (20 + i)).toNatClampNeg = 20 + i := nI_clamp (by omega)
    have ci : (nI i).toNatClampNeg = i := nI_clamp (by omega)
    have up : ∀ (f : Nat → Int32) (x : Nat), f (20 + i) = nI x → x < 128 → upd f (nI i).toNatClampNeg (vp_nar .byte (f (nI (20 + i)).toNatClampNeg)) = upd f i (nI x) := by
      intro f x hx hl
      rw [c20, ci, hx, gs_nbv hl]
    have i40 : vp_in (nI i) 40 := pk_in i 40 (by omega)
    have t40 : vp_in (nI (20 + i)) 40 := pk_in (20 + i) 40 (by omega)
    have i20 : vp_in (nI i) 20 := pk_in i 20 (by omega)
    have far : ∀ (f : Nat → Int32) (x : Int32) (j : Nat), upd f i x (20 + j) = f (20 + j) := fun f x j => pk_un (by omega)
    have nxt : ∀ x7 : Int32, x7 = nI (gp_P M a9 7 i) → wX_protocol_25 post f0_size (nI md) f0_height f0_sendings (d + 1) (nI (i + 1)) (upd a1 i (nI (M 1 i))) (upd a2 i (nI (M 2 i))) (upd a3 i (nI (M 3 i))) (upd a4 i (nI (M 4 i))) (upd a5 i (nI (M 5 i))) (upd a6 i (nI (M 6 i))) (upd a7 i x7) a8 a9 a10 a11 a12 a13 a14 a15 a16 a17 a18 a19 a20 := by
      intro x7 h7
      refine ih (i + 1) (by omega) _ _ _ _ _ _ _ (fun j hj => ?_) (fun j hj => ?_)
      · rw [far, far, far, far, far, far]; exact hA j hj
      · by_cases e : j = i
        · rw [e, pk_us, pk_us, pk_us, pk_us, pk_us, pk_us, pk_us, h7]
          exact ⟨rfl, rfl, rfl, rfl, rfl, rfl, rfl⟩
        · rw [pk_un e, pk_un e, pk_un e, pk_un e, pk_un e, pk_un e, pk_un e]
          exact hR j (by omega)
    refine pk_le md i (fun z => absurd z (by omega)) (fun _ => nm_r e20 ⟨t40, i40, nm_r (up a1 _ e1 (t6 1)) ⟨t40, i40, nm_r (up a2 _ e2 (t6 2)) ⟨t40, i40, nm_r (up a3 _ e3 (t6 3)) ⟨t40, i40, nm_r (up a4 _ e4 (t6 4)) ⟨t40, i40, nm_r (up a5 _ e5 (t6 5)) ⟨t40, i40, nm_r (up a6 _ e6 (t6 6)) ⟨t40, pk_eq (M 1 i) 4 (fun y => ⟨t40, ?_⟩) (fun y => ⟨i20, nm_r (e' := upd a7 i 0) (by rw [ci]) (nm_r (nI_1 i) (nxt 0 ?_))⟩) (by rw [c20, far]; exact e1)⟩⟩⟩⟩⟩⟩⟩)
    · obtain ⟨T, T1, T2, T3⟩ := hG i (Nat.zero_le _) i1 y
      have m2 := t5 (Or.inr y)
      have ei : (2 : Int32) * nI i + upd a2 i (nI (M 2 i)) (nI (20 + i)).toNatClampNeg = nI (2 * i + M 2 i) := by
        rw [c20, far, e2, show (2 : Int32) = nI 2 from rfl, pk_mul, nI_add]
      refine ⟨pk_in (2 * i + M 2 i) 40 (by omega) ei, i20, nm_r (e' := upd a7 i (nI T)) ?_ (nm_r (nI_1 i) (nxt (nI T) ?_))⟩
      · rw [ei, nI_clamp (show 2 * i + M 2 i < 2 ^ 31 by omega), T2, ci, gs_nbv (by omega)]
      · unfold gp_P
        rw [if_pos rfl, if_pos y, T2, nI_clamp (by omega)]
    · unfold gp_P
      rw [if_pos rfl, if_neg y]
      rfl
theorem gs_protocol {post : Int32 → St1 → Prop} {M : Nat → Nat → Nat} {S : Nat → Nat} {md ht : Nat} (hK : gp_K M S md ht a1 a2 a3 a4 a5 a6 a8)
    (H0 : ∀ (y : Int32) (b9 b10 : Nat → Int32), y ≤ 0 → post y (f0_size, nI md, nI ht, f0_sendings, a1, a2, a3, a4, a5, a6, a7, a8, b9, b10, a11, a12, a13, a14, a15, a16, a17, a18, a19, a20))
    (H1 : ∀ (P : Nat → Nat → Nat) (sz : Nat) (b1 b2 b3 b4 b5 b6 b7 b9 b10 b11 b12 b14 b15 b16 b17 : Nat → Int32), gp_I P sz (fun _ => 0) (fun _ => 0) (fun _ => 0) b1 b2 b3 b4 b5 b6 b7 b11 b12 a13 b16 b17 a18 a19 → post (nI sz) (nI sz, 0, 0, 0, b1, b2, b3, b4, b5, b6, b7, a8, b9, b10, b11, b12, a13, b14, b15, b16, b17, a18, a19, a20)) :
    wpX_protocol post (f0_size, nI md, nI ht, f0_sendings, a1, a2, a3, a4, a5, a6, a7, a8, a9, a10, a11, a12, a13, a14, a15, a16, a17, a18, a19, a20) := by
  obtain ⟨hmk, hA, h8⟩ := hK
  have hmk' := hmk
  obtain ⟨h1, h2, h3, h4, h5, h6⟩ := hmk
  refine pk_eq ht 1 (fun y => ?_) (fun _ => H0 _ a9 a10 (by decide))
  subst y
  refine gs_badLoops h1 h2 h5 (fun j hj => ?_) (fun j hj => ⟨(hA j hj).1, (hA j hj).2.1, (hA j hj).2.2.2.2.1, (hA j hj).2.2.2.2.2⟩) (fun b9 b10 bd hb => br_c (fun z => ⟨md + 1, ?_⟩) (fun _ => H0 _ b9 b10 (by decide)))
  · rcases h6 j hj with ⟨s, s1, s2⟩ | z
    · have : s = 0 := by omega
      rw [this] at s2
      exact Or.inl (by rw [← s2]; exact (h4 (by omega)).2)
    · exact Or.inr z
  · exact gs_p25 hmk' (hb z) (fun b1 b2 b3 b4 b5 b6 b7 b11 b12 b14 b15 b16 b17 hI => H1 (gp_P M b9) md b1 b2 b3 b4 b5 b6 b7 b9 b10 b11 b12 b14 b15 b16 b17 hI) md 0 (by omega) a1 a2 a3 a4 a5 a6 a7 hA (fun j hj => absurd hj (by omega))
theorem gp_P0_ok : gp_ok (fun _ _ => 0) 1 := by
  refine ⟨by decide, by decide, fun j hj => ?_, fun _ => 0, fun j hj => ?_⟩
  · unfold gp_nd
    simp
  · simp
theorem gs_init {post : St1 → Prop} (H : ∀ b11 b12 b14 b15 b16 b17 : Nat → Int32, gp_I (fun _ _ => 0) 1 (fun _ => 0) (fun _ => 0) (fun _ => 0) (fun _ => 0) (fun _ => 0) (fun _ => 0) (fun _ => 0) (fun _ => 0) (fun _ => 0) (fun _ => 0) b11 b12 (fun _ => 0) b16 b17 (fun _ => 0) (fun _ => 0) → post (nI 1, 0, 0, 0, (fun _ => 0), (fun _ => 0), (fun _ => 0), (fun _ => 0), (fun _ => 0), (fun _ => 0), (fun _ => 0), (fun _ => 0), (fun _ => 0), (fun _ => 0), b11, b12, (fun _ => 0), b14, b15, b16, b17, (fun _ => 0), (fun _ => 0), (fun _ => 0))) : wpX_init post 20 485 (0, 0, 0, 0) := by
  unfold wpX_init
  refine ⟨by decide, by decide, by decide, by decide, by decide, by decide, by decide, by decide, by decide, by decide, by decide, by decide, by decide, by decide, by decide, by decide, by decide, by decide, by decide, by decide, by decide, by decide, by decide, by decide, by decide, by decide, by decide, by decide, by decide, by decide, by decide, by decide, by decide, by decide, by decide, by decide, by decide, by decide, by decide, by decide, ?_⟩
  exact gs_restart (sz := 1) gp_P0_ok (fun j _ => ⟨rfl, rfl, rfl, rfl, rfl, rfl, rfl⟩) H
end
end
section
/-! the law's loop -/
def gp_ix (p q : Nat) : Nat := if p = 0 then q - 1 else if p = 1 then (if q = 2 then 3 else 2) else 4 + q
theorem gp_ix_lt : ∀ p, p < 3 → ∀ q, q < 3 → p ≠ q → gp_ix p q < 6 := by decide
theorem gp_ix_in : ∀ p, p < 3 → ∀ q, q < 3 → p ≠ q → ∀ p', p' < 3 → ∀ q', q' < 3 → p' ≠ q' → gp_ix p' q' = gp_ix p q → p' = p ∧ q' = q := by
  intro p hp q hq hn p' hp' q' hq' hn' h
  unfold gp_ix at h
  (repeat' split at h) <;> omega
def gp_ux (X : Nat → Int64) (i : Nat) (y : Int64) : Nat → Int64 := fun m => if m = i then y else X m
/-- the law's six longs -/
def gp_Sh (P : Nat → Nat → Nat) (n0 : Nat) (c v t : Nat → Nat) (X : Nat → Int64) : Prop := ∀ p q, p < 3 → q < 3 → p ≠ q → X (gp_ix p q) = lN (gp_en (gp_cq P n0 c v t p q))
theorem gp_Sh_up {P : Nat → Nat → Nat} {n0 : Nat} {c v t c' v' t' : Nat → Nat} {X : Nat → Int64} {r q : Nat} (hr : r < 3) (hq : q < 3) (hn : r ≠ q) (h : gp_Sh P n0 c v t X) (ho : ∀ p x, p < 3 → x < 3 → ¬ (p = r ∧ x = q) → gp_cq P n0 c' v' t' p x = gp_cq P n0 c v t p x) : gp_Sh P n0 c' v' t' (gp_ux X (gp_ix r q) (lN (gp_en (gp_cq P n0 c' v' t' r q)))) := by
  intro p x hp hx hpx
  unfold gp_ux
  by_cases e : p = r ∧ x = q
  · obtain ⟨rfl, rfl⟩ := e
    rw [if_pos rfl]
  · rw [if_neg (fun z => e (gp_ix_in r hr q hq hn p hp x hx hpx z)), ho p x hp hx e]
    exact h p x hp hx hpx
theorem gp_s9 {F G : Nat → Nat → Nat} {r q : Nat} (hr : r < 3) (hq : q < 3) (h : F r q = G r q + 1) (ho : ∀ p x, p < 3 → x < 3 → ¬ (p = r ∧ x = q) → F p x = G p x) :
    (F 0 0 + F 0 1 + F 0 2) + (F 1 0 + F 1 1 + F 1 2) + (F 2 0 + F 2 1 + F 2 2) = (G 0 0 + G 0 1 + G 0 2) + (G 1 0 + G 1 1 + G 1 2) + (G 2 0 + G 2 1 + G 2 2) + 1 := by
  have e00 := ho 0 0 (by omega) (by omega)
  have e01 := ho 0 1 (by omega) (by omega)
  have e02 := ho 0 2 (by omega) (by omega)
  have e10 := ho 1 0 (by omega) (by omega)
  have e11 := ho 1 1 (by omega) (by omega)
  have e12 := ho 1 2 (by omega) (by omega)
  have e20 := ho 2 0 (by omega) (by omega)
  have e21 := ho 2 1 (by omega) (by omega)
  have e22 := ho 2 2 (by omega) (by omega)
  have h1 : r = 0 ∨ r = 1 ∨ r = 2 := by omega
  have h2 : q = 0 ∨ q = 1 ∨ q = 2 := by omega
  rcases h1 with rfl | rfl | rfl <;> rcases h2 with rfl | rfl | rfl <;> simp at e00 e01 e02 e10 e11 e12 e20 e21 e22 <;> omega
theorem gp_sum_up {P : Nat → Nat → Nat} {n0 : Nat} {c v t c' v' t' : Nat → Nat} {r q : Nat} (hr : r < 3) (hq : q < 3) (h : (gp_cq P n0 c' v' t' r q).length = (gp_cq P n0 c v t r q).length + 1) (ho : ∀ p x, p < 3 → x < 3 → ¬ (p = r ∧ x = q) → gp_cq P n0 c' v' t' p x = gp_cq P n0 c v t p x) : gp_sum P n0 c' v' t' = gp_sum P n0 c v t + 1 :=
  gp_s9 (F := fun p x => (gp_cq P n0 c' v' t' p x).length) (G := fun p x => (gp_cq P n0 c v t p x).length) hr hq h (fun p x hp hx hn => by
    show (gp_cq P n0 c' v' t' p x).length = (gp_cq P n0 c v t p x).length
    rw [ho p x hp hx hn])
theorem gp_sum_0 {P : Nat → Nat → Nat} {n0 : Nat} {c v t : Nat → Nat} (h : gp_sum P n0 c v t = 0) {p q : Nat} (hp : p < 3) (hq : q < 3) : gp_cq P n0 c v t p q = [] := by
  unfold gp_sum gp_s1 at h
  have h1 : p = 0 ∨ p = 1 ∨ p = 2 := by omega
  have h2 : q = 0 ∨ q = 1 ∨ q = 2 := by omega
  refine List.length_eq_zero_iff.mp ?_
  rcases h1 with rfl | rfl | rfl <;> rcases h2 with rfl | rfl | rfl <;> omega
/-- what the law's loop keeps, at its counter k -/
def gl_I (P : Nat → Nat → Nat) (sz : Nat) (c v t : Nat → Nat) (M : Nat → Nat → Nat) (S : Nat → Nat) (md ht sn R k : Nat) (X : Nat → Int64) (a1 a2 a3 a4 a5 a6 a7 a8 a11 a12 a13 a16 a17 a18 a19 : Nat → Int32) : Prop := gp_I P sz c v t a1 a2 a3 a4 a5 a6 a7 a11 a12 a13 a16 a17 a18 a19 ∧ gp_K M S md ht a1 a2 a3 a4 a5 a6 a8 ∧ gp_Sh P (sz - 1) c v t X ∧ sn = R + gp_sum P (sz - 1) c v t ∧ sn ≤ k
/-- the loop's next turn -/
def gl_J (J31 : Int64 → Int64 → Int64 → Int64 → Int64 → Int64 → Int32 → Int32 → Int32 → Int32 → Int32 → Int32 → (Nat → Int32) → (Nat → Int32) → (Nat → Int32) → (Nat → Int32) → (Nat → Int32) → (Nat → Int32) → (Nat → Int32) → (Nat → Int32) → (Nat → Int32) → (Nat → Int32) → (Nat → Int32) → (Nat → Int32) → (Nat → Int32) → (Nat → Int32) → (Nat → Int32) → (Nat → Int32) → (Nat → Int32) → (Nat → Int32) → (Nat → Int32) → (Nat → Int32) → Prop) (k : Nat) : Prop := ∀ (P : Nat → Nat → Nat) (sz : Nat) (c v t : Nat → Nat) (M : Nat → Nat → Nat) (S : Nat → Nat) (md ht sn R : Nat) (X : Nat → Int64) (f0_size : Int32) (a1 a2 a3 a4 a5 a6 a7 a8 a9 a10 a11 a12 a13 a14 a15 a16 a17 a18 a19 a20 : Nat → Int32), gl_I P sz c v t M S md ht sn R (k + 2) X a1 a2 a3 a4 a5 a6 a7 a8 a11 a12 a13 a16 a17 a18 a19 → J31 (X 0) (X 1) (X 2) (X 3) (X 4) (X 5) (nI R) (nI (k + 2)) f0_size (nI md) (nI ht) (nI sn) a1 a2 a3 a4 a5 a6 a7 a8 a9 a10 a11 a12 a13 a14 a15 a16 a17 a18 a19 a20
section
variable {f0_size f0_made f0_height f0_sendings : Int32} {a1 a2 a3 a4 a5 a6 a7 a8 a9 a10 a11 a12 a13 a14 a15 a16 a17 a18 a19 a20 : Nat → Int32}
variable {P : Nat → Nat → Nat} {sz : Nat} {c v t : Nat → Nat} {M : Nat → Nat → Nat} {S : Nat → Nat} {md ht sn R k : Nat} {X : Nat → Int64} {L : Nat} {xs : Nat → Int32} {J31 : Int64 → Int64 → Int64 → Int64 → Int64 → Int64 → Int32 → Int32 → Int32 → Int32 → Int32 → Int32 → (Nat → Int32) → (Nat → Int32) → (Nat → Int32) → (Nat → Int32) → (Nat → Int32) → (Nat → Int32) → (Nat → Int32) → (Nat → Int32) → (Nat → Int32) → (Nat → Int32) → (Nat → Int32) → (Nat → Int32) → (Nat → Int32) → (Nat → Int32) → (Nat → Int32) → (Nat → Int32) → (Nat → Int32) → (Nat → Int32) → (Nat → Int32) → (Nat → Int32) → Prop} {kc ks : Nat}
theorem gl_470 (hJ : gl_J J31 k) (h : gl_I P sz c v t M S md ht sn R (k + 2) X a1 a2 a3 a4 a5 a6 a7 a8 a11 a12 a13 a16 a17 a18 a19) : wL_law_470 (fun r => r = 1) L xs J31 (X 0) (X 1) (X 2) (X 3) (X 4) (X 5) (nI R) (nI k) kc ks f0_size (nI md) (nI ht) (nI sn) a1 a2 a3 a4 a5 a6 a7 a8 a9 a10 a11 a12 a13 a14 a15 a16 a17 a18 a19 a20 := by
  have hn := hJ P sz c v t M S md ht sn R X f0_size a1 a2 a3 a4 a5 a6 a7 a8 a9 a10 a11 a12 a13 a14 a15 a16 a17 a18 a19 a20 h
  obtain ⟨hI, hK, hX, hs, hk⟩ := h
  unfold wL_law_470
  refine gs_goes hI (br_f (by decide) (gs_ways hI (br_t ?_ (nm_r (e' := nI (k + 2)) (nI_add k 2) hn))))
  rw [pk_sub (by omega)]
  congr 1
  omega
theorem gl_410 {i : Nat} {y : Int64} {x14 x15 : Int32} (hi : i < 6) (h : wL_law_470 (fun r => r = 1) L xs J31 ((gp_ux X i y) 0) ((gp_ux X i y) 1) ((gp_ux X i y) 2) ((gp_ux X i y) 3) ((gp_ux X i y) 4) ((gp_ux X i y) 5) x14 x15 kc ks f0_size f0_made f0_height f0_sendings a1 a2 a3 a4 a5 a6 a7 a8 a9 a10 a11 a12 a13 a14 a15 a16 a17 a18 a19 a20) : wL_law_410 (fun r => r = 1) L xs J31 (X 0) (X 1) (X 2) (X 3) (X 4) (X 5) x14 x15 (nI i) y kc ks f0_size f0_made f0_height f0_sendings a1 a2 a3 a4 a5 a6 a7 a8 a9 a10 a11 a12 a13 a14 a15 a16 a17 a18 a19 a20 := by
  have : i = 0 ∨ i = 1 ∨ i = 2 ∨ i = 3 ∨ i = 4 ∨ i = 5 := by omega
  rcases this with rfl | rfl | rfl | rfl | rfl | rfl
  · exact br_t (by decide) (br_f (by decide) (br_f (by decide) (br_f (by decide) (br_f (by decide) (br_f (by decide) h)))))
  · exact br_f (by decide) (br_t (by decide) (br_f (by decide) (br_f (by decide) (br_f (by decide) (br_f (by decide) h)))))
  · exact br_f (by decide) (br_f (by decide) (br_t (by decide) (br_f (by decide) (br_f (by decide) (br_f (by decide) h)))))
  · exact br_f (by decide) (br_f (by decide) (br_f (by decide) (br_t (by decide) (br_f (by decide) (br_f (by decide) h)))))
  · exact br_f (by decide) (br_f (by decide) (br_f (by decide) (br_f (by decide) (br_t (by decide) (br_f (by decide) h)))))
  · exact br_f (by decide) (br_f (by decide) (br_f (by decide) (br_f (by decide) (br_f (by decide) (br_t (by decide) h)))))
theorem gl_222 {i : Nat} {x14 x15 x17 x19 x21 z0 : Int32} (hi : i < 6) (h : wL_law_279 (fun r => r = 1) L xs J31 (X 0) (X 1) (X 2) (X 3) (X 4) (X 5) x14 x15 x17 x19 x21 (nI i) z0 (X i) kc ks f0_size f0_made f0_height f0_sendings a1 a2 a3 a4 a5 a6 a7 a8 a9 a10 a11 a12 a13 a14 a15 a16 a17 a18 a19 a20) : wL_law_222 (fun r => r = 1) L xs J31 (X 0) (X 1) (X 2) (X 3) (X 4) (X 5) x14 x15 x17 x19 x21 (nI i) z0 kc ks f0_size f0_made f0_height f0_sendings a1 a2 a3 a4 a5 a6 a7 a8 a9 a10 a11 a12 a13 a14 a15 a16 a17 a18 a19 a20 := by
  have : i = 0 ∨ i = 1 ∨ i = 2 ∨ i = 3 ∨ i = 4 ∨ i = 5 := by omega
  rcases this with rfl | rfl | rfl | rfl | rfl | rfl
  · exact br_t (by decide) h
  · exact br_f (by decide) (br_t (by decide) h)
  · exact br_f (by decide) (br_f (by decide) (br_t (by decide) h))
  · exact br_f (by decide) (br_f (by decide) (br_f (by decide) (br_t (by decide) h)))
  · exact br_f (by decide) (br_f (by decide) (br_f (by decide) (br_f (by decide) (br_t (by decide) h))))
  · exact br_f (by decide) (br_f (by decide) (br_f (by decide) (br_f (by decide) (br_f (by decide) h))))
theorem gl_place {post : Int32 → Prop} {p q : Nat} (hp : p < 3) (hq : q < 3) (hn : p ≠ q) (h : post (nI (gp_ix p q))) : wpL_place post () (nI p) (nI q) := by
  unfold gp_ix at h
  refine pk_eq p 0 (fun e => ?_) (fun e => pk_eq p 1 (fun e1 => pk_eq q 2 (fun e2 => ?_) (fun e2 => ?_)) (fun e1 => ?_))
  · rw [if_pos e] at h
    obtain ⟨m, rfl⟩ : ∃ m, q = m + 1 := ⟨q - 1, by omega⟩
    rw [nI_pred]
    exact h
  · rw [if_neg e, if_pos e1, if_pos e2] at h; exact h
  · rw [if_neg e, if_pos e1, if_neg e2] at h; exact h
  · rw [if_neg e, if_neg e1] at h
    rw [show (4 : Int32) = nI 4 from rfl, nI_add]
    exact h
theorem gp_cq_lt (hI : gp_I P sz c v t a1 a2 a3 a4 a5 a6 a7 a11 a12 a13 a16 a17 a18 a19) {p q : Nat} : ∀ e, e ∈ gp_cq P (sz - 1) c v t p q → e < 4096 := by
  intro e he
  unfold gp_cq at he
  obtain ⟨i, hi, rfl⟩ := List.mem_map.mp he
  have h0 : sz - 1 < sz := by have := hI.1.1; omega
  have h1 := gp_lab_lt hI.1 h0 hI.2.1 i (gp_ql_mem.mp hi).2.2.1
  have h2 := hI.2.2.1 i
  omega
/-- a role sends -/
theorem gl_send (hJ : gl_J J31 k) (h : gl_I P sz c v t M S md ht sn R k X a1 a2 a3 a4 a5 a6 a7 a8 a11 a12 a13 a16 a17 a18 a19) {r j : Nat} (d : Int32) (hr : r < 3) (hj : gp_nxt P (sz - 1) c (t r) r j) (hp : P 2 (gp_g P (sz - 1) c j).1 = r) (hl : (gp_cq P (sz - 1) c v t r (gp_to P (gp_g P (sz - 1) c j))).length < 4) (ha : a11 r = nI (gp_g P (sz - 1) c j).1) :
    wL_law_172 (fun r => r = 1) L xs J31 (X 0) (X 1) (X 2) (X 3) (X 4) (X 5) (nI R) (nI k) d (nI r) (nI (gp_to P (gp_g P (sz - 1) c j))) (nI 1) kc ks f0_size (nI md) (nI ht) (nI sn) a1 a2 a3 a4 a5 a6 a7 a8 a9 a10 a11 a12 a13 a14 a15 a16 a17 a18 a19 a20 := by
  obtain ⟨hI, hK, hX, hs, hk⟩ := h
  obtain ⟨n1, n2, n3, n4, n5⟩ := gs_node hI hr hj
  have hrq : r ≠ gp_to P (gp_g P (sz - 1) c j) := by rw [hp] at n5; exact n5
  have i6 := gp_ix_lt r hr _ n4 hrq
  obtain ⟨b, hb, eb⟩ := pk_andE d (m := 1) 1 (by decide)
  obtain ⟨w, hw, ew⟩ := pk_andE (d >>> ((1 : Int32) &&& 31)) (m := 1023) 10 (by decide)
  refine br_t rfl (gl_place hr n4 hrq (br_t rfl (gs_onWay hI hr n4 (gl_222 i6 (nm_r ew (br_t rfl ?_))))))
  rw [eb, hX r _ hr n4 hrq]
  refine gs_send hI hr hj hp hl ha hb hw (fun c' v' t' lb b11 b12 b13 b14 b17 b18 b19 hlb hI' K1 K2 => ?_)
  refine pk_lt lb 0 (fun z => absurd z (by omega)) (fun _ => pk_le lb 3 (fun _ => br_f (by decide) (br_f (by decide) (br_t rfl ?_))) (fun z => absurd z (by omega)))
  unfold wpL_put
  rw [gp_put_l (gp_cq_lt hI) hl hw hlb, ← K1]
  refine gl_410 i6 ?_
  rw [nI_1]
  have e1 : gp_sum P (sz - 1) c' v' t' = gp_sum P (sz - 1) c v t + 1 := gp_sum_up hr n4 (by rw [K1, List.length_append]; rfl) K2
  exact gl_470 hJ ⟨hI', hK, gp_Sh_up hr n4 hrq hX K2, by omega, by omega⟩
/-- a role receives -/
theorem gl_recv (hJ : gl_J J31 k) (h : gl_I P sz c v t M S md ht sn R k X a1 a2 a3 a4 a5 a6 a7 a8 a11 a12 a13 a16 a17 a18 a19) {r j : Nat} (d : Int32) (hr : r < 3) (hj : gp_nxt P (sz - 1) c (t r) r j) (hp : P 2 (gp_g P (sz - 1) c j).1 ≠ r) (hl : gp_cq P (sz - 1) c v t (P 2 (gp_g P (sz - 1) c j).1) r ≠ []) (ha : a11 r = nI (gp_g P (sz - 1) c j).1) :
    wL_law_172 (fun r => r = 1) L xs J31 (X 0) (X 1) (X 2) (X 3) (X 4) (X 5) (nI R) (nI k) d (nI r) (nI (P 2 (gp_g P (sz - 1) c j).1)) (nI 3) kc ks f0_size (nI md) (nI ht) (nI sn) a1 a2 a3 a4 a5 a6 a7 a8 a9 a10 a11 a12 a13 a14 a15 a16 a17 a18 a19 a20 := by
  obtain ⟨hI, hK, hX, hs, hk⟩ := h
  obtain ⟨n1, n2, n3, n4, n5⟩ := gs_node hI hr hj
  have i6 := gp_ix_lt _ n3 r hr hp
  refine br_f (by decide) (gl_place n3 hr hp (br_f (by decide) (gs_onWay hI n3 hr (gl_222 i6 (nm_e (br_f (by decide) ?_))))))
  have l4 := (gs_len hI n3 hr).2
  rw [hX _ r n3 hr hp]
  refine gs_receive hI hr hj hp hl ha (fun t' e b11 b14 b15 b16 b17 hI' K1 K2 h15 => ?_)
  have m4 := gp_cq_lt hI (p := P 2 (gp_g P (sz - 1) c j).1) (q := r)
  rw [K1] at m4 l4
  have e4 : e < 4096 := m4 e List.mem_cons_self
  obtain ⟨T1, T2, T3⟩ := gp_take_l m4 l4
  rw [K1]
  refine pk_lt (e / 1024) 0 (fun z => absurd z (by omega)) (fun _ => pk_le (e / 1024) 3 (fun _ => br_t (by decide) (gs_got hr (br_t (by rw [h15, T2]) (br_t T3.symm (br_t (by decide) (nm_r (nI_1 R) (br_f (by decide) ?_))))))) (fun z => absurd z (by omega)))
  rw [T1]
  refine gl_410 i6 ?_
  have e1 : gp_sum P (sz - 1) c v t = gp_sum P (sz - 1) c v t' + 1 := gp_sum_up n3 hr (by rw [K1]; rfl) (fun p x h1 h2 h3 => (K2 p x h1 h2 h3).symm)
  exact gl_470 hJ ⟨hI', hK, gp_Sh_up n3 hr hp hX K2, by omega, by omega⟩
theorem gl_137 (hJ : gl_J J31 k) (h : gl_I P sz c v t M S md ht sn R k X a1 a2 a3 a4 a5 a6 a7 a8 a11 a12 a13 a16 a17 a18 a19) {op r : Nat} (d : Int32) (hop : op < 16) (hr : r < 3) :
    wL_law_137 (fun r => r = 1) L xs J31 (X 0) (X 1) (X 2) (X 3) (X 4) (X 5) (nI R) (nI k) d (nI op) (nI r) kc ks f0_size (nI md) (nI ht) (nI sn) a1 a2 a3 a4 a5 a6 a7 a8 a9 a10 a11 a12 a13 a14 a15 a16 a17 a18 a19 a20 := by
  have hI := h.1
  have keep : wL_law_470 (fun r => r = 1) L xs J31 (X 0) (X 1) (X 2) (X 3) (X 4) (X 5) (nI R) (nI k) kc ks f0_size (nI md) (nI ht) (nI sn) a1 a2 a3 a4 a5 a6 a7 a8 a9 a10 a11 a12 a13 a14 a15 a16 a17 a18 a19 a20 := by
    obtain ⟨h1, h2, h3, h4, h5⟩ := h
    exact gl_470 hJ ⟨h1, h2, h3, h4, by omega⟩
  obtain ⟨s, hs, ds⟩ := gs_state (f0_size := f0_size) (f0_made := nI md) (f0_height := nI ht) (f0_sendings := nI sn) (a8 := a8) (a9 := a9) (a10 := a10) (a14 := a14) (a15 := a15) (a20 := a20) hI hr
  unfold wL_law_137
  refine gs_partner hI hr (fun hO => hs _ ?_) (fun j hj ej => hs _ ?_)
  · have e0 : s = 0 := by
      rcases ds with ⟨z, _⟩ | ⟨j, hj, ej, _⟩
      · exact z
      · have n1 := (gs_node hI hr hj).1
        have hz := hI.1.2.1
        have pos : 0 ≤ a11 r := by rw [ej]; exact nI_pos' (by omega)
        rcases hO with w | w <;> (rw [w] at pos; exact absurd pos (by decide))
    subst e0
    exact br_c (fun _ => keep) (fun _ => br_f (by decide) (br_f (by decide) keep))
  · refine br_c (fun _ => keep) (fun _ => ?_)
    rcases ds with ⟨z, w⟩ | ⟨j', hj', ej', z⟩
    · subst z
      exact br_f (by decide) (br_f (by decide) keep)
    · have e := gp_nxt_u hj hj'
      subst e
      rcases z with ⟨z1, ⟨z2, z3⟩ | ⟨z2, z3⟩⟩ | ⟨z1, ⟨z2, z3⟩ | ⟨z2, z3⟩⟩
      · subst z2
        rw [show gp_pn P (gp_g P (sz - 1) c j) r = gp_to P (gp_g P (sz - 1) c j) by unfold gp_pn; rw [if_pos z1]]
        exact br_t rfl (gl_send hJ h d hr hj z1 z3 ej)
      · subst z2
        exact br_f (by decide) (br_f (by decide) keep)
      · subst z2
        rw [show gp_pn P (gp_g P (sz - 1) c j) r = P 2 (gp_g P (sz - 1) c j).1 by unfold gp_pn; rw [if_neg z1]]
        exact br_f (by decide) (br_t rfl (gl_recv hJ h d hr hj z1 z3 ej))
      · subst z2
        exact br_f (by decide) (br_f (by decide) keep)
theorem gl_106 (hJ : gl_J J31 k) (h : gl_I P sz c v t M S md ht sn R k X a1 a2 a3 a4 a5 a6 a7 a8 a11 a12 a13 a16 a17 a18 a19) (hk : k < 1000) {op r : Nat} (d : Int32) (hop : op < 16) (hr : r < 3) :
    wL_law_106 (fun r => r = 1) L xs J31 (X 0) (X 1) (X 2) (X 3) (X 4) (X 5) (nI R) (nI k) d (nI op) (nI r) kc ks f0_size (nI md) (nI ht) (nI sn) a1 a2 a3 a4 a5 a6 a7 a8 a9 a10 a11 a12 a13 a14 a15 a16 a17 a18 a19 a20 := by
  refine pk_eq op 9 (fun _ => ?_) (fun _ => gl_137 hJ h d hop hr)
  have h' := h
  obtain ⟨h1, h2, h3, h4, h5⟩ := h'
  refine pk_eq sn 0 (fun z => ?_) (fun _ => gl_137 hJ h d hop hr)
  refine gl_137 (X := fun _ => 0) hJ ⟨h1, h2, fun p q hp hq _ => ?_, h4, h5⟩ d hop hr
  rw [gp_sum_0 (by omega) hp hq]
  rfl
theorem gl_89 (hJ : gl_J J31 k) (h : gl_I P sz c v t M S md ht sn R k X a1 a2 a3 a4 a5 a6 a7 a8 a11 a12 a13 a16 a17 a18 a19) (hk : k < 1000) {op r : Nat} (d : Int32) (hop : op < 16) (hr : r < 3) :
    wL_law_89 (fun r => r = 1) L xs J31 (X 0) (X 1) (X 2) (X 3) (X 4) (X 5) (nI R) (nI k) d (nI op) (nI r) kc ks f0_size (nI md) (nI ht) (nI sn) a1 a2 a3 a4 a5 a6 a7 a8 a9 a10 a11 a12 a13 a14 a15 a16 a17 a18 a19 a20 := by
  refine pk_eq op 9 (fun e9 => ?_) (fun _ => gl_106 hJ h hk d hop hr)
  refine gs_protocol h.2.1 (fun y b9 b10 hy => br_t hy (gl_106 hJ h hk d hop hr)) (fun P' sz' b1 b2 b3 b4 b5 b6 b7 b9 b10 b11 b12 b14 b15 b16 b17 hI => br_f (nI_nle hI.1.1 (by have := hI.1.2.1; omega)) ?_)
  refine pk_eq op 9 (fun _ => br_t rfl ?_) (fun z => absurd e9 z)
  exact gl_137 (md := 0) (ht := 0) (sn := 0) (R := 0) (X := fun _ => 0) (M := fun _ _ => 0) (S := fun _ => 0) hJ ⟨hI, ⟨⟨by omega, by omega, fun s hs => absurd hs (by omega), fun z => absurd z (by omega), fun j hj => absurd hj (by omega), fun j hj => absurd hj (by omega)⟩, fun j hj => absurd hj (by omega), fun s hs => absurd hs (by omega)⟩, fun p q _ _ _ => rfl, rfl, by omega⟩ d hop hr
theorem gl_cell {post : Int32 → Prop} {k : Nat} (hL : L ≤ 260) (hk : k < 1000) (h : ∀ y, post y) : wpL_cell post L xs () (nI k) :=
  pk_le L k (fun _ => h _) (fun z => ⟨vp_in_nI z (by omega), h _⟩)
end
theorem gl_31 {L : Nat} {xs : Nat → Int32} {kc ks : Nat} (hL : L ≤ 260) : ∀ (n k : Nat), k ≤ L + 1 → L + 1 < n + k → ∀ (P : Nat → Nat → Nat) (sz : Nat) (c v t : Nat → Nat) (M : Nat → Nat → Nat) (S : Nat → Nat) (md ht sn R : Nat) (X : Nat → Int64) (f0_size : Int32) (a1 a2 a3 a4 a5 a6 a7 a8 a9 a10 a11 a12 a13 a14 a15 a16 a17 a18 a19 a20 : Nat → Int32),
    gl_I P sz c v t M S md ht sn R k X a1 a2 a3 a4 a5 a6 a7 a8 a11 a12 a13 a16 a17 a18 a19 → wL_law_31 (fun r => r = 1) L xs kc ks n (X 0) (X 1) (X 2) (X 3) (X 4) (X 5) (nI R) (nI k) f0_size (nI md) (nI ht) (nI sn) a1 a2 a3 a4 a5 a6 a7 a8 a9 a10 a11 a12 a13 a14 a15 a16 a17 a18 a19 a20 := by
  intro n
  induction n with
  | zero => intro k h1 h2; omega
  | succ n ih =>
    intro k h1 h2 P sz c v t M S md ht sn R X f0_size a1 a2 a3 a4 a5 a6 a7 a8 a9 a10 a11 a12 a13 a14 a15 a16 a17 a18 a19 a20 h
    refine pk_le L k (fun z => ?_) (fun z => ?_)
    · obtain ⟨hI, hK, hX, hs, hk⟩ := h
      refine gs_goes hI (br_f (by decide) (gs_ways hI (br_t ?_ rfl)))
      rw [pk_sub (by omega)]
      congr 1
      omega
    · have hJ : gl_J (wL_law_31 (fun r => r = 1) L xs kc ks n) k := ih (k + 2) (by omega) (by omega)
      refine gl_cell hL (by omega) (fun y => ?_)
      rw [nI_1]
      refine gl_cell hL (by omega) (fun d => ?_)
      obtain ⟨op, hop, eop⟩ := pk_andE y (m := 15) 4 (by decide)
      obtain ⟨m, hm, em⟩ := pk_andE (y >>> ((4 : Int32) &&& 31)) (m := 127) 7 (by decide)
      refine nm_r eop ⟨by decide, nm_r (e' := nI (m % 3)) (by rw [em]; exact pk_rem (d := 3) (by omega) (by omega) (by omega)) (pk_le 9 op (fun _ => gl_89 hJ h (by omega) d hop (by omega)) (fun zo => ?_))⟩
      obtain ⟨hI, hK, hX, hs, hk⟩ := h
      refine gs_build hK zo d (fun M' S' md' ht' b1 b2 b3 b4 b5 b6 b8 hK' hlo => ?_)
      obtain ⟨g1, g2, g3, g4, g5, g6, g7, g8⟩ := hI
      refine gl_89 hJ ⟨⟨g1, g2, g3, g4, g5, fun j hj => ?_, g7, g8⟩, hK', hX, hs, hk⟩ (by omega) d hop (by omega)
      obtain ⟨q1, q2, q3, q4, q5, q6⟩ := hlo j (by have := g1.2.1; omega)
      rw [q1, q2, q3, q4, q5, q6]
      exact g6 j hj
theorem i_vc (xs : Nat → Int32) (L : Nat) (hL : L ≤ 260) : wpL_law (fun r => r = 1) L xs := by
  refine ⟨20, 485, by decide, by decide, gs_init (fun b11 b12 b14 b15 b16 b17 hI => ⟨L + 2, ?_⟩)⟩
  refine gl_31 hL (L + 2) 0 (by omega) (by omega) (fun _ _ => 0) 1 (fun _ => 0) (fun _ => 0) (fun _ => 0) (fun _ _ => 0) (fun _ => 0) 0 0 0 0 (fun _ => 0) _ _ _ _ _ _ _ _ _ _ _ _ _ _ _ _ _ _ _ _ _ ?_
  exact ⟨hI, ⟨⟨by omega, by omega, fun s hs => absurd hs (by omega), fun z => absurd z (by omega), fun j hj => absurd hj (by omega), fun j hj => absurd hj (by omega)⟩, fun j hj => absurd hj (by omega), fun s hs => absurd hs (by omega)⟩, fun p q _ _ _ => rfl, rfl, by omega⟩
end
