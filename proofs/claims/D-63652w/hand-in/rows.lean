section
/-! PURE 1: cuts, clocks, runs that avoid the good cuts. No program here. c p: events of process p; K p k q: how many events of q the state k of p knows; G p k: state k of p is good; s: the set of processes as bits -/
def cwPoss (c : Nat → Nat) (K : Nat → Nat → Nat → Nat) (C : Nat → Nat) : Prop := ∀ p, p < 3 → C p ≤ c p ∧ ∀ q, q < 3 → K p (C p) q ≤ C q
def cwBit (s p : Nat) : Nat := s / 2 ^ p % 2
def cwGood (G : Nat → Nat → Bool) (s : Nat) (C : Nat → Nat) : Prop := ∀ p, p < 3 → cwBit s p = 1 → G p (C p) = true
def cwPG (c : Nat → Nat) (K : Nat → Nat → Nat → Nat) (G : Nat → Nat → Bool) (s : Nat) (C : Nat → Nat) : Prop := cwPoss c K C ∧ cwGood G s C
/-- the laws of vector clocks -/
def cwVc (c : Nat → Nat) (K : Nat → Nat → Nat → Nat) : Prop :=
  (∀ p, p < 3 → c p ≤ 8) ∧
  (∀ p k, p < 3 → k ≤ c p → K p k p = k) ∧
  (∀ p k q, p < 3 → q < 3 → k ≤ c p → K p k q ≤ c q) ∧
  (∀ p k k' q, p < 3 → q < 3 → k ≤ k' → k' ≤ c p → K p k q ≤ K p k' q) ∧
  (∀ p k q l r, p < 3 → q < 3 → r < 3 → l ≤ c q → k ≤ K q l p → K p k r ≤ K q l r) ∧
  (∀ p k q l, p < 3 → q < 3 → p ≠ q → l ≤ c q → 0 < k → k ≤ K q l p → K p k q < l)
/-- cuts by number -/
def cwSt (n : Nat) : Nat → Nat := fun p => if p = 0 then n / 81 else if p = 1 then n / 9 % 9 else n % 9
def cwCode (C : Nat → Nat) : Nat := 81 * C 0 + 9 * C 1 + C 2
def cwUnit (p : Nat) : Nat := if p = 0 then 81 else if p = 1 then 9 else 1
theorem cw_3 {p : Nat} (h : p < 3) : p = 0 ∨ p = 1 ∨ p = 2 := by omega
theorem cwSt_0 (n : Nat) : cwSt n 0 = n / 81 := rfl
theorem cwSt_1 (n : Nat) : cwSt n 1 = n / 9 % 9 := rfl
theorem cwSt_2 (n : Nat) : cwSt n 2 = n % 9 := rfl
theorem cwSt_le {n p : Nat} (hn : n < 729) (hp : p < 3) : cwSt n p ≤ 8 := by
  rcases cw_3 hp with rfl | rfl | rfl
  · rw [cwSt_0]; omega
  · rw [cwSt_1]; omega
  · rw [cwSt_2]; omega
theorem cwSt_z {p : Nat} (hp : p < 3) : cwSt 0 p = 0 := by
  rcases cw_3 hp with rfl | rfl | rfl <;> rfl
theorem cwCode_lt {C : Nat → Nat} (h : ∀ p, p < 3 → C p ≤ 8) : cwCode C < 729 := by
  have h0 := h 0 (by omega)
  have h1 := h 1 (by omega)
  have h2 := h 2 (by omega)
  unfold cwCode
  omega
theorem cwSt_code {C : Nat → Nat} (h : ∀ p, p < 3 → C p ≤ 8) {p : Nat} (hp : p < 3) : cwSt (cwCode C) p = C p := by
  have h0 := h 0 (by omega)
  have h1 := h 1 (by omega)
  have h2 := h 2 (by omega)
  rcases cw_3 hp with rfl | rfl | rfl
  · rw [cwSt_0]; unfold cwCode; omega
  · rw [cwSt_1]; unfold cwCode; omega
  · rw [cwSt_2]; unfold cwCode; omega
theorem cwCode_st {n : Nat} (hn : n < 729) : cwCode (cwSt n) = n := by
  unfold cwCode
  rw [cwSt_0, cwSt_1, cwSt_2]
  omega
theorem cwSt_pred {n r : Nat} (hn : n < 729) (hr : r < 3) (h : 0 < cwSt n r) : n - cwUnit r < n ∧ cwUnit r ≤ n ∧ ∀ p, p < 3 → cwSt (n - cwUnit r) p = if p = r then cwSt n r - 1 else cwSt n p := by
  rcases cw_3 hr with rfl | rfl | rfl
  · rw [cwSt_0] at h
    have e : cwUnit 0 = 81 := rfl
    rw [e]
    refine ⟨by omega, by omega, fun p hp => ?_⟩
    rcases cw_3 hp with rfl | rfl | rfl
    · rw [if_pos rfl, cwSt_0, cwSt_0]; omega
    · rw [if_neg (by omega), cwSt_1, cwSt_1]; omega
    · rw [if_neg (by omega), cwSt_2, cwSt_2]; omega
  · rw [cwSt_1] at h
    have e : cwUnit 1 = 9 := rfl
    rw [e]
    refine ⟨by omega, by omega, fun p hp => ?_⟩
    rcases cw_3 hp with rfl | rfl | rfl
    · rw [if_neg (by omega), cwSt_0, cwSt_0]; omega
    · rw [if_pos rfl, cwSt_1, cwSt_1]; omega
    · rw [if_neg (by omega), cwSt_2, cwSt_2]; omega
  · rw [cwSt_2] at h
    have e : cwUnit 2 = 1 := rfl
    rw [e]
    refine ⟨by omega, by omega, fun p hp => ?_⟩
    rcases cw_3 hp with rfl | rfl | rfl
    · rw [if_neg (by omega), cwSt_0, cwSt_0]; omega
    · rw [if_neg (by omega), cwSt_1, cwSt_1]; omega
    · rw [if_pos rfl, cwSt_2, cwSt_2]; omega
theorem cwPoss_congr {c : Nat → Nat} {K : Nat → Nat → Nat → Nat} {C D : Nat → Nat} (e : ∀ p, p < 3 → D p = C p) (h : cwPoss c K C) : cwPoss c K D := by
  intro p hp
  rw [e p hp]
  refine ⟨(h p hp).1, fun q hq => ?_⟩
  rw [e q hq]
  exact (h p hp).2 q hq
theorem cwGood_congr {G : Nat → Nat → Bool} {s : Nat} {C D : Nat → Nat} (e : ∀ p, p < 3 → D p = C p) (h : cwGood G s C) : cwGood G s D := by
  intro p hp hs
  rw [e p hp]
  exact h p hp hs
theorem cwPoss_le8 {c : Nat → Nat} {K : Nat → Nat → Nat → Nat} (hV : cwVc c K) {C : Nat → Nat} (h : cwPoss c K C) : ∀ p, p < 3 → C p ≤ 8 := fun p hp => Nat.le_trans (h p hp).1 (hV.1 p hp)
/-- v tells of each cut whether a run comes there without a good one -/
def cwRec (c : Nat → Nat) (K : Nat → Nat → Nat → Nat) (G : Nat → Nat → Bool) (s : Nat) (v : Nat → Bool) : Prop :=
  ∀ n, n < 729 → (v n = true ↔ cwPoss c K (cwSt n) ∧ ¬ cwGood G s (cwSt n) ∧ (n = 0 ∨ ∃ r, r < 3 ∧ 0 < cwSt n r ∧ v (n - cwUnit r) = true))
/-- stretches that meet: no run avoids them -/
theorem cw_meet {c : Nat → Nat} {K : Nat → Nat → Nat → Nat} {G : Nat → Nat → Bool} {s : Nat} {fr to : Nat → Nat} {v : Nat → Bool} (hV : cwVc c K) (hv : cwRec c K G s v)
    (hM : ∀ p, p < 3 → cwBit s p = 1 → fr p ≤ to p ∧ to p ≤ c p ∧ ∀ k, fr p ≤ k → k ≤ to p → G p k = true)
    (hN : ∀ p q, p < 3 → q < 3 → p ≠ q → cwBit s p = 1 → cwBit s q = 1 → to p = c p ∨ fr q ≤ K p (to p + 1) q) :
    ∀ n, n < 729 → v n = true → ∃ p, p < 3 ∧ cwBit s p = 1 ∧ cwSt n p < fr p := by
  intro n
  induction n using Nat.strongRecOn with
  | _ n ih =>
  intro hn h
  obtain ⟨hP, hG, hR⟩ := (hv n hn).mp h
  apply Classical.byContradiction
  intro hc
  have hge : ∀ p, p < 3 → cwBit s p = 1 → fr p ≤ cwSt n p := fun p h1 h2 => Nat.le_of_not_lt fun h3 => hc ⟨p, h1, h2, h3⟩
  have hb : ∃ a, a < 3 ∧ cwBit s a = 1 ∧ ¬ G a (cwSt n a) = true := by
    apply Classical.byContradiction
    intro hh
    apply hG
    intro p h1 h2
    apply Classical.byContradiction
    intro h3
    exact hh ⟨p, h1, h2, h3⟩
  obtain ⟨a, ha, hsa, hga⟩ := hb
  have hta : to a < cwSt n a := by
    apply Nat.lt_of_not_le
    intro h1
    exact hga ((hM a ha hsa).2.2 _ (hge a ha hsa) h1)
  rcases hR with h0 | ⟨r, hr, hpos, hvr⟩
  · subst h0
    have e := cwSt_z ha
    omega
  · obtain ⟨hlt, -, hst⟩ := cwSt_pred hn hr hpos
    have hn' : n - cwUnit r < 729 := by omega
    obtain ⟨b, hb, hsb, hlb⟩ := ih _ hlt hn' hvr
    have hbr : b = r := by
      apply Classical.byContradiction
      intro hne
      have e := hst b hb
      rw [if_neg hne] at e
      have := hge b hb hsb
      omega
    subst hbr
    have e := hst b hb
    rw [if_pos rfl] at e
    have hgb := hge b hb hsb
    have heq : cwSt n b = fr b := by omega
    have hab : a ≠ b := by
      intro hab
      subst hab
      exact hga (by rw [heq]; exact (hM a ha hsa).2.2 _ (Nat.le_refl _) (hM a ha hsa).1)
    rcases hN a b ha hb hab hsa hsb with h1 | h1
    · have := (hP a ha).1
      omega
    · have hP' := ((hv _ hn').mp hvr).1
      have h2 := (hP' a ha).2 b hb
      have ea := hst a ha
      rw [if_neg hab] at ea
      rw [ea, e] at h2
      have h3 := hV.2.2.2.1 a (to a + 1) (cwSt n a) b ha hb hta (hP a ha).1
      omega
theorem cw_pick (P : Nat → Prop) (f : Nat → Nat) : ∀ n, (∃ p, p < n ∧ P p) → ∃ r, r < n ∧ P r ∧ ∀ q, q < n → P q → f q ≤ f r := by
  intro n
  induction n with
  | zero =>
    intro h
    obtain ⟨p, hp, _⟩ := h
    omega
  | succ n ih =>
    intro h
    by_cases h1 : ∃ p, p < n ∧ P p
    · obtain ⟨r, hr, hPr, hm⟩ := ih h1
      by_cases h2 : P n ∧ f r < f n
      · refine ⟨n, by omega, h2.1, fun q hq hPq => ?_⟩
        by_cases h3 : q = n
        · subst h3
          exact Nat.le_refl _
        · have := hm q (by omega) hPq
          omega
      · refine ⟨r, by omega, hPr, fun q hq hPq => ?_⟩
        by_cases h3 : q = n
        · subst h3
          exact Nat.le_of_not_lt fun h4 => h2 ⟨hPq, h4⟩
        · exact hm q (by omega) hPq
    · obtain ⟨p, hp, hPp⟩ := h
      have e : p = n := by
        apply Classical.byContradiction
        intro h2
        exact h1 ⟨p, by omega, hPp⟩
      subst e
      refine ⟨p, by omega, hPp, fun q hq hPq => ?_⟩
      have e : q = p := by
        apply Classical.byContradiction
        intro h2
        exact h1 ⟨q, by omega, hPq⟩
      subst e
      exact Nat.le_refl _
/-- between two cuts there is a last event -/
theorem cw_last {c : Nat → Nat} {K : Nat → Nat → Nat → Nat} (hV : cwVc c K) {A B : Nat → Nat} (hA : cwPoss c K A) (hB : cwPoss c K B) (hle : ∀ p, p < 3 → A p ≤ B p) (hne : ∃ p, p < 3 ∧ A p < B p) :
    ∃ (r : Nat) (C : Nat → Nat), r < 3 ∧ A r < B r ∧ C r = B r - 1 ∧ (∀ p, p ≠ r → C p = B p) ∧ cwPoss c K C := by
  obtain ⟨r, hr, hlt, hmax⟩ := cw_pick (fun p => A p < B p) (fun p => K p (B p) 0 + K p (B p) 1 + K p (B p) 2) 3 hne
  obtain ⟨h8, hself, hcnt, hmono, htr, has⟩ := hV
  have hkey : ∀ q, q < 3 → q ≠ r → K q (B q) r < B r := by
    intro q hq hqr
    apply Nat.lt_of_not_le
    intro hge
    by_cases hq2 : A q < B q
    · have h0 := htr r (B r) q (B q) 0 hr hq (by omega) (hB q hq).1 hge
      have h1 := htr r (B r) q (B q) 1 hr hq (by omega) (hB q hq).1 hge
      have h2 := htr r (B r) q (B q) 2 hr hq (by omega) (hB q hq).1 hge
      have hs := has r (B r) q (B q) hr hq (Ne.symm hqr) (hB q hq).1 (by omega) hge
      have hsq := hself q (B q) hq (hB q hq).1
      have hm : K q (B q) 0 + K q (B q) 1 + K q (B q) 2 ≤ K r (B r) 0 + K r (B r) 1 + K r (B r) 2 := hmax q hq hq2
      rcases cw_3 hq with rfl | rfl | rfl
      · omega
      · omega
      · omega
    · have e : A q = B q := by
        have := hle q hq
        omega
      have h1 := (hA q hq).2 r hr
      rw [e] at h1
      omega
  refine ⟨r, fun p => if p = r then B r - 1 else B p, hr, hlt, by simp, fun p hp => by simp [hp], ?_⟩
  intro p hp
  by_cases hpr : p = r
  · subst hpr
    have h1 := (hB p hp).1
    simp only [if_true]
    refine ⟨by omega, fun q hq => ?_⟩
    by_cases hqp : q = p
    · subst hqp
      simp only [if_true]
      rw [hself q (B q - 1) hq (by omega)]
      exact Nat.le_refl _
    · simp only [if_neg hqp]
      exact Nat.le_trans (hmono p (B p - 1) (B p) q hp hq (by omega) h1) ((hB p hp).2 q hq)
  · simp only [if_neg hpr]
    refine ⟨(hB p hp).1, fun q hq => ?_⟩
    by_cases hqr : q = r
    · subst hqr
      simp only [if_true]
      have := hkey p hp hpr
      omega
    · simp only [if_neg hqr]
      exact (hB p hp).2 q hq
/-- a run from an avoiding cut on, through cuts that are not good -/
theorem cw_path {c : Nat → Nat} {K : Nat → Nat → Nat → Nat} {G : Nat → Nat → Bool} {s : Nat} {v : Nat → Bool} (hV : cwVc c K) (hv : cwRec c K G s v) {A : Nat → Nat} (hA : cwPoss c K A) (hvA : v (cwCode A) = true) :
    ∀ (n : Nat) (B : Nat → Nat), cwPoss c K B → (∀ p, p < 3 → A p ≤ B p) → B 0 + B 1 + B 2 < n → (∀ X, cwPoss c K X → (∀ p, p < 3 → A p ≤ X p ∧ X p ≤ B p) → ¬ cwGood G s X) → v (cwCode B) = true := by
  intro n
  induction n with
  | zero =>
    intro B _ _ h _
    omega
  | succ n ih =>
    intro B hB hle hs hX
    have hB8 := cwPoss_le8 hV hB
    by_cases hne : ∃ p, p < 3 ∧ A p < B p
    · obtain ⟨r, C, hr, hlt, hCr, hCn, hC⟩ := cw_last hV hA hB hle hne
      have hCB : ∀ p, p < 3 → C p ≤ B p := by
        intro p hp
        by_cases e : p = r
        · subst e
          omega
        · rw [hCn p e]
          exact Nat.le_refl _
      have hAC : ∀ p, p < 3 → A p ≤ C p := by
        intro p hp
        by_cases e : p = r
        · subst e
          omega
        · rw [hCn p e]
          exact hle p hp
      have hsum : C 0 + C 1 + C 2 < n ∧ cwCode B - cwUnit r = cwCode C := by
        unfold cwCode cwUnit
        rcases cw_3 hr with rfl | rfl | rfl
        · have e1 := hCn 1 (by omega)
          have e2 := hCn 2 (by omega)
          rw [if_pos rfl]
          omega
        · have e1 := hCn 0 (by omega)
          have e2 := hCn 2 (by omega)
          rw [if_neg (by omega), if_pos rfl]
          omega
        · have e1 := hCn 0 (by omega)
          have e2 := hCn 1 (by omega)
          rw [if_neg (by omega), if_neg (by omega)]
          omega
      have hvC := ih C hC hAC hsum.1 (fun X hX1 hX2 => hX X hX1 (fun p hp => ⟨(hX2 p hp).1, Nat.le_trans (hX2 p hp).2 (hCB p hp)⟩))
      refine (hv (cwCode B) (cwCode_lt hB8)).mpr ⟨cwPoss_congr (fun p hp => cwSt_code hB8 hp) hB, fun hg => ?_, Or.inr ⟨r, hr, ?_, ?_⟩⟩
      · exact hX B hB (fun p hp => ⟨hle p hp, Nat.le_refl _⟩) (cwGood_congr (fun p hp => (cwSt_code hB8 hp).symm) hg)
      · rw [cwSt_code hB8 hr]
        omega
      · rw [hsum.2]
        exact hvC
    · have e : ∀ p, p < 3 → A p = B p := by
        intro p hp
        apply Classical.byContradiction
        intro h
        exact hne ⟨p, hp, Nat.lt_of_le_of_ne (hle p hp) h⟩
      have e2 : cwCode B = cwCode A := by
        unfold cwCode
        rw [e 0 (by omega), e 1 (by omega), e 2 (by omega)]
      rw [e2]
      exact hvA
theorem cw_early {c : Nat → Nat} {K : Nat → Nat → Nat → Nat} {G : Nat → Nat → Bool} {s : Nat} {v : Nat → Bool} (hv : cwRec c K G s v) {p t : Nat} (hp : p < 3) :
    ∀ n, n < 729 → v n = true → t ≤ cwSt n p → ∃ n', n' < 729 ∧ v n' = true ∧ cwSt n' p = t := by
  intro n
  induction n using Nat.strongRecOn with
  | _ n ih =>
  intro hn h ht
  by_cases e : cwSt n p = t
  · exact ⟨n, hn, h, e⟩
  · obtain ⟨-, -, hR⟩ := (hv n hn).mp h
    rcases hR with h0 | ⟨r, hr, hpos, hvr⟩
    · subst h0
      have := cwSt_z hp
      omega
    · obtain ⟨hlt, -, hst⟩ := cwSt_pred hn hr hpos
      refine ih _ hlt (by omega) hvr ?_
      rw [hst p hp]
      by_cases e2 : p = r
      · subst e2
        rw [if_pos rfl]
        omega
      · rw [if_neg e2]
        exact ht
/-- a stretch of p that can end (state t) before the stretch of q begins: a run comes there -/
theorem cw_greedy {c : Nat → Nat} {K : Nat → Nat → Nat → Nat} {G : Nat → Nat → Bool} {s : Nat} {v : Nat → Bool} (hV : cwVc c K) (hv : cwRec c K G s v) {f p q t : Nat} (hp : p < 3) (hq : q < 3) (hsq : cwBit s q = 1) (ht : t ≤ c p) (hk : K p t q < f)
    (hI : ∃ n, n < 729 ∧ v n = true ∧ cwSt n q < f ∧ ∀ k, cwSt n q ≤ k → k < f → G q k = false) : ∃ n, n < 729 ∧ v n = true ∧ cwSt n p = t := by
  obtain ⟨n, hn, hvn, hnf, hng⟩ := hI
  by_cases hle : t ≤ cwSt n p
  · exact cw_early hv hp n hn hvn hle
  · have hP := ((hv n hn).mp hvn).1
    have hcode : v (cwCode (cwSt n)) = true := by rw [cwCode_st hn]; exact hvn
    have hB : cwPoss c K (fun x => if cwSt n x ≤ K p t x then K p t x else cwSt n x) := by
      intro x hx
      by_cases e : cwSt n x ≤ K p t x
      · simp only [if_pos e]
        refine ⟨hV.2.2.1 p t x hp hx ht, fun y hy => ?_⟩
        have h1 := hV.2.2.2.2.1 x (K p t x) p t y hx hp hy ht (Nat.le_refl _)
        by_cases e2 : cwSt n y ≤ K p t y
        · simp only [if_pos e2]
          exact h1
        · simp only [if_neg e2]
          omega
      · simp only [if_neg e]
        refine ⟨(hP x hx).1, fun y hy => ?_⟩
        have h1 := (hP x hx).2 y hy
        by_cases e2 : cwSt n y ≤ K p t y
        · simp only [if_pos e2]
          omega
        · simp only [if_neg e2]
          exact h1
    have hB8 := cwPoss_le8 hV hB
    have hvB := cw_path hV hv hP hcode _ _ hB (fun x _ => by
      by_cases e : cwSt n x ≤ K p t x
      · simp only [if_pos e]
        exact e
      · simp only [if_neg e]
        exact Nat.le_refl _) (Nat.lt_succ_self _) (fun X _ hX2 hg => by
      have h1 := hg q hq hsq
      have h2 := hX2 q hq
      have h3 : X q < f := by
        have h4 := h2.2
        by_cases e : cwSt n q ≤ K p t q
        · simp only [if_pos e] at h4
          omega
        · simp only [if_neg e] at h4
          omega
      rw [hng (X q) h2.1 h3] at h1
      cases h1)
    refine ⟨_, cwCode_lt hB8, hvB, ?_⟩
    rw [cwSt_code hB8 hp]
    have e : K p t p = t := hV.2.1 p t hp ht
    rw [e, if_pos (by omega)]
theorem cw_all {c : Nat → Nat} {K : Nat → Nat → Nat → Nat} (hV : cwVc c K) : cwPoss c K c := fun p hp => ⟨Nat.le_refl _, fun q hq => hV.2.2.1 p (c p) q hp hq (Nat.le_refl _)⟩
/-- no good state from t on: the run goes on to the end -/
theorem cw_fail {c : Nat → Nat} {K : Nat → Nat → Nat → Nat} {G : Nat → Nat → Bool} {s : Nat} {v : Nat → Bool} (hV : cwVc c K) (hv : cwRec c K G s v) {p t : Nat} (hp : p < 3) (hsp : cwBit s p = 1) (hng : ∀ k, t ≤ k → k ≤ c p → G p k = false)
    (hI : ∃ n, n < 729 ∧ v n = true ∧ cwSt n p = t) : v (cwCode c) = true := by
  obtain ⟨n, hn, hvn, hnt⟩ := hI
  have hP := ((hv n hn).mp hvn).1
  have hcode : v (cwCode (cwSt n)) = true := by rw [cwCode_st hn]; exact hvn
  refine cw_path hV hv hP hcode _ c (cw_all hV) (fun x hx => (hP x hx).1) (Nat.lt_succ_self _) (fun X hX1 hX2 hg => ?_)
  have h1 := hg p hp hsp
  have h2 := hX2 p hp
  rw [hng (X p) (by omega) h2.2] at h1
  cases h1
theorem cw_zero {c : Nat → Nat} {K : Nat → Nat → Nat → Nat} {G : Nat → Nat → Bool} {s : Nat} {v : Nat → Bool} (hV : cwVc c K) (hv : cwRec c K G s v) {p : Nat} (hp : p < 3) (hsp : cwBit s p = 1) (h0 : G p 0 = false) : v 0 = true := by
  refine (hv 0 (by omega)).mpr ⟨fun x hx => ?_, fun hg => ?_, Or.inl rfl⟩
  · rw [cwSt_z hx]
    refine ⟨Nat.zero_le _, fun y hy => ?_⟩
    rw [cwSt_z hy]
    by_cases e : x = y
    · subst e
      rw [hV.2.1 x 0 hx (Nat.zero_le _)]
      exact Nat.le_refl _
    · apply Nat.le_of_not_lt
      intro h
      have := hV.2.2.2.2.2 y (K x 0 y) x 0 hy hx (Ne.symm e) (Nat.zero_le _) h (Nat.le_refl _)
      omega
  · have h1 := hg p hp hsp
    rw [cwSt_z hp, h0] at h1
    cases h1
/-- what holds of the stretches all along: each one's process can be brought to just before it by a run that avoids the good cuts -/
def cwGi (G : Nat → Nat → Bool) (s : Nat) (v : Nat → Bool) (fr : Nat → Nat) : Prop :=
  ∀ p, p < 3 → cwBit s p = 1 → fr p = 0 ∨ ∃ n, n < 729 ∧ v n = true ∧ cwSt n p < fr p ∧ ∀ k, cwSt n p ≤ k → k < fr p → G p k = false
end
section
/-! PURE 2: sums and the number of cuts; the state that both classes hold, its steps, and what holds of it all along -/
noncomputable def wInd (P : Prop) : Nat := @ite Nat P (Classical.propDecidable P) 1 0
theorem wInd_t {P : Prop} (h : P) : wInd P = 1 := by
  unfold wInd
  exact @if_pos P (Classical.propDecidable P) h Nat 1 0
theorem wInd_f {P : Prop} (h : ¬ P) : wInd P = 0 := by
  unfold wInd
  exact @if_neg P (Classical.propDecidable P) h Nat 1 0
theorem wInd_congr {P Q : Prop} (h : P ↔ Q) : wInd P = wInd Q := by rw [propext h]
theorem wInd_and (P Q : Prop) : wInd (P ∧ Q) = wInd P * wInd Q := by
  by_cases h : P
  · by_cases h2 : Q
    · rw [wInd_t ⟨h, h2⟩, wInd_t h, wInd_t h2]
    · rw [wInd_f (fun x => h2 x.2), wInd_t h, wInd_f h2]
  · rw [wInd_f (fun x => h x.1), wInd_f h, Nat.zero_mul]
def cwSum (f : Nat → Nat) : Nat → Nat
  | 0 => 0
  | n + 1 => cwSum f n + f n
theorem cwSum_s (f : Nat → Nat) (n : Nat) : cwSum f (n + 1) = cwSum f n + f n := rfl
theorem cwSum_congr {f g : Nat → Nat} : ∀ {n : Nat}, (∀ i, i < n → f i = g i) → cwSum f n = cwSum g n := by
  intro n
  induction n with
  | zero => intro _; rfl
  | succ n ih =>
    intro h
    rw [cwSum_s, cwSum_s, ih (fun i hi => h i (by omega)), h n (by omega)]
theorem cwSum_add (f : Nat → Nat) (m : Nat) : ∀ n, cwSum f (m + n) = cwSum f m + cwSum (fun j => f (m + j)) n := by
  intro n
  induction n with
  | zero => rfl
  | succ n ih =>
    rw [← Nat.add_assoc, cwSum_s, ih, cwSum_s, Nat.add_assoc]
theorem cwSum_mul (f : Nat → Nat) (b : Nat) : ∀ a, cwSum f (b * a) = cwSum (fun i => cwSum (fun j => f (b * i + j)) b) a := by
  intro a
  induction a with
  | zero => rfl
  | succ a ih =>
    rw [Nat.mul_succ, cwSum_add, ih, cwSum_s]
theorem cwSum_left (f : Nat → Nat) (a : Nat) : ∀ n, cwSum (fun k => a * f k) n = a * cwSum f n := by
  intro n
  induction n with
  | zero => rfl
  | succ n ih =>
    rw [cwSum_s, ih, cwSum_s, Nat.mul_add]
theorem cwSum_cut {f : Nat → Nat} {m : Nat} : ∀ {n : Nat}, m ≤ n → (∀ i, m ≤ i → i < n → f i = 0) → cwSum f n = cwSum f m := by
  intro n
  induction n with
  | zero =>
    intro h _
    rw [show m = 0 by omega]
  | succ n ih =>
    intro h hz
    by_cases e : m = n + 1
    · rw [e]
    · rw [cwSum_s, ih (by omega) (fun i h1 h2 => hz i h1 (by omega)), hz n (by omega) (by omega), Nat.add_zero]
noncomputable def cwThird (c : Nat → Nat) (K : Nat → Nat → Nat → Nat) (i j : Nat) : Nat := cwSum (fun k => wInd (K 0 i 2 ≤ k ∧ K 1 j 2 ≤ k ∧ K 2 k 0 ≤ i ∧ K 2 k 1 ≤ j)) (c 2 + 1)
noncomputable def cwTwo (c : Nat → Nat) (K : Nat → Nat → Nat → Nat) (i j : Nat) : Nat := wInd (K 0 i 1 ≤ j ∧ K 1 j 0 ≤ i) * cwThird c K i j
noncomputable def cwCuts (c : Nat → Nat) (K : Nat → Nat → Nat → Nat) : Nat := cwSum (fun i => cwSum (fun j => cwTwo c K i j) (c 1 + 1)) (c 0 + 1)
theorem cw_key {c : Nat → Nat} {K : Nat → Nat → Nat → Nat} (hV : cwVc c K) {i j k : Nat} (hj : j < 9) (hk : k < 9) :
    cwPoss c K (cwSt (81 * i + (9 * j + k))) ↔ i ≤ c 0 ∧ j ≤ c 1 ∧ k ≤ c 2 ∧ (K 0 i 1 ≤ j ∧ K 1 j 0 ≤ i) ∧ (K 0 i 2 ≤ k ∧ K 1 j 2 ≤ k ∧ K 2 k 0 ≤ i ∧ K 2 k 1 ≤ j) := by
  have e0 : cwSt (81 * i + (9 * j + k)) 0 = i := by rw [cwSt_0]; omega
  have e1 : cwSt (81 * i + (9 * j + k)) 1 = j := by rw [cwSt_1]; omega
  have e2 : cwSt (81 * i + (9 * j + k)) 2 = k := by rw [cwSt_2]; omega
  generalize cwSt (81 * i + (9 * j + k)) = C at e0 e1 e2
  subst e0; subst e1; subst e2
  constructor
  · intro h
    have h0 := h 0 (by omega)
    have h1 := h 1 (by omega)
    have h2 := h 2 (by omega)
    exact ⟨h0.1, h1.1, h2.1, ⟨h0.2 1 (by omega), h1.2 0 (by omega)⟩, h0.2 2 (by omega), h1.2 2 (by omega), h2.2 0 (by omega), h2.2 1 (by omega)⟩
  · intro ⟨a0, a1, a2, ⟨b1, b2⟩, b3, b4, b5, b6⟩ p hp
    rcases cw_3 hp with rfl | rfl | rfl
    · refine ⟨a0, fun q hq => ?_⟩
      rcases cw_3 hq with rfl | rfl | rfl
      · rw [hV.2.1 0 (C 0) (by omega) a0]; exact Nat.le_refl _
      · exact b1
      · exact b3
    · refine ⟨a1, fun q hq => ?_⟩
      rcases cw_3 hq with rfl | rfl | rfl
      · exact b2
      · rw [hV.2.1 1 (C 1) (by omega) a1]; exact Nat.le_refl _
      · exact b4
    · refine ⟨a2, fun q hq => ?_⟩
      rcases cw_3 hq with rfl | rfl | rfl
      · exact b5
      · exact b6
      · rw [hV.2.1 2 (C 2) (by omega) a2]; exact Nat.le_refl _
/-- all cuts gone through: as many as by pairs and thirds -/
theorem cw_cuts {c : Nat → Nat} {K : Nat → Nat → Nat → Nat} (hV : cwVc c K) : cwSum (fun n => wInd (cwPoss c K (cwSt n))) 729 = cwCuts c K := by
  have h0 := hV.1 0 (by omega)
  have h1 := hV.1 1 (by omega)
  have h2 := hV.1 2 (by omega)
  rw [show (729 : Nat) = 81 * 9 from rfl, cwSum_mul]
  have inner : ∀ i, cwSum (fun j => wInd (cwPoss c K (cwSt (81 * i + j)))) 81 = cwSum (fun j => cwSum (fun k => wInd (cwPoss c K (cwSt (81 * i + (9 * j + k))))) 9) 9 := by
    intro i
    rw [show (81 : Nat) = 9 * 9 from rfl, cwSum_mul]
  unfold cwCuts
  have cut0 : ∀ i, c 0 + 1 ≤ i → i < 9 → cwSum (fun j => wInd (cwPoss c K (cwSt (81 * i + j)))) 81 = 0 := by
    intro i hi _
    rw [inner i, cwSum_cut (m := 0) (Nat.zero_le _) (fun j _ hj => ?_)]
    · rfl
    · rw [cwSum_cut (m := 0) (Nat.zero_le _) (fun k _ hk => ?_)]
      · rfl
      · exact wInd_f (fun h => by have := ((cw_key hV hj hk).mp h).1; omega)
  rw [cwSum_cut (m := c 0 + 1) (by omega) cut0]
  refine cwSum_congr (fun i hi => ?_)
  rw [inner i, cwSum_cut (m := c 1 + 1) (by omega) (fun j hj hj9 => ?_)]
  · refine cwSum_congr (fun j hj => ?_)
    rw [cwSum_cut (m := c 2 + 1) (by omega) (fun k hk hk9 => ?_)]
    · unfold cwTwo cwThird
      rw [← cwSum_left]
      refine cwSum_congr (fun k hk => ?_)
      rw [← wInd_and]
      refine wInd_congr ((cw_key hV (by omega) (by omega)).trans ⟨fun h => h.2.2.2, fun h => ⟨by omega, by omega, by omega, h⟩⟩)
    · exact wInd_f (fun h => by have := ((cw_key hV (by omega) hk9).mp h).2.2.1; omega)
  · rw [cwSum_cut (m := 0) (Nat.zero_le _) (fun k _ hk => ?_)]
    · rfl
    · exact wInd_f (fun h => by have := ((cw_key hV hj9 hk).mp h).2.1; omega)
/-! the state: counts, good, known, messages, sender, sentIn, received -/
abbrev WSt : Type := (Nat → Nat) × (Nat → Bool) × (Nat → Nat) × Nat × (Nat → Nat) × (Nat → Nat) × (Nat → Bool)
abbrev sC (S : WSt) : Nat → Nat := S.1
abbrev sG (S : WSt) : Nat → Bool := S.2.1
abbrev sK (S : WSt) : Nat → Nat := S.2.2.1
abbrev sM (S : WSt) : Nat := S.2.2.2.1
abbrev sD (S : WSt) : Nat → Nat := S.2.2.2.2.1
abbrev sI (S : WSt) : Nat → Nat := S.2.2.2.2.2.1
abbrev sR (S : WSt) : Nat → Bool := S.2.2.2.2.2.2
def cwK (kn : Nat → Nat) : Nat → Nat → Nat → Nat := fun p k q => kn (27 * p + 3 * k + q)
def cwG (g : Nat → Bool) : Nat → Nat → Bool := fun p k => g (9 * p + k)
/-- three places of the state before, the first q of them copied -/
def cwCp (kn : Nat → Nat) (b q : Nat) : Nat → Nat := fun j => if b ≤ j ∧ j < b + q then kn (j - 3) else kn j
/-- the first q of three places raised to what stands from r on -/
def cwMx (kn : Nat → Nat) (b r q : Nat) : Nat → Nat := fun j => if b ≤ j ∧ j < b + q then (if kn j ≤ kn (r + (j - b)) then kn (r + (j - b)) else kn j) else kn j
def cwAk (kn : Nat → Nat) (p k : Nat) : Nat → Nat := va_up (cwCp kn (27 * p + 3 * k) 3) (27 * p + 3 * k + p) k
theorem cwCp_0 (kn : Nat → Nat) (b : Nat) : cwCp kn b 0 = kn := by
  funext j
  unfold cwCp
  rw [if_neg (by omega)]
theorem cwCp_s {kn : Nat → Nat} {b q i : Nat} (hb : 3 ≤ b) (hq : q < 3) (hi : i = b - 3 + q) : va_up (cwCp kn b q) (b + q) (cwCp kn b q i) = cwCp kn b (q + 1) := by
  subst hi
  funext j
  unfold va_up
  by_cases e : j = b + q
  · subst e
    rw [if_pos rfl]
    unfold cwCp
    rw [if_neg (by omega), if_pos (by omega)]
    congr 1
    omega
  · rw [if_neg e]
    unfold cwCp
    by_cases h : b ≤ j ∧ j < b + q
    · rw [if_pos h, if_pos (by omega)]
    · rw [if_neg h, if_neg (by omega)]
theorem cwMx_0 (kn : Nat → Nat) (b r : Nat) : cwMx kn b r 0 = kn := by
  funext j
  unfold cwMx
  rw [if_neg (by omega)]
/-- what the loop reads is not yet written -/
theorem cwMx_out {kn : Nat → Nat} {b r q j : Nat} (h : j < b ∨ b + q ≤ j) : cwMx kn b r q j = kn j := by
  unfold cwMx
  rw [if_neg (by omega)]
theorem cwMx_s {kn : Nat → Nat} {b r q x : Nat} (hx : x = if kn (b + q) ≤ kn (r + q) then kn (r + q) else kn (b + q)) : va_up (cwMx kn b r q) (b + q) x = cwMx kn b r (q + 1) := by
  subst hx
  funext j
  unfold va_up
  by_cases e : j = b + q
  · subst e
    rw [if_pos rfl]
    have h2 : b ≤ b + q ∧ b + q < b + (q + 1) := by omega
    unfold cwMx
    rw [if_pos h2, show b + q - b = q by omega]
  · rw [if_neg e]
    unfold cwMx
    by_cases h : b ≤ j ∧ j < b + q
    · have h2 : b ≤ j ∧ j < b + (q + 1) := by omega
      rw [if_pos h, if_pos h2]
    · have h2 : ¬ (b ≤ j ∧ j < b + (q + 1)) := by omega
      rw [if_neg h, if_neg h2]
theorem va_up_id {α : Type} {f : Nat → α} {k : Nat} {v : α} (h : f k = v) : va_up f k v = f := by
  funext j
  unfold va_up
  by_cases e : j = k
  · rw [if_pos e, e, h]
  · rw [if_neg e]
theorem cwMx_n {kn : Nat → Nat} {b r q : Nat} (hx : kn (r + q) ≤ kn (b + q)) : cwMx kn b r (q + 1) = cwMx kn b r q := by
  have e : (if kn (b + q) ≤ kn (r + q) then kn (r + q) else kn (b + q)) = kn (b + q) := by
    by_cases h : kn (b + q) ≤ kn (r + q)
    · rw [if_pos h]; omega
    · rw [if_neg h]
  rw [← cwMx_s (x := kn (b + q)) e.symm, va_up_id (cwMx_out (Or.inr (Nat.le_refl _)))]
/-- one event more -/
def cwAdv (S : WSt) (p : Nat) (b : Bool) : WSt := (va_up (sC S) p (sC S p + 1), va_up (sG S) (9 * p + (sC S p + 1)) b, cwAk (sK S) p (sC S p + 1), S.2.2.2)
def cwSnd (S : WSt) (p : Nat) (b : Bool) : WSt := (va_up (sC S) p (sC S p + 1), va_up (sG S) (9 * p + (sC S p + 1)) b, cwAk (sK S) p (sC S p + 1), sM S + 1, va_up (sD S) (sM S) p, va_up (sI S) (sM S) (sC S p + 1), sR S)
def cwRcv (S : WSt) (p i : Nat) (b : Bool) : WSt := (va_up (sC S) p (sC S p + 1), va_up (sG S) (9 * p + (sC S p + 1)) b, cwMx (cwAk (sK S) p (sC S p + 1)) (27 * p + 3 * (sC S p + 1)) (27 * sD S i + 3 * sI S i) 3, sM S, sD S, sI S, va_up (sR S) i true)
def cwStart (S : WSt) (p : Nat) (b : Bool) : Int32 × WSt := if p < 3 then (0, (sC S, va_up (sG S) (9 * p) b, S.2.2)) else (-1, S)
def cwStep (S : WSt) (p : Nat) (b : Bool) : Int32 × WSt := if p < 3 ∧ sC S p < 8 then (nI (sC S p + 1), cwAdv S p b) else (-1, S)
def cwSend (S : WSt) (p : Nat) (b : Bool) : Int32 × WSt := if p < 3 ∧ sC S p < 8 then (nI (sM S), cwSnd S p b) else (-1, S)
def cwRecv (S : WSt) (p i : Nat) (b : Bool) : Int32 × WSt := if p < 3 ∧ sC S p < 8 ∧ i < sM S ∧ sR S i = false ∧ sD S i ≠ p then (nI (sC S p + 1), cwRcv S p i b) else (-1, S)
def cwKnows (S : WSt) (p k q : Nat) : Int32 := if p < 3 ∧ q < 3 ∧ k ≤ sC S p then nI (sK S (27 * p + 3 * k + q)) else -1
def cwEvents (S : WSt) (p : Nat) : Int32 := if p < 3 then nI (sC S p) else -1
/-- what holds of the state all along -/
def cwOk (S : WSt) : Prop := cwVc (sC S) (cwK (sK S)) ∧ sM S ≤ sC S 0 + sC S 1 + sC S 2 ∧ (∀ i, i < sM S → sD S i < 3 ∧ sI S i ≤ sC S (sD S i)) ∧ ∀ i, sM S ≤ i → sR S i = false
/-- a new event, which knows what its own state before knew, and what some old state knew -/
theorem cw_vc_new {c c' : Nat → Nat} {K K' : Nat → Nat → Nat → Nat} (hV : cwVc c K) {p s i : Nat} (hp : p < 3) (h8 : c p < 8) (hs : s < 3) (hi : i ≤ c s) (hcp : c' p = c p + 1) (hcn : ∀ x, x ≠ p → c' x = c x)
    (ha : ∀ x k q, x < 3 → q < 3 → k ≤ c x → K' x k q = K x k q) (hb : K' p (c p + 1) p = c p + 1)
    (hn : ∀ q, q < 3 → q ≠ p → K' p (c p + 1) q = if K p (c p) q ≤ K s i q then K s i q else K p (c p) q) : cwVc c' K' := by
  obtain ⟨v1, v2, v3, v4, v5, v6⟩ := hV
  have hle : ∀ x, c x ≤ c' x := by
    intro x
    by_cases e : x = p
    · subst e; omega
    · rw [hcn x e]; exact Nat.le_refl _
  have new : ∀ x k, k ≤ c' x → ¬ k ≤ c x → x = p ∧ k = c p + 1 := by
    intro x k h1 h2
    by_cases e : x = p
    · subst e
      exact ⟨rfl, by omega⟩
    · rw [hcn x e] at h1
      exact absurd h1 h2
  have hn1 : ∀ q, q < 3 → q ≠ p → K p (c p) q ≤ K' p (c p + 1) q ∧ K s i q ≤ K' p (c p + 1) q := by
    intro q hq hqp
    rw [hn q hq hqp]
    by_cases e : K p (c p) q ≤ K s i q
    · rw [if_pos e]; exact ⟨e, Nat.le_refl _⟩
    · rw [if_neg e]; exact ⟨Nat.le_refl _, by omega⟩
  have hn2 : ∀ q, q < 3 → q ≠ p → K' p (c p + 1) q = K p (c p) q ∨ K' p (c p + 1) q = K s i q := by
    intro q hq hqp
    rw [hn q hq hqp]
    by_cases e : K p (c p) q ≤ K s i q
    · rw [if_pos e]; exact Or.inr rfl
    · rw [if_neg e]; exact Or.inl rfl
  have m4 : ∀ x k k' q, x < 3 → q < 3 → k ≤ k' → k' ≤ c' x → K' x k q ≤ K' x k' q := by
    intro x k k' q hx hq hk hk'
    by_cases e : k' ≤ c x
    · rw [ha x k q hx hq (by omega), ha x k' q hx hq e]
      exact v4 x k k' q hx hq hk e
    · obtain ⟨rfl, rfl⟩ := new x k' hk' e
      by_cases e2 : k = c x + 1
      · rw [e2]; exact Nat.le_refl _
      · rw [ha x k q hx hq (by omega)]
        by_cases e3 : q = x
        · subst e3
          rw [hb, v2 q k hq (by omega)]
          exact hk
        · exact Nat.le_trans (v4 x k (c x) q hx hq (by omega) (Nat.le_refl _)) (hn1 q hq e3).1
  have c3 : ∀ x k q, x < 3 → q < 3 → k ≤ c' x → K' x k q ≤ c' q := by
    intro x k q hx hq hk
    by_cases e : k ≤ c x
    · rw [ha x k q hx hq e]
      exact Nat.le_trans (v3 x k q hx hq e) (hle q)
    · obtain ⟨rfl, rfl⟩ := new x k hk e
      by_cases e3 : q = x
      · subst e3
        rw [hb, hcp]
        exact Nat.le_refl _
      · rcases hn2 q hq e3 with h | h
        · rw [h]; exact Nat.le_trans (v3 x (c x) q hx hq (Nat.le_refl _)) (hle q)
        · rw [h]; exact Nat.le_trans (v3 s i q hs hq hi) (hle q)
  refine ⟨?_, ?_, c3, m4, ?_, ?_⟩
  · intro x hx
    by_cases e : x = p
    · subst e; omega
    · rw [hcn x e]; exact v1 x hx
  · intro x k hx hk
    by_cases e : k ≤ c x
    · rw [ha x k x hx hx e]; exact v2 x k hx e
    · obtain ⟨rfl, rfl⟩ := new x k hk e
      exact hb
  · intro x k q l r hx hq hr hl hk
    by_cases e : l ≤ c q
    · rw [ha q l x hq hx e] at hk
      have h1 := v3 q l x hq hx e
      rw [ha q l r hq hr e, ha x k r hx hr (by omega)]
      exact v5 x k q l r hx hq hr e hk
    · obtain ⟨rfl, rfl⟩ := new q l hl e
      by_cases e2 : x = q
      · subst e2
        rw [hb] at hk
        exact m4 x k (c x + 1) r hx hr hk hl
      · have hk2 : k ≤ K q (c q) x ∨ k ≤ K s i x := by
          rcases hn2 x hx e2 with h | h
          · rw [h] at hk; exact Or.inl hk
          · rw [h] at hk; exact Or.inr hk
        have h1 := v3 q (c q) x hq hx (Nat.le_refl _)
        have h2 := v3 s i x hs hx hi
        have hkc : k ≤ c x := by
          rcases hk2 with h | h
          · omega
          · omega
        rw [ha x k r hx hr hkc]
        have h3 : K x k r ≤ K q (c q) r ∨ K x k r ≤ K s i r := by
          rcases hk2 with h | h
          · exact Or.inl (v5 x k q (c q) r hx hq hr (Nat.le_refl _) h)
          · exact Or.inr (v5 x k s i r hx hs hr hi h)
        by_cases e3 : r = q
        · subst e3
          rw [hb]
          have h4 := v3 r (c r) r hr hr (Nat.le_refl _)
          have h5 := v3 s i r hs hr hi
          rcases h3 with h | h
          · omega
          · omega
        · have h4 := hn1 r hr e3
          rcases h3 with h | h
          · omega
          · omega
  · intro x k q l hx hq hxq hl h0 hk
    by_cases e : l ≤ c q
    · rw [ha q l x hq hx e] at hk
      have h1 := v3 q l x hq hx e
      rw [ha x k q hx hq (by omega)]
      exact v6 x k q l hx hq hxq e h0 hk
    · obtain ⟨rfl, rfl⟩ := new q l hl e
      have h1 := v3 q (c q) x hq hx (Nat.le_refl _)
      have h2 := v3 s i x hs hx hi
      have hkc : k ≤ c x := by
        rcases hn2 x hx hxq with h | h
        · rw [h] at hk; omega
        · rw [h] at hk; omega
      rw [ha x k q hx hq hkc]
      have := v3 x k q hx hq hkc
      omega
theorem cw_idx {p k r x l q : Nat} (hp : p < 3) (hk : k ≤ 8) (hr : r < 3) (hx : x < 3) (hl : l ≤ 8) (hq : q < 3) (h : 27 * x + 3 * l + q = 27 * p + 3 * k + r) : x = p ∧ l = k ∧ q = r := by
  rcases cw_3 hp with rfl | rfl | rfl <;> rcases cw_3 hx with rfl | rfl | rfl <;> omega
theorem cwAk_old {kn : Nat → Nat} {p k x l q : Nat} (hp : p < 3) (hk : k ≤ 8) (hx : x < 3) (hl : l ≤ 8) (hq : q < 3) (hne : x ≠ p ∨ l ≠ k) : cwAk kn p k (27 * x + 3 * l + q) = kn (27 * x + 3 * l + q) := by
  unfold cwAk
  rw [va_up_ne _ _ (fun h => by have := cw_idx hp hk hp hx hl hq h; omega)]
  unfold cwCp
  rw [if_neg (fun h => by have := cw_idx (r := 27 * x + 3 * l + q - (27 * p + 3 * k)) hp hk (by omega) hx hl hq (by omega); omega)]
theorem cwAk_self {kn : Nat → Nat} {p k : Nat} : cwAk kn p k (27 * p + 3 * k + p) = k := by
  unfold cwAk
  rw [va_up_self]
theorem cwAk_new {kn : Nat → Nat} {p k q : Nat} (hk : 1 ≤ k) (hq : q < 3) (hne : q ≠ p) : cwAk kn p k (27 * p + 3 * k + q) = kn (27 * p + 3 * (k - 1) + q) := by
  unfold cwAk
  rw [va_up_ne _ _ (by omega)]
  unfold cwCp
  rw [if_pos (by omega)]
  congr 1
  omega
theorem cwUp_self {c : Nat → Nat} {p v : Nat} : va_up c p v p = v := va_up_self _ _ _
theorem cw_adv_vc {c kn : Nat → Nat} (hV : cwVc c (cwK kn)) {p : Nat} (hp : p < 3) (h8 : c p < 8) : cwVc (va_up c p (c p + 1)) (cwK (cwAk kn p (c p + 1))) := by
  refine cw_vc_new hV hp h8 hp (Nat.le_refl (c p)) (va_up_self _ _ _) (fun x hx => va_up_ne _ _ hx) ?_ ?_ ?_
  · intro x k q hx hq hk
    have h1 := hV.1 x hx
    exact cwAk_old hp (by omega) hx (by omega) hq (by
      by_cases e : x = p
      · subst e; exact Or.inr (by omega)
      · exact Or.inl e)
  · exact cwAk_self
  · intro q hq hqp
    rw [if_pos (Nat.le_refl _)]
    exact cwAk_new (by omega) hq hqp
theorem cw_rcv_vc {c kn : Nat → Nat} (hV : cwVc c (cwK kn)) {p s i : Nat} (hp : p < 3) (h8 : c p < 8) (hs : s < 3) (hsp : s ≠ p) (hi : i ≤ c s) : cwVc (va_up c p (c p + 1)) (cwK (cwMx (cwAk kn p (c p + 1)) (27 * p + 3 * (c p + 1)) (27 * s + 3 * i) 3)) := by
  have hi8 : i ≤ 8 := Nat.le_trans hi (hV.1 s hs)
  refine cw_vc_new (s := s) (i := i) hV hp h8 hs hi (va_up_self _ _ _) (fun x hx => va_up_ne _ _ hx) ?_ ?_ ?_
  · intro x k q hx hq hk
    have h1 := hV.1 x hx
    have hne : x ≠ p ∨ k ≠ c p + 1 := by
      by_cases e : x = p
      · subst e; exact Or.inr (by omega)
      · exact Or.inl e
    show cwMx _ _ _ _ (27 * x + 3 * k + q) = kn (27 * x + 3 * k + q)
    rw [cwMx_out (by omega)]
    exact cwAk_old hp (by omega) hx (by omega) hq hne
  · show cwMx _ _ _ _ (27 * p + 3 * (c p + 1) + p) = c p + 1
    unfold cwMx
    rw [if_pos (by omega), cwAk_self, show 27 * p + 3 * (c p + 1) + p - (27 * p + 3 * (c p + 1)) = p by omega, cwAk_old hp (by omega) hs hi8 hp (Or.inl hsp)]
    have h1 : kn (27 * s + 3 * i + p) ≤ c p := hV.2.2.1 s i p hs hp hi
    rw [if_neg (by omega)]
  · intro q hq hqp
    show cwMx _ _ _ _ (27 * p + 3 * (c p + 1) + q) = _
    unfold cwMx
    rw [if_pos (by omega), show 27 * p + 3 * (c p + 1) + q - (27 * p + 3 * (c p + 1)) = q by omega, cwAk_old hp (by omega) hs hi8 hq (Or.inl hsp), cwAk_new (by omega) hq hqp]
    rfl
theorem cw_sum_up {c : Nat → Nat} {p : Nat} (hp : p < 3) : va_up c p (c p + 1) 0 + va_up c p (c p + 1) 1 + va_up c p (c p + 1) 2 = c 0 + c 1 + c 2 + 1 := by
  rcases cw_3 hp with rfl | rfl | rfl
  · rw [va_up_self, va_up_ne _ _ (by omega), va_up_ne _ _ (by omega)]; omega
  · rw [va_up_self, va_up_ne _ _ (by omega), va_up_ne _ _ (by omega)]; omega
  · rw [va_up_self, va_up_ne _ _ (by omega), va_up_ne _ _ (by omega)]; omega
theorem cw_up_le (c : Nat → Nat) (p x : Nat) : c x ≤ va_up c p (c p + 1) x := by
  unfold va_up
  by_cases e : x = p
  · rw [if_pos e, e]; omega
  · rw [if_neg e]; exact Nat.le_refl _
theorem cwOk_start {S : WSt} (h : cwOk S) (p : Nat) (b : Bool) : cwOk (cwStart S p b).2 := by
  unfold cwStart
  by_cases e : p < 3
  · rw [if_pos e]; exact h
  · rw [if_neg e]; exact h
theorem cwOk_step {S : WSt} (h : cwOk S) (p : Nat) (b : Bool) : cwOk (cwStep S p b).2 := by
  unfold cwStep
  by_cases e : p < 3 ∧ sC S p < 8
  · rw [if_pos e]
    obtain ⟨hV, h2, h3, h4⟩ := h
    refine ⟨cw_adv_vc hV e.1 e.2, ?_, ?_, h4⟩
    · show sM S ≤ va_up (sC S) p (sC S p + 1) 0 + va_up (sC S) p (sC S p + 1) 1 + va_up (sC S) p (sC S p + 1) 2
      rw [cw_sum_up e.1]
      omega
    · intro i hi
      exact ⟨(h3 i hi).1, Nat.le_trans (h3 i hi).2 (cw_up_le _ _ _)⟩
  · rw [if_neg e]; exact h
theorem cwOk_send {S : WSt} (h : cwOk S) (p : Nat) (b : Bool) : cwOk (cwSend S p b).2 := by
  unfold cwSend
  by_cases e : p < 3 ∧ sC S p < 8
  · rw [if_pos e]
    obtain ⟨hV, h2, h3, h4⟩ := h
    refine ⟨cw_adv_vc hV e.1 e.2, ?_, ?_, ?_⟩
    · show sM S + 1 ≤ va_up (sC S) p (sC S p + 1) 0 + va_up (sC S) p (sC S p + 1) 1 + va_up (sC S) p (sC S p + 1) 2
      rw [cw_sum_up e.1]
      omega
    · intro i hi
      have hi : i < sM S + 1 := hi
      show va_up (sD S) (sM S) p i < 3 ∧ va_up (sI S) (sM S) (sC S p + 1) i ≤ va_up (sC S) p (sC S p + 1) (va_up (sD S) (sM S) p i)
      by_cases e2 : i = sM S
      · rw [e2, va_up_self, va_up_self, va_up_self]
        exact ⟨e.1, Nat.le_refl _⟩
      · rw [va_up_ne _ _ e2, va_up_ne _ _ e2]
        exact ⟨(h3 i (by omega)).1, Nat.le_trans (h3 i (by omega)).2 (cw_up_le _ _ _)⟩
    · intro i hi
      have hi : sM S + 1 ≤ i := hi
      exact h4 i (by omega)
  · rw [if_neg e]; exact h
theorem cwOk_recv {S : WSt} (h : cwOk S) (p i : Nat) (b : Bool) : cwOk (cwRecv S p i b).2 := by
  unfold cwRecv
  by_cases e : p < 3 ∧ sC S p < 8 ∧ i < sM S ∧ sR S i = false ∧ sD S i ≠ p
  · rw [if_pos e]
    obtain ⟨hV, h2, h3, h4⟩ := h
    obtain ⟨e1, e2, e3, e4, e5⟩ := e
    refine ⟨cw_rcv_vc hV e1 e2 (h3 i e3).1 e5 (h3 i e3).2, ?_, ?_, ?_⟩
    · show sM S ≤ va_up (sC S) p (sC S p + 1) 0 + va_up (sC S) p (sC S p + 1) 1 + va_up (sC S) p (sC S p + 1) 2
      rw [cw_sum_up e1]
      omega
    · intro j hj
      exact ⟨(h3 j hj).1, Nat.le_trans (h3 j hj).2 (cw_up_le _ _ _)⟩
    · intro j hj
      have hj : sM S ≤ j := hj
      show va_up (sR S) i true j = false
      rw [va_up_ne _ _ (by omega)]
      exact h4 j hj
  · rw [if_neg e]; exact h
/-- the state at the start -/
def cwS0 : WSt := (fun _ => 0, fun _ => false, fun _ => 0, 0, fun _ => 0, fun _ => 0, fun _ => false)
theorem cwOk_0 : cwOk cwS0 := by
  refine ⟨⟨?_, ?_, ?_, ?_, ?_, ?_⟩, ?_, ?_, ?_⟩
  · intro p _
    exact Nat.zero_le _
  · intro p k _ hk
    have hk : k ≤ 0 := hk
    show 0 = k
    omega
  · intro p k q _ _ _
    exact Nat.zero_le _
  · intro p k k' q _ _ _ _
    exact Nat.le_refl _
  · intro p k q l r _ _ _ _ _
    exact Nat.le_refl _
  · intro p k q l _ _ _ _ h0 hk
    have hk : k ≤ 0 := hk
    omega
  · exact Nat.zero_le _
  · intro i hi
    have hi : i < 0 := hi
    omega
  · intro i _
    rfl
end
section
-- ===== PART A: goes FIRST, ahead of the names: the tables' words, and 'selects' of the private methods out of them =====
/-- a private method of a class that the tables say can be made, by its rows of tables_1 -/
def lw_okq (q : MethodName × Nat) : Prop := (q.1.cls ≠ "java/lang/invoke/MethodHandle" ∧ q.1.cls ≠ "java/lang/invoke/VarHandle") ∧ Cond.instantiable q.1.cls q.2 ∈ tables_1 ∧ Cond.privateMethod q.1 ∈ tables_1 ∧ Cond.instanceMethod q.1 ∈ tables_1
set_option maxRecDepth 100000
theorem lw_p0 : lw_okq (⟨"CutWatch", "advance", "(IZ)V"⟩, 10) := ⟨⟨by decide +kernel, by decide +kernel⟩, List.mem_of_getElem? (i := 4) rfl, List.mem_of_getElem? (i := 56) rfl, List.mem_of_getElem? (i := 57) rfl⟩
theorem lw_p1 : lw_okq (⟨"CutWatch", "knownBy", "(III)I"⟩, 10) := ⟨⟨by decide +kernel, by decide +kernel⟩, List.mem_of_getElem? (i := 4) rfl, List.mem_of_getElem? (i := 68) rfl, List.mem_of_getElem? (i := 69) rfl⟩
theorem lw_p2 : lw_okq (⟨"CutWatch", "findLeast", "(I)Z"⟩, 10) := ⟨⟨by decide +kernel, by decide +kernel⟩, List.mem_of_getElem? (i := 4) rfl, List.mem_of_getElem? (i := 80) rfl, List.mem_of_getElem? (i := 81) rfl⟩
theorem lw_p3 : lw_okq (⟨"CutWatch", "neededState", "(II)I"⟩, 10) := ⟨⟨by decide +kernel, by decide +kernel⟩, List.mem_of_getElem? (i := 4) rfl, List.mem_of_getElem? (i := 84) rfl, List.mem_of_getElem? (i := 85) rfl⟩
theorem lw_p4 : lw_okq (⟨"CutWatch", "stretchesMeet", "(I)Z"⟩, 10) := ⟨⟨by decide +kernel, by decide +kernel⟩, List.mem_of_getElem? (i := 4) rfl, List.mem_of_getElem? (i := 96) rfl, List.mem_of_getElem? (i := 97) rfl⟩
theorem lw_p5 : lw_okq (⟨"CutWatch", "nextStretch", "(II)Z"⟩, 10) := ⟨⟨by decide +kernel, by decide +kernel⟩, List.mem_of_getElem? (i := 4) rfl, List.mem_of_getElem? (i := 100) rfl, List.mem_of_getElem? (i := 101) rfl⟩
theorem lw_p6 : lw_okq (⟨"CutWatch", "tooEarly", "(I)I"⟩, 10) := ⟨⟨by decide +kernel, by decide +kernel⟩, List.mem_of_getElem? (i := 4) rfl, List.mem_of_getElem? (i := 104) rfl, List.mem_of_getElem? (i := 105) rfl⟩
theorem lw_p7 : lw_okq (⟨"CutWatch", "thirdStates", "(II)I"⟩, 10) := ⟨⟨by decide +kernel, by decide +kernel⟩, List.mem_of_getElem? (i := 4) rfl, List.mem_of_getElem? (i := 112) rfl, List.mem_of_getElem? (i := 113) rfl⟩
theorem lw_p8 : lw_okq (⟨"CutWatchModel", "event", "(IZ)V"⟩, 8) := ⟨⟨by decide +kernel, by decide +kernel⟩, List.mem_of_getElem? (i := 120) rfl, List.mem_of_getElem? (i := 162) rfl, List.mem_of_getElem? (i := 163) rfl⟩
theorem lw_p9 : lw_okq (⟨"CutWatchModel", "possible", "(I)Z"⟩, 8) := ⟨⟨by decide +kernel, by decide +kernel⟩, List.mem_of_getElem? (i := 120) rfl, List.mem_of_getElem? (i := 185) rfl, List.mem_of_getElem? (i := 186) rfl⟩
theorem lw_p10 : lw_okq (⟨"CutWatchModel", "isGood", "(II)Z"⟩, 8) := ⟨⟨by decide +kernel, by decide +kernel⟩, List.mem_of_getElem? (i := 120) rfl, List.mem_of_getElem? (i := 192) rfl, List.mem_of_getElem? (i := 193) rfl⟩
theorem lw_p11 : lw_okq (⟨"CutWatchModel", "reached", "(I)Z"⟩, 8) := ⟨⟨by decide +kernel, by decide +kernel⟩, List.mem_of_getElem? (i := 120) rfl, List.mem_of_getElem? (i := 204) rfl, List.mem_of_getElem? (i := 205) rfl⟩
def lw_privs_1 : List (MethodName × Nat) := [(⟨"CutWatch", "advance", "(IZ)V"⟩, 10), (⟨"CutWatch", "knownBy", "(III)I"⟩, 10), (⟨"CutWatch", "findLeast", "(I)Z"⟩, 10), (⟨"CutWatch", "neededState", "(II)I"⟩, 10), (⟨"CutWatch", "stretchesMeet", "(I)Z"⟩, 10), (⟨"CutWatch", "nextStretch", "(II)Z"⟩, 10), (⟨"CutWatch", "tooEarly", "(I)I"⟩, 10), (⟨"CutWatch", "thirdStates", "(II)I"⟩, 10), (⟨"CutWatchModel", "event", "(IZ)V"⟩, 8), (⟨"CutWatchModel", "possible", "(I)Z"⟩, 8), (⟨"CutWatchModel", "isGood", "(II)Z"⟩, 8), (⟨"CutWatchModel", "reached", "(I)Z"⟩, 8)]
theorem lw_r1 : ∀ q ∈ lw_privs_1, lw_okq q := List.forall_mem_cons.mpr ⟨lw_p0, List.forall_mem_cons.mpr ⟨lw_p1, List.forall_mem_cons.mpr ⟨lw_p2, List.forall_mem_cons.mpr ⟨lw_p3, List.forall_mem_cons.mpr ⟨lw_p4, List.forall_mem_cons.mpr ⟨lw_p5, List.forall_mem_cons.mpr ⟨lw_p6, List.forall_mem_cons.mpr ⟨lw_p7, List.forall_mem_cons.mpr ⟨lw_p8, List.forall_mem_cons.mpr ⟨lw_p9, List.forall_mem_cons.mpr ⟨lw_p10, List.forall_mem_cons.mpr ⟨lw_p11, fun _ h => absurd h List.not_mem_nil⟩⟩⟩⟩⟩⟩⟩⟩⟩⟩⟩⟩
def lw_privs : List (MethodName × Nat) := lw_privs_1
def lw_tbl : List Cond := k2_sels lw_privs ++ tables_1
theorem lw_privs_ok : ∀ q ∈ lw_privs, lw_okq q := lw_r1
-- ===== ONE list of words for every method: the tables' words that hold all through a run =====
def lw_all : List Cond := lw_tbl.filter goodWord
/-- a word of the tables by its place: claim/WORDS.tsv -/
theorem lw_w {w : Cond} (i : Nat) (h : lw_tbl[i]? = some w) (g : goodWord w = true) : w ∈ lw_all := List.mem_filter.mpr ⟨List.mem_of_getElem? h, g⟩
theorem lw_all_tbl {w : Cond} (h : w ∈ lw_all) : w ∈ lw_tbl := (List.mem_filter.mp h).1
theorem lw_self : GoodIn lw_all lw_all := fun w h => ⟨h, good_of_word (List.mem_filter.mp h).2⟩
/-- a class's field words, by their places -/
theorem lw_in (ws : List Cond) (ps : List Nat) (hp : ws = ps.filterMap (fun i => lw_tbl[i]?)) (hg : ws.all goodWord = true) : ∀ w ∈ ws, w ∈ lw_all := by
  intro w h
  have h1 := List.all_eq_true.mp hg w h
  rw [hp] at h
  obtain ⟨i, -, hi⟩ := List.mem_filterMap.mp h
  exact lw_w i hi h1
/-- the words of a contract for the method y with code b, L locals, answer r -/
abbrev ws_ (y : MethodName) (b : ByteArray) (L : Nat) (r : Option FieldType) : List Cond := Cond.code y b L r :: lw_all
theorem lw_meth {y : MethodName} {b : ByteArray} {L : Nat} {r : Option FieldType} (h : Cond.code y b L r ∈ lw_all) : GoodIn lw_all (ws_ y b L r) := by
  intro w hw
  rcases List.mem_cons.mp hw with e | e
  · rw [e]
    exact lw_self _ h
  · exact lw_self _ e
theorem lw_app {a c : List Cond} (ha : ∀ w ∈ a, w ∈ lw_all) (hc : GoodIn lw_all c) : GoodIn lw_all (a ++ c) := by
  intro w hw
  rcases List.mem_append.mp hw with e | e
  · exact lw_self w (ha w e)
  · exact hc w e
/-- what a call through an object asks: cwV n hts (lw_V ..) -/
theorem lw_V {own : String} {idx : Nat} {C : String} {y : MethodName} {b : ByteArray} {L : Nat} {r : Option FieldType} (h1 : Cond.methodLink own idx y ∈ lw_all) (h2 : Cond.instanceMethod y ∈ lw_all) (h3 : Cond.selects C y y ∈ lw_all) (h4 : Cond.initialized C ∈ lw_all) (h5 : Cond.code y b L r ∈ lw_all) : GoodIn lw_all (wsV own idx C y (ws_ y b L r)) := by
  refine lw_app ?_ (lw_meth h5)
  intro w hw
  simp only [List.mem_cons, List.not_mem_nil, or_false] at hw
  rcases hw with e | e | e | e
  · rw [e]; exact h1
  · rw [e]; exact h2
  · rw [e]; exact h3
  · rw [e]; exact h4
/-- what a static call asks: va_cwS n hts (lw_S ..) -/
theorem lw_S {own : String} {idx : Nat} {y : MethodName} {b : ByteArray} {L : Nat} {r : Option FieldType} (h1 : Cond.methodLink own idx y ∈ lw_all) (h2 : Cond.static y ∈ lw_all) (h3 : Cond.initialized y.cls ∈ lw_all) (h4 : Cond.code y b L r ∈ lw_all) : GoodIn lw_all (va_wsS own idx y (ws_ y b L r)) := by
  refine lw_app ?_ (lw_meth h4)
  intro w hw
  simp only [List.mem_cons, List.not_mem_nil, or_false] at hw
  rcases hw with e | e | e
  · rw [e]; exact h1
  · rw [e]; exact h2
  · rw [e]; exact h3
/-- the words of a contract for a method WITH HANDLERS (hh: its table) -/
abbrev wsW_ (y : MethodName) (b : ByteArray) (L : Nat) (r : Option FieldType) (hh : List (Nat × Nat × Nat × Nat)) : List Cond := Cond.codeWith y b L r hh :: lw_all
theorem lw_methW {y : MethodName} {b : ByteArray} {L : Nat} {r : Option FieldType} {hh : List (Nat × Nat × Nat × Nat)} (h : Cond.codeWith y b L r hh ∈ lw_all) : GoodIn lw_all (wsW_ y b L r hh) := by
  intro w hw
  rcases List.mem_cons.mp hw with e | e
  · rw [e]
    exact lw_self _ h
  · exact lw_self _ e
/-- any list of words by their places (lw_in), good -/
theorem lw_good {ws : List Cond} (h : ∀ w ∈ ws, w ∈ lw_all) : GoodIn lw_all ws := fun w hw => lw_self w (h w hw)
/-- what a call of a method with handlers asks: vx_cwVW n hts (lw_VW ..), vx_cwSW n hts (lw_SW ..) -/
theorem lw_VW {own : String} {idx : Nat} {C : String} {y : MethodName} {b : ByteArray} {L : Nat} {r : Option FieldType} {hh : List (Nat × Nat × Nat × Nat)} (h1 : Cond.methodLink own idx y ∈ lw_all) (h2 : Cond.instanceMethod y ∈ lw_all) (h3 : Cond.selects C y y ∈ lw_all) (h4 : Cond.initialized C ∈ lw_all) (h5 : Cond.codeWith y b L r hh ∈ lw_all) : GoodIn lw_all (wsV own idx C y (wsW_ y b L r hh)) := by
  refine lw_app ?_ (lw_methW h5)
  intro w hw
  simp only [List.mem_cons, List.not_mem_nil, or_false] at hw
  rcases hw with e | e | e | e
  · rw [e]; exact h1
  · rw [e]; exact h2
  · rw [e]; exact h3
  · rw [e]; exact h4
theorem lw_SW {own : String} {idx : Nat} {y : MethodName} {b : ByteArray} {L : Nat} {r : Option FieldType} {hh : List (Nat × Nat × Nat × Nat)} (h1 : Cond.methodLink own idx y ∈ lw_all) (h2 : Cond.static y ∈ lw_all) (h3 : Cond.initialized y.cls ∈ lw_all) (h4 : Cond.codeWith y b L r hh ∈ lw_all) : GoodIn lw_all (va_wsS own idx y (wsW_ y b L r hh)) := by
  refine lw_app ?_ (lw_methW h4)
  intro w hw
  simp only [List.mem_cons, List.not_mem_nil, or_false] at hw
  rcases hw with e | e | e
  · rw [e]; exact h1
  · rw [e]; exact h2
  · rw [e]; exact h3
/-- a word by its place in its run of the tables -/
theorem lw_at {r : List Cond} (hr : ∀ w ∈ r, w ∈ lw_tbl) {w : Cond} (i : Nat) (h : r[i]? = some w) : w ∈ lw_tbl := hr w (List.mem_of_getElem? h)
theorem lw_g {w : Cond} (h : w ∈ lw_tbl) (g : goodWord w = true) : w ∈ lw_all := List.mem_filter.mpr ⟨h, g⟩
theorem lw_ms : ∀ w ∈ k2_sels lw_privs, w ∈ lw_tbl := fun w h => show w ∈ k2_sels lw_privs ++ tables_1 from List.mem_append_left _ h
theorem lw_m0 : ∀ w ∈ tables_1, w ∈ lw_tbl := fun w h => show w ∈ k2_sels lw_privs ++ tables_1 from List.mem_append_right (k2_sels lw_privs) h
theorem qs0 : (Cond.selects "CutWatch" ⟨"CutWatch", "advance", "(IZ)V"⟩ ⟨"CutWatch", "advance", "(IZ)V"⟩) ∈ lw_all := lw_g (lw_at lw_ms 0 rfl) rfl
theorem qs1 : (Cond.selects "CutWatch" ⟨"CutWatch", "knownBy", "(III)I"⟩ ⟨"CutWatch", "knownBy", "(III)I"⟩) ∈ lw_all := lw_g (lw_at lw_ms 1 rfl) rfl
theorem qs2 : (Cond.selects "CutWatch" ⟨"CutWatch", "findLeast", "(I)Z"⟩ ⟨"CutWatch", "findLeast", "(I)Z"⟩) ∈ lw_all := lw_g (lw_at lw_ms 2 rfl) rfl
theorem qs3 : (Cond.selects "CutWatch" ⟨"CutWatch", "neededState", "(II)I"⟩ ⟨"CutWatch", "neededState", "(II)I"⟩) ∈ lw_all := lw_g (lw_at lw_ms 3 rfl) rfl
theorem qs4 : (Cond.selects "CutWatch" ⟨"CutWatch", "stretchesMeet", "(I)Z"⟩ ⟨"CutWatch", "stretchesMeet", "(I)Z"⟩) ∈ lw_all := lw_g (lw_at lw_ms 4 rfl) rfl
theorem qs5 : (Cond.selects "CutWatch" ⟨"CutWatch", "nextStretch", "(II)Z"⟩ ⟨"CutWatch", "nextStretch", "(II)Z"⟩) ∈ lw_all := lw_g (lw_at lw_ms 5 rfl) rfl
theorem qs6 : (Cond.selects "CutWatch" ⟨"CutWatch", "tooEarly", "(I)I"⟩ ⟨"CutWatch", "tooEarly", "(I)I"⟩) ∈ lw_all := lw_g (lw_at lw_ms 6 rfl) rfl
theorem qs7 : (Cond.selects "CutWatch" ⟨"CutWatch", "thirdStates", "(II)I"⟩ ⟨"CutWatch", "thirdStates", "(II)I"⟩) ∈ lw_all := lw_g (lw_at lw_ms 7 rfl) rfl
theorem qs8 : (Cond.selects "CutWatchModel" ⟨"CutWatchModel", "event", "(IZ)V"⟩ ⟨"CutWatchModel", "event", "(IZ)V"⟩) ∈ lw_all := lw_g (lw_at lw_ms 8 rfl) rfl
theorem qs9 : (Cond.selects "CutWatchModel" ⟨"CutWatchModel", "possible", "(I)Z"⟩ ⟨"CutWatchModel", "possible", "(I)Z"⟩) ∈ lw_all := lw_g (lw_at lw_ms 9 rfl) rfl
theorem qs10 : (Cond.selects "CutWatchModel" ⟨"CutWatchModel", "isGood", "(II)Z"⟩ ⟨"CutWatchModel", "isGood", "(II)Z"⟩) ∈ lw_all := lw_g (lw_at lw_ms 10 rfl) rfl
theorem qs11 : (Cond.selects "CutWatchModel" ⟨"CutWatchModel", "reached", "(I)Z"⟩ ⟨"CutWatchModel", "reached", "(I)Z"⟩) ∈ lw_all := lw_g (lw_at lw_ms 11 rfl) rfl
end
section
/-! ROWS of this claim: numbers as Nat, arrays as functions to Nat or Bool, a rule for a loop, for a join of two ways, for a method's start and end, for a call -/
def bI (b : Bool) : Int32 := if b = true then 1 else 0
theorem bI_t : bI true = 1 := rfl
theorem bI_f : bI false = 0 := rfl
theorem bI_0 {b : Bool} : bI b = 0 ↔ b = false := by cases b <;> decide
def nF (f : Nat → Nat) : Nat → Int32 := fun j => nI (f j)
def bF (f : Nat → Bool) : Nat → Int32 := fun j => bI (f j)
theorem cw_updN (f : Nat → Nat) (k v : Nat) : upd (nF f) k (nI v) = nF (va_up f k v) := by
  funext j
  unfold upd nF va_up
  by_cases h : j = k
  · rw [if_pos h, if_pos h]
  · rw [if_neg h, if_neg h]
theorem cw_updB (f : Nat → Bool) (k : Nat) (v : Bool) : upd (bF f) k (bI v) = bF (va_up f k v) := by
  funext j
  unfold upd bF va_up
  by_cases h : j = k
  · rw [if_pos h, if_pos h]
  · rw [if_neg h, if_neg h]
theorem cw_narZ (b : Bool) : vp_nar .boolean (bI b) = bI b := by cases b <;> rfl
/-- the place that an int names among n, or n -/
def cwIx (x : Int32) (n : Nat) : Nat := if 0 ≤ x.toInt ∧ x.toInt < (n : Int) then x.toInt.toNat else n
theorem cwIx_nI {j n : Nat} (hj : j < n) (hn : n < 2 ^ 31) : cwIx (nI j) n = j := by
  unfold cwIx
  rw [nI_toInt (by omega), if_pos (by omega)]
  omega
theorem cwIx_neg {x : Int32} {n : Nat} (h : x < 0) : cwIx x n = n := by
  have h1 : x.toInt < (0 : Int32).toInt := Int32.lt_iff_toInt_lt.mp h
  have h2 : (0 : Int32).toInt = 0 := rfl
  unfold cwIx
  rw [if_neg (by omega)]
theorem cwIx_ge {x : Int32} {n : Nat} (hn : n < 2 ^ 31) (h : nI n ≤ x) : cwIx x n = n := by
  have h1 : (nI n).toInt ≤ x.toInt := Int32.le_iff_toInt_le.mp h
  rw [nI_toInt hn] at h1
  unfold cwIx
  rw [if_neg (by omega)]
theorem cwIx_of {x : Int32} {n : Nat} (hn : n < 2 ^ 31) (h0 : ¬ x < 0) (h1 : ¬ nI n ≤ x) : ∃ j : Nat, j < n ∧ x = nI j := by
  rcases pk_ix x hn with h | h | h
  · exact absurd h h0
  · exact absurd h h1
  · exact h
theorem cwIx_gt {x : Int32} {n : Nat} (hn : n + 1 < 2 ^ 31) (h : nI n < x) : cwIx x (n + 1) = n + 1 := by
  have h1 : (nI n).toInt < x.toInt := Int32.lt_iff_toInt_lt.mp h
  rw [nI_toInt (by omega)] at h1
  unfold cwIx
  rw [if_neg (by omega)]
theorem cwIx_of' {x : Int32} {n : Nat} (hn : n + 1 < 2 ^ 31) (h0 : ¬ x < 0) (h1 : ¬ nI n < x) : ∃ j : Nat, j < n + 1 ∧ x = nI j := by
  refine cwIx_of hn h0 (fun h => h1 ?_)
  rw [Int32.lt_iff_toInt_lt]
  have h2 := Int32.le_iff_toInt_le.mp h
  rw [nI_toInt hn] at h2
  rw [nI_toInt (by omega)]
  omega
theorem cwBit_or (s p : Nat) : cwBit s p = 0 ∨ cwBit s p = 1 := by
  unfold cwBit
  omega
theorem cw_bu : ∀ s, s < 8 → ∀ p, p < 3 → ((((nI s).toUInt32 >>> ((nI p).toUInt32 &&& Int32.toUInt32 31)).toInt32) &&& (1 : Int32)) = nI (cwBit s p) := by decide +kernel
theorem cw_bs : ∀ s, s < 8 → ∀ p, p < 3 → ((nI s >>> (nI p &&& 31)) &&& (1 : Int32)) = nI (cwBit s p) := by decide +kernel
def cwB (D : va_G) (cl : List vw_C) (tys : List (ClassId × FieldType)) (A : Nat → Prop) (w : va_W) (t : State) : Prop := va_P D cl w t.heap ∧ va_K D cl tys t ∧ va_D A w
/-- a contract: an int (or boolean) answer, a world that becomes another, no new cells -/
def cwMi (l : Launch) (y : MethodName) (cc : ByteArray) (maxL : Nat) (ret : Option FieldType) (fr lo : Nat) (D : va_G) (cl : List vw_C) (tys : List (ClassId × FieldType)) (av : List Value) (w : va_W) {S0 : Type} (post : Int32 → S0 → Prop) (wf : S0 → va_W) : Prop :=
  ∀ sz : Nat, Met l y (ws_ y cc maxL ret) ({ frames := fr, cells := 0, slots := 0, locals := lo }) (va_Pc av (fun U => U.heap.size = sz ∧ va_P D cl w U.heap ∧ va_K D cl tys U ∧ va_D (fun _ => True) w)) (va_Qi post (fun u t => cwB D cl tys (va_A w sz) (wf u) t) (va_A w sz)) 0 0 (va_A w sz)
/-- the same without an answer -/
def cwMv (l : Launch) (y : MethodName) (cc : ByteArray) (maxL : Nat) (fr lo : Nat) (D : va_G) (cl : List vw_C) (tys : List (ClassId × FieldType)) (av : List Value) (w : va_W) {S0 : Type} (post : S0 → Prop) (wf : S0 → va_W) : Prop :=
  ∀ sz : Nat, Met l y (ws_ y cc maxL none) ({ frames := fr, cells := 0, slots := 0, locals := lo }) (va_Pc av (fun U => U.heap.size = sz ∧ va_P D cl w U.heap ∧ va_K D cl tys U ∧ va_D (fun _ => True) w)) (va_Qv post (fun u t => cwB D cl tys (va_A w sz) (wf u) t) (va_A w sz)) 0 0 (va_A w sz)
theorem cw_met {l : Launch} {y : MethodName} {cc : ByteArray} {maxL : Nat} {ret : Option FieldType} {fr lo : Nat} {D : va_G} {cl : List vw_C} {tys : List (ClassId × FieldType)} {av : List Value} {w : va_W} {S0 : Type} {post : Int32 → S0 → Prop} {wf : S0 → va_W} (lv : List (Nat × Value)) (hy : plainName y.cls = true) (hlen : (lg_sl av).length ≤ maxL) (hlv : lv_args 0 av = lv)
    (body : ∀ (p : Program) (e : Env) (s : State) (m : MethodId) (below : List Frame) (meth : Method) (c : Code) (A : Nat → Prop) (ls : Array Slot), p.tables.exec = Jvm.exec → c.code = cc → meth.sig.returnType = ret → meth.locks = false → c.maxLocals = maxL → s.vm.findClass y.cls = some m.cls → (∀ w ∈ lw_all, w.before av.toArray s = true) → (∀ q : Nat, s.heap.size ≤ q → A q) → va_P D cl w s.heap → va_K D cl tys s → va_D A w → va_S A s.heap s.heap [] → lv_has ls maxL lv →
      W p l e ({ frames := fr, cells := 0, slots := 0, locals := lo }) s m av.toArray below meth c s.heap [] 0 0 (MQ below (va_Qi post (fun u t => cwB D cl tys A (wf u) t) A) av.toArray s 0 0 A) (F0 m 0 ls [])) : cwMi l y cc maxL ret fr lo D cl tys av w post wf := by
  intro sz
  refine Met.ofW (cc := cc) (maxL := maxL) (ret := ret) hy rfl ?_
  intro p e s m args below meth c s₁ B hml hv
  obtain ⟨rfl, hsz, hP, hK, hD0⟩ := hv
  have hts := atoms_spec (ws := ws_ y cc maxL ret) B.pre
  have hts : ∀ w ∈ lw_all, w.before _ s = true := fun w h => hts w (List.mem_cons_of_mem _ h)
  have hown : s.vm.findClass y.cls = some m.cls := findClass_of_methodNamed B.named
  subst hsz
  have hD := hD0.self (sz := s.heap.size)
  have hl := lv_entry av (n := maxL) hlen
  rw [hlv] at hl
  rw [lg_entry_eq]
  exact body p e s m below meth c (va_A w s.heap.size) _ B.exec B.bytes B.returns B.notSynchronized hml hown hts (fun q h => Or.inr h) hP hK hD va_S.rf hl
theorem cw_metv {l : Launch} {y : MethodName} {cc : ByteArray} {maxL : Nat} {fr lo : Nat} {D : va_G} {cl : List vw_C} {tys : List (ClassId × FieldType)} {av : List Value} {w : va_W} {S0 : Type} {post : S0 → Prop} {wf : S0 → va_W} (lv : List (Nat × Value)) (hy : plainName y.cls = true) (hlen : (lg_sl av).length ≤ maxL) (hlv : lv_args 0 av = lv)
    (body : ∀ (p : Program) (e : Env) (s : State) (m : MethodId) (below : List Frame) (meth : Method) (c : Code) (A : Nat → Prop) (ls : Array Slot), p.tables.exec = Jvm.exec → c.code = cc → meth.sig.returnType = none → meth.locks = false → c.maxLocals = maxL → s.vm.findClass y.cls = some m.cls → (∀ w ∈ lw_all, w.before av.toArray s = true) → (∀ q : Nat, s.heap.size ≤ q → A q) → va_P D cl w s.heap → va_K D cl tys s → va_D A w → va_S A s.heap s.heap [] → lv_has ls maxL lv →
      W p l e ({ frames := fr, cells := 0, slots := 0, locals := lo }) s m av.toArray below meth c s.heap [] 0 0 (MQ below (va_Qv post (fun u t => cwB D cl tys A (wf u) t) A) av.toArray s 0 0 A) (F0 m 0 ls [])) : cwMv l y cc maxL fr lo D cl tys av w post wf := by
  intro sz
  refine Met.ofW (cc := cc) (maxL := maxL) (ret := none) hy rfl ?_
  intro p e s m args below meth c s₁ B hml hv
  obtain ⟨rfl, hsz, hP, hK, hD0⟩ := hv
  have hts := atoms_spec (ws := ws_ y cc maxL none) B.pre
  have hts : ∀ w ∈ lw_all, w.before _ s = true := fun w h => hts w (List.mem_cons_of_mem _ h)
  have hown : s.vm.findClass y.cls = some m.cls := findClass_of_methodNamed B.named
  subst hsz
  have hD := hD0.self (sz := s.heap.size)
  have hl := lv_entry av (n := maxL) hlen
  rw [hlv] at hl
  rw [lg_entry_eq]
  exact body p e s m below meth c (va_A w s.heap.size) _ B.exec B.bytes B.returns B.notSynchronized hml hown hts (fun q h => Or.inr h) hP hK hD va_S.rf hl
section CWR
variable {p : Program} {l : Launch} {e : Env} {R : Room} {s : State} {m : MethodId} {args : Array Value} {below : List Frame} {meth : Method} {c : Code} {H : Heap} {locs : List Loc} {cells slots : Nat} {Q : State → Prop}
variable {cc : ByteArray} {pc : Nat} {ls : Array Slot} {rest : List Value}
/-- a loop, by a number that falls -/
theorem cw_loop {head : Nat} (I : Nat → Heap → List Loc → Array Slot → Prop)
    (hs : ∀ (n : Nat) (H : Heap) (locs : List Loc) (ls : Array Slot), I n H locs ls → (∀ (n' : Nat) (H' : Heap) (locs' : List Loc) (ls' : Array Slot), n' < n → I n' H' locs' ls' → W p l e R s m args below meth c H' locs' cells slots Q (F0 m head ls' [])) → W p l e R s m args below meth c H locs cells slots Q (F0 m head ls []))
    (n : Nat) (hI : I n H locs ls) : W p l e R s m args below meth c H locs cells slots Q (F0 m head ls []) := by
  have key : ∀ (n : Nat) (H : Heap) (locs : List Loc) (ls : Array Slot), I n H locs ls → W p l e R s m args below meth c H locs cells slots Q (F0 m head ls []) := by
    intro n
    induction n using Nat.strongRecOn with
    | _ n ih =>
      intro H locs ls hI
      exact hs n H locs ls hI (fun n' H' locs' ls' hlt hI' => ih n' hlt H' locs' ls' hI')
  exact key n H locs ls hI
/-- two ways come to one place -/
theorem cw_join {g : JFrame} {pc' : Nat} {st' : List Value} (k : W p l e R s m args below meth c H locs cells slots Q (F0 m pc' ls st')) (b : W p l e R s m args below meth c H locs cells slots Q (F0 m pc' ls st') → W p l e R s m args below meth c H locs cells slots Q g) : W p l e R s m args below meth c H locs cells slots Q g := b k
theorem cw_cut {g : JFrame} {pc' : Nat} (J : Heap → List Loc → Array Slot → List Value → Prop) (k : ∀ (H' : Heap) (locs' : List Loc) (ls' : Array Slot) (st' : List Value), J H' locs' ls' st' → W p l e R s m args below meth c H' locs' cells slots Q (F0 m pc' ls' st'))
    (b : (∀ (H' : Heap) (locs' : List Loc) (ls' : Array Slot) (st' : List Value), J H' locs' ls' st' → W p l e R s m args below meth c H' locs' cells slots Q (F0 m pc' ls' st')) → W p l e R s m args below meth c H locs cells slots Q g) : W p l e R s m args below meth c H locs cells slots Q g := b k
theorem cw_nat {a b : Nat} (h : a = b) (k : W p l e R s m args below meth c H locs cells slots Q (F0 m pc ls (.int (nI b) :: rest))) : W p l e R s m args below meth c H locs cells slots Q (F0 m pc ls (.int (nI a) :: rest)) := by rw [h]; exact k
theorem cw_top {x y : Int32} (h : x = y) (k : W p l e R s m args below meth c H locs cells slots Q (F0 m pc ls (.int y :: rest))) : W p l e R s m args below meth c H locs cells slots Q (F0 m pc ls (.int x :: rest)) := by rw [h]; exact k
theorem cw_iadd (hexec : p.tables.exec = Jvm.exec) (hb : c.code = cc) {x y : Nat} (hdg : decode cc pc = .ok (.iadd, 1)) (k : W p l e R s m args below meth c H locs cells slots Q (F0 m (pc + 1) ls (.int (nI (x + y)) :: rest))) : W p l e R s m args below meth c H locs cells slots Q (F0 m pc ls (.int (nI y) :: .int (nI x) :: rest)) := lv_iadd hexec hb hdg (by rw [nI_add]; exact k)
theorem cw_imul (hexec : p.tables.exec = Jvm.exec) (hb : c.code = cc) {x y : Nat} (hdg : decode cc pc = .ok (.imul, 1)) (k : W p l e R s m args below meth c H locs cells slots Q (F0 m (pc + 1) ls (.int (nI (x * y)) :: rest))) : W p l e R s m args below meth c H locs cells slots Q (F0 m pc ls (.int (nI y) :: .int (nI x) :: rest)) := lv_imul hexec hb hdg (by rw [pk_mul]; exact k)
theorem cw_isub (hexec : p.tables.exec = Jvm.exec) (hb : c.code = cc) {x y : Nat} (h : y ≤ x) (hdg : decode cc pc = .ok (.isub, 1)) (k : W p l e R s m args below meth c H locs cells slots Q (F0 m (pc + 1) ls (.int (nI (x - y)) :: rest))) : W p l e R s m args below meth c H locs cells slots Q (F0 m pc ls (.int (nI y) :: .int (nI x) :: rest)) := lv_isub hexec hb hdg (by rw [pk_sub h]; exact k)
theorem cw_idiv (hexec : p.tables.exec = Jvm.exec) (hb : c.code = cc) {x y : Nat} (hx : x < 2 ^ 31) (h0 : 0 < y) (hy : y < 2 ^ 31) (hdg : decode cc pc = .ok (.idiv, 1)) (k : W p l e R s m args below meth c H locs cells slots Q (F0 m (pc + 1) ls (.int (nI (x / y)) :: rest))) : W p l e R s m args below meth c H locs cells slots Q (F0 m pc ls (.int (nI y) :: .int (nI x) :: rest)) := lv_idiv hexec hb hdg (nI_ne0 h0 hy) (by rw [pk_div hx h0 hy]; exact k)
theorem cw_irem (hexec : p.tables.exec = Jvm.exec) (hb : c.code = cc) {x y : Nat} (hx : x < 2 ^ 31) (h0 : 0 < y) (hy : y < 2 ^ 31) (hdg : decode cc pc = .ok (.irem, 1)) (k : W p l e R s m args below meth c H locs cells slots Q (F0 m (pc + 1) ls (.int (nI (x % y)) :: rest))) : W p l e R s m args below meth c H locs cells slots Q (F0 m pc ls (.int (nI y) :: .int (nI x) :: rest)) := lv_irem hexec hb hdg (nI_ne0 h0 hy) (by rw [pk_rem hx h0 hy]; exact k)
/-- (set >>> p) & 1, three instructions -/
theorem cw_bitu (hexec : p.tables.exec = Jvm.exec) (hb : c.code = cc) {x y : Nat} (hx : x < 8) (hy : y < 3) (d1 : decode cc pc = .ok (.iushr, 1)) (d2 : decode cc (pc + 1) = .ok (.iconst 1, 1)) (d3 : decode cc (pc + 2) = .ok (.iand, 1)) (k : W p l e R s m args below meth c H locs cells slots Q (F0 m (pc + 3) ls (.int (nI (cwBit x y)) :: rest))) : W p l e R s m args below meth c H locs cells slots Q (F0 m pc ls (.int (nI y) :: .int (nI x) :: rest)) := by
  refine lv_iushr hexec hb d1 rfl ?_
  refine lv_iconst (v := 1) hexec hb d2 (by decide) ?_
  refine lv_iand hexec hb d3 ?_
  rw [cw_bu x hx y hy]
  exact k
theorem cw_bits (hexec : p.tables.exec = Jvm.exec) (hb : c.code = cc) {x y : Nat} (hx : x < 8) (hy : y < 3) (d1 : decode cc pc = .ok (.ishr, 1)) (d2 : decode cc (pc + 1) = .ok (.iconst 1, 1)) (d3 : decode cc (pc + 2) = .ok (.iand, 1)) (k : W p l e R s m args below meth c H locs cells slots Q (F0 m (pc + 3) ls (.int (nI (cwBit x y)) :: rest))) : W p l e R s m args below meth c H locs cells slots Q (F0 m pc ls (.int (nI y) :: .int (nI x) :: rest)) := by
  refine lv_ishr hexec hb d1 ?_
  refine lv_iconst (v := 1) hexec hb d2 (by decide) ?_
  refine lv_iand hexec hb d3 ?_
  rw [cw_bs x hx y hy]
  exact k
theorem cw_ge (hexec : p.tables.exec = Jvm.exec) (hb : c.code = cc) {x y : Nat} {off : Int} {tgt : Nat} (hx : x < 2 ^ 31) (hy : y < 2 ^ 31) (hdg : decode cc pc = .ok (.if_icmp .ge off, 3)) (ht : (pc : Int) + off = (tgt : Int)) (kt : y ≤ x → W p l e R s m args below meth c H locs cells slots Q (F0 m tgt ls rest)) (kf : x < y → W p l e R s m args below meth c H locs cells slots Q (F0 m (pc + 3) ls rest)) : W p l e R s m args below meth c H locs cells slots Q (F0 m pc ls (.int (nI y) :: .int (nI x) :: rest)) :=
  lv_icmp_ge hexec hb hdg ht (fun h => kt ((nI_leI hy hx).mp h)) (fun h => kf (Nat.lt_of_not_le fun h2 => h ((nI_leI hy hx).mpr h2)))
theorem cw_le (hexec : p.tables.exec = Jvm.exec) (hb : c.code = cc) {x y : Nat} {off : Int} {tgt : Nat} (hx : x < 2 ^ 31) (hy : y < 2 ^ 31) (hdg : decode cc pc = .ok (.if_icmp .le off, 3)) (ht : (pc : Int) + off = (tgt : Int)) (kt : x ≤ y → W p l e R s m args below meth c H locs cells slots Q (F0 m tgt ls rest)) (kf : y < x → W p l e R s m args below meth c H locs cells slots Q (F0 m (pc + 3) ls rest)) : W p l e R s m args below meth c H locs cells slots Q (F0 m pc ls (.int (nI y) :: .int (nI x) :: rest)) :=
  lv_icmp_le hexec hb hdg ht (fun h => kt ((nI_leI hx hy).mp h)) (fun h => kf (Nat.lt_of_not_le fun h2 => h ((nI_leI hx hy).mpr h2)))
theorem cw_lt (hexec : p.tables.exec = Jvm.exec) (hb : c.code = cc) {x y : Nat} {off : Int} {tgt : Nat} (hx : x < 2 ^ 31) (hy : y < 2 ^ 31) (hdg : decode cc pc = .ok (.if_icmp .lt off, 3)) (ht : (pc : Int) + off = (tgt : Int)) (kt : x < y → W p l e R s m args below meth c H locs cells slots Q (F0 m tgt ls rest)) (kf : y ≤ x → W p l e R s m args below meth c H locs cells slots Q (F0 m (pc + 3) ls rest)) : W p l e R s m args below meth c H locs cells slots Q (F0 m pc ls (.int (nI y) :: .int (nI x) :: rest)) :=
  lv_icmp_lt hexec hb hdg ht (fun h => kt ((nI_ltI hx hy).mp h)) (fun h => kf (Nat.le_of_not_lt fun h2 => h ((nI_ltI hx hy).mpr h2)))
theorem cw_gt (hexec : p.tables.exec = Jvm.exec) (hb : c.code = cc) {x y : Nat} {off : Int} {tgt : Nat} (hx : x < 2 ^ 31) (hy : y < 2 ^ 31) (hdg : decode cc pc = .ok (.if_icmp .gt off, 3)) (ht : (pc : Int) + off = (tgt : Int)) (kt : y < x → W p l e R s m args below meth c H locs cells slots Q (F0 m tgt ls rest)) (kf : x ≤ y → W p l e R s m args below meth c H locs cells slots Q (F0 m (pc + 3) ls rest)) : W p l e R s m args below meth c H locs cells slots Q (F0 m pc ls (.int (nI y) :: .int (nI x) :: rest)) :=
  lv_icmp_gt hexec hb hdg ht (fun h => kt ((nI_ltI hy hx).mp h)) (fun h => kf (Nat.le_of_not_lt fun h2 => h ((nI_ltI hy hx).mpr h2)))
theorem cw_eq (hexec : p.tables.exec = Jvm.exec) (hb : c.code = cc) {x y : Nat} {off : Int} {tgt : Nat} (hx : x < 2 ^ 31) (hy : y < 2 ^ 31) (hdg : decode cc pc = .ok (.if_icmp .eq off, 3)) (ht : (pc : Int) + off = (tgt : Int)) (kt : x = y → W p l e R s m args below meth c H locs cells slots Q (F0 m tgt ls rest)) (kf : ¬ x = y → W p l e R s m args below meth c H locs cells slots Q (F0 m (pc + 3) ls rest)) : W p l e R s m args below meth c H locs cells slots Q (F0 m pc ls (.int (nI y) :: .int (nI x) :: rest)) :=
  lv_icmp_eq hexec hb hdg ht (fun h => kt ((nI_eq hx hy).mp h)) (fun h => kf (fun h2 => h ((nI_eq hx hy).mpr h2)))
theorem cw_ne (hexec : p.tables.exec = Jvm.exec) (hb : c.code = cc) {x y : Nat} {off : Int} {tgt : Nat} (hx : x < 2 ^ 31) (hy : y < 2 ^ 31) (hdg : decode cc pc = .ok (.if_icmp .ne off, 3)) (ht : (pc : Int) + off = (tgt : Int)) (kt : ¬ x = y → W p l e R s m args below meth c H locs cells slots Q (F0 m tgt ls rest)) (kf : x = y → W p l e R s m args below meth c H locs cells slots Q (F0 m (pc + 3) ls rest)) : W p l e R s m args below meth c H locs cells slots Q (F0 m pc ls (.int (nI y) :: .int (nI x) :: rest)) :=
  lv_icmp_ne hexec hb hdg ht (fun h => kt (fun h2 => h ((nI_eq hx hy).mpr h2))) (fun h => kf ((nI_eq hx hy).mp h))
/-- a number against zero -/
theorem cw_eq0 (hexec : p.tables.exec = Jvm.exec) (hb : c.code = cc) {x : Nat} {off : Int} {tgt : Nat} (hx : x < 2 ^ 31) (hdg : decode cc pc = .ok (.ifCond .eq off, 3)) (ht : (pc : Int) + off = (tgt : Int)) (kt : x = 0 → W p l e R s m args below meth c H locs cells slots Q (F0 m tgt ls rest)) (kf : ¬ x = 0 → W p l e R s m args below meth c H locs cells slots Q (F0 m (pc + 3) ls rest)) : W p l e R s m args below meth c H locs cells slots Q (F0 m pc ls (.int (nI x) :: rest)) :=
  lv_if_eq hexec hb hdg ht (fun h => kt ((nI_eq hx (by decide)).mp (h.trans nI_0.symm))) (fun h => kf (fun h2 => h (by rw [h2]; exact nI_0)))
theorem cw_ne0 (hexec : p.tables.exec = Jvm.exec) (hb : c.code = cc) {x : Nat} {off : Int} {tgt : Nat} (hx : x < 2 ^ 31) (hdg : decode cc pc = .ok (.ifCond .ne off, 3)) (ht : (pc : Int) + off = (tgt : Int)) (kt : ¬ x = 0 → W p l e R s m args below meth c H locs cells slots Q (F0 m tgt ls rest)) (kf : x = 0 → W p l e R s m args below meth c H locs cells slots Q (F0 m (pc + 3) ls rest)) : W p l e R s m args below meth c H locs cells slots Q (F0 m pc ls (.int (nI x) :: rest)) :=
  lv_if_ne hexec hb hdg ht (fun h => kt (fun h2 => h (by rw [h2]; exact nI_0))) (fun h => kf ((nI_eq hx (by decide)).mp (h.trans nI_0.symm)))
theorem cw_le0 (hexec : p.tables.exec = Jvm.exec) (hb : c.code = cc) {x : Nat} {off : Int} {tgt : Nat} (hx : x < 2 ^ 31) (hdg : decode cc pc = .ok (.ifCond .le off, 3)) (ht : (pc : Int) + off = (tgt : Int)) (kt : x = 0 → W p l e R s m args below meth c H locs cells slots Q (F0 m tgt ls rest)) (kf : 0 < x → W p l e R s m args below meth c H locs cells slots Q (F0 m (pc + 3) ls rest)) : W p l e R s m args below meth c H locs cells slots Q (F0 m pc ls (.int (nI x) :: rest)) :=
  lv_if_le hexec hb hdg ht (fun h => kt (by
    rcases Nat.eq_zero_or_pos x with q | q
    · exact q
    · exact absurd h (nI_nle q hx))) (fun h => kf (by
    rcases Nat.eq_zero_or_pos x with q | q
    · exact absurd (by rw [q, nI_0]; decide) h
    · exact q))
/-- no number is below zero -/
theorem cw_lt0 (hexec : p.tables.exec = Jvm.exec) (hb : c.code = cc) {x : Nat} {off : Int} {tgt : Nat} (hx : x < 2 ^ 31) (hdg : decode cc pc = .ok (.ifCond .lt off, 3)) (ht : (pc : Int) + off = (tgt : Int)) (k : W p l e R s m args below meth c H locs cells slots Q (F0 m (pc + 3) ls rest)) : W p l e R s m args below meth c H locs cells slots Q (F0 m pc ls (.int (nI x) :: rest)) :=
  lv_if_lt hexec hb hdg ht (fun h => absurd h (nI_pos hx)) (fun _ => k)
/-- a boolean -/
theorem cw_zeq (hexec : p.tables.exec = Jvm.exec) (hb : c.code = cc) {b : Bool} {off : Int} {tgt : Nat} (hdg : decode cc pc = .ok (.ifCond .eq off, 3)) (ht : (pc : Int) + off = (tgt : Int)) (kt : b = false → W p l e R s m args below meth c H locs cells slots Q (F0 m tgt ls rest)) (kf : b = true → W p l e R s m args below meth c H locs cells slots Q (F0 m (pc + 3) ls rest)) : W p l e R s m args below meth c H locs cells slots Q (F0 m pc ls (.int (bI b) :: rest)) :=
  lv_if_eq hexec hb hdg ht (fun h => kt (bI_0.mp h)) (fun h => kf (by cases b <;> first | rfl | exact absurd rfl h))
theorem cw_zne (hexec : p.tables.exec = Jvm.exec) (hb : c.code = cc) {b : Bool} {off : Int} {tgt : Nat} (hdg : decode cc pc = .ok (.ifCond .ne off, 3)) (ht : (pc : Int) + off = (tgt : Int)) (kt : b = true → W p l e R s m args below meth c H locs cells slots Q (F0 m tgt ls rest)) (kf : b = false → W p l e R s m args below meth c H locs cells slots Q (F0 m (pc + 3) ls rest)) : W p l e R s m args below meth c H locs cells slots Q (F0 m pc ls (.int (bI b) :: rest)) :=
  lv_if_ne hexec hb hdg ht (fun h => kt (by cases b <;> first | rfl | exact absurd rfl h)) (fun h => kf (bI_0.mp h))
/-- x != 0 as a boolean: ifeq, 1, goto, 0 -/
theorem cw_bool (hexec : p.tables.exec = Jvm.exec) (hb : c.code = cc) {x : Int32} (d1 : decode cc pc = .ok (.ifCond .eq 7, 3)) (d2 : decode cc (pc + 3) = .ok (.iconst 1, 1)) (d3 : decode cc (pc + 4) = .ok (.goto 4, 3)) (d4 : decode cc (pc + 7) = .ok (.iconst 0, 1)) (k : W p l e R s m args below meth c H locs cells slots Q (F0 m (pc + 8) ls (.int (bI (x != 0)) :: rest))) : W p l e R s m args below meth c H locs cells slots Q (F0 m pc ls (.int x :: rest)) := by
  refine lv_if_eq (tgt := pc + 7) hexec hb d1 (by omega) (fun h => ?_) (fun h => ?_)
  · refine lv_iconst (v := bI (x != 0)) hexec hb d4 (by rw [h]; decide) ?_
    exact k
  · refine lv_iconst (v := bI (x != 0)) hexec hb d2 (by rw [show (x != 0) = true by simp [h]]; decide) ?_
    refine lv_goto (tgt := pc + 8) hexec hb d3 (by omega) ?_
    exact k
section CWA
variable {D : va_G} {cl : List vw_C} {A : Nat → Prop} {tys : List (ClassId × FieldType)} {ws : va_W} {H0 : Heap}
theorem cw_iald (hexec : p.tables.exec = Jvm.exec) (hb : c.code = cc) (hK : va_K D cl tys s) (hP : va_P D cl ws H) (q0 t0 : Nat) {a : Nat} {cA : ClassId} {n : Nat} {f : Nat → Nat} (ha : ws[q0]? = some (a, .inl (cA, n, .inl (nF f)))) (ht : tys[t0]? = some (cA, .int)) {i : Nat} (hi : i < n) (hn : n < 2 ^ 31) (hdg : decode cc pc = .ok (.iaload, 1))
    (kk : W p l e R s m args below meth c H locs cells slots Q (F0 m (pc + 1) ls (.int (nI (f i)) :: rest))) : W p l e R s m args below meth c H locs cells slots Q (F0 m pc ls (.int (nI i) :: .ref a :: rest)) := by
  refine va_iald hexec hb hK hP q0 t0 ha ht (vp_in_nI hi hn) hdg ?_
  rw [nI_clamp (by omega)]
  exact kk
theorem cw_zald (hexec : p.tables.exec = Jvm.exec) (hb : c.code = cc) (hK : va_K D cl tys s) (hP : va_P D cl ws H) (q0 t0 : Nat) {a : Nat} {cA : ClassId} {n : Nat} {f : Nat → Bool} (ha : ws[q0]? = some (a, .inl (cA, n, .inl (bF f)))) (ht : tys[t0]? = some (cA, .boolean)) {i : Nat} (hi : i < n) (hn : n < 2 ^ 31) (hdg : decode cc pc = .ok (.baload, 1))
    (kk : W p l e R s m args below meth c H locs cells slots Q (F0 m (pc + 1) ls (.int (bI (f i)) :: rest))) : W p l e R s m args below meth c H locs cells slots Q (F0 m pc ls (.int (nI i) :: .ref a :: rest)) := by
  refine va_zald hexec hb hK hP q0 t0 ha ht (vp_in_nI hi hn) hdg ?_
  rw [nI_clamp (by omega)]
  exact kk
theorem cw_iast (hexec : p.tables.exec = Jvm.exec) (hb : c.code = cc) (hK : va_K D cl tys s) (hP : va_P D cl ws H) (hD : va_D A ws) (hS : va_S A H0 H locs) (q0 t0 : Nat) {a : Nat} {cA : ClassId} {n : Nat} {f : Nat → Nat} (ha : ws[q0]? = some (a, .inl (cA, n, .inl (nF f)))) (ht : tys[t0]? = some (cA, .int)) {i x : Nat} (hi : i < n) (hn : n < 2 ^ 31) (hdg : decode cc pc = .ok (.iastore, 1))
    (kk : ∀ (H1 : Heap) (locs1 : List Loc), va_P D cl (ws.set q0 (a, .inl (cA, n, .inl (nF (va_up f i x))))) H1 → va_D A (ws.set q0 (a, .inl (cA, n, .inl (nF (va_up f i x))))) → va_S A H0 H1 locs1 → W p l e R s m args below meth c H1 locs1 cells slots Q (F0 m (pc + 1) ls rest)) : W p l e R s m args below meth c H locs cells slots Q (F0 m pc ls (.int (nI x) :: .int (nI i) :: .ref a :: rest)) := by
  refine va_iast hexec hb hK hP hD hS q0 t0 ha ht (vp_in_nI hi hn) hdg (fun H1 locs1 h1 h2 h3 => ?_)
  rw [nI_clamp (by omega), cw_updN] at h1 h2
  exact kk H1 locs1 h1 h2 h3
theorem cw_zast (hexec : p.tables.exec = Jvm.exec) (hb : c.code = cc) (hK : va_K D cl tys s) (hP : va_P D cl ws H) (hD : va_D A ws) (hS : va_S A H0 H locs) (q0 t0 : Nat) {a : Nat} {cA : ClassId} {n : Nat} {f : Nat → Bool} (ha : ws[q0]? = some (a, .inl (cA, n, .inl (bF f)))) (ht : tys[t0]? = some (cA, .boolean)) {i : Nat} {x : Bool} (hi : i < n) (hn : n < 2 ^ 31) (hdg : decode cc pc = .ok (.bastore, 1))
    (kk : ∀ (H1 : Heap) (locs1 : List Loc), va_P D cl (ws.set q0 (a, .inl (cA, n, .inl (bF (va_up f i x))))) H1 → va_D A (ws.set q0 (a, .inl (cA, n, .inl (bF (va_up f i x))))) → va_S A H0 H1 locs1 → W p l e R s m args below meth c H1 locs1 cells slots Q (F0 m (pc + 1) ls rest)) : W p l e R s m args below meth c H locs cells slots Q (F0 m pc ls (.int (bI x) :: .int (nI i) :: .ref a :: rest)) := by
  refine va_zast hexec hb hK hP hD hS q0 t0 ha ht (vp_in_nI hi hn) hdg (fun H1 locs1 h1 h2 h3 => ?_)
  rw [nI_clamp (by omega), cw_narZ, cw_updB] at h1 h2
  exact kk H1 locs1 h1 h2 h3
theorem cw_iret {S0 : Type} {post : Int32 → S0 → Prop} {wf : S0 → va_W} {v : Int32} (hexec : p.tables.exec = Jvm.exec) (hb : c.code = cc) (hr : meth.sig.returnType = some .int) (hlocks : meth.locks = false) (u : S0) (hpost : post v u) (hP : va_P D cl (wf u) H) (hK : va_K D cl tys s) (hD : va_D A (wf u)) (hS : va_S A s.heap H locs) (hdg : decode cc pc = .ok (.ireturn, 1)) :
    W p l e R s m args below meth c H locs cells slots (MQ below (va_Qi post (fun u t => cwB D cl tys A (wf u) t) A) args s cells slots A) (F0 m pc ls [.int v]) :=
  W.iret hexec hb hr (fun t ht hW => ⟨⟨v, u, rfl, hpost, ⟨by rw [ht]; exact hP, va_K.moved hW.alike hK, hD⟩⟩, hS.F ht⟩) hS.2.2 hdg hlocks
theorem cw_zret {S0 : Type} {post : Int32 → S0 → Prop} {wf : S0 → va_W} {v : Int32} (hexec : p.tables.exec = Jvm.exec) (hb : c.code = cc) (hr : meth.sig.returnType = some .boolean) (hlocks : meth.locks = false) (hn : narrow .boolean (.int v) = .int v) (u : S0) (hpost : post v u) (hP : va_P D cl (wf u) H) (hK : va_K D cl tys s) (hD : va_D A (wf u)) (hS : va_S A s.heap H locs) (hdg : decode cc pc = .ok (.ireturn, 1)) :
    W p l e R s m args below meth c H locs cells slots (MQ below (va_Qi post (fun u t => cwB D cl tys A (wf u) t) A) args s cells slots A) (F0 m pc ls [.int v]) :=
  W.zret hexec hb hr hn (fun t ht hW => ⟨⟨v, u, rfl, hpost, ⟨by rw [ht]; exact hP, va_K.moved hW.alike hK, hD⟩⟩, hS.F ht⟩) hS.2.2 hdg hlocks
theorem cw_vret {S0 : Type} {post : S0 → Prop} {wf : S0 → va_W} (hexec : p.tables.exec = Jvm.exec) (hb : c.code = cc) (hr : meth.sig.returnType = none) (hlocks : meth.locks = false) (u : S0) (hpost : post u) (hP : va_P D cl (wf u) H) (hK : va_K D cl tys s) (hD : va_D A (wf u)) (hS : va_S A s.heap H locs) (hdg : decode cc pc = .ok (.return_, 1)) :
    W p l e R s m args below meth c H locs cells slots (MQ below (va_Qv post (fun u t => cwB D cl tys A (wf u) t) A) args s cells slots A) (F0 m pc ls []) :=
  W.vret hexec hb hr (fun t ht hW => ⟨⟨u, rfl, hpost, ⟨by rw [ht]; exact hP, va_K.moved hW.alike hK, hD⟩⟩, hS.F ht⟩) hS.2.2 hdg hlocks
variable {y : MethodName} {bytes : ByteArray} {maxL nL fr lo index n : Nat} {ret : Option FieldType} {tysC : List (ClassId × FieldType)} {own C : String} {b : Nat} {As st0 : List Value} {wc wr : va_W}
/-- a call through an object, with an int answer: the callee's cells by their places, the others stay -/
theorem cw_callV {S0 : Type} {post : Int32 → S0 → Prop} {wf : S0 → va_W} (F : CallFix p m c cc nL s args lw_all own) (hM : cwMi l y bytes maxL ret fr lo D cl tysC (.ref b :: As) wc post wf) (hG : GoodIn lw_all (wsV own index C y (ws_ y bytes maxL ret)))
    (hd : y.cls = C ∧ y.cls ≠ "java/lang/invoke/MethodHandle" ∧ y.cls ≠ "java/lang/invoke/VarHandle" ∧ (parseMethodDescriptor y.desc).map (fun d => d.parameters.length) = some n) (hn : As.length = n) (hR : fr + 1 ≤ R.frames ∧ 8 + (maxL + 11) + lo ≤ R.locals) (hf : cells ≤ R.cells ∧ slots ≤ R.slots)
    (hKc : va_K D cl tysC s) (hP : va_P D cl ws H) (hD : va_D A ws) (hS : va_S A H0 H locs) (hA : ∀ q, H0.size ≤ q → A q)
    (isC isR : List Nat) (hCf : isC.filterMap (fun i => ws[i]?) = wc) (hC : isC.map (fun i => ws[i]?) = wc.map some) (hRr : isR.map (fun i => ws[i]?) = wr.map some) (hnC : va_nd isC = true) (hnR : va_nd isR = true) (hdis : ∀ i ∈ isR, i ∉ isC)
    {ci : Nat} {fs : List Value} {q : vw_C} (hcl : cl[ci]? = some q) (he : wc[0]? = some (b, .inr (ci, fs))) (hq : q.1 = C)
    (hsz : ls.size = nL) (hstack : st0 = As.reverse ++ .ref b :: rest) (hroom : (rest.map fun v => v.category).sum ≤ 8) (hdg : decode cc pc = .ok (.invokevirtual index, 3))
    (kk : ∀ (r : Int32) (u : S0) (H1 : Heap) (locs1 : List Loc), post r u → va_P D cl (wr ++ wf u) H1 → va_D A (wr ++ wf u) → va_S A H0 H1 locs1 → W p l e R s m args below meth c H1 locs1 cells slots Q (F0 m (pc + 3) ls (.int r :: rest))) :
    W p l e R s m args below meth c H locs cells slots Q (F0 m pc ls st0) := by
  subst hq
  have hPc := hP.sub isC hCf
  have hDc := hD.sub isC hnC hC
  have hFc := va_free (wc := wc) hD hS hA isC hC
  refine va_calli (va_runV (As := As) (rest := rest) F (hM H.size) (cwV n F.2.2.2.2 hG rfl rfl rfl hd hR) ⟨fun a U g mk q => by obtain ⟨q0, q1, qP, qK, qD⟩ := q; exact ⟨q0, q1, qP, va_K.moved (u := U) (U := U.calling g mk a) (Vm.Alike.refl U.vm) qK, qD⟩, va_recv hKc hPc hcl he, fun U hU hW => ⟨rfl, by rw [hU], by rw [hU]; exact hPc, va_K.moved hW.alike hKc, hDc.weaken (fun _ _ _ _ => trivial)⟩⟩ rfl hn hsz hstack (lv_room hroom) hdg hf) hS (fun q _ h => hFc q h) hFc (fun r u t H1 locs1 ht hvm hpost hB hz1 hk1 hS1 => ?_)
  obtain ⟨hP1, hK1, hD1⟩ := hB
  rw [ht] at hP1
  obtain ⟨hP2, hD2⟩ := va_join (wr := wr) (w1 := wf u) hP hD isC isR hC hRr hnR hdis hk1 hFc hP1 hD1
  exact kk r u H1 locs1 hpost hP2 hD2 hS1
/-- the same without an answer -/
theorem cw_callVv {S0 : Type} {post : S0 → Prop} {wf : S0 → va_W} (F : CallFix p m c cc nL s args lw_all own) (hM : cwMv l y bytes maxL fr lo D cl tysC (.ref b :: As) wc post wf) (hG : GoodIn lw_all (wsV own index C y (ws_ y bytes maxL none)))
    (hd : y.cls = C ∧ y.cls ≠ "java/lang/invoke/MethodHandle" ∧ y.cls ≠ "java/lang/invoke/VarHandle" ∧ (parseMethodDescriptor y.desc).map (fun d => d.parameters.length) = some n) (hn : As.length = n) (hR : fr + 1 ≤ R.frames ∧ 8 + (maxL + 11) + lo ≤ R.locals) (hf : cells ≤ R.cells ∧ slots ≤ R.slots)
    (hKc : va_K D cl tysC s) (hP : va_P D cl ws H) (hD : va_D A ws) (hS : va_S A H0 H locs) (hA : ∀ q, H0.size ≤ q → A q)
    (isC isR : List Nat) (hCf : isC.filterMap (fun i => ws[i]?) = wc) (hC : isC.map (fun i => ws[i]?) = wc.map some) (hRr : isR.map (fun i => ws[i]?) = wr.map some) (hnC : va_nd isC = true) (hnR : va_nd isR = true) (hdis : ∀ i ∈ isR, i ∉ isC)
    {ci : Nat} {fs : List Value} {q : vw_C} (hcl : cl[ci]? = some q) (he : wc[0]? = some (b, .inr (ci, fs))) (hq : q.1 = C)
    (hsz : ls.size = nL) (hstack : st0 = As.reverse ++ .ref b :: rest) (hroom : (rest.map fun v => v.category).sum ≤ 8) (hdg : decode cc pc = .ok (.invokevirtual index, 3))
    (kk : ∀ (u : S0) (H1 : Heap) (locs1 : List Loc), post u → va_P D cl (wr ++ wf u) H1 → va_D A (wr ++ wf u) → va_S A H0 H1 locs1 → W p l e R s m args below meth c H1 locs1 cells slots Q (F0 m (pc + 3) ls rest)) :
    W p l e R s m args below meth c H locs cells slots Q (F0 m pc ls st0) := by
  subst hq
  have hPc := hP.sub isC hCf
  have hDc := hD.sub isC hnC hC
  have hFc := va_free (wc := wc) hD hS hA isC hC
  refine va_callv (va_runV (As := As) (rest := rest) F (hM H.size) (cwV n F.2.2.2.2 hG rfl rfl rfl hd hR) ⟨fun a U g mk q => by obtain ⟨q0, q1, qP, qK, qD⟩ := q; exact ⟨q0, q1, qP, va_K.moved (u := U) (U := U.calling g mk a) (Vm.Alike.refl U.vm) qK, qD⟩, va_recv hKc hPc hcl he, fun U hU hW => ⟨rfl, by rw [hU], by rw [hU]; exact hPc, va_K.moved hW.alike hKc, hDc.weaken (fun _ _ _ _ => trivial)⟩⟩ rfl hn hsz hstack (lv_room hroom) hdg hf) hS (fun q _ h => hFc q h) hFc (fun u t H1 locs1 ht hvm hpost hB hz1 hk1 hS1 => ?_)
  obtain ⟨hP1, hK1, hD1⟩ := hB
  rw [ht] at hP1
  obtain ⟨hP2, hD2⟩ := va_join (wr := wr) (w1 := wf u) hP hD isC isR hC hRr hnR hdis hk1 hFc hP1 hD1
  exact kk u H1 locs1 hpost hP2 hD2 hS1
/-- a static call without a world -/
theorem cw_callS {post : Int32 → Unit → Prop} (F : CallFix p m c cc nL s args lw_all own) (hM : cwMi l y bytes maxL ret fr lo D cl [] As [] post (fun _ => [])) (hG : GoodIn lw_all (va_wsS own index y (ws_ y bytes maxL ret)))
    (hd : y.cls ≠ "java/lang/invoke/MethodHandle" ∧ y.cls ≠ "java/lang/invoke/VarHandle" ∧ (parseMethodDescriptor y.desc).map (fun d => d.parameters.length) = some n) (hn : As.length = n) (hR : fr + 1 ≤ R.frames ∧ 8 + (maxL + 11) + lo ≤ R.locals) (hf : cells ≤ R.cells ∧ slots ≤ R.slots)
    (hK : va_K D cl tys s) (hP : va_P D cl ws H) (hD : va_D A ws) (hS : va_S A H0 H locs) (hA : ∀ q, H0.size ≤ q → A q)
    (hsz : ls.size = nL) (hstack : st0 = As.reverse ++ rest) (hroom : (rest.map fun v => v.category).sum ≤ 8) (hdg : decode cc pc = .ok (.invokestatic index, 3))
    (kk : ∀ (r : Int32) (H1 : Heap) (locs1 : List Loc), post r () → va_P D cl ws H1 → va_S A H0 H1 locs1 → W p l e R s m args below meth c H1 locs1 cells slots Q (F0 m (pc + 3) ls (.int r :: rest))) :
    W p l e R s m args below meth c H locs cells slots Q (F0 m pc ls st0) := by
  have hKc : va_K D cl [] s := ⟨hK.1, fun k q h => by simp at h⟩
  have hPc : va_P D cl [] H := fun k q h => by simp at h
  have hDc : va_D (fun _ => True) [] := ⟨fun i j p q h => by simp at h, fun k q h => by simp at h⟩
  have hFc : ∀ q, va_A [] H.size q → A q := by
    intro q h
    rcases h with ⟨k, e, h⟩ | h
    · simp at h
    · exact hA q (Nat.le_trans hS.1 h)
  refine va_calli (va_runS (As := As) (rest := rest) F (hM H.size) (va_cwS n F.2.2.2.2 hG rfl rfl rfl hd hR) ⟨fun a U g mk q => by obtain ⟨q0, q1, qP, qK, qD⟩ := q; exact ⟨q0, q1, qP, va_K.moved (u := U) (U := U.calling g mk a) (Vm.Alike.refl U.vm) qK, qD⟩, fun U hU hW => ⟨rfl, by rw [hU], by rw [hU]; exact hPc, va_K.moved hW.alike hKc, hDc⟩⟩ rfl hn hsz hstack (lv_room hroom) hdg hf) hS (fun q _ h => hFc q h) hFc (fun r u t H1 locs1 ht hvm hpost hB hz1 hk1 hS1 => ?_)
  refine kk r H1 locs1 hpost (fun k q hk => (hP k q hk).kept (hk1 q.1 (hP k q hk).lt ?_)) hS1
  intro h
  rcases h with ⟨k2, e, h⟩ | h
  · simp at h
  · have := (hP k q hk).lt
    omega
end CWA
end CWR
end
section
/-! CutWatch -/
set_option maxRecDepth 100000
def RX0 : String := "CutWatch"
def TX0 : u_T := fun k => match k with
  | 0 => ("CutWatch", "count", "[I", true)
  | 1 => ("CutWatch", "good", "[Z", true)
  | 2 => ("CutWatch", "known", "[I", true)
  | 3 => ("CutWatch", "messages", "I", false)
  | 4 => ("CutWatch", "sender", "[I", true)
  | 5 => ("CutWatch", "sentIn", "[I", true)
  | 6 => ("CutWatch", "received", "[Z", true)
  | 7 => ("CutWatch", "cut", "[I", true)
  | 8 => ("CutWatch", "from", "[I", true)
  | _ => ("CutWatch", "to", "[I", true)
def tyX0 : Nat → FieldType := fun k => match k with
  | 0 => .array .int
  | 1 => .array .boolean
  | 2 => .array .int
  | 3 => .int
  | 4 => .array .int
  | 5 => .array .int
  | 6 => .array .boolean
  | 7 => .array .int
  | 8 => .array .int
  | _ => .array .int
abbrev wsX00 : List Cond := u_ws RX0 TX0 10
theorem nmX0 : ∀ a, a < 10 → ∀ b, b < 10 → a ≠ b → (TX0 a).2.1 ≠ (TX0 b).2.1 := by decide +kernel
theorem tyX0_ok : ∀ k, k < 10 → parseFieldDescriptor (TX0 k).2.2.1 = some (tyX0 k) := by decide +kernel
abbrev cX0_init : ByteArray := prog_1_method_1_code
def yX0_init : MethodName := ⟨RX0, "<init>", "()V"⟩
theorem dX0_init_0 : decode cX0_init 0 = .ok (.aload_n 0, 1) := by decide +kernel
theorem dX0_init_1 : decode cX0_init 1 = .ok (.invokespecial 1, 3) := by decide +kernel
theorem dX0_init_4 : decode cX0_init 4 = .ok (.aload_n 0, 1) := by decide +kernel
theorem dX0_init_5 : decode cX0_init 5 = .ok (.iconst 3, 1) := by decide +kernel
theorem dX0_init_6 : decode cX0_init 6 = .ok (.newarray .int, 2) := by decide +kernel
theorem dX0_init_8 : decode cX0_init 8 = .ok (.putfield 7, 3) := by decide +kernel
theorem dX0_init_11 : decode cX0_init 11 = .ok (.aload_n 0, 1) := by decide +kernel
theorem dX0_init_12 : decode cX0_init 12 = .ok (.bipush 27, 2) := by decide +kernel
theorem dX0_init_14 : decode cX0_init 14 = .ok (.newarray .boolean, 2) := by decide +kernel
theorem dX0_init_16 : decode cX0_init 16 = .ok (.putfield 13, 3) := by decide +kernel
theorem dX0_init_19 : decode cX0_init 19 = .ok (.aload_n 0, 1) := by decide +kernel
theorem dX0_init_20 : decode cX0_init 20 = .ok (.bipush 81, 2) := by decide +kernel
theorem dX0_init_22 : decode cX0_init 22 = .ok (.newarray .int, 2) := by decide +kernel
theorem dX0_init_24 : decode cX0_init 24 = .ok (.putfield 17, 3) := by decide +kernel
theorem dX0_init_27 : decode cX0_init 27 = .ok (.aload_n 0, 1) := by decide +kernel
theorem dX0_init_28 : decode cX0_init 28 = .ok (.bipush 24, 2) := by decide +kernel
theorem dX0_init_30 : decode cX0_init 30 = .ok (.newarray .int, 2) := by decide +kernel
theorem dX0_init_32 : decode cX0_init 32 = .ok (.putfield 20, 3) := by decide +kernel
theorem dX0_init_35 : decode cX0_init 35 = .ok (.aload_n 0, 1) := by decide +kernel
theorem dX0_init_36 : decode cX0_init 36 = .ok (.bipush 24, 2) := by decide +kernel
theorem dX0_init_38 : decode cX0_init 38 = .ok (.newarray .int, 2) := by decide +kernel
theorem dX0_init_40 : decode cX0_init 40 = .ok (.putfield 23, 3) := by decide +kernel
theorem dX0_init_43 : decode cX0_init 43 = .ok (.aload_n 0, 1) := by decide +kernel
theorem dX0_init_44 : decode cX0_init 44 = .ok (.bipush 24, 2) := by decide +kernel
theorem dX0_init_46 : decode cX0_init 46 = .ok (.newarray .boolean, 2) := by decide +kernel
theorem dX0_init_48 : decode cX0_init 48 = .ok (.putfield 26, 3) := by decide +kernel
theorem dX0_init_51 : decode cX0_init 51 = .ok (.aload_n 0, 1) := by decide +kernel
theorem dX0_init_52 : decode cX0_init 52 = .ok (.iconst 3, 1) := by decide +kernel
theorem dX0_init_53 : decode cX0_init 53 = .ok (.newarray .int, 2) := by decide +kernel
theorem dX0_init_55 : decode cX0_init 55 = .ok (.putfield 29, 3) := by decide +kernel
theorem dX0_init_58 : decode cX0_init 58 = .ok (.aload_n 0, 1) := by decide +kernel
theorem dX0_init_59 : decode cX0_init 59 = .ok (.iconst 3, 1) := by decide +kernel
theorem dX0_init_60 : decode cX0_init 60 = .ok (.newarray .int, 2) := by decide +kernel
theorem dX0_init_62 : decode cX0_init 62 = .ok (.putfield 32, 3) := by decide +kernel
theorem dX0_init_65 : decode cX0_init 65 = .ok (.aload_n 0, 1) := by decide +kernel
theorem dX0_init_66 : decode cX0_init 66 = .ok (.iconst 3, 1) := by decide +kernel
theorem dX0_init_67 : decode cX0_init 67 = .ok (.newarray .int, 2) := by decide +kernel
theorem dX0_init_69 : decode cX0_init 69 = .ok (.putfield 35, 3) := by decide +kernel
theorem dX0_init_72 : decode cX0_init 72 = .ok (.return_, 1) := by decide +kernel
abbrev cX0_start : ByteArray := prog_1_method_2_code
def yX0_start : MethodName := ⟨RX0, "start", "(IZ)I"⟩
theorem dX0_start_0 : decode cX0_start 0 = .ok (.iload_n 1, 1) := by decide +kernel
theorem dX0_start_1 : decode cX0_start 1 = .ok (.invokestatic 38, 3) := by decide +kernel
theorem dX0_start_4 : decode cX0_start 4 = .ok (.ifCond .ne 5, 3) := by decide +kernel
theorem dX0_start_7 : decode cX0_start 7 = .ok (.iconst (-1), 1) := by decide +kernel
theorem dX0_start_8 : decode cX0_start 8 = .ok (.ireturn, 1) := by decide +kernel
theorem dX0_start_9 : decode cX0_start 9 = .ok (.aload_n 0, 1) := by decide +kernel
theorem dX0_start_10 : decode cX0_start 10 = .ok (.getfield 13, 3) := by decide +kernel
theorem dX0_start_13 : decode cX0_start 13 = .ok (.bipush 9, 2) := by decide +kernel
theorem dX0_start_15 : decode cX0_start 15 = .ok (.iload_n 1, 1) := by decide +kernel
theorem dX0_start_16 : decode cX0_start 16 = .ok (.imul, 1) := by decide +kernel
theorem dX0_start_17 : decode cX0_start 17 = .ok (.iload_n 2, 1) := by decide +kernel
theorem dX0_start_18 : decode cX0_start 18 = .ok (.bastore, 1) := by decide +kernel
theorem dX0_start_19 : decode cX0_start 19 = .ok (.iconst 0, 1) := by decide +kernel
theorem dX0_start_20 : decode cX0_start 20 = .ok (.ireturn, 1) := by decide +kernel
abbrev cX0_isProcess : ByteArray := prog_1_method_13_code
def yX0_isProcess : MethodName := ⟨RX0, "isProcess", "(I)Z"⟩
theorem dX0_isProcess_0 : decode cX0_isProcess 0 = .ok (.iload_n 0, 1) := by decide +kernel
theorem dX0_isProcess_1 : decode cX0_isProcess 1 = .ok (.ifCond .lt 12, 3) := by decide +kernel
theorem dX0_isProcess_4 : decode cX0_isProcess 4 = .ok (.iload_n 0, 1) := by decide +kernel
theorem dX0_isProcess_5 : decode cX0_isProcess 5 = .ok (.iconst 2, 1) := by decide +kernel
theorem dX0_isProcess_6 : decode cX0_isProcess 6 = .ok (.if_icmp .gt 7, 3) := by decide +kernel
theorem dX0_isProcess_9 : decode cX0_isProcess 9 = .ok (.iconst 1, 1) := by decide +kernel
theorem dX0_isProcess_10 : decode cX0_isProcess 10 = .ok (.goto 4, 3) := by decide +kernel
theorem dX0_isProcess_13 : decode cX0_isProcess 13 = .ok (.iconst 0, 1) := by decide +kernel
theorem dX0_isProcess_14 : decode cX0_isProcess 14 = .ok (.ireturn, 1) := by decide +kernel
abbrev cX0_step : ByteArray := prog_1_method_3_code
def yX0_step : MethodName := ⟨RX0, "step", "(IZ)I"⟩
theorem dX0_step_0 : decode cX0_step 0 = .ok (.iload_n 1, 1) := by decide +kernel
theorem dX0_step_1 : decode cX0_step 1 = .ok (.invokestatic 38, 3) := by decide +kernel
theorem dX0_step_4 : decode cX0_step 4 = .ok (.ifCond .eq 14, 3) := by decide +kernel
theorem dX0_step_7 : decode cX0_step 7 = .ok (.aload_n 0, 1) := by decide +kernel
theorem dX0_step_8 : decode cX0_step 8 = .ok (.getfield 7, 3) := by decide +kernel
theorem dX0_step_11 : decode cX0_step 11 = .ok (.iload_n 1, 1) := by decide +kernel
theorem dX0_step_12 : decode cX0_step 12 = .ok (.iaload, 1) := by decide +kernel
theorem dX0_step_13 : decode cX0_step 13 = .ok (.bipush 8, 2) := by decide +kernel
theorem dX0_step_15 : decode cX0_step 15 = .ok (.if_icmp .lt 5, 3) := by decide +kernel
theorem dX0_step_18 : decode cX0_step 18 = .ok (.iconst (-1), 1) := by decide +kernel
theorem dX0_step_19 : decode cX0_step 19 = .ok (.ireturn, 1) := by decide +kernel
theorem dX0_step_20 : decode cX0_step 20 = .ok (.aload_n 0, 1) := by decide +kernel
theorem dX0_step_21 : decode cX0_step 21 = .ok (.iload_n 1, 1) := by decide +kernel
theorem dX0_step_22 : decode cX0_step 22 = .ok (.iload_n 2, 1) := by decide +kernel
theorem dX0_step_23 : decode cX0_step 23 = .ok (.invokevirtual 42, 3) := by decide +kernel
theorem dX0_step_26 : decode cX0_step 26 = .ok (.aload_n 0, 1) := by decide +kernel
theorem dX0_step_27 : decode cX0_step 27 = .ok (.getfield 7, 3) := by decide +kernel
theorem dX0_step_30 : decode cX0_step 30 = .ok (.iload_n 1, 1) := by decide +kernel
theorem dX0_step_31 : decode cX0_step 31 = .ok (.iaload, 1) := by decide +kernel
theorem dX0_step_32 : decode cX0_step 32 = .ok (.ireturn, 1) := by decide +kernel
abbrev cX0_advance : ByteArray := prog_1_method_6_code
def yX0_advance : MethodName := ⟨RX0, "advance", "(IZ)V"⟩
theorem dX0_advance_0 : decode cX0_advance 0 = .ok (.aload_n 0, 1) := by decide +kernel
theorem dX0_advance_1 : decode cX0_advance 1 = .ok (.getfield 7, 3) := by decide +kernel
theorem dX0_advance_4 : decode cX0_advance 4 = .ok (.iload_n 1, 1) := by decide +kernel
theorem dX0_advance_5 : decode cX0_advance 5 = .ok (.iaload, 1) := by decide +kernel
theorem dX0_advance_6 : decode cX0_advance 6 = .ok (.iconst 1, 1) := by decide +kernel
theorem dX0_advance_7 : decode cX0_advance 7 = .ok (.iadd, 1) := by decide +kernel
theorem dX0_advance_8 : decode cX0_advance 8 = .ok (.istore_n 3, 1) := by decide +kernel
theorem dX0_advance_9 : decode cX0_advance 9 = .ok (.aload_n 0, 1) := by decide +kernel
theorem dX0_advance_10 : decode cX0_advance 10 = .ok (.getfield 7, 3) := by decide +kernel
theorem dX0_advance_13 : decode cX0_advance 13 = .ok (.iload_n 1, 1) := by decide +kernel
theorem dX0_advance_14 : decode cX0_advance 14 = .ok (.iload_n 3, 1) := by decide +kernel
theorem dX0_advance_15 : decode cX0_advance 15 = .ok (.iastore, 1) := by decide +kernel
theorem dX0_advance_16 : decode cX0_advance 16 = .ok (.aload_n 0, 1) := by decide +kernel
theorem dX0_advance_17 : decode cX0_advance 17 = .ok (.getfield 13, 3) := by decide +kernel
theorem dX0_advance_20 : decode cX0_advance 20 = .ok (.bipush 9, 2) := by decide +kernel
theorem dX0_advance_22 : decode cX0_advance 22 = .ok (.iload_n 1, 1) := by decide +kernel
theorem dX0_advance_23 : decode cX0_advance 23 = .ok (.imul, 1) := by decide +kernel
theorem dX0_advance_24 : decode cX0_advance 24 = .ok (.iload_n 3, 1) := by decide +kernel
theorem dX0_advance_25 : decode cX0_advance 25 = .ok (.iadd, 1) := by decide +kernel
theorem dX0_advance_26 : decode cX0_advance 26 = .ok (.iload_n 2, 1) := by decide +kernel
theorem dX0_advance_27 : decode cX0_advance 27 = .ok (.bastore, 1) := by decide +kernel
theorem dX0_advance_28 : decode cX0_advance 28 = .ok (.iconst 0, 1) := by decide +kernel
theorem dX0_advance_29 : decode cX0_advance 29 = .ok (.istore 4, 2) := by decide +kernel
theorem dX0_advance_31 : decode cX0_advance 31 = .ok (.iload 4, 2) := by decide +kernel
theorem dX0_advance_33 : decode cX0_advance 33 = .ok (.iconst 3, 1) := by decide +kernel
theorem dX0_advance_34 : decode cX0_advance 34 = .ok (.if_icmp .ge 43, 3) := by decide +kernel
theorem dX0_advance_37 : decode cX0_advance 37 = .ok (.aload_n 0, 1) := by decide +kernel
theorem dX0_advance_38 : decode cX0_advance 38 = .ok (.getfield 17, 3) := by decide +kernel
theorem dX0_advance_41 : decode cX0_advance 41 = .ok (.bipush 27, 2) := by decide +kernel
theorem dX0_advance_43 : decode cX0_advance 43 = .ok (.iload_n 1, 1) := by decide +kernel
theorem dX0_advance_44 : decode cX0_advance 44 = .ok (.imul, 1) := by decide +kernel
theorem dX0_advance_45 : decode cX0_advance 45 = .ok (.iconst 3, 1) := by decide +kernel
theorem dX0_advance_46 : decode cX0_advance 46 = .ok (.iload_n 3, 1) := by decide +kernel
theorem dX0_advance_47 : decode cX0_advance 47 = .ok (.imul, 1) := by decide +kernel
theorem dX0_advance_48 : decode cX0_advance 48 = .ok (.iadd, 1) := by decide +kernel
theorem dX0_advance_49 : decode cX0_advance 49 = .ok (.iload 4, 2) := by decide +kernel
theorem dX0_advance_51 : decode cX0_advance 51 = .ok (.iadd, 1) := by decide +kernel
theorem dX0_advance_52 : decode cX0_advance 52 = .ok (.aload_n 0, 1) := by decide +kernel
theorem dX0_advance_53 : decode cX0_advance 53 = .ok (.getfield 17, 3) := by decide +kernel
theorem dX0_advance_56 : decode cX0_advance 56 = .ok (.bipush 27, 2) := by decide +kernel
theorem dX0_advance_58 : decode cX0_advance 58 = .ok (.iload_n 1, 1) := by decide +kernel
theorem dX0_advance_59 : decode cX0_advance 59 = .ok (.imul, 1) := by decide +kernel
theorem dX0_advance_60 : decode cX0_advance 60 = .ok (.iconst 3, 1) := by decide +kernel
theorem dX0_advance_61 : decode cX0_advance 61 = .ok (.iload_n 3, 1) := by decide +kernel
theorem dX0_advance_62 : decode cX0_advance 62 = .ok (.imul, 1) := by decide +kernel
theorem dX0_advance_63 : decode cX0_advance 63 = .ok (.iadd, 1) := by decide +kernel
theorem dX0_advance_64 : decode cX0_advance 64 = .ok (.iconst 3, 1) := by decide +kernel
theorem dX0_advance_65 : decode cX0_advance 65 = .ok (.isub, 1) := by decide +kernel
theorem dX0_advance_66 : decode cX0_advance 66 = .ok (.iload 4, 2) := by decide +kernel
theorem dX0_advance_68 : decode cX0_advance 68 = .ok (.iadd, 1) := by decide +kernel
theorem dX0_advance_69 : decode cX0_advance 69 = .ok (.iaload, 1) := by decide +kernel
theorem dX0_advance_70 : decode cX0_advance 70 = .ok (.iastore, 1) := by decide +kernel
theorem dX0_advance_71 : decode cX0_advance 71 = .ok (.iinc 4 1, 3) := by decide +kernel
theorem dX0_advance_74 : decode cX0_advance 74 = .ok (.goto (-43), 3) := by decide +kernel
theorem dX0_advance_77 : decode cX0_advance 77 = .ok (.aload_n 0, 1) := by decide +kernel
theorem dX0_advance_78 : decode cX0_advance 78 = .ok (.getfield 17, 3) := by decide +kernel
theorem dX0_advance_81 : decode cX0_advance 81 = .ok (.bipush 27, 2) := by decide +kernel
theorem dX0_advance_83 : decode cX0_advance 83 = .ok (.iload_n 1, 1) := by decide +kernel
theorem dX0_advance_84 : decode cX0_advance 84 = .ok (.imul, 1) := by decide +kernel
theorem dX0_advance_85 : decode cX0_advance 85 = .ok (.iconst 3, 1) := by decide +kernel
theorem dX0_advance_86 : decode cX0_advance 86 = .ok (.iload_n 3, 1) := by decide +kernel
theorem dX0_advance_87 : decode cX0_advance 87 = .ok (.imul, 1) := by decide +kernel
theorem dX0_advance_88 : decode cX0_advance 88 = .ok (.iadd, 1) := by decide +kernel
theorem dX0_advance_89 : decode cX0_advance 89 = .ok (.iload_n 1, 1) := by decide +kernel
theorem dX0_advance_90 : decode cX0_advance 90 = .ok (.iadd, 1) := by decide +kernel
theorem dX0_advance_91 : decode cX0_advance 91 = .ok (.iload_n 3, 1) := by decide +kernel
theorem dX0_advance_92 : decode cX0_advance 92 = .ok (.iastore, 1) := by decide +kernel
theorem dX0_advance_93 : decode cX0_advance 93 = .ok (.return_, 1) := by decide +kernel
abbrev cX0_send : ByteArray := prog_1_method_4_code
def yX0_send : MethodName := ⟨RX0, "send", "(IZ)I"⟩
theorem dX0_send_0 : decode cX0_send 0 = .ok (.iload_n 1, 1) := by decide +kernel
theorem dX0_send_1 : decode cX0_send 1 = .ok (.invokestatic 38, 3) := by decide +kernel
theorem dX0_send_4 : decode cX0_send 4 = .ok (.ifCond .eq 14, 3) := by decide +kernel
theorem dX0_send_7 : decode cX0_send 7 = .ok (.aload_n 0, 1) := by decide +kernel
theorem dX0_send_8 : decode cX0_send 8 = .ok (.getfield 7, 3) := by decide +kernel
theorem dX0_send_11 : decode cX0_send 11 = .ok (.iload_n 1, 1) := by decide +kernel
theorem dX0_send_12 : decode cX0_send 12 = .ok (.iaload, 1) := by decide +kernel
theorem dX0_send_13 : decode cX0_send 13 = .ok (.bipush 8, 2) := by decide +kernel
theorem dX0_send_15 : decode cX0_send 15 = .ok (.if_icmp .lt 5, 3) := by decide +kernel
theorem dX0_send_18 : decode cX0_send 18 = .ok (.iconst (-1), 1) := by decide +kernel
theorem dX0_send_19 : decode cX0_send 19 = .ok (.ireturn, 1) := by decide +kernel
theorem dX0_send_20 : decode cX0_send 20 = .ok (.aload_n 0, 1) := by decide +kernel
theorem dX0_send_21 : decode cX0_send 21 = .ok (.iload_n 1, 1) := by decide +kernel
theorem dX0_send_22 : decode cX0_send 22 = .ok (.iload_n 2, 1) := by decide +kernel
theorem dX0_send_23 : decode cX0_send 23 = .ok (.invokevirtual 42, 3) := by decide +kernel
theorem dX0_send_26 : decode cX0_send 26 = .ok (.aload_n 0, 1) := by decide +kernel
theorem dX0_send_27 : decode cX0_send 27 = .ok (.getfield 20, 3) := by decide +kernel
theorem dX0_send_30 : decode cX0_send 30 = .ok (.aload_n 0, 1) := by decide +kernel
theorem dX0_send_31 : decode cX0_send 31 = .ok (.getfield 46, 3) := by decide +kernel
theorem dX0_send_34 : decode cX0_send 34 = .ok (.iload_n 1, 1) := by decide +kernel
theorem dX0_send_35 : decode cX0_send 35 = .ok (.iastore, 1) := by decide +kernel
theorem dX0_send_36 : decode cX0_send 36 = .ok (.aload_n 0, 1) := by decide +kernel
theorem dX0_send_37 : decode cX0_send 37 = .ok (.getfield 23, 3) := by decide +kernel
theorem dX0_send_40 : decode cX0_send 40 = .ok (.aload_n 0, 1) := by decide +kernel
theorem dX0_send_41 : decode cX0_send 41 = .ok (.getfield 46, 3) := by decide +kernel
theorem dX0_send_44 : decode cX0_send 44 = .ok (.aload_n 0, 1) := by decide +kernel
theorem dX0_send_45 : decode cX0_send 45 = .ok (.getfield 7, 3) := by decide +kernel
theorem dX0_send_48 : decode cX0_send 48 = .ok (.iload_n 1, 1) := by decide +kernel
theorem dX0_send_49 : decode cX0_send 49 = .ok (.iaload, 1) := by decide +kernel
theorem dX0_send_50 : decode cX0_send 50 = .ok (.iastore, 1) := by decide +kernel
theorem dX0_send_51 : decode cX0_send 51 = .ok (.aload_n 0, 1) := by decide +kernel
theorem dX0_send_52 : decode cX0_send 52 = .ok (.getfield 26, 3) := by decide +kernel
theorem dX0_send_55 : decode cX0_send 55 = .ok (.aload_n 0, 1) := by decide +kernel
theorem dX0_send_56 : decode cX0_send 56 = .ok (.getfield 46, 3) := by decide +kernel
theorem dX0_send_59 : decode cX0_send 59 = .ok (.iconst 0, 1) := by decide +kernel
theorem dX0_send_60 : decode cX0_send 60 = .ok (.bastore, 1) := by decide +kernel
theorem dX0_send_61 : decode cX0_send 61 = .ok (.aload_n 0, 1) := by decide +kernel
theorem dX0_send_62 : decode cX0_send 62 = .ok (.dup, 1) := by decide +kernel
theorem dX0_send_63 : decode cX0_send 63 = .ok (.getfield 46, 3) := by decide +kernel
theorem dX0_send_66 : decode cX0_send 66 = .ok (.iconst 1, 1) := by decide +kernel
theorem dX0_send_67 : decode cX0_send 67 = .ok (.iadd, 1) := by decide +kernel
theorem dX0_send_68 : decode cX0_send 68 = .ok (.putfield 46, 3) := by decide +kernel
theorem dX0_send_71 : decode cX0_send 71 = .ok (.aload_n 0, 1) := by decide +kernel
theorem dX0_send_72 : decode cX0_send 72 = .ok (.getfield 46, 3) := by decide +kernel
theorem dX0_send_75 : decode cX0_send 75 = .ok (.iconst 1, 1) := by decide +kernel
theorem dX0_send_76 : decode cX0_send 76 = .ok (.isub, 1) := by decide +kernel
theorem dX0_send_77 : decode cX0_send 77 = .ok (.ireturn, 1) := by decide +kernel
abbrev cX0_receive : ByteArray := prog_1_method_5_code
def yX0_receive : MethodName := ⟨RX0, "receive", "(IIZ)I"⟩
theorem dX0_receive_0 : decode cX0_receive 0 = .ok (.iload_n 2, 1) := by decide +kernel
theorem dX0_receive_1 : decode cX0_receive 1 = .ok (.ifCond .lt 15, 3) := by decide +kernel
theorem dX0_receive_4 : decode cX0_receive 4 = .ok (.iload_n 2, 1) := by decide +kernel
theorem dX0_receive_5 : decode cX0_receive 5 = .ok (.aload_n 0, 1) := by decide +kernel
theorem dX0_receive_6 : decode cX0_receive 6 = .ok (.getfield 46, 3) := by decide +kernel
theorem dX0_receive_9 : decode cX0_receive 9 = .ok (.if_icmp .ge 7, 3) := by decide +kernel
theorem dX0_receive_12 : decode cX0_receive 12 = .ok (.iconst 1, 1) := by decide +kernel
theorem dX0_receive_13 : decode cX0_receive 13 = .ok (.goto 4, 3) := by decide +kernel
theorem dX0_receive_16 : decode cX0_receive 16 = .ok (.iconst 0, 1) := by decide +kernel
theorem dX0_receive_17 : decode cX0_receive 17 = .ok (.istore 4, 2) := by decide +kernel
theorem dX0_receive_19 : decode cX0_receive 19 = .ok (.iload_n 1, 1) := by decide +kernel
theorem dX0_receive_20 : decode cX0_receive 20 = .ok (.invokestatic 38, 3) := by decide +kernel
theorem dX0_receive_23 : decode cX0_receive 23 = .ok (.ifCond .eq 38, 3) := by decide +kernel
theorem dX0_receive_26 : decode cX0_receive 26 = .ok (.aload_n 0, 1) := by decide +kernel
theorem dX0_receive_27 : decode cX0_receive 27 = .ok (.getfield 7, 3) := by decide +kernel
theorem dX0_receive_30 : decode cX0_receive 30 = .ok (.iload_n 1, 1) := by decide +kernel
theorem dX0_receive_31 : decode cX0_receive 31 = .ok (.iaload, 1) := by decide +kernel
theorem dX0_receive_32 : decode cX0_receive 32 = .ok (.bipush 8, 2) := by decide +kernel
theorem dX0_receive_34 : decode cX0_receive 34 = .ok (.if_icmp .ge 27, 3) := by decide +kernel
theorem dX0_receive_37 : decode cX0_receive 37 = .ok (.iload 4, 2) := by decide +kernel
theorem dX0_receive_39 : decode cX0_receive 39 = .ok (.ifCond .eq 22, 3) := by decide +kernel
theorem dX0_receive_42 : decode cX0_receive 42 = .ok (.aload_n 0, 1) := by decide +kernel
theorem dX0_receive_43 : decode cX0_receive 43 = .ok (.getfield 26, 3) := by decide +kernel
theorem dX0_receive_46 : decode cX0_receive 46 = .ok (.iload_n 2, 1) := by decide +kernel
theorem dX0_receive_47 : decode cX0_receive 47 = .ok (.baload, 1) := by decide +kernel
theorem dX0_receive_48 : decode cX0_receive 48 = .ok (.ifCond .ne 13, 3) := by decide +kernel
theorem dX0_receive_51 : decode cX0_receive 51 = .ok (.aload_n 0, 1) := by decide +kernel
theorem dX0_receive_52 : decode cX0_receive 52 = .ok (.getfield 20, 3) := by decide +kernel
theorem dX0_receive_55 : decode cX0_receive 55 = .ok (.iload_n 2, 1) := by decide +kernel
theorem dX0_receive_56 : decode cX0_receive 56 = .ok (.iaload, 1) := by decide +kernel
theorem dX0_receive_57 : decode cX0_receive 57 = .ok (.iload_n 1, 1) := by decide +kernel
theorem dX0_receive_58 : decode cX0_receive 58 = .ok (.if_icmp .ne 5, 3) := by decide +kernel
theorem dX0_receive_61 : decode cX0_receive 61 = .ok (.iconst (-1), 1) := by decide +kernel
theorem dX0_receive_62 : decode cX0_receive 62 = .ok (.ireturn, 1) := by decide +kernel
theorem dX0_receive_63 : decode cX0_receive 63 = .ok (.aload_n 0, 1) := by decide +kernel
theorem dX0_receive_64 : decode cX0_receive 64 = .ok (.getfield 26, 3) := by decide +kernel
theorem dX0_receive_67 : decode cX0_receive 67 = .ok (.iload_n 2, 1) := by decide +kernel
theorem dX0_receive_68 : decode cX0_receive 68 = .ok (.iconst 1, 1) := by decide +kernel
theorem dX0_receive_69 : decode cX0_receive 69 = .ok (.bastore, 1) := by decide +kernel
theorem dX0_receive_70 : decode cX0_receive 70 = .ok (.aload_n 0, 1) := by decide +kernel
theorem dX0_receive_71 : decode cX0_receive 71 = .ok (.iload_n 1, 1) := by decide +kernel
theorem dX0_receive_72 : decode cX0_receive 72 = .ok (.iload_n 3, 1) := by decide +kernel
theorem dX0_receive_73 : decode cX0_receive 73 = .ok (.invokevirtual 42, 3) := by decide +kernel
theorem dX0_receive_76 : decode cX0_receive 76 = .ok (.iconst 0, 1) := by decide +kernel
theorem dX0_receive_77 : decode cX0_receive 77 = .ok (.istore 5, 2) := by decide +kernel
theorem dX0_receive_79 : decode cX0_receive 79 = .ok (.iload 5, 2) := by decide +kernel
theorem dX0_receive_81 : decode cX0_receive 81 = .ok (.iconst 3, 1) := by decide +kernel
theorem dX0_receive_82 : decode cX0_receive 82 = .ok (.if_icmp .ge 78, 3) := by decide +kernel
theorem dX0_receive_85 : decode cX0_receive 85 = .ok (.aload_n 0, 1) := by decide +kernel
theorem dX0_receive_86 : decode cX0_receive 86 = .ok (.aload_n 0, 1) := by decide +kernel
theorem dX0_receive_87 : decode cX0_receive 87 = .ok (.getfield 20, 3) := by decide +kernel
theorem dX0_receive_90 : decode cX0_receive 90 = .ok (.iload_n 2, 1) := by decide +kernel
theorem dX0_receive_91 : decode cX0_receive 91 = .ok (.iaload, 1) := by decide +kernel
theorem dX0_receive_92 : decode cX0_receive 92 = .ok (.aload_n 0, 1) := by decide +kernel
theorem dX0_receive_93 : decode cX0_receive 93 = .ok (.getfield 23, 3) := by decide +kernel
theorem dX0_receive_96 : decode cX0_receive 96 = .ok (.iload_n 2, 1) := by decide +kernel
theorem dX0_receive_97 : decode cX0_receive 97 = .ok (.iaload, 1) := by decide +kernel
theorem dX0_receive_98 : decode cX0_receive 98 = .ok (.iload 5, 2) := by decide +kernel
theorem dX0_receive_100 : decode cX0_receive 100 = .ok (.invokevirtual 50, 3) := by decide +kernel
theorem dX0_receive_103 : decode cX0_receive 103 = .ok (.istore 6, 2) := by decide +kernel
theorem dX0_receive_105 : decode cX0_receive 105 = .ok (.bipush 27, 2) := by decide +kernel
theorem dX0_receive_107 : decode cX0_receive 107 = .ok (.iload_n 1, 1) := by decide +kernel
theorem dX0_receive_108 : decode cX0_receive 108 = .ok (.imul, 1) := by decide +kernel
theorem dX0_receive_109 : decode cX0_receive 109 = .ok (.iconst 3, 1) := by decide +kernel
theorem dX0_receive_110 : decode cX0_receive 110 = .ok (.aload_n 0, 1) := by decide +kernel
theorem dX0_receive_111 : decode cX0_receive 111 = .ok (.getfield 7, 3) := by decide +kernel
theorem dX0_receive_114 : decode cX0_receive 114 = .ok (.iload_n 1, 1) := by decide +kernel
theorem dX0_receive_115 : decode cX0_receive 115 = .ok (.iaload, 1) := by decide +kernel
theorem dX0_receive_116 : decode cX0_receive 116 = .ok (.imul, 1) := by decide +kernel
theorem dX0_receive_117 : decode cX0_receive 117 = .ok (.iadd, 1) := by decide +kernel
theorem dX0_receive_118 : decode cX0_receive 118 = .ok (.iload 5, 2) := by decide +kernel
theorem dX0_receive_120 : decode cX0_receive 120 = .ok (.iadd, 1) := by decide +kernel
theorem dX0_receive_121 : decode cX0_receive 121 = .ok (.istore 7, 2) := by decide +kernel
theorem dX0_receive_123 : decode cX0_receive 123 = .ok (.aload_n 0, 1) := by decide +kernel
theorem dX0_receive_124 : decode cX0_receive 124 = .ok (.getfield 17, 3) := by decide +kernel
theorem dX0_receive_127 : decode cX0_receive 127 = .ok (.iload 7, 2) := by decide +kernel
theorem dX0_receive_129 : decode cX0_receive 129 = .ok (.iload 6, 2) := by decide +kernel
theorem dX0_receive_131 : decode cX0_receive 131 = .ok (.aload_n 0, 1) := by decide +kernel
theorem dX0_receive_132 : decode cX0_receive 132 = .ok (.getfield 17, 3) := by decide +kernel
theorem dX0_receive_135 : decode cX0_receive 135 = .ok (.iload 7, 2) := by decide +kernel
theorem dX0_receive_137 : decode cX0_receive 137 = .ok (.iaload, 1) := by decide +kernel
theorem dX0_receive_138 : decode cX0_receive 138 = .ok (.if_icmp .le 8, 3) := by decide +kernel
theorem dX0_receive_141 : decode cX0_receive 141 = .ok (.iload 6, 2) := by decide +kernel
theorem dX0_receive_143 : decode cX0_receive 143 = .ok (.goto 10, 3) := by decide +kernel
theorem dX0_receive_146 : decode cX0_receive 146 = .ok (.aload_n 0, 1) := by decide +kernel
theorem dX0_receive_147 : decode cX0_receive 147 = .ok (.getfield 17, 3) := by decide +kernel
theorem dX0_receive_150 : decode cX0_receive 150 = .ok (.iload 7, 2) := by decide +kernel
theorem dX0_receive_152 : decode cX0_receive 152 = .ok (.iaload, 1) := by decide +kernel
theorem dX0_receive_153 : decode cX0_receive 153 = .ok (.iastore, 1) := by decide +kernel
theorem dX0_receive_154 : decode cX0_receive 154 = .ok (.iinc 5 1, 3) := by decide +kernel
theorem dX0_receive_157 : decode cX0_receive 157 = .ok (.goto (-78), 3) := by decide +kernel
theorem dX0_receive_160 : decode cX0_receive 160 = .ok (.aload_n 0, 1) := by decide +kernel
theorem dX0_receive_161 : decode cX0_receive 161 = .ok (.getfield 7, 3) := by decide +kernel
theorem dX0_receive_164 : decode cX0_receive 164 = .ok (.iload_n 1, 1) := by decide +kernel
theorem dX0_receive_165 : decode cX0_receive 165 = .ok (.iaload, 1) := by decide +kernel
theorem dX0_receive_166 : decode cX0_receive 166 = .ok (.ireturn, 1) := by decide +kernel
end
section
set_option maxRecDepth 100000
abbrev cX0_knownBy : ByteArray := prog_1_method_14_code
def yX0_knownBy : MethodName := ⟨RX0, "knownBy", "(III)I"⟩
theorem dX0_knownBy_0 : decode cX0_knownBy 0 = .ok (.aload_n 0, 1) := by decide +kernel
theorem dX0_knownBy_1 : decode cX0_knownBy 1 = .ok (.getfield 17, 3) := by decide +kernel
theorem dX0_knownBy_4 : decode cX0_knownBy 4 = .ok (.bipush 27, 2) := by decide +kernel
theorem dX0_knownBy_6 : decode cX0_knownBy 6 = .ok (.iload_n 1, 1) := by decide +kernel
theorem dX0_knownBy_7 : decode cX0_knownBy 7 = .ok (.imul, 1) := by decide +kernel
theorem dX0_knownBy_8 : decode cX0_knownBy 8 = .ok (.iconst 3, 1) := by decide +kernel
theorem dX0_knownBy_9 : decode cX0_knownBy 9 = .ok (.iload_n 2, 1) := by decide +kernel
theorem dX0_knownBy_10 : decode cX0_knownBy 10 = .ok (.imul, 1) := by decide +kernel
theorem dX0_knownBy_11 : decode cX0_knownBy 11 = .ok (.iadd, 1) := by decide +kernel
theorem dX0_knownBy_12 : decode cX0_knownBy 12 = .ok (.iload_n 3, 1) := by decide +kernel
theorem dX0_knownBy_13 : decode cX0_knownBy 13 = .ok (.iadd, 1) := by decide +kernel
theorem dX0_knownBy_14 : decode cX0_knownBy 14 = .ok (.iaload, 1) := by decide +kernel
theorem dX0_knownBy_15 : decode cX0_knownBy 15 = .ok (.ireturn, 1) := by decide +kernel
abbrev cX0_knows : ByteArray := prog_1_method_7_code
def yX0_knows : MethodName := ⟨RX0, "knows", "(III)I"⟩
theorem dX0_knows_0 : decode cX0_knows 0 = .ok (.iload_n 1, 1) := by decide +kernel
theorem dX0_knows_1 : decode cX0_knows 1 = .ok (.invokestatic 38, 3) := by decide +kernel
theorem dX0_knows_4 : decode cX0_knows 4 = .ok (.ifCond .eq 24, 3) := by decide +kernel
theorem dX0_knows_7 : decode cX0_knows 7 = .ok (.iload_n 3, 1) := by decide +kernel
theorem dX0_knows_8 : decode cX0_knows 8 = .ok (.invokestatic 38, 3) := by decide +kernel
theorem dX0_knows_11 : decode cX0_knows 11 = .ok (.ifCond .eq 17, 3) := by decide +kernel
theorem dX0_knows_14 : decode cX0_knows 14 = .ok (.iload_n 2, 1) := by decide +kernel
theorem dX0_knows_15 : decode cX0_knows 15 = .ok (.ifCond .lt 13, 3) := by decide +kernel
theorem dX0_knows_18 : decode cX0_knows 18 = .ok (.iload_n 2, 1) := by decide +kernel
theorem dX0_knows_19 : decode cX0_knows 19 = .ok (.aload_n 0, 1) := by decide +kernel
theorem dX0_knows_20 : decode cX0_knows 20 = .ok (.getfield 7, 3) := by decide +kernel
theorem dX0_knows_23 : decode cX0_knows 23 = .ok (.iload_n 1, 1) := by decide +kernel
theorem dX0_knows_24 : decode cX0_knows 24 = .ok (.iaload, 1) := by decide +kernel
theorem dX0_knows_25 : decode cX0_knows 25 = .ok (.if_icmp .le 5, 3) := by decide +kernel
theorem dX0_knows_28 : decode cX0_knows 28 = .ok (.iconst (-1), 1) := by decide +kernel
theorem dX0_knows_29 : decode cX0_knows 29 = .ok (.ireturn, 1) := by decide +kernel
theorem dX0_knows_30 : decode cX0_knows 30 = .ok (.aload_n 0, 1) := by decide +kernel
theorem dX0_knows_31 : decode cX0_knows 31 = .ok (.iload_n 1, 1) := by decide +kernel
theorem dX0_knows_32 : decode cX0_knows 32 = .ok (.iload_n 2, 1) := by decide +kernel
theorem dX0_knows_33 : decode cX0_knows 33 = .ok (.iload_n 3, 1) := by decide +kernel
theorem dX0_knows_34 : decode cX0_knows 34 = .ok (.invokevirtual 50, 3) := by decide +kernel
theorem dX0_knows_37 : decode cX0_knows 37 = .ok (.ireturn, 1) := by decide +kernel
abbrev cX0_possibly : ByteArray := prog_1_method_8_code
def yX0_possibly : MethodName := ⟨RX0, "possibly", "(I)I"⟩
theorem dX0_possibly_0 : decode cX0_possibly 0 = .ok (.iload_n 1, 1) := by decide +kernel
theorem dX0_possibly_1 : decode cX0_possibly 1 = .ok (.iconst 1, 1) := by decide +kernel
theorem dX0_possibly_2 : decode cX0_possibly 2 = .ok (.if_icmp .lt 9, 3) := by decide +kernel
theorem dX0_possibly_5 : decode cX0_possibly 5 = .ok (.iload_n 1, 1) := by decide +kernel
theorem dX0_possibly_6 : decode cX0_possibly 6 = .ok (.bipush 7, 2) := by decide +kernel
theorem dX0_possibly_8 : decode cX0_possibly 8 = .ok (.if_icmp .le 5, 3) := by decide +kernel
theorem dX0_possibly_11 : decode cX0_possibly 11 = .ok (.iconst (-1), 1) := by decide +kernel
theorem dX0_possibly_12 : decode cX0_possibly 12 = .ok (.ireturn, 1) := by decide +kernel
theorem dX0_possibly_13 : decode cX0_possibly 13 = .ok (.aload_n 0, 1) := by decide +kernel
theorem dX0_possibly_14 : decode cX0_possibly 14 = .ok (.iload_n 1, 1) := by decide +kernel
theorem dX0_possibly_15 : decode cX0_possibly 15 = .ok (.invokevirtual 54, 3) := by decide +kernel
theorem dX0_possibly_18 : decode cX0_possibly 18 = .ok (.ifCond .eq 7, 3) := by decide +kernel
theorem dX0_possibly_21 : decode cX0_possibly 21 = .ok (.iconst 1, 1) := by decide +kernel
theorem dX0_possibly_22 : decode cX0_possibly 22 = .ok (.goto 4, 3) := by decide +kernel
theorem dX0_possibly_25 : decode cX0_possibly 25 = .ok (.iconst 0, 1) := by decide +kernel
theorem dX0_possibly_26 : decode cX0_possibly 26 = .ok (.ireturn, 1) := by decide +kernel
abbrev cX0_findLeast : ByteArray := prog_1_method_16_code
def yX0_findLeast : MethodName := ⟨RX0, "findLeast", "(I)Z"⟩
theorem dX0_findLeast_0 : decode cX0_findLeast 0 = .ok (.iconst 0, 1) := by decide +kernel
theorem dX0_findLeast_1 : decode cX0_findLeast 1 = .ok (.istore_n 2, 1) := by decide +kernel
theorem dX0_findLeast_2 : decode cX0_findLeast 2 = .ok (.iload_n 2, 1) := by decide +kernel
theorem dX0_findLeast_3 : decode cX0_findLeast 3 = .ok (.iconst 3, 1) := by decide +kernel
theorem dX0_findLeast_4 : decode cX0_findLeast 4 = .ok (.if_icmp .ge 16, 3) := by decide +kernel
theorem dX0_findLeast_7 : decode cX0_findLeast 7 = .ok (.aload_n 0, 1) := by decide +kernel
theorem dX0_findLeast_8 : decode cX0_findLeast 8 = .ok (.getfield 29, 3) := by decide +kernel
theorem dX0_findLeast_11 : decode cX0_findLeast 11 = .ok (.iload_n 2, 1) := by decide +kernel
theorem dX0_findLeast_12 : decode cX0_findLeast 12 = .ok (.iconst 0, 1) := by decide +kernel
theorem dX0_findLeast_13 : decode cX0_findLeast 13 = .ok (.iastore, 1) := by decide +kernel
theorem dX0_findLeast_14 : decode cX0_findLeast 14 = .ok (.iinc 2 1, 3) := by decide +kernel
theorem dX0_findLeast_17 : decode cX0_findLeast 17 = .ok (.goto (-15), 3) := by decide +kernel
theorem dX0_findLeast_20 : decode cX0_findLeast 20 = .ok (.iconst 1, 1) := by decide +kernel
theorem dX0_findLeast_21 : decode cX0_findLeast 21 = .ok (.istore_n 2, 1) := by decide +kernel
theorem dX0_findLeast_22 : decode cX0_findLeast 22 = .ok (.iconst 0, 1) := by decide +kernel
theorem dX0_findLeast_23 : decode cX0_findLeast 23 = .ok (.istore_n 3, 1) := by decide +kernel
theorem dX0_findLeast_24 : decode cX0_findLeast 24 = .ok (.iload_n 3, 1) := by decide +kernel
theorem dX0_findLeast_25 : decode cX0_findLeast 25 = .ok (.bipush 30, 2) := by decide +kernel
theorem dX0_findLeast_27 : decode cX0_findLeast 27 = .ok (.if_icmp .ge 84, 3) := by decide +kernel
theorem dX0_findLeast_30 : decode cX0_findLeast 30 = .ok (.iload_n 2, 1) := by decide +kernel
theorem dX0_findLeast_31 : decode cX0_findLeast 31 = .ok (.ifCond .eq 80, 3) := by decide +kernel
theorem dX0_findLeast_34 : decode cX0_findLeast 34 = .ok (.iconst 0, 1) := by decide +kernel
theorem dX0_findLeast_35 : decode cX0_findLeast 35 = .ok (.istore_n 2, 1) := by decide +kernel
theorem dX0_findLeast_36 : decode cX0_findLeast 36 = .ok (.iconst 0, 1) := by decide +kernel
theorem dX0_findLeast_37 : decode cX0_findLeast 37 = .ok (.istore 4, 2) := by decide +kernel
theorem dX0_findLeast_39 : decode cX0_findLeast 39 = .ok (.iload 4, 2) := by decide +kernel
theorem dX0_findLeast_41 : decode cX0_findLeast 41 = .ok (.iconst 3, 1) := by decide +kernel
theorem dX0_findLeast_42 : decode cX0_findLeast 42 = .ok (.if_icmp .ge 63, 3) := by decide +kernel
theorem dX0_findLeast_45 : decode cX0_findLeast 45 = .ok (.aload_n 0, 1) := by decide +kernel
theorem dX0_findLeast_46 : decode cX0_findLeast 46 = .ok (.iload 4, 2) := by decide +kernel
theorem dX0_findLeast_48 : decode cX0_findLeast 48 = .ok (.iload_n 1, 1) := by decide +kernel
theorem dX0_findLeast_49 : decode cX0_findLeast 49 = .ok (.invokevirtual 64, 3) := by decide +kernel
theorem dX0_findLeast_52 : decode cX0_findLeast 52 = .ok (.istore 5, 2) := by decide +kernel
theorem dX0_findLeast_54 : decode cX0_findLeast 54 = .ok (.iload 5, 2) := by decide +kernel
theorem dX0_findLeast_56 : decode cX0_findLeast 56 = .ok (.aload_n 0, 1) := by decide +kernel
theorem dX0_findLeast_57 : decode cX0_findLeast 57 = .ok (.getfield 7, 3) := by decide +kernel
theorem dX0_findLeast_60 : decode cX0_findLeast 60 = .ok (.iload 4, 2) := by decide +kernel
theorem dX0_findLeast_62 : decode cX0_findLeast 62 = .ok (.iaload, 1) := by decide +kernel
theorem dX0_findLeast_63 : decode cX0_findLeast 63 = .ok (.if_icmp .le 5, 3) := by decide +kernel
theorem dX0_findLeast_66 : decode cX0_findLeast 66 = .ok (.iconst 0, 1) := by decide +kernel
theorem dX0_findLeast_67 : decode cX0_findLeast 67 = .ok (.ireturn, 1) := by decide +kernel
theorem dX0_findLeast_68 : decode cX0_findLeast 68 = .ok (.iload_n 2, 1) := by decide +kernel
theorem dX0_findLeast_69 : decode cX0_findLeast 69 = .ok (.ifCond .ne 15, 3) := by decide +kernel
theorem dX0_findLeast_72 : decode cX0_findLeast 72 = .ok (.iload 5, 2) := by decide +kernel
theorem dX0_findLeast_74 : decode cX0_findLeast 74 = .ok (.aload_n 0, 1) := by decide +kernel
theorem dX0_findLeast_75 : decode cX0_findLeast 75 = .ok (.getfield 29, 3) := by decide +kernel
theorem dX0_findLeast_78 : decode cX0_findLeast 78 = .ok (.iload 4, 2) := by decide +kernel
theorem dX0_findLeast_80 : decode cX0_findLeast 80 = .ok (.iaload, 1) := by decide +kernel
theorem dX0_findLeast_81 : decode cX0_findLeast 81 = .ok (.if_icmp .le 7, 3) := by decide +kernel
theorem dX0_findLeast_84 : decode cX0_findLeast 84 = .ok (.iconst 1, 1) := by decide +kernel
theorem dX0_findLeast_85 : decode cX0_findLeast 85 = .ok (.goto 4, 3) := by decide +kernel
theorem dX0_findLeast_88 : decode cX0_findLeast 88 = .ok (.iconst 0, 1) := by decide +kernel
theorem dX0_findLeast_89 : decode cX0_findLeast 89 = .ok (.istore_n 2, 1) := by decide +kernel
theorem dX0_findLeast_90 : decode cX0_findLeast 90 = .ok (.aload_n 0, 1) := by decide +kernel
theorem dX0_findLeast_91 : decode cX0_findLeast 91 = .ok (.getfield 29, 3) := by decide +kernel
theorem dX0_findLeast_94 : decode cX0_findLeast 94 = .ok (.iload 4, 2) := by decide +kernel
theorem dX0_findLeast_96 : decode cX0_findLeast 96 = .ok (.iload 5, 2) := by decide +kernel
theorem dX0_findLeast_98 : decode cX0_findLeast 98 = .ok (.iastore, 1) := by decide +kernel
theorem dX0_findLeast_99 : decode cX0_findLeast 99 = .ok (.iinc 4 1, 3) := by decide +kernel
theorem dX0_findLeast_102 : decode cX0_findLeast 102 = .ok (.goto (-63), 3) := by decide +kernel
theorem dX0_findLeast_105 : decode cX0_findLeast 105 = .ok (.iinc 3 1, 3) := by decide +kernel
theorem dX0_findLeast_108 : decode cX0_findLeast 108 = .ok (.goto (-84), 3) := by decide +kernel
theorem dX0_findLeast_111 : decode cX0_findLeast 111 = .ok (.iconst 1, 1) := by decide +kernel
theorem dX0_findLeast_112 : decode cX0_findLeast 112 = .ok (.ireturn, 1) := by decide +kernel
abbrev cX0_neededState : ByteArray := prog_1_method_17_code
def yX0_neededState : MethodName := ⟨RX0, "neededState", "(II)I"⟩
theorem dX0_neededState_0 : decode cX0_neededState 0 = .ok (.aload_n 0, 1) := by decide +kernel
theorem dX0_neededState_1 : decode cX0_neededState 1 = .ok (.getfield 29, 3) := by decide +kernel
theorem dX0_neededState_4 : decode cX0_neededState 4 = .ok (.iload_n 1, 1) := by decide +kernel
theorem dX0_neededState_5 : decode cX0_neededState 5 = .ok (.iaload, 1) := by decide +kernel
theorem dX0_neededState_6 : decode cX0_neededState 6 = .ok (.istore_n 3, 1) := by decide +kernel
theorem dX0_neededState_7 : decode cX0_neededState 7 = .ok (.iconst 0, 1) := by decide +kernel
theorem dX0_neededState_8 : decode cX0_neededState 8 = .ok (.istore 4, 2) := by decide +kernel
theorem dX0_neededState_10 : decode cX0_neededState 10 = .ok (.iload 4, 2) := by decide +kernel
theorem dX0_neededState_12 : decode cX0_neededState 12 = .ok (.iconst 3, 1) := by decide +kernel
theorem dX0_neededState_13 : decode cX0_neededState 13 = .ok (.if_icmp .ge 38, 3) := by decide +kernel
theorem dX0_neededState_16 : decode cX0_neededState 16 = .ok (.aload_n 0, 1) := by decide +kernel
theorem dX0_neededState_17 : decode cX0_neededState 17 = .ok (.iload 4, 2) := by decide +kernel
theorem dX0_neededState_19 : decode cX0_neededState 19 = .ok (.aload_n 0, 1) := by decide +kernel
theorem dX0_neededState_20 : decode cX0_neededState 20 = .ok (.getfield 29, 3) := by decide +kernel
theorem dX0_neededState_23 : decode cX0_neededState 23 = .ok (.iload 4, 2) := by decide +kernel
theorem dX0_neededState_25 : decode cX0_neededState 25 = .ok (.iaload, 1) := by decide +kernel
theorem dX0_neededState_26 : decode cX0_neededState 26 = .ok (.iload_n 1, 1) := by decide +kernel
theorem dX0_neededState_27 : decode cX0_neededState 27 = .ok (.invokevirtual 50, 3) := by decide +kernel
theorem dX0_neededState_30 : decode cX0_neededState 30 = .ok (.istore 5, 2) := by decide +kernel
theorem dX0_neededState_32 : decode cX0_neededState 32 = .ok (.iload 5, 2) := by decide +kernel
theorem dX0_neededState_34 : decode cX0_neededState 34 = .ok (.iload_n 3, 1) := by decide +kernel
theorem dX0_neededState_35 : decode cX0_neededState 35 = .ok (.if_icmp .le 8, 3) := by decide +kernel
theorem dX0_neededState_38 : decode cX0_neededState 38 = .ok (.iload 5, 2) := by decide +kernel
theorem dX0_neededState_40 : decode cX0_neededState 40 = .ok (.goto 4, 3) := by decide +kernel
theorem dX0_neededState_43 : decode cX0_neededState 43 = .ok (.iload_n 3, 1) := by decide +kernel
theorem dX0_neededState_44 : decode cX0_neededState 44 = .ok (.istore_n 3, 1) := by decide +kernel
theorem dX0_neededState_45 : decode cX0_neededState 45 = .ok (.iinc 4 1, 3) := by decide +kernel
theorem dX0_neededState_48 : decode cX0_neededState 48 = .ok (.goto (-38), 3) := by decide +kernel
theorem dX0_neededState_51 : decode cX0_neededState 51 = .ok (.iload_n 3, 1) := by decide +kernel
theorem dX0_neededState_52 : decode cX0_neededState 52 = .ok (.aload_n 0, 1) := by decide +kernel
theorem dX0_neededState_53 : decode cX0_neededState 53 = .ok (.getfield 7, 3) := by decide +kernel
theorem dX0_neededState_56 : decode cX0_neededState 56 = .ok (.iload_n 1, 1) := by decide +kernel
theorem dX0_neededState_57 : decode cX0_neededState 57 = .ok (.iaload, 1) := by decide +kernel
theorem dX0_neededState_58 : decode cX0_neededState 58 = .ok (.if_icmp .gt 31, 3) := by decide +kernel
theorem dX0_neededState_61 : decode cX0_neededState 61 = .ok (.iload_n 2, 1) := by decide +kernel
theorem dX0_neededState_62 : decode cX0_neededState 62 = .ok (.iload_n 1, 1) := by decide +kernel
theorem dX0_neededState_63 : decode cX0_neededState 63 = .ok (.iushr, 1) := by decide +kernel
theorem dX0_neededState_64 : decode cX0_neededState 64 = .ok (.iconst 1, 1) := by decide +kernel
theorem dX0_neededState_65 : decode cX0_neededState 65 = .ok (.iand, 1) := by decide +kernel
theorem dX0_neededState_66 : decode cX0_neededState 66 = .ok (.ifCond .eq 23, 3) := by decide +kernel
theorem dX0_neededState_69 : decode cX0_neededState 69 = .ok (.aload_n 0, 1) := by decide +kernel
theorem dX0_neededState_70 : decode cX0_neededState 70 = .ok (.getfield 13, 3) := by decide +kernel
theorem dX0_neededState_73 : decode cX0_neededState 73 = .ok (.bipush 9, 2) := by decide +kernel
theorem dX0_neededState_75 : decode cX0_neededState 75 = .ok (.iload_n 1, 1) := by decide +kernel
theorem dX0_neededState_76 : decode cX0_neededState 76 = .ok (.imul, 1) := by decide +kernel
theorem dX0_neededState_77 : decode cX0_neededState 77 = .ok (.iload_n 3, 1) := by decide +kernel
theorem dX0_neededState_78 : decode cX0_neededState 78 = .ok (.iadd, 1) := by decide +kernel
theorem dX0_neededState_79 : decode cX0_neededState 79 = .ok (.baload, 1) := by decide +kernel
theorem dX0_neededState_80 : decode cX0_neededState 80 = .ok (.ifCond .ne 9, 3) := by decide +kernel
theorem dX0_neededState_83 : decode cX0_neededState 83 = .ok (.iinc 3 1, 3) := by decide +kernel
theorem dX0_neededState_86 : decode cX0_neededState 86 = .ok (.goto (-35), 3) := by decide +kernel
theorem dX0_neededState_89 : decode cX0_neededState 89 = .ok (.iload_n 3, 1) := by decide +kernel
theorem dX0_neededState_90 : decode cX0_neededState 90 = .ok (.ireturn, 1) := by decide +kernel
abbrev cX0_least : ByteArray := prog_1_method_9_code
def yX0_least : MethodName := ⟨RX0, "least", "(II)I"⟩
theorem dX0_least_0 : decode cX0_least 0 = .ok (.iload_n 1, 1) := by decide +kernel
theorem dX0_least_1 : decode cX0_least 1 = .ok (.iconst 1, 1) := by decide +kernel
theorem dX0_least_2 : decode cX0_least 2 = .ok (.if_icmp .lt 16, 3) := by decide +kernel
theorem dX0_least_5 : decode cX0_least 5 = .ok (.iload_n 1, 1) := by decide +kernel
theorem dX0_least_6 : decode cX0_least 6 = .ok (.bipush 7, 2) := by decide +kernel
theorem dX0_least_8 : decode cX0_least 8 = .ok (.if_icmp .gt 10, 3) := by decide +kernel
theorem dX0_least_11 : decode cX0_least 11 = .ok (.iload_n 2, 1) := by decide +kernel
theorem dX0_least_12 : decode cX0_least 12 = .ok (.invokestatic 38, 3) := by decide +kernel
theorem dX0_least_15 : decode cX0_least 15 = .ok (.ifCond .ne 5, 3) := by decide +kernel
theorem dX0_least_18 : decode cX0_least 18 = .ok (.iconst (-1), 1) := by decide +kernel
theorem dX0_least_19 : decode cX0_least 19 = .ok (.ireturn, 1) := by decide +kernel
theorem dX0_least_20 : decode cX0_least 20 = .ok (.aload_n 0, 1) := by decide +kernel
theorem dX0_least_21 : decode cX0_least 21 = .ok (.iload_n 1, 1) := by decide +kernel
theorem dX0_least_22 : decode cX0_least 22 = .ok (.invokevirtual 54, 3) := by decide +kernel
theorem dX0_least_25 : decode cX0_least 25 = .ok (.ifCond .eq 12, 3) := by decide +kernel
theorem dX0_least_28 : decode cX0_least 28 = .ok (.aload_n 0, 1) := by decide +kernel
theorem dX0_least_29 : decode cX0_least 29 = .ok (.getfield 29, 3) := by decide +kernel
theorem dX0_least_32 : decode cX0_least 32 = .ok (.iload_n 2, 1) := by decide +kernel
theorem dX0_least_33 : decode cX0_least 33 = .ok (.iaload, 1) := by decide +kernel
theorem dX0_least_34 : decode cX0_least 34 = .ok (.goto 4, 3) := by decide +kernel
theorem dX0_least_37 : decode cX0_least 37 = .ok (.iconst (-1), 1) := by decide +kernel
theorem dX0_least_38 : decode cX0_least 38 = .ok (.ireturn, 1) := by decide +kernel
abbrev cX0_definitely : ByteArray := prog_1_method_10_code
def yX0_definitely : MethodName := ⟨RX0, "definitely", "(I)I"⟩
theorem dX0_definitely_0 : decode cX0_definitely 0 = .ok (.iload_n 1, 1) := by decide +kernel
theorem dX0_definitely_1 : decode cX0_definitely 1 = .ok (.iconst 1, 1) := by decide +kernel
theorem dX0_definitely_2 : decode cX0_definitely 2 = .ok (.if_icmp .lt 9, 3) := by decide +kernel
theorem dX0_definitely_5 : decode cX0_definitely 5 = .ok (.iload_n 1, 1) := by decide +kernel
theorem dX0_definitely_6 : decode cX0_definitely 6 = .ok (.bipush 7, 2) := by decide +kernel
theorem dX0_definitely_8 : decode cX0_definitely 8 = .ok (.if_icmp .le 5, 3) := by decide +kernel
theorem dX0_definitely_11 : decode cX0_definitely 11 = .ok (.iconst (-1), 1) := by decide +kernel
theorem dX0_definitely_12 : decode cX0_definitely 12 = .ok (.ireturn, 1) := by decide +kernel
theorem dX0_definitely_13 : decode cX0_definitely 13 = .ok (.aload_n 0, 1) := by decide +kernel
theorem dX0_definitely_14 : decode cX0_definitely 14 = .ok (.iload_n 1, 1) := by decide +kernel
theorem dX0_definitely_15 : decode cX0_definitely 15 = .ok (.invokevirtual 57, 3) := by decide +kernel
theorem dX0_definitely_18 : decode cX0_definitely 18 = .ok (.ifCond .eq 7, 3) := by decide +kernel
theorem dX0_definitely_21 : decode cX0_definitely 21 = .ok (.iconst 1, 1) := by decide +kernel
theorem dX0_definitely_22 : decode cX0_definitely 22 = .ok (.goto 4, 3) := by decide +kernel
theorem dX0_definitely_25 : decode cX0_definitely 25 = .ok (.iconst 0, 1) := by decide +kernel
theorem dX0_definitely_26 : decode cX0_definitely 26 = .ok (.ireturn, 1) := by decide +kernel
end
section
set_option maxRecDepth 100000
abbrev cX0_stretchesMeet : ByteArray := prog_1_method_18_code
def yX0_stretchesMeet : MethodName := ⟨RX0, "stretchesMeet", "(I)Z"⟩
theorem dX0_stretchesMeet_0 : decode cX0_stretchesMeet 0 = .ok (.iconst 0, 1) := by decide +kernel
theorem dX0_stretchesMeet_1 : decode cX0_stretchesMeet 1 = .ok (.istore_n 2, 1) := by decide +kernel
theorem dX0_stretchesMeet_2 : decode cX0_stretchesMeet 2 = .ok (.iload_n 2, 1) := by decide +kernel
theorem dX0_stretchesMeet_3 : decode cX0_stretchesMeet 3 = .ok (.iconst 3, 1) := by decide +kernel
theorem dX0_stretchesMeet_4 : decode cX0_stretchesMeet 4 = .ok (.if_icmp .ge 28, 3) := by decide +kernel
theorem dX0_stretchesMeet_7 : decode cX0_stretchesMeet 7 = .ok (.iload_n 1, 1) := by decide +kernel
theorem dX0_stretchesMeet_8 : decode cX0_stretchesMeet 8 = .ok (.iload_n 2, 1) := by decide +kernel
theorem dX0_stretchesMeet_9 : decode cX0_stretchesMeet 9 = .ok (.iushr, 1) := by decide +kernel
theorem dX0_stretchesMeet_10 : decode cX0_stretchesMeet 10 = .ok (.iconst 1, 1) := by decide +kernel
theorem dX0_stretchesMeet_11 : decode cX0_stretchesMeet 11 = .ok (.iand, 1) := by decide +kernel
theorem dX0_stretchesMeet_12 : decode cX0_stretchesMeet 12 = .ok (.ifCond .eq 14, 3) := by decide +kernel
theorem dX0_stretchesMeet_15 : decode cX0_stretchesMeet 15 = .ok (.aload_n 0, 1) := by decide +kernel
theorem dX0_stretchesMeet_16 : decode cX0_stretchesMeet 16 = .ok (.iload_n 2, 1) := by decide +kernel
theorem dX0_stretchesMeet_17 : decode cX0_stretchesMeet 17 = .ok (.iconst 0, 1) := by decide +kernel
theorem dX0_stretchesMeet_18 : decode cX0_stretchesMeet 18 = .ok (.invokevirtual 67, 3) := by decide +kernel
theorem dX0_stretchesMeet_21 : decode cX0_stretchesMeet 21 = .ok (.ifCond .ne 5, 3) := by decide +kernel
theorem dX0_stretchesMeet_24 : decode cX0_stretchesMeet 24 = .ok (.iconst 0, 1) := by decide +kernel
theorem dX0_stretchesMeet_25 : decode cX0_stretchesMeet 25 = .ok (.ireturn, 1) := by decide +kernel
theorem dX0_stretchesMeet_26 : decode cX0_stretchesMeet 26 = .ok (.iinc 2 1, 3) := by decide +kernel
theorem dX0_stretchesMeet_29 : decode cX0_stretchesMeet 29 = .ok (.goto (-27), 3) := by decide +kernel
theorem dX0_stretchesMeet_32 : decode cX0_stretchesMeet 32 = .ok (.iconst 1, 1) := by decide +kernel
theorem dX0_stretchesMeet_33 : decode cX0_stretchesMeet 33 = .ok (.istore_n 2, 1) := by decide +kernel
theorem dX0_stretchesMeet_34 : decode cX0_stretchesMeet 34 = .ok (.iconst 0, 1) := by decide +kernel
theorem dX0_stretchesMeet_35 : decode cX0_stretchesMeet 35 = .ok (.istore_n 3, 1) := by decide +kernel
theorem dX0_stretchesMeet_36 : decode cX0_stretchesMeet 36 = .ok (.iload_n 3, 1) := by decide +kernel
theorem dX0_stretchesMeet_37 : decode cX0_stretchesMeet 37 = .ok (.bipush 20, 2) := by decide +kernel
theorem dX0_stretchesMeet_39 : decode cX0_stretchesMeet 39 = .ok (.if_icmp .ge 55, 3) := by decide +kernel
theorem dX0_stretchesMeet_42 : decode cX0_stretchesMeet 42 = .ok (.iload_n 2, 1) := by decide +kernel
theorem dX0_stretchesMeet_43 : decode cX0_stretchesMeet 43 = .ok (.ifCond .eq 51, 3) := by decide +kernel
theorem dX0_stretchesMeet_46 : decode cX0_stretchesMeet 46 = .ok (.aload_n 0, 1) := by decide +kernel
theorem dX0_stretchesMeet_47 : decode cX0_stretchesMeet 47 = .ok (.iload_n 1, 1) := by decide +kernel
theorem dX0_stretchesMeet_48 : decode cX0_stretchesMeet 48 = .ok (.invokevirtual 71, 3) := by decide +kernel
theorem dX0_stretchesMeet_51 : decode cX0_stretchesMeet 51 = .ok (.istore 4, 2) := by decide +kernel
theorem dX0_stretchesMeet_53 : decode cX0_stretchesMeet 53 = .ok (.iload 4, 2) := by decide +kernel
theorem dX0_stretchesMeet_55 : decode cX0_stretchesMeet 55 = .ok (.ifCond .lt 7, 3) := by decide +kernel
theorem dX0_stretchesMeet_58 : decode cX0_stretchesMeet 58 = .ok (.iconst 1, 1) := by decide +kernel
theorem dX0_stretchesMeet_59 : decode cX0_stretchesMeet 59 = .ok (.goto 4, 3) := by decide +kernel
theorem dX0_stretchesMeet_62 : decode cX0_stretchesMeet 62 = .ok (.iconst 0, 1) := by decide +kernel
theorem dX0_stretchesMeet_63 : decode cX0_stretchesMeet 63 = .ok (.istore_n 2, 1) := by decide +kernel
theorem dX0_stretchesMeet_64 : decode cX0_stretchesMeet 64 = .ok (.iload_n 2, 1) := by decide +kernel
theorem dX0_stretchesMeet_65 : decode cX0_stretchesMeet 65 = .ok (.ifCond .eq 23, 3) := by decide +kernel
theorem dX0_stretchesMeet_68 : decode cX0_stretchesMeet 68 = .ok (.aload_n 0, 1) := by decide +kernel
theorem dX0_stretchesMeet_69 : decode cX0_stretchesMeet 69 = .ok (.iload 4, 2) := by decide +kernel
theorem dX0_stretchesMeet_71 : decode cX0_stretchesMeet 71 = .ok (.aload_n 0, 1) := by decide +kernel
theorem dX0_stretchesMeet_72 : decode cX0_stretchesMeet 72 = .ok (.getfield 35, 3) := by decide +kernel
theorem dX0_stretchesMeet_75 : decode cX0_stretchesMeet 75 = .ok (.iload 4, 2) := by decide +kernel
theorem dX0_stretchesMeet_77 : decode cX0_stretchesMeet 77 = .ok (.iaload, 1) := by decide +kernel
theorem dX0_stretchesMeet_78 : decode cX0_stretchesMeet 78 = .ok (.iconst 1, 1) := by decide +kernel
theorem dX0_stretchesMeet_79 : decode cX0_stretchesMeet 79 = .ok (.iadd, 1) := by decide +kernel
theorem dX0_stretchesMeet_80 : decode cX0_stretchesMeet 80 = .ok (.invokevirtual 67, 3) := by decide +kernel
theorem dX0_stretchesMeet_83 : decode cX0_stretchesMeet 83 = .ok (.ifCond .ne 5, 3) := by decide +kernel
theorem dX0_stretchesMeet_86 : decode cX0_stretchesMeet 86 = .ok (.iconst 0, 1) := by decide +kernel
theorem dX0_stretchesMeet_87 : decode cX0_stretchesMeet 87 = .ok (.ireturn, 1) := by decide +kernel
theorem dX0_stretchesMeet_88 : decode cX0_stretchesMeet 88 = .ok (.iinc 3 1, 3) := by decide +kernel
theorem dX0_stretchesMeet_91 : decode cX0_stretchesMeet 91 = .ok (.goto (-55), 3) := by decide +kernel
theorem dX0_stretchesMeet_94 : decode cX0_stretchesMeet 94 = .ok (.iconst 1, 1) := by decide +kernel
theorem dX0_stretchesMeet_95 : decode cX0_stretchesMeet 95 = .ok (.ireturn, 1) := by decide +kernel
abbrev cX0_nextStretch : ByteArray := prog_1_method_19_code
def yX0_nextStretch : MethodName := ⟨RX0, "nextStretch", "(II)Z"⟩
theorem dX0_nextStretch_0 : decode cX0_nextStretch 0 = .ok (.iload_n 2, 1) := by decide +kernel
theorem dX0_nextStretch_1 : decode cX0_nextStretch 1 = .ok (.istore_n 3, 1) := by decide +kernel
theorem dX0_nextStretch_2 : decode cX0_nextStretch 2 = .ok (.iload_n 3, 1) := by decide +kernel
theorem dX0_nextStretch_3 : decode cX0_nextStretch 3 = .ok (.aload_n 0, 1) := by decide +kernel
theorem dX0_nextStretch_4 : decode cX0_nextStretch 4 = .ok (.getfield 7, 3) := by decide +kernel
theorem dX0_nextStretch_7 : decode cX0_nextStretch 7 = .ok (.iload_n 1, 1) := by decide +kernel
theorem dX0_nextStretch_8 : decode cX0_nextStretch 8 = .ok (.iaload, 1) := by decide +kernel
theorem dX0_nextStretch_9 : decode cX0_nextStretch 9 = .ok (.if_icmp .gt 23, 3) := by decide +kernel
theorem dX0_nextStretch_12 : decode cX0_nextStretch 12 = .ok (.aload_n 0, 1) := by decide +kernel
theorem dX0_nextStretch_13 : decode cX0_nextStretch 13 = .ok (.getfield 13, 3) := by decide +kernel
theorem dX0_nextStretch_16 : decode cX0_nextStretch 16 = .ok (.bipush 9, 2) := by decide +kernel
theorem dX0_nextStretch_18 : decode cX0_nextStretch 18 = .ok (.iload_n 1, 1) := by decide +kernel
theorem dX0_nextStretch_19 : decode cX0_nextStretch 19 = .ok (.imul, 1) := by decide +kernel
theorem dX0_nextStretch_20 : decode cX0_nextStretch 20 = .ok (.iload_n 3, 1) := by decide +kernel
theorem dX0_nextStretch_21 : decode cX0_nextStretch 21 = .ok (.iadd, 1) := by decide +kernel
theorem dX0_nextStretch_22 : decode cX0_nextStretch 22 = .ok (.baload, 1) := by decide +kernel
theorem dX0_nextStretch_23 : decode cX0_nextStretch 23 = .ok (.ifCond .ne 9, 3) := by decide +kernel
theorem dX0_nextStretch_26 : decode cX0_nextStretch 26 = .ok (.iinc 3 1, 3) := by decide +kernel
theorem dX0_nextStretch_29 : decode cX0_nextStretch 29 = .ok (.goto (-27), 3) := by decide +kernel
theorem dX0_nextStretch_32 : decode cX0_nextStretch 32 = .ok (.iload_n 3, 1) := by decide +kernel
theorem dX0_nextStretch_33 : decode cX0_nextStretch 33 = .ok (.aload_n 0, 1) := by decide +kernel
theorem dX0_nextStretch_34 : decode cX0_nextStretch 34 = .ok (.getfield 7, 3) := by decide +kernel
theorem dX0_nextStretch_37 : decode cX0_nextStretch 37 = .ok (.iload_n 1, 1) := by decide +kernel
theorem dX0_nextStretch_38 : decode cX0_nextStretch 38 = .ok (.iaload, 1) := by decide +kernel
theorem dX0_nextStretch_39 : decode cX0_nextStretch 39 = .ok (.if_icmp .le 5, 3) := by decide +kernel
theorem dX0_nextStretch_42 : decode cX0_nextStretch 42 = .ok (.iconst 0, 1) := by decide +kernel
theorem dX0_nextStretch_43 : decode cX0_nextStretch 43 = .ok (.ireturn, 1) := by decide +kernel
theorem dX0_nextStretch_44 : decode cX0_nextStretch 44 = .ok (.aload_n 0, 1) := by decide +kernel
theorem dX0_nextStretch_45 : decode cX0_nextStretch 45 = .ok (.getfield 32, 3) := by decide +kernel
theorem dX0_nextStretch_48 : decode cX0_nextStretch 48 = .ok (.iload_n 1, 1) := by decide +kernel
theorem dX0_nextStretch_49 : decode cX0_nextStretch 49 = .ok (.iload_n 3, 1) := by decide +kernel
theorem dX0_nextStretch_50 : decode cX0_nextStretch 50 = .ok (.iastore, 1) := by decide +kernel
theorem dX0_nextStretch_51 : decode cX0_nextStretch 51 = .ok (.iload_n 3, 1) := by decide +kernel
theorem dX0_nextStretch_52 : decode cX0_nextStretch 52 = .ok (.aload_n 0, 1) := by decide +kernel
theorem dX0_nextStretch_53 : decode cX0_nextStretch 53 = .ok (.getfield 7, 3) := by decide +kernel
theorem dX0_nextStretch_56 : decode cX0_nextStretch 56 = .ok (.iload_n 1, 1) := by decide +kernel
theorem dX0_nextStretch_57 : decode cX0_nextStretch 57 = .ok (.iaload, 1) := by decide +kernel
theorem dX0_nextStretch_58 : decode cX0_nextStretch 58 = .ok (.if_icmp .ge 25, 3) := by decide +kernel
theorem dX0_nextStretch_61 : decode cX0_nextStretch 61 = .ok (.aload_n 0, 1) := by decide +kernel
theorem dX0_nextStretch_62 : decode cX0_nextStretch 62 = .ok (.getfield 13, 3) := by decide +kernel
theorem dX0_nextStretch_65 : decode cX0_nextStretch 65 = .ok (.bipush 9, 2) := by decide +kernel
theorem dX0_nextStretch_67 : decode cX0_nextStretch 67 = .ok (.iload_n 1, 1) := by decide +kernel
theorem dX0_nextStretch_68 : decode cX0_nextStretch 68 = .ok (.imul, 1) := by decide +kernel
theorem dX0_nextStretch_69 : decode cX0_nextStretch 69 = .ok (.iload_n 3, 1) := by decide +kernel
theorem dX0_nextStretch_70 : decode cX0_nextStretch 70 = .ok (.iadd, 1) := by decide +kernel
theorem dX0_nextStretch_71 : decode cX0_nextStretch 71 = .ok (.iconst 1, 1) := by decide +kernel
theorem dX0_nextStretch_72 : decode cX0_nextStretch 72 = .ok (.iadd, 1) := by decide +kernel
theorem dX0_nextStretch_73 : decode cX0_nextStretch 73 = .ok (.baload, 1) := by decide +kernel
theorem dX0_nextStretch_74 : decode cX0_nextStretch 74 = .ok (.ifCond .eq 9, 3) := by decide +kernel
theorem dX0_nextStretch_77 : decode cX0_nextStretch 77 = .ok (.iinc 3 1, 3) := by decide +kernel
theorem dX0_nextStretch_80 : decode cX0_nextStretch 80 = .ok (.goto (-29), 3) := by decide +kernel
theorem dX0_nextStretch_83 : decode cX0_nextStretch 83 = .ok (.aload_n 0, 1) := by decide +kernel
theorem dX0_nextStretch_84 : decode cX0_nextStretch 84 = .ok (.getfield 35, 3) := by decide +kernel
theorem dX0_nextStretch_87 : decode cX0_nextStretch 87 = .ok (.iload_n 1, 1) := by decide +kernel
theorem dX0_nextStretch_88 : decode cX0_nextStretch 88 = .ok (.iload_n 3, 1) := by decide +kernel
theorem dX0_nextStretch_89 : decode cX0_nextStretch 89 = .ok (.iastore, 1) := by decide +kernel
theorem dX0_nextStretch_90 : decode cX0_nextStretch 90 = .ok (.iconst 1, 1) := by decide +kernel
theorem dX0_nextStretch_91 : decode cX0_nextStretch 91 = .ok (.ireturn, 1) := by decide +kernel
abbrev cX0_tooEarly : ByteArray := prog_1_method_20_code
def yX0_tooEarly : MethodName := ⟨RX0, "tooEarly", "(I)I"⟩
theorem dX0_tooEarly_0 : decode cX0_tooEarly 0 = .ok (.iconst 0, 1) := by decide +kernel
theorem dX0_tooEarly_1 : decode cX0_tooEarly 1 = .ok (.istore_n 2, 1) := by decide +kernel
theorem dX0_tooEarly_2 : decode cX0_tooEarly 2 = .ok (.iload_n 2, 1) := by decide +kernel
theorem dX0_tooEarly_3 : decode cX0_tooEarly 3 = .ok (.iconst 3, 1) := by decide +kernel
theorem dX0_tooEarly_4 : decode cX0_tooEarly 4 = .ok (.if_icmp .ge 95, 3) := by decide +kernel
theorem dX0_tooEarly_7 : decode cX0_tooEarly 7 = .ok (.iconst 0, 1) := by decide +kernel
theorem dX0_tooEarly_8 : decode cX0_tooEarly 8 = .ok (.istore_n 3, 1) := by decide +kernel
theorem dX0_tooEarly_9 : decode cX0_tooEarly 9 = .ok (.iload_n 3, 1) := by decide +kernel
theorem dX0_tooEarly_10 : decode cX0_tooEarly 10 = .ok (.iconst 3, 1) := by decide +kernel
theorem dX0_tooEarly_11 : decode cX0_tooEarly 11 = .ok (.if_icmp .ge 82, 3) := by decide +kernel
theorem dX0_tooEarly_14 : decode cX0_tooEarly 14 = .ok (.iload_n 2, 1) := by decide +kernel
theorem dX0_tooEarly_15 : decode cX0_tooEarly 15 = .ok (.iload_n 3, 1) := by decide +kernel
theorem dX0_tooEarly_16 : decode cX0_tooEarly 16 = .ok (.if_icmp .eq 23, 3) := by decide +kernel
theorem dX0_tooEarly_19 : decode cX0_tooEarly 19 = .ok (.iload_n 1, 1) := by decide +kernel
theorem dX0_tooEarly_20 : decode cX0_tooEarly 20 = .ok (.iload_n 2, 1) := by decide +kernel
theorem dX0_tooEarly_21 : decode cX0_tooEarly 21 = .ok (.iushr, 1) := by decide +kernel
theorem dX0_tooEarly_22 : decode cX0_tooEarly 22 = .ok (.iconst 1, 1) := by decide +kernel
theorem dX0_tooEarly_23 : decode cX0_tooEarly 23 = .ok (.iand, 1) := by decide +kernel
theorem dX0_tooEarly_24 : decode cX0_tooEarly 24 = .ok (.ifCond .eq 15, 3) := by decide +kernel
theorem dX0_tooEarly_27 : decode cX0_tooEarly 27 = .ok (.iload_n 1, 1) := by decide +kernel
theorem dX0_tooEarly_28 : decode cX0_tooEarly 28 = .ok (.iload_n 3, 1) := by decide +kernel
theorem dX0_tooEarly_29 : decode cX0_tooEarly 29 = .ok (.iushr, 1) := by decide +kernel
theorem dX0_tooEarly_30 : decode cX0_tooEarly 30 = .ok (.iconst 1, 1) := by decide +kernel
theorem dX0_tooEarly_31 : decode cX0_tooEarly 31 = .ok (.iand, 1) := by decide +kernel
theorem dX0_tooEarly_32 : decode cX0_tooEarly 32 = .ok (.ifCond .eq 7, 3) := by decide +kernel
theorem dX0_tooEarly_35 : decode cX0_tooEarly 35 = .ok (.iconst 1, 1) := by decide +kernel
theorem dX0_tooEarly_36 : decode cX0_tooEarly 36 = .ok (.goto 4, 3) := by decide +kernel
theorem dX0_tooEarly_39 : decode cX0_tooEarly 39 = .ok (.iconst 0, 1) := by decide +kernel
theorem dX0_tooEarly_40 : decode cX0_tooEarly 40 = .ok (.istore 4, 2) := by decide +kernel
theorem dX0_tooEarly_42 : decode cX0_tooEarly 42 = .ok (.iload 4, 2) := by decide +kernel
theorem dX0_tooEarly_44 : decode cX0_tooEarly 44 = .ok (.ifCond .eq 43, 3) := by decide +kernel
theorem dX0_tooEarly_47 : decode cX0_tooEarly 47 = .ok (.aload_n 0, 1) := by decide +kernel
theorem dX0_tooEarly_48 : decode cX0_tooEarly 48 = .ok (.getfield 35, 3) := by decide +kernel
theorem dX0_tooEarly_51 : decode cX0_tooEarly 51 = .ok (.iload_n 2, 1) := by decide +kernel
theorem dX0_tooEarly_52 : decode cX0_tooEarly 52 = .ok (.iaload, 1) := by decide +kernel
theorem dX0_tooEarly_53 : decode cX0_tooEarly 53 = .ok (.aload_n 0, 1) := by decide +kernel
theorem dX0_tooEarly_54 : decode cX0_tooEarly 54 = .ok (.getfield 7, 3) := by decide +kernel
theorem dX0_tooEarly_57 : decode cX0_tooEarly 57 = .ok (.iload_n 2, 1) := by decide +kernel
theorem dX0_tooEarly_58 : decode cX0_tooEarly 58 = .ok (.iaload, 1) := by decide +kernel
theorem dX0_tooEarly_59 : decode cX0_tooEarly 59 = .ok (.if_icmp .ge 28, 3) := by decide +kernel
theorem dX0_tooEarly_62 : decode cX0_tooEarly 62 = .ok (.aload_n 0, 1) := by decide +kernel
theorem dX0_tooEarly_63 : decode cX0_tooEarly 63 = .ok (.iload_n 2, 1) := by decide +kernel
theorem dX0_tooEarly_64 : decode cX0_tooEarly 64 = .ok (.aload_n 0, 1) := by decide +kernel
theorem dX0_tooEarly_65 : decode cX0_tooEarly 65 = .ok (.getfield 35, 3) := by decide +kernel
theorem dX0_tooEarly_68 : decode cX0_tooEarly 68 = .ok (.iload_n 2, 1) := by decide +kernel
theorem dX0_tooEarly_69 : decode cX0_tooEarly 69 = .ok (.iaload, 1) := by decide +kernel
theorem dX0_tooEarly_70 : decode cX0_tooEarly 70 = .ok (.iconst 1, 1) := by decide +kernel
theorem dX0_tooEarly_71 : decode cX0_tooEarly 71 = .ok (.iadd, 1) := by decide +kernel
theorem dX0_tooEarly_72 : decode cX0_tooEarly 72 = .ok (.iload_n 3, 1) := by decide +kernel
theorem dX0_tooEarly_73 : decode cX0_tooEarly 73 = .ok (.invokevirtual 50, 3) := by decide +kernel
theorem dX0_tooEarly_76 : decode cX0_tooEarly 76 = .ok (.aload_n 0, 1) := by decide +kernel
theorem dX0_tooEarly_77 : decode cX0_tooEarly 77 = .ok (.getfield 32, 3) := by decide +kernel
theorem dX0_tooEarly_80 : decode cX0_tooEarly 80 = .ok (.iload_n 3, 1) := by decide +kernel
theorem dX0_tooEarly_81 : decode cX0_tooEarly 81 = .ok (.iaload, 1) := by decide +kernel
theorem dX0_tooEarly_82 : decode cX0_tooEarly 82 = .ok (.if_icmp .ge 5, 3) := by decide +kernel
theorem dX0_tooEarly_85 : decode cX0_tooEarly 85 = .ok (.iload_n 2, 1) := by decide +kernel
theorem dX0_tooEarly_86 : decode cX0_tooEarly 86 = .ok (.ireturn, 1) := by decide +kernel
theorem dX0_tooEarly_87 : decode cX0_tooEarly 87 = .ok (.iinc 3 1, 3) := by decide +kernel
theorem dX0_tooEarly_90 : decode cX0_tooEarly 90 = .ok (.goto (-81), 3) := by decide +kernel
theorem dX0_tooEarly_93 : decode cX0_tooEarly 93 = .ok (.iinc 2 1, 3) := by decide +kernel
theorem dX0_tooEarly_96 : decode cX0_tooEarly 96 = .ok (.goto (-94), 3) := by decide +kernel
theorem dX0_tooEarly_99 : decode cX0_tooEarly 99 = .ok (.iconst (-1), 1) := by decide +kernel
theorem dX0_tooEarly_100 : decode cX0_tooEarly 100 = .ok (.ireturn, 1) := by decide +kernel
abbrev cX0_cuts : ByteArray := prog_1_method_11_code
def yX0_cuts : MethodName := ⟨RX0, "cuts", "()I"⟩
theorem dX0_cuts_0 : decode cX0_cuts 0 = .ok (.iconst 0, 1) := by decide +kernel
theorem dX0_cuts_1 : decode cX0_cuts 1 = .ok (.istore_n 1, 1) := by decide +kernel
theorem dX0_cuts_2 : decode cX0_cuts 2 = .ok (.iconst 0, 1) := by decide +kernel
theorem dX0_cuts_3 : decode cX0_cuts 3 = .ok (.istore_n 2, 1) := by decide +kernel
theorem dX0_cuts_4 : decode cX0_cuts 4 = .ok (.iload_n 2, 1) := by decide +kernel
theorem dX0_cuts_5 : decode cX0_cuts 5 = .ok (.aload_n 0, 1) := by decide +kernel
theorem dX0_cuts_6 : decode cX0_cuts 6 = .ok (.getfield 7, 3) := by decide +kernel
theorem dX0_cuts_9 : decode cX0_cuts 9 = .ok (.iconst 0, 1) := by decide +kernel
theorem dX0_cuts_10 : decode cX0_cuts 10 = .ok (.iaload, 1) := by decide +kernel
theorem dX0_cuts_11 : decode cX0_cuts 11 = .ok (.if_icmp .gt 58, 3) := by decide +kernel
theorem dX0_cuts_14 : decode cX0_cuts 14 = .ok (.iconst 0, 1) := by decide +kernel
theorem dX0_cuts_15 : decode cX0_cuts 15 = .ok (.istore_n 3, 1) := by decide +kernel
theorem dX0_cuts_16 : decode cX0_cuts 16 = .ok (.iload_n 3, 1) := by decide +kernel
theorem dX0_cuts_17 : decode cX0_cuts 17 = .ok (.aload_n 0, 1) := by decide +kernel
theorem dX0_cuts_18 : decode cX0_cuts 18 = .ok (.getfield 7, 3) := by decide +kernel
theorem dX0_cuts_21 : decode cX0_cuts 21 = .ok (.iconst 1, 1) := by decide +kernel
theorem dX0_cuts_22 : decode cX0_cuts 22 = .ok (.iaload, 1) := by decide +kernel
theorem dX0_cuts_23 : decode cX0_cuts 23 = .ok (.if_icmp .gt 40, 3) := by decide +kernel
theorem dX0_cuts_26 : decode cX0_cuts 26 = .ok (.aload_n 0, 1) := by decide +kernel
theorem dX0_cuts_27 : decode cX0_cuts 27 = .ok (.iconst 0, 1) := by decide +kernel
theorem dX0_cuts_28 : decode cX0_cuts 28 = .ok (.iload_n 2, 1) := by decide +kernel
theorem dX0_cuts_29 : decode cX0_cuts 29 = .ok (.iconst 1, 1) := by decide +kernel
theorem dX0_cuts_30 : decode cX0_cuts 30 = .ok (.invokevirtual 50, 3) := by decide +kernel
theorem dX0_cuts_33 : decode cX0_cuts 33 = .ok (.iload_n 3, 1) := by decide +kernel
theorem dX0_cuts_34 : decode cX0_cuts 34 = .ok (.if_icmp .gt 23, 3) := by decide +kernel
theorem dX0_cuts_37 : decode cX0_cuts 37 = .ok (.aload_n 0, 1) := by decide +kernel
theorem dX0_cuts_38 : decode cX0_cuts 38 = .ok (.iconst 1, 1) := by decide +kernel
theorem dX0_cuts_39 : decode cX0_cuts 39 = .ok (.iload_n 3, 1) := by decide +kernel
theorem dX0_cuts_40 : decode cX0_cuts 40 = .ok (.iconst 0, 1) := by decide +kernel
theorem dX0_cuts_41 : decode cX0_cuts 41 = .ok (.invokevirtual 50, 3) := by decide +kernel
theorem dX0_cuts_44 : decode cX0_cuts 44 = .ok (.iload_n 2, 1) := by decide +kernel
theorem dX0_cuts_45 : decode cX0_cuts 45 = .ok (.if_icmp .gt 12, 3) := by decide +kernel
theorem dX0_cuts_48 : decode cX0_cuts 48 = .ok (.iload_n 1, 1) := by decide +kernel
theorem dX0_cuts_49 : decode cX0_cuts 49 = .ok (.aload_n 0, 1) := by decide +kernel
theorem dX0_cuts_50 : decode cX0_cuts 50 = .ok (.iload_n 2, 1) := by decide +kernel
theorem dX0_cuts_51 : decode cX0_cuts 51 = .ok (.iload_n 3, 1) := by decide +kernel
theorem dX0_cuts_52 : decode cX0_cuts 52 = .ok (.invokevirtual 60, 3) := by decide +kernel
theorem dX0_cuts_55 : decode cX0_cuts 55 = .ok (.iadd, 1) := by decide +kernel
theorem dX0_cuts_56 : decode cX0_cuts 56 = .ok (.istore_n 1, 1) := by decide +kernel
theorem dX0_cuts_57 : decode cX0_cuts 57 = .ok (.iinc 3 1, 3) := by decide +kernel
theorem dX0_cuts_60 : decode cX0_cuts 60 = .ok (.goto (-44), 3) := by decide +kernel
theorem dX0_cuts_63 : decode cX0_cuts 63 = .ok (.iinc 2 1, 3) := by decide +kernel
theorem dX0_cuts_66 : decode cX0_cuts 66 = .ok (.goto (-62), 3) := by decide +kernel
theorem dX0_cuts_69 : decode cX0_cuts 69 = .ok (.iload_n 1, 1) := by decide +kernel
theorem dX0_cuts_70 : decode cX0_cuts 70 = .ok (.ireturn, 1) := by decide +kernel
abbrev cX0_thirdStates : ByteArray := prog_1_method_15_code
def yX0_thirdStates : MethodName := ⟨RX0, "thirdStates", "(II)I"⟩
theorem dX0_thirdStates_0 : decode cX0_thirdStates 0 = .ok (.aload_n 0, 1) := by decide +kernel
theorem dX0_thirdStates_1 : decode cX0_thirdStates 1 = .ok (.iconst 0, 1) := by decide +kernel
theorem dX0_thirdStates_2 : decode cX0_thirdStates 2 = .ok (.iload_n 1, 1) := by decide +kernel
theorem dX0_thirdStates_3 : decode cX0_thirdStates 3 = .ok (.iconst 2, 1) := by decide +kernel
theorem dX0_thirdStates_4 : decode cX0_thirdStates 4 = .ok (.invokevirtual 50, 3) := by decide +kernel
theorem dX0_thirdStates_7 : decode cX0_thirdStates 7 = .ok (.istore_n 3, 1) := by decide +kernel
theorem dX0_thirdStates_8 : decode cX0_thirdStates 8 = .ok (.aload_n 0, 1) := by decide +kernel
theorem dX0_thirdStates_9 : decode cX0_thirdStates 9 = .ok (.iconst 1, 1) := by decide +kernel
theorem dX0_thirdStates_10 : decode cX0_thirdStates 10 = .ok (.iload_n 2, 1) := by decide +kernel
theorem dX0_thirdStates_11 : decode cX0_thirdStates 11 = .ok (.iconst 2, 1) := by decide +kernel
theorem dX0_thirdStates_12 : decode cX0_thirdStates 12 = .ok (.invokevirtual 50, 3) := by decide +kernel
theorem dX0_thirdStates_15 : decode cX0_thirdStates 15 = .ok (.istore 4, 2) := by decide +kernel
theorem dX0_thirdStates_17 : decode cX0_thirdStates 17 = .ok (.iload_n 3, 1) := by decide +kernel
theorem dX0_thirdStates_18 : decode cX0_thirdStates 18 = .ok (.iload 4, 2) := by decide +kernel
theorem dX0_thirdStates_20 : decode cX0_thirdStates 20 = .ok (.if_icmp .le 7, 3) := by decide +kernel
theorem dX0_thirdStates_23 : decode cX0_thirdStates 23 = .ok (.iload_n 3, 1) := by decide +kernel
theorem dX0_thirdStates_24 : decode cX0_thirdStates 24 = .ok (.goto 5, 3) := by decide +kernel
theorem dX0_thirdStates_27 : decode cX0_thirdStates 27 = .ok (.iload 4, 2) := by decide +kernel
theorem dX0_thirdStates_29 : decode cX0_thirdStates 29 = .ok (.istore 5, 2) := by decide +kernel
theorem dX0_thirdStates_31 : decode cX0_thirdStates 31 = .ok (.iconst 0, 1) := by decide +kernel
theorem dX0_thirdStates_32 : decode cX0_thirdStates 32 = .ok (.istore 6, 2) := by decide +kernel
theorem dX0_thirdStates_34 : decode cX0_thirdStates 34 = .ok (.iload 5, 2) := by decide +kernel
theorem dX0_thirdStates_36 : decode cX0_thirdStates 36 = .ok (.istore 7, 2) := by decide +kernel
theorem dX0_thirdStates_38 : decode cX0_thirdStates 38 = .ok (.iload 7, 2) := by decide +kernel
theorem dX0_thirdStates_40 : decode cX0_thirdStates 40 = .ok (.aload_n 0, 1) := by decide +kernel
theorem dX0_thirdStates_41 : decode cX0_thirdStates 41 = .ok (.getfield 7, 3) := by decide +kernel
theorem dX0_thirdStates_44 : decode cX0_thirdStates 44 = .ok (.iconst 2, 1) := by decide +kernel
theorem dX0_thirdStates_45 : decode cX0_thirdStates 45 = .ok (.iaload, 1) := by decide +kernel
theorem dX0_thirdStates_46 : decode cX0_thirdStates 46 = .ok (.if_icmp .gt 43, 3) := by decide +kernel
theorem dX0_thirdStates_49 : decode cX0_thirdStates 49 = .ok (.iload 6, 2) := by decide +kernel
theorem dX0_thirdStates_51 : decode cX0_thirdStates 51 = .ok (.aload_n 0, 1) := by decide +kernel
theorem dX0_thirdStates_52 : decode cX0_thirdStates 52 = .ok (.iconst 2, 1) := by decide +kernel
theorem dX0_thirdStates_53 : decode cX0_thirdStates 53 = .ok (.iload 7, 2) := by decide +kernel
theorem dX0_thirdStates_55 : decode cX0_thirdStates 55 = .ok (.iconst 0, 1) := by decide +kernel
theorem dX0_thirdStates_56 : decode cX0_thirdStates 56 = .ok (.invokevirtual 50, 3) := by decide +kernel
theorem dX0_thirdStates_59 : decode cX0_thirdStates 59 = .ok (.iload_n 1, 1) := by decide +kernel
theorem dX0_thirdStates_60 : decode cX0_thirdStates 60 = .ok (.if_icmp .gt 19, 3) := by decide +kernel
theorem dX0_thirdStates_63 : decode cX0_thirdStates 63 = .ok (.aload_n 0, 1) := by decide +kernel
theorem dX0_thirdStates_64 : decode cX0_thirdStates 64 = .ok (.iconst 2, 1) := by decide +kernel
theorem dX0_thirdStates_65 : decode cX0_thirdStates 65 = .ok (.iload 7, 2) := by decide +kernel
theorem dX0_thirdStates_67 : decode cX0_thirdStates 67 = .ok (.iconst 1, 1) := by decide +kernel
theorem dX0_thirdStates_68 : decode cX0_thirdStates 68 = .ok (.invokevirtual 50, 3) := by decide +kernel
theorem dX0_thirdStates_71 : decode cX0_thirdStates 71 = .ok (.iload_n 2, 1) := by decide +kernel
theorem dX0_thirdStates_72 : decode cX0_thirdStates 72 = .ok (.if_icmp .gt 7, 3) := by decide +kernel
theorem dX0_thirdStates_75 : decode cX0_thirdStates 75 = .ok (.iconst 1, 1) := by decide +kernel
theorem dX0_thirdStates_76 : decode cX0_thirdStates 76 = .ok (.goto 4, 3) := by decide +kernel
theorem dX0_thirdStates_79 : decode cX0_thirdStates 79 = .ok (.iconst 0, 1) := by decide +kernel
theorem dX0_thirdStates_80 : decode cX0_thirdStates 80 = .ok (.iadd, 1) := by decide +kernel
theorem dX0_thirdStates_81 : decode cX0_thirdStates 81 = .ok (.istore 6, 2) := by decide +kernel
theorem dX0_thirdStates_83 : decode cX0_thirdStates 83 = .ok (.iinc 7 1, 3) := by decide +kernel
theorem dX0_thirdStates_86 : decode cX0_thirdStates 86 = .ok (.goto (-48), 3) := by decide +kernel
theorem dX0_thirdStates_89 : decode cX0_thirdStates 89 = .ok (.iload 6, 2) := by decide +kernel
theorem dX0_thirdStates_91 : decode cX0_thirdStates 91 = .ok (.ireturn, 1) := by decide +kernel
abbrev cX0_events : ByteArray := prog_1_method_12_code
def yX0_events : MethodName := ⟨RX0, "events", "(I)I"⟩
theorem dX0_events_0 : decode cX0_events 0 = .ok (.iload_n 1, 1) := by decide +kernel
theorem dX0_events_1 : decode cX0_events 1 = .ok (.invokestatic 38, 3) := by decide +kernel
theorem dX0_events_4 : decode cX0_events 4 = .ok (.ifCond .eq 12, 3) := by decide +kernel
theorem dX0_events_7 : decode cX0_events 7 = .ok (.aload_n 0, 1) := by decide +kernel
theorem dX0_events_8 : decode cX0_events 8 = .ok (.getfield 7, 3) := by decide +kernel
theorem dX0_events_11 : decode cX0_events 11 = .ok (.iload_n 1, 1) := by decide +kernel
theorem dX0_events_12 : decode cX0_events 12 = .ok (.iaload, 1) := by decide +kernel
theorem dX0_events_13 : decode cX0_events 13 = .ok (.goto 4, 3) := by decide +kernel
theorem dX0_events_16 : decode cX0_events 16 = .ok (.iconst (-1), 1) := by decide +kernel
theorem dX0_events_17 : decode cX0_events 17 = .ok (.ireturn, 1) := by decide +kernel
theorem q13 : (Jvm.Cond.initialized "CutWatch") ∈ lw_all := lw_g (lw_at lw_m0 1 rfl) rfl
theorem q16 : (Jvm.Cond.instantiable "CutWatch" (10 : Nat)) ∈ lw_all := lw_g (lw_at lw_m0 4 rfl) rfl
theorem q18 : (Jvm.Cond.instanceMethod ({ cls := "CutWatch", name := "<init>", desc := "()V" } : Jvm.MethodName)) ∈ lw_all := lw_g (lw_at lw_m0 6 rfl) rfl
theorem q19 : (Jvm.Cond.code ({ cls := "CutWatch", name := "<init>", desc := "()V" } : Jvm.MethodName) prog_1_method_1_code (1 : Nat) (Option.none : Option Jvm.ClassFile.FieldType)) ∈ lw_all := lw_g (lw_at lw_m0 7 rfl) rfl
theorem q20 : (Jvm.Cond.methodLink "CutWatch" (1 : Nat) ({ cls := "java/lang/Object", name := "<init>", desc := "()V" } : Jvm.MethodName)) ∈ lw_all := lw_g (lw_at lw_m0 8 rfl) rfl
theorem q23 : (Jvm.Cond.fieldLink "CutWatch" (7 : Nat) "CutWatch" "count" "[I") ∈ lw_all := lw_g (lw_at lw_m0 11 rfl) rfl
theorem q24 : (Jvm.Cond.fieldLink "CutWatch" (13 : Nat) "CutWatch" "good" "[Z") ∈ lw_all := lw_g (lw_at lw_m0 12 rfl) rfl
theorem q25 : (Jvm.Cond.fieldLink "CutWatch" (17 : Nat) "CutWatch" "known" "[I") ∈ lw_all := lw_g (lw_at lw_m0 13 rfl) rfl
theorem q26 : (Jvm.Cond.fieldLink "CutWatch" (46 : Nat) "CutWatch" "messages" "I") ∈ lw_all := lw_g (lw_at lw_m0 14 rfl) rfl
theorem q27 : (Jvm.Cond.fieldLink "CutWatch" (20 : Nat) "CutWatch" "sender" "[I") ∈ lw_all := lw_g (lw_at lw_m0 15 rfl) rfl
theorem q28 : (Jvm.Cond.fieldLink "CutWatch" (23 : Nat) "CutWatch" "sentIn" "[I") ∈ lw_all := lw_g (lw_at lw_m0 16 rfl) rfl
theorem q29 : (Jvm.Cond.fieldLink "CutWatch" (26 : Nat) "CutWatch" "received" "[Z") ∈ lw_all := lw_g (lw_at lw_m0 17 rfl) rfl
theorem q30 : (Jvm.Cond.fieldLink "CutWatch" (29 : Nat) "CutWatch" "cut" "[I") ∈ lw_all := lw_g (lw_at lw_m0 18 rfl) rfl
theorem q31 : (Jvm.Cond.fieldLink "CutWatch" (32 : Nat) "CutWatch" "from" "[I") ∈ lw_all := lw_g (lw_at lw_m0 19 rfl) rfl
theorem q32 : (Jvm.Cond.fieldLink "CutWatch" (35 : Nat) "CutWatch" "to" "[I") ∈ lw_all := lw_g (lw_at lw_m0 20 rfl) rfl
theorem q33 : (Jvm.Cond.laysFinal "CutWatch" "CutWatch" "count" "[I") ∈ lw_all := lw_g (lw_at lw_m0 21 rfl) rfl
theorem q34 : (Jvm.Cond.soleField "CutWatch" "count") ∈ lw_all := lw_g (lw_at lw_m0 22 rfl) rfl
theorem q35 : (Jvm.Cond.laysFinal "CutWatch" "CutWatch" "good" "[Z") ∈ lw_all := lw_g (lw_at lw_m0 23 rfl) rfl
theorem q36 : (Jvm.Cond.soleField "CutWatch" "good") ∈ lw_all := lw_g (lw_at lw_m0 24 rfl) rfl
theorem q37 : (Jvm.Cond.laysFinal "CutWatch" "CutWatch" "known" "[I") ∈ lw_all := lw_g (lw_at lw_m0 25 rfl) rfl
theorem q38 : (Jvm.Cond.soleField "CutWatch" "known") ∈ lw_all := lw_g (lw_at lw_m0 26 rfl) rfl
theorem q39 : (Jvm.Cond.lays "CutWatch" "CutWatch" "messages" "I") ∈ lw_all := lw_g (lw_at lw_m0 27 rfl) rfl
theorem q40 : (Jvm.Cond.soleField "CutWatch" "messages") ∈ lw_all := lw_g (lw_at lw_m0 28 rfl) rfl
theorem q41 : (Jvm.Cond.laysFinal "CutWatch" "CutWatch" "sender" "[I") ∈ lw_all := lw_g (lw_at lw_m0 29 rfl) rfl
theorem q42 : (Jvm.Cond.soleField "CutWatch" "sender") ∈ lw_all := lw_g (lw_at lw_m0 30 rfl) rfl
theorem q43 : (Jvm.Cond.laysFinal "CutWatch" "CutWatch" "sentIn" "[I") ∈ lw_all := lw_g (lw_at lw_m0 31 rfl) rfl
theorem q44 : (Jvm.Cond.soleField "CutWatch" "sentIn") ∈ lw_all := lw_g (lw_at lw_m0 32 rfl) rfl
theorem q45 : (Jvm.Cond.laysFinal "CutWatch" "CutWatch" "received" "[Z") ∈ lw_all := lw_g (lw_at lw_m0 33 rfl) rfl
theorem q46 : (Jvm.Cond.soleField "CutWatch" "received") ∈ lw_all := lw_g (lw_at lw_m0 34 rfl) rfl
theorem q47 : (Jvm.Cond.laysFinal "CutWatch" "CutWatch" "cut" "[I") ∈ lw_all := lw_g (lw_at lw_m0 35 rfl) rfl
theorem q48 : (Jvm.Cond.soleField "CutWatch" "cut") ∈ lw_all := lw_g (lw_at lw_m0 36 rfl) rfl
theorem q49 : (Jvm.Cond.laysFinal "CutWatch" "CutWatch" "from" "[I") ∈ lw_all := lw_g (lw_at lw_m0 37 rfl) rfl
theorem q50 : (Jvm.Cond.soleField "CutWatch" "from") ∈ lw_all := lw_g (lw_at lw_m0 38 rfl) rfl
theorem q51 : (Jvm.Cond.laysFinal "CutWatch" "CutWatch" "to" "[I") ∈ lw_all := lw_g (lw_at lw_m0 39 rfl) rfl
theorem q52 : (Jvm.Cond.soleField "CutWatch" "to") ∈ lw_all := lw_g (lw_at lw_m0 40 rfl) rfl
theorem q53 : (Jvm.Cond.superclass "CutWatch" "java/lang/Object") ∈ lw_all := lw_g (lw_at lw_m0 41 rfl) rfl
theorem q57 : (Jvm.Cond.instanceMethod ({ cls := "CutWatch", name := "start", desc := "(IZ)I" } : Jvm.MethodName)) ∈ lw_all := lw_g (lw_at lw_m0 45 rfl) rfl
theorem q58 : (Jvm.Cond.selects "CutWatch" ({ cls := "CutWatch", name := "start", desc := "(IZ)I" } : Jvm.MethodName) ({ cls := "CutWatch", name := "start", desc := "(IZ)I" } : Jvm.MethodName)) ∈ lw_all := lw_g (lw_at lw_m0 46 rfl) rfl
theorem q59 : (Jvm.Cond.code ({ cls := "CutWatch", name := "start", desc := "(IZ)I" } : Jvm.MethodName) prog_1_method_2_code (3 : Nat) (Option.some Jvm.ClassFile.FieldType.int)) ∈ lw_all := lw_g (lw_at lw_m0 47 rfl) rfl
theorem q60 : (Jvm.Cond.methodLink "CutWatch" (38 : Nat) ({ cls := "CutWatch", name := "isProcess", desc := "(I)Z" } : Jvm.MethodName)) ∈ lw_all := lw_g (lw_at lw_m0 48 rfl) rfl
theorem q61 : (Jvm.Cond.static ({ cls := "CutWatch", name := "isProcess", desc := "(I)Z" } : Jvm.MethodName)) ∈ lw_all := lw_g (lw_at lw_m0 49 rfl) rfl
theorem q62 : (Jvm.Cond.code ({ cls := "CutWatch", name := "isProcess", desc := "(I)Z" } : Jvm.MethodName) prog_1_method_13_code (1 : Nat) (Option.some Jvm.ClassFile.FieldType.boolean)) ∈ lw_all := lw_g (lw_at lw_m0 50 rfl) rfl
theorem q64 : (Jvm.Cond.instanceMethod ({ cls := "CutWatch", name := "step", desc := "(IZ)I" } : Jvm.MethodName)) ∈ lw_all := lw_g (lw_at lw_m0 52 rfl) rfl
theorem q65 : (Jvm.Cond.selects "CutWatch" ({ cls := "CutWatch", name := "step", desc := "(IZ)I" } : Jvm.MethodName) ({ cls := "CutWatch", name := "step", desc := "(IZ)I" } : Jvm.MethodName)) ∈ lw_all := lw_g (lw_at lw_m0 53 rfl) rfl
theorem q66 : (Jvm.Cond.code ({ cls := "CutWatch", name := "step", desc := "(IZ)I" } : Jvm.MethodName) prog_1_method_3_code (3 : Nat) (Option.some Jvm.ClassFile.FieldType.int)) ∈ lw_all := lw_g (lw_at lw_m0 54 rfl) rfl
theorem q67 : (Jvm.Cond.methodLink "CutWatch" (42 : Nat) ({ cls := "CutWatch", name := "advance", desc := "(IZ)V" } : Jvm.MethodName)) ∈ lw_all := lw_g (lw_at lw_m0 55 rfl) rfl
theorem q68 : (Jvm.Cond.privateMethod ({ cls := "CutWatch", name := "advance", desc := "(IZ)V" } : Jvm.MethodName)) ∈ lw_tbl := lw_at lw_m0 56 rfl
theorem q69 : (Jvm.Cond.instanceMethod ({ cls := "CutWatch", name := "advance", desc := "(IZ)V" } : Jvm.MethodName)) ∈ lw_all := lw_g (lw_at lw_m0 57 rfl) rfl
theorem q70 : (Jvm.Cond.code ({ cls := "CutWatch", name := "advance", desc := "(IZ)V" } : Jvm.MethodName) prog_1_method_6_code (5 : Nat) (Option.none : Option Jvm.ClassFile.FieldType)) ∈ lw_all := lw_g (lw_at lw_m0 58 rfl) rfl
theorem q72 : (Jvm.Cond.instanceMethod ({ cls := "CutWatch", name := "send", desc := "(IZ)I" } : Jvm.MethodName)) ∈ lw_all := lw_g (lw_at lw_m0 60 rfl) rfl
theorem q73 : (Jvm.Cond.selects "CutWatch" ({ cls := "CutWatch", name := "send", desc := "(IZ)I" } : Jvm.MethodName) ({ cls := "CutWatch", name := "send", desc := "(IZ)I" } : Jvm.MethodName)) ∈ lw_all := lw_g (lw_at lw_m0 61 rfl) rfl
theorem q74 : (Jvm.Cond.code ({ cls := "CutWatch", name := "send", desc := "(IZ)I" } : Jvm.MethodName) prog_1_method_4_code (3 : Nat) (Option.some Jvm.ClassFile.FieldType.int)) ∈ lw_all := lw_g (lw_at lw_m0 62 rfl) rfl
theorem q76 : (Jvm.Cond.instanceMethod ({ cls := "CutWatch", name := "receive", desc := "(IIZ)I" } : Jvm.MethodName)) ∈ lw_all := lw_g (lw_at lw_m0 64 rfl) rfl
theorem q77 : (Jvm.Cond.selects "CutWatch" ({ cls := "CutWatch", name := "receive", desc := "(IIZ)I" } : Jvm.MethodName) ({ cls := "CutWatch", name := "receive", desc := "(IIZ)I" } : Jvm.MethodName)) ∈ lw_all := lw_g (lw_at lw_m0 65 rfl) rfl
theorem q78 : (Jvm.Cond.code ({ cls := "CutWatch", name := "receive", desc := "(IIZ)I" } : Jvm.MethodName) prog_1_method_5_code (8 : Nat) (Option.some Jvm.ClassFile.FieldType.int)) ∈ lw_all := lw_g (lw_at lw_m0 66 rfl) rfl
theorem q79 : (Jvm.Cond.methodLink "CutWatch" (50 : Nat) ({ cls := "CutWatch", name := "knownBy", desc := "(III)I" } : Jvm.MethodName)) ∈ lw_all := lw_g (lw_at lw_m0 67 rfl) rfl
theorem q80 : (Jvm.Cond.privateMethod ({ cls := "CutWatch", name := "knownBy", desc := "(III)I" } : Jvm.MethodName)) ∈ lw_tbl := lw_at lw_m0 68 rfl
theorem q81 : (Jvm.Cond.instanceMethod ({ cls := "CutWatch", name := "knownBy", desc := "(III)I" } : Jvm.MethodName)) ∈ lw_all := lw_g (lw_at lw_m0 69 rfl) rfl
theorem q82 : (Jvm.Cond.code ({ cls := "CutWatch", name := "knownBy", desc := "(III)I" } : Jvm.MethodName) prog_1_method_14_code (4 : Nat) (Option.some Jvm.ClassFile.FieldType.int)) ∈ lw_all := lw_g (lw_at lw_m0 70 rfl) rfl
theorem q84 : (Jvm.Cond.instanceMethod ({ cls := "CutWatch", name := "knows", desc := "(III)I" } : Jvm.MethodName)) ∈ lw_all := lw_g (lw_at lw_m0 72 rfl) rfl
theorem q85 : (Jvm.Cond.selects "CutWatch" ({ cls := "CutWatch", name := "knows", desc := "(III)I" } : Jvm.MethodName) ({ cls := "CutWatch", name := "knows", desc := "(III)I" } : Jvm.MethodName)) ∈ lw_all := lw_g (lw_at lw_m0 73 rfl) rfl
theorem q86 : (Jvm.Cond.code ({ cls := "CutWatch", name := "knows", desc := "(III)I" } : Jvm.MethodName) prog_1_method_7_code (4 : Nat) (Option.some Jvm.ClassFile.FieldType.int)) ∈ lw_all := lw_g (lw_at lw_m0 74 rfl) rfl
theorem q88 : (Jvm.Cond.instanceMethod ({ cls := "CutWatch", name := "possibly", desc := "(I)I" } : Jvm.MethodName)) ∈ lw_all := lw_g (lw_at lw_m0 76 rfl) rfl
theorem q89 : (Jvm.Cond.selects "CutWatch" ({ cls := "CutWatch", name := "possibly", desc := "(I)I" } : Jvm.MethodName) ({ cls := "CutWatch", name := "possibly", desc := "(I)I" } : Jvm.MethodName)) ∈ lw_all := lw_g (lw_at lw_m0 77 rfl) rfl
theorem q90 : (Jvm.Cond.code ({ cls := "CutWatch", name := "possibly", desc := "(I)I" } : Jvm.MethodName) prog_1_method_8_code (2 : Nat) (Option.some Jvm.ClassFile.FieldType.int)) ∈ lw_all := lw_g (lw_at lw_m0 78 rfl) rfl
theorem q91 : (Jvm.Cond.methodLink "CutWatch" (54 : Nat) ({ cls := "CutWatch", name := "findLeast", desc := "(I)Z" } : Jvm.MethodName)) ∈ lw_all := lw_g (lw_at lw_m0 79 rfl) rfl
theorem q92 : (Jvm.Cond.privateMethod ({ cls := "CutWatch", name := "findLeast", desc := "(I)Z" } : Jvm.MethodName)) ∈ lw_tbl := lw_at lw_m0 80 rfl
theorem q93 : (Jvm.Cond.instanceMethod ({ cls := "CutWatch", name := "findLeast", desc := "(I)Z" } : Jvm.MethodName)) ∈ lw_all := lw_g (lw_at lw_m0 81 rfl) rfl
theorem q94 : (Jvm.Cond.code ({ cls := "CutWatch", name := "findLeast", desc := "(I)Z" } : Jvm.MethodName) prog_1_method_16_code (6 : Nat) (Option.some Jvm.ClassFile.FieldType.boolean)) ∈ lw_all := lw_g (lw_at lw_m0 82 rfl) rfl
theorem q95 : (Jvm.Cond.methodLink "CutWatch" (64 : Nat) ({ cls := "CutWatch", name := "neededState", desc := "(II)I" } : Jvm.MethodName)) ∈ lw_all := lw_g (lw_at lw_m0 83 rfl) rfl
theorem q96 : (Jvm.Cond.privateMethod ({ cls := "CutWatch", name := "neededState", desc := "(II)I" } : Jvm.MethodName)) ∈ lw_tbl := lw_at lw_m0 84 rfl
theorem q97 : (Jvm.Cond.instanceMethod ({ cls := "CutWatch", name := "neededState", desc := "(II)I" } : Jvm.MethodName)) ∈ lw_all := lw_g (lw_at lw_m0 85 rfl) rfl
theorem q98 : (Jvm.Cond.code ({ cls := "CutWatch", name := "neededState", desc := "(II)I" } : Jvm.MethodName) prog_1_method_17_code (6 : Nat) (Option.some Jvm.ClassFile.FieldType.int)) ∈ lw_all := lw_g (lw_at lw_m0 86 rfl) rfl
theorem q100 : (Jvm.Cond.instanceMethod ({ cls := "CutWatch", name := "least", desc := "(II)I" } : Jvm.MethodName)) ∈ lw_all := lw_g (lw_at lw_m0 88 rfl) rfl
theorem q101 : (Jvm.Cond.selects "CutWatch" ({ cls := "CutWatch", name := "least", desc := "(II)I" } : Jvm.MethodName) ({ cls := "CutWatch", name := "least", desc := "(II)I" } : Jvm.MethodName)) ∈ lw_all := lw_g (lw_at lw_m0 89 rfl) rfl
theorem q102 : (Jvm.Cond.code ({ cls := "CutWatch", name := "least", desc := "(II)I" } : Jvm.MethodName) prog_1_method_9_code (3 : Nat) (Option.some Jvm.ClassFile.FieldType.int)) ∈ lw_all := lw_g (lw_at lw_m0 90 rfl) rfl
theorem q104 : (Jvm.Cond.instanceMethod ({ cls := "CutWatch", name := "definitely", desc := "(I)I" } : Jvm.MethodName)) ∈ lw_all := lw_g (lw_at lw_m0 92 rfl) rfl
theorem q105 : (Jvm.Cond.selects "CutWatch" ({ cls := "CutWatch", name := "definitely", desc := "(I)I" } : Jvm.MethodName) ({ cls := "CutWatch", name := "definitely", desc := "(I)I" } : Jvm.MethodName)) ∈ lw_all := lw_g (lw_at lw_m0 93 rfl) rfl
theorem q106 : (Jvm.Cond.code ({ cls := "CutWatch", name := "definitely", desc := "(I)I" } : Jvm.MethodName) prog_1_method_10_code (2 : Nat) (Option.some Jvm.ClassFile.FieldType.int)) ∈ lw_all := lw_g (lw_at lw_m0 94 rfl) rfl
theorem q107 : (Jvm.Cond.methodLink "CutWatch" (57 : Nat) ({ cls := "CutWatch", name := "stretchesMeet", desc := "(I)Z" } : Jvm.MethodName)) ∈ lw_all := lw_g (lw_at lw_m0 95 rfl) rfl
theorem q108 : (Jvm.Cond.privateMethod ({ cls := "CutWatch", name := "stretchesMeet", desc := "(I)Z" } : Jvm.MethodName)) ∈ lw_tbl := lw_at lw_m0 96 rfl
theorem q109 : (Jvm.Cond.instanceMethod ({ cls := "CutWatch", name := "stretchesMeet", desc := "(I)Z" } : Jvm.MethodName)) ∈ lw_all := lw_g (lw_at lw_m0 97 rfl) rfl
theorem q110 : (Jvm.Cond.code ({ cls := "CutWatch", name := "stretchesMeet", desc := "(I)Z" } : Jvm.MethodName) prog_1_method_18_code (5 : Nat) (Option.some Jvm.ClassFile.FieldType.boolean)) ∈ lw_all := lw_g (lw_at lw_m0 98 rfl) rfl
theorem q111 : (Jvm.Cond.methodLink "CutWatch" (67 : Nat) ({ cls := "CutWatch", name := "nextStretch", desc := "(II)Z" } : Jvm.MethodName)) ∈ lw_all := lw_g (lw_at lw_m0 99 rfl) rfl
theorem q112 : (Jvm.Cond.privateMethod ({ cls := "CutWatch", name := "nextStretch", desc := "(II)Z" } : Jvm.MethodName)) ∈ lw_tbl := lw_at lw_m0 100 rfl
theorem q113 : (Jvm.Cond.instanceMethod ({ cls := "CutWatch", name := "nextStretch", desc := "(II)Z" } : Jvm.MethodName)) ∈ lw_all := lw_g (lw_at lw_m0 101 rfl) rfl
theorem q114 : (Jvm.Cond.code ({ cls := "CutWatch", name := "nextStretch", desc := "(II)Z" } : Jvm.MethodName) prog_1_method_19_code (4 : Nat) (Option.some Jvm.ClassFile.FieldType.boolean)) ∈ lw_all := lw_g (lw_at lw_m0 102 rfl) rfl
theorem q115 : (Jvm.Cond.methodLink "CutWatch" (71 : Nat) ({ cls := "CutWatch", name := "tooEarly", desc := "(I)I" } : Jvm.MethodName)) ∈ lw_all := lw_g (lw_at lw_m0 103 rfl) rfl
theorem q116 : (Jvm.Cond.privateMethod ({ cls := "CutWatch", name := "tooEarly", desc := "(I)I" } : Jvm.MethodName)) ∈ lw_tbl := lw_at lw_m0 104 rfl
theorem q117 : (Jvm.Cond.instanceMethod ({ cls := "CutWatch", name := "tooEarly", desc := "(I)I" } : Jvm.MethodName)) ∈ lw_all := lw_g (lw_at lw_m0 105 rfl) rfl
theorem q118 : (Jvm.Cond.code ({ cls := "CutWatch", name := "tooEarly", desc := "(I)I" } : Jvm.MethodName) prog_1_method_20_code (5 : Nat) (Option.some Jvm.ClassFile.FieldType.int)) ∈ lw_all := lw_g (lw_at lw_m0 106 rfl) rfl
theorem q120 : (Jvm.Cond.instanceMethod ({ cls := "CutWatch", name := "cuts", desc := "()I" } : Jvm.MethodName)) ∈ lw_all := lw_g (lw_at lw_m0 108 rfl) rfl
theorem q121 : (Jvm.Cond.selects "CutWatch" ({ cls := "CutWatch", name := "cuts", desc := "()I" } : Jvm.MethodName) ({ cls := "CutWatch", name := "cuts", desc := "()I" } : Jvm.MethodName)) ∈ lw_all := lw_g (lw_at lw_m0 109 rfl) rfl
theorem q122 : (Jvm.Cond.code ({ cls := "CutWatch", name := "cuts", desc := "()I" } : Jvm.MethodName) prog_1_method_11_code (4 : Nat) (Option.some Jvm.ClassFile.FieldType.int)) ∈ lw_all := lw_g (lw_at lw_m0 110 rfl) rfl
theorem q123 : (Jvm.Cond.methodLink "CutWatch" (60 : Nat) ({ cls := "CutWatch", name := "thirdStates", desc := "(II)I" } : Jvm.MethodName)) ∈ lw_all := lw_g (lw_at lw_m0 111 rfl) rfl
theorem q124 : (Jvm.Cond.privateMethod ({ cls := "CutWatch", name := "thirdStates", desc := "(II)I" } : Jvm.MethodName)) ∈ lw_tbl := lw_at lw_m0 112 rfl
theorem q125 : (Jvm.Cond.instanceMethod ({ cls := "CutWatch", name := "thirdStates", desc := "(II)I" } : Jvm.MethodName)) ∈ lw_all := lw_g (lw_at lw_m0 113 rfl) rfl
theorem q126 : (Jvm.Cond.code ({ cls := "CutWatch", name := "thirdStates", desc := "(II)I" } : Jvm.MethodName) prog_1_method_15_code (8 : Nat) (Option.some Jvm.ClassFile.FieldType.int)) ∈ lw_all := lw_g (lw_at lw_m0 114 rfl) rfl
theorem q128 : (Jvm.Cond.instanceMethod ({ cls := "CutWatch", name := "events", desc := "(I)I" } : Jvm.MethodName)) ∈ lw_all := lw_g (lw_at lw_m0 116 rfl) rfl
theorem q129 : (Jvm.Cond.selects "CutWatch" ({ cls := "CutWatch", name := "events", desc := "(I)I" } : Jvm.MethodName) ({ cls := "CutWatch", name := "events", desc := "(I)I" } : Jvm.MethodName)) ∈ lw_all := lw_g (lw_at lw_m0 117 rfl) rfl
theorem q130 : (Jvm.Cond.code ({ cls := "CutWatch", name := "events", desc := "(I)I" } : Jvm.MethodName) prog_1_method_12_code (2 : Nat) (Option.some Jvm.ClassFile.FieldType.int)) ∈ lw_all := lw_g (lw_at lw_m0 118 rfl) rfl
theorem in_X0 : ∀ w ∈ wsX00, w ∈ lw_all := lw_in wsX00 [33, 35, 37, 39, 41, 43, 45, 47, 49, 51] (by decide +kernel) (by decide +kernel)
end
section
/-! CutWatchModel -/
set_option maxRecDepth 100000
def RX1 : String := "CutWatchModel"
def TX1 : u_T := fun k => match k with
  | 0 => ("CutWatchModel", "counts", "[I", true)
  | 1 => ("CutWatchModel", "goods", "[Z", true)
  | 2 => ("CutWatchModel", "known", "[I", true)
  | 3 => ("CutWatchModel", "messages", "I", false)
  | 4 => ("CutWatchModel", "senders", "[I", true)
  | 5 => ("CutWatchModel", "sentBy", "[I", true)
  | 6 => ("CutWatchModel", "received", "[Z", true)
  | _ => ("CutWatchModel", "avoided", "[Z", true)
def tyX1 : Nat → FieldType := fun k => match k with
  | 0 => .array .int
  | 1 => .array .boolean
  | 2 => .array .int
  | 3 => .int
  | 4 => .array .int
  | 5 => .array .int
  | 6 => .array .boolean
  | _ => .array .boolean
abbrev wsX10 : List Cond := u_ws RX1 TX1 8
theorem nmX1 : ∀ a, a < 8 → ∀ b, b < 8 → a ≠ b → (TX1 a).2.1 ≠ (TX1 b).2.1 := by decide +kernel
theorem tyX1_ok : ∀ k, k < 8 → parseFieldDescriptor (TX1 k).2.2.1 = some (tyX1 k) := by decide +kernel
abbrev cX1_init : ByteArray := prog_3_method_1_code
def yX1_init : MethodName := ⟨RX1, "<init>", "()V"⟩
theorem dX1_init_0 : decode cX1_init 0 = .ok (.aload_n 0, 1) := by decide +kernel
theorem dX1_init_1 : decode cX1_init 1 = .ok (.invokespecial 1, 3) := by decide +kernel
theorem dX1_init_4 : decode cX1_init 4 = .ok (.aload_n 0, 1) := by decide +kernel
theorem dX1_init_5 : decode cX1_init 5 = .ok (.iconst 3, 1) := by decide +kernel
theorem dX1_init_6 : decode cX1_init 6 = .ok (.newarray .int, 2) := by decide +kernel
theorem dX1_init_8 : decode cX1_init 8 = .ok (.putfield 7, 3) := by decide +kernel
theorem dX1_init_11 : decode cX1_init 11 = .ok (.aload_n 0, 1) := by decide +kernel
theorem dX1_init_12 : decode cX1_init 12 = .ok (.bipush 27, 2) := by decide +kernel
theorem dX1_init_14 : decode cX1_init 14 = .ok (.newarray .boolean, 2) := by decide +kernel
theorem dX1_init_16 : decode cX1_init 16 = .ok (.putfield 13, 3) := by decide +kernel
theorem dX1_init_19 : decode cX1_init 19 = .ok (.aload_n 0, 1) := by decide +kernel
theorem dX1_init_20 : decode cX1_init 20 = .ok (.bipush 81, 2) := by decide +kernel
theorem dX1_init_22 : decode cX1_init 22 = .ok (.newarray .int, 2) := by decide +kernel
theorem dX1_init_24 : decode cX1_init 24 = .ok (.putfield 17, 3) := by decide +kernel
theorem dX1_init_27 : decode cX1_init 27 = .ok (.aload_n 0, 1) := by decide +kernel
theorem dX1_init_28 : decode cX1_init 28 = .ok (.bipush 24, 2) := by decide +kernel
theorem dX1_init_30 : decode cX1_init 30 = .ok (.newarray .int, 2) := by decide +kernel
theorem dX1_init_32 : decode cX1_init 32 = .ok (.putfield 20, 3) := by decide +kernel
theorem dX1_init_35 : decode cX1_init 35 = .ok (.aload_n 0, 1) := by decide +kernel
theorem dX1_init_36 : decode cX1_init 36 = .ok (.bipush 24, 2) := by decide +kernel
theorem dX1_init_38 : decode cX1_init 38 = .ok (.newarray .int, 2) := by decide +kernel
theorem dX1_init_40 : decode cX1_init 40 = .ok (.putfield 23, 3) := by decide +kernel
theorem dX1_init_43 : decode cX1_init 43 = .ok (.aload_n 0, 1) := by decide +kernel
theorem dX1_init_44 : decode cX1_init 44 = .ok (.bipush 24, 2) := by decide +kernel
theorem dX1_init_46 : decode cX1_init 46 = .ok (.newarray .boolean, 2) := by decide +kernel
theorem dX1_init_48 : decode cX1_init 48 = .ok (.putfield 26, 3) := by decide +kernel
theorem dX1_init_51 : decode cX1_init 51 = .ok (.aload_n 0, 1) := by decide +kernel
theorem dX1_init_52 : decode cX1_init 52 = .ok (.sipush 729, 3) := by decide +kernel
theorem dX1_init_55 : decode cX1_init 55 = .ok (.newarray .boolean, 2) := by decide +kernel
theorem dX1_init_57 : decode cX1_init 57 = .ok (.putfield 29, 3) := by decide +kernel
theorem dX1_init_60 : decode cX1_init 60 = .ok (.return_, 1) := by decide +kernel
abbrev cX1_start : ByteArray := prog_3_method_3_code
def yX1_start : MethodName := ⟨RX1, "start", "(IZ)I"⟩
theorem dX1_start_0 : decode cX1_start 0 = .ok (.iload_n 1, 1) := by decide +kernel
theorem dX1_start_1 : decode cX1_start 1 = .ok (.invokestatic 32, 3) := by decide +kernel
theorem dX1_start_4 : decode cX1_start 4 = .ok (.ifCond .eq 5, 3) := by decide +kernel
theorem dX1_start_7 : decode cX1_start 7 = .ok (.iconst (-1), 1) := by decide +kernel
theorem dX1_start_8 : decode cX1_start 8 = .ok (.ireturn, 1) := by decide +kernel
theorem dX1_start_9 : decode cX1_start 9 = .ok (.aload_n 0, 1) := by decide +kernel
theorem dX1_start_10 : decode cX1_start 10 = .ok (.getfield 13, 3) := by decide +kernel
theorem dX1_start_13 : decode cX1_start 13 = .ok (.bipush 9, 2) := by decide +kernel
theorem dX1_start_15 : decode cX1_start 15 = .ok (.iload_n 1, 1) := by decide +kernel
theorem dX1_start_16 : decode cX1_start 16 = .ok (.imul, 1) := by decide +kernel
theorem dX1_start_17 : decode cX1_start 17 = .ok (.iload_n 2, 1) := by decide +kernel
theorem dX1_start_18 : decode cX1_start 18 = .ok (.bastore, 1) := by decide +kernel
theorem dX1_start_19 : decode cX1_start 19 = .ok (.iconst 0, 1) := by decide +kernel
theorem dX1_start_20 : decode cX1_start 20 = .ok (.ireturn, 1) := by decide +kernel
abbrev cX1_bad : ByteArray := prog_3_method_2_code
def yX1_bad : MethodName := ⟨RX1, "bad", "(I)Z"⟩
theorem dX1_bad_0 : decode cX1_bad 0 = .ok (.iload_n 0, 1) := by decide +kernel
theorem dX1_bad_1 : decode cX1_bad 1 = .ok (.ifCond .lt 8, 3) := by decide +kernel
theorem dX1_bad_4 : decode cX1_bad 4 = .ok (.iload_n 0, 1) := by decide +kernel
theorem dX1_bad_5 : decode cX1_bad 5 = .ok (.iconst 2, 1) := by decide +kernel
theorem dX1_bad_6 : decode cX1_bad 6 = .ok (.if_icmp .le 7, 3) := by decide +kernel
theorem dX1_bad_9 : decode cX1_bad 9 = .ok (.iconst 1, 1) := by decide +kernel
theorem dX1_bad_10 : decode cX1_bad 10 = .ok (.goto 4, 3) := by decide +kernel
theorem dX1_bad_13 : decode cX1_bad 13 = .ok (.iconst 0, 1) := by decide +kernel
theorem dX1_bad_14 : decode cX1_bad 14 = .ok (.ireturn, 1) := by decide +kernel
abbrev cX1_step : ByteArray := prog_3_method_5_code
def yX1_step : MethodName := ⟨RX1, "step", "(IZ)I"⟩
theorem dX1_step_0 : decode cX1_step 0 = .ok (.iload_n 1, 1) := by decide +kernel
theorem dX1_step_1 : decode cX1_step 1 = .ok (.invokestatic 32, 3) := by decide +kernel
theorem dX1_step_4 : decode cX1_step 4 = .ok (.ifCond .ne 14, 3) := by decide +kernel
theorem dX1_step_7 : decode cX1_step 7 = .ok (.aload_n 0, 1) := by decide +kernel
theorem dX1_step_8 : decode cX1_step 8 = .ok (.getfield 7, 3) := by decide +kernel
theorem dX1_step_11 : decode cX1_step 11 = .ok (.iload_n 1, 1) := by decide +kernel
theorem dX1_step_12 : decode cX1_step 12 = .ok (.iaload, 1) := by decide +kernel
theorem dX1_step_13 : decode cX1_step 13 = .ok (.bipush 8, 2) := by decide +kernel
theorem dX1_step_15 : decode cX1_step 15 = .ok (.if_icmp .ne 5, 3) := by decide +kernel
theorem dX1_step_18 : decode cX1_step 18 = .ok (.iconst (-1), 1) := by decide +kernel
theorem dX1_step_19 : decode cX1_step 19 = .ok (.ireturn, 1) := by decide +kernel
theorem dX1_step_20 : decode cX1_step 20 = .ok (.aload_n 0, 1) := by decide +kernel
theorem dX1_step_21 : decode cX1_step 21 = .ok (.iload_n 1, 1) := by decide +kernel
theorem dX1_step_22 : decode cX1_step 22 = .ok (.iload_n 2, 1) := by decide +kernel
theorem dX1_step_23 : decode cX1_step 23 = .ok (.invokevirtual 36, 3) := by decide +kernel
theorem dX1_step_26 : decode cX1_step 26 = .ok (.aload_n 0, 1) := by decide +kernel
theorem dX1_step_27 : decode cX1_step 27 = .ok (.getfield 7, 3) := by decide +kernel
theorem dX1_step_30 : decode cX1_step 30 = .ok (.iload_n 1, 1) := by decide +kernel
theorem dX1_step_31 : decode cX1_step 31 = .ok (.iaload, 1) := by decide +kernel
theorem dX1_step_32 : decode cX1_step 32 = .ok (.ireturn, 1) := by decide +kernel
abbrev cX1_event : ByteArray := prog_3_method_4_code
def yX1_event : MethodName := ⟨RX1, "event", "(IZ)V"⟩
theorem dX1_event_0 : decode cX1_event 0 = .ok (.aload_n 0, 1) := by decide +kernel
theorem dX1_event_1 : decode cX1_event 1 = .ok (.getfield 7, 3) := by decide +kernel
theorem dX1_event_4 : decode cX1_event 4 = .ok (.iload_n 1, 1) := by decide +kernel
theorem dX1_event_5 : decode cX1_event 5 = .ok (.dup2, 1) := by decide +kernel
theorem dX1_event_6 : decode cX1_event 6 = .ok (.iaload, 1) := by decide +kernel
theorem dX1_event_7 : decode cX1_event 7 = .ok (.iconst 1, 1) := by decide +kernel
theorem dX1_event_8 : decode cX1_event 8 = .ok (.iadd, 1) := by decide +kernel
theorem dX1_event_9 : decode cX1_event 9 = .ok (.iastore, 1) := by decide +kernel
theorem dX1_event_10 : decode cX1_event 10 = .ok (.aload_n 0, 1) := by decide +kernel
theorem dX1_event_11 : decode cX1_event 11 = .ok (.getfield 7, 3) := by decide +kernel
theorem dX1_event_14 : decode cX1_event 14 = .ok (.iload_n 1, 1) := by decide +kernel
theorem dX1_event_15 : decode cX1_event 15 = .ok (.iaload, 1) := by decide +kernel
theorem dX1_event_16 : decode cX1_event 16 = .ok (.istore_n 3, 1) := by decide +kernel
theorem dX1_event_17 : decode cX1_event 17 = .ok (.aload_n 0, 1) := by decide +kernel
theorem dX1_event_18 : decode cX1_event 18 = .ok (.getfield 13, 3) := by decide +kernel
theorem dX1_event_21 : decode cX1_event 21 = .ok (.bipush 9, 2) := by decide +kernel
theorem dX1_event_23 : decode cX1_event 23 = .ok (.iload_n 1, 1) := by decide +kernel
theorem dX1_event_24 : decode cX1_event 24 = .ok (.imul, 1) := by decide +kernel
theorem dX1_event_25 : decode cX1_event 25 = .ok (.iload_n 3, 1) := by decide +kernel
theorem dX1_event_26 : decode cX1_event 26 = .ok (.iadd, 1) := by decide +kernel
theorem dX1_event_27 : decode cX1_event 27 = .ok (.iload_n 2, 1) := by decide +kernel
theorem dX1_event_28 : decode cX1_event 28 = .ok (.bastore, 1) := by decide +kernel
theorem dX1_event_29 : decode cX1_event 29 = .ok (.iconst 0, 1) := by decide +kernel
theorem dX1_event_30 : decode cX1_event 30 = .ok (.istore 4, 2) := by decide +kernel
theorem dX1_event_32 : decode cX1_event 32 = .ok (.iload 4, 2) := by decide +kernel
theorem dX1_event_34 : decode cX1_event 34 = .ok (.iconst 3, 1) := by decide +kernel
theorem dX1_event_35 : decode cX1_event 35 = .ok (.if_icmp .ge 43, 3) := by decide +kernel
theorem dX1_event_38 : decode cX1_event 38 = .ok (.aload_n 0, 1) := by decide +kernel
theorem dX1_event_39 : decode cX1_event 39 = .ok (.getfield 17, 3) := by decide +kernel
theorem dX1_event_42 : decode cX1_event 42 = .ok (.bipush 27, 2) := by decide +kernel
theorem dX1_event_44 : decode cX1_event 44 = .ok (.iload_n 1, 1) := by decide +kernel
theorem dX1_event_45 : decode cX1_event 45 = .ok (.imul, 1) := by decide +kernel
theorem dX1_event_46 : decode cX1_event 46 = .ok (.iconst 3, 1) := by decide +kernel
theorem dX1_event_47 : decode cX1_event 47 = .ok (.iload_n 3, 1) := by decide +kernel
theorem dX1_event_48 : decode cX1_event 48 = .ok (.imul, 1) := by decide +kernel
theorem dX1_event_49 : decode cX1_event 49 = .ok (.iadd, 1) := by decide +kernel
theorem dX1_event_50 : decode cX1_event 50 = .ok (.iload 4, 2) := by decide +kernel
theorem dX1_event_52 : decode cX1_event 52 = .ok (.iadd, 1) := by decide +kernel
theorem dX1_event_53 : decode cX1_event 53 = .ok (.aload_n 0, 1) := by decide +kernel
theorem dX1_event_54 : decode cX1_event 54 = .ok (.getfield 17, 3) := by decide +kernel
theorem dX1_event_57 : decode cX1_event 57 = .ok (.bipush 27, 2) := by decide +kernel
theorem dX1_event_59 : decode cX1_event 59 = .ok (.iload_n 1, 1) := by decide +kernel
theorem dX1_event_60 : decode cX1_event 60 = .ok (.imul, 1) := by decide +kernel
theorem dX1_event_61 : decode cX1_event 61 = .ok (.iconst 3, 1) := by decide +kernel
theorem dX1_event_62 : decode cX1_event 62 = .ok (.iload_n 3, 1) := by decide +kernel
theorem dX1_event_63 : decode cX1_event 63 = .ok (.iconst 1, 1) := by decide +kernel
theorem dX1_event_64 : decode cX1_event 64 = .ok (.isub, 1) := by decide +kernel
theorem dX1_event_65 : decode cX1_event 65 = .ok (.imul, 1) := by decide +kernel
theorem dX1_event_66 : decode cX1_event 66 = .ok (.iadd, 1) := by decide +kernel
theorem dX1_event_67 : decode cX1_event 67 = .ok (.iload 4, 2) := by decide +kernel
theorem dX1_event_69 : decode cX1_event 69 = .ok (.iadd, 1) := by decide +kernel
theorem dX1_event_70 : decode cX1_event 70 = .ok (.iaload, 1) := by decide +kernel
theorem dX1_event_71 : decode cX1_event 71 = .ok (.iastore, 1) := by decide +kernel
theorem dX1_event_72 : decode cX1_event 72 = .ok (.iinc 4 1, 3) := by decide +kernel
theorem dX1_event_75 : decode cX1_event 75 = .ok (.goto (-43), 3) := by decide +kernel
theorem dX1_event_78 : decode cX1_event 78 = .ok (.aload_n 0, 1) := by decide +kernel
theorem dX1_event_79 : decode cX1_event 79 = .ok (.getfield 17, 3) := by decide +kernel
theorem dX1_event_82 : decode cX1_event 82 = .ok (.bipush 27, 2) := by decide +kernel
theorem dX1_event_84 : decode cX1_event 84 = .ok (.iload_n 1, 1) := by decide +kernel
theorem dX1_event_85 : decode cX1_event 85 = .ok (.imul, 1) := by decide +kernel
theorem dX1_event_86 : decode cX1_event 86 = .ok (.iconst 3, 1) := by decide +kernel
theorem dX1_event_87 : decode cX1_event 87 = .ok (.iload_n 3, 1) := by decide +kernel
theorem dX1_event_88 : decode cX1_event 88 = .ok (.imul, 1) := by decide +kernel
theorem dX1_event_89 : decode cX1_event 89 = .ok (.iadd, 1) := by decide +kernel
theorem dX1_event_90 : decode cX1_event 90 = .ok (.iload_n 1, 1) := by decide +kernel
theorem dX1_event_91 : decode cX1_event 91 = .ok (.iadd, 1) := by decide +kernel
theorem dX1_event_92 : decode cX1_event 92 = .ok (.iload_n 3, 1) := by decide +kernel
theorem dX1_event_93 : decode cX1_event 93 = .ok (.iastore, 1) := by decide +kernel
theorem dX1_event_94 : decode cX1_event 94 = .ok (.return_, 1) := by decide +kernel
abbrev cX1_send : ByteArray := prog_3_method_6_code
def yX1_send : MethodName := ⟨RX1, "send", "(IZ)I"⟩
theorem dX1_send_0 : decode cX1_send 0 = .ok (.iload_n 1, 1) := by decide +kernel
theorem dX1_send_1 : decode cX1_send 1 = .ok (.invokestatic 32, 3) := by decide +kernel
theorem dX1_send_4 : decode cX1_send 4 = .ok (.ifCond .ne 14, 3) := by decide +kernel
theorem dX1_send_7 : decode cX1_send 7 = .ok (.aload_n 0, 1) := by decide +kernel
theorem dX1_send_8 : decode cX1_send 8 = .ok (.getfield 7, 3) := by decide +kernel
theorem dX1_send_11 : decode cX1_send 11 = .ok (.iload_n 1, 1) := by decide +kernel
theorem dX1_send_12 : decode cX1_send 12 = .ok (.iaload, 1) := by decide +kernel
theorem dX1_send_13 : decode cX1_send 13 = .ok (.bipush 8, 2) := by decide +kernel
theorem dX1_send_15 : decode cX1_send 15 = .ok (.if_icmp .ne 5, 3) := by decide +kernel
theorem dX1_send_18 : decode cX1_send 18 = .ok (.iconst (-1), 1) := by decide +kernel
theorem dX1_send_19 : decode cX1_send 19 = .ok (.ireturn, 1) := by decide +kernel
theorem dX1_send_20 : decode cX1_send 20 = .ok (.aload_n 0, 1) := by decide +kernel
theorem dX1_send_21 : decode cX1_send 21 = .ok (.iload_n 1, 1) := by decide +kernel
theorem dX1_send_22 : decode cX1_send 22 = .ok (.iload_n 2, 1) := by decide +kernel
theorem dX1_send_23 : decode cX1_send 23 = .ok (.invokevirtual 36, 3) := by decide +kernel
theorem dX1_send_26 : decode cX1_send 26 = .ok (.aload_n 0, 1) := by decide +kernel
theorem dX1_send_27 : decode cX1_send 27 = .ok (.getfield 20, 3) := by decide +kernel
theorem dX1_send_30 : decode cX1_send 30 = .ok (.aload_n 0, 1) := by decide +kernel
theorem dX1_send_31 : decode cX1_send 31 = .ok (.getfield 40, 3) := by decide +kernel
theorem dX1_send_34 : decode cX1_send 34 = .ok (.iload_n 1, 1) := by decide +kernel
theorem dX1_send_35 : decode cX1_send 35 = .ok (.iastore, 1) := by decide +kernel
theorem dX1_send_36 : decode cX1_send 36 = .ok (.aload_n 0, 1) := by decide +kernel
theorem dX1_send_37 : decode cX1_send 37 = .ok (.getfield 23, 3) := by decide +kernel
theorem dX1_send_40 : decode cX1_send 40 = .ok (.aload_n 0, 1) := by decide +kernel
theorem dX1_send_41 : decode cX1_send 41 = .ok (.getfield 40, 3) := by decide +kernel
theorem dX1_send_44 : decode cX1_send 44 = .ok (.aload_n 0, 1) := by decide +kernel
theorem dX1_send_45 : decode cX1_send 45 = .ok (.getfield 7, 3) := by decide +kernel
theorem dX1_send_48 : decode cX1_send 48 = .ok (.iload_n 1, 1) := by decide +kernel
theorem dX1_send_49 : decode cX1_send 49 = .ok (.iaload, 1) := by decide +kernel
theorem dX1_send_50 : decode cX1_send 50 = .ok (.iastore, 1) := by decide +kernel
theorem dX1_send_51 : decode cX1_send 51 = .ok (.aload_n 0, 1) := by decide +kernel
theorem dX1_send_52 : decode cX1_send 52 = .ok (.dup, 1) := by decide +kernel
theorem dX1_send_53 : decode cX1_send 53 = .ok (.getfield 40, 3) := by decide +kernel
theorem dX1_send_56 : decode cX1_send 56 = .ok (.iconst 1, 1) := by decide +kernel
theorem dX1_send_57 : decode cX1_send 57 = .ok (.iadd, 1) := by decide +kernel
theorem dX1_send_58 : decode cX1_send 58 = .ok (.putfield 40, 3) := by decide +kernel
theorem dX1_send_61 : decode cX1_send 61 = .ok (.aload_n 0, 1) := by decide +kernel
theorem dX1_send_62 : decode cX1_send 62 = .ok (.getfield 40, 3) := by decide +kernel
theorem dX1_send_65 : decode cX1_send 65 = .ok (.iconst 1, 1) := by decide +kernel
theorem dX1_send_66 : decode cX1_send 66 = .ok (.isub, 1) := by decide +kernel
theorem dX1_send_67 : decode cX1_send 67 = .ok (.ireturn, 1) := by decide +kernel
abbrev cX1_receive : ByteArray := prog_3_method_7_code
def yX1_receive : MethodName := ⟨RX1, "receive", "(IIZ)I"⟩
theorem dX1_receive_0 : decode cX1_receive 0 = .ok (.iload_n 1, 1) := by decide +kernel
theorem dX1_receive_1 : decode cX1_receive 1 = .ok (.invokestatic 32, 3) := by decide +kernel
theorem dX1_receive_4 : decode cX1_receive 4 = .ok (.ifCond .ne 26, 3) := by decide +kernel
theorem dX1_receive_7 : decode cX1_receive 7 = .ok (.aload_n 0, 1) := by decide +kernel
theorem dX1_receive_8 : decode cX1_receive 8 = .ok (.getfield 7, 3) := by decide +kernel
theorem dX1_receive_11 : decode cX1_receive 11 = .ok (.iload_n 1, 1) := by decide +kernel
theorem dX1_receive_12 : decode cX1_receive 12 = .ok (.iaload, 1) := by decide +kernel
theorem dX1_receive_13 : decode cX1_receive 13 = .ok (.bipush 8, 2) := by decide +kernel
theorem dX1_receive_15 : decode cX1_receive 15 = .ok (.if_icmp .eq 15, 3) := by decide +kernel
theorem dX1_receive_18 : decode cX1_receive 18 = .ok (.iload_n 2, 1) := by decide +kernel
theorem dX1_receive_19 : decode cX1_receive 19 = .ok (.ifCond .lt 11, 3) := by decide +kernel
theorem dX1_receive_22 : decode cX1_receive 22 = .ok (.iload_n 2, 1) := by decide +kernel
theorem dX1_receive_23 : decode cX1_receive 23 = .ok (.aload_n 0, 1) := by decide +kernel
theorem dX1_receive_24 : decode cX1_receive 24 = .ok (.getfield 40, 3) := by decide +kernel
theorem dX1_receive_27 : decode cX1_receive 27 = .ok (.if_icmp .lt 5, 3) := by decide +kernel
theorem dX1_receive_30 : decode cX1_receive 30 = .ok (.iconst (-1), 1) := by decide +kernel
theorem dX1_receive_31 : decode cX1_receive 31 = .ok (.ireturn, 1) := by decide +kernel
theorem dX1_receive_32 : decode cX1_receive 32 = .ok (.aload_n 0, 1) := by decide +kernel
theorem dX1_receive_33 : decode cX1_receive 33 = .ok (.getfield 26, 3) := by decide +kernel
theorem dX1_receive_36 : decode cX1_receive 36 = .ok (.iload_n 2, 1) := by decide +kernel
theorem dX1_receive_37 : decode cX1_receive 37 = .ok (.baload, 1) := by decide +kernel
theorem dX1_receive_38 : decode cX1_receive 38 = .ok (.ifCond .ne 13, 3) := by decide +kernel
theorem dX1_receive_41 : decode cX1_receive 41 = .ok (.aload_n 0, 1) := by decide +kernel
theorem dX1_receive_42 : decode cX1_receive 42 = .ok (.getfield 20, 3) := by decide +kernel
theorem dX1_receive_45 : decode cX1_receive 45 = .ok (.iload_n 2, 1) := by decide +kernel
theorem dX1_receive_46 : decode cX1_receive 46 = .ok (.iaload, 1) := by decide +kernel
theorem dX1_receive_47 : decode cX1_receive 47 = .ok (.iload_n 1, 1) := by decide +kernel
theorem dX1_receive_48 : decode cX1_receive 48 = .ok (.if_icmp .ne 5, 3) := by decide +kernel
theorem dX1_receive_51 : decode cX1_receive 51 = .ok (.iconst (-1), 1) := by decide +kernel
theorem dX1_receive_52 : decode cX1_receive 52 = .ok (.ireturn, 1) := by decide +kernel
theorem dX1_receive_53 : decode cX1_receive 53 = .ok (.aload_n 0, 1) := by decide +kernel
theorem dX1_receive_54 : decode cX1_receive 54 = .ok (.iload_n 1, 1) := by decide +kernel
theorem dX1_receive_55 : decode cX1_receive 55 = .ok (.iload_n 3, 1) := by decide +kernel
theorem dX1_receive_56 : decode cX1_receive 56 = .ok (.invokevirtual 36, 3) := by decide +kernel
theorem dX1_receive_59 : decode cX1_receive 59 = .ok (.aload_n 0, 1) := by decide +kernel
theorem dX1_receive_60 : decode cX1_receive 60 = .ok (.getfield 26, 3) := by decide +kernel
theorem dX1_receive_63 : decode cX1_receive 63 = .ok (.iload_n 2, 1) := by decide +kernel
theorem dX1_receive_64 : decode cX1_receive 64 = .ok (.iconst 1, 1) := by decide +kernel
theorem dX1_receive_65 : decode cX1_receive 65 = .ok (.bastore, 1) := by decide +kernel
theorem dX1_receive_66 : decode cX1_receive 66 = .ok (.aload_n 0, 1) := by decide +kernel
theorem dX1_receive_67 : decode cX1_receive 67 = .ok (.getfield 20, 3) := by decide +kernel
theorem dX1_receive_70 : decode cX1_receive 70 = .ok (.iload_n 2, 1) := by decide +kernel
theorem dX1_receive_71 : decode cX1_receive 71 = .ok (.iaload, 1) := by decide +kernel
theorem dX1_receive_72 : decode cX1_receive 72 = .ok (.istore 4, 2) := by decide +kernel
theorem dX1_receive_74 : decode cX1_receive 74 = .ok (.aload_n 0, 1) := by decide +kernel
theorem dX1_receive_75 : decode cX1_receive 75 = .ok (.getfield 7, 3) := by decide +kernel
theorem dX1_receive_78 : decode cX1_receive 78 = .ok (.iload_n 1, 1) := by decide +kernel
theorem dX1_receive_79 : decode cX1_receive 79 = .ok (.iaload, 1) := by decide +kernel
theorem dX1_receive_80 : decode cX1_receive 80 = .ok (.istore 5, 2) := by decide +kernel
theorem dX1_receive_82 : decode cX1_receive 82 = .ok (.iconst 0, 1) := by decide +kernel
theorem dX1_receive_83 : decode cX1_receive 83 = .ok (.istore 6, 2) := by decide +kernel
theorem dX1_receive_85 : decode cX1_receive 85 = .ok (.iload 6, 2) := by decide +kernel
theorem dX1_receive_87 : decode cX1_receive 87 = .ok (.iconst 3, 1) := by decide +kernel
theorem dX1_receive_88 : decode cX1_receive 88 = .ok (.if_icmp .ge 80, 3) := by decide +kernel
theorem dX1_receive_91 : decode cX1_receive 91 = .ok (.aload_n 0, 1) := by decide +kernel
theorem dX1_receive_92 : decode cX1_receive 92 = .ok (.getfield 17, 3) := by decide +kernel
theorem dX1_receive_95 : decode cX1_receive 95 = .ok (.bipush 27, 2) := by decide +kernel
theorem dX1_receive_97 : decode cX1_receive 97 = .ok (.iload 4, 2) := by decide +kernel
theorem dX1_receive_99 : decode cX1_receive 99 = .ok (.imul, 1) := by decide +kernel
theorem dX1_receive_100 : decode cX1_receive 100 = .ok (.iconst 3, 1) := by decide +kernel
theorem dX1_receive_101 : decode cX1_receive 101 = .ok (.aload_n 0, 1) := by decide +kernel
theorem dX1_receive_102 : decode cX1_receive 102 = .ok (.getfield 23, 3) := by decide +kernel
theorem dX1_receive_105 : decode cX1_receive 105 = .ok (.iload_n 2, 1) := by decide +kernel
theorem dX1_receive_106 : decode cX1_receive 106 = .ok (.iaload, 1) := by decide +kernel
theorem dX1_receive_107 : decode cX1_receive 107 = .ok (.imul, 1) := by decide +kernel
theorem dX1_receive_108 : decode cX1_receive 108 = .ok (.iadd, 1) := by decide +kernel
theorem dX1_receive_109 : decode cX1_receive 109 = .ok (.iload 6, 2) := by decide +kernel
theorem dX1_receive_111 : decode cX1_receive 111 = .ok (.iadd, 1) := by decide +kernel
theorem dX1_receive_112 : decode cX1_receive 112 = .ok (.iaload, 1) := by decide +kernel
theorem dX1_receive_113 : decode cX1_receive 113 = .ok (.istore 7, 2) := by decide +kernel
theorem dX1_receive_115 : decode cX1_receive 115 = .ok (.iload 6, 2) := by decide +kernel
theorem dX1_receive_117 : decode cX1_receive 117 = .ok (.iload_n 1, 1) := by decide +kernel
theorem dX1_receive_118 : decode cX1_receive 118 = .ok (.if_icmp .eq 44, 3) := by decide +kernel
theorem dX1_receive_121 : decode cX1_receive 121 = .ok (.iload 7, 2) := by decide +kernel
theorem dX1_receive_123 : decode cX1_receive 123 = .ok (.aload_n 0, 1) := by decide +kernel
theorem dX1_receive_124 : decode cX1_receive 124 = .ok (.getfield 17, 3) := by decide +kernel
theorem dX1_receive_127 : decode cX1_receive 127 = .ok (.bipush 27, 2) := by decide +kernel
theorem dX1_receive_129 : decode cX1_receive 129 = .ok (.iload_n 1, 1) := by decide +kernel
theorem dX1_receive_130 : decode cX1_receive 130 = .ok (.imul, 1) := by decide +kernel
theorem dX1_receive_131 : decode cX1_receive 131 = .ok (.iconst 3, 1) := by decide +kernel
theorem dX1_receive_132 : decode cX1_receive 132 = .ok (.iload 5, 2) := by decide +kernel
theorem dX1_receive_134 : decode cX1_receive 134 = .ok (.imul, 1) := by decide +kernel
theorem dX1_receive_135 : decode cX1_receive 135 = .ok (.iadd, 1) := by decide +kernel
theorem dX1_receive_136 : decode cX1_receive 136 = .ok (.iload 6, 2) := by decide +kernel
theorem dX1_receive_138 : decode cX1_receive 138 = .ok (.iadd, 1) := by decide +kernel
theorem dX1_receive_139 : decode cX1_receive 139 = .ok (.iaload, 1) := by decide +kernel
theorem dX1_receive_140 : decode cX1_receive 140 = .ok (.if_icmp .le 22, 3) := by decide +kernel
theorem dX1_receive_143 : decode cX1_receive 143 = .ok (.aload_n 0, 1) := by decide +kernel
theorem dX1_receive_144 : decode cX1_receive 144 = .ok (.getfield 17, 3) := by decide +kernel
theorem dX1_receive_147 : decode cX1_receive 147 = .ok (.bipush 27, 2) := by decide +kernel
theorem dX1_receive_149 : decode cX1_receive 149 = .ok (.iload_n 1, 1) := by decide +kernel
theorem dX1_receive_150 : decode cX1_receive 150 = .ok (.imul, 1) := by decide +kernel
theorem dX1_receive_151 : decode cX1_receive 151 = .ok (.iconst 3, 1) := by decide +kernel
theorem dX1_receive_152 : decode cX1_receive 152 = .ok (.iload 5, 2) := by decide +kernel
theorem dX1_receive_154 : decode cX1_receive 154 = .ok (.imul, 1) := by decide +kernel
theorem dX1_receive_155 : decode cX1_receive 155 = .ok (.iadd, 1) := by decide +kernel
theorem dX1_receive_156 : decode cX1_receive 156 = .ok (.iload 6, 2) := by decide +kernel
theorem dX1_receive_158 : decode cX1_receive 158 = .ok (.iadd, 1) := by decide +kernel
theorem dX1_receive_159 : decode cX1_receive 159 = .ok (.iload 7, 2) := by decide +kernel
theorem dX1_receive_161 : decode cX1_receive 161 = .ok (.iastore, 1) := by decide +kernel
theorem dX1_receive_162 : decode cX1_receive 162 = .ok (.iinc 6 1, 3) := by decide +kernel
theorem dX1_receive_165 : decode cX1_receive 165 = .ok (.goto (-80), 3) := by decide +kernel
theorem dX1_receive_168 : decode cX1_receive 168 = .ok (.iload 5, 2) := by decide +kernel
theorem dX1_receive_170 : decode cX1_receive 170 = .ok (.ireturn, 1) := by decide +kernel
end
section
set_option maxRecDepth 100000
abbrev cX1_knows : ByteArray := prog_3_method_8_code
def yX1_knows : MethodName := ⟨RX1, "knows", "(III)I"⟩
theorem dX1_knows_0 : decode cX1_knows 0 = .ok (.iload_n 1, 1) := by decide +kernel
theorem dX1_knows_1 : decode cX1_knows 1 = .ok (.invokestatic 32, 3) := by decide +kernel
theorem dX1_knows_4 : decode cX1_knows 4 = .ok (.ifCond .ne 24, 3) := by decide +kernel
theorem dX1_knows_7 : decode cX1_knows 7 = .ok (.iload_n 3, 1) := by decide +kernel
theorem dX1_knows_8 : decode cX1_knows 8 = .ok (.invokestatic 32, 3) := by decide +kernel
theorem dX1_knows_11 : decode cX1_knows 11 = .ok (.ifCond .ne 17, 3) := by decide +kernel
theorem dX1_knows_14 : decode cX1_knows 14 = .ok (.iload_n 2, 1) := by decide +kernel
theorem dX1_knows_15 : decode cX1_knows 15 = .ok (.ifCond .lt 13, 3) := by decide +kernel
theorem dX1_knows_18 : decode cX1_knows 18 = .ok (.iload_n 2, 1) := by decide +kernel
theorem dX1_knows_19 : decode cX1_knows 19 = .ok (.aload_n 0, 1) := by decide +kernel
theorem dX1_knows_20 : decode cX1_knows 20 = .ok (.getfield 7, 3) := by decide +kernel
theorem dX1_knows_23 : decode cX1_knows 23 = .ok (.iload_n 1, 1) := by decide +kernel
theorem dX1_knows_24 : decode cX1_knows 24 = .ok (.iaload, 1) := by decide +kernel
theorem dX1_knows_25 : decode cX1_knows 25 = .ok (.if_icmp .le 5, 3) := by decide +kernel
theorem dX1_knows_28 : decode cX1_knows 28 = .ok (.iconst (-1), 1) := by decide +kernel
theorem dX1_knows_29 : decode cX1_knows 29 = .ok (.ireturn, 1) := by decide +kernel
theorem dX1_knows_30 : decode cX1_knows 30 = .ok (.aload_n 0, 1) := by decide +kernel
theorem dX1_knows_31 : decode cX1_knows 31 = .ok (.getfield 17, 3) := by decide +kernel
theorem dX1_knows_34 : decode cX1_knows 34 = .ok (.bipush 27, 2) := by decide +kernel
theorem dX1_knows_36 : decode cX1_knows 36 = .ok (.iload_n 1, 1) := by decide +kernel
theorem dX1_knows_37 : decode cX1_knows 37 = .ok (.imul, 1) := by decide +kernel
theorem dX1_knows_38 : decode cX1_knows 38 = .ok (.iconst 3, 1) := by decide +kernel
theorem dX1_knows_39 : decode cX1_knows 39 = .ok (.iload_n 2, 1) := by decide +kernel
theorem dX1_knows_40 : decode cX1_knows 40 = .ok (.imul, 1) := by decide +kernel
theorem dX1_knows_41 : decode cX1_knows 41 = .ok (.iadd, 1) := by decide +kernel
theorem dX1_knows_42 : decode cX1_knows 42 = .ok (.iload_n 3, 1) := by decide +kernel
theorem dX1_knows_43 : decode cX1_knows 43 = .ok (.iadd, 1) := by decide +kernel
theorem dX1_knows_44 : decode cX1_knows 44 = .ok (.iaload, 1) := by decide +kernel
theorem dX1_knows_45 : decode cX1_knows 45 = .ok (.ireturn, 1) := by decide +kernel
abbrev cX1_possibly : ByteArray := prog_3_method_13_code
def yX1_possibly : MethodName := ⟨RX1, "possibly", "(I)I"⟩
theorem dX1_possibly_0 : decode cX1_possibly 0 = .ok (.iload_n 1, 1) := by decide +kernel
theorem dX1_possibly_1 : decode cX1_possibly 1 = .ok (.invokestatic 48, 3) := by decide +kernel
theorem dX1_possibly_4 : decode cX1_possibly 4 = .ok (.ifCond .eq 5, 3) := by decide +kernel
theorem dX1_possibly_7 : decode cX1_possibly 7 = .ok (.iconst (-1), 1) := by decide +kernel
theorem dX1_possibly_8 : decode cX1_possibly 8 = .ok (.ireturn, 1) := by decide +kernel
theorem dX1_possibly_9 : decode cX1_possibly 9 = .ok (.iconst 0, 1) := by decide +kernel
theorem dX1_possibly_10 : decode cX1_possibly 10 = .ok (.istore_n 2, 1) := by decide +kernel
theorem dX1_possibly_11 : decode cX1_possibly 11 = .ok (.iload_n 2, 1) := by decide +kernel
theorem dX1_possibly_12 : decode cX1_possibly 12 = .ok (.sipush 729, 3) := by decide +kernel
theorem dX1_possibly_15 : decode cX1_possibly 15 = .ok (.if_icmp .ge 28, 3) := by decide +kernel
theorem dX1_possibly_18 : decode cX1_possibly 18 = .ok (.aload_n 0, 1) := by decide +kernel
theorem dX1_possibly_19 : decode cX1_possibly 19 = .ok (.iload_n 2, 1) := by decide +kernel
theorem dX1_possibly_20 : decode cX1_possibly 20 = .ok (.invokevirtual 51, 3) := by decide +kernel
theorem dX1_possibly_23 : decode cX1_possibly 23 = .ok (.ifCond .eq 14, 3) := by decide +kernel
theorem dX1_possibly_26 : decode cX1_possibly 26 = .ok (.aload_n 0, 1) := by decide +kernel
theorem dX1_possibly_27 : decode cX1_possibly 27 = .ok (.iload_n 2, 1) := by decide +kernel
theorem dX1_possibly_28 : decode cX1_possibly 28 = .ok (.iload_n 1, 1) := by decide +kernel
theorem dX1_possibly_29 : decode cX1_possibly 29 = .ok (.invokevirtual 54, 3) := by decide +kernel
theorem dX1_possibly_32 : decode cX1_possibly 32 = .ok (.ifCond .eq 5, 3) := by decide +kernel
theorem dX1_possibly_35 : decode cX1_possibly 35 = .ok (.iconst 1, 1) := by decide +kernel
theorem dX1_possibly_36 : decode cX1_possibly 36 = .ok (.ireturn, 1) := by decide +kernel
theorem dX1_possibly_37 : decode cX1_possibly 37 = .ok (.iinc 2 1, 3) := by decide +kernel
theorem dX1_possibly_40 : decode cX1_possibly 40 = .ok (.goto (-29), 3) := by decide +kernel
theorem dX1_possibly_43 : decode cX1_possibly 43 = .ok (.iconst 0, 1) := by decide +kernel
theorem dX1_possibly_44 : decode cX1_possibly 44 = .ok (.ireturn, 1) := by decide +kernel
abbrev cX1_badSet : ByteArray := prog_3_method_12_code
def yX1_badSet : MethodName := ⟨RX1, "badSet", "(I)Z"⟩
theorem dX1_badSet_0 : decode cX1_badSet 0 = .ok (.iload_n 0, 1) := by decide +kernel
theorem dX1_badSet_1 : decode cX1_badSet 1 = .ok (.iconst 1, 1) := by decide +kernel
theorem dX1_badSet_2 : decode cX1_badSet 2 = .ok (.if_icmp .lt 9, 3) := by decide +kernel
theorem dX1_badSet_5 : decode cX1_badSet 5 = .ok (.iload_n 0, 1) := by decide +kernel
theorem dX1_badSet_6 : decode cX1_badSet 6 = .ok (.bipush 7, 2) := by decide +kernel
theorem dX1_badSet_8 : decode cX1_badSet 8 = .ok (.if_icmp .le 7, 3) := by decide +kernel
theorem dX1_badSet_11 : decode cX1_badSet 11 = .ok (.iconst 1, 1) := by decide +kernel
theorem dX1_badSet_12 : decode cX1_badSet 12 = .ok (.goto 4, 3) := by decide +kernel
theorem dX1_badSet_15 : decode cX1_badSet 15 = .ok (.iconst 0, 1) := by decide +kernel
theorem dX1_badSet_16 : decode cX1_badSet 16 = .ok (.ireturn, 1) := by decide +kernel
abbrev cX1_possible : ByteArray := prog_3_method_10_code
def yX1_possible : MethodName := ⟨RX1, "possible", "(I)Z"⟩
theorem dX1_possible_0 : decode cX1_possible 0 = .ok (.iconst 0, 1) := by decide +kernel
theorem dX1_possible_1 : decode cX1_possible 1 = .ok (.istore_n 2, 1) := by decide +kernel
theorem dX1_possible_2 : decode cX1_possible 2 = .ok (.iload_n 2, 1) := by decide +kernel
theorem dX1_possible_3 : decode cX1_possible 3 = .ok (.iconst 3, 1) := by decide +kernel
theorem dX1_possible_4 : decode cX1_possible 4 = .ok (.if_icmp .ge 69, 3) := by decide +kernel
theorem dX1_possible_7 : decode cX1_possible 7 = .ok (.iload_n 1, 1) := by decide +kernel
theorem dX1_possible_8 : decode cX1_possible 8 = .ok (.iload_n 2, 1) := by decide +kernel
theorem dX1_possible_9 : decode cX1_possible 9 = .ok (.invokestatic 44, 3) := by decide +kernel
theorem dX1_possible_12 : decode cX1_possible 12 = .ok (.istore_n 3, 1) := by decide +kernel
theorem dX1_possible_13 : decode cX1_possible 13 = .ok (.iload_n 3, 1) := by decide +kernel
theorem dX1_possible_14 : decode cX1_possible 14 = .ok (.aload_n 0, 1) := by decide +kernel
theorem dX1_possible_15 : decode cX1_possible 15 = .ok (.getfield 7, 3) := by decide +kernel
theorem dX1_possible_18 : decode cX1_possible 18 = .ok (.iload_n 2, 1) := by decide +kernel
theorem dX1_possible_19 : decode cX1_possible 19 = .ok (.iaload, 1) := by decide +kernel
theorem dX1_possible_20 : decode cX1_possible 20 = .ok (.if_icmp .le 5, 3) := by decide +kernel
theorem dX1_possible_23 : decode cX1_possible 23 = .ok (.iconst 0, 1) := by decide +kernel
theorem dX1_possible_24 : decode cX1_possible 24 = .ok (.ireturn, 1) := by decide +kernel
theorem dX1_possible_25 : decode cX1_possible 25 = .ok (.iconst 0, 1) := by decide +kernel
theorem dX1_possible_26 : decode cX1_possible 26 = .ok (.istore 4, 2) := by decide +kernel
theorem dX1_possible_28 : decode cX1_possible 28 = .ok (.iload 4, 2) := by decide +kernel
theorem dX1_possible_30 : decode cX1_possible 30 = .ok (.iconst 3, 1) := by decide +kernel
theorem dX1_possible_31 : decode cX1_possible 31 = .ok (.if_icmp .ge 36, 3) := by decide +kernel
theorem dX1_possible_34 : decode cX1_possible 34 = .ok (.aload_n 0, 1) := by decide +kernel
theorem dX1_possible_35 : decode cX1_possible 35 = .ok (.getfield 17, 3) := by decide +kernel
theorem dX1_possible_38 : decode cX1_possible 38 = .ok (.bipush 27, 2) := by decide +kernel
theorem dX1_possible_40 : decode cX1_possible 40 = .ok (.iload_n 2, 1) := by decide +kernel
theorem dX1_possible_41 : decode cX1_possible 41 = .ok (.imul, 1) := by decide +kernel
theorem dX1_possible_42 : decode cX1_possible 42 = .ok (.iconst 3, 1) := by decide +kernel
theorem dX1_possible_43 : decode cX1_possible 43 = .ok (.iload_n 3, 1) := by decide +kernel
theorem dX1_possible_44 : decode cX1_possible 44 = .ok (.imul, 1) := by decide +kernel
theorem dX1_possible_45 : decode cX1_possible 45 = .ok (.iadd, 1) := by decide +kernel
theorem dX1_possible_46 : decode cX1_possible 46 = .ok (.iload 4, 2) := by decide +kernel
theorem dX1_possible_48 : decode cX1_possible 48 = .ok (.iadd, 1) := by decide +kernel
theorem dX1_possible_49 : decode cX1_possible 49 = .ok (.iaload, 1) := by decide +kernel
theorem dX1_possible_50 : decode cX1_possible 50 = .ok (.iload_n 1, 1) := by decide +kernel
theorem dX1_possible_51 : decode cX1_possible 51 = .ok (.iload 4, 2) := by decide +kernel
theorem dX1_possible_53 : decode cX1_possible 53 = .ok (.invokestatic 44, 3) := by decide +kernel
theorem dX1_possible_56 : decode cX1_possible 56 = .ok (.if_icmp .le 5, 3) := by decide +kernel
theorem dX1_possible_59 : decode cX1_possible 59 = .ok (.iconst 0, 1) := by decide +kernel
theorem dX1_possible_60 : decode cX1_possible 60 = .ok (.ireturn, 1) := by decide +kernel
theorem dX1_possible_61 : decode cX1_possible 61 = .ok (.iinc 4 1, 3) := by decide +kernel
theorem dX1_possible_64 : decode cX1_possible 64 = .ok (.goto (-36), 3) := by decide +kernel
theorem dX1_possible_67 : decode cX1_possible 67 = .ok (.iinc 2 1, 3) := by decide +kernel
theorem dX1_possible_70 : decode cX1_possible 70 = .ok (.goto (-68), 3) := by decide +kernel
theorem dX1_possible_73 : decode cX1_possible 73 = .ok (.iconst 1, 1) := by decide +kernel
theorem dX1_possible_74 : decode cX1_possible 74 = .ok (.ireturn, 1) := by decide +kernel
abbrev cX1_stateOf : ByteArray := prog_3_method_9_code
def yX1_stateOf : MethodName := ⟨RX1, "stateOf", "(II)I"⟩
theorem dX1_stateOf_0 : decode cX1_stateOf 0 = .ok (.iload_n 1, 1) := by decide +kernel
theorem dX1_stateOf_1 : decode cX1_stateOf 1 = .ok (.ifCond .ne 10, 3) := by decide +kernel
theorem dX1_stateOf_4 : decode cX1_stateOf 4 = .ok (.iload_n 0, 1) := by decide +kernel
theorem dX1_stateOf_5 : decode cX1_stateOf 5 = .ok (.bipush 81, 2) := by decide +kernel
theorem dX1_stateOf_7 : decode cX1_stateOf 7 = .ok (.idiv, 1) := by decide +kernel
theorem dX1_stateOf_8 : decode cX1_stateOf 8 = .ok (.goto 22, 3) := by decide +kernel
theorem dX1_stateOf_11 : decode cX1_stateOf 11 = .ok (.iload_n 1, 1) := by decide +kernel
theorem dX1_stateOf_12 : decode cX1_stateOf 12 = .ok (.iconst 1, 1) := by decide +kernel
theorem dX1_stateOf_13 : decode cX1_stateOf 13 = .ok (.if_icmp .ne 13, 3) := by decide +kernel
theorem dX1_stateOf_16 : decode cX1_stateOf 16 = .ok (.iload_n 0, 1) := by decide +kernel
theorem dX1_stateOf_17 : decode cX1_stateOf 17 = .ok (.bipush 9, 2) := by decide +kernel
theorem dX1_stateOf_19 : decode cX1_stateOf 19 = .ok (.idiv, 1) := by decide +kernel
theorem dX1_stateOf_20 : decode cX1_stateOf 20 = .ok (.bipush 9, 2) := by decide +kernel
theorem dX1_stateOf_22 : decode cX1_stateOf 22 = .ok (.irem, 1) := by decide +kernel
theorem dX1_stateOf_23 : decode cX1_stateOf 23 = .ok (.goto 7, 3) := by decide +kernel
theorem dX1_stateOf_26 : decode cX1_stateOf 26 = .ok (.iload_n 0, 1) := by decide +kernel
theorem dX1_stateOf_27 : decode cX1_stateOf 27 = .ok (.bipush 9, 2) := by decide +kernel
theorem dX1_stateOf_29 : decode cX1_stateOf 29 = .ok (.irem, 1) := by decide +kernel
theorem dX1_stateOf_30 : decode cX1_stateOf 30 = .ok (.ireturn, 1) := by decide +kernel
abbrev cX1_isGood : ByteArray := prog_3_method_11_code
def yX1_isGood : MethodName := ⟨RX1, "isGood", "(II)Z"⟩
theorem dX1_isGood_0 : decode cX1_isGood 0 = .ok (.iconst 0, 1) := by decide +kernel
theorem dX1_isGood_1 : decode cX1_isGood 1 = .ok (.istore_n 3, 1) := by decide +kernel
theorem dX1_isGood_2 : decode cX1_isGood 2 = .ok (.iload_n 3, 1) := by decide +kernel
theorem dX1_isGood_3 : decode cX1_isGood 3 = .ok (.iconst 3, 1) := by decide +kernel
theorem dX1_isGood_4 : decode cX1_isGood 4 = .ok (.if_icmp .ge 42, 3) := by decide +kernel
theorem dX1_isGood_7 : decode cX1_isGood 7 = .ok (.iload_n 1, 1) := by decide +kernel
theorem dX1_isGood_8 : decode cX1_isGood 8 = .ok (.iload_n 3, 1) := by decide +kernel
theorem dX1_isGood_9 : decode cX1_isGood 9 = .ok (.invokestatic 44, 3) := by decide +kernel
theorem dX1_isGood_12 : decode cX1_isGood 12 = .ok (.istore 4, 2) := by decide +kernel
theorem dX1_isGood_14 : decode cX1_isGood 14 = .ok (.iload_n 2, 1) := by decide +kernel
theorem dX1_isGood_15 : decode cX1_isGood 15 = .ok (.iload_n 3, 1) := by decide +kernel
theorem dX1_isGood_16 : decode cX1_isGood 16 = .ok (.ishr, 1) := by decide +kernel
theorem dX1_isGood_17 : decode cX1_isGood 17 = .ok (.iconst 1, 1) := by decide +kernel
theorem dX1_isGood_18 : decode cX1_isGood 18 = .ok (.iand, 1) := by decide +kernel
theorem dX1_isGood_19 : decode cX1_isGood 19 = .ok (.iconst 1, 1) := by decide +kernel
theorem dX1_isGood_20 : decode cX1_isGood 20 = .ok (.if_icmp .ne 20, 3) := by decide +kernel
theorem dX1_isGood_23 : decode cX1_isGood 23 = .ok (.aload_n 0, 1) := by decide +kernel
theorem dX1_isGood_24 : decode cX1_isGood 24 = .ok (.getfield 13, 3) := by decide +kernel
theorem dX1_isGood_27 : decode cX1_isGood 27 = .ok (.bipush 9, 2) := by decide +kernel
theorem dX1_isGood_29 : decode cX1_isGood 29 = .ok (.iload_n 3, 1) := by decide +kernel
theorem dX1_isGood_30 : decode cX1_isGood 30 = .ok (.imul, 1) := by decide +kernel
theorem dX1_isGood_31 : decode cX1_isGood 31 = .ok (.iload 4, 2) := by decide +kernel
theorem dX1_isGood_33 : decode cX1_isGood 33 = .ok (.iadd, 1) := by decide +kernel
theorem dX1_isGood_34 : decode cX1_isGood 34 = .ok (.baload, 1) := by decide +kernel
theorem dX1_isGood_35 : decode cX1_isGood 35 = .ok (.ifCond .ne 5, 3) := by decide +kernel
theorem dX1_isGood_38 : decode cX1_isGood 38 = .ok (.iconst 0, 1) := by decide +kernel
theorem dX1_isGood_39 : decode cX1_isGood 39 = .ok (.ireturn, 1) := by decide +kernel
theorem dX1_isGood_40 : decode cX1_isGood 40 = .ok (.iinc 3 1, 3) := by decide +kernel
theorem dX1_isGood_43 : decode cX1_isGood 43 = .ok (.goto (-41), 3) := by decide +kernel
theorem dX1_isGood_46 : decode cX1_isGood 46 = .ok (.iconst 1, 1) := by decide +kernel
theorem dX1_isGood_47 : decode cX1_isGood 47 = .ok (.ireturn, 1) := by decide +kernel
abbrev cX1_least : ByteArray := prog_3_method_14_code
def yX1_least : MethodName := ⟨RX1, "least", "(II)I"⟩
theorem dX1_least_0 : decode cX1_least 0 = .ok (.iload_n 1, 1) := by decide +kernel
theorem dX1_least_1 : decode cX1_least 1 = .ok (.invokestatic 48, 3) := by decide +kernel
theorem dX1_least_4 : decode cX1_least 4 = .ok (.ifCond .ne 10, 3) := by decide +kernel
theorem dX1_least_7 : decode cX1_least 7 = .ok (.iload_n 2, 1) := by decide +kernel
theorem dX1_least_8 : decode cX1_least 8 = .ok (.invokestatic 32, 3) := by decide +kernel
theorem dX1_least_11 : decode cX1_least 11 = .ok (.ifCond .eq 5, 3) := by decide +kernel
theorem dX1_least_14 : decode cX1_least 14 = .ok (.iconst (-1), 1) := by decide +kernel
theorem dX1_least_15 : decode cX1_least 15 = .ok (.ireturn, 1) := by decide +kernel
theorem dX1_least_16 : decode cX1_least 16 = .ok (.iconst (-1), 1) := by decide +kernel
theorem dX1_least_17 : decode cX1_least 17 = .ok (.istore_n 3, 1) := by decide +kernel
theorem dX1_least_18 : decode cX1_least 18 = .ok (.iconst 0, 1) := by decide +kernel
theorem dX1_least_19 : decode cX1_least 19 = .ok (.istore 4, 2) := by decide +kernel
theorem dX1_least_21 : decode cX1_least 21 = .ok (.iload 4, 2) := by decide +kernel
theorem dX1_least_23 : decode cX1_least 23 = .ok (.sipush 729, 3) := by decide +kernel
theorem dX1_least_26 : decode cX1_least 26 = .ok (.if_icmp .ge 49, 3) := by decide +kernel
theorem dX1_least_29 : decode cX1_least 29 = .ok (.iload 4, 2) := by decide +kernel
theorem dX1_least_31 : decode cX1_least 31 = .ok (.iload_n 2, 1) := by decide +kernel
theorem dX1_least_32 : decode cX1_least 32 = .ok (.invokestatic 44, 3) := by decide +kernel
theorem dX1_least_35 : decode cX1_least 35 = .ok (.istore 5, 2) := by decide +kernel
theorem dX1_least_37 : decode cX1_least 37 = .ok (.aload_n 0, 1) := by decide +kernel
theorem dX1_least_38 : decode cX1_least 38 = .ok (.iload 4, 2) := by decide +kernel
theorem dX1_least_40 : decode cX1_least 40 = .ok (.invokevirtual 51, 3) := by decide +kernel
theorem dX1_least_43 : decode cX1_least 43 = .ok (.ifCond .eq 26, 3) := by decide +kernel
theorem dX1_least_46 : decode cX1_least 46 = .ok (.aload_n 0, 1) := by decide +kernel
theorem dX1_least_47 : decode cX1_least 47 = .ok (.iload 4, 2) := by decide +kernel
theorem dX1_least_49 : decode cX1_least 49 = .ok (.iload_n 1, 1) := by decide +kernel
theorem dX1_least_50 : decode cX1_least 50 = .ok (.invokevirtual 54, 3) := by decide +kernel
theorem dX1_least_53 : decode cX1_least 53 = .ok (.ifCond .eq 16, 3) := by decide +kernel
theorem dX1_least_56 : decode cX1_least 56 = .ok (.iload_n 3, 1) := by decide +kernel
theorem dX1_least_57 : decode cX1_least 57 = .ok (.ifCond .lt 9, 3) := by decide +kernel
theorem dX1_least_60 : decode cX1_least 60 = .ok (.iload 5, 2) := by decide +kernel
theorem dX1_least_62 : decode cX1_least 62 = .ok (.iload_n 3, 1) := by decide +kernel
theorem dX1_least_63 : decode cX1_least 63 = .ok (.if_icmp .ge 6, 3) := by decide +kernel
theorem dX1_least_66 : decode cX1_least 66 = .ok (.iload 5, 2) := by decide +kernel
theorem dX1_least_68 : decode cX1_least 68 = .ok (.istore_n 3, 1) := by decide +kernel
theorem dX1_least_69 : decode cX1_least 69 = .ok (.iinc 4 1, 3) := by decide +kernel
theorem dX1_least_72 : decode cX1_least 72 = .ok (.goto (-51), 3) := by decide +kernel
theorem dX1_least_75 : decode cX1_least 75 = .ok (.iload_n 3, 1) := by decide +kernel
theorem dX1_least_76 : decode cX1_least 76 = .ok (.ireturn, 1) := by decide +kernel
abbrev cX1_definitely : ByteArray := prog_3_method_16_code
def yX1_definitely : MethodName := ⟨RX1, "definitely", "(I)I"⟩
theorem dX1_definitely_0 : decode cX1_definitely 0 = .ok (.iload_n 1, 1) := by decide +kernel
theorem dX1_definitely_1 : decode cX1_definitely 1 = .ok (.invokestatic 48, 3) := by decide +kernel
theorem dX1_definitely_4 : decode cX1_definitely 4 = .ok (.ifCond .eq 5, 3) := by decide +kernel
theorem dX1_definitely_7 : decode cX1_definitely 7 = .ok (.iconst (-1), 1) := by decide +kernel
theorem dX1_definitely_8 : decode cX1_definitely 8 = .ok (.ireturn, 1) := by decide +kernel
theorem dX1_definitely_9 : decode cX1_definitely 9 = .ok (.iconst 0, 1) := by decide +kernel
theorem dX1_definitely_10 : decode cX1_definitely 10 = .ok (.istore_n 2, 1) := by decide +kernel
theorem dX1_definitely_11 : decode cX1_definitely 11 = .ok (.iload_n 2, 1) := by decide +kernel
theorem dX1_definitely_12 : decode cX1_definitely 12 = .ok (.sipush 729, 3) := by decide +kernel
theorem dX1_definitely_15 : decode cX1_definitely 15 = .ok (.if_icmp .ge 45, 3) := by decide +kernel
theorem dX1_definitely_18 : decode cX1_definitely 18 = .ok (.aload_n 0, 1) := by decide +kernel
theorem dX1_definitely_19 : decode cX1_definitely 19 = .ok (.getfield 29, 3) := by decide +kernel
theorem dX1_definitely_22 : decode cX1_definitely 22 = .ok (.iload_n 2, 1) := by decide +kernel
theorem dX1_definitely_23 : decode cX1_definitely 23 = .ok (.aload_n 0, 1) := by decide +kernel
theorem dX1_definitely_24 : decode cX1_definitely 24 = .ok (.iload_n 2, 1) := by decide +kernel
theorem dX1_definitely_25 : decode cX1_definitely 25 = .ok (.invokevirtual 51, 3) := by decide +kernel
theorem dX1_definitely_28 : decode cX1_definitely 28 = .ok (.ifCond .eq 24, 3) := by decide +kernel
theorem dX1_definitely_31 : decode cX1_definitely 31 = .ok (.aload_n 0, 1) := by decide +kernel
theorem dX1_definitely_32 : decode cX1_definitely 32 = .ok (.iload_n 2, 1) := by decide +kernel
theorem dX1_definitely_33 : decode cX1_definitely 33 = .ok (.iload_n 1, 1) := by decide +kernel
theorem dX1_definitely_34 : decode cX1_definitely 34 = .ok (.invokevirtual 54, 3) := by decide +kernel
theorem dX1_definitely_37 : decode cX1_definitely 37 = .ok (.ifCond .ne 15, 3) := by decide +kernel
theorem dX1_definitely_40 : decode cX1_definitely 40 = .ok (.aload_n 0, 1) := by decide +kernel
theorem dX1_definitely_41 : decode cX1_definitely 41 = .ok (.iload_n 2, 1) := by decide +kernel
theorem dX1_definitely_42 : decode cX1_definitely 42 = .ok (.invokevirtual 58, 3) := by decide +kernel
theorem dX1_definitely_45 : decode cX1_definitely 45 = .ok (.ifCond .eq 7, 3) := by decide +kernel
theorem dX1_definitely_48 : decode cX1_definitely 48 = .ok (.iconst 1, 1) := by decide +kernel
theorem dX1_definitely_49 : decode cX1_definitely 49 = .ok (.goto 4, 3) := by decide +kernel
theorem dX1_definitely_52 : decode cX1_definitely 52 = .ok (.iconst 0, 1) := by decide +kernel
theorem dX1_definitely_53 : decode cX1_definitely 53 = .ok (.bastore, 1) := by decide +kernel
theorem dX1_definitely_54 : decode cX1_definitely 54 = .ok (.iinc 2 1, 3) := by decide +kernel
theorem dX1_definitely_57 : decode cX1_definitely 57 = .ok (.goto (-46), 3) := by decide +kernel
theorem dX1_definitely_60 : decode cX1_definitely 60 = .ok (.bipush 81, 2) := by decide +kernel
theorem dX1_definitely_62 : decode cX1_definitely 62 = .ok (.aload_n 0, 1) := by decide +kernel
theorem dX1_definitely_63 : decode cX1_definitely 63 = .ok (.getfield 7, 3) := by decide +kernel
theorem dX1_definitely_66 : decode cX1_definitely 66 = .ok (.iconst 0, 1) := by decide +kernel
theorem dX1_definitely_67 : decode cX1_definitely 67 = .ok (.iaload, 1) := by decide +kernel
theorem dX1_definitely_68 : decode cX1_definitely 68 = .ok (.imul, 1) := by decide +kernel
theorem dX1_definitely_69 : decode cX1_definitely 69 = .ok (.bipush 9, 2) := by decide +kernel
theorem dX1_definitely_71 : decode cX1_definitely 71 = .ok (.aload_n 0, 1) := by decide +kernel
theorem dX1_definitely_72 : decode cX1_definitely 72 = .ok (.getfield 7, 3) := by decide +kernel
theorem dX1_definitely_75 : decode cX1_definitely 75 = .ok (.iconst 1, 1) := by decide +kernel
theorem dX1_definitely_76 : decode cX1_definitely 76 = .ok (.iaload, 1) := by decide +kernel
theorem dX1_definitely_77 : decode cX1_definitely 77 = .ok (.imul, 1) := by decide +kernel
theorem dX1_definitely_78 : decode cX1_definitely 78 = .ok (.iadd, 1) := by decide +kernel
theorem dX1_definitely_79 : decode cX1_definitely 79 = .ok (.aload_n 0, 1) := by decide +kernel
theorem dX1_definitely_80 : decode cX1_definitely 80 = .ok (.getfield 7, 3) := by decide +kernel
theorem dX1_definitely_83 : decode cX1_definitely 83 = .ok (.iconst 2, 1) := by decide +kernel
theorem dX1_definitely_84 : decode cX1_definitely 84 = .ok (.iaload, 1) := by decide +kernel
theorem dX1_definitely_85 : decode cX1_definitely 85 = .ok (.iadd, 1) := by decide +kernel
theorem dX1_definitely_86 : decode cX1_definitely 86 = .ok (.istore_n 2, 1) := by decide +kernel
theorem dX1_definitely_87 : decode cX1_definitely 87 = .ok (.aload_n 0, 1) := by decide +kernel
theorem dX1_definitely_88 : decode cX1_definitely 88 = .ok (.getfield 29, 3) := by decide +kernel
theorem dX1_definitely_91 : decode cX1_definitely 91 = .ok (.iload_n 2, 1) := by decide +kernel
theorem dX1_definitely_92 : decode cX1_definitely 92 = .ok (.baload, 1) := by decide +kernel
theorem dX1_definitely_93 : decode cX1_definitely 93 = .ok (.ifCond .eq 7, 3) := by decide +kernel
theorem dX1_definitely_96 : decode cX1_definitely 96 = .ok (.iconst 0, 1) := by decide +kernel
theorem dX1_definitely_97 : decode cX1_definitely 97 = .ok (.goto 4, 3) := by decide +kernel
theorem dX1_definitely_100 : decode cX1_definitely 100 = .ok (.iconst 1, 1) := by decide +kernel
theorem dX1_definitely_101 : decode cX1_definitely 101 = .ok (.ireturn, 1) := by decide +kernel
abbrev cX1_reached : ByteArray := prog_3_method_15_code
def yX1_reached : MethodName := ⟨RX1, "reached", "(I)Z"⟩
theorem dX1_reached_0 : decode cX1_reached 0 = .ok (.iload_n 1, 1) := by decide +kernel
theorem dX1_reached_1 : decode cX1_reached 1 = .ok (.ifCond .ne 5, 3) := by decide +kernel
theorem dX1_reached_4 : decode cX1_reached 4 = .ok (.iconst 1, 1) := by decide +kernel
theorem dX1_reached_5 : decode cX1_reached 5 = .ok (.ireturn, 1) := by decide +kernel
theorem dX1_reached_6 : decode cX1_reached 6 = .ok (.iconst 0, 1) := by decide +kernel
theorem dX1_reached_7 : decode cX1_reached 7 = .ok (.istore_n 2, 1) := by decide +kernel
theorem dX1_reached_8 : decode cX1_reached 8 = .ok (.iload_n 2, 1) := by decide +kernel
theorem dX1_reached_9 : decode cX1_reached 9 = .ok (.iconst 3, 1) := by decide +kernel
theorem dX1_reached_10 : decode cX1_reached 10 = .ok (.if_icmp .ge 51, 3) := by decide +kernel
theorem dX1_reached_13 : decode cX1_reached 13 = .ok (.iload_n 2, 1) := by decide +kernel
theorem dX1_reached_14 : decode cX1_reached 14 = .ok (.ifCond .ne 8, 3) := by decide +kernel
theorem dX1_reached_17 : decode cX1_reached 17 = .ok (.bipush 81, 2) := by decide +kernel
theorem dX1_reached_19 : decode cX1_reached 19 = .ok (.goto 14, 3) := by decide +kernel
theorem dX1_reached_22 : decode cX1_reached 22 = .ok (.iload_n 2, 1) := by decide +kernel
theorem dX1_reached_23 : decode cX1_reached 23 = .ok (.iconst 1, 1) := by decide +kernel
theorem dX1_reached_24 : decode cX1_reached 24 = .ok (.if_icmp .ne 8, 3) := by decide +kernel
theorem dX1_reached_27 : decode cX1_reached 27 = .ok (.bipush 9, 2) := by decide +kernel
theorem dX1_reached_29 : decode cX1_reached 29 = .ok (.goto 4, 3) := by decide +kernel
theorem dX1_reached_32 : decode cX1_reached 32 = .ok (.iconst 1, 1) := by decide +kernel
theorem dX1_reached_33 : decode cX1_reached 33 = .ok (.istore_n 3, 1) := by decide +kernel
theorem dX1_reached_34 : decode cX1_reached 34 = .ok (.iload_n 1, 1) := by decide +kernel
theorem dX1_reached_35 : decode cX1_reached 35 = .ok (.iload_n 2, 1) := by decide +kernel
theorem dX1_reached_36 : decode cX1_reached 36 = .ok (.invokestatic 44, 3) := by decide +kernel
theorem dX1_reached_39 : decode cX1_reached 39 = .ok (.ifCond .le 16, 3) := by decide +kernel
theorem dX1_reached_42 : decode cX1_reached 42 = .ok (.aload_n 0, 1) := by decide +kernel
theorem dX1_reached_43 : decode cX1_reached 43 = .ok (.getfield 29, 3) := by decide +kernel
theorem dX1_reached_46 : decode cX1_reached 46 = .ok (.iload_n 1, 1) := by decide +kernel
theorem dX1_reached_47 : decode cX1_reached 47 = .ok (.iload_n 3, 1) := by decide +kernel
theorem dX1_reached_48 : decode cX1_reached 48 = .ok (.isub, 1) := by decide +kernel
theorem dX1_reached_49 : decode cX1_reached 49 = .ok (.baload, 1) := by decide +kernel
theorem dX1_reached_50 : decode cX1_reached 50 = .ok (.ifCond .eq 5, 3) := by decide +kernel
theorem dX1_reached_53 : decode cX1_reached 53 = .ok (.iconst 1, 1) := by decide +kernel
theorem dX1_reached_54 : decode cX1_reached 54 = .ok (.ireturn, 1) := by decide +kernel
theorem dX1_reached_55 : decode cX1_reached 55 = .ok (.iinc 2 1, 3) := by decide +kernel
theorem dX1_reached_58 : decode cX1_reached 58 = .ok (.goto (-50), 3) := by decide +kernel
theorem dX1_reached_61 : decode cX1_reached 61 = .ok (.iconst 0, 1) := by decide +kernel
theorem dX1_reached_62 : decode cX1_reached 62 = .ok (.ireturn, 1) := by decide +kernel
abbrev cX1_cuts : ByteArray := prog_3_method_17_code
def yX1_cuts : MethodName := ⟨RX1, "cuts", "()I"⟩
theorem dX1_cuts_0 : decode cX1_cuts 0 = .ok (.iconst 0, 1) := by decide +kernel
theorem dX1_cuts_1 : decode cX1_cuts 1 = .ok (.istore_n 1, 1) := by decide +kernel
theorem dX1_cuts_2 : decode cX1_cuts 2 = .ok (.iconst 0, 1) := by decide +kernel
theorem dX1_cuts_3 : decode cX1_cuts 3 = .ok (.istore_n 2, 1) := by decide +kernel
theorem dX1_cuts_4 : decode cX1_cuts 4 = .ok (.iload_n 2, 1) := by decide +kernel
theorem dX1_cuts_5 : decode cX1_cuts 5 = .ok (.sipush 729, 3) := by decide +kernel
theorem dX1_cuts_8 : decode cX1_cuts 8 = .ok (.if_icmp .ge 20, 3) := by decide +kernel
theorem dX1_cuts_11 : decode cX1_cuts 11 = .ok (.aload_n 0, 1) := by decide +kernel
theorem dX1_cuts_12 : decode cX1_cuts 12 = .ok (.iload_n 2, 1) := by decide +kernel
theorem dX1_cuts_13 : decode cX1_cuts 13 = .ok (.invokevirtual 51, 3) := by decide +kernel
theorem dX1_cuts_16 : decode cX1_cuts 16 = .ok (.ifCond .eq 6, 3) := by decide +kernel
theorem dX1_cuts_19 : decode cX1_cuts 19 = .ok (.iinc 1 1, 3) := by decide +kernel
theorem dX1_cuts_22 : decode cX1_cuts 22 = .ok (.iinc 2 1, 3) := by decide +kernel
theorem dX1_cuts_25 : decode cX1_cuts 25 = .ok (.goto (-21), 3) := by decide +kernel
theorem dX1_cuts_28 : decode cX1_cuts 28 = .ok (.iload_n 1, 1) := by decide +kernel
theorem dX1_cuts_29 : decode cX1_cuts 29 = .ok (.ireturn, 1) := by decide +kernel
abbrev cX1_events : ByteArray := prog_3_method_18_code
def yX1_events : MethodName := ⟨RX1, "events", "(I)I"⟩
theorem dX1_events_0 : decode cX1_events 0 = .ok (.iload_n 1, 1) := by decide +kernel
theorem dX1_events_1 : decode cX1_events 1 = .ok (.invokestatic 32, 3) := by decide +kernel
theorem dX1_events_4 : decode cX1_events 4 = .ok (.ifCond .eq 7, 3) := by decide +kernel
theorem dX1_events_7 : decode cX1_events 7 = .ok (.iconst (-1), 1) := by decide +kernel
theorem dX1_events_8 : decode cX1_events 8 = .ok (.goto 9, 3) := by decide +kernel
theorem dX1_events_11 : decode cX1_events 11 = .ok (.aload_n 0, 1) := by decide +kernel
theorem dX1_events_12 : decode cX1_events 12 = .ok (.getfield 7, 3) := by decide +kernel
theorem dX1_events_15 : decode cX1_events 15 = .ok (.iload_n 1, 1) := by decide +kernel
theorem dX1_events_16 : decode cX1_events 16 = .ok (.iaload, 1) := by decide +kernel
theorem dX1_events_17 : decode cX1_events 17 = .ok (.ireturn, 1) := by decide +kernel
theorem q14 : (Jvm.Cond.initialized "CutWatchModel") ∈ lw_all := lw_g (lw_at lw_m0 2 rfl) rfl
theorem q132 : (Jvm.Cond.instantiable "CutWatchModel" (8 : Nat)) ∈ lw_all := lw_g (lw_at lw_m0 120 rfl) rfl
theorem q134 : (Jvm.Cond.instanceMethod ({ cls := "CutWatchModel", name := "<init>", desc := "()V" } : Jvm.MethodName)) ∈ lw_all := lw_g (lw_at lw_m0 122 rfl) rfl
theorem q135 : (Jvm.Cond.code ({ cls := "CutWatchModel", name := "<init>", desc := "()V" } : Jvm.MethodName) prog_3_method_1_code (1 : Nat) (Option.none : Option Jvm.ClassFile.FieldType)) ∈ lw_all := lw_g (lw_at lw_m0 123 rfl) rfl
theorem q136 : (Jvm.Cond.methodLink "CutWatchModel" (1 : Nat) ({ cls := "java/lang/Object", name := "<init>", desc := "()V" } : Jvm.MethodName)) ∈ lw_all := lw_g (lw_at lw_m0 124 rfl) rfl
theorem q137 : (Jvm.Cond.fieldLink "CutWatchModel" (7 : Nat) "CutWatchModel" "counts" "[I") ∈ lw_all := lw_g (lw_at lw_m0 125 rfl) rfl
theorem q138 : (Jvm.Cond.fieldLink "CutWatchModel" (13 : Nat) "CutWatchModel" "goods" "[Z") ∈ lw_all := lw_g (lw_at lw_m0 126 rfl) rfl
theorem q139 : (Jvm.Cond.fieldLink "CutWatchModel" (17 : Nat) "CutWatchModel" "known" "[I") ∈ lw_all := lw_g (lw_at lw_m0 127 rfl) rfl
theorem q140 : (Jvm.Cond.fieldLink "CutWatchModel" (40 : Nat) "CutWatchModel" "messages" "I") ∈ lw_all := lw_g (lw_at lw_m0 128 rfl) rfl
theorem q141 : (Jvm.Cond.fieldLink "CutWatchModel" (20 : Nat) "CutWatchModel" "senders" "[I") ∈ lw_all := lw_g (lw_at lw_m0 129 rfl) rfl
theorem q142 : (Jvm.Cond.fieldLink "CutWatchModel" (23 : Nat) "CutWatchModel" "sentBy" "[I") ∈ lw_all := lw_g (lw_at lw_m0 130 rfl) rfl
theorem q143 : (Jvm.Cond.fieldLink "CutWatchModel" (26 : Nat) "CutWatchModel" "received" "[Z") ∈ lw_all := lw_g (lw_at lw_m0 131 rfl) rfl
theorem q144 : (Jvm.Cond.fieldLink "CutWatchModel" (29 : Nat) "CutWatchModel" "avoided" "[Z") ∈ lw_all := lw_g (lw_at lw_m0 132 rfl) rfl
theorem q145 : (Jvm.Cond.laysFinal "CutWatchModel" "CutWatchModel" "counts" "[I") ∈ lw_all := lw_g (lw_at lw_m0 133 rfl) rfl
theorem q146 : (Jvm.Cond.soleField "CutWatchModel" "counts") ∈ lw_all := lw_g (lw_at lw_m0 134 rfl) rfl
theorem q147 : (Jvm.Cond.laysFinal "CutWatchModel" "CutWatchModel" "goods" "[Z") ∈ lw_all := lw_g (lw_at lw_m0 135 rfl) rfl
theorem q148 : (Jvm.Cond.soleField "CutWatchModel" "goods") ∈ lw_all := lw_g (lw_at lw_m0 136 rfl) rfl
theorem q149 : (Jvm.Cond.laysFinal "CutWatchModel" "CutWatchModel" "known" "[I") ∈ lw_all := lw_g (lw_at lw_m0 137 rfl) rfl
theorem q150 : (Jvm.Cond.soleField "CutWatchModel" "known") ∈ lw_all := lw_g (lw_at lw_m0 138 rfl) rfl
theorem q151 : (Jvm.Cond.lays "CutWatchModel" "CutWatchModel" "messages" "I") ∈ lw_all := lw_g (lw_at lw_m0 139 rfl) rfl
theorem q152 : (Jvm.Cond.soleField "CutWatchModel" "messages") ∈ lw_all := lw_g (lw_at lw_m0 140 rfl) rfl
theorem q153 : (Jvm.Cond.laysFinal "CutWatchModel" "CutWatchModel" "senders" "[I") ∈ lw_all := lw_g (lw_at lw_m0 141 rfl) rfl
theorem q154 : (Jvm.Cond.soleField "CutWatchModel" "senders") ∈ lw_all := lw_g (lw_at lw_m0 142 rfl) rfl
theorem q155 : (Jvm.Cond.laysFinal "CutWatchModel" "CutWatchModel" "sentBy" "[I") ∈ lw_all := lw_g (lw_at lw_m0 143 rfl) rfl
theorem q156 : (Jvm.Cond.soleField "CutWatchModel" "sentBy") ∈ lw_all := lw_g (lw_at lw_m0 144 rfl) rfl
theorem q157 : (Jvm.Cond.laysFinal "CutWatchModel" "CutWatchModel" "received" "[Z") ∈ lw_all := lw_g (lw_at lw_m0 145 rfl) rfl
theorem q158 : (Jvm.Cond.soleField "CutWatchModel" "received") ∈ lw_all := lw_g (lw_at lw_m0 146 rfl) rfl
theorem q159 : (Jvm.Cond.laysFinal "CutWatchModel" "CutWatchModel" "avoided" "[Z") ∈ lw_all := lw_g (lw_at lw_m0 147 rfl) rfl
theorem q160 : (Jvm.Cond.soleField "CutWatchModel" "avoided") ∈ lw_all := lw_g (lw_at lw_m0 148 rfl) rfl
theorem q161 : (Jvm.Cond.superclass "CutWatchModel" "java/lang/Object") ∈ lw_all := lw_g (lw_at lw_m0 149 rfl) rfl
theorem q163 : (Jvm.Cond.instanceMethod ({ cls := "CutWatchModel", name := "start", desc := "(IZ)I" } : Jvm.MethodName)) ∈ lw_all := lw_g (lw_at lw_m0 151 rfl) rfl
theorem q164 : (Jvm.Cond.selects "CutWatchModel" ({ cls := "CutWatchModel", name := "start", desc := "(IZ)I" } : Jvm.MethodName) ({ cls := "CutWatchModel", name := "start", desc := "(IZ)I" } : Jvm.MethodName)) ∈ lw_all := lw_g (lw_at lw_m0 152 rfl) rfl
theorem q165 : (Jvm.Cond.code ({ cls := "CutWatchModel", name := "start", desc := "(IZ)I" } : Jvm.MethodName) prog_3_method_3_code (3 : Nat) (Option.some Jvm.ClassFile.FieldType.int)) ∈ lw_all := lw_g (lw_at lw_m0 153 rfl) rfl
theorem q166 : (Jvm.Cond.methodLink "CutWatchModel" (32 : Nat) ({ cls := "CutWatchModel", name := "bad", desc := "(I)Z" } : Jvm.MethodName)) ∈ lw_all := lw_g (lw_at lw_m0 154 rfl) rfl
theorem q167 : (Jvm.Cond.static ({ cls := "CutWatchModel", name := "bad", desc := "(I)Z" } : Jvm.MethodName)) ∈ lw_all := lw_g (lw_at lw_m0 155 rfl) rfl
theorem q168 : (Jvm.Cond.code ({ cls := "CutWatchModel", name := "bad", desc := "(I)Z" } : Jvm.MethodName) prog_3_method_2_code (1 : Nat) (Option.some Jvm.ClassFile.FieldType.boolean)) ∈ lw_all := lw_g (lw_at lw_m0 156 rfl) rfl
theorem q170 : (Jvm.Cond.instanceMethod ({ cls := "CutWatchModel", name := "step", desc := "(IZ)I" } : Jvm.MethodName)) ∈ lw_all := lw_g (lw_at lw_m0 158 rfl) rfl
theorem q171 : (Jvm.Cond.selects "CutWatchModel" ({ cls := "CutWatchModel", name := "step", desc := "(IZ)I" } : Jvm.MethodName) ({ cls := "CutWatchModel", name := "step", desc := "(IZ)I" } : Jvm.MethodName)) ∈ lw_all := lw_g (lw_at lw_m0 159 rfl) rfl
theorem q172 : (Jvm.Cond.code ({ cls := "CutWatchModel", name := "step", desc := "(IZ)I" } : Jvm.MethodName) prog_3_method_5_code (3 : Nat) (Option.some Jvm.ClassFile.FieldType.int)) ∈ lw_all := lw_g (lw_at lw_m0 160 rfl) rfl
theorem q173 : (Jvm.Cond.methodLink "CutWatchModel" (36 : Nat) ({ cls := "CutWatchModel", name := "event", desc := "(IZ)V" } : Jvm.MethodName)) ∈ lw_all := lw_g (lw_at lw_m0 161 rfl) rfl
theorem q174 : (Jvm.Cond.privateMethod ({ cls := "CutWatchModel", name := "event", desc := "(IZ)V" } : Jvm.MethodName)) ∈ lw_tbl := lw_at lw_m0 162 rfl
theorem q175 : (Jvm.Cond.instanceMethod ({ cls := "CutWatchModel", name := "event", desc := "(IZ)V" } : Jvm.MethodName)) ∈ lw_all := lw_g (lw_at lw_m0 163 rfl) rfl
theorem q176 : (Jvm.Cond.code ({ cls := "CutWatchModel", name := "event", desc := "(IZ)V" } : Jvm.MethodName) prog_3_method_4_code (5 : Nat) (Option.none : Option Jvm.ClassFile.FieldType)) ∈ lw_all := lw_g (lw_at lw_m0 164 rfl) rfl
theorem q178 : (Jvm.Cond.instanceMethod ({ cls := "CutWatchModel", name := "send", desc := "(IZ)I" } : Jvm.MethodName)) ∈ lw_all := lw_g (lw_at lw_m0 166 rfl) rfl
theorem q179 : (Jvm.Cond.selects "CutWatchModel" ({ cls := "CutWatchModel", name := "send", desc := "(IZ)I" } : Jvm.MethodName) ({ cls := "CutWatchModel", name := "send", desc := "(IZ)I" } : Jvm.MethodName)) ∈ lw_all := lw_g (lw_at lw_m0 167 rfl) rfl
theorem q180 : (Jvm.Cond.code ({ cls := "CutWatchModel", name := "send", desc := "(IZ)I" } : Jvm.MethodName) prog_3_method_6_code (3 : Nat) (Option.some Jvm.ClassFile.FieldType.int)) ∈ lw_all := lw_g (lw_at lw_m0 168 rfl) rfl
theorem q182 : (Jvm.Cond.instanceMethod ({ cls := "CutWatchModel", name := "receive", desc := "(IIZ)I" } : Jvm.MethodName)) ∈ lw_all := lw_g (lw_at lw_m0 170 rfl) rfl
theorem q183 : (Jvm.Cond.selects "CutWatchModel" ({ cls := "CutWatchModel", name := "receive", desc := "(IIZ)I" } : Jvm.MethodName) ({ cls := "CutWatchModel", name := "receive", desc := "(IIZ)I" } : Jvm.MethodName)) ∈ lw_all := lw_g (lw_at lw_m0 171 rfl) rfl
theorem q184 : (Jvm.Cond.code ({ cls := "CutWatchModel", name := "receive", desc := "(IIZ)I" } : Jvm.MethodName) prog_3_method_7_code (8 : Nat) (Option.some Jvm.ClassFile.FieldType.int)) ∈ lw_all := lw_g (lw_at lw_m0 172 rfl) rfl
theorem q186 : (Jvm.Cond.instanceMethod ({ cls := "CutWatchModel", name := "knows", desc := "(III)I" } : Jvm.MethodName)) ∈ lw_all := lw_g (lw_at lw_m0 174 rfl) rfl
theorem q187 : (Jvm.Cond.selects "CutWatchModel" ({ cls := "CutWatchModel", name := "knows", desc := "(III)I" } : Jvm.MethodName) ({ cls := "CutWatchModel", name := "knows", desc := "(III)I" } : Jvm.MethodName)) ∈ lw_all := lw_g (lw_at lw_m0 175 rfl) rfl
theorem q188 : (Jvm.Cond.code ({ cls := "CutWatchModel", name := "knows", desc := "(III)I" } : Jvm.MethodName) prog_3_method_8_code (4 : Nat) (Option.some Jvm.ClassFile.FieldType.int)) ∈ lw_all := lw_g (lw_at lw_m0 176 rfl) rfl
theorem q190 : (Jvm.Cond.instanceMethod ({ cls := "CutWatchModel", name := "possibly", desc := "(I)I" } : Jvm.MethodName)) ∈ lw_all := lw_g (lw_at lw_m0 178 rfl) rfl
theorem q191 : (Jvm.Cond.selects "CutWatchModel" ({ cls := "CutWatchModel", name := "possibly", desc := "(I)I" } : Jvm.MethodName) ({ cls := "CutWatchModel", name := "possibly", desc := "(I)I" } : Jvm.MethodName)) ∈ lw_all := lw_g (lw_at lw_m0 179 rfl) rfl
theorem q192 : (Jvm.Cond.code ({ cls := "CutWatchModel", name := "possibly", desc := "(I)I" } : Jvm.MethodName) prog_3_method_13_code (3 : Nat) (Option.some Jvm.ClassFile.FieldType.int)) ∈ lw_all := lw_g (lw_at lw_m0 180 rfl) rfl
theorem q193 : (Jvm.Cond.methodLink "CutWatchModel" (48 : Nat) ({ cls := "CutWatchModel", name := "badSet", desc := "(I)Z" } : Jvm.MethodName)) ∈ lw_all := lw_g (lw_at lw_m0 181 rfl) rfl
theorem q194 : (Jvm.Cond.static ({ cls := "CutWatchModel", name := "badSet", desc := "(I)Z" } : Jvm.MethodName)) ∈ lw_all := lw_g (lw_at lw_m0 182 rfl) rfl
theorem q195 : (Jvm.Cond.code ({ cls := "CutWatchModel", name := "badSet", desc := "(I)Z" } : Jvm.MethodName) prog_3_method_12_code (1 : Nat) (Option.some Jvm.ClassFile.FieldType.boolean)) ∈ lw_all := lw_g (lw_at lw_m0 183 rfl) rfl
theorem q196 : (Jvm.Cond.methodLink "CutWatchModel" (51 : Nat) ({ cls := "CutWatchModel", name := "possible", desc := "(I)Z" } : Jvm.MethodName)) ∈ lw_all := lw_g (lw_at lw_m0 184 rfl) rfl
theorem q197 : (Jvm.Cond.privateMethod ({ cls := "CutWatchModel", name := "possible", desc := "(I)Z" } : Jvm.MethodName)) ∈ lw_tbl := lw_at lw_m0 185 rfl
theorem q198 : (Jvm.Cond.instanceMethod ({ cls := "CutWatchModel", name := "possible", desc := "(I)Z" } : Jvm.MethodName)) ∈ lw_all := lw_g (lw_at lw_m0 186 rfl) rfl
theorem q199 : (Jvm.Cond.code ({ cls := "CutWatchModel", name := "possible", desc := "(I)Z" } : Jvm.MethodName) prog_3_method_10_code (5 : Nat) (Option.some Jvm.ClassFile.FieldType.boolean)) ∈ lw_all := lw_g (lw_at lw_m0 187 rfl) rfl
theorem q200 : (Jvm.Cond.methodLink "CutWatchModel" (44 : Nat) ({ cls := "CutWatchModel", name := "stateOf", desc := "(II)I" } : Jvm.MethodName)) ∈ lw_all := lw_g (lw_at lw_m0 188 rfl) rfl
theorem q201 : (Jvm.Cond.static ({ cls := "CutWatchModel", name := "stateOf", desc := "(II)I" } : Jvm.MethodName)) ∈ lw_all := lw_g (lw_at lw_m0 189 rfl) rfl
theorem q202 : (Jvm.Cond.code ({ cls := "CutWatchModel", name := "stateOf", desc := "(II)I" } : Jvm.MethodName) prog_3_method_9_code (2 : Nat) (Option.some Jvm.ClassFile.FieldType.int)) ∈ lw_all := lw_g (lw_at lw_m0 190 rfl) rfl
theorem q203 : (Jvm.Cond.methodLink "CutWatchModel" (54 : Nat) ({ cls := "CutWatchModel", name := "isGood", desc := "(II)Z" } : Jvm.MethodName)) ∈ lw_all := lw_g (lw_at lw_m0 191 rfl) rfl
theorem q204 : (Jvm.Cond.privateMethod ({ cls := "CutWatchModel", name := "isGood", desc := "(II)Z" } : Jvm.MethodName)) ∈ lw_tbl := lw_at lw_m0 192 rfl
theorem q205 : (Jvm.Cond.instanceMethod ({ cls := "CutWatchModel", name := "isGood", desc := "(II)Z" } : Jvm.MethodName)) ∈ lw_all := lw_g (lw_at lw_m0 193 rfl) rfl
theorem q206 : (Jvm.Cond.code ({ cls := "CutWatchModel", name := "isGood", desc := "(II)Z" } : Jvm.MethodName) prog_3_method_11_code (5 : Nat) (Option.some Jvm.ClassFile.FieldType.boolean)) ∈ lw_all := lw_g (lw_at lw_m0 194 rfl) rfl
theorem q208 : (Jvm.Cond.instanceMethod ({ cls := "CutWatchModel", name := "least", desc := "(II)I" } : Jvm.MethodName)) ∈ lw_all := lw_g (lw_at lw_m0 196 rfl) rfl
theorem q209 : (Jvm.Cond.selects "CutWatchModel" ({ cls := "CutWatchModel", name := "least", desc := "(II)I" } : Jvm.MethodName) ({ cls := "CutWatchModel", name := "least", desc := "(II)I" } : Jvm.MethodName)) ∈ lw_all := lw_g (lw_at lw_m0 197 rfl) rfl
theorem q210 : (Jvm.Cond.code ({ cls := "CutWatchModel", name := "least", desc := "(II)I" } : Jvm.MethodName) prog_3_method_14_code (6 : Nat) (Option.some Jvm.ClassFile.FieldType.int)) ∈ lw_all := lw_g (lw_at lw_m0 198 rfl) rfl
theorem q212 : (Jvm.Cond.instanceMethod ({ cls := "CutWatchModel", name := "definitely", desc := "(I)I" } : Jvm.MethodName)) ∈ lw_all := lw_g (lw_at lw_m0 200 rfl) rfl
theorem q213 : (Jvm.Cond.selects "CutWatchModel" ({ cls := "CutWatchModel", name := "definitely", desc := "(I)I" } : Jvm.MethodName) ({ cls := "CutWatchModel", name := "definitely", desc := "(I)I" } : Jvm.MethodName)) ∈ lw_all := lw_g (lw_at lw_m0 201 rfl) rfl
theorem q214 : (Jvm.Cond.code ({ cls := "CutWatchModel", name := "definitely", desc := "(I)I" } : Jvm.MethodName) prog_3_method_16_code (3 : Nat) (Option.some Jvm.ClassFile.FieldType.int)) ∈ lw_all := lw_g (lw_at lw_m0 202 rfl) rfl
theorem q215 : (Jvm.Cond.methodLink "CutWatchModel" (58 : Nat) ({ cls := "CutWatchModel", name := "reached", desc := "(I)Z" } : Jvm.MethodName)) ∈ lw_all := lw_g (lw_at lw_m0 203 rfl) rfl
theorem q216 : (Jvm.Cond.privateMethod ({ cls := "CutWatchModel", name := "reached", desc := "(I)Z" } : Jvm.MethodName)) ∈ lw_tbl := lw_at lw_m0 204 rfl
theorem q217 : (Jvm.Cond.instanceMethod ({ cls := "CutWatchModel", name := "reached", desc := "(I)Z" } : Jvm.MethodName)) ∈ lw_all := lw_g (lw_at lw_m0 205 rfl) rfl
theorem q218 : (Jvm.Cond.code ({ cls := "CutWatchModel", name := "reached", desc := "(I)Z" } : Jvm.MethodName) prog_3_method_15_code (4 : Nat) (Option.some Jvm.ClassFile.FieldType.boolean)) ∈ lw_all := lw_g (lw_at lw_m0 206 rfl) rfl
theorem q220 : (Jvm.Cond.instanceMethod ({ cls := "CutWatchModel", name := "cuts", desc := "()I" } : Jvm.MethodName)) ∈ lw_all := lw_g (lw_at lw_m0 208 rfl) rfl
theorem q221 : (Jvm.Cond.selects "CutWatchModel" ({ cls := "CutWatchModel", name := "cuts", desc := "()I" } : Jvm.MethodName) ({ cls := "CutWatchModel", name := "cuts", desc := "()I" } : Jvm.MethodName)) ∈ lw_all := lw_g (lw_at lw_m0 209 rfl) rfl
theorem q222 : (Jvm.Cond.code ({ cls := "CutWatchModel", name := "cuts", desc := "()I" } : Jvm.MethodName) prog_3_method_17_code (3 : Nat) (Option.some Jvm.ClassFile.FieldType.int)) ∈ lw_all := lw_g (lw_at lw_m0 210 rfl) rfl
theorem q224 : (Jvm.Cond.instanceMethod ({ cls := "CutWatchModel", name := "events", desc := "(I)I" } : Jvm.MethodName)) ∈ lw_all := lw_g (lw_at lw_m0 212 rfl) rfl
theorem q225 : (Jvm.Cond.selects "CutWatchModel" ({ cls := "CutWatchModel", name := "events", desc := "(I)I" } : Jvm.MethodName) ({ cls := "CutWatchModel", name := "events", desc := "(I)I" } : Jvm.MethodName)) ∈ lw_all := lw_g (lw_at lw_m0 213 rfl) rfl
theorem q226 : (Jvm.Cond.code ({ cls := "CutWatchModel", name := "events", desc := "(I)I" } : Jvm.MethodName) prog_3_method_18_code (2 : Nat) (Option.some Jvm.ClassFile.FieldType.int)) ∈ lw_all := lw_g (lw_at lw_m0 214 rfl) rfl
theorem in_X1 : ∀ w ∈ wsX10, w ∈ lw_all := lw_in wsX10 [145, 147, 149, 151, 153, 155, 157, 159] (by decide +kernel) (by decide +kernel)
end
section
/-! java/lang/Object -/
set_option maxRecDepth 100000
def RJ0 : String := "java/lang/Object"
abbrev cJ0_init : ByteArray := object_method_1_code
def yJ0_init : MethodName := ⟨RJ0, "<init>", "()V"⟩
theorem dJ0_init_0 : decode cJ0_init 0 = .ok (.return_, 1) := by decide +kernel
theorem q21 : (Jvm.Cond.instanceMethod ({ cls := "java/lang/Object", name := "<init>", desc := "()V" } : Jvm.MethodName)) ∈ lw_all := lw_g (lw_at lw_m0 9 rfl) rfl
theorem q22 : (Jvm.Cond.code ({ cls := "java/lang/Object", name := "<init>", desc := "()V" } : Jvm.MethodName) object_method_1_code (1 : Nat) (Option.none : Option Jvm.ClassFile.FieldType)) ∈ lw_all := lw_g (lw_at lw_m0 10 rfl) rfl
theorem q54 : (Jvm.Cond.arrayClass Jvm.ClassFile.FieldType.int) ∈ lw_all := lw_g (lw_at lw_m0 42 rfl) rfl
set_option maxRecDepth 100000
theorem q55 : (Jvm.Cond.arrayClass Jvm.ClassFile.FieldType.boolean) ∈ lw_all := lw_g (lw_at lw_m0 43 rfl) rfl
theorem q12 : (Jvm.Cond.initialized "CutWatchLaw") ∈ lw_all := lw_g (lw_at lw_m0 0 rfl) rfl
set_option maxRecDepth 100000
theorem q15 : (Jvm.Cond.classLink "CutWatchLaw" (7 : Nat) "CutWatch") ∈ lw_all := lw_g (lw_at lw_m0 3 rfl) rfl
theorem q17 : (Jvm.Cond.methodLink "CutWatchLaw" (9 : Nat) ({ cls := "CutWatch", name := "<init>", desc := "()V" } : Jvm.MethodName)) ∈ lw_all := lw_g (lw_at lw_m0 5 rfl) rfl
theorem q56 : (Jvm.Cond.methodLink "CutWatchLaw" (13 : Nat) ({ cls := "CutWatch", name := "start", desc := "(IZ)I" } : Jvm.MethodName)) ∈ lw_all := lw_g (lw_at lw_m0 44 rfl) rfl
theorem q63 : (Jvm.Cond.methodLink "CutWatchLaw" (18 : Nat) ({ cls := "CutWatch", name := "step", desc := "(IZ)I" } : Jvm.MethodName)) ∈ lw_all := lw_g (lw_at lw_m0 51 rfl) rfl
theorem q71 : (Jvm.Cond.methodLink "CutWatchLaw" (22 : Nat) ({ cls := "CutWatch", name := "send", desc := "(IZ)I" } : Jvm.MethodName)) ∈ lw_all := lw_g (lw_at lw_m0 59 rfl) rfl
theorem q75 : (Jvm.Cond.methodLink "CutWatchLaw" (26 : Nat) ({ cls := "CutWatch", name := "receive", desc := "(IIZ)I" } : Jvm.MethodName)) ∈ lw_all := lw_g (lw_at lw_m0 63 rfl) rfl
theorem q83 : (Jvm.Cond.methodLink "CutWatchLaw" (31 : Nat) ({ cls := "CutWatch", name := "knows", desc := "(III)I" } : Jvm.MethodName)) ∈ lw_all := lw_g (lw_at lw_m0 71 rfl) rfl
theorem q87 : (Jvm.Cond.methodLink "CutWatchLaw" (36 : Nat) ({ cls := "CutWatch", name := "possibly", desc := "(I)I" } : Jvm.MethodName)) ∈ lw_all := lw_g (lw_at lw_m0 75 rfl) rfl
theorem q99 : (Jvm.Cond.methodLink "CutWatchLaw" (41 : Nat) ({ cls := "CutWatch", name := "least", desc := "(II)I" } : Jvm.MethodName)) ∈ lw_all := lw_g (lw_at lw_m0 87 rfl) rfl
theorem q103 : (Jvm.Cond.methodLink "CutWatchLaw" (46 : Nat) ({ cls := "CutWatch", name := "definitely", desc := "(I)I" } : Jvm.MethodName)) ∈ lw_all := lw_g (lw_at lw_m0 91 rfl) rfl
theorem q119 : (Jvm.Cond.methodLink "CutWatchLaw" (50 : Nat) ({ cls := "CutWatch", name := "cuts", desc := "()I" } : Jvm.MethodName)) ∈ lw_all := lw_g (lw_at lw_m0 107 rfl) rfl
theorem q127 : (Jvm.Cond.methodLink "CutWatchLaw" (55 : Nat) ({ cls := "CutWatch", name := "events", desc := "(I)I" } : Jvm.MethodName)) ∈ lw_all := lw_g (lw_at lw_m0 115 rfl) rfl
theorem q131 : (Jvm.Cond.classLink "CutWatchLaw" (10 : Nat) "CutWatchModel") ∈ lw_all := lw_g (lw_at lw_m0 119 rfl) rfl
theorem q133 : (Jvm.Cond.methodLink "CutWatchLaw" (12 : Nat) ({ cls := "CutWatchModel", name := "<init>", desc := "()V" } : Jvm.MethodName)) ∈ lw_all := lw_g (lw_at lw_m0 121 rfl) rfl
theorem q162 : (Jvm.Cond.methodLink "CutWatchLaw" (17 : Nat) ({ cls := "CutWatchModel", name := "start", desc := "(IZ)I" } : Jvm.MethodName)) ∈ lw_all := lw_g (lw_at lw_m0 150 rfl) rfl
theorem q169 : (Jvm.Cond.methodLink "CutWatchLaw" (21 : Nat) ({ cls := "CutWatchModel", name := "step", desc := "(IZ)I" } : Jvm.MethodName)) ∈ lw_all := lw_g (lw_at lw_m0 157 rfl) rfl
theorem q177 : (Jvm.Cond.methodLink "CutWatchLaw" (25 : Nat) ({ cls := "CutWatchModel", name := "send", desc := "(IZ)I" } : Jvm.MethodName)) ∈ lw_all := lw_g (lw_at lw_m0 165 rfl) rfl
theorem q181 : (Jvm.Cond.methodLink "CutWatchLaw" (30 : Nat) ({ cls := "CutWatchModel", name := "receive", desc := "(IIZ)I" } : Jvm.MethodName)) ∈ lw_all := lw_g (lw_at lw_m0 169 rfl) rfl
theorem q185 : (Jvm.Cond.methodLink "CutWatchLaw" (35 : Nat) ({ cls := "CutWatchModel", name := "knows", desc := "(III)I" } : Jvm.MethodName)) ∈ lw_all := lw_g (lw_at lw_m0 173 rfl) rfl
theorem q189 : (Jvm.Cond.methodLink "CutWatchLaw" (40 : Nat) ({ cls := "CutWatchModel", name := "possibly", desc := "(I)I" } : Jvm.MethodName)) ∈ lw_all := lw_g (lw_at lw_m0 177 rfl) rfl
theorem q207 : (Jvm.Cond.methodLink "CutWatchLaw" (45 : Nat) ({ cls := "CutWatchModel", name := "least", desc := "(II)I" } : Jvm.MethodName)) ∈ lw_all := lw_g (lw_at lw_m0 195 rfl) rfl
theorem q211 : (Jvm.Cond.methodLink "CutWatchLaw" (49 : Nat) ({ cls := "CutWatchModel", name := "definitely", desc := "(I)I" } : Jvm.MethodName)) ∈ lw_all := lw_g (lw_at lw_m0 199 rfl) rfl
theorem q219 : (Jvm.Cond.methodLink "CutWatchLaw" (54 : Nat) ({ cls := "CutWatchModel", name := "cuts", desc := "()I" } : Jvm.MethodName)) ∈ lw_all := lw_g (lw_at lw_m0 207 rfl) rfl
theorem q223 : (Jvm.Cond.methodLink "CutWatchLaw" (58 : Nat) ({ cls := "CutWatchModel", name := "events", desc := "(I)I" } : Jvm.MethodName)) ∈ lw_all := lw_g (lw_at lw_m0 211 rfl) rfl
/-! WORLDS: the cells of a CutWatch (XW) and of a CutWatchModel (YW); d: the arrays' classes, h: the object, a: the arrays -/
abbrev vwCl : List vw_C := [(RX0, TX0, 10), (RX1, TX1, 8)]
abbrev XW (d : Nat → ClassId) (h : Nat) (a : Nat → Nat) (c : Nat → Nat) (g : Nat → Bool) (k : Nat → Nat) (ms : Nat) (sd si : Nat → Nat) (rc : Nat → Bool) (u v w : Nat → Nat) : va_W :=
  [(h, .inr (0, [.ref (a 0), .ref (a 1), .ref (a 2), .int (nI ms), .ref (a 3), .ref (a 4), .ref (a 5), .ref (a 6), .ref (a 7), .ref (a 8)])), (a 0, .inl (d 0, 3, .inl (nF c))), (a 1, .inl (d 1, 27, .inl (bF g))), (a 2, .inl (d 2, 81, .inl (nF k))), (a 3, .inl (d 3, 24, .inl (nF sd))), (a 4, .inl (d 4, 24, .inl (nF si))), (a 5, .inl (d 5, 24, .inl (bF rc))), (a 6, .inl (d 6, 3, .inl (nF u))), (a 7, .inl (d 7, 3, .inl (nF v))), (a 8, .inl (d 8, 3, .inl (nF w)))]
abbrev XT (d : Nat → ClassId) : List (ClassId × FieldType) := [(d 0, .int), (d 1, .boolean), (d 2, .int), (d 3, .int), (d 4, .int), (d 5, .boolean), (d 6, .int), (d 7, .int), (d 8, .int)]
abbrev XS (d : Nat → ClassId) (h : Nat) (a : Nat → Nat) (S : WSt) (u v w : Nat → Nat) : va_W := XW d h a (sC S) (sG S) (sK S) (sM S) (sD S) (sI S) (sR S) u v w
abbrev YW (d : Nat → ClassId) (h : Nat) (a : Nat → Nat) (c : Nat → Nat) (g : Nat → Bool) (k : Nat → Nat) (ms : Nat) (sd si : Nat → Nat) (rc av : Nat → Bool) : va_W :=
  [(h, .inr (1, [.ref (a 0), .ref (a 1), .ref (a 2), .int (nI ms), .ref (a 3), .ref (a 4), .ref (a 5), .ref (a 6)])), (a 0, .inl (d 0, 3, .inl (nF c))), (a 1, .inl (d 1, 27, .inl (bF g))), (a 2, .inl (d 2, 81, .inl (nF k))), (a 3, .inl (d 3, 24, .inl (nF sd))), (a 4, .inl (d 4, 24, .inl (nF si))), (a 5, .inl (d 5, 24, .inl (bF rc))), (a 6, .inl (d 6, 729, .inl (bF av)))]
abbrev YT (d : Nat → ClassId) : List (ClassId × FieldType) := [(d 0, .int), (d 1, .boolean), (d 2, .int), (d 3, .int), (d 4, .int), (d 5, .boolean), (d 6, .boolean)]
abbrev YS (d : Nat → ClassId) (h : Nat) (a : Nat → Nat) (S : WSt) (av : Nat → Bool) : va_W := YW d h a (sC S) (sG S) (sK S) (sM S) (sD S) (sI S) (sR S) av
section CWG
variable {p : Program} {l : Launch} {e : Env} {R : Room} {s : State} {m : MethodId} {args : Array Value} {below : List Frame} {meth : Method} {c : Code} {H : Heap} {locs : List Loc} {cells slots : Nat} {Q : State → Prop}
variable {cc : ByteArray} {pc : Nat} {ls : Array Slot} {rest : List Value} {D : va_G} {A : Nat → Prop} {tys : List (ClassId × FieldType)} {ws : va_W} {H0 : Heap}
theorem cwX_get (hexec : p.tables.exec = Jvm.exec) (hb : c.code = cc) (hts : ∀ w ∈ lw_all, w.before args s = true) (hown : s.vm.findClass RX0 = some m.cls) (hK : va_K D vwCl tys s) (hP : va_P D vwCl ws H) (q0 : Nat) {a : Nat} {fs : List Value} (he : ws[q0]? = some (a, .inr (0, fs))) (k : Nat) (hk : k < 10) {index : Nat} (hl : Cond.fieldLink RX0 index (TX0 k).1 (TX0 k).2.1 (TX0 k).2.2.1 ∈ lw_all) {v : Value} (hv : fs[k]? = some v) (hdg : decode cc pc = .ok (.getfield index, 3))
    (kk : W p l e R s m args below meth c H locs cells slots Q (F0 m (pc + 3) ls (v :: rest))) : W p l e R s m args below meth c H locs cells slots Q (F0 m pc ls (.ref a :: rest)) :=
  va_get (C := RX0) (T := TX0) (N := 10) (ci := 0) hexec hb hts in_X0 hown hK hP q0 he rfl k hk (hts _ hl) (fun _ h9 => h9) hv hdg kk
theorem cwY_get (hexec : p.tables.exec = Jvm.exec) (hb : c.code = cc) (hts : ∀ w ∈ lw_all, w.before args s = true) (hown : s.vm.findClass RX1 = some m.cls) (hK : va_K D vwCl tys s) (hP : va_P D vwCl ws H) (q0 : Nat) {a : Nat} {fs : List Value} (he : ws[q0]? = some (a, .inr (1, fs))) (k : Nat) (hk : k < 8) {index : Nat} (hl : Cond.fieldLink RX1 index (TX1 k).1 (TX1 k).2.1 (TX1 k).2.2.1 ∈ lw_all) {v : Value} (hv : fs[k]? = some v) (hdg : decode cc pc = .ok (.getfield index, 3))
    (kk : W p l e R s m args below meth c H locs cells slots Q (F0 m (pc + 3) ls (v :: rest))) : W p l e R s m args below meth c H locs cells slots Q (F0 m pc ls (.ref a :: rest)) :=
  va_get (C := RX1) (T := TX1) (N := 8) (ci := 1) hexec hb hts in_X1 hown hK hP q0 he rfl k hk (hts _ hl) (fun _ h9 => h9) hv hdg kk
theorem cwX_putM (hexec : p.tables.exec = Jvm.exec) (hb : c.code = cc) (hts : ∀ w ∈ lw_all, w.before args s = true) (hown : s.vm.findClass RX0 = some m.cls) (hK : va_K D vwCl tys s) (hP : va_P D vwCl ws H) (hD : va_D A ws) (hS : va_S A H0 H locs) (q0 : Nat) {a : Nat} {fs : List Value} (he : ws[q0]? = some (a, .inr (0, fs))) {index : Nat} (hl : Cond.fieldLink RX0 index (TX0 3).1 (TX0 3).2.1 (TX0 3).2.2.1 ∈ lw_all) {n : Nat} (hlen : 3 < fs.length) (hdg : decode cc pc = .ok (.putfield index, 3))
    (kk : ∀ (H1 : Heap) (locs1 : List Loc), va_P D vwCl (ws.set q0 (a, .inr (0, fs.set 3 (.int (nI n))))) H1 → va_D A (ws.set q0 (a, .inr (0, fs.set 3 (.int (nI n))))) → va_S A H0 H1 locs1 → W p l e R s m args below meth c H1 locs1 cells slots Q (F0 m (pc + 3) ls rest)) : W p l e R s m args below meth c H locs cells slots Q (F0 m pc ls (.int (nI n) :: .ref a :: rest)) :=
  va_put (C := RX0) (T := TX0) (N := 10) (ci := 0) (ty := .int) hexec hb hts in_X0 tyX0 tyX0_ok nmX0 hown hK hP hD hS q0 he rfl 3 (by decide) (hts _ hl) (fun _ h9 => h9) rfl (by decide +kernel) rfl rfl hlen hdg kk
theorem cwY_putM (hexec : p.tables.exec = Jvm.exec) (hb : c.code = cc) (hts : ∀ w ∈ lw_all, w.before args s = true) (hown : s.vm.findClass RX1 = some m.cls) (hK : va_K D vwCl tys s) (hP : va_P D vwCl ws H) (hD : va_D A ws) (hS : va_S A H0 H locs) (q0 : Nat) {a : Nat} {fs : List Value} (he : ws[q0]? = some (a, .inr (1, fs))) {index : Nat} (hl : Cond.fieldLink RX1 index (TX1 3).1 (TX1 3).2.1 (TX1 3).2.2.1 ∈ lw_all) {n : Nat} (hlen : 3 < fs.length) (hdg : decode cc pc = .ok (.putfield index, 3))
    (kk : ∀ (H1 : Heap) (locs1 : List Loc), va_P D vwCl (ws.set q0 (a, .inr (1, fs.set 3 (.int (nI n))))) H1 → va_D A (ws.set q0 (a, .inr (1, fs.set 3 (.int (nI n))))) → va_S A H0 H1 locs1 → W p l e R s m args below meth c H1 locs1 cells slots Q (F0 m (pc + 3) ls rest)) : W p l e R s m args below meth c H locs cells slots Q (F0 m pc ls (.int (nI n) :: .ref a :: rest)) :=
  va_put (C := RX1) (T := TX1) (N := 8) (ci := 1) (ty := .int) hexec hb hts in_X1 tyX1 tyX1_ok nmX1 hown hK hP hD hS q0 he rfl 3 (by decide) (hts _ hl) (fun _ h9 => h9) rfl (by decide +kernel) rfl rfl hlen hdg kk
end CWG
theorem cw_msg {S : WSt} (h : cwOk S) {p : Nat} (hp : p < 3) (h8 : sC S p < 8) : sM S < 24 := by
  obtain ⟨hV, h2, -, -⟩ := h
  have a0 := hV.1 0 (by omega)
  have a1 := hV.1 1 (by omega)
  have a2 := hV.1 2 (by omega)
  rcases cw_3 hp with rfl | rfl | rfl
  · omega
  · omega
  · omega
theorem cw_nle {x y : Int32} (h : ¬ x ≤ y) : y < x := by
  rw [Int32.lt_iff_toInt_lt]
  have h1 : ¬ x.toInt ≤ y.toInt := fun g => h (Int32.le_iff_toInt_le.mpr g)
  omega
theorem cw_le_nlt {x y : Int32} (h : x ≤ y) : ¬ y < x := by
  rw [Int32.lt_iff_toInt_lt]
  have h1 := Int32.le_iff_toInt_le.mp h
  omega
theorem cw_nlt {x y : Int32} (h : ¬ x < y) : y ≤ x := by
  rw [Int32.le_iff_toInt_le]
  have h1 : ¬ x.toInt < y.toInt := fun g => h (Int32.lt_iff_toInt_lt.mpr g)
  omega
theorem cw_lt_nle {x y : Int32} (h : x < y) : ¬ y ≤ x := by
  rw [Int32.le_iff_toInt_le]
  have h1 := Int32.lt_iff_toInt_lt.mp h
  omega
theorem cw_ms24 {S : WSt} (h : cwOk S) : sM S ≤ 24 := by
  obtain ⟨hV, h2, -, -⟩ := h
  have a0 := hV.1 0 (by omega)
  have a1 := hV.1 1 (by omega)
  have a2 := hV.1 2 (by omega)
  omega
/-- what a receiver reads of the sender's state lies apart from what it writes -/
theorem cw_far {p k s i q : Nat} (hp : p < 3) (hk : k ≤ 8) (hs : s < 3) (hi : i ≤ 8) (hq : q < 3) (hsp : s ≠ p) : 27 * s + 3 * i + q < 27 * p + 3 * k ∨ 27 * p + 3 * k + q ≤ 27 * s + 3 * i + q := by
  rcases Nat.lt_or_gt_of_ne hsp with h | h
  · omega
  · omega
theorem cw_max1 {x y z : Nat} (h : y ≤ x) (hz : z = x) : z = if x ≤ y then y else x := by
  subst hz
  by_cases g : z ≤ y
  · rw [if_pos g]; omega
  · rw [if_neg g]
theorem cw_max2 {x y z : Nat} (h : x < y) (hz : z = y) : z = if x ≤ y then y else x := by
  subst hz
  rw [if_pos (by omega)]
/-- what the new state of the receiver, and the sender's, know is small -/
theorem cw_rcv_b {S : WSt} (hO : cwOk S) {P i q : Nat} (hP3 : P < 3) (h8 : sC S P < 8) (hi : i < sM S) (hq : q < 3) : cwAk (sK S) P (sC S P + 1) (27 * P + 3 * (sC S P + 1) + q) ≤ 8 ∧ cwAk (sK S) P (sC S P + 1) (27 * sD S i + 3 * sI S i + q) ≤ va_up (sC S) P (sC S P + 1) q ∧ va_up (sC S) P (sC S P + 1) q ≤ 8 := by
  obtain ⟨hV, h2, h3, h4⟩ := hO
  have hV' := cw_adv_vc hV hP3 h8
  have g8 := hV'.1 q hq
  refine ⟨Nat.le_trans (hV'.2.2.1 P (sC S P + 1) q hP3 hq (by rw [va_up_self]; exact Nat.le_refl _)) g8, hV'.2.2.1 (sD S i) (sI S i) q (h3 i hi).1 hq (Nat.le_trans (h3 i hi).2 (cw_up_le _ _ _)), g8⟩
end
section
/-! CutWatch: the events, and the questions without loops -/
set_option maxHeartbeats 4000000 in
set_option maxRecDepth 100000 in
/-- isProcess -/
theorem mX_isProcess (l : Launch) (D : va_G) (x : Int32) : cwMi l yX0_isProcess cX0_isProcess 1 (some .boolean) 0 0 D vwCl ([]) [.int x] ([]) (fun r (_ : Unit) => (r = 1 ∧ ∃ j, j < 3 ∧ x = nI j) ∨ (r = 0 ∧ cwIx x 3 = 3)) ((fun _ => [])) := by
  refine cw_met ([(0, .int x)]) (by decide) (Nat.le_of_ble_eq_true rfl) rfl ?_
  intro p e s m below meth c A ls hx hb hr hlocks hml hown hts hA hP hK hD hS hl
  have hown : s.vm.findClass RX0 = some m.cls := hown
  refine lv_iload_n hx hb dX0_isProcess_0 rfl (lv_at hl 0 rfl) ?_
  refine lv_if_lt (tgt := 13) hx hb dX0_isProcess_1 (by decide) (fun h0 => ?_) (fun h0 => ?_)
  · refine lv_iconst (v := 0) hx hb dX0_isProcess_13 (by decide) ?_
    exact cw_zret hx hb hr hlocks rfl () (Or.inr ⟨rfl, cwIx_neg h0⟩) hP hK hD hS dX0_isProcess_14
  · refine lv_iload_n hx hb dX0_isProcess_4 rfl (lv_at hl 0 rfl) ?_
    refine lv_iconst (v := (nI 2)) hx hb dX0_isProcess_5 (by decide) ?_
    refine lv_icmp_gt (tgt := 13) hx hb dX0_isProcess_6 (by decide) (fun h1 => ?_) (fun h1 => ?_)
    · refine lv_iconst (v := 0) hx hb dX0_isProcess_13 (by decide) ?_
      exact cw_zret hx hb hr hlocks rfl () (Or.inr ⟨rfl, cwIx_gt (by decide) h1⟩) hP hK hD hS dX0_isProcess_14
    · refine lv_iconst (v := 1) hx hb dX0_isProcess_9 (by decide) ?_
      refine lv_goto (tgt := 14) hx hb dX0_isProcess_10 (by decide) ?_
      exact cw_zret hx hb hr hlocks rfl () (Or.inl ⟨rfl, cwIx_of' (by decide) h0 h1⟩) hP hK hD hS dX0_isProcess_14
set_option maxHeartbeats 4000000 in
set_option maxRecDepth 100000 in
/-- knownBy -/
theorem mX_knownBy (l : Launch) (dC : Nat → ClassId) (dI : Nat → Nat → Nat) (d : Nat → ClassId) (h : Nat) (a : Nat → Nat) (S : WSt) (u v w : Nat → Nat) (P k q : Nat) (hP3 : P < 3) (hk : k ≤ 8) (hq : q < 3) : cwMi l yX0_knownBy cX0_knownBy 4 (some .int) 0 0 (dC, dI) vwCl (XT d) [.ref h, .int (nI P), .int (nI k), .int (nI q)] (XS d h a S u v w) (fun r (_ : Unit) => r = nI (sK S (27 * P + 3 * k + q))) (fun _ => XS d h a S u v w) := by
  refine cw_met ([(0, .ref h), (1, .int (nI P)), (2, .int (nI k)), (3, .int (nI q))]) (by decide) (Nat.le_of_ble_eq_true rfl) rfl ?_
  intro p e s m below meth c A ls hx hb hr hlocks hml hown hts hA hP hK hD hS hl
  have hown : s.vm.findClass RX0 = some m.cls := hown
  refine lv_aload_n hx hb dX0_knownBy_0 rfl (lv_at hl 0 rfl) ?_
  refine cwX_get hx hb hts hown hK hP 0 rfl 2 (by decide) q25 rfl dX0_knownBy_1 ?_
  refine lv_bipush (v := (nI 27)) hx hb dX0_knownBy_4 (by decide) ?_
  refine lv_iload_n hx hb dX0_knownBy_6 rfl (lv_at hl 1 rfl) ?_
  refine cw_imul hx hb dX0_knownBy_7 ?_
  refine lv_iconst (v := (nI 3)) hx hb dX0_knownBy_8 (by decide) ?_
  refine lv_iload_n hx hb dX0_knownBy_9 rfl (lv_at hl 2 rfl) ?_
  refine cw_imul hx hb dX0_knownBy_10 ?_
  refine cw_iadd hx hb dX0_knownBy_11 ?_
  refine lv_iload_n hx hb dX0_knownBy_12 rfl (lv_at hl 3 rfl) ?_
  refine cw_iadd hx hb dX0_knownBy_13 ?_
  refine cw_iald hx hb hK hP 3 2 rfl rfl (by omega) (by omega) dX0_knownBy_14 ?_
  exact cw_iret hx hb hr hlocks () (rfl) hP hK hD hS dX0_knownBy_15
set_option maxHeartbeats 4000000 in
set_option maxRecDepth 100000 in
/-- advance: one event more -/
theorem mX_advance (l : Launch) (dC : Nat → ClassId) (dI : Nat → Nat → Nat) (d : Nat → ClassId) (h : Nat) (a : Nat → Nat) (S : WSt) (u v w : Nat → Nat) (P : Nat) (b : Bool) (hP3 : P < 3) (h8 : sC S P < 8) : cwMv l yX0_advance cX0_advance 5 0 0 (dC, dI) vwCl (XT d) [.ref h, .int (nI P), .int (bI b)] (XS d h a S u v w) (fun (_ : Unit) => True) (fun _ => XS d h a (cwAdv S P b) u v w) := by
  refine cw_metv ([(0, .ref h), (1, .int (nI P)), (2, .int (bI b))]) (by decide) (Nat.le_of_ble_eq_true rfl) rfl ?_
  intro p e s m below meth c A ls hx hb hr hlocks hml hown hts hA hP hK hD hS hl
  have hown : s.vm.findClass RX0 = some m.cls := hown
  refine lv_aload_n hx hb dX0_advance_0 rfl (lv_at hl 0 rfl) ?_
  refine cwX_get hx hb hts hown hK hP 0 rfl 0 (by decide) q23 rfl dX0_advance_1 ?_
  refine lv_iload_n hx hb dX0_advance_4 rfl (lv_at hl 1 rfl) ?_
  refine cw_iald hx hb hK hP 1 0 rfl rfl (by omega) (by omega) dX0_advance_5 ?_
  refine lv_iconst (v := (nI 1)) hx hb dX0_advance_6 (by decide) ?_
  refine cw_iadd hx hb dX0_advance_7 ?_
  refine lv_istore_n (lv' := [(3, .int (nI ((sC S P) + 1))), (0, .ref h), (1, .int (nI P)), (2, .int (bI b))]) hx hb dX0_advance_8 rfl hl (by decide) rfl (fun ls hl => ?_)
  refine lv_aload_n hx hb dX0_advance_9 rfl (lv_at hl 1 rfl) ?_
  refine cwX_get hx hb hts hown hK hP 0 rfl 0 (by decide) q23 rfl dX0_advance_10 ?_
  refine lv_iload_n hx hb dX0_advance_13 rfl (lv_at hl 2 rfl) ?_
  refine lv_iload_n hx hb dX0_advance_14 rfl (lv_at hl 0 rfl) ?_
  refine cw_iast hx hb hK hP hD hS 1 0 rfl rfl (by omega) (by omega) dX0_advance_15 (fun H locs hP hD hS => ?_)
  have hP : va_P (dC, dI) vwCl (XW d h a (va_up (sC S) P ((sC S P) + 1)) (sG S) (sK S) (sM S) (sD S) (sI S) (sR S) u v w) H := hP
  have hD : va_D A (XW d h a (va_up (sC S) P ((sC S P) + 1)) (sG S) (sK S) (sM S) (sD S) (sI S) (sR S) u v w) := hD
  refine lv_aload_n hx hb dX0_advance_16 rfl (lv_at hl 1 rfl) ?_
  refine cwX_get hx hb hts hown hK hP 0 rfl 1 (by decide) q24 rfl dX0_advance_17 ?_
  refine lv_bipush (v := (nI 9)) hx hb dX0_advance_20 (by decide) ?_
  refine lv_iload_n hx hb dX0_advance_22 rfl (lv_at hl 2 rfl) ?_
  refine cw_imul hx hb dX0_advance_23 ?_
  refine lv_iload_n hx hb dX0_advance_24 rfl (lv_at hl 0 rfl) ?_
  refine cw_iadd hx hb dX0_advance_25 ?_
  refine lv_iload_n hx hb dX0_advance_26 rfl (lv_at hl 3 rfl) ?_
  refine cw_zast hx hb hK hP hD hS 2 1 rfl rfl (by omega) (by omega) dX0_advance_27 (fun H locs hP hD hS => ?_)
  have hP : va_P (dC, dI) vwCl (XW d h a (va_up (sC S) P ((sC S P) + 1)) (va_up (sG S) ((9 * P) + ((sC S P) + 1)) b) (sK S) (sM S) (sD S) (sI S) (sR S) u v w) H := hP
  have hD : va_D A (XW d h a (va_up (sC S) P ((sC S P) + 1)) (va_up (sG S) ((9 * P) + ((sC S P) + 1)) b) (sK S) (sM S) (sD S) (sI S) (sR S) u v w) := hD
  refine lv_iconst (v := (nI 0)) hx hb dX0_advance_28 (by decide) ?_
  refine lv_istore (lv' := [(4, .int (nI 0)), (3, .int (nI ((sC S P) + 1))), (0, .ref h), (1, .int (nI P)), (2, .int (bI b))]) hx hb dX0_advance_29 hl (by decide) rfl (fun ls hl => ?_)
  have e_k : (sK S) = cwCp (sK S) (27 * P + 3 * (sC S P + 1)) 0 := (cwCp_0 _ _).symm
  rw [e_k] at hP hD
  clear e_k
  refine cw_loop (head := 31) (I := fun n H locs ls => ∃ q, q ≤ 3 ∧ n = 3 - q ∧ va_P (dC, dI) vwCl (XW d h a (va_up (sC S) P ((sC S P) + 1)) (va_up (sG S) ((9 * P) + ((sC S P) + 1)) b) (cwCp (sK S) (27 * P + 3 * (sC S P + 1)) q) (sM S) (sD S) (sI S) (sR S) u v w) H ∧ va_D A (XW d h a (va_up (sC S) P ((sC S P) + 1)) (va_up (sG S) ((9 * P) + ((sC S P) + 1)) b) (cwCp (sK S) (27 * P + 3 * (sC S P + 1)) q) (sM S) (sD S) (sI S) (sR S) u v w) ∧ va_S A s.heap H locs ∧ lv_has ls 5 [(4, .int (nI q)), (3, .int (nI ((sC S P) + 1))), (0, .ref h), (1, .int (nI P)), (2, .int (bI b))]) ?_ 3 ⟨0, by omega, rfl, hP, hD, hS, hl⟩
  intro n H locs ls ⟨q, hq, hn, hP, hD, hS, hl⟩ ih
  refine lv_iload hx hb dX0_advance_31 (lv_at hl 0 rfl) ?_
  refine lv_iconst (v := (nI 3)) hx hb dX0_advance_33 (by decide) ?_
  refine cw_ge (tgt := 77) hx hb (by omega) (by omega) dX0_advance_34 (by decide) (fun h3 => ?_) (fun h3 => ?_)
  · have e3 : q = 3 := by omega
    subst e3
    refine lv_aload_n hx hb dX0_advance_77 rfl (lv_at hl 2 rfl) ?_
    refine cwX_get hx hb hts hown hK hP 0 rfl 2 (by decide) q25 rfl dX0_advance_78 ?_
    refine lv_bipush (v := (nI 27)) hx hb dX0_advance_81 (by decide) ?_
    refine lv_iload_n hx hb dX0_advance_83 rfl (lv_at hl 3 rfl) ?_
    refine cw_imul hx hb dX0_advance_84 ?_
    refine lv_iconst (v := (nI 3)) hx hb dX0_advance_85 (by decide) ?_
    refine lv_iload_n hx hb dX0_advance_86 rfl (lv_at hl 1 rfl) ?_
    refine cw_imul hx hb dX0_advance_87 ?_
    refine cw_iadd hx hb dX0_advance_88 ?_
    refine lv_iload_n hx hb dX0_advance_89 rfl (lv_at hl 3 rfl) ?_
    refine cw_iadd hx hb dX0_advance_90 ?_
    refine lv_iload_n hx hb dX0_advance_91 rfl (lv_at hl 1 rfl) ?_
    refine cw_iast hx hb hK hP hD hS 3 2 rfl rfl (by omega) (by omega) dX0_advance_92 (fun H locs hP hD hS => ?_)
    have hP : va_P (dC, dI) vwCl (XW d h a (va_up (sC S) P ((sC S P) + 1)) (va_up (sG S) ((9 * P) + ((sC S P) + 1)) b) (va_up (cwCp (sK S) (27 * P + 3 * (sC S P + 1)) 3) (((27 * P) + (3 * ((sC S P) + 1))) + P) ((sC S P) + 1)) (sM S) (sD S) (sI S) (sR S) u v w) H := hP
    have hD : va_D A (XW d h a (va_up (sC S) P ((sC S P) + 1)) (va_up (sG S) ((9 * P) + ((sC S P) + 1)) b) (va_up (cwCp (sK S) (27 * P + 3 * (sC S P + 1)) 3) (((27 * P) + (3 * ((sC S P) + 1))) + P) ((sC S P) + 1)) (sM S) (sD S) (sI S) (sR S) u v w) := hD
    exact cw_vret hx hb hr hlocks () (trivial) hP hK hD hS dX0_advance_93
  · refine lv_aload_n hx hb dX0_advance_37 rfl (lv_at hl 2 rfl) ?_
    refine cwX_get hx hb hts hown hK hP 0 rfl 2 (by decide) q25 rfl dX0_advance_38 ?_
    refine lv_bipush (v := (nI 27)) hx hb dX0_advance_41 (by decide) ?_
    refine lv_iload_n hx hb dX0_advance_43 rfl (lv_at hl 3 rfl) ?_
    refine cw_imul hx hb dX0_advance_44 ?_
    refine lv_iconst (v := (nI 3)) hx hb dX0_advance_45 (by decide) ?_
    refine lv_iload_n hx hb dX0_advance_46 rfl (lv_at hl 1 rfl) ?_
    refine cw_imul hx hb dX0_advance_47 ?_
    refine cw_iadd hx hb dX0_advance_48 ?_
    refine lv_iload hx hb dX0_advance_49 (lv_at hl 0 rfl) ?_
    refine cw_iadd hx hb dX0_advance_51 ?_
    refine lv_aload_n hx hb dX0_advance_52 rfl (lv_at hl 2 rfl) ?_
    refine cwX_get hx hb hts hown hK hP 0 rfl 2 (by decide) q25 rfl dX0_advance_53 ?_
    refine lv_bipush (v := (nI 27)) hx hb dX0_advance_56 (by decide) ?_
    refine lv_iload_n hx hb dX0_advance_58 rfl (lv_at hl 3 rfl) ?_
    refine cw_imul hx hb dX0_advance_59 ?_
    refine lv_iconst (v := (nI 3)) hx hb dX0_advance_60 (by decide) ?_
    refine lv_iload_n hx hb dX0_advance_61 rfl (lv_at hl 1 rfl) ?_
    refine cw_imul hx hb dX0_advance_62 ?_
    refine cw_iadd hx hb dX0_advance_63 ?_
    refine lv_iconst (v := (nI 3)) hx hb dX0_advance_64 (by decide) ?_
    refine cw_isub hx hb (by omega) dX0_advance_65 ?_
    refine lv_iload hx hb dX0_advance_66 (lv_at hl 0 rfl) ?_
    refine cw_iadd hx hb dX0_advance_68 ?_
    refine cw_iald hx hb hK hP 3 2 rfl rfl (by omega) (by omega) dX0_advance_69 ?_
    refine cw_iast hx hb hK hP hD hS 3 2 rfl rfl (by omega) (by omega) dX0_advance_70 (fun H locs hP hD hS => ?_)
    have hP : va_P (dC, dI) vwCl (XW d h a (va_up (sC S) P ((sC S P) + 1)) (va_up (sG S) ((9 * P) + ((sC S P) + 1)) b) (va_up (cwCp (sK S) (27 * P + 3 * (sC S P + 1)) q) (((27 * P) + (3 * ((sC S P) + 1))) + q) (cwCp (sK S) (27 * P + 3 * (sC S P + 1)) q ((((27 * P) + (3 * ((sC S P) + 1))) - 3) + q))) (sM S) (sD S) (sI S) (sR S) u v w) H := hP
    have hD : va_D A (XW d h a (va_up (sC S) P ((sC S P) + 1)) (va_up (sG S) ((9 * P) + ((sC S P) + 1)) b) (va_up (cwCp (sK S) (27 * P + 3 * (sC S P + 1)) q) (((27 * P) + (3 * ((sC S P) + 1))) + q) (cwCp (sK S) (27 * P + 3 * (sC S P + 1)) q ((((27 * P) + (3 * ((sC S P) + 1))) - 3) + q))) (sM S) (sD S) (sI S) (sR S) u v w) := hD
    have e_k : (va_up (cwCp (sK S) (27 * P + 3 * (sC S P + 1)) q) (((27 * P) + (3 * ((sC S P) + 1))) + q) (cwCp (sK S) (27 * P + 3 * (sC S P + 1)) q ((((27 * P) + (3 * ((sC S P) + 1))) - 3) + q))) = cwCp (sK S) (27 * P + 3 * (sC S P + 1)) (q + 1) := cwCp_s (by omega) h3 rfl
    rw [e_k] at hP hD
    clear e_k
    refine lv_iinc (v := nI (q + 1)) (lv' := [(4, .int (nI (q + 1))), (3, .int (nI ((sC S P) + 1))), (0, .ref h), (1, .int (nI P)), (2, .int (bI b))]) hx hb dX0_advance_71 hl (k := 0) rfl (nI_1 _) (by decide) rfl (fun ls hl => ?_)
    refine lv_goto (tgt := 31) hx hb dX0_advance_74 (by decide) ?_
    exact ih (3 - (q + 1)) _ _ _ (by omega) ⟨q + 1, by omega, rfl, hP, hD, hS, hl⟩
set_option maxHeartbeats 4000000 in
set_option maxRecDepth 100000 in
/-- start -/
theorem mX_start (l : Launch) (dC : Nat → ClassId) (dI : Nat → Nat → Nat) (d : Nat → ClassId) (h : Nat) (a : Nat → Nat) (S : WSt) (u v w : Nat → Nat) (x : Int32) (b : Bool) : cwMi l yX0_start cX0_start 3 (some .int) 1 20 (dC, dI) vwCl (XT d) [.ref h, .int x, .int (bI b)] (XS d h a S u v w) (fun r (_ : Unit) => r = (cwStart S (cwIx x 3) b).1) (fun _ => XS d h a (cwStart S (cwIx x 3) b).2 u v w) := by
  refine cw_met ([(0, .ref h), (1, .int x), (2, .int (bI b))]) (by decide) (Nat.le_of_ble_eq_true rfl) rfl ?_
  intro p e s m below meth c A ls hx hb hr hlocks hml hown hts hA hP hK hD hS hl
  have hown : s.vm.findClass RX0 = some m.cls := hown
  refine lv_iload_n hx hb dX0_start_0 rfl (lv_at hl 1 rfl) ?_
  refine cw_callS (n := 1) (As := [.int x]) (rest := []) ⟨hx, hb, hml, hown, hts⟩ (mX_isProcess l (dC, dI) x) (lw_S q60 q61 q13 q62) (by decide +kernel) rfl ⟨Nat.le_of_ble_eq_true rfl, Nat.le_of_ble_eq_true rfl⟩ ⟨Nat.le_refl _, Nat.le_refl _⟩ hK hP hD hS hA hl.1 rfl (Nat.le_of_ble_eq_true rfl) dX0_start_1 (fun r H locs hpost hP hS => ?_)
  rcases hpost with ⟨rfl, P, hP3, rfl⟩ | ⟨rfl, hjx⟩
  · refine lv_if_ne (tgt := 9) hx hb dX0_start_4 (by decide) (fun _ => ?_) (fun h => absurd h (by decide))
    refine lv_aload_n hx hb dX0_start_9 rfl (lv_at hl 0 rfl) ?_
    refine cwX_get hx hb hts hown hK hP 0 rfl 1 (by decide) q24 rfl dX0_start_10 ?_
    refine lv_bipush (v := (nI 9)) hx hb dX0_start_13 (by decide) ?_
    refine lv_iload_n hx hb dX0_start_15 rfl (lv_at hl 1 rfl) ?_
    refine cw_imul hx hb dX0_start_16 ?_
    refine lv_iload_n hx hb dX0_start_17 rfl (lv_at hl 2 rfl) ?_
    refine cw_zast hx hb hK hP hD hS 2 1 rfl rfl (by omega) (by omega) dX0_start_18 (fun H locs hP hD hS => ?_)
    have hP : va_P (dC, dI) vwCl (XW d h a (sC S) (va_up (sG S) (9 * P) b) (sK S) (sM S) (sD S) (sI S) (sR S) u v w) H := hP
    have hD : va_D A (XW d h a (sC S) (va_up (sG S) (9 * P) b) (sK S) (sM S) (sD S) (sI S) (sR S) u v w) := hD
    refine lv_iconst (v := (nI 0)) hx hb dX0_start_19 (by decide) ?_
    have e_ : cwStart S (cwIx (nI P) 3) b = (0, (sC S, va_up (sG S) (9 * P) b, S.2.2)) := by
      unfold cwStart
      rw [cwIx_nI hP3 (by decide), if_pos hP3]
    rw [e_]
    exact cw_iret hx hb hr hlocks () (rfl) hP hK hD hS dX0_start_20
  · refine lv_if_ne (tgt := 9) hx hb dX0_start_4 (by decide) (fun h => absurd h (by decide)) (fun _ => ?_)
    refine lv_iconst (v := (-1)) hx hb dX0_start_7 (by decide) ?_
    have e_ : cwStart S (cwIx x 3) b = (-1, S) := by
      unfold cwStart
      rw [hjx, if_neg (by omega)]
    rw [e_]
    exact cw_iret hx hb hr hlocks () (rfl) hP hK hD hS dX0_start_8
set_option maxHeartbeats 4000000 in
set_option maxRecDepth 100000 in
/-- step -/
theorem mX_step (l : Launch) (dC : Nat → ClassId) (dI : Nat → Nat → Nat) (d : Nat → ClassId) (h : Nat) (a : Nat → Nat) (S : WSt) (u v w : Nat → Nat) (hO : cwOk S) (x : Int32) (b : Bool) : cwMi l yX0_step cX0_step 3 (some .int) 1 24 (dC, dI) vwCl (XT d) [.ref h, .int x, .int (bI b)] (XS d h a S u v w) (fun r (_ : Unit) => r = (cwStep S (cwIx x 3) b).1) (fun _ => XS d h a (cwStep S (cwIx x 3) b).2 u v w) := by
  refine cw_met ([(0, .ref h), (1, .int x), (2, .int (bI b))]) (by decide) (Nat.le_of_ble_eq_true rfl) rfl ?_
  intro p e s m below meth c A ls hx hb hr hlocks hml hown hts hA hP hK hD hS hl
  have hown : s.vm.findClass RX0 = some m.cls := hown
  have hV := hO.1
  refine lv_iload_n hx hb dX0_step_0 rfl (lv_at hl 1 rfl) ?_
  refine cw_callS (n := 1) (As := [.int x]) (rest := []) ⟨hx, hb, hml, hown, hts⟩ (mX_isProcess l (dC, dI) x) (lw_S q60 q61 q13 q62) (by decide +kernel) rfl ⟨Nat.le_of_ble_eq_true rfl, Nat.le_of_ble_eq_true rfl⟩ ⟨Nat.le_refl _, Nat.le_refl _⟩ hK hP hD hS hA hl.1 rfl (Nat.le_of_ble_eq_true rfl) dX0_step_1 (fun r H locs hpost hP hS => ?_)
  rcases hpost with ⟨rfl, P, hP3, rfl⟩ | ⟨rfl, hjx⟩
  · have hc8 := hV.1 P hP3
    refine lv_if_eq (tgt := 18) hx hb dX0_step_4 (by decide) (fun h => absurd h (by decide)) (fun _ => ?_)
    refine lv_aload_n hx hb dX0_step_7 rfl (lv_at hl 0 rfl) ?_
    refine cwX_get hx hb hts hown hK hP 0 rfl 0 (by decide) q23 rfl dX0_step_8 ?_
    refine lv_iload_n hx hb dX0_step_11 rfl (lv_at hl 1 rfl) ?_
    refine cw_iald hx hb hK hP 1 0 rfl rfl (by omega) (by omega) dX0_step_12 ?_
    refine lv_bipush (v := (nI 8)) hx hb dX0_step_13 (by decide) ?_
    refine cw_lt (tgt := 20) hx hb (by omega) (by omega) dX0_step_15 (by decide) (fun h8 => ?_) (fun h8 => ?_)
    · refine lv_aload_n hx hb dX0_step_20 rfl (lv_at hl 0 rfl) ?_
      refine lv_iload_n hx hb dX0_step_21 rfl (lv_at hl 1 rfl) ?_
      refine lv_iload_n hx hb dX0_step_22 rfl (lv_at hl 2 rfl) ?_
      refine cw_callVv (n := 2) (C := RX0) (As := [.int (nI P), .int (bI b)]) (rest := []) (wr := []) ⟨hx, hb, hml, hown, hts⟩ (mX_advance l dC dI d h a S u v w P b hP3 h8) (lw_V q67 q69 qs0 q13 q70) (by decide +kernel) rfl ⟨Nat.le_of_ble_eq_true rfl, Nat.le_of_ble_eq_true rfl⟩ ⟨Nat.le_refl _, Nat.le_refl _⟩ hK hP hD hS hA [0, 1, 2, 3, 4, 5, 6, 7, 8, 9] [] rfl rfl rfl (by decide) (by decide) (by decide) rfl rfl rfl hl.1 rfl (Nat.le_of_ble_eq_true rfl) dX0_step_23 (fun uu H locs hpost hP hD hS => ?_)
      have hP : va_P (dC, dI) vwCl (XW d h a (va_up (sC S) P (sC S P + 1)) (va_up (sG S) (9 * P + (sC S P + 1)) b) (cwAk (sK S) P (sC S P + 1)) (sM S) (sD S) (sI S) (sR S) u v w) H := hP
      have hD : va_D A (XW d h a (va_up (sC S) P (sC S P + 1)) (va_up (sG S) (9 * P + (sC S P + 1)) b) (cwAk (sK S) P (sC S P + 1)) (sM S) (sD S) (sI S) (sR S) u v w) := hD
      refine lv_aload_n hx hb dX0_step_26 rfl (lv_at hl 0 rfl) ?_
      refine cwX_get hx hb hts hown hK hP 0 rfl 0 (by decide) q23 rfl dX0_step_27 ?_
      refine lv_iload_n hx hb dX0_step_30 rfl (lv_at hl 1 rfl) ?_
      refine cw_iald hx hb hK hP 1 0 rfl rfl (by omega) (by omega) dX0_step_31 ?_
      refine cw_nat (b := sC S P + 1) (va_up_self _ _ _) ?_
      have e_ : cwStep S (cwIx (nI P) 3) b = (nI (sC S P + 1), cwAdv S P b) := by
        unfold cwStep
        rw [cwIx_nI hP3 (by decide), if_pos ⟨hP3, h8⟩]
      rw [e_]
      exact cw_iret hx hb hr hlocks () (rfl) hP hK hD hS dX0_step_32
    · refine lv_iconst (v := (-1)) hx hb dX0_step_18 (by decide) ?_
      have e_ : cwStep S (cwIx (nI P) 3) b = (-1, S) := by
        unfold cwStep
        rw [cwIx_nI hP3 (by decide), if_neg (by omega)]
      rw [e_]
      exact cw_iret hx hb hr hlocks () (rfl) hP hK hD hS dX0_step_19
  · refine lv_if_eq (tgt := 18) hx hb dX0_step_4 (by decide) (fun _ => ?_) (fun h => absurd h (by decide))
    refine lv_iconst (v := (-1)) hx hb dX0_step_18 (by decide) ?_
    have e_ : cwStep S (cwIx x 3) b = (-1, S) := by
      unfold cwStep
      rw [hjx, if_neg (by omega)]
    rw [e_]
    exact cw_iret hx hb hr hlocks () (rfl) hP hK hD hS dX0_step_19
set_option maxHeartbeats 4000000 in
set_option maxRecDepth 100000 in
/-- send -/
theorem mX_send (l : Launch) (dC : Nat → ClassId) (dI : Nat → Nat → Nat) (d : Nat → ClassId) (h : Nat) (a : Nat → Nat) (S : WSt) (u v w : Nat → Nat) (hO : cwOk S) (x : Int32) (b : Bool) : cwMi l yX0_send cX0_send 3 (some .int) 1 24 (dC, dI) vwCl (XT d) [.ref h, .int x, .int (bI b)] (XS d h a S u v w) (fun r (_ : Unit) => r = (cwSend S (cwIx x 3) b).1) (fun _ => XS d h a (cwSend S (cwIx x 3) b).2 u v w) := by
  refine cw_met ([(0, .ref h), (1, .int x), (2, .int (bI b))]) (by decide) (Nat.le_of_ble_eq_true rfl) rfl ?_
  intro p e s m below meth c A ls hx hb hr hlocks hml hown hts hA hP hK hD hS hl
  have hown : s.vm.findClass RX0 = some m.cls := hown
  have hV := hO.1
  refine lv_iload_n hx hb dX0_send_0 rfl (lv_at hl 1 rfl) ?_
  refine cw_callS (n := 1) (As := [.int x]) (rest := []) ⟨hx, hb, hml, hown, hts⟩ (mX_isProcess l (dC, dI) x) (lw_S q60 q61 q13 q62) (by decide +kernel) rfl ⟨Nat.le_of_ble_eq_true rfl, Nat.le_of_ble_eq_true rfl⟩ ⟨Nat.le_refl _, Nat.le_refl _⟩ hK hP hD hS hA hl.1 rfl (Nat.le_of_ble_eq_true rfl) dX0_send_1 (fun r H locs hpost hP hS => ?_)
  rcases hpost with ⟨rfl, P, hP3, rfl⟩ | ⟨rfl, hjx⟩
  · have hc8 := hV.1 P hP3
    refine lv_if_eq (tgt := 18) hx hb dX0_send_4 (by decide) (fun h => absurd h (by decide)) (fun _ => ?_)
    refine lv_aload_n hx hb dX0_send_7 rfl (lv_at hl 0 rfl) ?_
    refine cwX_get hx hb hts hown hK hP 0 rfl 0 (by decide) q23 rfl dX0_send_8 ?_
    refine lv_iload_n hx hb dX0_send_11 rfl (lv_at hl 1 rfl) ?_
    refine cw_iald hx hb hK hP 1 0 rfl rfl (by omega) (by omega) dX0_send_12 ?_
    refine lv_bipush (v := (nI 8)) hx hb dX0_send_13 (by decide) ?_
    refine cw_lt (tgt := 20) hx hb (by omega) (by omega) dX0_send_15 (by decide) (fun h8 => ?_) (fun h8 => ?_)
    · refine lv_aload_n hx hb dX0_send_20 rfl (lv_at hl 0 rfl) ?_
      refine lv_iload_n hx hb dX0_send_21 rfl (lv_at hl 1 rfl) ?_
      refine lv_iload_n hx hb dX0_send_22 rfl (lv_at hl 2 rfl) ?_
      refine cw_callVv (n := 2) (C := RX0) (As := [.int (nI P), .int (bI b)]) (rest := []) (wr := []) ⟨hx, hb, hml, hown, hts⟩ (mX_advance l dC dI d h a S u v w P b hP3 h8) (lw_V q67 q69 qs0 q13 q70) (by decide +kernel) rfl ⟨Nat.le_of_ble_eq_true rfl, Nat.le_of_ble_eq_true rfl⟩ ⟨Nat.le_refl _, Nat.le_refl _⟩ hK hP hD hS hA [0, 1, 2, 3, 4, 5, 6, 7, 8, 9] [] rfl rfl rfl (by decide) (by decide) (by decide) rfl rfl rfl hl.1 rfl (Nat.le_of_ble_eq_true rfl) dX0_send_23 (fun uu H locs hpost hP hD hS => ?_)
      have hP : va_P (dC, dI) vwCl (XW d h a (va_up (sC S) P (sC S P + 1)) (va_up (sG S) (9 * P + (sC S P + 1)) b) (cwAk (sK S) P (sC S P + 1)) (sM S) (sD S) (sI S) (sR S) u v w) H := hP
      have hD : va_D A (XW d h a (va_up (sC S) P (sC S P + 1)) (va_up (sG S) (9 * P + (sC S P + 1)) b) (cwAk (sK S) P (sC S P + 1)) (sM S) (sD S) (sI S) (sR S) u v w) := hD
      have hm := cw_msg hO hP3 h8
      refine lv_aload_n hx hb dX0_send_26 rfl (lv_at hl 0 rfl) ?_
      refine cwX_get hx hb hts hown hK hP 0 rfl 4 (by decide) q27 rfl dX0_send_27 ?_
      refine lv_aload_n hx hb dX0_send_30 rfl (lv_at hl 0 rfl) ?_
      refine cwX_get hx hb hts hown hK hP 0 rfl 3 (by decide) q26 rfl dX0_send_31 ?_
      refine lv_iload_n hx hb dX0_send_34 rfl (lv_at hl 1 rfl) ?_
      refine cw_iast hx hb hK hP hD hS 4 3 rfl rfl (by omega) (by omega) dX0_send_35 (fun H locs hP hD hS => ?_)
      have hP : va_P (dC, dI) vwCl (XW d h a (va_up (sC S) P (sC S P + 1)) (va_up (sG S) (9 * P + (sC S P + 1)) b) (cwAk (sK S) P (sC S P + 1)) (sM S) (va_up (sD S) (sM S) P) (sI S) (sR S) u v w) H := hP
      have hD : va_D A (XW d h a (va_up (sC S) P (sC S P + 1)) (va_up (sG S) (9 * P + (sC S P + 1)) b) (cwAk (sK S) P (sC S P + 1)) (sM S) (va_up (sD S) (sM S) P) (sI S) (sR S) u v w) := hD
      refine lv_aload_n hx hb dX0_send_36 rfl (lv_at hl 0 rfl) ?_
      refine cwX_get hx hb hts hown hK hP 0 rfl 5 (by decide) q28 rfl dX0_send_37 ?_
      refine lv_aload_n hx hb dX0_send_40 rfl (lv_at hl 0 rfl) ?_
      refine cwX_get hx hb hts hown hK hP 0 rfl 3 (by decide) q26 rfl dX0_send_41 ?_
      refine lv_aload_n hx hb dX0_send_44 rfl (lv_at hl 0 rfl) ?_
      refine cwX_get hx hb hts hown hK hP 0 rfl 0 (by decide) q23 rfl dX0_send_45 ?_
      refine lv_iload_n hx hb dX0_send_48 rfl (lv_at hl 1 rfl) ?_
      refine cw_iald hx hb hK hP 1 0 rfl rfl (by omega) (by omega) dX0_send_49 ?_
      refine cw_nat (b := sC S P + 1) (va_up_self _ _ _) ?_
      refine cw_iast hx hb hK hP hD hS 5 4 rfl rfl (by omega) (by omega) dX0_send_50 (fun H locs hP hD hS => ?_)
      have hP : va_P (dC, dI) vwCl (XW d h a (va_up (sC S) P (sC S P + 1)) (va_up (sG S) (9 * P + (sC S P + 1)) b) (cwAk (sK S) P (sC S P + 1)) (sM S) (va_up (sD S) (sM S) P) (va_up (sI S) (sM S) (sC S P + 1)) (sR S) u v w) H := hP
      have hD : va_D A (XW d h a (va_up (sC S) P (sC S P + 1)) (va_up (sG S) (9 * P + (sC S P + 1)) b) (cwAk (sK S) P (sC S P + 1)) (sM S) (va_up (sD S) (sM S) P) (va_up (sI S) (sM S) (sC S P + 1)) (sR S) u v w) := hD
      refine lv_aload_n hx hb dX0_send_51 rfl (lv_at hl 0 rfl) ?_
      refine cwX_get hx hb hts hown hK hP 0 rfl 6 (by decide) q29 rfl dX0_send_52 ?_
      refine lv_aload_n hx hb dX0_send_55 rfl (lv_at hl 0 rfl) ?_
      refine cwX_get hx hb hts hown hK hP 0 rfl 3 (by decide) q26 rfl dX0_send_56 ?_
      refine lv_iconst (v := (bI false)) hx hb dX0_send_59 (by decide) ?_
      refine cw_zast hx hb hK hP hD hS 6 5 rfl rfl (by omega) (by omega) dX0_send_60 (fun H locs hP hD hS => ?_)
      have hP : va_P (dC, dI) vwCl (XW d h a (va_up (sC S) P (sC S P + 1)) (va_up (sG S) (9 * P + (sC S P + 1)) b) (cwAk (sK S) P (sC S P + 1)) (sM S) (va_up (sD S) (sM S) P) (va_up (sI S) (sM S) (sC S P + 1)) (va_up (sR S) (sM S) false) u v w) H := hP
      have hD : va_D A (XW d h a (va_up (sC S) P (sC S P + 1)) (va_up (sG S) (9 * P + (sC S P + 1)) b) (cwAk (sK S) P (sC S P + 1)) (sM S) (va_up (sD S) (sM S) P) (va_up (sI S) (sM S) (sC S P + 1)) (va_up (sR S) (sM S) false) u v w) := hD
      have e_rc : (va_up (sR S) (sM S) false) = sR S := va_up_id (hO.2.2.2 _ (Nat.le_refl _))
      rw [e_rc] at hP hD
      clear e_rc
      refine lv_aload_n hx hb dX0_send_61 rfl (lv_at hl 0 rfl) ?_
      refine lv_dup hx hb dX0_send_62 rfl ?_
      refine cwX_get hx hb hts hown hK hP 0 rfl 3 (by decide) q26 rfl dX0_send_63 ?_
      refine lv_iconst (v := (nI 1)) hx hb dX0_send_66 (by decide) ?_
      refine cw_iadd hx hb dX0_send_67 ?_
      refine cwX_putM hx hb hts hown hK hP hD hS 0 rfl q26 (Nat.le_of_ble_eq_true rfl) dX0_send_68 (fun H locs hP hD hS => ?_)
      have hP : va_P (dC, dI) vwCl (XW d h a (va_up (sC S) P (sC S P + 1)) (va_up (sG S) (9 * P + (sC S P + 1)) b) (cwAk (sK S) P (sC S P + 1)) ((sM S) + 1) (va_up (sD S) (sM S) P) (va_up (sI S) (sM S) (sC S P + 1)) (sR S) u v w) H := hP
      have hD : va_D A (XW d h a (va_up (sC S) P (sC S P + 1)) (va_up (sG S) (9 * P + (sC S P + 1)) b) (cwAk (sK S) P (sC S P + 1)) ((sM S) + 1) (va_up (sD S) (sM S) P) (va_up (sI S) (sM S) (sC S P + 1)) (sR S) u v w) := hD
      refine lv_aload_n hx hb dX0_send_71 rfl (lv_at hl 0 rfl) ?_
      refine cwX_get hx hb hts hown hK hP 0 rfl 3 (by decide) q26 rfl dX0_send_72 ?_
      refine lv_iconst (v := (nI 1)) hx hb dX0_send_75 (by decide) ?_
      refine cw_isub hx hb (by omega) dX0_send_76 ?_
      refine cw_nat (b := sM S) (by omega) ?_
      have e_ : cwSend S (cwIx (nI P) 3) b = (nI (sM S), cwSnd S P b) := by
        unfold cwSend
        rw [cwIx_nI hP3 (by decide), if_pos ⟨hP3, h8⟩]
      rw [e_]
      exact cw_iret hx hb hr hlocks () (rfl) hP hK hD hS dX0_send_77
    · refine lv_iconst (v := (-1)) hx hb dX0_send_18 (by decide) ?_
      have e_ : cwSend S (cwIx (nI P) 3) b = (-1, S) := by
        unfold cwSend
        rw [cwIx_nI hP3 (by decide), if_neg (by omega)]
      rw [e_]
      exact cw_iret hx hb hr hlocks () (rfl) hP hK hD hS dX0_send_19
  · refine lv_if_eq (tgt := 18) hx hb dX0_send_4 (by decide) (fun _ => ?_) (fun h => absurd h (by decide))
    refine lv_iconst (v := (-1)) hx hb dX0_send_18 (by decide) ?_
    have e_ : cwSend S (cwIx x 3) b = (-1, S) := by
      unfold cwSend
      rw [hjx, if_neg (by omega)]
    rw [e_]
    exact cw_iret hx hb hr hlocks () (rfl) hP hK hD hS dX0_send_19
set_option maxHeartbeats 4000000 in
set_option maxRecDepth 100000 in
/-- knows -/
theorem mX_knows (l : Launch) (dC : Nat → ClassId) (dI : Nat → Nat → Nat) (d : Nat → ClassId) (h : Nat) (a : Nat → Nat) (S : WSt) (u v w : Nat → Nat) (hO : cwOk S) (x z y : Int32) : cwMi l yX0_knows cX0_knows 4 (some .int) 1 23 (dC, dI) vwCl (XT d) [.ref h, .int x, .int z, .int y] (XS d h a S u v w) (fun r (_ : Unit) => r = cwKnows S (cwIx x 3) (cwIx z 9) (cwIx y 3)) (fun _ => XS d h a S u v w) := by
  refine cw_met ([(0, .ref h), (1, .int x), (2, .int z), (3, .int y)]) (by decide) (Nat.le_of_ble_eq_true rfl) rfl ?_
  intro p e s m below meth c A ls hx hb hr hlocks hml hown hts hA hP hK hD hS hl
  have hown : s.vm.findClass RX0 = some m.cls := hown
  have hV := hO.1
  refine lv_iload_n hx hb dX0_knows_0 rfl (lv_at hl 1 rfl) ?_
  refine cw_callS (n := 1) (As := [.int x]) (rest := []) ⟨hx, hb, hml, hown, hts⟩ (mX_isProcess l (dC, dI) x) (lw_S q60 q61 q13 q62) (by decide +kernel) rfl ⟨Nat.le_of_ble_eq_true rfl, Nat.le_of_ble_eq_true rfl⟩ ⟨Nat.le_refl _, Nat.le_refl _⟩ hK hP hD hS hA hl.1 rfl (Nat.le_of_ble_eq_true rfl) dX0_knows_1 (fun r H locs hpost hP hS => ?_)
  rcases hpost with ⟨rfl, P, hP3, rfl⟩ | ⟨rfl, hjx⟩
  · have hc8 := hV.1 P hP3
    refine lv_if_eq (tgt := 28) hx hb dX0_knows_4 (by decide) (fun h => absurd h (by decide)) (fun _ => ?_)
    refine lv_iload_n hx hb dX0_knows_7 rfl (lv_at hl 3 rfl) ?_
    refine cw_callS (n := 1) (As := [.int y]) (rest := []) ⟨hx, hb, hml, hown, hts⟩ (mX_isProcess l (dC, dI) y) (lw_S q60 q61 q13 q62) (by decide +kernel) rfl ⟨Nat.le_of_ble_eq_true rfl, Nat.le_of_ble_eq_true rfl⟩ ⟨Nat.le_refl _, Nat.le_refl _⟩ hK hP hD hS hA hl.1 rfl (Nat.le_of_ble_eq_true rfl) dX0_knows_8 (fun r H locs hpost hP hS => ?_)
    rcases hpost with ⟨rfl, Q, hQ3, rfl⟩ | ⟨rfl, hjy⟩
    · refine lv_if_eq (tgt := 28) hx hb dX0_knows_11 (by decide) (fun h => absurd h (by decide)) (fun _ => ?_)
      refine lv_iload_n hx hb dX0_knows_14 rfl (lv_at hl 2 rfl) ?_
      refine lv_if_lt (tgt := 28) hx hb dX0_knows_15 (by decide) (fun h0 => ?_) (fun h0 => ?_)
      · refine lv_iconst (v := (-1)) hx hb dX0_knows_28 (by decide) ?_
        have e_ : cwKnows S (cwIx (nI P) 3) (cwIx z 9) (cwIx (nI Q) 3) = -1 := by
          unfold cwKnows
          rw [cwIx_neg h0, cwIx_nI hP3 (by decide), if_neg (by omega)]
        rw [e_]
        exact cw_iret hx hb hr hlocks () (rfl) hP hK hD hS dX0_knows_29
      · refine lv_iload_n hx hb dX0_knows_18 rfl (lv_at hl 2 rfl) ?_
        refine lv_aload_n hx hb dX0_knows_19 rfl (lv_at hl 0 rfl) ?_
        refine cwX_get hx hb hts hown hK hP 0 rfl 0 (by decide) q23 rfl dX0_knows_20 ?_
        refine lv_iload_n hx hb dX0_knows_23 rfl (lv_at hl 1 rfl) ?_
        refine cw_iald hx hb hK hP 1 0 rfl rfl (by omega) (by omega) dX0_knows_24 ?_
        refine lv_icmp_le (tgt := 30) hx hb dX0_knows_25 (by decide) (fun h1 => ?_) (fun h1 => ?_)
        · obtain ⟨k, hk0, rfl⟩ := nI_of h0
          have hk : k ≤ sC S P := (nI_leI hk0 (by omega)).mp h1
          have e_ : cwKnows S (cwIx (nI P) 3) (cwIx (nI k) 9) (cwIx (nI Q) 3) = nI (sK S (27 * P + 3 * k + Q)) := by
            unfold cwKnows
            rw [cwIx_nI hP3 (by decide), cwIx_nI hQ3 (by decide), cwIx_nI (show k < 9 by omega) (by decide), if_pos ⟨hP3, hQ3, hk⟩]
          rw [e_]
          refine lv_aload_n hx hb dX0_knows_30 rfl (lv_at hl 0 rfl) ?_
          refine lv_iload_n hx hb dX0_knows_31 rfl (lv_at hl 1 rfl) ?_
          refine lv_iload_n hx hb dX0_knows_32 rfl (lv_at hl 2 rfl) ?_
          refine lv_iload_n hx hb dX0_knows_33 rfl (lv_at hl 3 rfl) ?_
          refine cw_callV (n := 3) (C := RX0) (As := [.int (nI P), .int (nI k), .int (nI Q)]) (rest := []) (wr := []) ⟨hx, hb, hml, hown, hts⟩ (mX_knownBy l dC dI d h a S u v w P k Q hP3 (by omega) hQ3) (lw_V q79 q81 qs1 q13 q82) (by decide +kernel) rfl ⟨Nat.le_of_ble_eq_true rfl, Nat.le_of_ble_eq_true rfl⟩ ⟨Nat.le_refl _, Nat.le_refl _⟩ hK hP hD hS hA [0, 1, 2, 3, 4, 5, 6, 7, 8, 9] [] rfl rfl rfl (by decide) (by decide) (by decide) rfl rfl rfl hl.1 rfl (Nat.le_of_ble_eq_true rfl) dX0_knows_34 (fun r uu H locs hpost hP hD hS => ?_)
          have hpost : r = nI (sK S (27 * P + 3 * k + Q)) := hpost
          subst hpost
          exact cw_iret hx hb hr hlocks () (rfl) hP hK hD hS dX0_knows_37
        · refine lv_iconst (v := (-1)) hx hb dX0_knows_28 (by decide) ?_
          have e_ : cwKnows S (cwIx (nI P) 3) (cwIx z 9) (cwIx (nI Q) 3) = -1 := by
            unfold cwKnows
            rw [cwIx_nI hP3 (by decide), if_neg (fun hh => ?_)]
            rcases pk_ix z (n := 9) (by decide) with g | g | ⟨j, g1, rfl⟩
            · exact h0 g
            · rw [cwIx_ge (by decide) g] at hh
              omega
            · rw [cwIx_nI g1 (by decide)] at hh
              exact h1 (nI_le hh.2.2 (by omega))
          rw [e_]
          exact cw_iret hx hb hr hlocks () (rfl) hP hK hD hS dX0_knows_29
    · refine lv_if_eq (tgt := 28) hx hb dX0_knows_11 (by decide) (fun _ => ?_) (fun h => absurd h (by decide))
      refine lv_iconst (v := (-1)) hx hb dX0_knows_28 (by decide) ?_
      have e_ : cwKnows S (cwIx (nI P) 3) (cwIx z 9) (cwIx y 3) = -1 := by
        unfold cwKnows
        rw [hjy, if_neg (by omega)]
      rw [e_]
      exact cw_iret hx hb hr hlocks () (rfl) hP hK hD hS dX0_knows_29
  · refine lv_if_eq (tgt := 28) hx hb dX0_knows_4 (by decide) (fun _ => ?_) (fun h => absurd h (by decide))
    refine lv_iconst (v := (-1)) hx hb dX0_knows_28 (by decide) ?_
    have e_ : cwKnows S (cwIx x 3) (cwIx z 9) (cwIx y 3) = -1 := by
      unfold cwKnows
      rw [hjx, if_neg (by omega)]
    rw [e_]
    exact cw_iret hx hb hr hlocks () (rfl) hP hK hD hS dX0_knows_29
set_option maxHeartbeats 4000000 in
set_option maxRecDepth 100000 in
/-- events -/
theorem mX_events (l : Launch) (dC : Nat → ClassId) (dI : Nat → Nat → Nat) (d : Nat → ClassId) (h : Nat) (a : Nat → Nat) (S : WSt) (u v w : Nat → Nat) (x : Int32) : cwMi l yX0_events cX0_events 2 (some .int) 1 20 (dC, dI) vwCl (XT d) [.ref h, .int x] (XS d h a S u v w) (fun r (_ : Unit) => r = cwEvents S (cwIx x 3)) (fun _ => XS d h a S u v w) := by
  refine cw_met ([(0, .ref h), (1, .int x)]) (by decide) (Nat.le_of_ble_eq_true rfl) rfl ?_
  intro p e s m below meth c A ls hx hb hr hlocks hml hown hts hA hP hK hD hS hl
  have hown : s.vm.findClass RX0 = some m.cls := hown
  refine lv_iload_n hx hb dX0_events_0 rfl (lv_at hl 1 rfl) ?_
  refine cw_callS (n := 1) (As := [.int x]) (rest := []) ⟨hx, hb, hml, hown, hts⟩ (mX_isProcess l (dC, dI) x) (lw_S q60 q61 q13 q62) (by decide +kernel) rfl ⟨Nat.le_of_ble_eq_true rfl, Nat.le_of_ble_eq_true rfl⟩ ⟨Nat.le_refl _, Nat.le_refl _⟩ hK hP hD hS hA hl.1 rfl (Nat.le_of_ble_eq_true rfl) dX0_events_1 (fun r H locs hpost hP hS => ?_)
  rcases hpost with ⟨rfl, P, hP3, rfl⟩ | ⟨rfl, hjx⟩
  · refine lv_if_eq (tgt := 16) hx hb dX0_events_4 (by decide) (fun h => absurd h (by decide)) (fun _ => ?_)
    refine lv_aload_n hx hb dX0_events_7 rfl (lv_at hl 0 rfl) ?_
    refine cwX_get hx hb hts hown hK hP 0 rfl 0 (by decide) q23 rfl dX0_events_8 ?_
    refine lv_iload_n hx hb dX0_events_11 rfl (lv_at hl 1 rfl) ?_
    refine cw_iald hx hb hK hP 1 0 rfl rfl (by omega) (by omega) dX0_events_12 ?_
    refine lv_goto (tgt := 17) hx hb dX0_events_13 (by decide) ?_
    have e_ : cwEvents S (cwIx (nI P) 3) = nI (sC S P) := by
      unfold cwEvents
      rw [cwIx_nI hP3 (by decide), if_pos hP3]
    rw [e_]
    exact cw_iret hx hb hr hlocks () (rfl) hP hK hD hS dX0_events_17
  · refine lv_if_eq (tgt := 16) hx hb dX0_events_4 (by decide) (fun _ => ?_) (fun h => absurd h (by decide))
    refine lv_iconst (v := (-1)) hx hb dX0_events_16 (by decide) ?_
    have e_ : cwEvents S (cwIx x 3) = -1 := by
      unfold cwEvents
      rw [hjx, if_neg (by omega)]
    rw [e_]
    exact cw_iret hx hb hr hlocks () (rfl) hP hK hD hS dX0_events_17
end
section
/-! CutWatch.receive; CutWatchModel: the events, and the questions without loops -/
set_option maxHeartbeats 4000000 in
set_option maxRecDepth 100000 in
/-- receive -/
theorem mX_receive (l : Launch) (dC : Nat → ClassId) (dI : Nat → Nat → Nat) (d : Nat → ClassId) (h : Nat) (a : Nat → Nat) (S : WSt) (u v w : Nat → Nat) (hO : cwOk S) (x z : Int32) (b : Bool) : cwMi l yX0_receive cX0_receive 8 (some .int) 1 24 (dC, dI) vwCl (XT d) [.ref h, .int x, .int z, .int (bI b)] (XS d h a S u v w) (fun r (_ : Unit) => r = (cwRecv S (cwIx x 3) (cwIx z (sM S)) b).1) (fun _ => XS d h a (cwRecv S (cwIx x 3) (cwIx z (sM S)) b).2 u v w) := by
  refine cw_met ([(0, .ref h), (1, .int x), (2, .int z), (3, .int (bI b))]) (by decide) (Nat.le_of_ble_eq_true rfl) rfl ?_
  intro p e s m below meth c A ls hx hb hr hlocks hml hown hts hA hP hK hD hS hl
  have hown : s.vm.findClass RX0 = some m.cls := hown
  have hV := hO.1
  have hm24 := cw_ms24 hO
  refine cw_cut (pc' := 17) (fun H' locs' ls' st' => H' = s.heap ∧ locs' = [] ∧ ls' = ls ∧ ∃ t : Bool, st' = [.int (bI t)] ∧ (t = true → ∃ j, j < sM S ∧ z = nI j) ∧ (t = false → cwIx z (sM S) = sM S)) ?_ (fun hk => ?_)
  · intro H' locs' ls' st' ⟨e1, e2, e3, t, e4, ht1, ht0⟩
    subst e1
    subst e2
    subst e3
    subst e4
    refine lv_istore (lv' := [(4, .int (bI t)), (0, .ref h), (1, .int x), (2, .int z), (3, .int (bI b))]) hx hb dX0_receive_17 hl (by decide) rfl (fun ls hl => ?_)
    refine lv_iload_n hx hb dX0_receive_19 rfl (lv_at hl 2 rfl) ?_
    refine cw_callS (n := 1) (As := [.int x]) (rest := []) ⟨hx, hb, hml, hown, hts⟩ (mX_isProcess l (dC, dI) x) (lw_S q60 q61 q13 q62) (by decide +kernel) rfl ⟨Nat.le_of_ble_eq_true rfl, Nat.le_of_ble_eq_true rfl⟩ ⟨Nat.le_refl _, Nat.le_refl _⟩ hK hP hD hS hA hl.1 rfl (Nat.le_of_ble_eq_true rfl) dX0_receive_20 (fun r H locs hpost hP hS => ?_)
    rcases hpost with ⟨rfl, P, hP3, rfl⟩ | ⟨rfl, hjx⟩
    · have hc8 := hV.1 P hP3
      refine lv_if_eq (tgt := 61) hx hb dX0_receive_23 (by decide) (fun h => absurd h (by decide)) (fun _ => ?_)
      refine lv_aload_n hx hb dX0_receive_26 rfl (lv_at hl 1 rfl) ?_
      refine cwX_get hx hb hts hown hK hP 0 rfl 0 (by decide) q23 rfl dX0_receive_27 ?_
      refine lv_iload_n hx hb dX0_receive_30 rfl (lv_at hl 2 rfl) ?_
      refine cw_iald hx hb hK hP 1 0 rfl rfl (by omega) (by omega) dX0_receive_31 ?_
      refine lv_bipush (v := (nI 8)) hx hb dX0_receive_32 (by decide) ?_
      refine cw_ge (tgt := 61) hx hb (by omega) (by omega) dX0_receive_34 (by decide) (fun h8 => ?_) (fun h8 => ?_)
      · refine lv_iconst (v := (-1)) hx hb dX0_receive_61 (by decide) ?_
        have e_ : cwRecv S (cwIx (nI P) 3) (cwIx z (sM S)) b = (-1, S) := by
          unfold cwRecv
          rw [if_neg (fun hh => ?_)]
          rw [cwIx_nI hP3 (by decide)] at hh
          omega
        rw [e_]
        exact cw_iret hx hb hr hlocks () (rfl) hP hK hD hS dX0_receive_62
      · refine lv_iload hx hb dX0_receive_37 (lv_at hl 0 rfl) ?_
        refine cw_zeq (tgt := 61) hx hb dX0_receive_39 (by decide) (fun ht => ?_) (fun ht => ?_)
        · refine lv_iconst (v := (-1)) hx hb dX0_receive_61 (by decide) ?_
          have e_ : cwRecv S (cwIx (nI P) 3) (cwIx z (sM S)) b = (-1, S) := by
            unfold cwRecv
            rw [if_neg (fun hh => ?_)]
            have := ht0 ht
            omega
          rw [e_]
          exact cw_iret hx hb hr hlocks () (rfl) hP hK hD hS dX0_receive_62
        · obtain ⟨i, hi, rfl⟩ := ht1 ht
          have hs3 := (hO.2.2.1 i hi).1
          have hsi := (hO.2.2.1 i hi).2
          have hs8 := hV.1 _ hs3
          refine lv_aload_n hx hb dX0_receive_42 rfl (lv_at hl 1 rfl) ?_
          refine cwX_get hx hb hts hown hK hP 0 rfl 6 (by decide) q29 rfl dX0_receive_43 ?_
          refine lv_iload_n hx hb dX0_receive_46 rfl (lv_at hl 3 rfl) ?_
          refine cw_zald hx hb hK hP 6 5 rfl rfl (by omega) (by omega) dX0_receive_47 ?_
          refine cw_zne (tgt := 61) hx hb dX0_receive_48 (by decide) (fun hr0 => ?_) (fun hr0 => ?_)
          · refine lv_iconst (v := (-1)) hx hb dX0_receive_61 (by decide) ?_
            have e_ : cwRecv S (cwIx (nI P) 3) (cwIx (nI i) (sM S)) b = (-1, S) := by
              unfold cwRecv
              rw [if_neg (fun hh => ?_)]
              rw [cwIx_nI hi (by omega), hr0] at hh
              exact absurd hh.2.2.2.1 (by decide)
            rw [e_]
            exact cw_iret hx hb hr hlocks () (rfl) hP hK hD hS dX0_receive_62
          · refine lv_aload_n hx hb dX0_receive_51 rfl (lv_at hl 1 rfl) ?_
            refine cwX_get hx hb hts hown hK hP 0 rfl 4 (by decide) q27 rfl dX0_receive_52 ?_
            refine lv_iload_n hx hb dX0_receive_55 rfl (lv_at hl 3 rfl) ?_
            refine cw_iald hx hb hK hP 4 3 rfl rfl (by omega) (by omega) dX0_receive_56 ?_
            refine lv_iload_n hx hb dX0_receive_57 rfl (lv_at hl 2 rfl) ?_
            refine cw_ne (tgt := 63) hx hb (by omega) (by omega) dX0_receive_58 (by decide) (fun hsp => ?_) (fun hsp => ?_)
            · have hb := hb
              have e_ : cwRecv S (cwIx (nI P) 3) (cwIx (nI i) (sM S)) b = (nI (sC S P + 1), cwRcv S P i b) := by
                unfold cwRecv
                rw [cwIx_nI hP3 (by decide), cwIx_nI hi (by omega), if_pos ⟨hP3, h8, hi, hr0, hsp⟩]
              rw [e_]
              refine lv_aload_n hx hb dX0_receive_63 rfl (lv_at hl 1 rfl) ?_
              refine cwX_get hx hb hts hown hK hP 0 rfl 6 (by decide) q29 rfl dX0_receive_64 ?_
              refine lv_iload_n hx hb dX0_receive_67 rfl (lv_at hl 3 rfl) ?_
              refine lv_iconst (v := (bI true)) hx hb dX0_receive_68 (by decide) ?_
              refine cw_zast hx hb hK hP hD hS 6 5 rfl rfl (by omega) (by omega) dX0_receive_69 (fun H locs hP hD hS => ?_)
              have hP : va_P (dC, dI) vwCl (XW d h a (sC S) (sG S) (sK S) (sM S) (sD S) (sI S) (va_up (sR S) i true) u v w) H := hP
              have hD : va_D A (XW d h a (sC S) (sG S) (sK S) (sM S) (sD S) (sI S) (va_up (sR S) i true) u v w) := hD
              refine lv_aload_n hx hb dX0_receive_70 rfl (lv_at hl 1 rfl) ?_
              refine lv_iload_n hx hb dX0_receive_71 rfl (lv_at hl 2 rfl) ?_
              refine lv_iload_n hx hb dX0_receive_72 rfl (lv_at hl 4 rfl) ?_
              refine cw_callVv (n := 2) (C := RX0) (As := [.int (nI P), .int (bI b)]) (rest := []) (wr := []) ⟨hx, hb, hml, hown, hts⟩ (mX_advance l dC dI d h a (sC S, sG S, sK S, sM S, sD S, sI S, va_up (sR S) i true) u v w P b hP3 h8) (lw_V q67 q69 qs0 q13 q70) (by decide +kernel) rfl ⟨Nat.le_of_ble_eq_true rfl, Nat.le_of_ble_eq_true rfl⟩ ⟨Nat.le_refl _, Nat.le_refl _⟩ hK hP hD hS hA [0, 1, 2, 3, 4, 5, 6, 7, 8, 9] [] rfl rfl rfl (by decide) (by decide) (by decide) rfl rfl rfl hl.1 rfl (Nat.le_of_ble_eq_true rfl) dX0_receive_73 (fun uu H locs hpost hP hD hS => ?_)
              have hP : va_P (dC, dI) vwCl (XW d h a (va_up (sC S) P (sC S P + 1)) (va_up (sG S) (9 * P + (sC S P + 1)) b) (cwAk (sK S) P (sC S P + 1)) (sM S) (sD S) (sI S) (va_up (sR S) i true) u v w) H := hP
              have hD : va_D A (XW d h a (va_up (sC S) P (sC S P + 1)) (va_up (sG S) (9 * P + (sC S P + 1)) b) (cwAk (sK S) P (sC S P + 1)) (sM S) (sD S) (sI S) (va_up (sR S) i true) u v w) := hD
              refine lv_iconst (v := (nI 0)) hx hb dX0_receive_76 (by decide) ?_
              refine lv_istore (lv' := [(5, .int (nI 0)), (4, .int (bI t)), (0, .ref h), (1, .int (nI P)), (2, .int (nI i)), (3, .int (bI b))]) hx hb dX0_receive_77 hl (by decide) rfl (fun ls hl => ?_)
              have e_k : (cwAk (sK S) P (sC S P + 1)) = cwMx (cwAk (sK S) P (sC S P + 1)) (27 * P + 3 * (sC S P + 1)) (27 * sD S i + 3 * sI S i) 0 := (cwMx_0 _ _ _).symm
              rw [e_k] at hP hD
              clear e_k
              refine cw_loop (head := 79) (I := fun n H locs ls => ∃ q, q ≤ 3 ∧ n = 3 - q ∧ va_P (dC, dI) vwCl (XW d h a (va_up (sC S) P (sC S P + 1)) (va_up (sG S) (9 * P + (sC S P + 1)) b) (cwMx (cwAk (sK S) P (sC S P + 1)) (27 * P + 3 * (sC S P + 1)) (27 * sD S i + 3 * sI S i) q) (sM S) (sD S) (sI S) (va_up (sR S) i true) u v w) H ∧ va_D A (XW d h a (va_up (sC S) P (sC S P + 1)) (va_up (sG S) (9 * P + (sC S P + 1)) b) (cwMx (cwAk (sK S) P (sC S P + 1)) (27 * P + 3 * (sC S P + 1)) (27 * sD S i + 3 * sI S i) q) (sM S) (sD S) (sI S) (va_up (sR S) i true) u v w) ∧ va_S A s.heap H locs ∧ lv_has ls 8 [(5, .int (nI q)), (4, .int (bI t)), (0, .ref h), (1, .int (nI P)), (2, .int (nI i)), (3, .int (bI b))]) ?_ 3 ⟨0, by omega, rfl, hP, hD, hS, hl⟩
              intro n H locs ls ⟨q, hq, hn, hP, hD, hS, hl⟩ ih
              refine lv_iload hx hb dX0_receive_79 (lv_at hl 0 rfl) ?_
              refine lv_iconst (v := (nI 3)) hx hb dX0_receive_81 (by decide) ?_
              refine cw_ge (tgt := 160) hx hb (by omega) (by omega) dX0_receive_82 (by decide) (fun h3 => ?_) (fun h3 => ?_)
              · have e3 : q = 3 := by omega
                subst e3
                refine lv_aload_n hx hb dX0_receive_160 rfl (lv_at hl 2 rfl) ?_
                refine cwX_get hx hb hts hown hK hP 0 rfl 0 (by decide) q23 rfl dX0_receive_161 ?_
                refine lv_iload_n hx hb dX0_receive_164 rfl (lv_at hl 3 rfl) ?_
                refine cw_iald hx hb hK hP 1 0 rfl rfl (by omega) (by omega) dX0_receive_165 ?_
                refine cw_nat (b := sC S P + 1) (va_up_self _ _ _) ?_
                exact cw_iret hx hb hr hlocks () (rfl) hP hK hD hS dX0_receive_166
              · have hbb := cw_rcv_b hO hP3 h8 hi h3
                have hfar := cw_far hP3 (show sC S P + 1 ≤ 8 by omega) hs3 (show sI S i ≤ 8 by omega) h3 hsp
                refine lv_aload_n hx hb dX0_receive_85 rfl (lv_at hl 2 rfl) ?_
                refine lv_aload_n hx hb dX0_receive_86 rfl (lv_at hl 2 rfl) ?_
                refine cwX_get hx hb hts hown hK hP 0 rfl 4 (by decide) q27 rfl dX0_receive_87 ?_
                refine lv_iload_n hx hb dX0_receive_90 rfl (lv_at hl 4 rfl) ?_
                refine cw_iald hx hb hK hP 4 3 rfl rfl (by omega) (by omega) dX0_receive_91 ?_
                refine lv_aload_n hx hb dX0_receive_92 rfl (lv_at hl 2 rfl) ?_
                refine cwX_get hx hb hts hown hK hP 0 rfl 5 (by decide) q28 rfl dX0_receive_93 ?_
                refine lv_iload_n hx hb dX0_receive_96 rfl (lv_at hl 4 rfl) ?_
                refine cw_iald hx hb hK hP 5 4 rfl rfl (by omega) (by omega) dX0_receive_97 ?_
                refine lv_iload hx hb dX0_receive_98 (lv_at hl 0 rfl) ?_
                refine cw_callV (n := 3) (C := RX0) (As := [.int (nI (sD S i)), .int (nI (sI S i)), .int (nI q)]) (rest := []) (wr := []) ⟨hx, hb, hml, hown, hts⟩ (mX_knownBy l dC dI d h a (va_up (sC S) P (sC S P + 1), va_up (sG S) (9 * P + (sC S P + 1)) b, cwMx (cwAk (sK S) P (sC S P + 1)) (27 * P + 3 * (sC S P + 1)) (27 * sD S i + 3 * sI S i) q, sM S, sD S, sI S, va_up (sR S) i true) u v w (sD S i) (sI S i) q hs3 (by omega) h3) (lw_V q79 q81 qs1 q13 q82) (by decide +kernel) rfl ⟨Nat.le_of_ble_eq_true rfl, Nat.le_of_ble_eq_true rfl⟩ ⟨Nat.le_refl _, Nat.le_refl _⟩ hK hP hD hS hA [0, 1, 2, 3, 4, 5, 6, 7, 8, 9] [] rfl rfl rfl (by decide) (by decide) (by decide) rfl rfl rfl hl.1 rfl (Nat.le_of_ble_eq_true rfl) dX0_receive_100 (fun r uu H locs hpost hP hD hS => ?_)
                have hpost : r = nI (cwMx (cwAk (sK S) P (sC S P + 1)) (27 * P + 3 * (sC S P + 1)) (27 * sD S i + 3 * sI S i) q (27 * sD S i + 3 * sI S i + q)) := hpost
                subst hpost
                have hP : va_P (dC, dI) vwCl (XW d h a (va_up (sC S) P (sC S P + 1)) (va_up (sG S) (9 * P + (sC S P + 1)) b) (cwMx (cwAk (sK S) P (sC S P + 1)) (27 * P + 3 * (sC S P + 1)) (27 * sD S i + 3 * sI S i) q) (sM S) (sD S) (sI S) (va_up (sR S) i true) u v w) H := hP
                have hD : va_D A (XW d h a (va_up (sC S) P (sC S P + 1)) (va_up (sG S) (9 * P + (sC S P + 1)) b) (cwMx (cwAk (sK S) P (sC S P + 1)) (27 * P + 3 * (sC S P + 1)) (27 * sD S i + 3 * sI S i) q) (sM S) (sD S) (sI S) (va_up (sR S) i true) u v w) := hD
                refine cw_nat (b := cwAk (sK S) P (sC S P + 1) ((27 * sD S i + 3 * sI S i) + q)) (cwMx_out hfar) ?_
                refine lv_istore (lv' := [(6, .int (nI (cwAk (sK S) P (sC S P + 1) ((27 * sD S i + 3 * sI S i) + q)))), (5, .int (nI q)), (4, .int (bI t)), (0, .ref h), (1, .int (nI P)), (2, .int (nI i)), (3, .int (bI b))]) hx hb dX0_receive_103 hl (by decide) rfl (fun ls hl => ?_)
                refine lv_bipush (v := (nI 27)) hx hb dX0_receive_105 (by decide) ?_
                refine lv_iload_n hx hb dX0_receive_107 rfl (lv_at hl 4 rfl) ?_
                refine cw_imul hx hb dX0_receive_108 ?_
                refine lv_iconst (v := (nI 3)) hx hb dX0_receive_109 (by decide) ?_
                refine lv_aload_n hx hb dX0_receive_110 rfl (lv_at hl 3 rfl) ?_
                refine cwX_get hx hb hts hown hK hP 0 rfl 0 (by decide) q23 rfl dX0_receive_111 ?_
                refine lv_iload_n hx hb dX0_receive_114 rfl (lv_at hl 4 rfl) ?_
                refine cw_iald hx hb hK hP 1 0 rfl rfl (by omega) (by omega) dX0_receive_115 ?_
                refine cw_nat (b := sC S P + 1) (va_up_self _ _ _) ?_
                refine cw_imul hx hb dX0_receive_116 ?_
                refine cw_iadd hx hb dX0_receive_117 ?_
                refine lv_iload hx hb dX0_receive_118 (lv_at hl 1 rfl) ?_
                refine cw_iadd hx hb dX0_receive_120 ?_
                refine lv_istore (lv' := [(7, .int (nI (((27 * P) + (3 * (sC S P + 1))) + q))), (6, .int (nI (cwAk (sK S) P (sC S P + 1) ((27 * sD S i + 3 * sI S i) + q)))), (5, .int (nI q)), (4, .int (bI t)), (0, .ref h), (1, .int (nI P)), (2, .int (nI i)), (3, .int (bI b))]) hx hb dX0_receive_121 hl (by decide) rfl (fun ls hl => ?_)
                refine lv_aload_n hx hb dX0_receive_123 rfl (lv_at hl 4 rfl) ?_
                refine cwX_get hx hb hts hown hK hP 0 rfl 2 (by decide) q25 rfl dX0_receive_124 ?_
                refine lv_iload hx hb dX0_receive_127 (lv_at hl 0 rfl) ?_
                refine lv_iload hx hb dX0_receive_129 (lv_at hl 1 rfl) ?_
                refine lv_aload_n hx hb dX0_receive_131 rfl (lv_at hl 4 rfl) ?_
                refine cwX_get hx hb hts hown hK hP 0 rfl 2 (by decide) q25 rfl dX0_receive_132 ?_
                refine lv_iload hx hb dX0_receive_135 (lv_at hl 0 rfl) ?_
                refine cw_iald hx hb hK hP 3 2 rfl rfl (by omega) (by omega) dX0_receive_137 ?_
                refine cw_nat (b := cwAk (sK S) P (sC S P + 1) ((27 * P + 3 * (sC S P + 1)) + q)) (cwMx_out (Or.inr (Nat.le_refl _))) ?_
                refine cw_le (tgt := 146) hx hb (by omega) (by omega) dX0_receive_138 (by decide) (fun hm => ?_) (fun hm => ?_)
                · refine lv_aload_n hx hb dX0_receive_146 rfl (lv_at hl 4 rfl) ?_
                  refine cwX_get hx hb hts hown hK hP 0 rfl 2 (by decide) q25 rfl dX0_receive_147 ?_
                  refine lv_iload hx hb dX0_receive_150 (lv_at hl 0 rfl) ?_
                  refine cw_iald hx hb hK hP 3 2 rfl rfl (by omega) (by omega) dX0_receive_152 ?_
                  refine cw_nat (b := cwAk (sK S) P (sC S P + 1) ((27 * P + 3 * (sC S P + 1)) + q)) (cwMx_out (Or.inr (Nat.le_refl _))) ?_
                  refine cw_iast hx hb hK hP hD hS 3 2 rfl rfl (by omega) (by omega) dX0_receive_153 (fun H locs hP hD hS => ?_)
                  have hP : va_P (dC, dI) vwCl (XW d h a (va_up (sC S) P (sC S P + 1)) (va_up (sG S) (9 * P + (sC S P + 1)) b) (va_up (cwMx (cwAk (sK S) P (sC S P + 1)) (27 * P + 3 * (sC S P + 1)) (27 * sD S i + 3 * sI S i) q) (((27 * P) + (3 * (sC S P + 1))) + q) (cwAk (sK S) P (sC S P + 1) ((27 * P + 3 * (sC S P + 1)) + q))) (sM S) (sD S) (sI S) (va_up (sR S) i true) u v w) H := hP
                  have hD : va_D A (XW d h a (va_up (sC S) P (sC S P + 1)) (va_up (sG S) (9 * P + (sC S P + 1)) b) (va_up (cwMx (cwAk (sK S) P (sC S P + 1)) (27 * P + 3 * (sC S P + 1)) (27 * sD S i + 3 * sI S i) q) (((27 * P) + (3 * (sC S P + 1))) + q) (cwAk (sK S) P (sC S P + 1) ((27 * P + 3 * (sC S P + 1)) + q))) (sM S) (sD S) (sI S) (va_up (sR S) i true) u v w) := hD
                  have e_k : (va_up (cwMx (cwAk (sK S) P (sC S P + 1)) (27 * P + 3 * (sC S P + 1)) (27 * sD S i + 3 * sI S i) q) (((27 * P) + (3 * (sC S P + 1))) + q) (cwAk (sK S) P (sC S P + 1) ((27 * P + 3 * (sC S P + 1)) + q))) = cwMx (cwAk (sK S) P (sC S P + 1)) (27 * P + 3 * (sC S P + 1)) (27 * sD S i + 3 * sI S i) (q + 1) := cwMx_s (cw_max1 hm rfl)
                  rw [e_k] at hP hD
                  clear e_k
                  refine lv_iinc (v := nI (q + 1)) (lv' := [(5, .int (nI (q + 1))), (7, .int (nI (((27 * P) + (3 * (sC S P + 1))) + q))), (6, .int (nI (cwAk (sK S) P (sC S P + 1) ((27 * sD S i + 3 * sI S i) + q)))), (4, .int (bI t)), (0, .ref h), (1, .int (nI P)), (2, .int (nI i)), (3, .int (bI b))]) hx hb dX0_receive_154 hl (k := 2) rfl (nI_1 _) (by decide) rfl (fun ls hl => ?_)
                  refine lv_goto (tgt := 79) hx hb dX0_receive_157 (by decide) ?_
                  exact ih (3 - (q + 1)) _ _ _ (by omega) ⟨q + 1, by omega, rfl, hP, hD, hS, lv_sub hl [0, 3, 4, 5, 6, 7] rfl⟩
                · refine lv_iload hx hb dX0_receive_141 (lv_at hl 1 rfl) ?_
                  refine lv_goto (tgt := 153) hx hb dX0_receive_143 (by decide) ?_
                  refine cw_iast hx hb hK hP hD hS 3 2 rfl rfl (by omega) (by omega) dX0_receive_153 (fun H locs hP hD hS => ?_)
                  have hP : va_P (dC, dI) vwCl (XW d h a (va_up (sC S) P (sC S P + 1)) (va_up (sG S) (9 * P + (sC S P + 1)) b) (va_up (cwMx (cwAk (sK S) P (sC S P + 1)) (27 * P + 3 * (sC S P + 1)) (27 * sD S i + 3 * sI S i) q) (((27 * P) + (3 * (sC S P + 1))) + q) (cwAk (sK S) P (sC S P + 1) ((27 * sD S i + 3 * sI S i) + q))) (sM S) (sD S) (sI S) (va_up (sR S) i true) u v w) H := hP
                  have hD : va_D A (XW d h a (va_up (sC S) P (sC S P + 1)) (va_up (sG S) (9 * P + (sC S P + 1)) b) (va_up (cwMx (cwAk (sK S) P (sC S P + 1)) (27 * P + 3 * (sC S P + 1)) (27 * sD S i + 3 * sI S i) q) (((27 * P) + (3 * (sC S P + 1))) + q) (cwAk (sK S) P (sC S P + 1) ((27 * sD S i + 3 * sI S i) + q))) (sM S) (sD S) (sI S) (va_up (sR S) i true) u v w) := hD
                  have e_k : (va_up (cwMx (cwAk (sK S) P (sC S P + 1)) (27 * P + 3 * (sC S P + 1)) (27 * sD S i + 3 * sI S i) q) (((27 * P) + (3 * (sC S P + 1))) + q) (cwAk (sK S) P (sC S P + 1) ((27 * sD S i + 3 * sI S i) + q))) = cwMx (cwAk (sK S) P (sC S P + 1)) (27 * P + 3 * (sC S P + 1)) (27 * sD S i + 3 * sI S i) (q + 1) := cwMx_s (cw_max2 hm rfl)
                  rw [e_k] at hP hD
                  clear e_k
                  refine lv_iinc (v := nI (q + 1)) (lv' := [(5, .int (nI (q + 1))), (7, .int (nI (((27 * P) + (3 * (sC S P + 1))) + q))), (6, .int (nI (cwAk (sK S) P (sC S P + 1) ((27 * sD S i + 3 * sI S i) + q)))), (4, .int (bI t)), (0, .ref h), (1, .int (nI P)), (2, .int (nI i)), (3, .int (bI b))]) hx hb dX0_receive_154 hl (k := 2) rfl (nI_1 _) (by decide) rfl (fun ls hl => ?_)
                  refine lv_goto (tgt := 79) hx hb dX0_receive_157 (by decide) ?_
                  exact ih (3 - (q + 1)) _ _ _ (by omega) ⟨q + 1, by omega, rfl, hP, hD, hS, lv_sub hl [0, 3, 4, 5, 6, 7] rfl⟩
            · refine lv_iconst (v := (-1)) hx hb dX0_receive_61 (by decide) ?_
              have e_ : cwRecv S (cwIx (nI P) 3) (cwIx (nI i) (sM S)) b = (-1, S) := by
                unfold cwRecv
                rw [if_neg (fun hh => ?_)]
                rw [cwIx_nI hi (by omega), cwIx_nI hP3 (by decide)] at hh
                exact hh.2.2.2.2 hsp
              rw [e_]
              exact cw_iret hx hb hr hlocks () (rfl) hP hK hD hS dX0_receive_62
    · refine lv_if_eq (tgt := 61) hx hb dX0_receive_23 (by decide) (fun _ => ?_) (fun h => absurd h (by decide))
      refine lv_iconst (v := (-1)) hx hb dX0_receive_61 (by decide) ?_
      have e_ : cwRecv S (cwIx x 3) (cwIx z (sM S)) b = (-1, S) := by
        unfold cwRecv
        rw [if_neg (fun hh => ?_)]
        omega
      rw [e_]
      exact cw_iret hx hb hr hlocks () (rfl) hP hK hD hS dX0_receive_62
  · refine lv_iload_n hx hb dX0_receive_0 rfl (lv_at hl 2 rfl) ?_
    refine lv_if_lt (tgt := 16) hx hb dX0_receive_1 (by decide) (fun h0 => ?_) (fun h0 => ?_)
    · refine lv_iconst (v := (bI false)) hx hb dX0_receive_16 (by decide) ?_
      exact hk _ _ _ _ ⟨rfl, rfl, rfl, false, rfl, (fun h => by cases h), fun _ => cwIx_neg h0⟩
    · refine lv_iload_n hx hb dX0_receive_4 rfl (lv_at hl 2 rfl) ?_
      refine lv_aload_n hx hb dX0_receive_5 rfl (lv_at hl 0 rfl) ?_
      refine cwX_get hx hb hts hown hK hP 0 rfl 3 (by decide) q26 rfl dX0_receive_6 ?_
      refine lv_icmp_ge (tgt := 16) hx hb dX0_receive_9 (by decide) (fun h1 => ?_) (fun h1 => ?_)
      · refine lv_iconst (v := (bI false)) hx hb dX0_receive_16 (by decide) ?_
        exact hk _ _ _ _ ⟨rfl, rfl, rfl, false, rfl, (fun h => by cases h), fun _ => cwIx_ge (by omega) h1⟩
      · refine lv_iconst (v := (bI true)) hx hb dX0_receive_12 (by decide) ?_
        refine lv_goto (tgt := 17) hx hb dX0_receive_13 (by decide) ?_
        exact hk _ _ _ _ ⟨rfl, rfl, rfl, true, rfl, fun _ => cwIx_of (by omega) h0 h1, fun h => by cases h⟩
end
section
/-! CutWatchModel: the events, and the questions without loops -/
set_option maxHeartbeats 4000000 in
set_option maxRecDepth 100000 in
/-- bad -/
theorem mY_bad (l : Launch) (D : va_G) (x : Int32) : cwMi l yX1_bad cX1_bad 1 (some .boolean) 0 0 D vwCl ([]) [.int x] ([]) (fun r (_ : Unit) => (r = 0 ∧ ∃ j, j < 3 ∧ x = nI j) ∨ (r = 1 ∧ cwIx x 3 = 3)) ((fun _ => [])) := by
  refine cw_met ([(0, .int x)]) (by decide) (Nat.le_of_ble_eq_true rfl) rfl ?_
  intro p e s m below meth c A ls hx hb hr hlocks hml hown hts hA hP hK hD hS hl
  have hown : s.vm.findClass RX1 = some m.cls := hown
  refine lv_iload_n hx hb dX1_bad_0 rfl (lv_at hl 0 rfl) ?_
  refine lv_if_lt (tgt := 9) hx hb dX1_bad_1 (by decide) (fun h0 => ?_) (fun h0 => ?_)
  · refine lv_iconst (v := 1) hx hb dX1_bad_9 (by decide) ?_
    refine lv_goto (tgt := 14) hx hb dX1_bad_10 (by decide) ?_
    exact cw_zret hx hb hr hlocks rfl () (Or.inr ⟨rfl, cwIx_neg h0⟩) hP hK hD hS dX1_bad_14
  · refine lv_iload_n hx hb dX1_bad_4 rfl (lv_at hl 0 rfl) ?_
    refine lv_iconst (v := (nI 2)) hx hb dX1_bad_5 (by decide) ?_
    refine lv_icmp_le (tgt := 13) hx hb dX1_bad_6 (by decide) (fun h1 => ?_) (fun h1 => ?_)
    · refine lv_iconst (v := 0) hx hb dX1_bad_13 (by decide) ?_
      exact cw_zret hx hb hr hlocks rfl () (Or.inl ⟨rfl, cwIx_of' (by decide) h0 (cw_le_nlt h1)⟩) hP hK hD hS dX1_bad_14
    · refine lv_iconst (v := 1) hx hb dX1_bad_9 (by decide) ?_
      refine lv_goto (tgt := 14) hx hb dX1_bad_10 (by decide) ?_
      exact cw_zret hx hb hr hlocks rfl () (Or.inr ⟨rfl, cwIx_gt (by decide) (cw_nle h1)⟩) hP hK hD hS dX1_bad_14
set_option maxHeartbeats 4000000 in
set_option maxRecDepth 100000 in
/-- event: one event more -/
theorem mY_event (l : Launch) (dC : Nat → ClassId) (dI : Nat → Nat → Nat) (d : Nat → ClassId) (h : Nat) (a : Nat → Nat) (S : WSt) (av : Nat → Bool) (P : Nat) (b : Bool) (hP3 : P < 3) (h8 : sC S P < 8) : cwMv l yX1_event cX1_event 5 0 0 (dC, dI) vwCl (YT d) [.ref h, .int (nI P), .int (bI b)] (YS d h a S av) (fun (_ : Unit) => True) (fun _ => YS d h a (cwAdv S P b) av) := by
  refine cw_metv ([(0, .ref h), (1, .int (nI P)), (2, .int (bI b))]) (by decide) (Nat.le_of_ble_eq_true rfl) rfl ?_
  intro p e s m below meth c A ls hx hb hr hlocks hml hown hts hA hP hK hD hS hl
  have hown : s.vm.findClass RX1 = some m.cls := hown
  refine lv_aload_n hx hb dX1_event_0 rfl (lv_at hl 0 rfl) ?_
  refine cwY_get hx hb hts hown hK hP 0 rfl 0 (by decide) q137 rfl dX1_event_1 ?_
  refine lv_iload_n hx hb dX1_event_4 rfl (lv_at hl 1 rfl) ?_
  refine lv_dup2_11 hx hb dX1_event_5 rfl rfl ?_
  refine cw_iald hx hb hK hP 1 0 rfl rfl (by omega) (by omega) dX1_event_6 ?_
  refine lv_iconst (v := (nI 1)) hx hb dX1_event_7 (by decide) ?_
  refine cw_iadd hx hb dX1_event_8 ?_
  refine cw_iast hx hb hK hP hD hS 1 0 rfl rfl (by omega) (by omega) dX1_event_9 (fun H locs hP hD hS => ?_)
  have hP : va_P (dC, dI) vwCl (YW d h a (va_up (sC S) P ((sC S P) + 1)) (sG S) (sK S) (sM S) (sD S) (sI S) (sR S) av) H := hP
  have hD : va_D A (YW d h a (va_up (sC S) P ((sC S P) + 1)) (sG S) (sK S) (sM S) (sD S) (sI S) (sR S) av) := hD
  refine lv_aload_n hx hb dX1_event_10 rfl (lv_at hl 0 rfl) ?_
  refine cwY_get hx hb hts hown hK hP 0 rfl 0 (by decide) q137 rfl dX1_event_11 ?_
  refine lv_iload_n hx hb dX1_event_14 rfl (lv_at hl 1 rfl) ?_
  refine cw_iald hx hb hK hP 1 0 rfl rfl (by omega) (by omega) dX1_event_15 ?_
  refine cw_nat (b := sC S P + 1) (va_up_self _ _ _) ?_
  refine lv_istore_n (lv' := [(3, .int (nI (sC S P + 1))), (0, .ref h), (1, .int (nI P)), (2, .int (bI b))]) hx hb dX1_event_16 rfl hl (by decide) rfl (fun ls hl => ?_)
  refine lv_aload_n hx hb dX1_event_17 rfl (lv_at hl 1 rfl) ?_
  refine cwY_get hx hb hts hown hK hP 0 rfl 1 (by decide) q138 rfl dX1_event_18 ?_
  refine lv_bipush (v := (nI 9)) hx hb dX1_event_21 (by decide) ?_
  refine lv_iload_n hx hb dX1_event_23 rfl (lv_at hl 2 rfl) ?_
  refine cw_imul hx hb dX1_event_24 ?_
  refine lv_iload_n hx hb dX1_event_25 rfl (lv_at hl 0 rfl) ?_
  refine cw_iadd hx hb dX1_event_26 ?_
  refine lv_iload_n hx hb dX1_event_27 rfl (lv_at hl 3 rfl) ?_
  refine cw_zast hx hb hK hP hD hS 2 1 rfl rfl (by omega) (by omega) dX1_event_28 (fun H locs hP hD hS => ?_)
  have hP : va_P (dC, dI) vwCl (YW d h a (va_up (sC S) P ((sC S P) + 1)) (va_up (sG S) ((9 * P) + (sC S P + 1)) b) (sK S) (sM S) (sD S) (sI S) (sR S) av) H := hP
  have hD : va_D A (YW d h a (va_up (sC S) P ((sC S P) + 1)) (va_up (sG S) ((9 * P) + (sC S P + 1)) b) (sK S) (sM S) (sD S) (sI S) (sR S) av) := hD
  refine lv_iconst (v := (nI 0)) hx hb dX1_event_29 (by decide) ?_
  refine lv_istore (lv' := [(4, .int (nI 0)), (3, .int (nI (sC S P + 1))), (0, .ref h), (1, .int (nI P)), (2, .int (bI b))]) hx hb dX1_event_30 hl (by decide) rfl (fun ls hl => ?_)
  have e_k : (sK S) = cwCp (sK S) (27 * P + 3 * (sC S P + 1)) 0 := (cwCp_0 _ _).symm
  rw [e_k] at hP hD
  clear e_k
  refine cw_loop (head := 32) (I := fun n H locs ls => ∃ q, q ≤ 3 ∧ n = 3 - q ∧ va_P (dC, dI) vwCl (YW d h a (va_up (sC S) P ((sC S P) + 1)) (va_up (sG S) ((9 * P) + (sC S P + 1)) b) (cwCp (sK S) (27 * P + 3 * (sC S P + 1)) q) (sM S) (sD S) (sI S) (sR S) av) H ∧ va_D A (YW d h a (va_up (sC S) P ((sC S P) + 1)) (va_up (sG S) ((9 * P) + (sC S P + 1)) b) (cwCp (sK S) (27 * P + 3 * (sC S P + 1)) q) (sM S) (sD S) (sI S) (sR S) av) ∧ va_S A s.heap H locs ∧ lv_has ls 5 [(4, .int (nI q)), (3, .int (nI (sC S P + 1))), (0, .ref h), (1, .int (nI P)), (2, .int (bI b))]) ?_ 3 ⟨0, by omega, rfl, hP, hD, hS, hl⟩
  intro n H locs ls ⟨q, hq, hn, hP, hD, hS, hl⟩ ih
  refine lv_iload hx hb dX1_event_32 (lv_at hl 0 rfl) ?_
  refine lv_iconst (v := (nI 3)) hx hb dX1_event_34 (by decide) ?_
  refine cw_ge (tgt := 78) hx hb (by omega) (by omega) dX1_event_35 (by decide) (fun h3 => ?_) (fun h3 => ?_)
  · have e3 : q = 3 := by omega
    subst e3
    refine lv_aload_n hx hb dX1_event_78 rfl (lv_at hl 2 rfl) ?_
    refine cwY_get hx hb hts hown hK hP 0 rfl 2 (by decide) q139 rfl dX1_event_79 ?_
    refine lv_bipush (v := (nI 27)) hx hb dX1_event_82 (by decide) ?_
    refine lv_iload_n hx hb dX1_event_84 rfl (lv_at hl 3 rfl) ?_
    refine cw_imul hx hb dX1_event_85 ?_
    refine lv_iconst (v := (nI 3)) hx hb dX1_event_86 (by decide) ?_
    refine lv_iload_n hx hb dX1_event_87 rfl (lv_at hl 1 rfl) ?_
    refine cw_imul hx hb dX1_event_88 ?_
    refine cw_iadd hx hb dX1_event_89 ?_
    refine lv_iload_n hx hb dX1_event_90 rfl (lv_at hl 3 rfl) ?_
    refine cw_iadd hx hb dX1_event_91 ?_
    refine lv_iload_n hx hb dX1_event_92 rfl (lv_at hl 1 rfl) ?_
    refine cw_iast hx hb hK hP hD hS 3 2 rfl rfl (by omega) (by omega) dX1_event_93 (fun H locs hP hD hS => ?_)
    have hP : va_P (dC, dI) vwCl (YW d h a (va_up (sC S) P ((sC S P) + 1)) (va_up (sG S) ((9 * P) + (sC S P + 1)) b) (va_up (cwCp (sK S) (27 * P + 3 * (sC S P + 1)) 3) (((27 * P) + (3 * (sC S P + 1))) + P) (sC S P + 1)) (sM S) (sD S) (sI S) (sR S) av) H := hP
    have hD : va_D A (YW d h a (va_up (sC S) P ((sC S P) + 1)) (va_up (sG S) ((9 * P) + (sC S P + 1)) b) (va_up (cwCp (sK S) (27 * P + 3 * (sC S P + 1)) 3) (((27 * P) + (3 * (sC S P + 1))) + P) (sC S P + 1)) (sM S) (sD S) (sI S) (sR S) av) := hD
    exact cw_vret hx hb hr hlocks () (trivial) hP hK hD hS dX1_event_94
  · refine lv_aload_n hx hb dX1_event_38 rfl (lv_at hl 2 rfl) ?_
    refine cwY_get hx hb hts hown hK hP 0 rfl 2 (by decide) q139 rfl dX1_event_39 ?_
    refine lv_bipush (v := (nI 27)) hx hb dX1_event_42 (by decide) ?_
    refine lv_iload_n hx hb dX1_event_44 rfl (lv_at hl 3 rfl) ?_
    refine cw_imul hx hb dX1_event_45 ?_
    refine lv_iconst (v := (nI 3)) hx hb dX1_event_46 (by decide) ?_
    refine lv_iload_n hx hb dX1_event_47 rfl (lv_at hl 1 rfl) ?_
    refine cw_imul hx hb dX1_event_48 ?_
    refine cw_iadd hx hb dX1_event_49 ?_
    refine lv_iload hx hb dX1_event_50 (lv_at hl 0 rfl) ?_
    refine cw_iadd hx hb dX1_event_52 ?_
    refine lv_aload_n hx hb dX1_event_53 rfl (lv_at hl 2 rfl) ?_
    refine cwY_get hx hb hts hown hK hP 0 rfl 2 (by decide) q139 rfl dX1_event_54 ?_
    refine lv_bipush (v := (nI 27)) hx hb dX1_event_57 (by decide) ?_
    refine lv_iload_n hx hb dX1_event_59 rfl (lv_at hl 3 rfl) ?_
    refine cw_imul hx hb dX1_event_60 ?_
    refine lv_iconst (v := (nI 3)) hx hb dX1_event_61 (by decide) ?_
    refine lv_iload_n hx hb dX1_event_62 rfl (lv_at hl 1 rfl) ?_
    refine lv_iconst (v := (nI 1)) hx hb dX1_event_63 (by decide) ?_
    refine cw_isub hx hb (by omega) dX1_event_64 ?_
    refine cw_imul hx hb dX1_event_65 ?_
    refine cw_iadd hx hb dX1_event_66 ?_
    refine lv_iload hx hb dX1_event_67 (lv_at hl 0 rfl) ?_
    refine cw_iadd hx hb dX1_event_69 ?_
    refine cw_iald hx hb hK hP 3 2 rfl rfl (by omega) (by omega) dX1_event_70 ?_
    refine cw_iast hx hb hK hP hD hS 3 2 rfl rfl (by omega) (by omega) dX1_event_71 (fun H locs hP hD hS => ?_)
    have hP : va_P (dC, dI) vwCl (YW d h a (va_up (sC S) P ((sC S P) + 1)) (va_up (sG S) ((9 * P) + (sC S P + 1)) b) (va_up (cwCp (sK S) (27 * P + 3 * (sC S P + 1)) q) (((27 * P) + (3 * (sC S P + 1))) + q) (cwCp (sK S) (27 * P + 3 * (sC S P + 1)) q (((27 * P) + (3 * ((sC S P + 1) - 1))) + q))) (sM S) (sD S) (sI S) (sR S) av) H := hP
    have hD : va_D A (YW d h a (va_up (sC S) P ((sC S P) + 1)) (va_up (sG S) ((9 * P) + (sC S P + 1)) b) (va_up (cwCp (sK S) (27 * P + 3 * (sC S P + 1)) q) (((27 * P) + (3 * (sC S P + 1))) + q) (cwCp (sK S) (27 * P + 3 * (sC S P + 1)) q (((27 * P) + (3 * ((sC S P + 1) - 1))) + q))) (sM S) (sD S) (sI S) (sR S) av) := hD
    have e_k : (va_up (cwCp (sK S) (27 * P + 3 * (sC S P + 1)) q) (((27 * P) + (3 * (sC S P + 1))) + q) (cwCp (sK S) (27 * P + 3 * (sC S P + 1)) q (((27 * P) + (3 * ((sC S P + 1) - 1))) + q))) = cwCp (sK S) (27 * P + 3 * (sC S P + 1)) (q + 1) := cwCp_s (by omega) h3 (by omega)
    rw [e_k] at hP hD
    clear e_k
    refine lv_iinc (v := nI (q + 1)) (lv' := [(4, .int (nI (q + 1))), (3, .int (nI (sC S P + 1))), (0, .ref h), (1, .int (nI P)), (2, .int (bI b))]) hx hb dX1_event_72 hl (k := 0) rfl (nI_1 _) (by decide) rfl (fun ls hl => ?_)
    refine lv_goto (tgt := 32) hx hb dX1_event_75 (by decide) ?_
    exact ih (3 - (q + 1)) _ _ _ (by omega) ⟨q + 1, by omega, rfl, hP, hD, hS, hl⟩
set_option maxHeartbeats 4000000 in
set_option maxRecDepth 100000 in
/-- start -/
theorem mY_start (l : Launch) (dC : Nat → ClassId) (dI : Nat → Nat → Nat) (d : Nat → ClassId) (h : Nat) (a : Nat → Nat) (S : WSt) (av : Nat → Bool) (x : Int32) (b : Bool) : cwMi l yX1_start cX1_start 3 (some .int) 1 20 (dC, dI) vwCl (YT d) [.ref h, .int x, .int (bI b)] (YS d h a S av) (fun r (_ : Unit) => r = (cwStart S (cwIx x 3) b).1) (fun _ => YS d h a (cwStart S (cwIx x 3) b).2 av) := by
  refine cw_met ([(0, .ref h), (1, .int x), (2, .int (bI b))]) (by decide) (Nat.le_of_ble_eq_true rfl) rfl ?_
  intro p e s m below meth c A ls hx hb hr hlocks hml hown hts hA hP hK hD hS hl
  have hown : s.vm.findClass RX1 = some m.cls := hown
  refine lv_iload_n hx hb dX1_start_0 rfl (lv_at hl 1 rfl) ?_
  refine cw_callS (n := 1) (As := [.int x]) (rest := []) ⟨hx, hb, hml, hown, hts⟩ (mY_bad l (dC, dI) x) (lw_S q166 q167 q14 q168) (by decide +kernel) rfl ⟨Nat.le_of_ble_eq_true rfl, Nat.le_of_ble_eq_true rfl⟩ ⟨Nat.le_refl _, Nat.le_refl _⟩ hK hP hD hS hA hl.1 rfl (Nat.le_of_ble_eq_true rfl) dX1_start_1 (fun r H locs hpost hP hS => ?_)
  rcases hpost with ⟨rfl, P, hP3, rfl⟩ | ⟨rfl, hjx⟩
  · refine lv_if_eq (tgt := 9) hx hb dX1_start_4 (by decide) (fun _ => ?_) (fun h => absurd h (by decide))
    refine lv_aload_n hx hb dX1_start_9 rfl (lv_at hl 0 rfl) ?_
    refine cwY_get hx hb hts hown hK hP 0 rfl 1 (by decide) q138 rfl dX1_start_10 ?_
    refine lv_bipush (v := (nI 9)) hx hb dX1_start_13 (by decide) ?_
    refine lv_iload_n hx hb dX1_start_15 rfl (lv_at hl 1 rfl) ?_
    refine cw_imul hx hb dX1_start_16 ?_
    refine lv_iload_n hx hb dX1_start_17 rfl (lv_at hl 2 rfl) ?_
    refine cw_zast hx hb hK hP hD hS 2 1 rfl rfl (by omega) (by omega) dX1_start_18 (fun H locs hP hD hS => ?_)
    have hP : va_P (dC, dI) vwCl (YW d h a (sC S) (va_up (sG S) (9 * P) b) (sK S) (sM S) (sD S) (sI S) (sR S) av) H := hP
    have hD : va_D A (YW d h a (sC S) (va_up (sG S) (9 * P) b) (sK S) (sM S) (sD S) (sI S) (sR S) av) := hD
    refine lv_iconst (v := (nI 0)) hx hb dX1_start_19 (by decide) ?_
    have e_ : cwStart S (cwIx (nI P) 3) b = (0, (sC S, va_up (sG S) (9 * P) b, S.2.2)) := by
      unfold cwStart
      rw [cwIx_nI hP3 (by decide), if_pos hP3]
    rw [e_]
    exact cw_iret hx hb hr hlocks () (rfl) hP hK hD hS dX1_start_20
  · refine lv_if_eq (tgt := 9) hx hb dX1_start_4 (by decide) (fun h => absurd h (by decide)) (fun _ => ?_)
    refine lv_iconst (v := (-1)) hx hb dX1_start_7 (by decide) ?_
    have e_ : cwStart S (cwIx x 3) b = (-1, S) := by
      unfold cwStart
      rw [hjx, if_neg (by omega)]
    rw [e_]
    exact cw_iret hx hb hr hlocks () (rfl) hP hK hD hS dX1_start_8
set_option maxHeartbeats 4000000 in
set_option maxRecDepth 100000 in
/-- step -/
theorem mY_step (l : Launch) (dC : Nat → ClassId) (dI : Nat → Nat → Nat) (d : Nat → ClassId) (h : Nat) (a : Nat → Nat) (S : WSt) (av : Nat → Bool) (hO : cwOk S) (x : Int32) (b : Bool) : cwMi l yX1_step cX1_step 3 (some .int) 1 24 (dC, dI) vwCl (YT d) [.ref h, .int x, .int (bI b)] (YS d h a S av) (fun r (_ : Unit) => r = (cwStep S (cwIx x 3) b).1) (fun _ => YS d h a (cwStep S (cwIx x 3) b).2 av) := by
  refine cw_met ([(0, .ref h), (1, .int x), (2, .int (bI b))]) (by decide) (Nat.le_of_ble_eq_true rfl) rfl ?_
  intro p e s m below meth c A ls hx hb hr hlocks hml hown hts hA hP hK hD hS hl
  have hown : s.vm.findClass RX1 = some m.cls := hown
  have hV := hO.1
  refine lv_iload_n hx hb dX1_step_0 rfl (lv_at hl 1 rfl) ?_
  refine cw_callS (n := 1) (As := [.int x]) (rest := []) ⟨hx, hb, hml, hown, hts⟩ (mY_bad l (dC, dI) x) (lw_S q166 q167 q14 q168) (by decide +kernel) rfl ⟨Nat.le_of_ble_eq_true rfl, Nat.le_of_ble_eq_true rfl⟩ ⟨Nat.le_refl _, Nat.le_refl _⟩ hK hP hD hS hA hl.1 rfl (Nat.le_of_ble_eq_true rfl) dX1_step_1 (fun r H locs hpost hP hS => ?_)
  rcases hpost with ⟨rfl, P, hP3, rfl⟩ | ⟨rfl, hjx⟩
  · have hc8 := hV.1 P hP3
    refine lv_if_ne (tgt := 18) hx hb dX1_step_4 (by decide) (fun h => absurd h (by decide)) (fun _ => ?_)
    refine lv_aload_n hx hb dX1_step_7 rfl (lv_at hl 0 rfl) ?_
    refine cwY_get hx hb hts hown hK hP 0 rfl 0 (by decide) q137 rfl dX1_step_8 ?_
    refine lv_iload_n hx hb dX1_step_11 rfl (lv_at hl 1 rfl) ?_
    refine cw_iald hx hb hK hP 1 0 rfl rfl (by omega) (by omega) dX1_step_12 ?_
    refine lv_bipush (v := (nI 8)) hx hb dX1_step_13 (by decide) ?_
    refine cw_ne (tgt := 20) hx hb (by omega) (by omega) dX1_step_15 (by decide) (fun h8 => ?_) (fun h8 => ?_)
    · have h8 : sC S P < 8 := by omega
      refine lv_aload_n hx hb dX1_step_20 rfl (lv_at hl 0 rfl) ?_
      refine lv_iload_n hx hb dX1_step_21 rfl (lv_at hl 1 rfl) ?_
      refine lv_iload_n hx hb dX1_step_22 rfl (lv_at hl 2 rfl) ?_
      refine cw_callVv (n := 2) (C := RX1) (As := [.int (nI P), .int (bI b)]) (rest := []) (wr := []) ⟨hx, hb, hml, hown, hts⟩ (mY_event l dC dI d h a S av P b hP3 h8) (lw_V q173 q175 qs8 q14 q176) (by decide +kernel) rfl ⟨Nat.le_of_ble_eq_true rfl, Nat.le_of_ble_eq_true rfl⟩ ⟨Nat.le_refl _, Nat.le_refl _⟩ hK hP hD hS hA [0, 1, 2, 3, 4, 5, 6, 7] [] rfl rfl rfl (by decide) (by decide) (by decide) rfl rfl rfl hl.1 rfl (Nat.le_of_ble_eq_true rfl) dX1_step_23 (fun uu H locs hpost hP hD hS => ?_)
      have hP : va_P (dC, dI) vwCl (YW d h a (va_up (sC S) P (sC S P + 1)) (va_up (sG S) (9 * P + (sC S P + 1)) b) (cwAk (sK S) P (sC S P + 1)) (sM S) (sD S) (sI S) (sR S) av) H := hP
      have hD : va_D A (YW d h a (va_up (sC S) P (sC S P + 1)) (va_up (sG S) (9 * P + (sC S P + 1)) b) (cwAk (sK S) P (sC S P + 1)) (sM S) (sD S) (sI S) (sR S) av) := hD
      refine lv_aload_n hx hb dX1_step_26 rfl (lv_at hl 0 rfl) ?_
      refine cwY_get hx hb hts hown hK hP 0 rfl 0 (by decide) q137 rfl dX1_step_27 ?_
      refine lv_iload_n hx hb dX1_step_30 rfl (lv_at hl 1 rfl) ?_
      refine cw_iald hx hb hK hP 1 0 rfl rfl (by omega) (by omega) dX1_step_31 ?_
      refine cw_nat (b := sC S P + 1) (va_up_self _ _ _) ?_
      have e_ : cwStep S (cwIx (nI P) 3) b = (nI (sC S P + 1), cwAdv S P b) := by
        unfold cwStep
        rw [cwIx_nI hP3 (by decide), if_pos ⟨hP3, h8⟩]
      rw [e_]
      exact cw_iret hx hb hr hlocks () (rfl) hP hK hD hS dX1_step_32
    · refine lv_iconst (v := (-1)) hx hb dX1_step_18 (by decide) ?_
      have e_ : cwStep S (cwIx (nI P) 3) b = (-1, S) := by
        unfold cwStep
        rw [cwIx_nI hP3 (by decide), if_neg (by omega)]
      rw [e_]
      exact cw_iret hx hb hr hlocks () (rfl) hP hK hD hS dX1_step_19
  · refine lv_if_ne (tgt := 18) hx hb dX1_step_4 (by decide) (fun _ => ?_) (fun h => absurd h (by decide))
    refine lv_iconst (v := (-1)) hx hb dX1_step_18 (by decide) ?_
    have e_ : cwStep S (cwIx x 3) b = (-1, S) := by
      unfold cwStep
      rw [hjx, if_neg (by omega)]
    rw [e_]
    exact cw_iret hx hb hr hlocks () (rfl) hP hK hD hS dX1_step_19
set_option maxHeartbeats 4000000 in
set_option maxRecDepth 100000 in
/-- send -/
theorem mY_send (l : Launch) (dC : Nat → ClassId) (dI : Nat → Nat → Nat) (d : Nat → ClassId) (h : Nat) (a : Nat → Nat) (S : WSt) (av : Nat → Bool) (hO : cwOk S) (x : Int32) (b : Bool) : cwMi l yX1_send cX1_send 3 (some .int) 1 24 (dC, dI) vwCl (YT d) [.ref h, .int x, .int (bI b)] (YS d h a S av) (fun r (_ : Unit) => r = (cwSend S (cwIx x 3) b).1) (fun _ => YS d h a (cwSend S (cwIx x 3) b).2 av) := by
  refine cw_met ([(0, .ref h), (1, .int x), (2, .int (bI b))]) (by decide) (Nat.le_of_ble_eq_true rfl) rfl ?_
  intro p e s m below meth c A ls hx hb hr hlocks hml hown hts hA hP hK hD hS hl
  have hown : s.vm.findClass RX1 = some m.cls := hown
  have hV := hO.1
  refine lv_iload_n hx hb dX1_send_0 rfl (lv_at hl 1 rfl) ?_
  refine cw_callS (n := 1) (As := [.int x]) (rest := []) ⟨hx, hb, hml, hown, hts⟩ (mY_bad l (dC, dI) x) (lw_S q166 q167 q14 q168) (by decide +kernel) rfl ⟨Nat.le_of_ble_eq_true rfl, Nat.le_of_ble_eq_true rfl⟩ ⟨Nat.le_refl _, Nat.le_refl _⟩ hK hP hD hS hA hl.1 rfl (Nat.le_of_ble_eq_true rfl) dX1_send_1 (fun r H locs hpost hP hS => ?_)
  rcases hpost with ⟨rfl, P, hP3, rfl⟩ | ⟨rfl, hjx⟩
  · have hc8 := hV.1 P hP3
    refine lv_if_ne (tgt := 18) hx hb dX1_send_4 (by decide) (fun h => absurd h (by decide)) (fun _ => ?_)
    refine lv_aload_n hx hb dX1_send_7 rfl (lv_at hl 0 rfl) ?_
    refine cwY_get hx hb hts hown hK hP 0 rfl 0 (by decide) q137 rfl dX1_send_8 ?_
    refine lv_iload_n hx hb dX1_send_11 rfl (lv_at hl 1 rfl) ?_
    refine cw_iald hx hb hK hP 1 0 rfl rfl (by omega) (by omega) dX1_send_12 ?_
    refine lv_bipush (v := (nI 8)) hx hb dX1_send_13 (by decide) ?_
    refine cw_ne (tgt := 20) hx hb (by omega) (by omega) dX1_send_15 (by decide) (fun h8 => ?_) (fun h8 => ?_)
    · have h8 : sC S P < 8 := by omega
      refine lv_aload_n hx hb dX1_send_20 rfl (lv_at hl 0 rfl) ?_
      refine lv_iload_n hx hb dX1_send_21 rfl (lv_at hl 1 rfl) ?_
      refine lv_iload_n hx hb dX1_send_22 rfl (lv_at hl 2 rfl) ?_
      refine cw_callVv (n := 2) (C := RX1) (As := [.int (nI P), .int (bI b)]) (rest := []) (wr := []) ⟨hx, hb, hml, hown, hts⟩ (mY_event l dC dI d h a S av P b hP3 h8) (lw_V q173 q175 qs8 q14 q176) (by decide +kernel) rfl ⟨Nat.le_of_ble_eq_true rfl, Nat.le_of_ble_eq_true rfl⟩ ⟨Nat.le_refl _, Nat.le_refl _⟩ hK hP hD hS hA [0, 1, 2, 3, 4, 5, 6, 7] [] rfl rfl rfl (by decide) (by decide) (by decide) rfl rfl rfl hl.1 rfl (Nat.le_of_ble_eq_true rfl) dX1_send_23 (fun uu H locs hpost hP hD hS => ?_)
      have hP : va_P (dC, dI) vwCl (YW d h a (va_up (sC S) P (sC S P + 1)) (va_up (sG S) (9 * P + (sC S P + 1)) b) (cwAk (sK S) P (sC S P + 1)) (sM S) (sD S) (sI S) (sR S) av) H := hP
      have hD : va_D A (YW d h a (va_up (sC S) P (sC S P + 1)) (va_up (sG S) (9 * P + (sC S P + 1)) b) (cwAk (sK S) P (sC S P + 1)) (sM S) (sD S) (sI S) (sR S) av) := hD
      have hm := cw_msg hO hP3 h8
      refine lv_aload_n hx hb dX1_send_26 rfl (lv_at hl 0 rfl) ?_
      refine cwY_get hx hb hts hown hK hP 0 rfl 4 (by decide) q141 rfl dX1_send_27 ?_
      refine lv_aload_n hx hb dX1_send_30 rfl (lv_at hl 0 rfl) ?_
      refine cwY_get hx hb hts hown hK hP 0 rfl 3 (by decide) q140 rfl dX1_send_31 ?_
      refine lv_iload_n hx hb dX1_send_34 rfl (lv_at hl 1 rfl) ?_
      refine cw_iast hx hb hK hP hD hS 4 3 rfl rfl (by omega) (by omega) dX1_send_35 (fun H locs hP hD hS => ?_)
      have hP : va_P (dC, dI) vwCl (YW d h a (va_up (sC S) P (sC S P + 1)) (va_up (sG S) (9 * P + (sC S P + 1)) b) (cwAk (sK S) P (sC S P + 1)) (sM S) (va_up (sD S) (sM S) P) (sI S) (sR S) av) H := hP
      have hD : va_D A (YW d h a (va_up (sC S) P (sC S P + 1)) (va_up (sG S) (9 * P + (sC S P + 1)) b) (cwAk (sK S) P (sC S P + 1)) (sM S) (va_up (sD S) (sM S) P) (sI S) (sR S) av) := hD
      refine lv_aload_n hx hb dX1_send_36 rfl (lv_at hl 0 rfl) ?_
      refine cwY_get hx hb hts hown hK hP 0 rfl 5 (by decide) q142 rfl dX1_send_37 ?_
      refine lv_aload_n hx hb dX1_send_40 rfl (lv_at hl 0 rfl) ?_
      refine cwY_get hx hb hts hown hK hP 0 rfl 3 (by decide) q140 rfl dX1_send_41 ?_
      refine lv_aload_n hx hb dX1_send_44 rfl (lv_at hl 0 rfl) ?_
      refine cwY_get hx hb hts hown hK hP 0 rfl 0 (by decide) q137 rfl dX1_send_45 ?_
      refine lv_iload_n hx hb dX1_send_48 rfl (lv_at hl 1 rfl) ?_
      refine cw_iald hx hb hK hP 1 0 rfl rfl (by omega) (by omega) dX1_send_49 ?_
      refine cw_nat (b := sC S P + 1) (va_up_self _ _ _) ?_
      refine cw_iast hx hb hK hP hD hS 5 4 rfl rfl (by omega) (by omega) dX1_send_50 (fun H locs hP hD hS => ?_)
      have hP : va_P (dC, dI) vwCl (YW d h a (va_up (sC S) P (sC S P + 1)) (va_up (sG S) (9 * P + (sC S P + 1)) b) (cwAk (sK S) P (sC S P + 1)) (sM S) (va_up (sD S) (sM S) P) (va_up (sI S) (sM S) (sC S P + 1)) (sR S) av) H := hP
      have hD : va_D A (YW d h a (va_up (sC S) P (sC S P + 1)) (va_up (sG S) (9 * P + (sC S P + 1)) b) (cwAk (sK S) P (sC S P + 1)) (sM S) (va_up (sD S) (sM S) P) (va_up (sI S) (sM S) (sC S P + 1)) (sR S) av) := hD
      refine lv_aload_n hx hb dX1_send_51 rfl (lv_at hl 0 rfl) ?_
      refine lv_dup hx hb dX1_send_52 rfl ?_
      refine cwY_get hx hb hts hown hK hP 0 rfl 3 (by decide) q140 rfl dX1_send_53 ?_
      refine lv_iconst (v := (nI 1)) hx hb dX1_send_56 (by decide) ?_
      refine cw_iadd hx hb dX1_send_57 ?_
      refine cwY_putM hx hb hts hown hK hP hD hS 0 rfl q140 (Nat.le_of_ble_eq_true rfl) dX1_send_58 (fun H locs hP hD hS => ?_)
      have hP : va_P (dC, dI) vwCl (YW d h a (va_up (sC S) P (sC S P + 1)) (va_up (sG S) (9 * P + (sC S P + 1)) b) (cwAk (sK S) P (sC S P + 1)) ((sM S) + 1) (va_up (sD S) (sM S) P) (va_up (sI S) (sM S) (sC S P + 1)) (sR S) av) H := hP
      have hD : va_D A (YW d h a (va_up (sC S) P (sC S P + 1)) (va_up (sG S) (9 * P + (sC S P + 1)) b) (cwAk (sK S) P (sC S P + 1)) ((sM S) + 1) (va_up (sD S) (sM S) P) (va_up (sI S) (sM S) (sC S P + 1)) (sR S) av) := hD
      refine lv_aload_n hx hb dX1_send_61 rfl (lv_at hl 0 rfl) ?_
      refine cwY_get hx hb hts hown hK hP 0 rfl 3 (by decide) q140 rfl dX1_send_62 ?_
      refine lv_iconst (v := (nI 1)) hx hb dX1_send_65 (by decide) ?_
      refine cw_isub hx hb (by omega) dX1_send_66 ?_
      refine cw_nat (b := sM S) (by omega) ?_
      have e_ : cwSend S (cwIx (nI P) 3) b = (nI (sM S), cwSnd S P b) := by
        unfold cwSend
        rw [cwIx_nI hP3 (by decide), if_pos ⟨hP3, h8⟩]
      rw [e_]
      exact cw_iret hx hb hr hlocks () (rfl) hP hK hD hS dX1_send_67
    · refine lv_iconst (v := (-1)) hx hb dX1_send_18 (by decide) ?_
      have e_ : cwSend S (cwIx (nI P) 3) b = (-1, S) := by
        unfold cwSend
        rw [cwIx_nI hP3 (by decide), if_neg (by omega)]
      rw [e_]
      exact cw_iret hx hb hr hlocks () (rfl) hP hK hD hS dX1_send_19
  · refine lv_if_ne (tgt := 18) hx hb dX1_send_4 (by decide) (fun _ => ?_) (fun h => absurd h (by decide))
    refine lv_iconst (v := (-1)) hx hb dX1_send_18 (by decide) ?_
    have e_ : cwSend S (cwIx x 3) b = (-1, S) := by
      unfold cwSend
      rw [hjx, if_neg (by omega)]
    rw [e_]
    exact cw_iret hx hb hr hlocks () (rfl) hP hK hD hS dX1_send_19
set_option maxHeartbeats 4000000 in
set_option maxRecDepth 100000 in
/-- knows -/
theorem mY_knows (l : Launch) (dC : Nat → ClassId) (dI : Nat → Nat → Nat) (d : Nat → ClassId) (h : Nat) (a : Nat → Nat) (S : WSt) (av : Nat → Bool) (hO : cwOk S) (x z y : Int32) : cwMi l yX1_knows cX1_knows 4 (some .int) 1 20 (dC, dI) vwCl (YT d) [.ref h, .int x, .int z, .int y] (YS d h a S av) (fun r (_ : Unit) => r = cwKnows S (cwIx x 3) (cwIx z 9) (cwIx y 3)) (fun _ => YS d h a S av) := by
  refine cw_met ([(0, .ref h), (1, .int x), (2, .int z), (3, .int y)]) (by decide) (Nat.le_of_ble_eq_true rfl) rfl ?_
  intro p e s m below meth c A ls hx hb hr hlocks hml hown hts hA hP hK hD hS hl
  have hown : s.vm.findClass RX1 = some m.cls := hown
  have hV := hO.1
  refine lv_iload_n hx hb dX1_knows_0 rfl (lv_at hl 1 rfl) ?_
  refine cw_callS (n := 1) (As := [.int x]) (rest := []) ⟨hx, hb, hml, hown, hts⟩ (mY_bad l (dC, dI) x) (lw_S q166 q167 q14 q168) (by decide +kernel) rfl ⟨Nat.le_of_ble_eq_true rfl, Nat.le_of_ble_eq_true rfl⟩ ⟨Nat.le_refl _, Nat.le_refl _⟩ hK hP hD hS hA hl.1 rfl (Nat.le_of_ble_eq_true rfl) dX1_knows_1 (fun r H locs hpost hP hS => ?_)
  rcases hpost with ⟨rfl, P, hP3, rfl⟩ | ⟨rfl, hjx⟩
  · have hc8 := hV.1 P hP3
    refine lv_if_ne (tgt := 28) hx hb dX1_knows_4 (by decide) (fun h => absurd h (by decide)) (fun _ => ?_)
    refine lv_iload_n hx hb dX1_knows_7 rfl (lv_at hl 3 rfl) ?_
    refine cw_callS (n := 1) (As := [.int y]) (rest := []) ⟨hx, hb, hml, hown, hts⟩ (mY_bad l (dC, dI) y) (lw_S q166 q167 q14 q168) (by decide +kernel) rfl ⟨Nat.le_of_ble_eq_true rfl, Nat.le_of_ble_eq_true rfl⟩ ⟨Nat.le_refl _, Nat.le_refl _⟩ hK hP hD hS hA hl.1 rfl (Nat.le_of_ble_eq_true rfl) dX1_knows_8 (fun r H locs hpost hP hS => ?_)
    rcases hpost with ⟨rfl, Q, hQ3, rfl⟩ | ⟨rfl, hjy⟩
    · refine lv_if_ne (tgt := 28) hx hb dX1_knows_11 (by decide) (fun h => absurd h (by decide)) (fun _ => ?_)
      refine lv_iload_n hx hb dX1_knows_14 rfl (lv_at hl 2 rfl) ?_
      refine lv_if_lt (tgt := 28) hx hb dX1_knows_15 (by decide) (fun h0 => ?_) (fun h0 => ?_)
      · refine lv_iconst (v := (-1)) hx hb dX1_knows_28 (by decide) ?_
        have e_ : cwKnows S (cwIx (nI P) 3) (cwIx z 9) (cwIx (nI Q) 3) = -1 := by
          unfold cwKnows
          rw [cwIx_neg h0, cwIx_nI hP3 (by decide), if_neg (by omega)]
        rw [e_]
        exact cw_iret hx hb hr hlocks () (rfl) hP hK hD hS dX1_knows_29
      · refine lv_iload_n hx hb dX1_knows_18 rfl (lv_at hl 2 rfl) ?_
        refine lv_aload_n hx hb dX1_knows_19 rfl (lv_at hl 0 rfl) ?_
        refine cwY_get hx hb hts hown hK hP 0 rfl 0 (by decide) q137 rfl dX1_knows_20 ?_
        refine lv_iload_n hx hb dX1_knows_23 rfl (lv_at hl 1 rfl) ?_
        refine cw_iald hx hb hK hP 1 0 rfl rfl (by omega) (by omega) dX1_knows_24 ?_
        refine lv_icmp_le (tgt := 30) hx hb dX1_knows_25 (by decide) (fun h1 => ?_) (fun h1 => ?_)
        · obtain ⟨k, hk0, rfl⟩ := nI_of h0
          have hk : k ≤ sC S P := (nI_leI hk0 (by omega)).mp h1
          have e_ : cwKnows S (cwIx (nI P) 3) (cwIx (nI k) 9) (cwIx (nI Q) 3) = nI (sK S (27 * P + 3 * k + Q)) := by
            unfold cwKnows
            rw [cwIx_nI hP3 (by decide), cwIx_nI hQ3 (by decide), cwIx_nI (show k < 9 by omega) (by decide), if_pos ⟨hP3, hQ3, hk⟩]
          rw [e_]
          refine lv_aload_n hx hb dX1_knows_30 rfl (lv_at hl 0 rfl) ?_
          refine cwY_get hx hb hts hown hK hP 0 rfl 2 (by decide) q139 rfl dX1_knows_31 ?_
          refine lv_bipush (v := (nI 27)) hx hb dX1_knows_34 (by decide) ?_
          refine lv_iload_n hx hb dX1_knows_36 rfl (lv_at hl 1 rfl) ?_
          refine cw_imul hx hb dX1_knows_37 ?_
          refine lv_iconst (v := (nI 3)) hx hb dX1_knows_38 (by decide) ?_
          refine lv_iload_n hx hb dX1_knows_39 rfl (lv_at hl 2 rfl) ?_
          refine cw_imul hx hb dX1_knows_40 ?_
          refine cw_iadd hx hb dX1_knows_41 ?_
          refine lv_iload_n hx hb dX1_knows_42 rfl (lv_at hl 3 rfl) ?_
          refine cw_iadd hx hb dX1_knows_43 ?_
          refine cw_iald hx hb hK hP 3 2 rfl rfl (by omega) (by omega) dX1_knows_44 ?_
          exact cw_iret hx hb hr hlocks () (rfl) hP hK hD hS dX1_knows_45
        · refine lv_iconst (v := (-1)) hx hb dX1_knows_28 (by decide) ?_
          have e_ : cwKnows S (cwIx (nI P) 3) (cwIx z 9) (cwIx (nI Q) 3) = -1 := by
            unfold cwKnows
            rw [cwIx_nI hP3 (by decide), if_neg (fun hh => ?_)]
            rcases pk_ix z (n := 9) (by decide) with g | g | ⟨j, g1, rfl⟩
            · exact h0 g
            · rw [cwIx_ge (by decide) g] at hh
              omega
            · rw [cwIx_nI g1 (by decide)] at hh
              exact h1 (nI_le hh.2.2 (by omega))
          rw [e_]
          exact cw_iret hx hb hr hlocks () (rfl) hP hK hD hS dX1_knows_29
    · refine lv_if_ne (tgt := 28) hx hb dX1_knows_11 (by decide) (fun _ => ?_) (fun h => absurd h (by decide))
      refine lv_iconst (v := (-1)) hx hb dX1_knows_28 (by decide) ?_
      have e_ : cwKnows S (cwIx (nI P) 3) (cwIx z 9) (cwIx y 3) = -1 := by
        unfold cwKnows
        rw [hjy, if_neg (by omega)]
      rw [e_]
      exact cw_iret hx hb hr hlocks () (rfl) hP hK hD hS dX1_knows_29
  · refine lv_if_ne (tgt := 28) hx hb dX1_knows_4 (by decide) (fun _ => ?_) (fun h => absurd h (by decide))
    refine lv_iconst (v := (-1)) hx hb dX1_knows_28 (by decide) ?_
    have e_ : cwKnows S (cwIx x 3) (cwIx z 9) (cwIx y 3) = -1 := by
      unfold cwKnows
      rw [hjx, if_neg (by omega)]
    rw [e_]
    exact cw_iret hx hb hr hlocks () (rfl) hP hK hD hS dX1_knows_29
set_option maxHeartbeats 4000000 in
set_option maxRecDepth 100000 in
/-- events -/
theorem mY_events (l : Launch) (dC : Nat → ClassId) (dI : Nat → Nat → Nat) (d : Nat → ClassId) (h : Nat) (a : Nat → Nat) (S : WSt) (av : Nat → Bool) (x : Int32) : cwMi l yX1_events cX1_events 2 (some .int) 1 20 (dC, dI) vwCl (YT d) [.ref h, .int x] (YS d h a S av) (fun r (_ : Unit) => r = cwEvents S (cwIx x 3)) (fun _ => YS d h a S av) := by
  refine cw_met ([(0, .ref h), (1, .int x)]) (by decide) (Nat.le_of_ble_eq_true rfl) rfl ?_
  intro p e s m below meth c A ls hx hb hr hlocks hml hown hts hA hP hK hD hS hl
  have hown : s.vm.findClass RX1 = some m.cls := hown
  refine lv_iload_n hx hb dX1_events_0 rfl (lv_at hl 1 rfl) ?_
  refine cw_callS (n := 1) (As := [.int x]) (rest := []) ⟨hx, hb, hml, hown, hts⟩ (mY_bad l (dC, dI) x) (lw_S q166 q167 q14 q168) (by decide +kernel) rfl ⟨Nat.le_of_ble_eq_true rfl, Nat.le_of_ble_eq_true rfl⟩ ⟨Nat.le_refl _, Nat.le_refl _⟩ hK hP hD hS hA hl.1 rfl (Nat.le_of_ble_eq_true rfl) dX1_events_1 (fun r H locs hpost hP hS => ?_)
  rcases hpost with ⟨rfl, P, hP3, rfl⟩ | ⟨rfl, hjx⟩
  · refine lv_if_eq (tgt := 11) hx hb dX1_events_4 (by decide) (fun _ => ?_) (fun h => absurd h (by decide))
    refine lv_aload_n hx hb dX1_events_11 rfl (lv_at hl 0 rfl) ?_
    refine cwY_get hx hb hts hown hK hP 0 rfl 0 (by decide) q137 rfl dX1_events_12 ?_
    refine lv_iload_n hx hb dX1_events_15 rfl (lv_at hl 1 rfl) ?_
    refine cw_iald hx hb hK hP 1 0 rfl rfl (by omega) (by omega) dX1_events_16 ?_
    have e_ : cwEvents S (cwIx (nI P) 3) = nI (sC S P) := by
      unfold cwEvents
      rw [cwIx_nI hP3 (by decide), if_pos hP3]
    rw [e_]
    exact cw_iret hx hb hr hlocks () (rfl) hP hK hD hS dX1_events_17
  · refine lv_if_eq (tgt := 11) hx hb dX1_events_4 (by decide) (fun h => absurd h (by decide)) (fun _ => ?_)
    refine lv_iconst (v := (-1)) hx hb dX1_events_7 (by decide) ?_
    refine lv_goto (tgt := 17) hx hb dX1_events_8 (by decide) ?_
    have e_ : cwEvents S (cwIx x 3) = -1 := by
      unfold cwEvents
      rw [hjx, if_neg (by omega)]
    rw [e_]
    exact cw_iret hx hb hr hlocks () (rfl) hP hK hD hS dX1_events_17
set_option maxHeartbeats 4000000 in
set_option maxRecDepth 100000 in
/-- receive -/
theorem mY_receive (l : Launch) (dC : Nat → ClassId) (dI : Nat → Nat → Nat) (d : Nat → ClassId) (h : Nat) (a : Nat → Nat) (S : WSt) (av : Nat → Bool) (hO : cwOk S) (x z : Int32) (b : Bool) : cwMi l yX1_receive cX1_receive 8 (some .int) 1 24 (dC, dI) vwCl (YT d) [.ref h, .int x, .int z, .int (bI b)] (YS d h a S av) (fun r (_ : Unit) => r = (cwRecv S (cwIx x 3) (cwIx z (sM S)) b).1) (fun _ => YS d h a (cwRecv S (cwIx x 3) (cwIx z (sM S)) b).2 av) := by
  refine cw_met ([(0, .ref h), (1, .int x), (2, .int z), (3, .int (bI b))]) (by decide) (Nat.le_of_ble_eq_true rfl) rfl ?_
  intro p e s m below meth c A ls hx hb hr hlocks hml hown hts hA hP hK hD hS hl
  have hown : s.vm.findClass RX1 = some m.cls := hown
  have hV := hO.1
  have hm24 := cw_ms24 hO
  refine lv_iload_n hx hb dX1_receive_0 rfl (lv_at hl 1 rfl) ?_
  refine cw_callS (n := 1) (As := [.int x]) (rest := []) ⟨hx, hb, hml, hown, hts⟩ (mY_bad l (dC, dI) x) (lw_S q166 q167 q14 q168) (by decide +kernel) rfl ⟨Nat.le_of_ble_eq_true rfl, Nat.le_of_ble_eq_true rfl⟩ ⟨Nat.le_refl _, Nat.le_refl _⟩ hK hP hD hS hA hl.1 rfl (Nat.le_of_ble_eq_true rfl) dX1_receive_1 (fun r H locs hpost hP hS => ?_)
  rcases hpost with ⟨rfl, P, hP3, rfl⟩ | ⟨rfl, hjx⟩
  · have hc8 := hV.1 P hP3
    refine lv_if_ne (tgt := 30) hx hb dX1_receive_4 (by decide) (fun h => absurd h (by decide)) (fun _ => ?_)
    refine lv_aload_n hx hb dX1_receive_7 rfl (lv_at hl 0 rfl) ?_
    refine cwY_get hx hb hts hown hK hP 0 rfl 0 (by decide) q137 rfl dX1_receive_8 ?_
    refine lv_iload_n hx hb dX1_receive_11 rfl (lv_at hl 1 rfl) ?_
    refine cw_iald hx hb hK hP 1 0 rfl rfl (by omega) (by omega) dX1_receive_12 ?_
    refine lv_bipush (v := (nI 8)) hx hb dX1_receive_13 (by decide) ?_
    refine cw_eq (tgt := 30) hx hb (by omega) (by omega) dX1_receive_15 (by decide) (fun h8 => ?_) (fun h8 => ?_)
    · refine lv_iconst (v := (-1)) hx hb dX1_receive_30 (by decide) ?_
      have e_ : cwRecv S (cwIx (nI P) 3) (cwIx z (sM S)) b = (-1, S) := by
        unfold cwRecv
        rw [if_neg (fun hh => ?_)]
        rw [cwIx_nI hP3 (by decide)] at hh
        omega
      rw [e_]
      exact cw_iret hx hb hr hlocks () (rfl) hP hK hD hS dX1_receive_31
    · have h8 : sC S P < 8 := by omega
      refine lv_iload_n hx hb dX1_receive_18 rfl (lv_at hl 2 rfl) ?_
      refine lv_if_lt (tgt := 30) hx hb dX1_receive_19 (by decide) (fun h0 => ?_) (fun h0 => ?_)
      · refine lv_iconst (v := (-1)) hx hb dX1_receive_30 (by decide) ?_
        have e_ : cwRecv S (cwIx (nI P) 3) (cwIx z (sM S)) b = (-1, S) := by
          unfold cwRecv
          rw [if_neg (fun hh => ?_)]
          rw [cwIx_neg h0] at hh
          omega
        rw [e_]
        exact cw_iret hx hb hr hlocks () (rfl) hP hK hD hS dX1_receive_31
      · refine lv_iload_n hx hb dX1_receive_22 rfl (lv_at hl 2 rfl) ?_
        refine lv_aload_n hx hb dX1_receive_23 rfl (lv_at hl 0 rfl) ?_
        refine cwY_get hx hb hts hown hK hP 0 rfl 3 (by decide) q140 rfl dX1_receive_24 ?_
        refine lv_icmp_lt (tgt := 32) hx hb dX1_receive_27 (by decide) (fun h1 => ?_) (fun h1 => ?_)
        · obtain ⟨i, hi, rfl⟩ := cwIx_of (by omega) h0 (cw_lt_nle h1)
          have hs3 := (hO.2.2.1 i hi).1
          have hsi := (hO.2.2.1 i hi).2
          have hs8 := hV.1 _ hs3
          refine lv_aload_n hx hb dX1_receive_32 rfl (lv_at hl 0 rfl) ?_
          refine cwY_get hx hb hts hown hK hP 0 rfl 6 (by decide) q143 rfl dX1_receive_33 ?_
          refine lv_iload_n hx hb dX1_receive_36 rfl (lv_at hl 2 rfl) ?_
          refine cw_zald hx hb hK hP 6 5 rfl rfl (by omega) (by omega) dX1_receive_37 ?_
          refine cw_zne (tgt := 51) hx hb dX1_receive_38 (by decide) (fun hr0 => ?_) (fun hr0 => ?_)
          · refine lv_iconst (v := (-1)) hx hb dX1_receive_51 (by decide) ?_
            have e_ : cwRecv S (cwIx (nI P) 3) (cwIx (nI i) (sM S)) b = (-1, S) := by
              unfold cwRecv
              rw [if_neg (fun hh => ?_)]
              rw [cwIx_nI hi (by omega), hr0] at hh
              exact absurd hh.2.2.2.1 (by decide)
            rw [e_]
            exact cw_iret hx hb hr hlocks () (rfl) hP hK hD hS dX1_receive_52
          · refine lv_aload_n hx hb dX1_receive_41 rfl (lv_at hl 0 rfl) ?_
            refine cwY_get hx hb hts hown hK hP 0 rfl 4 (by decide) q141 rfl dX1_receive_42 ?_
            refine lv_iload_n hx hb dX1_receive_45 rfl (lv_at hl 2 rfl) ?_
            refine cw_iald hx hb hK hP 4 3 rfl rfl (by omega) (by omega) dX1_receive_46 ?_
            refine lv_iload_n hx hb dX1_receive_47 rfl (lv_at hl 1 rfl) ?_
            refine cw_ne (tgt := 53) hx hb (by omega) (by omega) dX1_receive_48 (by decide) (fun hsp => ?_) (fun hsp => ?_)
            · have hb := hb
              have e_ : cwRecv S (cwIx (nI P) 3) (cwIx (nI i) (sM S)) b = (nI (sC S P + 1), cwRcv S P i b) := by
                unfold cwRecv
                rw [cwIx_nI hP3 (by decide), cwIx_nI hi (by omega), if_pos ⟨hP3, h8, hi, hr0, hsp⟩]
              rw [e_]
              refine lv_aload_n hx hb dX1_receive_53 rfl (lv_at hl 0 rfl) ?_
              refine lv_iload_n hx hb dX1_receive_54 rfl (lv_at hl 1 rfl) ?_
              refine lv_iload_n hx hb dX1_receive_55 rfl (lv_at hl 3 rfl) ?_
              refine cw_callVv (n := 2) (C := RX1) (As := [.int (nI P), .int (bI b)]) (rest := []) (wr := []) ⟨hx, hb, hml, hown, hts⟩ (mY_event l dC dI d h a S av P b hP3 h8) (lw_V q173 q175 qs8 q14 q176) (by decide +kernel) rfl ⟨Nat.le_of_ble_eq_true rfl, Nat.le_of_ble_eq_true rfl⟩ ⟨Nat.le_refl _, Nat.le_refl _⟩ hK hP hD hS hA [0, 1, 2, 3, 4, 5, 6, 7] [] rfl rfl rfl (by decide) (by decide) (by decide) rfl rfl rfl hl.1 rfl (Nat.le_of_ble_eq_true rfl) dX1_receive_56 (fun uu H locs hpost hP hD hS => ?_)
              have hP : va_P (dC, dI) vwCl (YW d h a (va_up (sC S) P (sC S P + 1)) (va_up (sG S) (9 * P + (sC S P + 1)) b) (cwAk (sK S) P (sC S P + 1)) (sM S) (sD S) (sI S) (sR S) av) H := hP
              have hD : va_D A (YW d h a (va_up (sC S) P (sC S P + 1)) (va_up (sG S) (9 * P + (sC S P + 1)) b) (cwAk (sK S) P (sC S P + 1)) (sM S) (sD S) (sI S) (sR S) av) := hD
              refine lv_aload_n hx hb dX1_receive_59 rfl (lv_at hl 0 rfl) ?_
              refine cwY_get hx hb hts hown hK hP 0 rfl 6 (by decide) q143 rfl dX1_receive_60 ?_
              refine lv_iload_n hx hb dX1_receive_63 rfl (lv_at hl 2 rfl) ?_
              refine lv_iconst (v := (bI true)) hx hb dX1_receive_64 (by decide) ?_
              refine cw_zast hx hb hK hP hD hS 6 5 rfl rfl (by omega) (by omega) dX1_receive_65 (fun H locs hP hD hS => ?_)
              have hP : va_P (dC, dI) vwCl (YW d h a (va_up (sC S) P (sC S P + 1)) (va_up (sG S) (9 * P + (sC S P + 1)) b) (cwAk (sK S) P (sC S P + 1)) (sM S) (sD S) (sI S) (va_up (sR S) i true) av) H := hP
              have hD : va_D A (YW d h a (va_up (sC S) P (sC S P + 1)) (va_up (sG S) (9 * P + (sC S P + 1)) b) (cwAk (sK S) P (sC S P + 1)) (sM S) (sD S) (sI S) (va_up (sR S) i true) av) := hD
              refine lv_aload_n hx hb dX1_receive_66 rfl (lv_at hl 0 rfl) ?_
              refine cwY_get hx hb hts hown hK hP 0 rfl 4 (by decide) q141 rfl dX1_receive_67 ?_
              refine lv_iload_n hx hb dX1_receive_70 rfl (lv_at hl 2 rfl) ?_
              refine cw_iald hx hb hK hP 4 3 rfl rfl (by omega) (by omega) dX1_receive_71 ?_
              refine lv_istore (lv' := [(4, .int (nI (sD S i))), (0, .ref h), (1, .int (nI P)), (2, .int (nI i)), (3, .int (bI b))]) hx hb dX1_receive_72 hl (by decide) rfl (fun ls hl => ?_)
              refine lv_aload_n hx hb dX1_receive_74 rfl (lv_at hl 1 rfl) ?_
              refine cwY_get hx hb hts hown hK hP 0 rfl 0 (by decide) q137 rfl dX1_receive_75 ?_
              refine lv_iload_n hx hb dX1_receive_78 rfl (lv_at hl 2 rfl) ?_
              refine cw_iald hx hb hK hP 1 0 rfl rfl (by omega) (by omega) dX1_receive_79 ?_
              refine cw_nat (b := sC S P + 1) (va_up_self _ _ _) ?_
              refine lv_istore (lv' := [(5, .int (nI (sC S P + 1))), (4, .int (nI (sD S i))), (0, .ref h), (1, .int (nI P)), (2, .int (nI i)), (3, .int (bI b))]) hx hb dX1_receive_80 hl (by decide) rfl (fun ls hl => ?_)
              refine lv_iconst (v := (nI 0)) hx hb dX1_receive_82 (by decide) ?_
              refine lv_istore (lv' := [(6, .int (nI 0)), (5, .int (nI (sC S P + 1))), (4, .int (nI (sD S i))), (0, .ref h), (1, .int (nI P)), (2, .int (nI i)), (3, .int (bI b))]) hx hb dX1_receive_83 hl (by decide) rfl (fun ls hl => ?_)
              have e_k : (cwAk (sK S) P (sC S P + 1)) = cwMx (cwAk (sK S) P (sC S P + 1)) (27 * P + 3 * (sC S P + 1)) (27 * sD S i + 3 * sI S i) 0 := (cwMx_0 _ _ _).symm
              rw [e_k] at hP hD
              clear e_k
              refine cw_loop (head := 85) (I := fun n H locs ls => ∃ q, q ≤ 3 ∧ n = 3 - q ∧ va_P (dC, dI) vwCl (YW d h a (va_up (sC S) P (sC S P + 1)) (va_up (sG S) (9 * P + (sC S P + 1)) b) (cwMx (cwAk (sK S) P (sC S P + 1)) (27 * P + 3 * (sC S P + 1)) (27 * sD S i + 3 * sI S i) q) (sM S) (sD S) (sI S) (va_up (sR S) i true) av) H ∧ va_D A (YW d h a (va_up (sC S) P (sC S P + 1)) (va_up (sG S) (9 * P + (sC S P + 1)) b) (cwMx (cwAk (sK S) P (sC S P + 1)) (27 * P + 3 * (sC S P + 1)) (27 * sD S i + 3 * sI S i) q) (sM S) (sD S) (sI S) (va_up (sR S) i true) av) ∧ va_S A s.heap H locs ∧ lv_has ls 8 [(6, .int (nI q)), (5, .int (nI (sC S P + 1))), (4, .int (nI (sD S i))), (0, .ref h), (1, .int (nI P)), (2, .int (nI i)), (3, .int (bI b))]) ?_ 3 ⟨0, by omega, rfl, hP, hD, hS, hl⟩
              intro n H locs ls ⟨q, hq, hn, hP, hD, hS, hl⟩ ih
              refine lv_iload hx hb dX1_receive_85 (lv_at hl 0 rfl) ?_
              refine lv_iconst (v := (nI 3)) hx hb dX1_receive_87 (by decide) ?_
              refine cw_ge (tgt := 168) hx hb (by omega) (by omega) dX1_receive_88 (by decide) (fun h3 => ?_) (fun h3 => ?_)
              · have e3 : q = 3 := by omega
                subst e3
                refine lv_iload hx hb dX1_receive_168 (lv_at hl 1 rfl) ?_
                exact cw_iret hx hb hr hlocks () (rfl) hP hK hD hS dX1_receive_170
              · have hbb := cw_rcv_b hO hP3 h8 hi h3
                have hfar := cw_far hP3 (show sC S P + 1 ≤ 8 by omega) hs3 (show sI S i ≤ 8 by omega) h3 hsp
                refine lv_aload_n hx hb dX1_receive_91 rfl (lv_at hl 3 rfl) ?_
                refine cwY_get hx hb hts hown hK hP 0 rfl 2 (by decide) q139 rfl dX1_receive_92 ?_
                refine lv_bipush (v := (nI 27)) hx hb dX1_receive_95 (by decide) ?_
                refine lv_iload hx hb dX1_receive_97 (lv_at hl 2 rfl) ?_
                refine cw_imul hx hb dX1_receive_99 ?_
                refine lv_iconst (v := (nI 3)) hx hb dX1_receive_100 (by decide) ?_
                refine lv_aload_n hx hb dX1_receive_101 rfl (lv_at hl 3 rfl) ?_
                refine cwY_get hx hb hts hown hK hP 0 rfl 5 (by decide) q142 rfl dX1_receive_102 ?_
                refine lv_iload_n hx hb dX1_receive_105 rfl (lv_at hl 5 rfl) ?_
                refine cw_iald hx hb hK hP 5 4 rfl rfl (by omega) (by omega) dX1_receive_106 ?_
                refine cw_imul hx hb dX1_receive_107 ?_
                refine cw_iadd hx hb dX1_receive_108 ?_
                refine lv_iload hx hb dX1_receive_109 (lv_at hl 0 rfl) ?_
                refine cw_iadd hx hb dX1_receive_111 ?_
                refine cw_iald hx hb hK hP 3 2 rfl rfl (by omega) (by omega) dX1_receive_112 ?_
                refine cw_nat (b := cwAk (sK S) P (sC S P + 1) ((27 * sD S i + 3 * sI S i) + q)) (cwMx_out hfar) ?_
                refine lv_istore (lv' := [(7, .int (nI (cwAk (sK S) P (sC S P + 1) ((27 * sD S i + 3 * sI S i) + q)))), (6, .int (nI q)), (5, .int (nI (sC S P + 1))), (4, .int (nI (sD S i))), (0, .ref h), (1, .int (nI P)), (2, .int (nI i)), (3, .int (bI b))]) hx hb dX1_receive_113 hl (by decide) rfl (fun ls hl => ?_)
                refine lv_iload hx hb dX1_receive_115 (lv_at hl 1 rfl) ?_
                refine lv_iload_n hx hb dX1_receive_117 rfl (lv_at hl 5 rfl) ?_
                refine cw_eq (tgt := 162) hx hb (by omega) (by omega) dX1_receive_118 (by decide) (fun hqP => ?_) (fun hqP => ?_)
                · have hle : cwAk (sK S) P (sC S P + 1) ((27 * sD S i + 3 * sI S i) + q) ≤ cwAk (sK S) P (sC S P + 1) ((27 * P + 3 * (sC S P + 1)) + q) := by
                    subst hqP
                    rw [cwAk_self]
                    have h2 := hbb.2.1
                    rw [va_up_self] at h2
                    exact h2
                  have e_k : (cwMx (cwAk (sK S) P (sC S P + 1)) (27 * P + 3 * (sC S P + 1)) (27 * sD S i + 3 * sI S i) q) = cwMx (cwAk (sK S) P (sC S P + 1)) (27 * P + 3 * (sC S P + 1)) (27 * sD S i + 3 * sI S i) (q + 1) := (cwMx_n hle).symm
                  rw [e_k] at hP hD
                  clear e_k
                  refine lv_iinc (v := nI (q + 1)) (lv' := [(6, .int (nI (q + 1))), (7, .int (nI (cwAk (sK S) P (sC S P + 1) ((27 * sD S i + 3 * sI S i) + q)))), (5, .int (nI (sC S P + 1))), (4, .int (nI (sD S i))), (0, .ref h), (1, .int (nI P)), (2, .int (nI i)), (3, .int (bI b))]) hx hb dX1_receive_162 hl (k := 1) rfl (nI_1 _) (by decide) rfl (fun ls hl => ?_)
                  refine lv_goto (tgt := 85) hx hb dX1_receive_165 (by decide) ?_
                  exact ih (3 - (q + 1)) _ _ _ (by omega) ⟨q + 1, by omega, rfl, hP, hD, hS, lv_sub hl [0, 2, 3, 4, 5, 6, 7] rfl⟩
                · refine lv_iload hx hb dX1_receive_121 (lv_at hl 0 rfl) ?_
                  refine lv_aload_n hx hb dX1_receive_123 rfl (lv_at hl 4 rfl) ?_
                  refine cwY_get hx hb hts hown hK hP 0 rfl 2 (by decide) q139 rfl dX1_receive_124 ?_
                  refine lv_bipush (v := (nI 27)) hx hb dX1_receive_127 (by decide) ?_
                  refine lv_iload_n hx hb dX1_receive_129 rfl (lv_at hl 5 rfl) ?_
                  refine cw_imul hx hb dX1_receive_130 ?_
                  refine lv_iconst (v := (nI 3)) hx hb dX1_receive_131 (by decide) ?_
                  refine lv_iload hx hb dX1_receive_132 (lv_at hl 2 rfl) ?_
                  refine cw_imul hx hb dX1_receive_134 ?_
                  refine cw_iadd hx hb dX1_receive_135 ?_
                  refine lv_iload hx hb dX1_receive_136 (lv_at hl 1 rfl) ?_
                  refine cw_iadd hx hb dX1_receive_138 ?_
                  refine cw_iald hx hb hK hP 3 2 rfl rfl (by omega) (by omega) dX1_receive_139 ?_
                  refine cw_nat (b := cwAk (sK S) P (sC S P + 1) ((27 * P + 3 * (sC S P + 1)) + q)) (cwMx_out (Or.inr (Nat.le_refl _))) ?_
                  refine cw_le (tgt := 162) hx hb (by omega) (by omega) dX1_receive_140 (by decide) (fun hm => ?_) (fun hm => ?_)
                  · have e_k : (cwMx (cwAk (sK S) P (sC S P + 1)) (27 * P + 3 * (sC S P + 1)) (27 * sD S i + 3 * sI S i) q) = cwMx (cwAk (sK S) P (sC S P + 1)) (27 * P + 3 * (sC S P + 1)) (27 * sD S i + 3 * sI S i) (q + 1) := (cwMx_n hm).symm
                    rw [e_k] at hP hD
                    clear e_k
                    refine lv_iinc (v := nI (q + 1)) (lv' := [(6, .int (nI (q + 1))), (7, .int (nI (cwAk (sK S) P (sC S P + 1) ((27 * sD S i + 3 * sI S i) + q)))), (5, .int (nI (sC S P + 1))), (4, .int (nI (sD S i))), (0, .ref h), (1, .int (nI P)), (2, .int (nI i)), (3, .int (bI b))]) hx hb dX1_receive_162 hl (k := 1) rfl (nI_1 _) (by decide) rfl (fun ls hl => ?_)
                    refine lv_goto (tgt := 85) hx hb dX1_receive_165 (by decide) ?_
                    exact ih (3 - (q + 1)) _ _ _ (by omega) ⟨q + 1, by omega, rfl, hP, hD, hS, lv_sub hl [0, 2, 3, 4, 5, 6, 7] rfl⟩
                  · refine lv_aload_n hx hb dX1_receive_143 rfl (lv_at hl 4 rfl) ?_
                    refine cwY_get hx hb hts hown hK hP 0 rfl 2 (by decide) q139 rfl dX1_receive_144 ?_
                    refine lv_bipush (v := (nI 27)) hx hb dX1_receive_147 (by decide) ?_
                    refine lv_iload_n hx hb dX1_receive_149 rfl (lv_at hl 5 rfl) ?_
                    refine cw_imul hx hb dX1_receive_150 ?_
                    refine lv_iconst (v := (nI 3)) hx hb dX1_receive_151 (by decide) ?_
                    refine lv_iload hx hb dX1_receive_152 (lv_at hl 2 rfl) ?_
                    refine cw_imul hx hb dX1_receive_154 ?_
                    refine cw_iadd hx hb dX1_receive_155 ?_
                    refine lv_iload hx hb dX1_receive_156 (lv_at hl 1 rfl) ?_
                    refine cw_iadd hx hb dX1_receive_158 ?_
                    refine lv_iload hx hb dX1_receive_159 (lv_at hl 0 rfl) ?_
                    refine cw_iast hx hb hK hP hD hS 3 2 rfl rfl (by omega) (by omega) dX1_receive_161 (fun H locs hP hD hS => ?_)
                    have hP : va_P (dC, dI) vwCl (YW d h a (va_up (sC S) P (sC S P + 1)) (va_up (sG S) (9 * P + (sC S P + 1)) b) (va_up (cwMx (cwAk (sK S) P (sC S P + 1)) (27 * P + 3 * (sC S P + 1)) (27 * sD S i + 3 * sI S i) q) (((27 * P) + (3 * (sC S P + 1))) + q) (cwAk (sK S) P (sC S P + 1) ((27 * sD S i + 3 * sI S i) + q))) (sM S) (sD S) (sI S) (va_up (sR S) i true) av) H := hP
                    have hD : va_D A (YW d h a (va_up (sC S) P (sC S P + 1)) (va_up (sG S) (9 * P + (sC S P + 1)) b) (va_up (cwMx (cwAk (sK S) P (sC S P + 1)) (27 * P + 3 * (sC S P + 1)) (27 * sD S i + 3 * sI S i) q) (((27 * P) + (3 * (sC S P + 1))) + q) (cwAk (sK S) P (sC S P + 1) ((27 * sD S i + 3 * sI S i) + q))) (sM S) (sD S) (sI S) (va_up (sR S) i true) av) := hD
                    have e_k : (va_up (cwMx (cwAk (sK S) P (sC S P + 1)) (27 * P + 3 * (sC S P + 1)) (27 * sD S i + 3 * sI S i) q) (((27 * P) + (3 * (sC S P + 1))) + q) (cwAk (sK S) P (sC S P + 1) ((27 * sD S i + 3 * sI S i) + q))) = cwMx (cwAk (sK S) P (sC S P + 1)) (27 * P + 3 * (sC S P + 1)) (27 * sD S i + 3 * sI S i) (q + 1) := cwMx_s (cw_max2 hm rfl)
                    rw [e_k] at hP hD
                    clear e_k
                    refine lv_iinc (v := nI (q + 1)) (lv' := [(6, .int (nI (q + 1))), (7, .int (nI (cwAk (sK S) P (sC S P + 1) ((27 * sD S i + 3 * sI S i) + q)))), (5, .int (nI (sC S P + 1))), (4, .int (nI (sD S i))), (0, .ref h), (1, .int (nI P)), (2, .int (nI i)), (3, .int (bI b))]) hx hb dX1_receive_162 hl (k := 1) rfl (nI_1 _) (by decide) rfl (fun ls hl => ?_)
                    refine lv_goto (tgt := 85) hx hb dX1_receive_165 (by decide) ?_
                    exact ih (3 - (q + 1)) _ _ _ (by omega) ⟨q + 1, by omega, rfl, hP, hD, hS, lv_sub hl [0, 2, 3, 4, 5, 6, 7] rfl⟩
            · refine lv_iconst (v := (-1)) hx hb dX1_receive_51 (by decide) ?_
              have e_ : cwRecv S (cwIx (nI P) 3) (cwIx (nI i) (sM S)) b = (-1, S) := by
                unfold cwRecv
                rw [if_neg (fun hh => ?_)]
                rw [cwIx_nI hi (by omega), cwIx_nI hP3 (by decide)] at hh
                exact hh.2.2.2.2 hsp
              rw [e_]
              exact cw_iret hx hb hr hlocks () (rfl) hP hK hD hS dX1_receive_52
        · refine lv_iconst (v := (-1)) hx hb dX1_receive_30 (by decide) ?_
          have e_ : cwRecv S (cwIx (nI P) 3) (cwIx z (sM S)) b = (-1, S) := by
            unfold cwRecv
            rw [if_neg (fun hh => ?_)]
            rw [cwIx_ge (by omega) (cw_nlt h1)] at hh
            omega
          rw [e_]
          exact cw_iret hx hb hr hlocks () (rfl) hP hK hD hS dX1_receive_31
  · refine lv_if_ne (tgt := 30) hx hb dX1_receive_4 (by decide) (fun _ => ?_) (fun h => absurd h (by decide))
    refine lv_iconst (v := (-1)) hx hb dX1_receive_30 (by decide) ?_
    have e_ : cwRecv S (cwIx x 3) (cwIx z (sM S)) b = (-1, S) := by
      unfold cwRecv
      rw [if_neg (fun hh => ?_)]
      omega
    rw [e_]
    exact cw_iret hx hb hr hlocks () (rfl) hP hK hD hS dX1_receive_31
end
section
/-! PURE 3: what the loops of the questions keep, and the answers -/
def cwMax (x y : Nat) : Nat := if x ≤ y then y else x
theorem cwMax_l {x y : Nat} (h : x ≤ y) : cwMax x y = y := by unfold cwMax; rw [if_pos h]
theorem cwMax_r {x y : Nat} (h : y < x) : cwMax x y = x := by unfold cwMax; rw [if_neg (by omega)]
theorem cwMax_ge (x y : Nat) : x ≤ cwMax x y ∧ y ≤ cwMax x y := by
  by_cases h : x ≤ y
  · rw [cwMax_l h]; omega
  · rw [cwMax_r (by omega)]; omega
theorem cwMax_lt {x y k : Nat} (h : k < cwMax x y) : ¬ (x ≤ k ∧ y ≤ k) := by
  by_cases g : x ≤ y
  · rw [cwMax_l g] at h; omega
  · rw [cwMax_r (by omega)] at h; omega
theorem cwMax_le {x y k : Nat} (h1 : x ≤ k) (h2 : y ≤ k) : cwMax x y ≤ k := by
  by_cases g : x ≤ y
  · rw [cwMax_l g]; exact h2
  · rw [cwMax_r (by omega)]; exact h1
/-! the least good cut -/
def cwNd (c : Nat → Nat) (K : Nat → Nat → Nat → Nat) (G : Nat → Nat → Bool) (s : Nat) (u : Nat → Nat) (p k : Nat) : Prop := u p ≤ k ∧ ∀ C, cwPG c K G s C → (∀ x, x < 3 → u x ≤ C x) → k ≤ C p
theorem cwNd_0 {c : Nat → Nat} {K : Nat → Nat → Nat → Nat} {G : Nat → Nat → Bool} {s : Nat} {u : Nat → Nat} {p : Nat} (hp : p < 3) : cwNd c K G s u p (u p) := ⟨Nat.le_refl _, fun _ _ h => h p hp⟩
theorem cwNd_told {c : Nat → Nat} {K : Nat → Nat → Nat → Nat} {G : Nat → Nat → Bool} {s : Nat} {u : Nat → Nat} {p q k : Nat} (hV : cwVc c K) (hp : p < 3) (hq : q < 3) (h : cwNd c K G s u p k) (hk : k < K q (u q) p) : cwNd c K G s u p (K q (u q) p) :=
  ⟨by have := h.1; omega, fun C hC hle => Nat.le_trans (hV.2.2.2.1 q (u q) (C q) p hq hp (hle q hq) (hC.1 q hq).1) ((hC.1 q hq).2 p hp)⟩
theorem cwNd_next {c : Nat → Nat} {K : Nat → Nat → Nat → Nat} {G : Nat → Nat → Bool} {s : Nat} {u : Nat → Nat} {p k : Nat} (hp : p < 3) (h : cwNd c K G s u p k) (hb : cwBit s p = 1) (hg : G p k = false) : cwNd c K G s u p (k + 1) := by
  refine ⟨by have := h.1; omega, fun C hC hle => ?_⟩
  have h1 := h.2 C hC hle
  have h2 := hC.2 p hp hb
  refine Nat.lt_of_le_of_ne h1 (fun e => ?_)
  rw [← e, hg] at h2
  cases h2
def cwLo (c : Nat → Nat) (K : Nat → Nat → Nat → Nat) (G : Nat → Nat → Bool) (s : Nat) (u : Nat → Nat) : Prop := (∀ x, x < 3 → u x ≤ c x) ∧ ∀ C, cwPG c K G s C → ∀ x, x < 3 → u x ≤ C x
theorem cwLo_0 {c : Nat → Nat} {K : Nat → Nat → Nat → Nat} {G : Nat → Nat → Bool} {s : Nat} {u : Nat → Nat} (h : ∀ x, x < 3 → u x = 0) : cwLo c K G s u := ⟨fun x hx => by rw [h x hx]; exact Nat.zero_le _, fun C _ x hx => by rw [h x hx]; exact Nat.zero_le _⟩
theorem cwLo_up {c : Nat → Nat} {K : Nat → Nat → Nat → Nat} {G : Nat → Nat → Bool} {s : Nat} {u : Nat → Nat} {p k : Nat} (h : cwLo c K G s u) (hk : k ≤ c p) (hn : cwNd c K G s u p k) : cwLo c K G s (va_up u p k) := by
  constructor
  · intro x hx
    by_cases e : x = p
    · subst e; rw [va_up_self]; exact hk
    · rw [va_up_ne _ _ e]; exact h.1 x hx
  · intro C hC x hx
    by_cases e : x = p
    · subst e; rw [va_up_self]; exact hn.2 C hC (h.2 C hC)
    · rw [va_up_ne _ _ e]; exact h.2 C hC x hx
def cwStab (K : Nat → Nat → Nat → Nat) (G : Nat → Nat → Bool) (s : Nat) (u : Nat → Nat) (x : Nat) : Prop := (∀ q, q < 3 → K q (u q) x ≤ u x) ∧ (cwBit s x = 1 → G x (u x) = true)
theorem cwPG_of {c : Nat → Nat} {K : Nat → Nat → Nat → Nat} {G : Nat → Nat → Bool} {s : Nat} {u : Nat → Nat} (h : ∀ x, x < 3 → u x ≤ c x) (hs : ∀ x, x < 3 → cwStab K G s u x) : cwPG c K G s u := ⟨fun p hp => ⟨h p hp, fun q hq => (hs q hq).1 p hp⟩, fun p hp hb => (hs p hp).2 hb⟩
theorem cw_sum3 {u : Nat → Nat} {p k : Nat} (hp : p < 3) : va_up u p k 0 + va_up u p k 1 + va_up u p k 2 + u p = u 0 + u 1 + u 2 + k := by
  rcases cw_3 hp with rfl | rfl | rfl
  · rw [va_up_self, va_up_ne _ _ (by omega), va_up_ne _ _ (by omega)]; omega
  · rw [va_up_self, va_up_ne _ _ (by omega), va_up_ne _ _ (by omega)]; omega
  · rw [va_up_self, va_up_ne _ _ (by omega), va_up_ne _ _ (by omega)]; omega
theorem cw_sum24 {c u : Nat → Nat} {K : Nat → Nat → Nat → Nat} (hV : cwVc c K) (h : ∀ x, x < 3 → u x ≤ c x) : u 0 + u 1 + u 2 ≤ 24 := by
  have a0 := hV.1 0 (by omega)
  have a1 := hV.1 1 (by omega)
  have a2 := hV.1 2 (by omega)
  have b0 := h 0 (by omega)
  have b1 := h 1 (by omega)
  have b2 := h 2 (by omega)
  omega
/-! stretches -/
def cwStr (c : Nat → Nat) (G : Nat → Nat → Bool) (x f t : Nat) : Prop := f ≤ t ∧ t ≤ c x ∧ (∀ k, f ≤ k → k ≤ t → G x k = true) ∧ (t = c x ∨ G x (t + 1) = false)
def cwGr (G : Nat → Nat → Bool) (vv : Nat → Bool) (x f : Nat) : Prop := f = 0 ∨ ∃ n, n < 729 ∧ vv n = true ∧ cwSt n x < f ∧ ∀ k, cwSt n x ≤ k → k < f → G x k = false
def cwPair (c : Nat → Nat) (K : Nat → Nat → Nat → Nat) (s : Nat) (v w : Nat → Nat) (p q : Nat) : Prop := p ≠ q ∧ cwBit s p = 1 ∧ cwBit s q = 1 ∧ w p < c p ∧ K p (w p + 1) q < v q
def cwMs (s : Nat) (v : Nat → Nat) : Nat := cwBit s 0 * v 0 + cwBit s 1 * v 1 + cwBit s 2 * v 2
theorem cwMs_up {s : Nat} {v : Nat → Nat} {p f : Nat} (hp : p < 3) (hb : cwBit s p = 1) : cwMs s (va_up v p f) + v p = cwMs s v + f := by
  unfold cwMs
  rcases cw_3 hp with rfl | rfl | rfl
  · rw [va_up_self, va_up_ne _ _ (show (1 : Nat) ≠ 0 by omega), va_up_ne _ _ (show (2 : Nat) ≠ 0 by omega), hb]; omega
  · rw [va_up_self, va_up_ne _ _ (show (0 : Nat) ≠ 1 by omega), va_up_ne _ _ (show (2 : Nat) ≠ 1 by omega), hb]; omega
  · rw [va_up_self, va_up_ne _ _ (show (0 : Nat) ≠ 2 by omega), va_up_ne _ _ (show (1 : Nat) ≠ 2 by omega), hb]; omega
theorem cwMs_1 {b v : Nat} (hb : b = 0 ∨ b = 1) (h : b = 1 → v ≤ 8) : b * v ≤ 8 := by
  rcases hb with rfl | rfl
  · omega
  · have := h rfl; omega
theorem cwMs_24 {s : Nat} {v : Nat → Nat} (h : ∀ x, x < 3 → cwBit s x = 1 → v x ≤ 8) : cwMs s v ≤ 24 := by
  have a0 := cwMs_1 (cwBit_or s 0) (h 0 (by omega))
  have a1 := cwMs_1 (cwBit_or s 1) (h 1 (by omega))
  have a2 := cwMs_1 (cwBit_or s 2) (h 2 (by omega))
  unfold cwMs
  omega
theorem cw_ends {c v w : Nat → Nat} {K : Nat → Nat → Nat → Nat} {G : Nat → Nat → Bool} {s : Nat} (hV : cwVc c K) (hs : ∀ x, x < 3 → cwBit s x = 1 → cwStr c G x (v x) (w x)) (hn : ∀ p q, p < 3 → q < 3 → ¬ cwPair c K s v w p q) : ∀ vv, cwRec c K G s vv → vv (cwCode c) = false := by
  intro vv hv
  cases e : vv (cwCode c) with
  | false => rfl
  | true =>
    exfalso
    have hc := cwPoss_le8 hV (cw_all hV)
    obtain ⟨p, hp, hb, hlt⟩ := cw_meet (fr := v) (to := w) hV hv (fun p hp hb => ⟨(hs p hp hb).1, (hs p hp hb).2.1, (hs p hp hb).2.2.1⟩) (fun p q hp hq hpq hbp hbq => by
      by_cases h1 : w p = c p
      · exact Or.inl h1
      · refine Or.inr (Nat.le_of_not_lt fun h2 => hn p q hp hq ⟨hpq, hbp, hbq, ?_, h2⟩)
        have := (hs p hp hbp).2.1
        omega) _ (cwCode_lt hc) e
    rw [cwSt_code hc hp] at hlt
    have h1 := (hs p hp hb).1
    have h2 := (hs p hp hb).2.1
    omega
theorem cw_none {c : Nat → Nat} {K : Nat → Nat → Nat → Nat} {G : Nat → Nat → Bool} {s p : Nat} (hV : cwVc c K) (hp : p < 3) (hb : cwBit s p = 1) (hng : ∀ k, 0 ≤ k → k ≤ c p → G p k = false) : ∀ vv, cwRec c K G s vv → vv (cwCode c) = true := by
  intro vv hv
  exact cw_fail hV hv hp hb hng ⟨0, by omega, cw_zero hV hv hp hb (hng 0 (Nat.le_refl _) (Nat.zero_le _)), cwSt_z hp⟩
/-- a stretch given up: a run comes to just behind it -/
theorem cw_give {c v w : Nat → Nat} {K : Nat → Nat → Nat → Nat} {G : Nat → Nat → Bool} {s p q : Nat} (hV : cwVc c K) (hp : p < 3) (hq : q < 3) (h : cwPair c K s v w p q) {vv : Nat → Bool} (hv : cwRec c K G s vv) (hg : cwGr G vv q (v q)) : ∃ n, n < 729 ∧ vv n = true ∧ cwSt n p = w p + 1 := by
  obtain ⟨hpq, hbp, hbq, hlt, hk⟩ := h
  rcases hg with h0 | hI
  · omega
  · exact cw_greedy hV hv hp hq hbq (show w p + 1 ≤ c p by omega) hk hI
theorem cw_give_new {G : Nat → Nat → Bool} {vv : Nat → Bool} {p t f : Nat} (hI : ∃ n, n < 729 ∧ vv n = true ∧ cwSt n p = t) (hlt : t < f) (hng : ∀ k, t ≤ k → k < f → G p k = false) : cwGr G vv p f := by
  obtain ⟨n, h1, h2, h3⟩ := hI
  exact Or.inr ⟨n, h1, h2, by omega, fun k hk1 hk2 => hng k (by omega) hk2⟩
theorem cw_first {c : Nat → Nat} {K : Nat → Nat → Nat → Nat} {G : Nat → Nat → Bool} {s p f : Nat} {vv : Nat → Bool} (hV : cwVc c K) (hv : cwRec c K G s vv) (hp : p < 3) (hb : cwBit s p = 1) (hng : ∀ k, 0 ≤ k → k < f → G p k = false) : cwGr G vv p f := by
  by_cases h0 : f = 0
  · exact Or.inl h0
  · exact cw_give_new ⟨0, by omega, cw_zero hV hv hp hb (hng 0 (Nat.le_refl _) (by omega)), cwSt_z hp⟩ (by omega) hng
/-! the answers; both classes give them, and each is the only one -/
def cwPossA (S : WSt) (s : Nat) (r : Int32) : Prop := (¬ (0 < s ∧ s < 8) ∧ r = -1) ∨ ((0 < s ∧ s < 8) ∧ ((r = 1 ∧ ∃ C, cwPG (sC S) (cwK (sK S)) (cwG (sG S)) s C) ∨ (r = 0 ∧ ∀ C, ¬ cwPG (sC S) (cwK (sK S)) (cwG (sG S)) s C)))
theorem cwPossA_uniq {S : WSt} {s : Nat} {r r' : Int32} (h : cwPossA S s r) (h' : cwPossA S s r') : r = r' := by
  rcases h with ⟨a, rfl⟩ | ⟨a, ⟨rfl, C, hC⟩ | ⟨rfl, hC⟩⟩
  · rcases h' with ⟨b, rfl⟩ | ⟨b, _⟩
    · rfl
    · exact absurd b a
  · rcases h' with ⟨b, rfl⟩ | ⟨b, ⟨rfl, D, hD⟩ | ⟨rfl, hD⟩⟩
    · exact absurd a b
    · rfl
    · exact absurd hC (hD C)
  · rcases h' with ⟨b, rfl⟩ | ⟨b, ⟨rfl, D, hD⟩ | ⟨rfl, hD⟩⟩
    · exact absurd a b
    · exact absurd hD (hC D)
    · rfl
def cwLeastA (S : WSt) (s p : Nat) (r : Int32) : Prop := (¬ ((0 < s ∧ s < 8) ∧ p < 3) ∧ r = -1) ∨ (((0 < s ∧ s < 8) ∧ p < 3) ∧ ((∃ C, cwPG (sC S) (cwK (sK S)) (cwG (sG S)) s C ∧ (∀ D, cwPG (sC S) (cwK (sK S)) (cwG (sG S)) s D → C p ≤ D p) ∧ r = nI (C p)) ∨ ((∀ C, ¬ cwPG (sC S) (cwK (sK S)) (cwG (sG S)) s C) ∧ r = -1)))
theorem cwLeastA_uniq {S : WSt} {s p : Nat} {r r' : Int32} (h : cwLeastA S s p r) (h' : cwLeastA S s p r') : r = r' := by
  rcases h with ⟨a, rfl⟩ | ⟨a, ⟨C, hC, hC2, rfl⟩ | ⟨hC, rfl⟩⟩
  · rcases h' with ⟨b, rfl⟩ | ⟨b, _⟩
    · rfl
    · exact absurd b a
  · rcases h' with ⟨b, rfl⟩ | ⟨b, ⟨D, hD, hD2, rfl⟩ | ⟨hD, rfl⟩⟩
    · exact absurd a b
    · have h1 := hC2 D hD
      have h2 := hD2 C hC
      rw [show C p = D p by omega]
    · exact absurd hC (hD C)
  · rcases h' with ⟨b, rfl⟩ | ⟨b, ⟨D, hD, hD2, rfl⟩ | ⟨hD, rfl⟩⟩
    · exact absurd a b
    · exact absurd hD (hC D)
    · rfl
def cwDefX (S : WSt) (s : Nat) (r : Int32) : Prop := (¬ (0 < s ∧ s < 8) ∧ r = -1) ∨ ((0 < s ∧ s < 8) ∧ ∀ vv, cwRec (sC S) (cwK (sK S)) (cwG (sG S)) s vv → r = bI (!(vv (cwCode (sC S)))))
def cwDefM (S : WSt) (s : Nat) (r : Int32) : Prop := (¬ (0 < s ∧ s < 8) ∧ r = -1) ∨ ((0 < s ∧ s < 8) ∧ ∃ vv, cwRec (sC S) (cwK (sK S)) (cwG (sG S)) s vv ∧ r = bI (!(vv (cwCode (sC S)))))
theorem cwDef_eq {S : WSt} {s : Nat} {r r' : Int32} (h : cwDefX S s r) (h' : cwDefM S s r') : r = r' := by
  rcases h with ⟨a, rfl⟩ | ⟨a, h⟩
  · rcases h' with ⟨b, rfl⟩ | ⟨b, _⟩
    · rfl
    · exact absurd b a
  · rcases h' with ⟨b, rfl⟩ | ⟨b, vv, hv, rfl⟩
    · exact absurd a b
    · exact h vv hv
/-- a cut that is possible and good, by its number -/
theorem cwPG_num {S : WSt} (hO : cwOk S) {s : Nat} {C : Nat → Nat} (h : cwPG (sC S) (cwK (sK S)) (cwG (sG S)) s C) : cwCode C < 729 ∧ cwPG (sC S) (cwK (sK S)) (cwG (sG S)) s (cwSt (cwCode C)) ∧ ∀ p, p < 3 → cwSt (cwCode C) p = C p := by
  have h8 := cwPoss_le8 hO.1 h.1
  exact ⟨cwCode_lt h8, ⟨cwPoss_congr (fun p hp => cwSt_code h8 hp) h.1, cwGood_congr (fun p hp => cwSt_code h8 hp) h.2⟩, fun p hp => cwSt_code h8 hp⟩
/-- the table of avoided cuts, one place more -/
theorem cwRec_up {c : Nat → Nat} {K : Nat → Nat → Nat → Nat} {G : Nat → Nat → Bool} {s n : Nat} {av : Nat → Bool} {b : Bool} (hn : n < 729)
    (h : ∀ j, j < n → (av j = true ↔ cwPoss c K (cwSt j) ∧ ¬ cwGood G s (cwSt j) ∧ (j = 0 ∨ ∃ r, r < 3 ∧ 0 < cwSt j r ∧ av (j - cwUnit r) = true)))
    (hb : b = true ↔ cwPoss c K (cwSt n) ∧ ¬ cwGood G s (cwSt n) ∧ (n = 0 ∨ ∃ r, r < 3 ∧ 0 < cwSt n r ∧ av (n - cwUnit r) = true)) :
    ∀ j, j < n + 1 → (va_up av n b j = true ↔ cwPoss c K (cwSt j) ∧ ¬ cwGood G s (cwSt j) ∧ (j = 0 ∨ ∃ r, r < 3 ∧ 0 < cwSt j r ∧ va_up av n b (j - cwUnit r) = true)) := by
  intro j hj
  have e : (∃ r, r < 3 ∧ 0 < cwSt j r ∧ va_up av n b (j - cwUnit r) = true) ↔ (∃ r, r < 3 ∧ 0 < cwSt j r ∧ av (j - cwUnit r) = true) := by
    constructor
    · intro ⟨r, h1, h2, h3⟩
      have h4 := (cwSt_pred (show j < 729 by omega) h1 h2).1
      rw [va_up_ne _ _ (by omega)] at h3
      exact ⟨r, h1, h2, h3⟩
    · intro ⟨r, h1, h2, h3⟩
      have h4 := (cwSt_pred (show j < 729 by omega) h1 h2).1
      refine ⟨r, h1, h2, ?_⟩
      rw [va_up_ne _ _ (by omega)]
      exact h3
  rw [e]
  by_cases g : j = n
  · subst g
    rw [va_up_self]
    exact hb
  · rw [va_up_ne _ _ g]
    exact h j (by omega)
noncomputable def cwTf (K : Nat → Nat → Nat → Nat) (i j k : Nat) : Nat := wInd (K 0 i 2 ≤ k ∧ K 1 j 2 ≤ k ∧ K 2 k 0 ≤ i ∧ K 2 k 1 ≤ j)
theorem cwTf_third (c : Nat → Nat) (K : Nat → Nat → Nat → Nat) (i j : Nat) : cwThird c K i j = cwSum (cwTf K i j) (c 2 + 1) := rfl
theorem cwTf_low (K : Nat → Nat → Nat → Nat) (i j : Nat) : cwSum (cwTf K i j) (cwMax (K 0 i 2) (K 1 j 2)) = 0 := by
  rw [cwSum_cut (f := cwTf K i j) (m := 0) (Nat.zero_le _) (fun k _ hk => wInd_f (fun h => cwMax_lt hk ⟨h.1, h.2.1⟩))]
  rfl
theorem cwTf_f1 {K : Nat → Nat → Nat → Nat} {i j k : Nat} (h : i < K 2 k 0) : cwTf K i j k = 0 := wInd_f (fun g => by have := g.2.2.1; omega)
theorem cwTf_f2 {K : Nat → Nat → Nat → Nat} {i j k : Nat} (h : j < K 2 k 1) : cwTf K i j k = 0 := wInd_f (fun g => by have := g.2.2.2; omega)
theorem cwTf_t {K : Nat → Nat → Nat → Nat} {i j k : Nat} (hk : cwMax (K 0 i 2) (K 1 j 2) ≤ k) (h0 : K 2 k 0 ≤ i) (h1 : K 2 k 1 ≤ j) : cwTf K i j k = 1 := by
  have h2 := cwMax_ge (K 0 i 2) (K 1 j 2)
  exact wInd_t ⟨by omega, by omega, h0, h1⟩
theorem cwTwo_f1 {c : Nat → Nat} {K : Nat → Nat → Nat → Nat} {i j : Nat} (h : j < K 0 i 1) : cwTwo c K i j = 0 := by
  unfold cwTwo
  rw [wInd_f (fun g => by have := g.1; omega), Nat.zero_mul]
theorem cwTwo_f2 {c : Nat → Nat} {K : Nat → Nat → Nat → Nat} {i j : Nat} (h : i < K 1 j 0) : cwTwo c K i j = 0 := by
  unfold cwTwo
  rw [wInd_f (fun g => by have := g.2; omega), Nat.zero_mul]
theorem cwTwo_t {c : Nat → Nat} {K : Nat → Nat → Nat → Nat} {i j : Nat} (h1 : K 0 i 1 ≤ j) (h2 : K 1 j 0 ≤ i) : cwTwo c K i j = cwThird c K i j := by
  unfold cwTwo
  rw [wInd_t ⟨h1, h2⟩, Nat.one_mul]
end
section
/-! CutWatch: cuts, possibly, least -/
set_option maxHeartbeats 4000000 in
set_option maxRecDepth 100000 in
/-- thirdStates -/
theorem mX_thirdStates (l : Launch) (dC : Nat → ClassId) (dI : Nat → Nat → Nat) (d : Nat → ClassId) (h : Nat) (a : Nat → Nat) (S : WSt) (u v w : Nat → Nat) (hO : cwOk S) (i j : Nat) (hi : i ≤ sC S 0) (hj : j ≤ sC S 1) : cwMi l yX0_thirdStates cX0_thirdStates 8 (some .int) 1 23 (dC, dI) vwCl (XT d) [.ref h, .int (nI i), .int (nI j)] (XS d h a S u v w) (fun r (_ : Unit) => r = nI (cwThird (sC S) (cwK (sK S)) i j)) (fun _ => XS d h a S u v w) := by
  refine cw_met ([(0, .ref h), (1, .int (nI i)), (2, .int (nI j))]) (by decide) (Nat.le_of_ble_eq_true rfl) rfl ?_
  intro p e s m below meth c A ls hx hb hr hlocks hml hown hts hA hP hK hD hS hl
  have hown : s.vm.findClass RX0 = some m.cls := hown
  have hV := hO.1
  have hc0 := hV.1 0 (by omega)
  have hc1 := hV.1 1 (by omega)
  have hc2 := hV.1 2 (by omega)
  have hKa := hV.2.2.1 0 i 2 (by omega) (by omega) hi
  have hKb := hV.2.2.1 1 j 2 (by omega) (by omega) hj
  refine lv_aload_n hx hb dX0_thirdStates_0 rfl (lv_at hl 0 rfl) ?_
  refine lv_iconst (v := (nI 0)) hx hb dX0_thirdStates_1 (by decide) ?_
  refine lv_iload_n hx hb dX0_thirdStates_2 rfl (lv_at hl 1 rfl) ?_
  refine lv_iconst (v := (nI 2)) hx hb dX0_thirdStates_3 (by decide) ?_
  refine cw_callV (n := 3) (C := RX0) (As := [.int (nI 0), .int (nI i), .int (nI 2)]) (rest := []) (wr := []) ⟨hx, hb, hml, hown, hts⟩ (mX_knownBy l dC dI d h a S u v w 0 i 2 (by omega) (by omega) (by omega)) (lw_V q79 q81 qs1 q13 q82) (by decide +kernel) rfl ⟨Nat.le_of_ble_eq_true rfl, Nat.le_of_ble_eq_true rfl⟩ ⟨Nat.le_refl _, Nat.le_refl _⟩ hK hP hD hS hA [0, 1, 2, 3, 4, 5, 6, 7, 8, 9] [] rfl rfl rfl (by decide) (by decide) (by decide) rfl rfl rfl hl.1 rfl (Nat.le_of_ble_eq_true rfl) dX0_thirdStates_4 (fun r uu H locs hpost hP hD hS => ?_)
  have hpost : r = nI (cwK (sK S) 0 i 2) := hpost
  subst hpost
  have hP : va_P (dC, dI) vwCl (XW d h a (sC S) (sG S) (sK S) (sM S) (sD S) (sI S) (sR S) u v w) H := hP
  have hD : va_D A (XW d h a (sC S) (sG S) (sK S) (sM S) (sD S) (sI S) (sR S) u v w) := hD
  refine lv_istore_n (lv' := [(3, .int (nI (cwK (sK S) 0 i 2))), (0, .ref h), (1, .int (nI i)), (2, .int (nI j))]) hx hb dX0_thirdStates_7 rfl hl (by decide) rfl (fun ls hl => ?_)
  refine lv_aload_n hx hb dX0_thirdStates_8 rfl (lv_at hl 1 rfl) ?_
  refine lv_iconst (v := (nI 1)) hx hb dX0_thirdStates_9 (by decide) ?_
  refine lv_iload_n hx hb dX0_thirdStates_10 rfl (lv_at hl 3 rfl) ?_
  refine lv_iconst (v := (nI 2)) hx hb dX0_thirdStates_11 (by decide) ?_
  refine cw_callV (n := 3) (C := RX0) (As := [.int (nI 1), .int (nI j), .int (nI 2)]) (rest := []) (wr := []) ⟨hx, hb, hml, hown, hts⟩ (mX_knownBy l dC dI d h a S u v w 1 j 2 (by omega) (by omega) (by omega)) (lw_V q79 q81 qs1 q13 q82) (by decide +kernel) rfl ⟨Nat.le_of_ble_eq_true rfl, Nat.le_of_ble_eq_true rfl⟩ ⟨Nat.le_refl _, Nat.le_refl _⟩ hK hP hD hS hA [0, 1, 2, 3, 4, 5, 6, 7, 8, 9] [] rfl rfl rfl (by decide) (by decide) (by decide) rfl rfl rfl hl.1 rfl (Nat.le_of_ble_eq_true rfl) dX0_thirdStates_12 (fun r uu H locs hpost hP hD hS => ?_)
  have hpost : r = nI (cwK (sK S) 1 j 2) := hpost
  subst hpost
  have hP : va_P (dC, dI) vwCl (XW d h a (sC S) (sG S) (sK S) (sM S) (sD S) (sI S) (sR S) u v w) H := hP
  have hD : va_D A (XW d h a (sC S) (sG S) (sK S) (sM S) (sD S) (sI S) (sR S) u v w) := hD
  refine lv_istore (lv' := [(4, .int (nI (cwK (sK S) 1 j 2))), (3, .int (nI (cwK (sK S) 0 i 2))), (0, .ref h), (1, .int (nI i)), (2, .int (nI j))]) hx hb dX0_thirdStates_15 hl (by decide) rfl (fun ls hl => ?_)
  refine lv_iload_n hx hb dX0_thirdStates_17 rfl (lv_at hl 1 rfl) ?_
  refine lv_iload hx hb dX0_thirdStates_18 (lv_at hl 0 rfl) ?_
  refine cw_join (ls := ls) (pc' := 29) (st' := [.int (nI (cwMax (cwK (sK S) 0 i 2) (cwK (sK S) 1 j 2)))]) ?_ (fun hk => ?_)
  · refine lv_istore (lv' := [(5, .int (nI (cwMax (cwK (sK S) 0 i 2) (cwK (sK S) 1 j 2)))), (4, .int (nI (cwK (sK S) 1 j 2))), (3, .int (nI (cwK (sK S) 0 i 2))), (0, .ref h), (1, .int (nI i)), (2, .int (nI j))]) hx hb dX0_thirdStates_29 hl (by decide) rfl (fun ls hl => ?_)
    refine lv_iconst (v := (nI 0)) hx hb dX0_thirdStates_31 (by decide) ?_
    refine lv_istore (lv' := [(6, .int (nI 0)), (5, .int (nI (cwMax (cwK (sK S) 0 i 2) (cwK (sK S) 1 j 2)))), (4, .int (nI (cwK (sK S) 1 j 2))), (3, .int (nI (cwK (sK S) 0 i 2))), (0, .ref h), (1, .int (nI i)), (2, .int (nI j))]) hx hb dX0_thirdStates_32 hl (by decide) rfl (fun ls hl => ?_)
    refine lv_iload hx hb dX0_thirdStates_34 (lv_at hl 1 rfl) ?_
    refine lv_istore (lv' := [(7, .int (nI (cwMax (cwK (sK S) 0 i 2) (cwK (sK S) 1 j 2)))), (6, .int (nI 0)), (5, .int (nI (cwMax (cwK (sK S) 0 i 2) (cwK (sK S) 1 j 2)))), (4, .int (nI (cwK (sK S) 1 j 2))), (3, .int (nI (cwK (sK S) 0 i 2))), (0, .ref h), (1, .int (nI i)), (2, .int (nI j))]) hx hb dX0_thirdStates_36 hl (by decide) rfl (fun ls hl => ?_)
    have hlow : cwMax (cwK (sK S) 0 i 2) (cwK (sK S) 1 j 2) ≤ sC S 2 := cwMax_le hKa hKb
    have e0 : nI 0 = nI (cwSum (cwTf (cwK (sK S)) i j) (cwMax (cwK (sK S) 0 i 2) (cwK (sK S) 1 j 2))) := by rw [cwTf_low]
    rw [e0] at hl
    refine cw_loop (head := 38) (I := fun n H locs ls => ∃ k, (cwMax (cwK (sK S) 0 i 2) (cwK (sK S) 1 j 2) ≤ k) ∧ (k ≤ sC S 2 + 1) ∧ n = sC S 2 + 1 - k ∧ va_P (dC, dI) vwCl (XW d h a (sC S) (sG S) (sK S) (sM S) (sD S) (sI S) (sR S) u v w) H ∧ va_D A (XW d h a (sC S) (sG S) (sK S) (sM S) (sD S) (sI S) (sR S) u v w) ∧ va_S A s.heap H locs ∧ lv_has ls 8 [(7, .int (nI k)), (6, .int (nI (cwSum (cwTf (cwK (sK S)) i j) k))), (0, .ref h), (1, .int (nI i)), (2, .int (nI j))]) ?_ (sC S 2 + 1 - cwMax (cwK (sK S) 0 i 2) (cwK (sK S) 1 j 2)) ⟨(cwMax (cwK (sK S) 0 i 2) (cwK (sK S) 1 j 2)), Nat.le_refl _, by omega, rfl, hP, hD, hS, lv_sub hl [0, 1, 5, 6, 7] rfl⟩
    intro n H locs ls ⟨k, hk1, hk2, hn, hP, hD, hS, hl⟩ ih
    refine lv_iload hx hb dX0_thirdStates_38 (lv_at hl 0 rfl) ?_
    refine lv_aload_n hx hb dX0_thirdStates_40 rfl (lv_at hl 2 rfl) ?_
    refine cwX_get hx hb hts hown hK hP 0 rfl 0 (by decide) q23 rfl dX0_thirdStates_41 ?_
    refine lv_iconst (v := (nI 2)) hx hb dX0_thirdStates_44 (by decide) ?_
    refine cw_iald hx hb hK hP 1 0 rfl rfl (by omega) (by omega) dX0_thirdStates_45 ?_
    refine cw_gt (tgt := 89) hx hb (by omega) (by omega) dX0_thirdStates_46 (by decide) (fun h2 => ?_) (fun h2 => ?_)
    · have e2 : k = sC S 2 + 1 := by omega
      subst e2
      refine lv_iload hx hb dX0_thirdStates_89 (lv_at hl 1 rfl) ?_
      exact cw_iret hx hb hr hlocks () (rfl) hP hK hD hS dX0_thirdStates_91
    · have hK0 := hV.2.2.1 2 k 0 (by omega) (by omega) h2
      have hK1 := hV.2.2.1 2 k 1 (by omega) (by omega) h2
      refine cw_cut (pc' := 80) (fun H' locs' ls' st' => va_P (dC, dI) vwCl (XW d h a (sC S) (sG S) (sK S) (sM S) (sD S) (sI S) (sR S) u v w) H' ∧ va_S A s.heap H' locs' ∧ ls' = ls ∧ st' = [.int (nI (cwTf (cwK (sK S)) i j k)), .int (nI (cwSum (cwTf (cwK (sK S)) i j) k))]) ?_ (fun hk => ?_)
      · intro H' locs' ls' st' ⟨hP, hS, e1, e2⟩
        subst e1
        subst e2
        refine cw_iadd hx hb dX0_thirdStates_80 ?_
        refine cw_nat (b := cwSum (cwTf (cwK (sK S)) i j) (k + 1)) (rfl) ?_
        refine lv_istore (lv' := [(6, .int (nI (cwSum (cwTf (cwK (sK S)) i j) (k + 1)))), (7, .int (nI k)), (0, .ref h), (1, .int (nI i)), (2, .int (nI j))]) hx hb dX0_thirdStates_81 hl (by decide) rfl (fun ls hl => ?_)
        refine lv_iinc (v := nI (k + 1)) (lv' := [(7, .int (nI (k + 1))), (6, .int (nI (cwSum (cwTf (cwK (sK S)) i j) (k + 1)))), (0, .ref h), (1, .int (nI i)), (2, .int (nI j))]) hx hb dX0_thirdStates_83 hl (k := 1) rfl (nI_1 _) (by decide) rfl (fun ls hl => ?_)
        refine lv_goto (tgt := 38) hx hb dX0_thirdStates_86 (by decide) ?_
        exact ih (sC S 2 + 1 - (k + 1)) _ _ _ (by omega) ⟨k + 1, by omega, by omega, rfl, hP, hD, hS, hl⟩
      · refine lv_iload hx hb dX0_thirdStates_49 (lv_at hl 1 rfl) ?_
        refine lv_aload_n hx hb dX0_thirdStates_51 rfl (lv_at hl 2 rfl) ?_
        refine lv_iconst (v := (nI 2)) hx hb dX0_thirdStates_52 (by decide) ?_
        refine lv_iload hx hb dX0_thirdStates_53 (lv_at hl 0 rfl) ?_
        refine lv_iconst (v := (nI 0)) hx hb dX0_thirdStates_55 (by decide) ?_
        refine cw_callV (n := 3) (C := RX0) (As := [.int (nI 2), .int (nI k), .int (nI 0)]) (rest := [.int (nI (cwSum (cwTf (cwK (sK S)) i j) k))]) (wr := []) ⟨hx, hb, hml, hown, hts⟩ (mX_knownBy l dC dI d h a S u v w 2 k 0 (by omega) (by omega) (by omega)) (lw_V q79 q81 qs1 q13 q82) (by decide +kernel) rfl ⟨Nat.le_of_ble_eq_true rfl, Nat.le_of_ble_eq_true rfl⟩ ⟨Nat.le_refl _, Nat.le_refl _⟩ hK hP hD hS hA [0, 1, 2, 3, 4, 5, 6, 7, 8, 9] [] rfl rfl rfl (by decide) (by decide) (by decide) rfl rfl rfl hl.1 rfl (Nat.le_of_ble_eq_true rfl) dX0_thirdStates_56 (fun r uu H locs hpost hP hD hS => ?_)
        have hpost : r = nI (cwK (sK S) 2 k 0) := hpost
        subst hpost
        have hP : va_P (dC, dI) vwCl (XW d h a (sC S) (sG S) (sK S) (sM S) (sD S) (sI S) (sR S) u v w) H := hP
        have hD : va_D A (XW d h a (sC S) (sG S) (sK S) (sM S) (sD S) (sI S) (sR S) u v w) := hD
        refine lv_iload_n hx hb dX0_thirdStates_59 rfl (lv_at hl 3 rfl) ?_
        refine cw_gt (tgt := 79) hx hb (by omega) (by omega) dX0_thirdStates_60 (by decide) (fun hi0 => ?_) (fun hi0 => ?_)
        · refine lv_iconst (v := (nI 0)) hx hb dX0_thirdStates_79 (by decide) ?_
          refine cw_nat (b := cwTf (cwK (sK S)) i j k) ((cwTf_f1 hi0).symm) ?_
          exact hk _ _ _ _ ⟨hP, hS, rfl, rfl⟩
        · refine lv_aload_n hx hb dX0_thirdStates_63 rfl (lv_at hl 2 rfl) ?_
          refine lv_iconst (v := (nI 2)) hx hb dX0_thirdStates_64 (by decide) ?_
          refine lv_iload hx hb dX0_thirdStates_65 (lv_at hl 0 rfl) ?_
          refine lv_iconst (v := (nI 1)) hx hb dX0_thirdStates_67 (by decide) ?_
          refine cw_callV (n := 3) (C := RX0) (As := [.int (nI 2), .int (nI k), .int (nI 1)]) (rest := [.int (nI (cwSum (cwTf (cwK (sK S)) i j) k))]) (wr := []) ⟨hx, hb, hml, hown, hts⟩ (mX_knownBy l dC dI d h a S u v w 2 k 1 (by omega) (by omega) (by omega)) (lw_V q79 q81 qs1 q13 q82) (by decide +kernel) rfl ⟨Nat.le_of_ble_eq_true rfl, Nat.le_of_ble_eq_true rfl⟩ ⟨Nat.le_refl _, Nat.le_refl _⟩ hK hP hD hS hA [0, 1, 2, 3, 4, 5, 6, 7, 8, 9] [] rfl rfl rfl (by decide) (by decide) (by decide) rfl rfl rfl hl.1 rfl (Nat.le_of_ble_eq_true rfl) dX0_thirdStates_68 (fun r uu H locs hpost hP hD hS => ?_)
          have hpost : r = nI (cwK (sK S) 2 k 1) := hpost
          subst hpost
          have hP : va_P (dC, dI) vwCl (XW d h a (sC S) (sG S) (sK S) (sM S) (sD S) (sI S) (sR S) u v w) H := hP
          have hD : va_D A (XW d h a (sC S) (sG S) (sK S) (sM S) (sD S) (sI S) (sR S) u v w) := hD
          refine lv_iload_n hx hb dX0_thirdStates_71 rfl (lv_at hl 4 rfl) ?_
          refine cw_gt (tgt := 79) hx hb (by omega) (by omega) dX0_thirdStates_72 (by decide) (fun hj1 => ?_) (fun hj1 => ?_)
          · refine lv_iconst (v := (nI 0)) hx hb dX0_thirdStates_79 (by decide) ?_
            refine cw_nat (b := cwTf (cwK (sK S)) i j k) ((cwTf_f2 hj1).symm) ?_
            exact hk _ _ _ _ ⟨hP, hS, rfl, rfl⟩
          · refine lv_iconst (v := (nI 1)) hx hb dX0_thirdStates_75 (by decide) ?_
            refine lv_goto (tgt := 80) hx hb dX0_thirdStates_76 (by decide) ?_
            refine cw_nat (b := cwTf (cwK (sK S)) i j k) ((cwTf_t hk1 hi0 hj1).symm) ?_
            exact hk _ _ _ _ ⟨hP, hS, rfl, rfl⟩
  · refine cw_le (tgt := 27) hx hb (by omega) (by omega) dX0_thirdStates_20 (by decide) (fun hm => ?_) (fun hm => ?_)
    · refine lv_iload hx hb dX0_thirdStates_27 (lv_at hl 0 rfl) ?_
      refine cw_nat (b := cwMax (cwK (sK S) 0 i 2) (cwK (sK S) 1 j 2)) ((cwMax_l hm).symm) ?_
      exact hk
    · refine lv_iload_n hx hb dX0_thirdStates_23 rfl (lv_at hl 1 rfl) ?_
      refine lv_goto (tgt := 29) hx hb dX0_thirdStates_24 (by decide) ?_
      refine cw_nat (b := cwMax (cwK (sK S) 0 i 2) (cwK (sK S) 1 j 2)) ((cwMax_r hm).symm) ?_
      exact hk
set_option maxHeartbeats 4000000 in
set_option maxRecDepth 100000 in
/-- cuts -/
theorem mX_cuts (l : Launch) (dC : Nat → ClassId) (dI : Nat → Nat → Nat) (d : Nat → ClassId) (h : Nat) (a : Nat → Nat) (S : WSt) (u v w : Nat → Nat) (hO : cwOk S) : cwMi l yX0_cuts cX0_cuts 4 (some .int) 2 50 (dC, dI) vwCl (XT d) [.ref h] (XS d h a S u v w) (fun r (_ : Unit) => r = nI (cwCuts (sC S) (cwK (sK S)))) (fun _ => XS d h a S u v w) := by
  refine cw_met ([(0, .ref h)]) (by decide) (Nat.le_of_ble_eq_true rfl) rfl ?_
  intro p e s m below meth c A ls hx hb hr hlocks hml hown hts hA hP hK hD hS hl
  have hown : s.vm.findClass RX0 = some m.cls := hown
  have hV := hO.1
  have hc0 := hV.1 0 (by omega)
  have hc1 := hV.1 1 (by omega)
  have hc2 := hV.1 2 (by omega)
  refine lv_iconst (v := (nI 0)) hx hb dX0_cuts_0 (by decide) ?_
  refine lv_istore_n (lv' := [(1, .int (nI 0)), (0, .ref h)]) hx hb dX0_cuts_1 rfl hl (by decide) rfl (fun ls hl => ?_)
  refine lv_iconst (v := (nI 0)) hx hb dX0_cuts_2 (by decide) ?_
  refine lv_istore_n (lv' := [(2, .int (nI 0)), (1, .int (nI 0)), (0, .ref h)]) hx hb dX0_cuts_3 rfl hl (by decide) rfl (fun ls hl => ?_)
  refine cw_loop (head := 4) (I := fun n H locs ls => ∃ i, (i ≤ sC S 0 + 1) ∧ n = sC S 0 + 1 - i ∧ va_P (dC, dI) vwCl (XW d h a (sC S) (sG S) (sK S) (sM S) (sD S) (sI S) (sR S) u v w) H ∧ va_D A (XW d h a (sC S) (sG S) (sK S) (sM S) (sD S) (sI S) (sR S) u v w) ∧ va_S A s.heap H locs ∧ lv_has ls 4 [(2, .int (nI i)), (1, .int (nI (cwSum (fun x => cwSum (fun y => cwTwo (sC S) (cwK (sK S)) x y) (sC S 1 + 1)) i))), (0, .ref h)]) ?_ (sC S 0 + 1) ⟨0, by omega, rfl, hP, hD, hS, hl⟩
  intro n H locs ls ⟨i, hi, hn, hP, hD, hS, hl⟩ ih
  refine lv_iload_n hx hb dX0_cuts_4 rfl (lv_at hl 0 rfl) ?_
  refine lv_aload_n hx hb dX0_cuts_5 rfl (lv_at hl 2 rfl) ?_
  refine cwX_get hx hb hts hown hK hP 0 rfl 0 (by decide) q23 rfl dX0_cuts_6 ?_
  refine lv_iconst (v := (nI 0)) hx hb dX0_cuts_9 (by decide) ?_
  refine cw_iald hx hb hK hP 1 0 rfl rfl (by omega) (by omega) dX0_cuts_10 ?_
  refine cw_gt (tgt := 69) hx hb (by omega) (by omega) dX0_cuts_11 (by decide) (fun h0 => ?_) (fun h0 => ?_)
  · have e0 : i = sC S 0 + 1 := by omega
    subst e0
    refine lv_iload_n hx hb dX0_cuts_69 rfl (lv_at hl 1 rfl) ?_
    exact cw_iret hx hb hr hlocks () (rfl) hP hK hD hS dX0_cuts_70
  · refine lv_iconst (v := (nI 0)) hx hb dX0_cuts_14 (by decide) ?_
    refine lv_istore_n (lv' := [(3, .int (nI 0)), (2, .int (nI i)), (1, .int (nI (cwSum (fun x => cwSum (fun y => cwTwo (sC S) (cwK (sK S)) x y) (sC S 1 + 1)) i))), (0, .ref h)]) hx hb dX0_cuts_15 rfl hl (by decide) rfl (fun ls hl => ?_)
    refine cw_loop (head := 16) (I := fun n2 H locs ls => ∃ j, (j ≤ sC S 1 + 1) ∧ n2 = sC S 1 + 1 - j ∧ va_P (dC, dI) vwCl (XW d h a (sC S) (sG S) (sK S) (sM S) (sD S) (sI S) (sR S) u v w) H ∧ va_D A (XW d h a (sC S) (sG S) (sK S) (sM S) (sD S) (sI S) (sR S) u v w) ∧ va_S A s.heap H locs ∧ lv_has ls 4 [(3, .int (nI j)), (2, .int (nI i)), (1, .int (nI (cwSum (fun x => cwSum (fun y => cwTwo (sC S) (cwK (sK S)) x y) (sC S 1 + 1)) i + cwSum (fun y => cwTwo (sC S) (cwK (sK S)) i y) j))), (0, .ref h)]) ?_ (sC S 1 + 1) ⟨0, by omega, rfl, hP, hD, hS, hl⟩
    intro n2 H locs ls ⟨j, hj, hn2, hP, hD, hS, hl⟩ ih2
    refine lv_iload_n hx hb dX0_cuts_16 rfl (lv_at hl 0 rfl) ?_
    refine lv_aload_n hx hb dX0_cuts_17 rfl (lv_at hl 3 rfl) ?_
    refine cwX_get hx hb hts hown hK hP 0 rfl 0 (by decide) q23 rfl dX0_cuts_18 ?_
    refine lv_iconst (v := (nI 1)) hx hb dX0_cuts_21 (by decide) ?_
    refine cw_iald hx hb hK hP 1 0 rfl rfl (by omega) (by omega) dX0_cuts_22 ?_
    refine cw_gt (tgt := 63) hx hb (by omega) (by omega) dX0_cuts_23 (by decide) (fun h1 => ?_) (fun h1 => ?_)
    · have e1 : j = sC S 1 + 1 := by omega
      subst e1
      refine lv_iinc (v := nI (i + 1)) (lv' := [(2, .int (nI (i + 1))), (3, .int (nI (sC S 1 + 1))), (1, .int (nI (cwSum (fun x => cwSum (fun y => cwTwo (sC S) (cwK (sK S)) x y) (sC S 1 + 1)) i + cwSum (fun y => cwTwo (sC S) (cwK (sK S)) i y) (sC S 1 + 1)))), (0, .ref h)]) hx hb dX0_cuts_63 hl (k := 1) rfl (nI_1 _) (by decide) rfl (fun ls hl => ?_)
      refine lv_goto (tgt := 4) hx hb dX0_cuts_66 (by decide) ?_
      exact ih (sC S 0 + 1 - (i + 1)) _ _ _ (by omega) ⟨i + 1, by omega, rfl, hP, hD, hS, lv_sub hl [0, 2, 3] rfl⟩
    · have hKa := hV.2.2.1 0 i 1 (by omega) (by omega) h0
      have hKb := hV.2.2.1 1 j 0 (by omega) (by omega) h1
      refine lv_aload_n hx hb dX0_cuts_26 rfl (lv_at hl 3 rfl) ?_
      refine lv_iconst (v := (nI 0)) hx hb dX0_cuts_27 (by decide) ?_
      refine lv_iload_n hx hb dX0_cuts_28 rfl (lv_at hl 1 rfl) ?_
      refine lv_iconst (v := (nI 1)) hx hb dX0_cuts_29 (by decide) ?_
      refine cw_callV (n := 3) (C := RX0) (As := [.int (nI 0), .int (nI i), .int (nI 1)]) (rest := []) (wr := []) ⟨hx, hb, hml, hown, hts⟩ (mX_knownBy l dC dI d h a S u v w 0 i 1 (by omega) (by omega) (by omega)) (lw_V q79 q81 qs1 q13 q82) (by decide +kernel) rfl ⟨Nat.le_of_ble_eq_true rfl, Nat.le_of_ble_eq_true rfl⟩ ⟨Nat.le_refl _, Nat.le_refl _⟩ hK hP hD hS hA [0, 1, 2, 3, 4, 5, 6, 7, 8, 9] [] rfl rfl rfl (by decide) (by decide) (by decide) rfl rfl rfl hl.1 rfl (Nat.le_of_ble_eq_true rfl) dX0_cuts_30 (fun r uu H locs hpost hP hD hS => ?_)
      have hpost : r = nI (cwK (sK S) 0 i 1) := hpost
      subst hpost
      have hP : va_P (dC, dI) vwCl (XW d h a (sC S) (sG S) (sK S) (sM S) (sD S) (sI S) (sR S) u v w) H := hP
      have hD : va_D A (XW d h a (sC S) (sG S) (sK S) (sM S) (sD S) (sI S) (sR S) u v w) := hD
      refine lv_iload_n hx hb dX0_cuts_33 rfl (lv_at hl 0 rfl) ?_
      refine cw_gt (tgt := 57) hx hb (by omega) (by omega) dX0_cuts_34 (by decide) (fun hx1 => ?_) (fun hx1 => ?_)
      · have e9 : nI (cwSum (fun x => cwSum (fun y => cwTwo (sC S) (cwK (sK S)) x y) (sC S 1 + 1)) i + cwSum (fun y => cwTwo (sC S) (cwK (sK S)) i y) j) = nI (cwSum (fun x => cwSum (fun y => cwTwo (sC S) (cwK (sK S)) x y) (sC S 1 + 1)) i + cwSum (fun y => cwTwo (sC S) (cwK (sK S)) i y) (j + 1)) := by
          rw [cwSum_s]
          rw [show cwTwo (sC S) (cwK (sK S)) i j = 0 from cwTwo_f1 hx1]
          rfl
        rw [e9] at hl
        refine lv_iinc (v := nI (j + 1)) (lv' := [(3, .int (nI (j + 1))), (2, .int (nI i)), (1, .int (nI (cwSum (fun x => cwSum (fun y => cwTwo (sC S) (cwK (sK S)) x y) (sC S 1 + 1)) i + cwSum (fun y => cwTwo (sC S) (cwK (sK S)) i y) (j + 1)))), (0, .ref h)]) hx hb dX0_cuts_57 hl (k := 0) rfl (nI_1 _) (by decide) rfl (fun ls hl => ?_)
        refine lv_goto (tgt := 16) hx hb dX0_cuts_60 (by decide) ?_
        exact ih2 (sC S 1 + 1 - (j + 1)) _ _ _ (by omega) ⟨j + 1, by omega, rfl, hP, hD, hS, hl⟩
      · refine lv_aload_n hx hb dX0_cuts_37 rfl (lv_at hl 3 rfl) ?_
        refine lv_iconst (v := (nI 1)) hx hb dX0_cuts_38 (by decide) ?_
        refine lv_iload_n hx hb dX0_cuts_39 rfl (lv_at hl 0 rfl) ?_
        refine lv_iconst (v := (nI 0)) hx hb dX0_cuts_40 (by decide) ?_
        refine cw_callV (n := 3) (C := RX0) (As := [.int (nI 1), .int (nI j), .int (nI 0)]) (rest := []) (wr := []) ⟨hx, hb, hml, hown, hts⟩ (mX_knownBy l dC dI d h a S u v w 1 j 0 (by omega) (by omega) (by omega)) (lw_V q79 q81 qs1 q13 q82) (by decide +kernel) rfl ⟨Nat.le_of_ble_eq_true rfl, Nat.le_of_ble_eq_true rfl⟩ ⟨Nat.le_refl _, Nat.le_refl _⟩ hK hP hD hS hA [0, 1, 2, 3, 4, 5, 6, 7, 8, 9] [] rfl rfl rfl (by decide) (by decide) (by decide) rfl rfl rfl hl.1 rfl (Nat.le_of_ble_eq_true rfl) dX0_cuts_41 (fun r uu H locs hpost hP hD hS => ?_)
        have hpost : r = nI (cwK (sK S) 1 j 0) := hpost
        subst hpost
        have hP : va_P (dC, dI) vwCl (XW d h a (sC S) (sG S) (sK S) (sM S) (sD S) (sI S) (sR S) u v w) H := hP
        have hD : va_D A (XW d h a (sC S) (sG S) (sK S) (sM S) (sD S) (sI S) (sR S) u v w) := hD
        refine lv_iload_n hx hb dX0_cuts_44 rfl (lv_at hl 1 rfl) ?_
        refine cw_gt (tgt := 57) hx hb (by omega) (by omega) dX0_cuts_45 (by decide) (fun hy1 => ?_) (fun hy1 => ?_)
        · have e9 : nI (cwSum (fun x => cwSum (fun y => cwTwo (sC S) (cwK (sK S)) x y) (sC S 1 + 1)) i + cwSum (fun y => cwTwo (sC S) (cwK (sK S)) i y) j) = nI (cwSum (fun x => cwSum (fun y => cwTwo (sC S) (cwK (sK S)) x y) (sC S 1 + 1)) i + cwSum (fun y => cwTwo (sC S) (cwK (sK S)) i y) (j + 1)) := by
            rw [cwSum_s]
            rw [show cwTwo (sC S) (cwK (sK S)) i j = 0 from cwTwo_f2 hy1]
            rfl
          rw [e9] at hl
          refine lv_iinc (v := nI (j + 1)) (lv' := [(3, .int (nI (j + 1))), (2, .int (nI i)), (1, .int (nI (cwSum (fun x => cwSum (fun y => cwTwo (sC S) (cwK (sK S)) x y) (sC S 1 + 1)) i + cwSum (fun y => cwTwo (sC S) (cwK (sK S)) i y) (j + 1)))), (0, .ref h)]) hx hb dX0_cuts_57 hl (k := 0) rfl (nI_1 _) (by decide) rfl (fun ls hl => ?_)
          refine lv_goto (tgt := 16) hx hb dX0_cuts_60 (by decide) ?_
          exact ih2 (sC S 1 + 1 - (j + 1)) _ _ _ (by omega) ⟨j + 1, by omega, rfl, hP, hD, hS, hl⟩
        · refine lv_iload_n hx hb dX0_cuts_48 rfl (lv_at hl 2 rfl) ?_
          refine lv_aload_n hx hb dX0_cuts_49 rfl (lv_at hl 3 rfl) ?_
          refine lv_iload_n hx hb dX0_cuts_50 rfl (lv_at hl 1 rfl) ?_
          refine lv_iload_n hx hb dX0_cuts_51 rfl (lv_at hl 0 rfl) ?_
          refine cw_callV (n := 2) (C := RX0) (As := [.int (nI i), .int (nI j)]) (rest := [.int (nI (cwSum (fun x => cwSum (fun y => cwTwo (sC S) (cwK (sK S)) x y) (sC S 1 + 1)) i + cwSum (fun y => cwTwo (sC S) (cwK (sK S)) i y) j))]) (wr := []) ⟨hx, hb, hml, hown, hts⟩ (mX_thirdStates l dC dI d h a S u v w hO i j h0 h1) (lw_V q123 q125 qs7 q13 q126) (by decide +kernel) rfl ⟨Nat.le_of_ble_eq_true rfl, Nat.le_of_ble_eq_true rfl⟩ ⟨Nat.le_refl _, Nat.le_refl _⟩ hK hP hD hS hA [0, 1, 2, 3, 4, 5, 6, 7, 8, 9] [] rfl rfl rfl (by decide) (by decide) (by decide) rfl rfl rfl hl.1 rfl (Nat.le_of_ble_eq_true rfl) dX0_cuts_52 (fun r uu H locs hpost hP hD hS => ?_)
          have hpost : r = nI (cwThird (sC S) (cwK (sK S)) i j) := hpost
          subst hpost
          have hP : va_P (dC, dI) vwCl (XW d h a (sC S) (sG S) (sK S) (sM S) (sD S) (sI S) (sR S) u v w) H := hP
          have hD : va_D A (XW d h a (sC S) (sG S) (sK S) (sM S) (sD S) (sI S) (sR S) u v w) := hD
          refine cw_iadd hx hb dX0_cuts_55 ?_
          refine lv_istore_n (lv' := [(1, .int (nI ((cwSum (fun x => cwSum (fun y => cwTwo (sC S) (cwK (sK S)) x y) (sC S 1 + 1)) i + cwSum (fun y => cwTwo (sC S) (cwK (sK S)) i y) j) + (cwThird (sC S) (cwK (sK S)) i j)))), (3, .int (nI j)), (2, .int (nI i)), (0, .ref h)]) hx hb dX0_cuts_56 rfl hl (by decide) rfl (fun ls hl => ?_)
          have e9 : nI ((cwSum (fun x => cwSum (fun y => cwTwo (sC S) (cwK (sK S)) x y) (sC S 1 + 1)) i + cwSum (fun y => cwTwo (sC S) (cwK (sK S)) i y) j) + cwThird (sC S) (cwK (sK S)) i j) = nI (cwSum (fun x => cwSum (fun y => cwTwo (sC S) (cwK (sK S)) x y) (sC S 1 + 1)) i + cwSum (fun y => cwTwo (sC S) (cwK (sK S)) i y) (j + 1)) := by
            rw [cwSum_s]
            rw [show cwTwo (sC S) (cwK (sK S)) i j = cwThird (sC S) (cwK (sK S)) i j from cwTwo_t hx1 hy1, Nat.add_assoc]
          rw [e9] at hl
          refine lv_iinc (v := nI (j + 1)) (lv' := [(3, .int (nI (j + 1))), (1, .int (nI (cwSum (fun x => cwSum (fun y => cwTwo (sC S) (cwK (sK S)) x y) (sC S 1 + 1)) i + cwSum (fun y => cwTwo (sC S) (cwK (sK S)) i y) (j + 1)))), (2, .int (nI i)), (0, .ref h)]) hx hb dX0_cuts_57 hl (k := 1) rfl (nI_1 _) (by decide) rfl (fun ls hl => ?_)
          refine lv_goto (tgt := 16) hx hb dX0_cuts_60 (by decide) ?_
          exact ih2 (sC S 1 + 1 - (j + 1)) _ _ _ (by omega) ⟨j + 1, by omega, rfl, hP, hD, hS, lv_sub hl [0, 2, 1, 3] rfl⟩
set_option maxHeartbeats 4000000 in
set_option maxRecDepth 100000 in
/-- neededState -/
theorem mX_neededState (l : Launch) (dC : Nat → ClassId) (dI : Nat → Nat → Nat) (d : Nat → ClassId) (h : Nat) (a : Nat → Nat) (S : WSt) (u v w : Nat → Nat) (hO : cwOk S) (P sv : Nat) (hP3 : P < 3) (hsv : sv < 8) (hu : ∀ x, x < 3 → u x ≤ sC S x) : cwMi l yX0_neededState cX0_neededState 6 (some .int) 1 23 (dC, dI) vwCl (XT d) [.ref h, .int (nI P), .int (nI sv)] (XS d h a S u v w) (fun r (_ : Unit) => ∃ k, r = nI k ∧ k ≤ sC S P + 1 ∧ cwNd (sC S) (cwK (sK S)) (cwG (sG S)) sv u P k ∧ (∀ x, x < 3 → cwK (sK S) x (u x) P ≤ k) ∧ (k ≤ sC S P → cwBit sv P = 1 → cwG (sG S) P k = true)) (fun _ => XS d h a S u v w) := by
  refine cw_met ([(0, .ref h), (1, .int (nI P)), (2, .int (nI sv))]) (by decide) (Nat.le_of_ble_eq_true rfl) rfl ?_
  intro p e s m below meth c A ls hx hb hr hlocks hml hown hts hA hP hK hD hS hl
  have hown : s.vm.findClass RX0 = some m.cls := hown
  have hV := hO.1
  have hc8 := hV.1 P hP3
  have huP := hu P hP3
  refine lv_aload_n hx hb dX0_neededState_0 rfl (lv_at hl 0 rfl) ?_
  refine cwX_get hx hb hts hown hK hP 0 rfl 7 (by decide) q30 rfl dX0_neededState_1 ?_
  refine lv_iload_n hx hb dX0_neededState_4 rfl (lv_at hl 1 rfl) ?_
  refine cw_iald hx hb hK hP 7 6 rfl rfl (by omega) (by omega) dX0_neededState_5 ?_
  refine lv_istore_n (lv' := [(3, .int (nI (u P))), (0, .ref h), (1, .int (nI P)), (2, .int (nI sv))]) hx hb dX0_neededState_6 rfl hl (by decide) rfl (fun ls hl => ?_)
  refine lv_iconst (v := (nI 0)) hx hb dX0_neededState_7 (by decide) ?_
  refine lv_istore (lv' := [(4, .int (nI 0)), (3, .int (nI (u P))), (0, .ref h), (1, .int (nI P)), (2, .int (nI sv))]) hx hb dX0_neededState_8 hl (by decide) rfl (fun ls hl => ?_)
  refine cw_loop (head := 10) (I := fun n H locs ls => ∃ q k, (q ≤ 3) ∧ (k ≤ sC S P) ∧ (cwNd (sC S) (cwK (sK S)) (cwG (sG S)) sv u P k) ∧ (∀ x, x < q → cwK (sK S) x (u x) P ≤ k) ∧ n = 3 - q ∧ va_P (dC, dI) vwCl (XW d h a (sC S) (sG S) (sK S) (sM S) (sD S) (sI S) (sR S) u v w) H ∧ va_D A (XW d h a (sC S) (sG S) (sK S) (sM S) (sD S) (sI S) (sR S) u v w) ∧ va_S A s.heap H locs ∧ lv_has ls 6 [(4, .int (nI q)), (3, .int (nI k)), (0, .ref h), (1, .int (nI P)), (2, .int (nI sv))]) ?_ (3) ⟨0, u P, by omega, huP, cwNd_0 hP3, fun x hx => absurd hx (by omega), rfl, hP, hD, hS, hl⟩
  intro n H locs ls ⟨q, k, hq, hkc, hnd, hto, hn, hP, hD, hS, hl⟩ ih
  refine lv_iload hx hb dX0_neededState_10 (lv_at hl 0 rfl) ?_
  refine lv_iconst (v := (nI 3)) hx hb dX0_neededState_12 (by decide) ?_
  refine cw_ge (tgt := 51) hx hb (by omega) (by omega) dX0_neededState_13 (by decide) (fun h3 => ?_) (fun h3 => ?_)
  · have e3 : q = 3 := by omega
    subst e3
    refine cw_loop (head := 51) (I := fun n2 H locs ls => ∃ k, (k ≤ sC S P + 1) ∧ (cwNd (sC S) (cwK (sK S)) (cwG (sG S)) sv u P k) ∧ (∀ x, x < 3 → cwK (sK S) x (u x) P ≤ k) ∧ n2 = sC S P + 1 - k ∧ va_P (dC, dI) vwCl (XW d h a (sC S) (sG S) (sK S) (sM S) (sD S) (sI S) (sR S) u v w) H ∧ va_D A (XW d h a (sC S) (sG S) (sK S) (sM S) (sD S) (sI S) (sR S) u v w) ∧ va_S A s.heap H locs ∧ lv_has ls 6 [(3, .int (nI k)), (0, .ref h), (1, .int (nI P)), (2, .int (nI sv))]) ?_ (sC S P + 1 - k) ⟨k, by omega, hnd, hto, rfl, hP, hD, hS, lv_sub hl [1, 2, 3, 4] rfl⟩
    intro n2 H locs ls ⟨k, hkc, hnd, hto, hn2, hP, hD, hS, hl⟩ ih2
    refine lv_iload_n hx hb dX0_neededState_51 rfl (lv_at hl 0 rfl) ?_
    refine lv_aload_n hx hb dX0_neededState_52 rfl (lv_at hl 1 rfl) ?_
    refine cwX_get hx hb hts hown hK hP 0 rfl 0 (by decide) q23 rfl dX0_neededState_53 ?_
    refine lv_iload_n hx hb dX0_neededState_56 rfl (lv_at hl 2 rfl) ?_
    refine cw_iald hx hb hK hP 1 0 rfl rfl (by omega) (by omega) dX0_neededState_57 ?_
    refine cw_gt (tgt := 89) hx hb (by omega) (by omega) dX0_neededState_58 (by decide) (fun hgt => ?_) (fun hgt => ?_)
    · refine lv_iload_n hx hb dX0_neededState_89 rfl (lv_at hl 0 rfl) ?_
      exact cw_iret hx hb hr hlocks () (⟨k, rfl, hkc, hnd, hto, fun hle _ => absurd hle (by omega)⟩) hP hK hD hS dX0_neededState_90
    · have hbo := cwBit_or sv P
      refine lv_iload_n hx hb dX0_neededState_61 rfl (lv_at hl 3 rfl) ?_
      refine lv_iload_n hx hb dX0_neededState_62 rfl (lv_at hl 2 rfl) ?_
      refine cw_bitu hx hb (by omega) (by omega) dX0_neededState_63 dX0_neededState_64 dX0_neededState_65 ?_
      refine cw_eq0 (tgt := 89) hx hb (by omega) dX0_neededState_66 (by decide) (fun hb0 => ?_) (fun hb0 => ?_)
      · refine lv_iload_n hx hb dX0_neededState_89 rfl (lv_at hl 0 rfl) ?_
        exact cw_iret hx hb hr hlocks () (⟨k, rfl, hkc, hnd, hto, fun _ hb1 => absurd hb1 (by omega)⟩) hP hK hD hS dX0_neededState_90
      · refine lv_aload_n hx hb dX0_neededState_69 rfl (lv_at hl 1 rfl) ?_
        refine cwX_get hx hb hts hown hK hP 0 rfl 1 (by decide) q24 rfl dX0_neededState_70 ?_
        refine lv_bipush (v := (nI 9)) hx hb dX0_neededState_73 (by decide) ?_
        refine lv_iload_n hx hb dX0_neededState_75 rfl (lv_at hl 2 rfl) ?_
        refine cw_imul hx hb dX0_neededState_76 ?_
        refine lv_iload_n hx hb dX0_neededState_77 rfl (lv_at hl 0 rfl) ?_
        refine cw_iadd hx hb dX0_neededState_78 ?_
        refine cw_zald hx hb hK hP 2 1 rfl rfl (by omega) (by omega) dX0_neededState_79 ?_
        refine cw_zne (tgt := 89) hx hb dX0_neededState_80 (by decide) (fun hg => ?_) (fun hg => ?_)
        · refine lv_iload_n hx hb dX0_neededState_89 rfl (lv_at hl 0 rfl) ?_
          exact cw_iret hx hb hr hlocks () (⟨k, rfl, hkc, hnd, hto, fun _ _ => hg⟩) hP hK hD hS dX0_neededState_90
        · refine lv_iinc (v := nI (k + 1)) (lv' := [(3, .int (nI (k + 1))), (0, .ref h), (1, .int (nI P)), (2, .int (nI sv))]) hx hb dX0_neededState_83 hl (k := 0) rfl (nI_1 _) (by decide) rfl (fun ls hl => ?_)
          refine lv_goto (tgt := 51) hx hb dX0_neededState_86 (by decide) ?_
          exact ih2 (sC S P + 1 - (k + 1)) _ _ _ (by omega) ⟨k + 1, by omega, cwNd_next hP3 hnd (by omega) hg, fun x hx => Nat.le_succ_of_le (hto x hx), rfl, hP, hD, hS, hl⟩
  · have huq := hu q h3
    have hq8 := hV.1 q h3
    have htold := hV.2.2.1 q (u q) P h3 hP3 huq
    refine lv_aload_n hx hb dX0_neededState_16 rfl (lv_at hl 2 rfl) ?_
    refine lv_iload hx hb dX0_neededState_17 (lv_at hl 0 rfl) ?_
    refine lv_aload_n hx hb dX0_neededState_19 rfl (lv_at hl 2 rfl) ?_
    refine cwX_get hx hb hts hown hK hP 0 rfl 7 (by decide) q30 rfl dX0_neededState_20 ?_
    refine lv_iload hx hb dX0_neededState_23 (lv_at hl 0 rfl) ?_
    refine cw_iald hx hb hK hP 7 6 rfl rfl (by omega) (by omega) dX0_neededState_25 ?_
    refine lv_iload_n hx hb dX0_neededState_26 rfl (lv_at hl 3 rfl) ?_
    refine cw_callV (n := 3) (C := RX0) (As := [.int (nI q), .int (nI (u q)), .int (nI P)]) (rest := []) (wr := []) ⟨hx, hb, hml, hown, hts⟩ (mX_knownBy l dC dI d h a S u v w q (u q) P (by omega) (by omega) (by omega)) (lw_V q79 q81 qs1 q13 q82) (by decide +kernel) rfl ⟨Nat.le_of_ble_eq_true rfl, Nat.le_of_ble_eq_true rfl⟩ ⟨Nat.le_refl _, Nat.le_refl _⟩ hK hP hD hS hA [0, 1, 2, 3, 4, 5, 6, 7, 8, 9] [] rfl rfl rfl (by decide) (by decide) (by decide) rfl rfl rfl hl.1 rfl (Nat.le_of_ble_eq_true rfl) dX0_neededState_27 (fun r uu H locs hpost hP hD hS => ?_)
    have hpost : r = nI (cwK (sK S) q (u q) P) := hpost
    subst hpost
    have hP : va_P (dC, dI) vwCl (XW d h a (sC S) (sG S) (sK S) (sM S) (sD S) (sI S) (sR S) u v w) H := hP
    have hD : va_D A (XW d h a (sC S) (sG S) (sK S) (sM S) (sD S) (sI S) (sR S) u v w) := hD
    refine lv_istore (lv' := [(5, .int (nI (cwK (sK S) q (u q) P))), (4, .int (nI q)), (3, .int (nI k)), (0, .ref h), (1, .int (nI P)), (2, .int (nI sv))]) hx hb dX0_neededState_30 hl (by decide) rfl (fun ls hl => ?_)
    refine lv_iload hx hb dX0_neededState_32 (lv_at hl 0 rfl) ?_
    refine lv_iload_n hx hb dX0_neededState_34 rfl (lv_at hl 2 rfl) ?_
    refine cw_le (tgt := 43) hx hb (by omega) (by omega) dX0_neededState_35 (by decide) (fun hm => ?_) (fun hm => ?_)
    · refine lv_iload_n hx hb dX0_neededState_43 rfl (lv_at hl 2 rfl) ?_
      refine lv_istore_n (lv' := [(3, .int (nI k)), (5, .int (nI (cwK (sK S) q (u q) P))), (4, .int (nI q)), (0, .ref h), (1, .int (nI P)), (2, .int (nI sv))]) hx hb dX0_neededState_44 rfl hl (by decide) rfl (fun ls hl => ?_)
      refine lv_iinc (v := nI (q + 1)) (lv' := [(4, .int (nI (q + 1))), (3, .int (nI k)), (5, .int (nI (cwK (sK S) q (u q) P))), (0, .ref h), (1, .int (nI P)), (2, .int (nI sv))]) hx hb dX0_neededState_45 hl (k := 2) rfl (nI_1 _) (by decide) rfl (fun ls hl => ?_)
      refine lv_goto (tgt := 10) hx hb dX0_neededState_48 (by decide) ?_
      exact ih (3 - (q + 1)) _ _ _ (by omega) ⟨q + 1, k, by omega, hkc, hnd, (fun x hx => by
          by_cases e : x = q
          · rw [e]; exact hm
          · exact hto x (by omega)), rfl, hP, hD, hS, lv_sub hl [0, 1, 3, 4, 5] rfl⟩
    · refine lv_iload hx hb dX0_neededState_38 (lv_at hl 0 rfl) ?_
      refine lv_goto (tgt := 44) hx hb dX0_neededState_40 (by decide) ?_
      refine lv_istore_n (lv' := [(3, .int (nI (cwK (sK S) q (u q) P))), (5, .int (nI (cwK (sK S) q (u q) P))), (4, .int (nI q)), (0, .ref h), (1, .int (nI P)), (2, .int (nI sv))]) hx hb dX0_neededState_44 rfl hl (by decide) rfl (fun ls hl => ?_)
      refine lv_iinc (v := nI (q + 1)) (lv' := [(4, .int (nI (q + 1))), (3, .int (nI (cwK (sK S) q (u q) P))), (5, .int (nI (cwK (sK S) q (u q) P))), (0, .ref h), (1, .int (nI P)), (2, .int (nI sv))]) hx hb dX0_neededState_45 hl (k := 2) rfl (nI_1 _) (by decide) rfl (fun ls hl => ?_)
      refine lv_goto (tgt := 10) hx hb dX0_neededState_48 (by decide) ?_
      exact ih (3 - (q + 1)) _ _ _ (by omega) ⟨q + 1, cwK (sK S) q (u q) P, by omega, htold, cwNd_told hV hP3 h3 hnd hm, (fun x hx => by
          by_cases e : x = q
          · rw [e]; exact Nat.le_refl _
          · exact Nat.le_of_lt (Nat.lt_of_le_of_lt (hto x (by omega)) hm)), rfl, hP, hD, hS, lv_sub hl [0, 1, 3, 4, 5] rfl⟩
end
section
/-! CutWatch: possibly, least -/
theorem cw_set1 {x : Int32} (h : x < nI 1) : ¬ (0 < cwIx x 8 ∧ cwIx x 8 < 8) := by
  intro hh
  have h1 := Int32.lt_iff_toInt_lt.mp h
  rw [nI_toInt (by decide)] at h1
  unfold cwIx at hh
  by_cases g : 0 ≤ x.toInt ∧ x.toInt < ((8 : Nat) : Int)
  · rw [if_pos g] at hh
    omega
  · rw [if_neg g] at hh
    omega
theorem cw_set7 {x : Int32} (h : nI 7 < x) : ¬ (0 < cwIx x 8 ∧ cwIx x 8 < 8) := by
  rw [show cwIx x 8 = 8 from cwIx_gt (by decide) h]
  omega
theorem cw_set {x : Int32} (h1 : ¬ x < nI 1) (h7 : ¬ nI 7 < x) : ∃ sv : Nat, 0 < sv ∧ sv < 8 ∧ x = nI sv := by
  obtain ⟨j, hj, rfl⟩ := cwIx_of' (n := 7) (by decide) (fun h => h1 (by
    rw [Int32.lt_iff_toInt_lt] at h ⊢
    have h2 : (0 : Int32).toInt = 0 := rfl
    rw [nI_toInt (by decide)]
    omega)) h7
  refine ⟨j, ?_, hj, rfl⟩
  rcases Nat.eq_zero_or_pos j with e | e
  · rw [e] at h1
    exact absurd (nI_lt (by decide) (by decide)) h1
  · exact e
set_option maxHeartbeats 4000000 in
set_option maxRecDepth 100000 in
/-- findLeast -/
theorem mX_findLeast (l : Launch) (dC : Nat → ClassId) (dI : Nat → Nat → Nat) (d : Nat → ClassId) (h : Nat) (a : Nat → Nat) (S : WSt) (u v w : Nat → Nat) (hO : cwOk S) (sv : Nat) (hsv : sv < 8) : cwMi l yX0_findLeast cX0_findLeast 6 (some .boolean) 2 48 (dC, dI) vwCl (XT d) [.ref h, .int (nI sv)] (XS d h a S u v w) (fun r (t : Nat → Nat) => (r = 1 ∧ cwPG (sC S) (cwK (sK S)) (cwG (sG S)) sv t ∧ ∀ C, cwPG (sC S) (cwK (sK S)) (cwG (sG S)) sv C → ∀ x, x < 3 → t x ≤ C x) ∨ (r = 0 ∧ ∀ C, ¬ cwPG (sC S) (cwK (sK S)) (cwG (sG S)) sv C)) (fun t => XS d h a S t v w) := by
  refine cw_met ([(0, .ref h), (1, .int (nI sv))]) (by decide) (Nat.le_of_ble_eq_true rfl) rfl ?_
  intro p e s m below meth c A ls hx hb hr hlocks hml hown hts hA hP hK hD hS hl
  have hown : s.vm.findClass RX0 = some m.cls := hown
  have hV := hO.1
  refine lv_iconst (v := (nI 0)) hx hb dX0_findLeast_0 (by decide) ?_
  refine lv_istore_n (lv' := [(2, .int (nI 0)), (0, .ref h), (1, .int (nI sv))]) hx hb dX0_findLeast_1 rfl hl (by decide) rfl (fun ls hl => ?_)
  refine cw_loop (head := 2) (I := fun n H locs ls => ∃ (q : Nat) (t : Nat → Nat), (q ≤ 3) ∧ (∀ x, x < q → t x = 0) ∧ n = 3 - q ∧ va_P (dC, dI) vwCl (XW d h a (sC S) (sG S) (sK S) (sM S) (sD S) (sI S) (sR S) t v w) H ∧ va_D A (XW d h a (sC S) (sG S) (sK S) (sM S) (sD S) (sI S) (sR S) t v w) ∧ va_S A s.heap H locs ∧ lv_has ls 6 [(2, .int (nI q)), (0, .ref h), (1, .int (nI sv))]) ?_ (3) ⟨0, u, by omega, fun x hx => absurd hx (by omega), rfl, hP, hD, hS, hl⟩
  intro n H locs ls ⟨q, t, hq, hz, hn, hP, hD, hS, hl⟩ ih
  refine lv_iload_n hx hb dX0_findLeast_2 rfl (lv_at hl 0 rfl) ?_
  refine lv_iconst (v := (nI 3)) hx hb dX0_findLeast_3 (by decide) ?_
  refine cw_ge (tgt := 20) hx hb (by omega) (by omega) dX0_findLeast_4 (by decide) (fun h3 => ?_) (fun h3 => ?_)
  · have e3 : q = 3 := by omega
    subst e3
    refine lv_iconst (v := (bI true)) hx hb dX0_findLeast_20 (by decide) ?_
    refine lv_istore_n (lv' := [(2, .int (bI true)), (0, .ref h), (1, .int (nI sv))]) hx hb dX0_findLeast_21 rfl hl (by decide) rfl (fun ls hl => ?_)
    refine lv_iconst (v := (nI 0)) hx hb dX0_findLeast_22 (by decide) ?_
    refine lv_istore_n (lv' := [(3, .int (nI 0)), (2, .int (bI true)), (0, .ref h), (1, .int (nI sv))]) hx hb dX0_findLeast_23 rfl hl (by decide) rfl (fun ls hl => ?_)
    refine cw_loop (head := 24) (I := fun n2 H locs ls => ∃ (rd : Nat) (ch : Bool) (t : Nat → Nat), (rd ≤ 30) ∧ (cwLo (sC S) (cwK (sK S)) (cwG (sG S)) sv t) ∧ (ch = true → rd ≤ t 0 + t 1 + t 2) ∧ (ch = false → cwPG (sC S) (cwK (sK S)) (cwG (sG S)) sv t) ∧ n2 = 30 - rd ∧ va_P (dC, dI) vwCl (XW d h a (sC S) (sG S) (sK S) (sM S) (sD S) (sI S) (sR S) t v w) H ∧ va_D A (XW d h a (sC S) (sG S) (sK S) (sM S) (sD S) (sI S) (sR S) t v w) ∧ va_S A s.heap H locs ∧ lv_has ls 6 [(3, .int (nI rd)), (2, .int (bI ch)), (0, .ref h), (1, .int (nI sv))]) ?_ (30) ⟨0, true, t, by omega, cwLo_0 (fun x hx => hz x (by omega)), (fun _ => Nat.zero_le _), (fun h => by cases h), rfl, hP, hD, hS, hl⟩
    intro n2 H locs ls ⟨rd, ch, t, hrd, hlo, hct, hcf, hn2, hP, hD, hS, hl⟩ ih2
    refine lv_iload_n hx hb dX0_findLeast_24 rfl (lv_at hl 0 rfl) ?_
    refine lv_bipush (v := (nI 30)) hx hb dX0_findLeast_25 (by decide) ?_
    refine cw_ge (tgt := 111) hx hb (by omega) (by omega) dX0_findLeast_27 (by decide) (fun h30 => ?_) (fun h30 => ?_)
    · have hs24 := cw_sum24 hV hlo.1
      have hch : ch = false := by
        cases ch with
        | false => rfl
        | true => exact absurd (hct rfl) (by omega)
      refine lv_iconst (v := 1) hx hb dX0_findLeast_111 (by decide) ?_
      exact cw_zret hx hb hr hlocks rfl t (Or.inl ⟨rfl, hcf hch, hlo.2⟩) hP hK hD hS dX0_findLeast_112
    · refine lv_iload_n hx hb dX0_findLeast_30 rfl (lv_at hl 1 rfl) ?_
      refine cw_zeq (tgt := 111) hx hb dX0_findLeast_31 (by decide) (fun hch => ?_) (fun hch => ?_)
      · refine lv_iconst (v := 1) hx hb dX0_findLeast_111 (by decide) ?_
        exact cw_zret hx hb hr hlocks rfl t (Or.inl ⟨rfl, hcf hch, hlo.2⟩) hP hK hD hS dX0_findLeast_112
      · have hsum := hct hch
        refine lv_iconst (v := (bI false)) hx hb dX0_findLeast_34 (by decide) ?_
        refine lv_istore_n (lv' := [(2, .int (bI false)), (3, .int (nI rd)), (0, .ref h), (1, .int (nI sv))]) hx hb dX0_findLeast_35 rfl hl (by decide) rfl (fun ls hl => ?_)
        refine lv_iconst (v := (nI 0)) hx hb dX0_findLeast_36 (by decide) ?_
        refine lv_istore (lv' := [(4, .int (nI 0)), (2, .int (bI false)), (3, .int (nI rd)), (0, .ref h), (1, .int (nI sv))]) hx hb dX0_findLeast_37 hl (by decide) rfl (fun ls hl => ?_)
        refine cw_loop (head := 39) (I := fun n3 H locs ls => ∃ (q : Nat) (cg : Bool) (t : Nat → Nat), (q ≤ 3) ∧ (cwLo (sC S) (cwK (sK S)) (cwG (sG S)) sv t) ∧ (cg = true → rd + 1 ≤ t 0 + t 1 + t 2) ∧ (cg = false → rd ≤ t 0 + t 1 + t 2 ∧ ∀ x, x < q → cwStab (cwK (sK S)) (cwG (sG S)) sv t x) ∧ n3 = 3 - q ∧ va_P (dC, dI) vwCl (XW d h a (sC S) (sG S) (sK S) (sM S) (sD S) (sI S) (sR S) t v w) H ∧ va_D A (XW d h a (sC S) (sG S) (sK S) (sM S) (sD S) (sI S) (sR S) t v w) ∧ va_S A s.heap H locs ∧ lv_has ls 6 [(4, .int (nI q)), (2, .int (bI cg)), (3, .int (nI rd)), (0, .ref h), (1, .int (nI sv))]) ?_ (3) ⟨0, false, t, by omega, hlo, (fun h => by cases h), (fun _ => ⟨hsum, fun x hx => absurd hx (by omega)⟩), rfl, hP, hD, hS, hl⟩
        intro n3 H locs ls ⟨q, cg, t, hq, hlo, hct, hcf, hn3, hP, hD, hS, hl⟩ ih3
        refine lv_iload hx hb dX0_findLeast_39 (lv_at hl 0 rfl) ?_
        refine lv_iconst (v := (nI 3)) hx hb dX0_findLeast_41 (by decide) ?_
        refine cw_ge (tgt := 105) hx hb (by omega) (by omega) dX0_findLeast_42 (by decide) (fun h3 => ?_) (fun h3 => ?_)
        · have e3 : q = 3 := by omega
          subst e3
          refine lv_iinc (v := nI (rd + 1)) (lv' := [(3, .int (nI (rd + 1))), (4, .int (nI 3)), (2, .int (bI cg)), (0, .ref h), (1, .int (nI sv))]) hx hb dX0_findLeast_105 hl (k := 2) rfl (nI_1 _) (by decide) rfl (fun ls hl => ?_)
          refine lv_goto (tgt := 24) hx hb dX0_findLeast_108 (by decide) ?_
          exact ih2 (30 - (rd + 1)) _ _ _ (by omega) ⟨rd + 1, cg, t, by omega, hlo, hct, (fun h => cwPG_of hlo.1 (hcf h).2), rfl, hP, hD, hS, lv_sub hl [0, 2, 3, 4] rfl⟩
        · have hcq := hV.1 q h3
          have htq := hlo.1 q h3
          refine lv_aload_n hx hb dX0_findLeast_45 rfl (lv_at hl 3 rfl) ?_
          refine lv_iload hx hb dX0_findLeast_46 (lv_at hl 0 rfl) ?_
          refine lv_iload_n hx hb dX0_findLeast_48 rfl (lv_at hl 4 rfl) ?_
          refine cw_callV (n := 2) (C := RX0) (As := [.int (nI q), .int (nI sv)]) (rest := []) (wr := []) ⟨hx, hb, hml, hown, hts⟩ (mX_neededState l dC dI d h a S t v w hO q sv h3 hsv hlo.1) (lw_V q95 q97 qs3 q13 q98) (by decide +kernel) rfl ⟨Nat.le_of_ble_eq_true rfl, Nat.le_of_ble_eq_true rfl⟩ ⟨Nat.le_refl _, Nat.le_refl _⟩ hK hP hD hS hA [0, 1, 2, 3, 4, 5, 6, 7, 8, 9] [] rfl rfl rfl (by decide) (by decide) (by decide) rfl rfl rfl hl.1 rfl (Nat.le_of_ble_eq_true rfl) dX0_findLeast_49 (fun r uu H locs hpost hP hD hS => ?_)
          obtain ⟨k, rfl, hkc, hnd, hto, hgk⟩ := hpost
          have hP : va_P (dC, dI) vwCl (XW d h a (sC S) (sG S) (sK S) (sM S) (sD S) (sI S) (sR S) t v w) H := hP
          have hD : va_D A (XW d h a (sC S) (sG S) (sK S) (sM S) (sD S) (sI S) (sR S) t v w) := hD
          refine lv_istore (lv' := [(5, .int (nI k)), (4, .int (nI q)), (2, .int (bI cg)), (3, .int (nI rd)), (0, .ref h), (1, .int (nI sv))]) hx hb dX0_findLeast_52 hl (by decide) rfl (fun ls hl => ?_)
          refine lv_iload hx hb dX0_findLeast_54 (lv_at hl 0 rfl) ?_
          refine lv_aload_n hx hb dX0_findLeast_56 rfl (lv_at hl 4 rfl) ?_
          refine cwX_get hx hb hts hown hK hP 0 rfl 0 (by decide) q23 rfl dX0_findLeast_57 ?_
          refine lv_iload hx hb dX0_findLeast_60 (lv_at hl 1 rfl) ?_
          refine cw_iald hx hb hK hP 1 0 rfl rfl (by omega) (by omega) dX0_findLeast_62 ?_
          refine cw_le (tgt := 68) hx hb (by omega) (by omega) dX0_findLeast_63 (by decide) (fun hle => ?_) (fun hle => ?_)
          · have hlo2 := cwLo_up hlo hle hnd
            have hs3 := cw_sum3 (u := t) (k := k) h3
            have hge := hnd.1
            refine lv_iload_n hx hb dX0_findLeast_68 rfl (lv_at hl 2 rfl) ?_
            refine cw_zne (tgt := 84) hx hb dX0_findLeast_69 (by decide) (fun hcg => ?_) (fun hcg => ?_)
            · refine lv_iconst (v := (bI true)) hx hb dX0_findLeast_84 (by decide) ?_
              refine lv_goto (tgt := 89) hx hb dX0_findLeast_85 (by decide) ?_
              refine lv_istore_n (lv' := [(2, .int (bI true)), (5, .int (nI k)), (4, .int (nI q)), (3, .int (nI rd)), (0, .ref h), (1, .int (nI sv))]) hx hb dX0_findLeast_89 rfl hl (by decide) rfl (fun ls hl => ?_)
              refine lv_aload_n hx hb dX0_findLeast_90 rfl (lv_at hl 4 rfl) ?_
              refine cwX_get hx hb hts hown hK hP 0 rfl 7 (by decide) q30 rfl dX0_findLeast_91 ?_
              refine lv_iload hx hb dX0_findLeast_94 (lv_at hl 2 rfl) ?_
              refine lv_iload hx hb dX0_findLeast_96 (lv_at hl 1 rfl) ?_
              refine cw_iast hx hb hK hP hD hS 7 6 rfl rfl (by omega) (by omega) dX0_findLeast_98 (fun H locs hP hD hS => ?_)
              have hP : va_P (dC, dI) vwCl (XW d h a (sC S) (sG S) (sK S) (sM S) (sD S) (sI S) (sR S) (va_up t q k) v w) H := hP
              have hD : va_D A (XW d h a (sC S) (sG S) (sK S) (sM S) (sD S) (sI S) (sR S) (va_up t q k) v w) := hD
              refine lv_iinc (v := nI (q + 1)) (lv' := [(4, .int (nI (q + 1))), (2, .int (bI true)), (5, .int (nI k)), (3, .int (nI rd)), (0, .ref h), (1, .int (nI sv))]) hx hb dX0_findLeast_99 hl (k := 2) rfl (nI_1 _) (by decide) rfl (fun ls hl => ?_)
              refine lv_goto (tgt := 39) hx hb dX0_findLeast_102 (by decide) ?_
              exact ih3 (3 - (q + 1)) _ _ _ (by omega) ⟨q + 1, true, _, by omega, hlo2, (fun _ => by have := hct hcg; omega), (fun h => by cases h), rfl, hP, hD, hS, lv_sub hl [0, 1, 3, 4, 5] rfl⟩
            · refine lv_iload hx hb dX0_findLeast_72 (lv_at hl 0 rfl) ?_
              refine lv_aload_n hx hb dX0_findLeast_74 rfl (lv_at hl 4 rfl) ?_
              refine cwX_get hx hb hts hown hK hP 0 rfl 7 (by decide) q30 rfl dX0_findLeast_75 ?_
              refine lv_iload hx hb dX0_findLeast_78 (lv_at hl 1 rfl) ?_
              refine cw_iald hx hb hK hP 7 6 rfl rfl (by omega) (by omega) dX0_findLeast_80 ?_
              refine cw_le (tgt := 88) hx hb (by omega) (by omega) dX0_findLeast_81 (by decide) (fun hk9 => ?_) (fun hk9 => ?_)
              · have ek : k = t q := by omega
                subst ek
                refine lv_iconst (v := (bI false)) hx hb dX0_findLeast_88 (by decide) ?_
                refine lv_istore_n (lv' := [(2, .int (bI false)), (5, .int (nI (t q))), (4, .int (nI q)), (3, .int (nI rd)), (0, .ref h), (1, .int (nI sv))]) hx hb dX0_findLeast_89 rfl hl (by decide) rfl (fun ls hl => ?_)
                refine lv_aload_n hx hb dX0_findLeast_90 rfl (lv_at hl 4 rfl) ?_
                refine cwX_get hx hb hts hown hK hP 0 rfl 7 (by decide) q30 rfl dX0_findLeast_91 ?_
                refine lv_iload hx hb dX0_findLeast_94 (lv_at hl 2 rfl) ?_
                refine lv_iload hx hb dX0_findLeast_96 (lv_at hl 1 rfl) ?_
                refine cw_iast hx hb hK hP hD hS 7 6 rfl rfl (by omega) (by omega) dX0_findLeast_98 (fun H locs hP hD hS => ?_)
                have hP : va_P (dC, dI) vwCl (XW d h a (sC S) (sG S) (sK S) (sM S) (sD S) (sI S) (sR S) (va_up t q (t q)) v w) H := hP
                have hD : va_D A (XW d h a (sC S) (sG S) (sK S) (sM S) (sD S) (sI S) (sR S) (va_up t q (t q)) v w) := hD
                have e_u : (va_up t q (t q)) = t := va_up_id rfl
                rw [e_u] at hP hD
                clear e_u
                refine lv_iinc (v := nI (q + 1)) (lv' := [(4, .int (nI (q + 1))), (2, .int (bI false)), (5, .int (nI (t q))), (3, .int (nI rd)), (0, .ref h), (1, .int (nI sv))]) hx hb dX0_findLeast_99 hl (k := 2) rfl (nI_1 _) (by decide) rfl (fun ls hl => ?_)
                refine lv_goto (tgt := 39) hx hb dX0_findLeast_102 (by decide) ?_
                exact ih3 (3 - (q + 1)) _ _ _ (by omega) ⟨q + 1, false, t, by omega, hlo, (fun h => by cases h), (fun _ => ⟨(hcf hcg).1, fun x hx => by
                    by_cases e : x = q
                    · rw [e]; exact ⟨hto, hgk hle⟩
                    · exact (hcf hcg).2 x (by omega)⟩), rfl, hP, hD, hS, lv_sub hl [0, 1, 3, 4, 5] rfl⟩
              · have hrs := (hcf hcg).1
                refine lv_iconst (v := (bI true)) hx hb dX0_findLeast_84 (by decide) ?_
                refine lv_goto (tgt := 89) hx hb dX0_findLeast_85 (by decide) ?_
                refine lv_istore_n (lv' := [(2, .int (bI true)), (5, .int (nI k)), (4, .int (nI q)), (3, .int (nI rd)), (0, .ref h), (1, .int (nI sv))]) hx hb dX0_findLeast_89 rfl hl (by decide) rfl (fun ls hl => ?_)
                refine lv_aload_n hx hb dX0_findLeast_90 rfl (lv_at hl 4 rfl) ?_
                refine cwX_get hx hb hts hown hK hP 0 rfl 7 (by decide) q30 rfl dX0_findLeast_91 ?_
                refine lv_iload hx hb dX0_findLeast_94 (lv_at hl 2 rfl) ?_
                refine lv_iload hx hb dX0_findLeast_96 (lv_at hl 1 rfl) ?_
                refine cw_iast hx hb hK hP hD hS 7 6 rfl rfl (by omega) (by omega) dX0_findLeast_98 (fun H locs hP hD hS => ?_)
                have hP : va_P (dC, dI) vwCl (XW d h a (sC S) (sG S) (sK S) (sM S) (sD S) (sI S) (sR S) (va_up t q k) v w) H := hP
                have hD : va_D A (XW d h a (sC S) (sG S) (sK S) (sM S) (sD S) (sI S) (sR S) (va_up t q k) v w) := hD
                refine lv_iinc (v := nI (q + 1)) (lv' := [(4, .int (nI (q + 1))), (2, .int (bI true)), (5, .int (nI k)), (3, .int (nI rd)), (0, .ref h), (1, .int (nI sv))]) hx hb dX0_findLeast_99 hl (k := 2) rfl (nI_1 _) (by decide) rfl (fun ls hl => ?_)
                refine lv_goto (tgt := 39) hx hb dX0_findLeast_102 (by decide) ?_
                exact ih3 (3 - (q + 1)) _ _ _ (by omega) ⟨q + 1, true, _, by omega, hlo2, (fun _ => by omega), (fun h => by cases h), rfl, hP, hD, hS, lv_sub hl [0, 1, 3, 4, 5] rfl⟩
          · refine lv_iconst (v := 0) hx hb dX0_findLeast_66 (by decide) ?_
            exact cw_zret hx hb hr hlocks rfl t (Or.inr ⟨rfl, fun C hC => by
                  have h1 := hnd.2 C hC (hlo.2 C hC)
                  have h2 := (hC.1 q h3).1
                  omega⟩) hP hK hD hS dX0_findLeast_67
  · refine lv_aload_n hx hb dX0_findLeast_7 rfl (lv_at hl 1 rfl) ?_
    refine cwX_get hx hb hts hown hK hP 0 rfl 7 (by decide) q30 rfl dX0_findLeast_8 ?_
    refine lv_iload_n hx hb dX0_findLeast_11 rfl (lv_at hl 0 rfl) ?_
    refine lv_iconst (v := (nI 0)) hx hb dX0_findLeast_12 (by decide) ?_
    refine cw_iast hx hb hK hP hD hS 7 6 rfl rfl (by omega) (by omega) dX0_findLeast_13 (fun H locs hP hD hS => ?_)
    have hP : va_P (dC, dI) vwCl (XW d h a (sC S) (sG S) (sK S) (sM S) (sD S) (sI S) (sR S) (va_up t q 0) v w) H := hP
    have hD : va_D A (XW d h a (sC S) (sG S) (sK S) (sM S) (sD S) (sI S) (sR S) (va_up t q 0) v w) := hD
    refine lv_iinc (v := nI (q + 1)) (lv' := [(2, .int (nI (q + 1))), (0, .ref h), (1, .int (nI sv))]) hx hb dX0_findLeast_14 hl (k := 0) rfl (nI_1 _) (by decide) rfl (fun ls hl => ?_)
    refine lv_goto (tgt := 2) hx hb dX0_findLeast_17 (by decide) ?_
    exact ih (3 - (q + 1)) _ _ _ (by omega) ⟨q + 1, _, by omega, (fun x hx => by
        by_cases e : x = q
        · rw [e]; exact va_up_self _ _ _
        · rw [va_up_ne _ _ e]; exact hz x (by omega)), rfl, hP, hD, hS, hl⟩
set_option maxHeartbeats 4000000 in
set_option maxRecDepth 100000 in
/-- possibly -/
theorem mX_possibly (l : Launch) (dC : Nat → ClassId) (dI : Nat → Nat → Nat) (d : Nat → ClassId) (h : Nat) (a : Nat → Nat) (S : WSt) (u v w : Nat → Nat) (hO : cwOk S) (x : Int32) : cwMi l yX0_possibly cX0_possibly 2 (some .int) 3 73 (dC, dI) vwCl (XT d) [.ref h, .int x] (XS d h a S u v w) (fun r (_ : Nat → Nat) => cwPossA S (cwIx x 8) r) (fun t => XS d h a S t v w) := by
  refine cw_met ([(0, .ref h), (1, .int x)]) (by decide) (Nat.le_of_ble_eq_true rfl) rfl ?_
  intro p e s m below meth c A ls hx hb hr hlocks hml hown hts hA hP hK hD hS hl
  have hown : s.vm.findClass RX0 = some m.cls := hown
  refine lv_iload_n hx hb dX0_possibly_0 rfl (lv_at hl 1 rfl) ?_
  refine lv_iconst (v := (nI 1)) hx hb dX0_possibly_1 (by decide) ?_
  refine lv_icmp_lt (tgt := 11) hx hb dX0_possibly_2 (by decide) (fun h1 => ?_) (fun h1 => ?_)
  · have hbs : ¬ (0 < cwIx x 8 ∧ cwIx x 8 < 8) := cw_set1 h1
    refine lv_iconst (v := (-1)) hx hb dX0_possibly_11 (by decide) ?_
    exact cw_iret hx hb hr hlocks u (Or.inl ⟨hbs, rfl⟩) hP hK hD hS dX0_possibly_12
  · refine lv_iload_n hx hb dX0_possibly_5 rfl (lv_at hl 1 rfl) ?_
    refine lv_bipush (v := (nI 7)) hx hb dX0_possibly_6 (by decide) ?_
    refine lv_icmp_le (tgt := 13) hx hb dX0_possibly_8 (by decide) (fun h7 => ?_) (fun h7 => ?_)
    · obtain ⟨sv, hs0, hsv, rfl⟩ := cw_set h1 (cw_le_nlt h7)
      rw [show cwIx (nI sv) 8 = sv from cwIx_nI hsv (by decide)]
      refine lv_aload_n hx hb dX0_possibly_13 rfl (lv_at hl 0 rfl) ?_
      refine lv_iload_n hx hb dX0_possibly_14 rfl (lv_at hl 1 rfl) ?_
      refine cw_callV (n := 1) (C := RX0) (As := [.int (nI sv)]) (rest := []) (wr := []) ⟨hx, hb, hml, hown, hts⟩ (mX_findLeast l dC dI d h a S u v w hO sv hsv) (lw_V q91 q93 qs2 q13 q94) (by decide +kernel) rfl ⟨Nat.le_of_ble_eq_true rfl, Nat.le_of_ble_eq_true rfl⟩ ⟨Nat.le_refl _, Nat.le_refl _⟩ hK hP hD hS hA [0, 1, 2, 3, 4, 5, 6, 7, 8, 9] [] rfl rfl rfl (by decide) (by decide) (by decide) rfl rfl rfl hl.1 rfl (Nat.le_of_ble_eq_true rfl) dX0_possibly_15 (fun r uu H locs hpost hP hD hS => ?_)
      rcases hpost with ⟨rfl, hpg, hmin⟩ | ⟨rfl, hno⟩
      · have hP : va_P (dC, dI) vwCl (XW d h a (sC S) (sG S) (sK S) (sM S) (sD S) (sI S) (sR S) uu v w) H := hP
        have hD : va_D A (XW d h a (sC S) (sG S) (sK S) (sM S) (sD S) (sI S) (sR S) uu v w) := hD
        refine lv_if_eq (tgt := 25) hx hb dX0_possibly_18 (by decide) (fun h => absurd h (by decide)) (fun _ => ?_)
        refine lv_iconst (v := 1) hx hb dX0_possibly_21 (by decide) ?_
        refine lv_goto (tgt := 26) hx hb dX0_possibly_22 (by decide) ?_
        exact cw_iret hx hb hr hlocks uu (Or.inr ⟨⟨hs0, hsv⟩, Or.inl ⟨rfl, uu, hpg⟩⟩) hP hK hD hS dX0_possibly_26
      · have hP : va_P (dC, dI) vwCl (XW d h a (sC S) (sG S) (sK S) (sM S) (sD S) (sI S) (sR S) uu v w) H := hP
        have hD : va_D A (XW d h a (sC S) (sG S) (sK S) (sM S) (sD S) (sI S) (sR S) uu v w) := hD
        refine lv_if_eq (tgt := 25) hx hb dX0_possibly_18 (by decide) (fun _ => ?_) (fun h => absurd h (by decide))
        refine lv_iconst (v := 0) hx hb dX0_possibly_25 (by decide) ?_
        exact cw_iret hx hb hr hlocks uu (Or.inr ⟨⟨hs0, hsv⟩, Or.inr ⟨rfl, hno⟩⟩) hP hK hD hS dX0_possibly_26
    · have hbs : ¬ (0 < cwIx x 8 ∧ cwIx x 8 < 8) := cw_set7 (cw_nle h7)
      refine lv_iconst (v := (-1)) hx hb dX0_possibly_11 (by decide) ?_
      exact cw_iret hx hb hr hlocks u (Or.inl ⟨hbs, rfl⟩) hP hK hD hS dX0_possibly_12
set_option maxHeartbeats 4000000 in
set_option maxRecDepth 100000 in
/-- least -/
theorem mX_least (l : Launch) (dC : Nat → ClassId) (dI : Nat → Nat → Nat) (d : Nat → ClassId) (h : Nat) (a : Nat → Nat) (S : WSt) (u v w : Nat → Nat) (hO : cwOk S) (x y : Int32) : cwMi l yX0_least cX0_least 3 (some .int) 3 73 (dC, dI) vwCl (XT d) [.ref h, .int x, .int y] (XS d h a S u v w) (fun r (_ : Nat → Nat) => cwLeastA S (cwIx x 8) (cwIx y 3) r) (fun t => XS d h a S t v w) := by
  refine cw_met ([(0, .ref h), (1, .int x), (2, .int y)]) (by decide) (Nat.le_of_ble_eq_true rfl) rfl ?_
  intro p e s m below meth c A ls hx hb hr hlocks hml hown hts hA hP hK hD hS hl
  have hown : s.vm.findClass RX0 = some m.cls := hown
  refine lv_iload_n hx hb dX0_least_0 rfl (lv_at hl 1 rfl) ?_
  refine lv_iconst (v := (nI 1)) hx hb dX0_least_1 (by decide) ?_
  refine lv_icmp_lt (tgt := 18) hx hb dX0_least_2 (by decide) (fun h1 => ?_) (fun h1 => ?_)
  · have hbs : ¬ (0 < cwIx x 8 ∧ cwIx x 8 < 8) := cw_set1 h1
    refine lv_iconst (v := (-1)) hx hb dX0_least_18 (by decide) ?_
    exact cw_iret hx hb hr hlocks u (Or.inl ⟨fun hh => hbs hh.1, rfl⟩) hP hK hD hS dX0_least_19
  · refine lv_iload_n hx hb dX0_least_5 rfl (lv_at hl 1 rfl) ?_
    refine lv_bipush (v := (nI 7)) hx hb dX0_least_6 (by decide) ?_
    refine lv_icmp_gt (tgt := 18) hx hb dX0_least_8 (by decide) (fun h7 => ?_) (fun h7 => ?_)
    · have hbs : ¬ (0 < cwIx x 8 ∧ cwIx x 8 < 8) := cw_set7 h7
      refine lv_iconst (v := (-1)) hx hb dX0_least_18 (by decide) ?_
      exact cw_iret hx hb hr hlocks u (Or.inl ⟨fun hh => hbs hh.1, rfl⟩) hP hK hD hS dX0_least_19
    · obtain ⟨sv, hs0, hsv, rfl⟩ := cw_set h1 h7
      refine lv_iload_n hx hb dX0_least_11 rfl (lv_at hl 2 rfl) ?_
      refine cw_callS (n := 1) (As := [.int y]) (rest := []) ⟨hx, hb, hml, hown, hts⟩ (mX_isProcess l (dC, dI) y) (lw_S q60 q61 q13 q62) (by decide +kernel) rfl ⟨Nat.le_of_ble_eq_true rfl, Nat.le_of_ble_eq_true rfl⟩ ⟨Nat.le_refl _, Nat.le_refl _⟩ hK hP hD hS hA hl.1 rfl (Nat.le_of_ble_eq_true rfl) dX0_least_12 (fun r H locs hpost hP hS => ?_)
      rcases hpost with ⟨rfl, P, hP3, rfl⟩ | ⟨rfl, hjy⟩
      · rw [show cwIx (nI sv) 8 = sv from cwIx_nI hsv (by decide), show cwIx (nI P) 3 = P from cwIx_nI hP3 (by decide)]
        refine lv_if_ne (tgt := 20) hx hb dX0_least_15 (by decide) (fun _ => ?_) (fun h => absurd h (by decide))
        refine lv_aload_n hx hb dX0_least_20 rfl (lv_at hl 0 rfl) ?_
        refine lv_iload_n hx hb dX0_least_21 rfl (lv_at hl 1 rfl) ?_
        refine cw_callV (n := 1) (C := RX0) (As := [.int (nI sv)]) (rest := []) (wr := []) ⟨hx, hb, hml, hown, hts⟩ (mX_findLeast l dC dI d h a S u v w hO sv hsv) (lw_V q91 q93 qs2 q13 q94) (by decide +kernel) rfl ⟨Nat.le_of_ble_eq_true rfl, Nat.le_of_ble_eq_true rfl⟩ ⟨Nat.le_refl _, Nat.le_refl _⟩ hK hP hD hS hA [0, 1, 2, 3, 4, 5, 6, 7, 8, 9] [] rfl rfl rfl (by decide) (by decide) (by decide) rfl rfl rfl hl.1 rfl (Nat.le_of_ble_eq_true rfl) dX0_least_22 (fun r uu H locs hpost hP hD hS => ?_)
        rcases hpost with ⟨rfl, hpg, hmin⟩ | ⟨rfl, hno⟩
        · have hP : va_P (dC, dI) vwCl (XW d h a (sC S) (sG S) (sK S) (sM S) (sD S) (sI S) (sR S) uu v w) H := hP
          have hD : va_D A (XW d h a (sC S) (sG S) (sK S) (sM S) (sD S) (sI S) (sR S) uu v w) := hD
          refine lv_if_eq (tgt := 37) hx hb dX0_least_25 (by decide) (fun h => absurd h (by decide)) (fun _ => ?_)
          refine lv_aload_n hx hb dX0_least_28 rfl (lv_at hl 0 rfl) ?_
          refine cwX_get hx hb hts hown hK hP 0 rfl 7 (by decide) q30 rfl dX0_least_29 ?_
          refine lv_iload_n hx hb dX0_least_32 rfl (lv_at hl 2 rfl) ?_
          refine cw_iald hx hb hK hP 7 6 rfl rfl (by omega) (by omega) dX0_least_33 ?_
          refine lv_goto (tgt := 38) hx hb dX0_least_34 (by decide) ?_
          exact cw_iret hx hb hr hlocks uu (Or.inr ⟨⟨⟨hs0, hsv⟩, hP3⟩, Or.inl ⟨uu, hpg, fun D hD => hmin D hD P hP3, rfl⟩⟩) hP hK hD hS dX0_least_38
        · have hP : va_P (dC, dI) vwCl (XW d h a (sC S) (sG S) (sK S) (sM S) (sD S) (sI S) (sR S) uu v w) H := hP
          have hD : va_D A (XW d h a (sC S) (sG S) (sK S) (sM S) (sD S) (sI S) (sR S) uu v w) := hD
          refine lv_if_eq (tgt := 37) hx hb dX0_least_25 (by decide) (fun _ => ?_) (fun h => absurd h (by decide))
          refine lv_iconst (v := (-1)) hx hb dX0_least_37 (by decide) ?_
          exact cw_iret hx hb hr hlocks uu (Or.inr ⟨⟨⟨hs0, hsv⟩, hP3⟩, Or.inr ⟨hno, rfl⟩⟩) hP hK hD hS dX0_least_38
      · refine lv_if_ne (tgt := 20) hx hb dX0_least_15 (by decide) (fun h => absurd h (by decide)) (fun _ => ?_)
        refine lv_iconst (v := (-1)) hx hb dX0_least_18 (by decide) ?_
        exact cw_iret hx hb hr hlocks u (Or.inl ⟨fun hh => by have := hh.2; omega, rfl⟩) hP hK hD hS dX0_least_19
end
section
/-! CutWatch: definitely -/
set_option maxHeartbeats 4000000 in
set_option maxRecDepth 100000 in
/-- nextStretch: the first stretch of good states from st on -/
theorem mX_nextStretch (l : Launch) (dC : Nat → ClassId) (dI : Nat → Nat → Nat) (d : Nat → ClassId) (h : Nat) (a : Nat → Nat) (S : WSt) (u v w : Nat → Nat) (hV : cwVc (sC S) (cwK (sK S))) (P st : Nat) (hP3 : P < 3) (hst : st ≤ sC S P + 1) : cwMi l yX0_nextStretch cX0_nextStretch 4 (some .boolean) 0 0 (dC, dI) vwCl (XT d) [.ref h, .int (nI P), .int (nI st)] (XS d h a S u v w) (fun r (vw : (Nat → Nat) × (Nat → Nat)) => (r = 0 ∧ vw = (v, w) ∧ ∀ x, st ≤ x → x ≤ sC S P → cwG (sG S) P x = false) ∨ (r = 1 ∧ ∃ ft tt, vw = (va_up v P ft, va_up w P tt) ∧ st ≤ ft ∧ ft ≤ tt ∧ tt ≤ sC S P ∧ (∀ x, st ≤ x → x < ft → cwG (sG S) P x = false) ∧ (∀ x, ft ≤ x → x ≤ tt → cwG (sG S) P x = true) ∧ (tt = sC S P ∨ cwG (sG S) P (tt + 1) = false))) (fun vw => XS d h a S u vw.1 vw.2) := by
  refine cw_met ([(0, .ref h), (1, .int (nI P)), (2, .int (nI st))]) (by decide) (Nat.le_of_ble_eq_true rfl) rfl ?_
  intro p e s m below meth c A ls hx hb hr hlocks hml hown hts hA hP hK hD hS hl
  have hown : s.vm.findClass RX0 = some m.cls := hown
  have hc8 := hV.1 P hP3
  refine lv_iload_n hx hb dX0_nextStretch_0 rfl (lv_at hl 2 rfl) ?_
  refine lv_istore_n (lv' := [(3, .int (nI st)), (0, .ref h), (1, .int (nI P)), (2, .int (nI st))]) hx hb dX0_nextStretch_1 rfl hl (by decide) rfl (fun ls hl => ?_)
  refine cw_loop (head := 2) (I := fun n H locs ls => ∃ k, (st ≤ k) ∧ (k ≤ sC S P + 1) ∧ (∀ x, st ≤ x → x < k → cwG (sG S) P x = false) ∧ n = sC S P + 1 - k ∧ va_P (dC, dI) vwCl (XW d h a (sC S) (sG S) (sK S) (sM S) (sD S) (sI S) (sR S) u v w) H ∧ va_D A (XW d h a (sC S) (sG S) (sK S) (sM S) (sD S) (sI S) (sR S) u v w) ∧ va_S A s.heap H locs ∧ lv_has ls 4 [(3, .int (nI k)), (0, .ref h), (1, .int (nI P)), (2, .int (nI st))]) ?_ (sC S P + 1 - st) ⟨st, Nat.le_refl _, hst, fun x h1 h2 => absurd h2 (by omega), rfl, hP, hD, hS, hl⟩
  intro n H locs ls ⟨k, hk1, hk2, hbad, hn, hP, hD, hS, hl⟩ ih
  refine lv_iload_n hx hb dX0_nextStretch_2 rfl (lv_at hl 0 rfl) ?_
  refine lv_aload_n hx hb dX0_nextStretch_3 rfl (lv_at hl 1 rfl) ?_
  refine cwX_get hx hb hts hown hK hP 0 rfl 0 (by decide) q23 rfl dX0_nextStretch_4 ?_
  refine lv_iload_n hx hb dX0_nextStretch_7 rfl (lv_at hl 2 rfl) ?_
  refine cw_iald hx hb hK hP 1 0 rfl rfl (by omega) (by omega) dX0_nextStretch_8 ?_
  refine cw_gt (tgt := 32) hx hb (by omega) (by omega) dX0_nextStretch_9 (by decide) (fun hgt => ?_) (fun hgt => ?_)
  · refine lv_iload_n hx hb dX0_nextStretch_32 rfl (lv_at hl 0 rfl) ?_
    refine lv_aload_n hx hb dX0_nextStretch_33 rfl (lv_at hl 1 rfl) ?_
    refine cwX_get hx hb hts hown hK hP 0 rfl 0 (by decide) q23 rfl dX0_nextStretch_34 ?_
    refine lv_iload_n hx hb dX0_nextStretch_37 rfl (lv_at hl 2 rfl) ?_
    refine cw_iald hx hb hK hP 1 0 rfl rfl (by omega) (by omega) dX0_nextStretch_38 ?_
    refine cw_le (tgt := 44) hx hb (by omega) (by omega) dX0_nextStretch_39 (by decide) (fun hle => ?_) (fun hle => ?_)
    · exact absurd hle (by omega)
    · refine lv_iconst (v := 0) hx hb dX0_nextStretch_42 (by decide) ?_
      exact cw_zret hx hb hr hlocks rfl (v, w) (Or.inl ⟨rfl, rfl, fun x h1 h2 => hbad x h1 (by omega)⟩) hP hK hD hS dX0_nextStretch_43
  · refine lv_aload_n hx hb dX0_nextStretch_12 rfl (lv_at hl 1 rfl) ?_
    refine cwX_get hx hb hts hown hK hP 0 rfl 1 (by decide) q24 rfl dX0_nextStretch_13 ?_
    refine lv_bipush (v := (nI 9)) hx hb dX0_nextStretch_16 (by decide) ?_
    refine lv_iload_n hx hb dX0_nextStretch_18 rfl (lv_at hl 2 rfl) ?_
    refine cw_imul hx hb dX0_nextStretch_19 ?_
    refine lv_iload_n hx hb dX0_nextStretch_20 rfl (lv_at hl 0 rfl) ?_
    refine cw_iadd hx hb dX0_nextStretch_21 ?_
    refine cw_zald hx hb hK hP 2 1 rfl rfl (by omega) (by omega) dX0_nextStretch_22 ?_
    refine cw_zne (tgt := 32) hx hb dX0_nextStretch_23 (by decide) (fun hg => ?_) (fun hg => ?_)
    · refine lv_iload_n hx hb dX0_nextStretch_32 rfl (lv_at hl 0 rfl) ?_
      refine lv_aload_n hx hb dX0_nextStretch_33 rfl (lv_at hl 1 rfl) ?_
      refine cwX_get hx hb hts hown hK hP 0 rfl 0 (by decide) q23 rfl dX0_nextStretch_34 ?_
      refine lv_iload_n hx hb dX0_nextStretch_37 rfl (lv_at hl 2 rfl) ?_
      refine cw_iald hx hb hK hP 1 0 rfl rfl (by omega) (by omega) dX0_nextStretch_38 ?_
      refine cw_le (tgt := 44) hx hb (by omega) (by omega) dX0_nextStretch_39 (by decide) (fun hle => ?_) (fun hle => ?_)
      · refine lv_aload_n hx hb dX0_nextStretch_44 rfl (lv_at hl 1 rfl) ?_
        refine cwX_get hx hb hts hown hK hP 0 rfl 8 (by decide) q31 rfl dX0_nextStretch_45 ?_
        refine lv_iload_n hx hb dX0_nextStretch_48 rfl (lv_at hl 2 rfl) ?_
        refine lv_iload_n hx hb dX0_nextStretch_49 rfl (lv_at hl 0 rfl) ?_
        refine cw_iast hx hb hK hP hD hS 8 7 rfl rfl (by omega) (by omega) dX0_nextStretch_50 (fun H locs hP hD hS => ?_)
        have hP : va_P (dC, dI) vwCl (XW d h a (sC S) (sG S) (sK S) (sM S) (sD S) (sI S) (sR S) u (va_up v P k) w) H := hP
        have hD : va_D A (XW d h a (sC S) (sG S) (sK S) (sM S) (sD S) (sI S) (sR S) u (va_up v P k) w) := hD
        refine cw_loop (head := 51) (I := fun n2 H locs ls => ∃ t, (k ≤ t) ∧ (t ≤ sC S P) ∧ (∀ x, k ≤ x → x ≤ t → cwG (sG S) P x = true) ∧ n2 = sC S P - t ∧ va_P (dC, dI) vwCl (XW d h a (sC S) (sG S) (sK S) (sM S) (sD S) (sI S) (sR S) u (va_up v P k) w) H ∧ va_D A (XW d h a (sC S) (sG S) (sK S) (sM S) (sD S) (sI S) (sR S) u (va_up v P k) w) ∧ va_S A s.heap H locs ∧ lv_has ls 4 [(3, .int (nI t)), (0, .ref h), (1, .int (nI P)), (2, .int (nI st))]) ?_ (sC S P - k) ⟨k, Nat.le_refl _, hle, (fun x h1 h2 => by
            rw [show x = k by omega]
            exact hg), rfl, hP, hD, hS, hl⟩
        intro n2 H locs ls ⟨t, ht1, ht2, hgood, hn2, hP, hD, hS, hl⟩ ih2
        refine lv_iload_n hx hb dX0_nextStretch_51 rfl (lv_at hl 0 rfl) ?_
        refine lv_aload_n hx hb dX0_nextStretch_52 rfl (lv_at hl 1 rfl) ?_
        refine cwX_get hx hb hts hown hK hP 0 rfl 0 (by decide) q23 rfl dX0_nextStretch_53 ?_
        refine lv_iload_n hx hb dX0_nextStretch_56 rfl (lv_at hl 2 rfl) ?_
        refine cw_iald hx hb hK hP 1 0 rfl rfl (by omega) (by omega) dX0_nextStretch_57 ?_
        refine cw_ge (tgt := 83) hx hb (by omega) (by omega) dX0_nextStretch_58 (by decide) (fun hge => ?_) (fun hge => ?_)
        · refine lv_aload_n hx hb dX0_nextStretch_83 rfl (lv_at hl 1 rfl) ?_
          refine cwX_get hx hb hts hown hK hP 0 rfl 9 (by decide) q32 rfl dX0_nextStretch_84 ?_
          refine lv_iload_n hx hb dX0_nextStretch_87 rfl (lv_at hl 2 rfl) ?_
          refine lv_iload_n hx hb dX0_nextStretch_88 rfl (lv_at hl 0 rfl) ?_
          refine cw_iast hx hb hK hP hD hS 9 8 rfl rfl (by omega) (by omega) dX0_nextStretch_89 (fun H locs hP hD hS => ?_)
          have hP : va_P (dC, dI) vwCl (XW d h a (sC S) (sG S) (sK S) (sM S) (sD S) (sI S) (sR S) u (va_up v P k) (va_up w P t)) H := hP
          have hD : va_D A (XW d h a (sC S) (sG S) (sK S) (sM S) (sD S) (sI S) (sR S) u (va_up v P k) (va_up w P t)) := hD
          refine lv_iconst (v := 1) hx hb dX0_nextStretch_90 (by decide) ?_
          exact cw_zret hx hb hr hlocks rfl (va_up v P k, va_up w P t) (Or.inr ⟨rfl, k, t, rfl, hk1, ht1, ht2, hbad, hgood, Or.inl (by omega)⟩) hP hK hD hS dX0_nextStretch_91
        · refine lv_aload_n hx hb dX0_nextStretch_61 rfl (lv_at hl 1 rfl) ?_
          refine cwX_get hx hb hts hown hK hP 0 rfl 1 (by decide) q24 rfl dX0_nextStretch_62 ?_
          refine lv_bipush (v := (nI 9)) hx hb dX0_nextStretch_65 (by decide) ?_
          refine lv_iload_n hx hb dX0_nextStretch_67 rfl (lv_at hl 2 rfl) ?_
          refine cw_imul hx hb dX0_nextStretch_68 ?_
          refine lv_iload_n hx hb dX0_nextStretch_69 rfl (lv_at hl 0 rfl) ?_
          refine cw_iadd hx hb dX0_nextStretch_70 ?_
          refine lv_iconst (v := (nI 1)) hx hb dX0_nextStretch_71 (by decide) ?_
          refine cw_iadd hx hb dX0_nextStretch_72 ?_
          refine cw_zald hx hb hK hP 2 1 rfl rfl (by omega) (by omega) dX0_nextStretch_73 ?_
          refine cw_zeq (tgt := 83) hx hb dX0_nextStretch_74 (by decide) (fun hn1 => ?_) (fun hn1 => ?_)
          · refine lv_aload_n hx hb dX0_nextStretch_83 rfl (lv_at hl 1 rfl) ?_
            refine cwX_get hx hb hts hown hK hP 0 rfl 9 (by decide) q32 rfl dX0_nextStretch_84 ?_
            refine lv_iload_n hx hb dX0_nextStretch_87 rfl (lv_at hl 2 rfl) ?_
            refine lv_iload_n hx hb dX0_nextStretch_88 rfl (lv_at hl 0 rfl) ?_
            refine cw_iast hx hb hK hP hD hS 9 8 rfl rfl (by omega) (by omega) dX0_nextStretch_89 (fun H locs hP hD hS => ?_)
            have hP : va_P (dC, dI) vwCl (XW d h a (sC S) (sG S) (sK S) (sM S) (sD S) (sI S) (sR S) u (va_up v P k) (va_up w P t)) H := hP
            have hD : va_D A (XW d h a (sC S) (sG S) (sK S) (sM S) (sD S) (sI S) (sR S) u (va_up v P k) (va_up w P t)) := hD
            refine lv_iconst (v := 1) hx hb dX0_nextStretch_90 (by decide) ?_
            exact cw_zret hx hb hr hlocks rfl (va_up v P k, va_up w P t) (Or.inr ⟨rfl, k, t, rfl, hk1, ht1, ht2, hbad, hgood, Or.inr hn1⟩) hP hK hD hS dX0_nextStretch_91
          · refine lv_iinc (v := nI (t + 1)) (lv' := [(3, .int (nI (t + 1))), (0, .ref h), (1, .int (nI P)), (2, .int (nI st))]) hx hb dX0_nextStretch_77 hl (k := 0) rfl (nI_1 _) (by decide) rfl (fun ls hl => ?_)
            refine lv_goto (tgt := 51) hx hb dX0_nextStretch_80 (by decide) ?_
            exact ih2 (sC S P - (t + 1)) _ _ _ (by omega) ⟨t + 1, by omega, by omega, (fun x h1 h2 => by
                by_cases e : x = t + 1
                · rw [e]; exact hn1
                · exact hgood x h1 (by omega)), rfl, hP, hD, hS, hl⟩
      · exact absurd hle (by omega)
    · refine lv_iinc (v := nI (k + 1)) (lv' := [(3, .int (nI (k + 1))), (0, .ref h), (1, .int (nI P)), (2, .int (nI st))]) hx hb dX0_nextStretch_26 hl (k := 0) rfl (nI_1 _) (by decide) rfl (fun ls hl => ?_)
      refine lv_goto (tgt := 2) hx hb dX0_nextStretch_29 (by decide) ?_
      exact ih (sC S P + 1 - (k + 1)) _ _ _ (by omega) ⟨k + 1, by omega, by omega, (fun x h1 h2 => by
          by_cases e : x = k
          · rw [e]; exact hg
          · exact hbad x h1 (by omega)), rfl, hP, hD, hS, hl⟩
set_option maxHeartbeats 4000000 in
set_option maxRecDepth 100000 in
/-- tooEarly: a pair whose first may end before its second begins -/
theorem mX_tooEarly (l : Launch) (dC : Nat → ClassId) (dI : Nat → Nat → Nat) (d : Nat → ClassId) (h : Nat) (a : Nat → Nat) (S : WSt) (u v w : Nat → Nat) (hV : cwVc (sC S) (cwK (sK S))) (sv : Nat) (hsv : sv < 8) (hb8 : ∀ x, x < 3 → cwBit sv x = 1 → v x ≤ 8 ∧ w x ≤ 8) : cwMi l yX0_tooEarly cX0_tooEarly 5 (some .int) 1 23 (dC, dI) vwCl (XT d) [.ref h, .int (nI sv)] (XS d h a S u v w) (fun r (_ : Unit) => (r = -1 ∧ ∀ x y, x < 3 → y < 3 → ¬ cwPair (sC S) (cwK (sK S)) sv v w x y) ∨ (∃ P Q, P < 3 ∧ Q < 3 ∧ r = nI P ∧ cwPair (sC S) (cwK (sK S)) sv v w P Q)) (fun _ => XS d h a S u v w) := by
  refine cw_met ([(0, .ref h), (1, .int (nI sv))]) (by decide) (Nat.le_of_ble_eq_true rfl) rfl ?_
  intro p e s m below meth c A ls hx hb hr hlocks hml hown hts hA hP hK hD hS hl
  have hown : s.vm.findClass RX0 = some m.cls := hown
  refine lv_iconst (v := (nI 0)) hx hb dX0_tooEarly_0 (by decide) ?_
  refine lv_istore_n (lv' := [(2, .int (nI 0)), (0, .ref h), (1, .int (nI sv))]) hx hb dX0_tooEarly_1 rfl hl (by decide) rfl (fun ls hl => ?_)
  refine cw_loop (head := 2) (I := fun n H locs ls => ∃ P, (P ≤ 3) ∧ (∀ x q, x < P → q < 3 → ¬ cwPair (sC S) (cwK (sK S)) sv v w x q) ∧ n = 3 - P ∧ va_P (dC, dI) vwCl (XW d h a (sC S) (sG S) (sK S) (sM S) (sD S) (sI S) (sR S) u v w) H ∧ va_D A (XW d h a (sC S) (sG S) (sK S) (sM S) (sD S) (sI S) (sR S) u v w) ∧ va_S A s.heap H locs ∧ lv_has ls 5 [(2, .int (nI P)), (0, .ref h), (1, .int (nI sv))]) ?_ (3) ⟨0, by omega, fun x q hx => absurd hx (by omega), rfl, hP, hD, hS, hl⟩
  intro n H locs ls ⟨P, hP3, hno, hn, hP, hD, hS, hl⟩ ih
  refine lv_iload_n hx hb dX0_tooEarly_2 rfl (lv_at hl 0 rfl) ?_
  refine lv_iconst (v := (nI 3)) hx hb dX0_tooEarly_3 (by decide) ?_
  refine cw_ge (tgt := 99) hx hb (by omega) (by omega) dX0_tooEarly_4 (by decide) (fun h3 => ?_) (fun h3 => ?_)
  · refine lv_iconst (v := (-1)) hx hb dX0_tooEarly_99 (by decide) ?_
    exact cw_iret hx hb hr hlocks () (Or.inl ⟨rfl, fun x q hx hq => hno x q (by omega) hq⟩) hP hK hD hS dX0_tooEarly_100
  · have hc8 := hV.1 P h3
    have hbo := cwBit_or sv P
    refine lv_iconst (v := (nI 0)) hx hb dX0_tooEarly_7 (by decide) ?_
    refine lv_istore_n (lv' := [(3, .int (nI 0)), (2, .int (nI P)), (0, .ref h), (1, .int (nI sv))]) hx hb dX0_tooEarly_8 rfl hl (by decide) rfl (fun ls hl => ?_)
    refine cw_loop (head := 9) (I := fun n2 H locs ls => ∃ Q, (Q ≤ 3) ∧ (∀ q, q < Q → ¬ cwPair (sC S) (cwK (sK S)) sv v w P q) ∧ n2 = 3 - Q ∧ va_P (dC, dI) vwCl (XW d h a (sC S) (sG S) (sK S) (sM S) (sD S) (sI S) (sR S) u v w) H ∧ va_D A (XW d h a (sC S) (sG S) (sK S) (sM S) (sD S) (sI S) (sR S) u v w) ∧ va_S A s.heap H locs ∧ lv_has ls 5 [(3, .int (nI Q)), (2, .int (nI P)), (0, .ref h), (1, .int (nI sv))]) ?_ (3) ⟨0, by omega, fun q hx => absurd hx (by omega), rfl, hP, hD, hS, hl⟩
    intro n2 H locs ls ⟨Q, hQ3, hno2, hn2, hP, hD, hS, hl⟩ ih2
    refine lv_iload_n hx hb dX0_tooEarly_9 rfl (lv_at hl 0 rfl) ?_
    refine lv_iconst (v := (nI 3)) hx hb dX0_tooEarly_10 (by decide) ?_
    refine cw_ge (tgt := 93) hx hb (by omega) (by omega) dX0_tooEarly_11 (by decide) (fun hq => ?_) (fun hq => ?_)
    · have e3 : Q = 3 := by omega
      subst e3
      refine lv_iinc (v := nI (P + 1)) (lv' := [(2, .int (nI (P + 1))), (3, .int (nI 3)), (0, .ref h), (1, .int (nI sv))]) hx hb dX0_tooEarly_93 hl (k := 1) rfl (nI_1 _) (by decide) rfl (fun ls hl => ?_)
      refine lv_goto (tgt := 2) hx hb dX0_tooEarly_96 (by decide) ?_
      exact ih (3 - (P + 1)) _ _ _ (by omega) ⟨P + 1, by omega, (fun x q hx hq => by
          by_cases e : x = P
          · rw [e]; exact hno2 q hq
          · exact hno x q (by omega) hq), rfl, hP, hD, hS, lv_sub hl [0, 2, 3] rfl⟩
    · have hc8q := hV.1 Q hq
      have hboq := cwBit_or sv Q
      refine lv_iload_n hx hb dX0_tooEarly_14 rfl (lv_at hl 1 rfl) ?_
      refine lv_iload_n hx hb dX0_tooEarly_15 rfl (lv_at hl 0 rfl) ?_
      refine cw_eq (tgt := 39) hx hb (by omega) (by omega) dX0_tooEarly_16 (by decide) (fun hpq => ?_) (fun hpq => ?_)
      · refine lv_iconst (v := (bI false)) hx hb dX0_tooEarly_39 (by decide) ?_
        refine lv_istore (lv' := [(4, .int (bI false)), (3, .int (nI Q)), (2, .int (nI P)), (0, .ref h), (1, .int (nI sv))]) hx hb dX0_tooEarly_40 hl (by decide) rfl (fun ls hl => ?_)
        refine lv_iload hx hb dX0_tooEarly_42 (lv_at hl 0 rfl) ?_
        refine cw_zeq (tgt := 87) hx hb dX0_tooEarly_44 (by decide) (fun hz => ?_) (fun hz => by cases hz)
        refine lv_iinc (v := nI (Q + 1)) (lv' := [(3, .int (nI (Q + 1))), (4, .int (bI false)), (2, .int (nI P)), (0, .ref h), (1, .int (nI sv))]) hx hb dX0_tooEarly_87 hl (k := 1) rfl (nI_1 _) (by decide) rfl (fun ls hl => ?_)
        refine lv_goto (tgt := 9) hx hb dX0_tooEarly_90 (by decide) ?_
        exact ih2 (3 - (Q + 1)) _ _ _ (by omega) ⟨Q + 1, by omega, (fun q hx => by
            by_cases e : q = Q
            · rw [e]; exact fun hh => hh.1 hpq
            · exact hno2 q (by omega)), rfl, hP, hD, hS, lv_sub hl [0, 2, 3, 4] rfl⟩
      · refine lv_iload_n hx hb dX0_tooEarly_19 rfl (lv_at hl 3 rfl) ?_
        refine lv_iload_n hx hb dX0_tooEarly_20 rfl (lv_at hl 1 rfl) ?_
        refine cw_bitu hx hb (by omega) (by omega) dX0_tooEarly_21 dX0_tooEarly_22 dX0_tooEarly_23 ?_
        refine cw_eq0 (tgt := 39) hx hb (by omega) dX0_tooEarly_24 (by decide) (fun hbp => ?_) (fun hbp => ?_)
        · refine lv_iconst (v := (bI false)) hx hb dX0_tooEarly_39 (by decide) ?_
          refine lv_istore (lv' := [(4, .int (bI false)), (3, .int (nI Q)), (2, .int (nI P)), (0, .ref h), (1, .int (nI sv))]) hx hb dX0_tooEarly_40 hl (by decide) rfl (fun ls hl => ?_)
          refine lv_iload hx hb dX0_tooEarly_42 (lv_at hl 0 rfl) ?_
          refine cw_zeq (tgt := 87) hx hb dX0_tooEarly_44 (by decide) (fun hz => ?_) (fun hz => by cases hz)
          refine lv_iinc (v := nI (Q + 1)) (lv' := [(3, .int (nI (Q + 1))), (4, .int (bI false)), (2, .int (nI P)), (0, .ref h), (1, .int (nI sv))]) hx hb dX0_tooEarly_87 hl (k := 1) rfl (nI_1 _) (by decide) rfl (fun ls hl => ?_)
          refine lv_goto (tgt := 9) hx hb dX0_tooEarly_90 (by decide) ?_
          exact ih2 (3 - (Q + 1)) _ _ _ (by omega) ⟨Q + 1, by omega, (fun q hx => by
              by_cases e : q = Q
              · rw [e]; exact fun hh => (by have := hh.2.1; omega)
              · exact hno2 q (by omega)), rfl, hP, hD, hS, lv_sub hl [0, 2, 3, 4] rfl⟩
        · refine lv_iload_n hx hb dX0_tooEarly_27 rfl (lv_at hl 3 rfl) ?_
          refine lv_iload_n hx hb dX0_tooEarly_28 rfl (lv_at hl 0 rfl) ?_
          refine cw_bitu hx hb (by omega) (by omega) dX0_tooEarly_29 dX0_tooEarly_30 dX0_tooEarly_31 ?_
          refine cw_eq0 (tgt := 39) hx hb (by omega) dX0_tooEarly_32 (by decide) (fun hbq => ?_) (fun hbq => ?_)
          · refine lv_iconst (v := (bI false)) hx hb dX0_tooEarly_39 (by decide) ?_
            refine lv_istore (lv' := [(4, .int (bI false)), (3, .int (nI Q)), (2, .int (nI P)), (0, .ref h), (1, .int (nI sv))]) hx hb dX0_tooEarly_40 hl (by decide) rfl (fun ls hl => ?_)
            refine lv_iload hx hb dX0_tooEarly_42 (lv_at hl 0 rfl) ?_
            refine cw_zeq (tgt := 87) hx hb dX0_tooEarly_44 (by decide) (fun hz => ?_) (fun hz => by cases hz)
            refine lv_iinc (v := nI (Q + 1)) (lv' := [(3, .int (nI (Q + 1))), (4, .int (bI false)), (2, .int (nI P)), (0, .ref h), (1, .int (nI sv))]) hx hb dX0_tooEarly_87 hl (k := 1) rfl (nI_1 _) (by decide) rfl (fun ls hl => ?_)
            refine lv_goto (tgt := 9) hx hb dX0_tooEarly_90 (by decide) ?_
            exact ih2 (3 - (Q + 1)) _ _ _ (by omega) ⟨Q + 1, by omega, (fun q hx => by
                by_cases e : q = Q
                · rw [e]; exact fun hh => (by have := hh.2.2.1; omega)
                · exact hno2 q (by omega)), rfl, hP, hD, hS, lv_sub hl [0, 2, 3, 4] rfl⟩
          · have hb1 : cwBit sv P = 1 := by omega
            have hb2 : cwBit sv Q = 1 := by omega
            have hvP := hb8 P h3 hb1
            have hvQ := hb8 Q hq hb2
            refine lv_iconst (v := (bI true)) hx hb dX0_tooEarly_35 (by decide) ?_
            refine lv_goto (tgt := 40) hx hb dX0_tooEarly_36 (by decide) ?_
            refine lv_istore (lv' := [(4, .int (bI true)), (3, .int (nI Q)), (2, .int (nI P)), (0, .ref h), (1, .int (nI sv))]) hx hb dX0_tooEarly_40 hl (by decide) rfl (fun ls hl => ?_)
            refine lv_iload hx hb dX0_tooEarly_42 (lv_at hl 0 rfl) ?_
            refine cw_zeq (tgt := 87) hx hb dX0_tooEarly_44 (by decide) (fun hz => by cases hz) (fun hz => ?_)
            refine lv_aload_n hx hb dX0_tooEarly_47 rfl (lv_at hl 3 rfl) ?_
            refine cwX_get hx hb hts hown hK hP 0 rfl 9 (by decide) q32 rfl dX0_tooEarly_48 ?_
            refine lv_iload_n hx hb dX0_tooEarly_51 rfl (lv_at hl 2 rfl) ?_
            refine cw_iald hx hb hK hP 9 8 rfl rfl (by omega) (by omega) dX0_tooEarly_52 ?_
            refine lv_aload_n hx hb dX0_tooEarly_53 rfl (lv_at hl 3 rfl) ?_
            refine cwX_get hx hb hts hown hK hP 0 rfl 0 (by decide) q23 rfl dX0_tooEarly_54 ?_
            refine lv_iload_n hx hb dX0_tooEarly_57 rfl (lv_at hl 2 rfl) ?_
            refine cw_iald hx hb hK hP 1 0 rfl rfl (by omega) (by omega) dX0_tooEarly_58 ?_
            refine cw_ge (tgt := 87) hx hb (by omega) (by omega) dX0_tooEarly_59 (by decide) (fun hwc => ?_) (fun hwc => ?_)
            · refine lv_iinc (v := nI (Q + 1)) (lv' := [(3, .int (nI (Q + 1))), (4, .int (bI true)), (2, .int (nI P)), (0, .ref h), (1, .int (nI sv))]) hx hb dX0_tooEarly_87 hl (k := 1) rfl (nI_1 _) (by decide) rfl (fun ls hl => ?_)
              refine lv_goto (tgt := 9) hx hb dX0_tooEarly_90 (by decide) ?_
              exact ih2 (3 - (Q + 1)) _ _ _ (by omega) ⟨Q + 1, by omega, (fun q hx => by
                  by_cases e : q = Q
                  · rw [e]; exact fun hh => (by have := hh.2.2.2.1; omega)
                  · exact hno2 q (by omega)), rfl, hP, hD, hS, lv_sub hl [0, 2, 3, 4] rfl⟩
            · have hKa := hV.2.2.1 P (w P + 1) Q h3 hq hwc
              refine lv_aload_n hx hb dX0_tooEarly_62 rfl (lv_at hl 3 rfl) ?_
              refine lv_iload_n hx hb dX0_tooEarly_63 rfl (lv_at hl 2 rfl) ?_
              refine lv_aload_n hx hb dX0_tooEarly_64 rfl (lv_at hl 3 rfl) ?_
              refine cwX_get hx hb hts hown hK hP 0 rfl 9 (by decide) q32 rfl dX0_tooEarly_65 ?_
              refine lv_iload_n hx hb dX0_tooEarly_68 rfl (lv_at hl 2 rfl) ?_
              refine cw_iald hx hb hK hP 9 8 rfl rfl (by omega) (by omega) dX0_tooEarly_69 ?_
              refine lv_iconst (v := (nI 1)) hx hb dX0_tooEarly_70 (by decide) ?_
              refine cw_iadd hx hb dX0_tooEarly_71 ?_
              refine lv_iload_n hx hb dX0_tooEarly_72 rfl (lv_at hl 1 rfl) ?_
              refine cw_callV (n := 3) (C := RX0) (As := [.int (nI P), .int (nI ((w P) + 1)), .int (nI Q)]) (rest := []) (wr := []) ⟨hx, hb, hml, hown, hts⟩ (mX_knownBy l dC dI d h a S u v w P (w P + 1) Q (by omega) (by omega) (by omega)) (lw_V q79 q81 qs1 q13 q82) (by decide +kernel) rfl ⟨Nat.le_of_ble_eq_true rfl, Nat.le_of_ble_eq_true rfl⟩ ⟨Nat.le_refl _, Nat.le_refl _⟩ hK hP hD hS hA [0, 1, 2, 3, 4, 5, 6, 7, 8, 9] [] rfl rfl rfl (by decide) (by decide) (by decide) rfl rfl rfl hl.1 rfl (Nat.le_of_ble_eq_true rfl) dX0_tooEarly_73 (fun r uu H locs hpost hP hD hS => ?_)
              have hpost : r = nI (cwK (sK S) P (w P + 1) Q) := hpost
              subst hpost
              have hP : va_P (dC, dI) vwCl (XW d h a (sC S) (sG S) (sK S) (sM S) (sD S) (sI S) (sR S) u v w) H := hP
              have hD : va_D A (XW d h a (sC S) (sG S) (sK S) (sM S) (sD S) (sI S) (sR S) u v w) := hD
              refine lv_aload_n hx hb dX0_tooEarly_76 rfl (lv_at hl 3 rfl) ?_
              refine cwX_get hx hb hts hown hK hP 0 rfl 8 (by decide) q31 rfl dX0_tooEarly_77 ?_
              refine lv_iload_n hx hb dX0_tooEarly_80 rfl (lv_at hl 1 rfl) ?_
              refine cw_iald hx hb hK hP 8 7 rfl rfl (by omega) (by omega) dX0_tooEarly_81 ?_
              refine cw_ge (tgt := 87) hx hb (by omega) (by omega) dX0_tooEarly_82 (by decide) (fun hvk => ?_) (fun hvk => ?_)
              · refine lv_iinc (v := nI (Q + 1)) (lv' := [(3, .int (nI (Q + 1))), (4, .int (bI true)), (2, .int (nI P)), (0, .ref h), (1, .int (nI sv))]) hx hb dX0_tooEarly_87 hl (k := 1) rfl (nI_1 _) (by decide) rfl (fun ls hl => ?_)
                refine lv_goto (tgt := 9) hx hb dX0_tooEarly_90 (by decide) ?_
                exact ih2 (3 - (Q + 1)) _ _ _ (by omega) ⟨Q + 1, by omega, (fun q hx => by
                    by_cases e : q = Q
                    · rw [e]; exact fun hh => (by have := hh.2.2.2.2; omega)
                    · exact hno2 q (by omega)), rfl, hP, hD, hS, lv_sub hl [0, 2, 3, 4] rfl⟩
              · refine lv_iload_n hx hb dX0_tooEarly_85 rfl (lv_at hl 2 rfl) ?_
                exact cw_iret hx hb hr hlocks () (Or.inr ⟨P, Q, h3, hq, rfl, hpq, hb1, hb2, hwc, hvk⟩) hP hK hD hS dX0_tooEarly_86
end
section
/-! CutWatch: definitely -/
set_option maxHeartbeats 4000000 in
set_option maxRecDepth 100000 in
/-- stretchesMeet -/
theorem mX_stretchesMeet (l : Launch) (dC : Nat → ClassId) (dI : Nat → Nat → Nat) (d : Nat → ClassId) (h : Nat) (a : Nat → Nat) (S : WSt) (u v w : Nat → Nat) (hO : cwOk S) (sv : Nat) (hsv : sv < 8) : cwMi l yX0_stretchesMeet cX0_stretchesMeet 5 (some .boolean) 2 47 (dC, dI) vwCl (XT d) [.ref h, .int (nI sv)] (XS d h a S u v w) (fun r (_ : (Nat → Nat) × (Nat → Nat)) => (r = 1 ∧ ∀ vv, cwRec (sC S) (cwK (sK S)) (cwG (sG S)) sv vv → vv (cwCode (sC S)) = false) ∨ (r = 0 ∧ ∀ vv, cwRec (sC S) (cwK (sK S)) (cwG (sG S)) sv vv → vv (cwCode (sC S)) = true)) (fun vw => XS d h a S u vw.1 vw.2) := by
  refine cw_met ([(0, .ref h), (1, .int (nI sv))]) (by decide) (Nat.le_of_ble_eq_true rfl) rfl ?_
  intro p e s m below meth c A ls hx hb hr hlocks hml hown hts hA hP hK hD hS hl
  have hown : s.vm.findClass RX0 = some m.cls := hown
  have hV := hO.1
  refine lv_iconst (v := (nI 0)) hx hb dX0_stretchesMeet_0 (by decide) ?_
  refine lv_istore_n (lv' := [(2, .int (nI 0)), (0, .ref h), (1, .int (nI sv))]) hx hb dX0_stretchesMeet_1 rfl hl (by decide) rfl (fun ls hl => ?_)
  refine cw_loop (head := 2) (I := fun n H locs ls => ∃ (P : Nat) (fv tw : Nat → Nat), (P ≤ 3) ∧ (∀ x, x < P → cwBit sv x = 1 → cwStr (sC S) (cwG (sG S)) x (fv x) (tw x)) ∧ (∀ vv, cwRec (sC S) (cwK (sK S)) (cwG (sG S)) sv vv → ∀ x, x < P → cwBit sv x = 1 → cwGr (cwG (sG S)) vv x (fv x)) ∧ n = 3 - P ∧ va_P (dC, dI) vwCl (XW d h a (sC S) (sG S) (sK S) (sM S) (sD S) (sI S) (sR S) u fv tw) H ∧ va_D A (XW d h a (sC S) (sG S) (sK S) (sM S) (sD S) (sI S) (sR S) u fv tw) ∧ va_S A s.heap H locs ∧ lv_has ls 5 [(2, .int (nI P)), (0, .ref h), (1, .int (nI sv))]) ?_ (3) ⟨0, v, w, by omega, (fun x hx => absurd hx (by omega)), (fun vv _ x hx => absurd hx (by omega)), rfl, hP, hD, hS, hl⟩
  intro n H locs ls ⟨P, fv, tw, hP3, hst, hgr, hn, hP, hD, hS, hl⟩ ih
  refine lv_iload_n hx hb dX0_stretchesMeet_2 rfl (lv_at hl 0 rfl) ?_
  refine lv_iconst (v := (nI 3)) hx hb dX0_stretchesMeet_3 (by decide) ?_
  refine cw_ge (tgt := 32) hx hb (by omega) (by omega) dX0_stretchesMeet_4 (by decide) (fun h3 => ?_) (fun h3 => ?_)
  · have e3 : P = 3 := by omega
    subst e3
    refine lv_iconst (v := (bI true)) hx hb dX0_stretchesMeet_32 (by decide) ?_
    refine lv_istore_n (lv' := [(2, .int (bI true)), (0, .ref h), (1, .int (nI sv))]) hx hb dX0_stretchesMeet_33 rfl hl (by decide) rfl (fun ls hl => ?_)
    refine lv_iconst (v := (nI 0)) hx hb dX0_stretchesMeet_34 (by decide) ?_
    refine lv_istore_n (lv' := [(3, .int (nI 0)), (2, .int (bI true)), (0, .ref h), (1, .int (nI sv))]) hx hb dX0_stretchesMeet_35 rfl hl (by decide) rfl (fun ls hl => ?_)
    refine cw_loop (head := 36) (I := fun n2 H locs ls => ∃ (rd : Nat) (ch : Bool) (fv tw : Nat → Nat), (rd ≤ 20) ∧ (∀ x, x < 3 → cwBit sv x = 1 → cwStr (sC S) (cwG (sG S)) x (fv x) (tw x)) ∧ (∀ vv, cwRec (sC S) (cwK (sK S)) (cwG (sG S)) sv vv → ∀ x, x < 3 → cwBit sv x = 1 → cwGr (cwG (sG S)) vv x (fv x)) ∧ (ch = true → 2 * rd ≤ cwMs sv fv) ∧ (ch = false → ∀ x y, x < 3 → y < 3 → ¬ cwPair (sC S) (cwK (sK S)) sv fv tw x y) ∧ n2 = 20 - rd ∧ va_P (dC, dI) vwCl (XW d h a (sC S) (sG S) (sK S) (sM S) (sD S) (sI S) (sR S) u fv tw) H ∧ va_D A (XW d h a (sC S) (sG S) (sK S) (sM S) (sD S) (sI S) (sR S) u fv tw) ∧ va_S A s.heap H locs ∧ lv_has ls 5 [(3, .int (nI rd)), (2, .int (bI ch)), (0, .ref h), (1, .int (nI sv))]) ?_ (20) ⟨0, true, fv, tw, by omega, (fun x hx => hst x (by omega)), (fun vv hv x hx => hgr vv hv x (by omega)), (fun _ => Nat.zero_le _), (fun hh => by cases hh), rfl, hP, hD, hS, hl⟩
    intro n2 H locs ls ⟨rd, ch, fv, tw, hrd, hst, hgr, hct, hcf, hn2, hP, hD, hS, hl⟩ ih2
    have hb8 : ∀ x, x < 3 → cwBit sv x = 1 → fv x ≤ 8 ∧ tw x ≤ 8 := fun x hx hbx => by
      have g1 := hst x hx hbx
      have g2 := hV.1 x hx
      have g3 := g1.1
      have g4 := g1.2.1
      omega
    refine lv_iload_n hx hb dX0_stretchesMeet_36 rfl (lv_at hl 0 rfl) ?_
    refine lv_bipush (v := (nI 20)) hx hb dX0_stretchesMeet_37 (by decide) ?_
    refine cw_ge (tgt := 94) hx hb (by omega) (by omega) dX0_stretchesMeet_39 (by decide) (fun h20 => ?_) (fun h20 => ?_)
    · have hm24 := cwMs_24 (fun x hx hbx => (hb8 x hx hbx).1)
      have hch : ch = false := by
        cases ch with
        | false => rfl
        | true => exact absurd (hct rfl) (by omega)
      refine lv_iconst (v := 1) hx hb dX0_stretchesMeet_94 (by decide) ?_
      exact cw_zret hx hb hr hlocks rfl (fv, tw) (Or.inl ⟨rfl, cw_ends hV hst (hcf hch)⟩) hP hK hD hS dX0_stretchesMeet_95
    · refine lv_iload_n hx hb dX0_stretchesMeet_42 rfl (lv_at hl 1 rfl) ?_
      refine cw_zeq (tgt := 94) hx hb dX0_stretchesMeet_43 (by decide) (fun hch => ?_) (fun hch => ?_)
      · refine lv_iconst (v := 1) hx hb dX0_stretchesMeet_94 (by decide) ?_
        exact cw_zret hx hb hr hlocks rfl (fv, tw) (Or.inl ⟨rfl, cw_ends hV hst (hcf hch)⟩) hP hK hD hS dX0_stretchesMeet_95
      · refine lv_aload_n hx hb dX0_stretchesMeet_46 rfl (lv_at hl 2 rfl) ?_
        refine lv_iload_n hx hb dX0_stretchesMeet_47 rfl (lv_at hl 3 rfl) ?_
        refine cw_callV (n := 1) (C := RX0) (As := [.int (nI sv)]) (rest := []) (wr := []) ⟨hx, hb, hml, hown, hts⟩ (mX_tooEarly l dC dI d h a S u fv tw hV sv hsv hb8) (lw_V q115 q117 qs6 q13 q118) (by decide +kernel) rfl ⟨Nat.le_of_ble_eq_true rfl, Nat.le_of_ble_eq_true rfl⟩ ⟨Nat.le_refl _, Nat.le_refl _⟩ hK hP hD hS hA [0, 1, 2, 3, 4, 5, 6, 7, 8, 9] [] rfl rfl rfl (by decide) (by decide) (by decide) rfl rfl rfl hl.1 rfl (Nat.le_of_ble_eq_true rfl) dX0_stretchesMeet_48 (fun r uu H locs hpost hP hD hS => ?_)
        rcases hpost with ⟨rfl, hno⟩ | ⟨P, Q, hP3, hQ3, rfl, hpr⟩
        · have hP : va_P (dC, dI) vwCl (XW d h a (sC S) (sG S) (sK S) (sM S) (sD S) (sI S) (sR S) u fv tw) H := hP
          have hD : va_D A (XW d h a (sC S) (sG S) (sK S) (sM S) (sD S) (sI S) (sR S) u fv tw) := hD
          refine lv_istore (lv' := [(4, .int (-1)), (3, .int (nI rd)), (2, .int (bI ch)), (0, .ref h), (1, .int (nI sv))]) hx hb dX0_stretchesMeet_51 hl (by decide) rfl (fun ls hl => ?_)
          refine lv_iload hx hb dX0_stretchesMeet_53 (lv_at hl 0 rfl) ?_
          refine lv_if_lt (tgt := 62) hx hb dX0_stretchesMeet_55 (by decide) (fun _ => ?_) (fun hz => absurd (by decide) hz)
          refine lv_iconst (v := (bI false)) hx hb dX0_stretchesMeet_62 (by decide) ?_
          refine lv_istore_n (lv' := [(2, .int (bI false)), (4, .int (-1)), (3, .int (nI rd)), (0, .ref h), (1, .int (nI sv))]) hx hb dX0_stretchesMeet_63 rfl hl (by decide) rfl (fun ls hl => ?_)
          refine lv_iload_n hx hb dX0_stretchesMeet_64 rfl (lv_at hl 0 rfl) ?_
          refine cw_zeq (tgt := 88) hx hb dX0_stretchesMeet_65 (by decide) (fun hz => ?_) (fun hz => by cases hz)
          refine lv_iinc (v := nI (rd + 1)) (lv' := [(3, .int (nI (rd + 1))), (2, .int (bI false)), (4, .int (-1)), (0, .ref h), (1, .int (nI sv))]) hx hb dX0_stretchesMeet_88 hl (k := 2) rfl (nI_1 _) (by decide) rfl (fun ls hl => ?_)
          refine lv_goto (tgt := 36) hx hb dX0_stretchesMeet_91 (by decide) ?_
          exact ih2 (20 - (rd + 1)) _ _ _ (by omega) ⟨rd + 1, false, fv, tw, by omega, hst, hgr, (fun hh => by cases hh), (fun _ => hno), rfl, hP, hD, hS, lv_sub hl [0, 1, 3, 4] rfl⟩
        · have hP : va_P (dC, dI) vwCl (XW d h a (sC S) (sG S) (sK S) (sM S) (sD S) (sI S) (sR S) u fv tw) H := hP
          have hD : va_D A (XW d h a (sC S) (sG S) (sK S) (sM S) (sD S) (sI S) (sR S) u fv tw) := hD
          have hb1 : cwBit sv P = 1 := hpr.2.1
          have hwc : tw P < sC S P := hpr.2.2.2.1
          have hc8 := hV.1 P hP3
          refine lv_istore (lv' := [(4, .int (nI P)), (3, .int (nI rd)), (2, .int (bI ch)), (0, .ref h), (1, .int (nI sv))]) hx hb dX0_stretchesMeet_51 hl (by decide) rfl (fun ls hl => ?_)
          refine lv_iload hx hb dX0_stretchesMeet_53 (lv_at hl 0 rfl) ?_
          refine cw_lt0 (tgt := 62) hx hb (by omega) dX0_stretchesMeet_55 (by decide) ?_
          refine lv_iconst (v := (bI true)) hx hb dX0_stretchesMeet_58 (by decide) ?_
          refine lv_goto (tgt := 63) hx hb dX0_stretchesMeet_59 (by decide) ?_
          refine lv_istore_n (lv' := [(2, .int (bI true)), (4, .int (nI P)), (3, .int (nI rd)), (0, .ref h), (1, .int (nI sv))]) hx hb dX0_stretchesMeet_63 rfl hl (by decide) rfl (fun ls hl => ?_)
          refine lv_iload_n hx hb dX0_stretchesMeet_64 rfl (lv_at hl 0 rfl) ?_
          refine cw_zeq (tgt := 88) hx hb dX0_stretchesMeet_65 (by decide) (fun hz => by cases hz) (fun hz => ?_)
          refine lv_aload_n hx hb dX0_stretchesMeet_68 rfl (lv_at hl 3 rfl) ?_
          refine lv_iload hx hb dX0_stretchesMeet_69 (lv_at hl 1 rfl) ?_
          refine lv_aload_n hx hb dX0_stretchesMeet_71 rfl (lv_at hl 3 rfl) ?_
          refine cwX_get hx hb hts hown hK hP 0 rfl 9 (by decide) q32 rfl dX0_stretchesMeet_72 ?_
          refine lv_iload hx hb dX0_stretchesMeet_75 (lv_at hl 1 rfl) ?_
          refine cw_iald hx hb hK hP 9 8 rfl rfl (by omega) (by omega) dX0_stretchesMeet_77 ?_
          refine lv_iconst (v := (nI 1)) hx hb dX0_stretchesMeet_78 (by decide) ?_
          refine cw_iadd hx hb dX0_stretchesMeet_79 ?_
          refine cw_callV (n := 2) (C := RX0) (As := [.int (nI P), .int (nI ((tw P) + 1))]) (rest := []) (wr := []) ⟨hx, hb, hml, hown, hts⟩ (mX_nextStretch l dC dI d h a S u fv tw hV P (tw P + 1) hP3 (by omega)) (lw_V q111 q113 qs5 q13 q114) (by decide +kernel) rfl ⟨Nat.le_of_ble_eq_true rfl, Nat.le_of_ble_eq_true rfl⟩ ⟨Nat.le_refl _, Nat.le_refl _⟩ hK hP hD hS hA [0, 1, 2, 3, 4, 5, 6, 7, 8, 9] [] rfl rfl rfl (by decide) (by decide) (by decide) rfl rfl rfl hl.1 rfl (Nat.le_of_ble_eq_true rfl) dX0_stretchesMeet_80 (fun r uu H locs hpost hP hD hS => ?_)
          rcases hpost with ⟨rfl, hvw, hng⟩ | ⟨rfl, ft, tt, hvw, hf0, hft, htc, hng, hgd, hend⟩
          · refine lv_if_ne (tgt := 88) hx hb dX0_stretchesMeet_83 (by decide) (fun h => absurd h (by decide)) (fun _ => ?_)
            subst hvw
            have hP : va_P (dC, dI) vwCl (XW d h a (sC S) (sG S) (sK S) (sM S) (sD S) (sI S) (sR S) u fv tw) H := hP
            have hD : va_D A (XW d h a (sC S) (sG S) (sK S) (sM S) (sD S) (sI S) (sR S) u fv tw) := hD
            refine lv_iconst (v := 0) hx hb dX0_stretchesMeet_86 (by decide) ?_
            exact cw_zret hx hb hr hlocks rfl (fv, tw) (Or.inr ⟨rfl, fun vv hv => cw_fail hV hv hP3 hb1 hng (cw_give hV hP3 hQ3 hpr hv (hgr vv hv Q hQ3 hpr.2.2.1))⟩) hP hK hD hS dX0_stretchesMeet_87
          · refine lv_if_ne (tgt := 88) hx hb dX0_stretchesMeet_83 (by decide) (fun _ => ?_) (fun h => absurd h (by decide))
            subst hvw
            have hP : va_P (dC, dI) vwCl (XW d h a (sC S) (sG S) (sK S) (sM S) (sD S) (sI S) (sR S) u (va_up fv P ft) (va_up tw P tt)) H := hP
            have hD : va_D A (XW d h a (sC S) (sG S) (sK S) (sM S) (sD S) (sI S) (sR S) u (va_up fv P ft) (va_up tw P tt)) := hD
            have hgap : cwG (sG S) P (tw P + 1) = false := by
              rcases (hst P hP3 hb1).2.2.2 with g | g
              · exact absurd g (by omega)
              · exact g
            have hne : ft ≠ tw P + 1 := fun g => by
              have g2 := hgd ft (Nat.le_refl _) hft
              rw [g, hgap] at g2
              cases g2
            have hms := cwMs_up (v := fv) (f := ft) hP3 hb1
            have hsum := hct hch
            have hfw := (hst P hP3 hb1).1
            refine lv_iinc (v := nI (rd + 1)) (lv' := [(3, .int (nI (rd + 1))), (2, .int (bI true)), (4, .int (nI P)), (0, .ref h), (1, .int (nI sv))]) hx hb dX0_stretchesMeet_88 hl (k := 2) rfl (nI_1 _) (by decide) rfl (fun ls hl => ?_)
            refine lv_goto (tgt := 36) hx hb dX0_stretchesMeet_91 (by decide) ?_
            exact ih2 (20 - (rd + 1)) _ _ _ (by omega) ⟨rd + 1, true, _, _, by omega, (fun x hx hbx => by
                by_cases e : x = P
                · rw [e, va_up_self, va_up_self]; exact ⟨hft, htc, hgd, hend⟩
                · rw [va_up_ne _ _ e, va_up_ne _ _ e]; exact hst x hx hbx), (fun vv hv x hx hbx => by
                by_cases e : x = P
                · rw [e, va_up_self]; exact cw_give_new (cw_give hV hP3 hQ3 hpr hv (hgr vv hv Q hQ3 hpr.2.2.1)) (by omega) hng
                · rw [va_up_ne _ _ e]; exact hgr vv hv x hx hbx), (fun _ => by omega), (fun hh => by cases hh), rfl, hP, hD, hS, lv_sub hl [0, 1, 3, 4] rfl⟩
  · have hbo := cwBit_or sv P
    refine lv_iload_n hx hb dX0_stretchesMeet_7 rfl (lv_at hl 2 rfl) ?_
    refine lv_iload_n hx hb dX0_stretchesMeet_8 rfl (lv_at hl 0 rfl) ?_
    refine cw_bitu hx hb (by omega) (by omega) dX0_stretchesMeet_9 dX0_stretchesMeet_10 dX0_stretchesMeet_11 ?_
    refine cw_eq0 (tgt := 26) hx hb (by omega) dX0_stretchesMeet_12 (by decide) (fun hb0 => ?_) (fun hb0 => ?_)
    · refine lv_iinc (v := nI (P + 1)) (lv' := [(2, .int (nI (P + 1))), (0, .ref h), (1, .int (nI sv))]) hx hb dX0_stretchesMeet_26 hl (k := 0) rfl (nI_1 _) (by decide) rfl (fun ls hl => ?_)
      refine lv_goto (tgt := 2) hx hb dX0_stretchesMeet_29 (by decide) ?_
      exact ih (3 - (P + 1)) _ _ _ (by omega) ⟨P + 1, fv, tw, by omega, (fun x hx hbx => hst x (by
          rcases Nat.lt_or_ge x P with g | g
          · exact g
          · rw [show x = P by omega] at hbx
            omega) hbx), (fun vv hv x hx hbx => hgr vv hv x (by
          rcases Nat.lt_or_ge x P with g | g
          · exact g
          · rw [show x = P by omega] at hbx
            omega) hbx), rfl, hP, hD, hS, hl⟩
    · have hb1 : cwBit sv P = 1 := by omega
      refine lv_aload_n hx hb dX0_stretchesMeet_15 rfl (lv_at hl 1 rfl) ?_
      refine lv_iload_n hx hb dX0_stretchesMeet_16 rfl (lv_at hl 0 rfl) ?_
      refine lv_iconst (v := (nI 0)) hx hb dX0_stretchesMeet_17 (by decide) ?_
      refine cw_callV (n := 2) (C := RX0) (As := [.int (nI P), .int (nI 0)]) (rest := []) (wr := []) ⟨hx, hb, hml, hown, hts⟩ (mX_nextStretch l dC dI d h a S u fv tw hV P 0 h3 (Nat.zero_le _)) (lw_V q111 q113 qs5 q13 q114) (by decide +kernel) rfl ⟨Nat.le_of_ble_eq_true rfl, Nat.le_of_ble_eq_true rfl⟩ ⟨Nat.le_refl _, Nat.le_refl _⟩ hK hP hD hS hA [0, 1, 2, 3, 4, 5, 6, 7, 8, 9] [] rfl rfl rfl (by decide) (by decide) (by decide) rfl rfl rfl hl.1 rfl (Nat.le_of_ble_eq_true rfl) dX0_stretchesMeet_18 (fun r uu H locs hpost hP hD hS => ?_)
      rcases hpost with ⟨rfl, hvw, hng⟩ | ⟨rfl, ft, tt, hvw, hf0, hft, htc, hng, hgd, hend⟩
      · refine lv_if_ne (tgt := 26) hx hb dX0_stretchesMeet_21 (by decide) (fun h => absurd h (by decide)) (fun _ => ?_)
        subst hvw
        have hP : va_P (dC, dI) vwCl (XW d h a (sC S) (sG S) (sK S) (sM S) (sD S) (sI S) (sR S) u fv tw) H := hP
        have hD : va_D A (XW d h a (sC S) (sG S) (sK S) (sM S) (sD S) (sI S) (sR S) u fv tw) := hD
        refine lv_iconst (v := 0) hx hb dX0_stretchesMeet_24 (by decide) ?_
        exact cw_zret hx hb hr hlocks rfl (fv, tw) (Or.inr ⟨rfl, cw_none hV h3 hb1 hng⟩) hP hK hD hS dX0_stretchesMeet_25
      · refine lv_if_ne (tgt := 26) hx hb dX0_stretchesMeet_21 (by decide) (fun _ => ?_) (fun h => absurd h (by decide))
        subst hvw
        have hP : va_P (dC, dI) vwCl (XW d h a (sC S) (sG S) (sK S) (sM S) (sD S) (sI S) (sR S) u (va_up fv P ft) (va_up tw P tt)) H := hP
        have hD : va_D A (XW d h a (sC S) (sG S) (sK S) (sM S) (sD S) (sI S) (sR S) u (va_up fv P ft) (va_up tw P tt)) := hD
        refine lv_iinc (v := nI (P + 1)) (lv' := [(2, .int (nI (P + 1))), (0, .ref h), (1, .int (nI sv))]) hx hb dX0_stretchesMeet_26 hl (k := 0) rfl (nI_1 _) (by decide) rfl (fun ls hl => ?_)
        refine lv_goto (tgt := 2) hx hb dX0_stretchesMeet_29 (by decide) ?_
        exact ih (3 - (P + 1)) _ _ _ (by omega) ⟨P + 1, _, _, by omega, (fun x hx hbx => by
            by_cases e : x = P
            · rw [e, va_up_self, va_up_self]; exact ⟨hft, htc, hgd, hend⟩
            · rw [va_up_ne _ _ e, va_up_ne _ _ e]; exact hst x (by omega) hbx), (fun vv hv x hx hbx => by
            by_cases e : x = P
            · rw [e, va_up_self]; exact cw_first hV hv h3 hb1 hng
            · rw [va_up_ne _ _ e]; exact hgr vv hv x (by omega) hbx), rfl, hP, hD, hS, hl⟩
set_option maxHeartbeats 4000000 in
set_option maxRecDepth 100000 in
/-- definitely -/
theorem mX_definitely (l : Launch) (dC : Nat → ClassId) (dI : Nat → Nat → Nat) (d : Nat → ClassId) (h : Nat) (a : Nat → Nat) (S : WSt) (u v w : Nat → Nat) (hO : cwOk S) (x : Int32) : cwMi l yX0_definitely cX0_definitely 2 (some .int) 3 71 (dC, dI) vwCl (XT d) [.ref h, .int x] (XS d h a S u v w) (fun r (_ : (Nat → Nat) × (Nat → Nat)) => cwDefX S (cwIx x 8) r) (fun vw => XS d h a S u vw.1 vw.2) := by
  refine cw_met ([(0, .ref h), (1, .int x)]) (by decide) (Nat.le_of_ble_eq_true rfl) rfl ?_
  intro p e s m below meth c A ls hx hb hr hlocks hml hown hts hA hP hK hD hS hl
  have hown : s.vm.findClass RX0 = some m.cls := hown
  refine lv_iload_n hx hb dX0_definitely_0 rfl (lv_at hl 1 rfl) ?_
  refine lv_iconst (v := (nI 1)) hx hb dX0_definitely_1 (by decide) ?_
  refine lv_icmp_lt (tgt := 11) hx hb dX0_definitely_2 (by decide) (fun h1 => ?_) (fun h1 => ?_)
  · have hbs : ¬ (0 < cwIx x 8 ∧ cwIx x 8 < 8) := cw_set1 h1
    refine lv_iconst (v := (-1)) hx hb dX0_definitely_11 (by decide) ?_
    exact cw_iret hx hb hr hlocks (v, w) (Or.inl ⟨hbs, rfl⟩) hP hK hD hS dX0_definitely_12
  · refine lv_iload_n hx hb dX0_definitely_5 rfl (lv_at hl 1 rfl) ?_
    refine lv_bipush (v := (nI 7)) hx hb dX0_definitely_6 (by decide) ?_
    refine lv_icmp_le (tgt := 13) hx hb dX0_definitely_8 (by decide) (fun h7 => ?_) (fun h7 => ?_)
    · obtain ⟨sv, hs0, hsv, rfl⟩ := cw_set h1 (cw_le_nlt h7)
      rw [show cwIx (nI sv) 8 = sv from cwIx_nI hsv (by decide)]
      refine lv_aload_n hx hb dX0_definitely_13 rfl (lv_at hl 0 rfl) ?_
      refine lv_iload_n hx hb dX0_definitely_14 rfl (lv_at hl 1 rfl) ?_
      refine cw_callV (n := 1) (C := RX0) (As := [.int (nI sv)]) (rest := []) (wr := []) ⟨hx, hb, hml, hown, hts⟩ (mX_stretchesMeet l dC dI d h a S u v w hO sv hsv) (lw_V q107 q109 qs4 q13 q110) (by decide +kernel) rfl ⟨Nat.le_of_ble_eq_true rfl, Nat.le_of_ble_eq_true rfl⟩ ⟨Nat.le_refl _, Nat.le_refl _⟩ hK hP hD hS hA [0, 1, 2, 3, 4, 5, 6, 7, 8, 9] [] rfl rfl rfl (by decide) (by decide) (by decide) rfl rfl rfl hl.1 rfl (Nat.le_of_ble_eq_true rfl) dX0_definitely_15 (fun r uu H locs hpost hP hD hS => ?_)
      rcases hpost with ⟨rfl, hyes⟩ | ⟨rfl, hno⟩
      · have hP : va_P (dC, dI) vwCl (XW d h a (sC S) (sG S) (sK S) (sM S) (sD S) (sI S) (sR S) u uu.1 uu.2) H := hP
        have hD : va_D A (XW d h a (sC S) (sG S) (sK S) (sM S) (sD S) (sI S) (sR S) u uu.1 uu.2) := hD
        refine lv_if_eq (tgt := 25) hx hb dX0_definitely_18 (by decide) (fun h => absurd h (by decide)) (fun _ => ?_)
        refine lv_iconst (v := 1) hx hb dX0_definitely_21 (by decide) ?_
        refine lv_goto (tgt := 26) hx hb dX0_definitely_22 (by decide) ?_
        exact cw_iret hx hb hr hlocks uu (Or.inr ⟨⟨hs0, hsv⟩, fun vv hv => by rw [hyes vv hv]; rfl⟩) hP hK hD hS dX0_definitely_26
      · have hP : va_P (dC, dI) vwCl (XW d h a (sC S) (sG S) (sK S) (sM S) (sD S) (sI S) (sR S) u uu.1 uu.2) H := hP
        have hD : va_D A (XW d h a (sC S) (sG S) (sK S) (sM S) (sD S) (sI S) (sR S) u uu.1 uu.2) := hD
        refine lv_if_eq (tgt := 25) hx hb dX0_definitely_18 (by decide) (fun _ => ?_) (fun h => absurd h (by decide))
        refine lv_iconst (v := 0) hx hb dX0_definitely_25 (by decide) ?_
        exact cw_iret hx hb hr hlocks uu (Or.inr ⟨⟨hs0, hsv⟩, fun vv hv => by rw [hno vv hv]; rfl⟩) hP hK hD hS dX0_definitely_26
    · have hbs : ¬ (0 < cwIx x 8 ∧ cwIx x 8 < 8) := cw_set7 (cw_nle h7)
      refine lv_iconst (v := (-1)) hx hb dX0_definitely_11 (by decide) ?_
      exact cw_iret hx hb hr hlocks (v, w) (Or.inl ⟨hbs, rfl⟩) hP hK hD hS dX0_definitely_12
end
section
/-! CutWatchModel: the questions -/
abbrev cwPGn (S : WSt) (sv j : Nat) : Prop := cwPG (sC S) (cwK (sK S)) (cwG (sG S)) sv (cwSt j)
/-- the best state so far -/
def cwLi (S : WSt) (sv P nn : Nat) (bv : Int32) : Prop := (bv = -1 ∧ ∀ j, j < nn → ¬ cwPGn S sv j) ∨ (∃ j, j < nn ∧ cwPGn S sv j ∧ bv = nI (cwSt j P) ∧ ∀ i, i < nn → cwPGn S sv i → cwSt j P ≤ cwSt i P)
theorem cwLi_0 (S : WSt) (sv P : Nat) : cwLi S sv P 0 (-1) := Or.inl ⟨rfl, fun j hj => absurd hj (by omega)⟩
theorem cwLi_skip {S : WSt} {sv P nn : Nat} {bv : Int32} (h : cwLi S sv P nn bv) (hn : ¬ cwPGn S sv nn) : cwLi S sv P (nn + 1) bv := by
  rcases h with ⟨e, h⟩ | ⟨j, hj, hp, e, hm⟩
  · refine Or.inl ⟨e, fun i hi => ?_⟩
    by_cases g : i = nn
    · rw [g]; exact hn
    · exact h i (by omega)
  · refine Or.inr ⟨j, by omega, hp, e, fun i hi hpi => ?_⟩
    by_cases g : i = nn
    · rw [g] at hpi; exact absurd hpi hn
    · exact hm i (by omega) hpi
theorem cwLi_first {S : WSt} {sv P nn : Nat} (h : ∀ j, j < nn → ¬ cwPGn S sv j) (hn : cwPGn S sv nn) : cwLi S sv P (nn + 1) (nI (cwSt nn P)) := by
  refine Or.inr ⟨nn, by omega, hn, rfl, fun i hi hpi => ?_⟩
  by_cases g : i = nn
  · rw [g]; exact Nat.le_refl _
  · exact absurd hpi (h i (by omega))
theorem cwLi_keep {S : WSt} {sv P nn j : Nat} (hj : j < nn) (hp : cwPGn S sv j) (hm : ∀ i, i < nn → cwPGn S sv i → cwSt j P ≤ cwSt i P) (hle : cwSt j P ≤ cwSt nn P) : cwLi S sv P (nn + 1) (nI (cwSt j P)) := by
  refine Or.inr ⟨j, by omega, hp, rfl, fun i hi hpi => ?_⟩
  by_cases g : i = nn
  · rw [g]; exact hle
  · exact hm i (by omega) hpi
theorem cwLi_less {S : WSt} {sv P nn j : Nat} (hn : cwPGn S sv nn) (hm : ∀ i, i < nn → cwPGn S sv i → cwSt j P ≤ cwSt i P) (hlt : cwSt nn P < cwSt j P) : cwLi S sv P (nn + 1) (nI (cwSt nn P)) := by
  refine Or.inr ⟨nn, by omega, hn, rfl, fun i hi hpi => ?_⟩
  by_cases g : i = nn
  · rw [g]; exact Nat.le_refl _
  · have := hm i (by omega) hpi
    omega
theorem cwLi_end {S : WSt} (hO : cwOk S) {sv P : Nat} {bv : Int32} (hs0 : 0 < sv) (hsv : sv < 8) (hP3 : P < 3) (h : cwLi S sv P 729 bv) : cwLeastA S sv P bv := by
  refine Or.inr ⟨⟨⟨hs0, hsv⟩, hP3⟩, ?_⟩
  rcases h with ⟨e, h⟩ | ⟨j, hj, hp, e, hm⟩
  · refine Or.inr ⟨fun C hC => ?_, e⟩
    obtain ⟨h1, h2, -⟩ := cwPG_num hO hC
    exact h _ h1 h2
  · refine Or.inl ⟨cwSt j, hp, fun D hD => ?_, e⟩
    obtain ⟨h1, h2, h3⟩ := cwPG_num hO hD
    rw [← h3 P hP3]
    exact hm _ h1 h2
set_option maxHeartbeats 4000000 in
set_option maxRecDepth 100000 in
/-- stateOf -/
theorem mY_stateOf (l : Launch) (D : va_G) (nn P : Nat) (hn : nn < 729) (hP3 : P < 3) : cwMi l yX1_stateOf cX1_stateOf 2 (some .int) 0 0 D vwCl ([]) [.int (nI nn), .int (nI P)] ([]) (fun r (_ : Unit) => r = nI (cwSt nn P)) ((fun _ => [])) := by
  refine cw_met ([(0, .int (nI nn)), (1, .int (nI P))]) (by decide) (Nat.le_of_ble_eq_true rfl) rfl ?_
  intro p e s m below meth c A ls hx hb hr hlocks hml hown hts hA hP hK hD hS hl
  have hown : s.vm.findClass RX1 = some m.cls := hown
  refine lv_iload_n hx hb dX1_stateOf_0 rfl (lv_at hl 1 rfl) ?_
  refine cw_ne0 (tgt := 11) hx hb (by omega) dX1_stateOf_1 (by decide) (fun h0 => ?_) (fun h0 => ?_)
  · refine lv_iload_n hx hb dX1_stateOf_11 rfl (lv_at hl 1 rfl) ?_
    refine lv_iconst (v := (nI 1)) hx hb dX1_stateOf_12 (by decide) ?_
    refine cw_ne (tgt := 26) hx hb (by omega) (by omega) dX1_stateOf_13 (by decide) (fun h1 => ?_) (fun h1 => ?_)
    · refine lv_iload_n hx hb dX1_stateOf_26 rfl (lv_at hl 0 rfl) ?_
      refine lv_bipush (v := (nI 9)) hx hb dX1_stateOf_27 (by decide) ?_
      refine cw_irem hx hb (by omega) (by omega) (by omega) dX1_stateOf_29 ?_
      refine cw_nat (b := cwSt nn P) (by rw [show P = 2 by omega, cwSt_2]) ?_
      exact cw_iret hx hb hr hlocks () (rfl) hP hK hD hS dX1_stateOf_30
    · refine lv_iload_n hx hb dX1_stateOf_16 rfl (lv_at hl 0 rfl) ?_
      refine lv_bipush (v := (nI 9)) hx hb dX1_stateOf_17 (by decide) ?_
      refine cw_idiv hx hb (by omega) (by omega) (by omega) dX1_stateOf_19 ?_
      refine lv_bipush (v := (nI 9)) hx hb dX1_stateOf_20 (by decide) ?_
      refine cw_irem hx hb (by omega) (by omega) (by omega) dX1_stateOf_22 ?_
      refine lv_goto (tgt := 30) hx hb dX1_stateOf_23 (by decide) ?_
      refine cw_nat (b := cwSt nn P) (by rw [h1, cwSt_1]) ?_
      exact cw_iret hx hb hr hlocks () (rfl) hP hK hD hS dX1_stateOf_30
  · refine lv_iload_n hx hb dX1_stateOf_4 rfl (lv_at hl 0 rfl) ?_
    refine lv_bipush (v := (nI 81)) hx hb dX1_stateOf_5 (by decide) ?_
    refine cw_idiv hx hb (by omega) (by omega) (by omega) dX1_stateOf_7 ?_
    refine lv_goto (tgt := 30) hx hb dX1_stateOf_8 (by decide) ?_
    refine cw_nat (b := cwSt nn P) (by rw [h0, cwSt_0]) ?_
    exact cw_iret hx hb hr hlocks () (rfl) hP hK hD hS dX1_stateOf_30
set_option maxHeartbeats 4000000 in
set_option maxRecDepth 100000 in
/-- badSet -/
theorem mY_badSet (l : Launch) (D : va_G) (x : Int32) : cwMi l yX1_badSet cX1_badSet 1 (some .boolean) 0 0 D vwCl ([]) [.int x] ([]) (fun r (_ : Unit) => (r = 0 ∧ ∃ sv, 0 < sv ∧ sv < 8 ∧ x = nI sv) ∨ (r = 1 ∧ ¬ (0 < cwIx x 8 ∧ cwIx x 8 < 8))) ((fun _ => [])) := by
  refine cw_met ([(0, .int x)]) (by decide) (Nat.le_of_ble_eq_true rfl) rfl ?_
  intro p e s m below meth c A ls hx hb hr hlocks hml hown hts hA hP hK hD hS hl
  have hown : s.vm.findClass RX1 = some m.cls := hown
  refine lv_iload_n hx hb dX1_badSet_0 rfl (lv_at hl 0 rfl) ?_
  refine lv_iconst (v := (nI 1)) hx hb dX1_badSet_1 (by decide) ?_
  refine lv_icmp_lt (tgt := 11) hx hb dX1_badSet_2 (by decide) (fun h1 => ?_) (fun h1 => ?_)
  · refine lv_iconst (v := 1) hx hb dX1_badSet_11 (by decide) ?_
    refine lv_goto (tgt := 16) hx hb dX1_badSet_12 (by decide) ?_
    exact cw_zret hx hb hr hlocks rfl () (Or.inr ⟨rfl, cw_set1 h1⟩) hP hK hD hS dX1_badSet_16
  · refine lv_iload_n hx hb dX1_badSet_5 rfl (lv_at hl 0 rfl) ?_
    refine lv_bipush (v := (nI 7)) hx hb dX1_badSet_6 (by decide) ?_
    refine lv_icmp_le (tgt := 15) hx hb dX1_badSet_8 (by decide) (fun h7 => ?_) (fun h7 => ?_)
    · refine lv_iconst (v := 0) hx hb dX1_badSet_15 (by decide) ?_
      exact cw_zret hx hb hr hlocks rfl () (Or.inl ⟨rfl, cw_set h1 (cw_le_nlt h7)⟩) hP hK hD hS dX1_badSet_16
    · refine lv_iconst (v := 1) hx hb dX1_badSet_11 (by decide) ?_
      refine lv_goto (tgt := 16) hx hb dX1_badSet_12 (by decide) ?_
      exact cw_zret hx hb hr hlocks rfl () (Or.inr ⟨rfl, cw_set7 (cw_nle h7)⟩) hP hK hD hS dX1_badSet_16
set_option maxHeartbeats 4000000 in
set_option maxRecDepth 100000 in
/-- possible -/
theorem mY_possible (l : Launch) (dC : Nat → ClassId) (dI : Nat → Nat → Nat) (d : Nat → ClassId) (h : Nat) (a : Nat → Nat) (S : WSt) (av : Nat → Bool) (hV : cwVc (sC S) (cwK (sK S))) (nn : Nat) (hn : nn < 729) : cwMi l yX1_possible cX1_possible 5 (some .boolean) 1 21 (dC, dI) vwCl (YT d) [.ref h, .int (nI nn)] (YS d h a S av) (fun r (_ : Unit) => (r = 1 ∧ cwPoss (sC S) (cwK (sK S)) (cwSt nn)) ∨ (r = 0 ∧ ¬ cwPoss (sC S) (cwK (sK S)) (cwSt nn))) (fun _ => YS d h a S av) := by
  refine cw_met ([(0, .ref h), (1, .int (nI nn))]) (by decide) (Nat.le_of_ble_eq_true rfl) rfl ?_
  intro p e s m below meth c A ls hx hb hr hlocks hml hown hts hA hP hK hD hS hl
  have hown : s.vm.findClass RX1 = some m.cls := hown
  refine lv_iconst (v := (nI 0)) hx hb dX1_possible_0 (by decide) ?_
  refine lv_istore_n (lv' := [(2, .int (nI 0)), (0, .ref h), (1, .int (nI nn))]) hx hb dX1_possible_1 rfl hl (by decide) rfl (fun ls hl => ?_)
  refine cw_loop (head := 2) (I := fun n1 H locs ls => ∃ P, (P ≤ 3) ∧ (∀ x, x < P → cwSt nn x ≤ sC S x ∧ ∀ q, q < 3 → cwK (sK S) x (cwSt nn x) q ≤ cwSt nn q) ∧ n1 = 3 - P ∧ va_P (dC, dI) vwCl (YW d h a (sC S) (sG S) (sK S) (sM S) (sD S) (sI S) (sR S) av) H ∧ va_D A (YW d h a (sC S) (sG S) (sK S) (sM S) (sD S) (sI S) (sR S) av) ∧ va_S A s.heap H locs ∧ lv_has ls 5 [(2, .int (nI P)), (0, .ref h), (1, .int (nI nn))]) ?_ (3) ⟨0, by omega, (fun x hx => absurd hx (by omega)), rfl, hP, hD, hS, hl⟩
  intro n1 H locs ls ⟨P, hP3, hdone, hn1, hP, hD, hS, hl⟩ ih1
  refine lv_iload_n hx hb dX1_possible_2 rfl (lv_at hl 0 rfl) ?_
  refine lv_iconst (v := (nI 3)) hx hb dX1_possible_3 (by decide) ?_
  refine cw_ge (tgt := 73) hx hb (by omega) (by omega) dX1_possible_4 (by decide) (fun h3 => ?_) (fun h3 => ?_)
  · refine lv_iconst (v := 1) hx hb dX1_possible_73 (by decide) ?_
    exact cw_zret hx hb hr hlocks rfl () (Or.inl ⟨rfl, fun x hx => hdone x (by omega)⟩) hP hK hD hS dX1_possible_74
  · have hc8 := hV.1 P h3
    have hs8 := cwSt_le hn h3
    refine lv_iload_n hx hb dX1_possible_7 rfl (lv_at hl 2 rfl) ?_
    refine lv_iload_n hx hb dX1_possible_8 rfl (lv_at hl 0 rfl) ?_
    refine cw_callS (n := 2) (As := [.int (nI nn), .int (nI P)]) (rest := []) ⟨hx, hb, hml, hown, hts⟩ (mY_stateOf l (dC, dI) nn P hn h3) (lw_S q200 q201 q14 q202) (by decide +kernel) rfl ⟨Nat.le_of_ble_eq_true rfl, Nat.le_of_ble_eq_true rfl⟩ ⟨Nat.le_refl _, Nat.le_refl _⟩ hK hP hD hS hA hl.1 rfl (Nat.le_of_ble_eq_true rfl) dX1_possible_9 (fun r H locs hpost hP hS => ?_)
    have hpost : r = nI (cwSt nn P) := hpost
    subst hpost
    refine lv_istore_n (lv' := [(3, .int (nI (cwSt nn P))), (2, .int (nI P)), (0, .ref h), (1, .int (nI nn))]) hx hb dX1_possible_12 rfl hl (by decide) rfl (fun ls hl => ?_)
    refine lv_iload_n hx hb dX1_possible_13 rfl (lv_at hl 0 rfl) ?_
    refine lv_aload_n hx hb dX1_possible_14 rfl (lv_at hl 2 rfl) ?_
    refine cwY_get hx hb hts hown hK hP 0 rfl 0 (by decide) q137 rfl dX1_possible_15 ?_
    refine lv_iload_n hx hb dX1_possible_18 rfl (lv_at hl 1 rfl) ?_
    refine cw_iald hx hb hK hP 1 0 rfl rfl (by omega) (by omega) dX1_possible_19 ?_
    refine cw_le (tgt := 25) hx hb (by omega) (by omega) dX1_possible_20 (by decide) (fun hle => ?_) (fun hle => ?_)
    · refine lv_iconst (v := (nI 0)) hx hb dX1_possible_25 (by decide) ?_
      refine lv_istore (lv' := [(4, .int (nI 0)), (3, .int (nI (cwSt nn P))), (2, .int (nI P)), (0, .ref h), (1, .int (nI nn))]) hx hb dX1_possible_26 hl (by decide) rfl (fun ls hl => ?_)
      refine cw_loop (head := 28) (I := fun n2 H locs ls => ∃ Q, (Q ≤ 3) ∧ (∀ q, q < Q → cwK (sK S) P (cwSt nn P) q ≤ cwSt nn q) ∧ n2 = 3 - Q ∧ va_P (dC, dI) vwCl (YW d h a (sC S) (sG S) (sK S) (sM S) (sD S) (sI S) (sR S) av) H ∧ va_D A (YW d h a (sC S) (sG S) (sK S) (sM S) (sD S) (sI S) (sR S) av) ∧ va_S A s.heap H locs ∧ lv_has ls 5 [(4, .int (nI Q)), (3, .int (nI (cwSt nn P))), (2, .int (nI P)), (0, .ref h), (1, .int (nI nn))]) ?_ (3) ⟨0, by omega, (fun x hx => absurd hx (by omega)), rfl, hP, hD, hS, hl⟩
      intro n2 H locs ls ⟨Q, hQ3, hin, hn2, hP, hD, hS, hl⟩ ih2
      refine lv_iload hx hb dX1_possible_28 (lv_at hl 0 rfl) ?_
      refine lv_iconst (v := (nI 3)) hx hb dX1_possible_30 (by decide) ?_
      refine cw_ge (tgt := 67) hx hb (by omega) (by omega) dX1_possible_31 (by decide) (fun hq => ?_) (fun hq => ?_)
      · have e3 : Q = 3 := by omega
        subst e3
        refine lv_iinc (v := nI (P + 1)) (lv' := [(2, .int (nI (P + 1))), (4, .int (nI 3)), (3, .int (nI (cwSt nn P))), (0, .ref h), (1, .int (nI nn))]) hx hb dX1_possible_67 hl (k := 2) rfl (nI_1 _) (by decide) rfl (fun ls hl => ?_)
        refine lv_goto (tgt := 2) hx hb dX1_possible_70 (by decide) ?_
        exact ih1 (3 - (P + 1)) _ _ _ (by omega) ⟨P + 1, by omega, (fun x hx => by
            by_cases g : x = P
            · rw [g]; exact ⟨hle, hin⟩
            · exact hdone x (by omega)), rfl, hP, hD, hS, lv_sub hl [0, 3, 4] rfl⟩
      · have hKb : sK S (27 * P + 3 * cwSt nn P + Q) ≤ sC S Q := hV.2.2.1 P (cwSt nn P) Q h3 hq hle
        have hc8q := hV.1 Q hq
        have hs8q := cwSt_le hn hq
        refine lv_aload_n hx hb dX1_possible_34 rfl (lv_at hl 3 rfl) ?_
        refine cwY_get hx hb hts hown hK hP 0 rfl 2 (by decide) q139 rfl dX1_possible_35 ?_
        refine lv_bipush (v := (nI 27)) hx hb dX1_possible_38 (by decide) ?_
        refine lv_iload_n hx hb dX1_possible_40 rfl (lv_at hl 2 rfl) ?_
        refine cw_imul hx hb dX1_possible_41 ?_
        refine lv_iconst (v := (nI 3)) hx hb dX1_possible_42 (by decide) ?_
        refine lv_iload_n hx hb dX1_possible_43 rfl (lv_at hl 1 rfl) ?_
        refine cw_imul hx hb dX1_possible_44 ?_
        refine cw_iadd hx hb dX1_possible_45 ?_
        refine lv_iload hx hb dX1_possible_46 (lv_at hl 0 rfl) ?_
        refine cw_iadd hx hb dX1_possible_48 ?_
        refine cw_iald hx hb hK hP 3 2 rfl rfl (by omega) (by omega) dX1_possible_49 ?_
        refine lv_iload_n hx hb dX1_possible_50 rfl (lv_at hl 4 rfl) ?_
        refine lv_iload hx hb dX1_possible_51 (lv_at hl 0 rfl) ?_
        refine cw_callS (n := 2) (As := [.int (nI nn), .int (nI Q)]) (rest := [.int (nI (sK S (((27 * P) + (3 * (cwSt nn P))) + Q)))]) ⟨hx, hb, hml, hown, hts⟩ (mY_stateOf l (dC, dI) nn Q hn hq) (lw_S q200 q201 q14 q202) (by decide +kernel) rfl ⟨Nat.le_of_ble_eq_true rfl, Nat.le_of_ble_eq_true rfl⟩ ⟨Nat.le_refl _, Nat.le_refl _⟩ hK hP hD hS hA hl.1 rfl (Nat.le_of_ble_eq_true rfl) dX1_possible_53 (fun r H locs hpost hP hS => ?_)
        have hpost : r = nI (cwSt nn Q) := hpost
        subst hpost
        refine cw_le (tgt := 61) hx hb (by omega) (by omega) dX1_possible_56 (by decide) (fun hm => ?_) (fun hm => ?_)
        · refine lv_iinc (v := nI (Q + 1)) (lv' := [(4, .int (nI (Q + 1))), (3, .int (nI (cwSt nn P))), (2, .int (nI P)), (0, .ref h), (1, .int (nI nn))]) hx hb dX1_possible_61 hl (k := 0) rfl (nI_1 _) (by decide) rfl (fun ls hl => ?_)
          refine lv_goto (tgt := 28) hx hb dX1_possible_64 (by decide) ?_
          exact ih2 (3 - (Q + 1)) _ _ _ (by omega) ⟨Q + 1, by omega, (fun x hx => by
              by_cases g : x = Q
              · rw [g]; exact hm
              · exact hin x (by omega)), rfl, hP, hD, hS, hl⟩
        · refine lv_iconst (v := 0) hx hb dX1_possible_59 (by decide) ?_
          exact cw_zret hx hb hr hlocks rfl () (Or.inr ⟨rfl, fun hh => absurd ((hh P h3).2 Q hq) (Nat.not_le.mpr hm)⟩) hP hK hD hS dX1_possible_60
    · refine lv_iconst (v := 0) hx hb dX1_possible_23 (by decide) ?_
      exact cw_zret hx hb hr hlocks rfl () (Or.inr ⟨rfl, fun hh => by have := (hh P h3).1; omega⟩) hP hK hD hS dX1_possible_24
set_option maxHeartbeats 4000000 in
set_option maxRecDepth 100000 in
/-- isGood -/
theorem mY_isGood (l : Launch) (dC : Nat → ClassId) (dI : Nat → Nat → Nat) (d : Nat → ClassId) (h : Nat) (a : Nat → Nat) (S : WSt) (av : Nat → Bool) (nn sv : Nat) (hn : nn < 729) (hsv : sv < 8) : cwMi l yX1_isGood cX1_isGood 5 (some .boolean) 1 21 (dC, dI) vwCl (YT d) [.ref h, .int (nI nn), .int (nI sv)] (YS d h a S av) (fun r (_ : Unit) => (r = 1 ∧ cwGood (cwG (sG S)) sv (cwSt nn)) ∨ (r = 0 ∧ ¬ cwGood (cwG (sG S)) sv (cwSt nn))) (fun _ => YS d h a S av) := by
  refine cw_met ([(0, .ref h), (1, .int (nI nn)), (2, .int (nI sv))]) (by decide) (Nat.le_of_ble_eq_true rfl) rfl ?_
  intro p e s m below meth c A ls hx hb hr hlocks hml hown hts hA hP hK hD hS hl
  have hown : s.vm.findClass RX1 = some m.cls := hown
  refine lv_iconst (v := (nI 0)) hx hb dX1_isGood_0 (by decide) ?_
  refine lv_istore_n (lv' := [(3, .int (nI 0)), (0, .ref h), (1, .int (nI nn)), (2, .int (nI sv))]) hx hb dX1_isGood_1 rfl hl (by decide) rfl (fun ls hl => ?_)
  refine cw_loop (head := 2) (I := fun n1 H locs ls => ∃ P, (P ≤ 3) ∧ (∀ x, x < P → cwBit sv x = 1 → cwG (sG S) x (cwSt nn x) = true) ∧ n1 = 3 - P ∧ va_P (dC, dI) vwCl (YW d h a (sC S) (sG S) (sK S) (sM S) (sD S) (sI S) (sR S) av) H ∧ va_D A (YW d h a (sC S) (sG S) (sK S) (sM S) (sD S) (sI S) (sR S) av) ∧ va_S A s.heap H locs ∧ lv_has ls 5 [(3, .int (nI P)), (0, .ref h), (1, .int (nI nn)), (2, .int (nI sv))]) ?_ (3) ⟨0, by omega, (fun x hx => absurd hx (by omega)), rfl, hP, hD, hS, hl⟩
  intro n1 H locs ls ⟨P, hP3, hdone, hn1, hP, hD, hS, hl⟩ ih1
  refine lv_iload_n hx hb dX1_isGood_2 rfl (lv_at hl 0 rfl) ?_
  refine lv_iconst (v := (nI 3)) hx hb dX1_isGood_3 (by decide) ?_
  refine cw_ge (tgt := 46) hx hb (by omega) (by omega) dX1_isGood_4 (by decide) (fun h3 => ?_) (fun h3 => ?_)
  · refine lv_iconst (v := 1) hx hb dX1_isGood_46 (by decide) ?_
    exact cw_zret hx hb hr hlocks rfl () (Or.inl ⟨rfl, fun x hx => hdone x (by omega)⟩) hP hK hD hS dX1_isGood_47
  · have hs8 := cwSt_le hn h3
    have hbo := cwBit_or sv P
    refine lv_iload_n hx hb dX1_isGood_7 rfl (lv_at hl 2 rfl) ?_
    refine lv_iload_n hx hb dX1_isGood_8 rfl (lv_at hl 0 rfl) ?_
    refine cw_callS (n := 2) (As := [.int (nI nn), .int (nI P)]) (rest := []) ⟨hx, hb, hml, hown, hts⟩ (mY_stateOf l (dC, dI) nn P hn h3) (lw_S q200 q201 q14 q202) (by decide +kernel) rfl ⟨Nat.le_of_ble_eq_true rfl, Nat.le_of_ble_eq_true rfl⟩ ⟨Nat.le_refl _, Nat.le_refl _⟩ hK hP hD hS hA hl.1 rfl (Nat.le_of_ble_eq_true rfl) dX1_isGood_9 (fun r H locs hpost hP hS => ?_)
    have hpost : r = nI (cwSt nn P) := hpost
    subst hpost
    refine lv_istore (lv' := [(4, .int (nI (cwSt nn P))), (3, .int (nI P)), (0, .ref h), (1, .int (nI nn)), (2, .int (nI sv))]) hx hb dX1_isGood_12 hl (by decide) rfl (fun ls hl => ?_)
    refine lv_iload_n hx hb dX1_isGood_14 rfl (lv_at hl 4 rfl) ?_
    refine lv_iload_n hx hb dX1_isGood_15 rfl (lv_at hl 1 rfl) ?_
    refine cw_bits hx hb (by omega) (by omega) dX1_isGood_16 dX1_isGood_17 dX1_isGood_18 ?_
    refine lv_iconst (v := (nI 1)) hx hb dX1_isGood_19 (by decide) ?_
    refine cw_ne (tgt := 40) hx hb (by omega) (by omega) dX1_isGood_20 (by decide) (fun hb1 => ?_) (fun hb1 => ?_)
    · refine lv_iinc (v := nI (P + 1)) (lv' := [(3, .int (nI (P + 1))), (4, .int (nI (cwSt nn P))), (0, .ref h), (1, .int (nI nn)), (2, .int (nI sv))]) hx hb dX1_isGood_40 hl (k := 1) rfl (nI_1 _) (by decide) rfl (fun ls hl => ?_)
      refine lv_goto (tgt := 2) hx hb dX1_isGood_43 (by decide) ?_
      exact ih1 (3 - (P + 1)) _ _ _ (by omega) ⟨P + 1, by omega, (fun x hx hbx => by
          by_cases g : x = P
          · rw [g] at hbx
            exact absurd hbx hb1
          · exact hdone x (by omega) hbx), rfl, hP, hD, hS, lv_sub hl [0, 2, 3, 4] rfl⟩
    · refine lv_aload_n hx hb dX1_isGood_23 rfl (lv_at hl 2 rfl) ?_
      refine cwY_get hx hb hts hown hK hP 0 rfl 1 (by decide) q138 rfl dX1_isGood_24 ?_
      refine lv_bipush (v := (nI 9)) hx hb dX1_isGood_27 (by decide) ?_
      refine lv_iload_n hx hb dX1_isGood_29 rfl (lv_at hl 1 rfl) ?_
      refine cw_imul hx hb dX1_isGood_30 ?_
      refine lv_iload hx hb dX1_isGood_31 (lv_at hl 0 rfl) ?_
      refine cw_iadd hx hb dX1_isGood_33 ?_
      refine cw_zald hx hb hK hP 2 1 rfl rfl (by omega) (by omega) dX1_isGood_34 ?_
      refine cw_zne (tgt := 40) hx hb dX1_isGood_35 (by decide) (fun hg => ?_) (fun hg => ?_)
      · refine lv_iinc (v := nI (P + 1)) (lv' := [(3, .int (nI (P + 1))), (4, .int (nI (cwSt nn P))), (0, .ref h), (1, .int (nI nn)), (2, .int (nI sv))]) hx hb dX1_isGood_40 hl (k := 1) rfl (nI_1 _) (by decide) rfl (fun ls hl => ?_)
        refine lv_goto (tgt := 2) hx hb dX1_isGood_43 (by decide) ?_
        exact ih1 (3 - (P + 1)) _ _ _ (by omega) ⟨P + 1, by omega, (fun x hx hbx => by
            by_cases g : x = P
            · rw [g]; exact hg
            · exact hdone x (by omega) hbx), rfl, hP, hD, hS, lv_sub hl [0, 2, 3, 4] rfl⟩
      · refine lv_iconst (v := 0) hx hb dX1_isGood_38 (by decide) ?_
        exact cw_zret hx hb hr hlocks rfl () (Or.inr ⟨rfl, fun hh => by
              have g := hh P h3 hb1
              rw [show cwG (sG S) P (cwSt nn P) = false from hg] at g
              cases g⟩) hP hK hD hS dX1_isGood_39
set_option maxHeartbeats 4000000 in
set_option maxRecDepth 100000 in
/-- reached -/
theorem mY_reached (l : Launch) (dC : Nat → ClassId) (dI : Nat → Nat → Nat) (d : Nat → ClassId) (h : Nat) (a : Nat → Nat) (S : WSt) (av : Nat → Bool) (nn : Nat) (hn : nn < 729) : cwMi l yX1_reached cX1_reached 4 (some .boolean) 1 21 (dC, dI) vwCl (YT d) [.ref h, .int (nI nn)] (YS d h a S av) (fun r (_ : Unit) => (r = 1 ∧ (nn = 0 ∨ ∃ x, x < 3 ∧ 0 < cwSt nn x ∧ av (nn - cwUnit x) = true)) ∨ (r = 0 ∧ ¬ (nn = 0 ∨ ∃ x, x < 3 ∧ 0 < cwSt nn x ∧ av (nn - cwUnit x) = true))) (fun _ => YS d h a S av) := by
  refine cw_met ([(0, .ref h), (1, .int (nI nn))]) (by decide) (Nat.le_of_ble_eq_true rfl) rfl ?_
  intro p e s m below meth c A ls hx hb hr hlocks hml hown hts hA hP hK hD hS hl
  have hown : s.vm.findClass RX1 = some m.cls := hown
  refine lv_iload_n hx hb dX1_reached_0 rfl (lv_at hl 1 rfl) ?_
  refine cw_ne0 (tgt := 6) hx hb (by omega) dX1_reached_1 (by decide) (fun hnz => ?_) (fun hnz => ?_)
  · refine lv_iconst (v := (nI 0)) hx hb dX1_reached_6 (by decide) ?_
    refine lv_istore_n (lv' := [(2, .int (nI 0)), (0, .ref h), (1, .int (nI nn))]) hx hb dX1_reached_7 rfl hl (by decide) rfl (fun ls hl => ?_)
    refine cw_loop (head := 8) (I := fun n1 H locs ls => ∃ P, (P ≤ 3) ∧ (∀ x, x < P → ¬ (0 < cwSt nn x ∧ av (nn - cwUnit x) = true)) ∧ n1 = 3 - P ∧ va_P (dC, dI) vwCl (YW d h a (sC S) (sG S) (sK S) (sM S) (sD S) (sI S) (sR S) av) H ∧ va_D A (YW d h a (sC S) (sG S) (sK S) (sM S) (sD S) (sI S) (sR S) av) ∧ va_S A s.heap H locs ∧ lv_has ls 4 [(2, .int (nI P)), (0, .ref h), (1, .int (nI nn))]) ?_ (3) ⟨0, by omega, (fun x hx => absurd hx (by omega)), rfl, hP, hD, hS, hl⟩
    intro n1 H locs ls ⟨P, hP3, hno, hn1, hP, hD, hS, hl⟩ ih1
    refine lv_iload_n hx hb dX1_reached_8 rfl (lv_at hl 0 rfl) ?_
    refine lv_iconst (v := (nI 3)) hx hb dX1_reached_9 (by decide) ?_
    refine cw_ge (tgt := 61) hx hb (by omega) (by omega) dX1_reached_10 (by decide) (fun h3 => ?_) (fun h3 => ?_)
    · refine lv_iconst (v := 0) hx hb dX1_reached_61 (by decide) ?_
      exact cw_zret hx hb hr hlocks rfl () (Or.inr ⟨rfl, fun hh => by
            rcases hh with g | ⟨x, g1, g2, g3⟩
            · exact hnz g
            · exact hno x (by omega) ⟨g2, g3⟩⟩) hP hK hD hS dX1_reached_62
    · refine cw_join (ls := ls) (pc' := 33) (st' := [.int (nI (cwUnit P))]) ?_ (fun hk => ?_)
      · have hs8 := cwSt_le hn h3
        refine lv_istore_n (lv' := [(3, .int (nI (cwUnit P))), (2, .int (nI P)), (0, .ref h), (1, .int (nI nn))]) hx hb dX1_reached_33 rfl hl (by decide) rfl (fun ls hl => ?_)
        refine lv_iload_n hx hb dX1_reached_34 rfl (lv_at hl 3 rfl) ?_
        refine lv_iload_n hx hb dX1_reached_35 rfl (lv_at hl 1 rfl) ?_
        refine cw_callS (n := 2) (As := [.int (nI nn), .int (nI P)]) (rest := []) ⟨hx, hb, hml, hown, hts⟩ (mY_stateOf l (dC, dI) nn P hn h3) (lw_S q200 q201 q14 q202) (by decide +kernel) rfl ⟨Nat.le_of_ble_eq_true rfl, Nat.le_of_ble_eq_true rfl⟩ ⟨Nat.le_refl _, Nat.le_refl _⟩ hK hP hD hS hA hl.1 rfl (Nat.le_of_ble_eq_true rfl) dX1_reached_36 (fun r H locs hpost hP hS => ?_)
        have hpost : r = nI (cwSt nn P) := hpost
        subst hpost
        refine cw_le0 (tgt := 55) hx hb (by omega) dX1_reached_39 (by decide) (fun hpos => ?_) (fun hpos => ?_)
        · refine lv_iinc (v := nI (P + 1)) (lv' := [(2, .int (nI (P + 1))), (3, .int (nI (cwUnit P))), (0, .ref h), (1, .int (nI nn))]) hx hb dX1_reached_55 hl (k := 1) rfl (nI_1 _) (by decide) rfl (fun ls hl => ?_)
          refine lv_goto (tgt := 8) hx hb dX1_reached_58 (by decide) ?_
          exact ih1 (3 - (P + 1)) _ _ _ (by omega) ⟨P + 1, by omega, (fun x hx => by
              by_cases g : x = P
              · rw [g]; exact fun hh => (by have := hh.1; omega)
              · exact hno x (by omega)), rfl, hP, hD, hS, lv_sub hl [0, 2, 3] rfl⟩
        · have hun := (cwSt_pred hn h3 hpos).2.1
          refine lv_aload_n hx hb dX1_reached_42 rfl (lv_at hl 2 rfl) ?_
          refine cwY_get hx hb hts hown hK hP 0 rfl 7 (by decide) q144 rfl dX1_reached_43 ?_
          refine lv_iload_n hx hb dX1_reached_46 rfl (lv_at hl 3 rfl) ?_
          refine lv_iload_n hx hb dX1_reached_47 rfl (lv_at hl 0 rfl) ?_
          refine cw_isub hx hb (by omega) dX1_reached_48 ?_
          refine cw_zald hx hb hK hP 7 6 rfl rfl (by omega) (by omega) dX1_reached_49 ?_
          refine cw_zeq (tgt := 55) hx hb dX1_reached_50 (by decide) (fun hav => ?_) (fun hav => ?_)
          · refine lv_iinc (v := nI (P + 1)) (lv' := [(2, .int (nI (P + 1))), (3, .int (nI (cwUnit P))), (0, .ref h), (1, .int (nI nn))]) hx hb dX1_reached_55 hl (k := 1) rfl (nI_1 _) (by decide) rfl (fun ls hl => ?_)
            refine lv_goto (tgt := 8) hx hb dX1_reached_58 (by decide) ?_
            exact ih1 (3 - (P + 1)) _ _ _ (by omega) ⟨P + 1, by omega, (fun x hx => by
                by_cases g : x = P
                · rw [g]; exact fun hh => (by have g2 := hh.2; rw [hav] at g2; cases g2)
                · exact hno x (by omega)), rfl, hP, hD, hS, lv_sub hl [0, 2, 3] rfl⟩
          · refine lv_iconst (v := 1) hx hb dX1_reached_53 (by decide) ?_
            exact cw_zret hx hb hr hlocks rfl () (Or.inl ⟨rfl, Or.inr ⟨P, h3, hpos, hav⟩⟩) hP hK hD hS dX1_reached_54
      · refine lv_iload_n hx hb dX1_reached_13 rfl (lv_at hl 0 rfl) ?_
        refine cw_ne0 (tgt := 22) hx hb (by omega) dX1_reached_14 (by decide) (fun hp0 => ?_) (fun hp0 => ?_)
        · refine lv_iload_n hx hb dX1_reached_22 rfl (lv_at hl 0 rfl) ?_
          refine lv_iconst (v := (nI 1)) hx hb dX1_reached_23 (by decide) ?_
          refine cw_ne (tgt := 32) hx hb (by omega) (by omega) dX1_reached_24 (by decide) (fun hp1 => ?_) (fun hp1 => ?_)
          · refine lv_iconst (v := (nI 1)) hx hb dX1_reached_32 (by decide) ?_
            refine cw_nat (b := cwUnit P) (by rw [show P = 2 by omega]; rfl) ?_
            exact hk
          · refine lv_bipush (v := (nI 9)) hx hb dX1_reached_27 (by decide) ?_
            refine lv_goto (tgt := 33) hx hb dX1_reached_29 (by decide) ?_
            refine cw_nat (b := cwUnit P) (by rw [hp1]; rfl) ?_
            exact hk
        · refine lv_bipush (v := (nI 81)) hx hb dX1_reached_17 (by decide) ?_
          refine lv_goto (tgt := 33) hx hb dX1_reached_19 (by decide) ?_
          refine cw_nat (b := cwUnit P) (by rw [hp0]; rfl) ?_
          exact hk
  · refine lv_iconst (v := 1) hx hb dX1_reached_4 (by decide) ?_
    exact cw_zret hx hb hr hlocks rfl () (Or.inl ⟨rfl, Or.inl hnz⟩) hP hK hD hS dX1_reached_5
end
section
/-! CutWatchModel: possibly, least, definitely, cuts -/
set_option maxHeartbeats 4000000 in
set_option maxRecDepth 100000 in
/-- possibly -/
theorem mY_possibly (l : Launch) (dC : Nat → ClassId) (dI : Nat → Nat → Nat) (d : Nat → ClassId) (h : Nat) (a : Nat → Nat) (S : WSt) (av : Nat → Bool) (hO : cwOk S) (x : Int32) : cwMi l yX1_possibly cX1_possibly 3 (some .int) 2 45 (dC, dI) vwCl (YT d) [.ref h, .int x] (YS d h a S av) (fun r (_ : Unit) => cwPossA S (cwIx x 8) r) (fun _ => YS d h a S av) := by
  refine cw_met ([(0, .ref h), (1, .int x)]) (by decide) (Nat.le_of_ble_eq_true rfl) rfl ?_
  intro p e s m below meth c A ls hx hb hr hlocks hml hown hts hA hP hK hD hS hl
  have hown : s.vm.findClass RX1 = some m.cls := hown
  have hV := hO.1
  refine lv_iload_n hx hb dX1_possibly_0 rfl (lv_at hl 1 rfl) ?_
  refine cw_callS (n := 1) (As := [.int x]) (rest := []) ⟨hx, hb, hml, hown, hts⟩ (mY_badSet l (dC, dI) x) (lw_S q193 q194 q14 q195) (by decide +kernel) rfl ⟨Nat.le_of_ble_eq_true rfl, Nat.le_of_ble_eq_true rfl⟩ ⟨Nat.le_refl _, Nat.le_refl _⟩ hK hP hD hS hA hl.1 rfl (Nat.le_of_ble_eq_true rfl) dX1_possibly_1 (fun r H locs hpost hP hS => ?_)
  rcases hpost with ⟨rfl, sv, hs0, hsv, rfl⟩ | ⟨rfl, hbs⟩
  · rw [show cwIx (nI sv) 8 = sv from cwIx_nI hsv (by decide)]
    refine lv_if_eq (tgt := 9) hx hb dX1_possibly_4 (by decide) (fun _ => ?_) (fun h => absurd h (by decide))
    refine lv_iconst (v := (nI 0)) hx hb dX1_possibly_9 (by decide) ?_
    refine lv_istore_n (lv' := [(2, .int (nI 0)), (0, .ref h), (1, .int (nI sv))]) hx hb dX1_possibly_10 rfl hl (by decide) rfl (fun ls hl => ?_)
    refine cw_loop (head := 11) (I := fun n1 H locs ls => ∃ nn, (nn ≤ 729) ∧ (∀ j, j < nn → ¬ cwPGn S sv j) ∧ n1 = 729 - nn ∧ va_P (dC, dI) vwCl (YW d h a (sC S) (sG S) (sK S) (sM S) (sD S) (sI S) (sR S) av) H ∧ va_D A (YW d h a (sC S) (sG S) (sK S) (sM S) (sD S) (sI S) (sR S) av) ∧ va_S A s.heap H locs ∧ lv_has ls 3 [(2, .int (nI nn)), (0, .ref h), (1, .int (nI sv))]) ?_ (729) ⟨0, by omega, (fun x hx => absurd hx (by omega)), rfl, hP, hD, hS, hl⟩
    intro n1 H locs ls ⟨nn, hn9, hno, hn1, hP, hD, hS, hl⟩ ih1
    refine lv_iload_n hx hb dX1_possibly_11 rfl (lv_at hl 0 rfl) ?_
    refine lv_sipush (v := (nI 729)) hx hb dX1_possibly_12 (by decide) ?_
    refine cw_ge (tgt := 43) hx hb (by omega) (by omega) dX1_possibly_15 (by decide) (fun hn => ?_) (fun hn => ?_)
    · refine lv_iconst (v := 0) hx hb dX1_possibly_43 (by decide) ?_
      exact cw_iret hx hb hr hlocks () (Or.inr ⟨⟨hs0, hsv⟩, Or.inr ⟨rfl, fun C hC => hno _ (by have := (cwPG_num hO hC).1; omega) (cwPG_num hO hC).2.1⟩⟩) hP hK hD hS dX1_possibly_44
    · refine lv_aload_n hx hb dX1_possibly_18 rfl (lv_at hl 1 rfl) ?_
      refine lv_iload_n hx hb dX1_possibly_19 rfl (lv_at hl 0 rfl) ?_
      refine cw_callV (n := 1) (C := RX1) (As := [.int (nI nn)]) (rest := []) (wr := []) ⟨hx, hb, hml, hown, hts⟩ (mY_possible l dC dI d h a S av hV nn hn) (lw_V q196 q198 qs9 q14 q199) (by decide +kernel) rfl ⟨Nat.le_of_ble_eq_true rfl, Nat.le_of_ble_eq_true rfl⟩ ⟨Nat.le_refl _, Nat.le_refl _⟩ hK hP hD hS hA [0, 1, 2, 3, 4, 5, 6, 7] [] rfl rfl rfl (by decide) (by decide) (by decide) rfl rfl rfl hl.1 rfl (Nat.le_of_ble_eq_true rfl) dX1_possibly_20 (fun r uu H locs hpost hP hD hS => ?_)
      have hP : va_P (dC, dI) vwCl (YW d h a (sC S) (sG S) (sK S) (sM S) (sD S) (sI S) (sR S) av) H := hP
      have hD : va_D A (YW d h a (sC S) (sG S) (sK S) (sM S) (sD S) (sI S) (sR S) av) := hD
      rcases hpost with ⟨rfl, hp⟩ | ⟨rfl, hp⟩
      · refine lv_if_eq (tgt := 37) hx hb dX1_possibly_23 (by decide) (fun h => absurd h (by decide)) (fun _ => ?_)
        refine lv_aload_n hx hb dX1_possibly_26 rfl (lv_at hl 1 rfl) ?_
        refine lv_iload_n hx hb dX1_possibly_27 rfl (lv_at hl 0 rfl) ?_
        refine lv_iload_n hx hb dX1_possibly_28 rfl (lv_at hl 2 rfl) ?_
        refine cw_callV (n := 2) (C := RX1) (As := [.int (nI nn), .int (nI sv)]) (rest := []) (wr := []) ⟨hx, hb, hml, hown, hts⟩ (mY_isGood l dC dI d h a S av nn sv hn hsv) (lw_V q203 q205 qs10 q14 q206) (by decide +kernel) rfl ⟨Nat.le_of_ble_eq_true rfl, Nat.le_of_ble_eq_true rfl⟩ ⟨Nat.le_refl _, Nat.le_refl _⟩ hK hP hD hS hA [0, 1, 2, 3, 4, 5, 6, 7] [] rfl rfl rfl (by decide) (by decide) (by decide) rfl rfl rfl hl.1 rfl (Nat.le_of_ble_eq_true rfl) dX1_possibly_29 (fun r uu H locs hpost hP hD hS => ?_)
        have hP : va_P (dC, dI) vwCl (YW d h a (sC S) (sG S) (sK S) (sM S) (sD S) (sI S) (sR S) av) H := hP
        have hD : va_D A (YW d h a (sC S) (sG S) (sK S) (sM S) (sD S) (sI S) (sR S) av) := hD
        rcases hpost with ⟨rfl, hg⟩ | ⟨rfl, hg⟩
        · refine lv_if_eq (tgt := 37) hx hb dX1_possibly_32 (by decide) (fun h => absurd h (by decide)) (fun _ => ?_)
          refine lv_iconst (v := 1) hx hb dX1_possibly_35 (by decide) ?_
          exact cw_iret hx hb hr hlocks () (Or.inr ⟨⟨hs0, hsv⟩, Or.inl ⟨rfl, cwSt nn, hp, hg⟩⟩) hP hK hD hS dX1_possibly_36
        · refine lv_if_eq (tgt := 37) hx hb dX1_possibly_32 (by decide) (fun _ => ?_) (fun h => absurd h (by decide))
          refine lv_iinc (v := nI (nn + 1)) (lv' := [(2, .int (nI (nn + 1))), (0, .ref h), (1, .int (nI sv))]) hx hb dX1_possibly_37 hl (k := 0) rfl (nI_1 _) (by decide) rfl (fun ls hl => ?_)
          refine lv_goto (tgt := 11) hx hb dX1_possibly_40 (by decide) ?_
          exact ih1 (729 - (nn + 1)) _ _ _ (by omega) ⟨nn + 1, by omega, (fun x hx => by
              by_cases g : x = nn
              · rw [g]; exact fun hh => hg hh.2
              · exact hno x (by omega)), rfl, hP, hD, hS, hl⟩
      · refine lv_if_eq (tgt := 37) hx hb dX1_possibly_23 (by decide) (fun _ => ?_) (fun h => absurd h (by decide))
        refine lv_iinc (v := nI (nn + 1)) (lv' := [(2, .int (nI (nn + 1))), (0, .ref h), (1, .int (nI sv))]) hx hb dX1_possibly_37 hl (k := 0) rfl (nI_1 _) (by decide) rfl (fun ls hl => ?_)
        refine lv_goto (tgt := 11) hx hb dX1_possibly_40 (by decide) ?_
        exact ih1 (729 - (nn + 1)) _ _ _ (by omega) ⟨nn + 1, by omega, (fun x hx => by
            by_cases g : x = nn
            · rw [g]; exact fun hh => hp hh.1
            · exact hno x (by omega)), rfl, hP, hD, hS, hl⟩
  · refine lv_if_eq (tgt := 9) hx hb dX1_possibly_4 (by decide) (fun h => absurd h (by decide)) (fun _ => ?_)
    refine lv_iconst (v := (-1)) hx hb dX1_possibly_7 (by decide) ?_
    exact cw_iret hx hb hr hlocks () (Or.inl ⟨hbs, rfl⟩) hP hK hD hS dX1_possibly_8
set_option maxHeartbeats 4000000 in
set_option maxRecDepth 100000 in
/-- least -/
theorem mY_least (l : Launch) (dC : Nat → ClassId) (dI : Nat → Nat → Nat) (d : Nat → ClassId) (h : Nat) (a : Nat → Nat) (S : WSt) (av : Nat → Bool) (hO : cwOk S) (x y : Int32) : cwMi l yX1_least cX1_least 6 (some .int) 2 45 (dC, dI) vwCl (YT d) [.ref h, .int x, .int y] (YS d h a S av) (fun r (_ : Unit) => cwLeastA S (cwIx x 8) (cwIx y 3) r) (fun _ => YS d h a S av) := by
  refine cw_met ([(0, .ref h), (1, .int x), (2, .int y)]) (by decide) (Nat.le_of_ble_eq_true rfl) rfl ?_
  intro p e s m below meth c A ls hx hb hr hlocks hml hown hts hA hP hK hD hS hl
  have hown : s.vm.findClass RX1 = some m.cls := hown
  have hV := hO.1
  refine lv_iload_n hx hb dX1_least_0 rfl (lv_at hl 1 rfl) ?_
  refine cw_callS (n := 1) (As := [.int x]) (rest := []) ⟨hx, hb, hml, hown, hts⟩ (mY_badSet l (dC, dI) x) (lw_S q193 q194 q14 q195) (by decide +kernel) rfl ⟨Nat.le_of_ble_eq_true rfl, Nat.le_of_ble_eq_true rfl⟩ ⟨Nat.le_refl _, Nat.le_refl _⟩ hK hP hD hS hA hl.1 rfl (Nat.le_of_ble_eq_true rfl) dX1_least_1 (fun r H locs hpost hP hS => ?_)
  rcases hpost with ⟨rfl, sv, hs0, hsv, rfl⟩ | ⟨rfl, hbs⟩
  · refine lv_if_ne (tgt := 14) hx hb dX1_least_4 (by decide) (fun h => absurd h (by decide)) (fun _ => ?_)
    refine lv_iload_n hx hb dX1_least_7 rfl (lv_at hl 2 rfl) ?_
    refine cw_callS (n := 1) (As := [.int y]) (rest := []) ⟨hx, hb, hml, hown, hts⟩ (mY_bad l (dC, dI) y) (lw_S q166 q167 q14 q168) (by decide +kernel) rfl ⟨Nat.le_of_ble_eq_true rfl, Nat.le_of_ble_eq_true rfl⟩ ⟨Nat.le_refl _, Nat.le_refl _⟩ hK hP hD hS hA hl.1 rfl (Nat.le_of_ble_eq_true rfl) dX1_least_8 (fun r H locs hpost hP hS => ?_)
    rcases hpost with ⟨rfl, P, hP3, rfl⟩ | ⟨rfl, hjy⟩
    · rw [show cwIx (nI sv) 8 = sv from cwIx_nI hsv (by decide), show cwIx (nI P) 3 = P from cwIx_nI hP3 (by decide)]
      refine lv_if_eq (tgt := 16) hx hb dX1_least_11 (by decide) (fun _ => ?_) (fun h => absurd h (by decide))
      refine lv_iconst (v := (-1)) hx hb dX1_least_16 (by decide) ?_
      refine lv_istore_n (lv' := [(3, .int (-1)), (0, .ref h), (1, .int (nI sv)), (2, .int (nI P))]) hx hb dX1_least_17 rfl hl (by decide) rfl (fun ls hl => ?_)
      refine lv_iconst (v := (nI 0)) hx hb dX1_least_18 (by decide) ?_
      refine lv_istore (lv' := [(4, .int (nI 0)), (3, .int (-1)), (0, .ref h), (1, .int (nI sv)), (2, .int (nI P))]) hx hb dX1_least_19 hl (by decide) rfl (fun ls hl => ?_)
      refine cw_loop (head := 21) (I := fun n1 H locs ls => ∃ (nn : Nat) (bv : Int32), (nn ≤ 729) ∧ (cwLi S sv P nn bv) ∧ n1 = 729 - nn ∧ va_P (dC, dI) vwCl (YW d h a (sC S) (sG S) (sK S) (sM S) (sD S) (sI S) (sR S) av) H ∧ va_D A (YW d h a (sC S) (sG S) (sK S) (sM S) (sD S) (sI S) (sR S) av) ∧ va_S A s.heap H locs ∧ lv_has ls 6 [(4, .int (nI nn)), (3, .int bv), (0, .ref h), (1, .int (nI sv)), (2, .int (nI P))]) ?_ (729) ⟨0, -1, by omega, cwLi_0 S sv P, rfl, hP, hD, hS, hl⟩
      intro n1 H locs ls ⟨nn, bv, hn9, hli, hn1, hP, hD, hS, hl⟩ ih1
      refine lv_iload hx hb dX1_least_21 (lv_at hl 0 rfl) ?_
      refine lv_sipush (v := (nI 729)) hx hb dX1_least_23 (by decide) ?_
      refine cw_ge (tgt := 75) hx hb (by omega) (by omega) dX1_least_26 (by decide) (fun hn => ?_) (fun hn => ?_)
      · have e9 : nn = 729 := by omega
        subst e9
        refine lv_iload_n hx hb dX1_least_75 rfl (lv_at hl 1 rfl) ?_
        exact cw_iret hx hb hr hlocks () (cwLi_end hO hs0 hsv hP3 hli) hP hK hD hS dX1_least_76
      · have hs8 := cwSt_le hn hP3
        refine lv_iload hx hb dX1_least_29 (lv_at hl 0 rfl) ?_
        refine lv_iload_n hx hb dX1_least_31 rfl (lv_at hl 4 rfl) ?_
        refine cw_callS (n := 2) (As := [.int (nI nn), .int (nI P)]) (rest := []) ⟨hx, hb, hml, hown, hts⟩ (mY_stateOf l (dC, dI) nn P hn hP3) (lw_S q200 q201 q14 q202) (by decide +kernel) rfl ⟨Nat.le_of_ble_eq_true rfl, Nat.le_of_ble_eq_true rfl⟩ ⟨Nat.le_refl _, Nat.le_refl _⟩ hK hP hD hS hA hl.1 rfl (Nat.le_of_ble_eq_true rfl) dX1_least_32 (fun r H locs hpost hP hS => ?_)
        have hpost : r = nI (cwSt nn P) := hpost
        subst hpost
        refine lv_istore (lv' := [(5, .int (nI (cwSt nn P))), (4, .int (nI nn)), (3, .int bv), (0, .ref h), (1, .int (nI sv)), (2, .int (nI P))]) hx hb dX1_least_35 hl (by decide) rfl (fun ls hl => ?_)
        refine lv_aload_n hx hb dX1_least_37 rfl (lv_at hl 3 rfl) ?_
        refine lv_iload hx hb dX1_least_38 (lv_at hl 1 rfl) ?_
        refine cw_callV (n := 1) (C := RX1) (As := [.int (nI nn)]) (rest := []) (wr := []) ⟨hx, hb, hml, hown, hts⟩ (mY_possible l dC dI d h a S av hV nn hn) (lw_V q196 q198 qs9 q14 q199) (by decide +kernel) rfl ⟨Nat.le_of_ble_eq_true rfl, Nat.le_of_ble_eq_true rfl⟩ ⟨Nat.le_refl _, Nat.le_refl _⟩ hK hP hD hS hA [0, 1, 2, 3, 4, 5, 6, 7] [] rfl rfl rfl (by decide) (by decide) (by decide) rfl rfl rfl hl.1 rfl (Nat.le_of_ble_eq_true rfl) dX1_least_40 (fun r uu H locs hpost hP hD hS => ?_)
        have hP : va_P (dC, dI) vwCl (YW d h a (sC S) (sG S) (sK S) (sM S) (sD S) (sI S) (sR S) av) H := hP
        have hD : va_D A (YW d h a (sC S) (sG S) (sK S) (sM S) (sD S) (sI S) (sR S) av) := hD
        rcases hpost with ⟨rfl, hp⟩ | ⟨rfl, hp⟩
        · refine lv_if_eq (tgt := 69) hx hb dX1_least_43 (by decide) (fun h => absurd h (by decide)) (fun _ => ?_)
          refine lv_aload_n hx hb dX1_least_46 rfl (lv_at hl 3 rfl) ?_
          refine lv_iload hx hb dX1_least_47 (lv_at hl 1 rfl) ?_
          refine lv_iload_n hx hb dX1_least_49 rfl (lv_at hl 4 rfl) ?_
          refine cw_callV (n := 2) (C := RX1) (As := [.int (nI nn), .int (nI sv)]) (rest := []) (wr := []) ⟨hx, hb, hml, hown, hts⟩ (mY_isGood l dC dI d h a S av nn sv hn hsv) (lw_V q203 q205 qs10 q14 q206) (by decide +kernel) rfl ⟨Nat.le_of_ble_eq_true rfl, Nat.le_of_ble_eq_true rfl⟩ ⟨Nat.le_refl _, Nat.le_refl _⟩ hK hP hD hS hA [0, 1, 2, 3, 4, 5, 6, 7] [] rfl rfl rfl (by decide) (by decide) (by decide) rfl rfl rfl hl.1 rfl (Nat.le_of_ble_eq_true rfl) dX1_least_50 (fun r uu H locs hpost hP hD hS => ?_)
          have hP : va_P (dC, dI) vwCl (YW d h a (sC S) (sG S) (sK S) (sM S) (sD S) (sI S) (sR S) av) H := hP
          have hD : va_D A (YW d h a (sC S) (sG S) (sK S) (sM S) (sD S) (sI S) (sR S) av) := hD
          rcases hpost with ⟨rfl, hg⟩ | ⟨rfl, hg⟩
          · refine lv_if_eq (tgt := 69) hx hb dX1_least_53 (by decide) (fun h => absurd h (by decide)) (fun _ => ?_)
            rcases hli with ⟨rfl, hno⟩ | ⟨j, hj, hpj, rfl, hmin⟩
            · refine lv_iload_n hx hb dX1_least_56 rfl (lv_at hl 2 rfl) ?_
              refine lv_if_lt (tgt := 66) hx hb dX1_least_57 (by decide) (fun _ => ?_) (fun hz => absurd (by decide) hz)
              refine lv_iload hx hb dX1_least_66 (lv_at hl 0 rfl) ?_
              refine lv_istore_n (lv' := [(3, .int (nI (cwSt nn P))), (5, .int (nI (cwSt nn P))), (4, .int (nI nn)), (0, .ref h), (1, .int (nI sv)), (2, .int (nI P))]) hx hb dX1_least_68 rfl hl (by decide) rfl (fun ls hl => ?_)
              refine lv_iinc (v := nI (nn + 1)) (lv' := [(4, .int (nI (nn + 1))), (3, .int (nI (cwSt nn P))), (5, .int (nI (cwSt nn P))), (0, .ref h), (1, .int (nI sv)), (2, .int (nI P))]) hx hb dX1_least_69 hl (k := 2) rfl (nI_1 _) (by decide) rfl (fun ls hl => ?_)
              refine lv_goto (tgt := 21) hx hb dX1_least_72 (by decide) ?_
              exact ih1 (729 - (nn + 1)) _ _ _ (by omega) ⟨nn + 1, _, by omega, cwLi_first hno ⟨hp, hg⟩, rfl, hP, hD, hS, lv_sub hl [0, 1, 3, 4, 5] rfl⟩
            · have hj8 := cwSt_le (show j < 729 by omega) hP3
              refine lv_iload_n hx hb dX1_least_56 rfl (lv_at hl 2 rfl) ?_
              refine cw_lt0 (tgt := 66) hx hb (by omega) dX1_least_57 (by decide) ?_
              refine lv_iload hx hb dX1_least_60 (lv_at hl 0 rfl) ?_
              refine lv_iload_n hx hb dX1_least_62 rfl (lv_at hl 2 rfl) ?_
              refine cw_ge (tgt := 69) hx hb (by omega) (by omega) dX1_least_63 (by decide) (fun hm => ?_) (fun hm => ?_)
              · refine lv_iinc (v := nI (nn + 1)) (lv' := [(4, .int (nI (nn + 1))), (5, .int (nI (cwSt nn P))), (3, .int (nI (cwSt j P))), (0, .ref h), (1, .int (nI sv)), (2, .int (nI P))]) hx hb dX1_least_69 hl (k := 1) rfl (nI_1 _) (by decide) rfl (fun ls hl => ?_)
                refine lv_goto (tgt := 21) hx hb dX1_least_72 (by decide) ?_
                exact ih1 (729 - (nn + 1)) _ _ _ (by omega) ⟨nn + 1, _, by omega, cwLi_keep hj hpj hmin hm, rfl, hP, hD, hS, lv_sub hl [0, 2, 3, 4, 5] rfl⟩
              · refine lv_iload hx hb dX1_least_66 (lv_at hl 0 rfl) ?_
                refine lv_istore_n (lv' := [(3, .int (nI (cwSt nn P))), (5, .int (nI (cwSt nn P))), (4, .int (nI nn)), (0, .ref h), (1, .int (nI sv)), (2, .int (nI P))]) hx hb dX1_least_68 rfl hl (by decide) rfl (fun ls hl => ?_)
                refine lv_iinc (v := nI (nn + 1)) (lv' := [(4, .int (nI (nn + 1))), (3, .int (nI (cwSt nn P))), (5, .int (nI (cwSt nn P))), (0, .ref h), (1, .int (nI sv)), (2, .int (nI P))]) hx hb dX1_least_69 hl (k := 2) rfl (nI_1 _) (by decide) rfl (fun ls hl => ?_)
                refine lv_goto (tgt := 21) hx hb dX1_least_72 (by decide) ?_
                exact ih1 (729 - (nn + 1)) _ _ _ (by omega) ⟨nn + 1, _, by omega, cwLi_less ⟨hp, hg⟩ hmin hm, rfl, hP, hD, hS, lv_sub hl [0, 1, 3, 4, 5] rfl⟩
          · refine lv_if_eq (tgt := 69) hx hb dX1_least_53 (by decide) (fun _ => ?_) (fun h => absurd h (by decide))
            refine lv_iinc (v := nI (nn + 1)) (lv' := [(4, .int (nI (nn + 1))), (5, .int (nI (cwSt nn P))), (3, .int bv), (0, .ref h), (1, .int (nI sv)), (2, .int (nI P))]) hx hb dX1_least_69 hl (k := 1) rfl (nI_1 _) (by decide) rfl (fun ls hl => ?_)
            refine lv_goto (tgt := 21) hx hb dX1_least_72 (by decide) ?_
            exact ih1 (729 - (nn + 1)) _ _ _ (by omega) ⟨nn + 1, bv, by omega, cwLi_skip hli (fun hh => hg hh.2), rfl, hP, hD, hS, lv_sub hl [0, 2, 3, 4, 5] rfl⟩
        · refine lv_if_eq (tgt := 69) hx hb dX1_least_43 (by decide) (fun _ => ?_) (fun h => absurd h (by decide))
          refine lv_iinc (v := nI (nn + 1)) (lv' := [(4, .int (nI (nn + 1))), (5, .int (nI (cwSt nn P))), (3, .int bv), (0, .ref h), (1, .int (nI sv)), (2, .int (nI P))]) hx hb dX1_least_69 hl (k := 1) rfl (nI_1 _) (by decide) rfl (fun ls hl => ?_)
          refine lv_goto (tgt := 21) hx hb dX1_least_72 (by decide) ?_
          exact ih1 (729 - (nn + 1)) _ _ _ (by omega) ⟨nn + 1, bv, by omega, cwLi_skip hli (fun hh => hp hh.1), rfl, hP, hD, hS, lv_sub hl [0, 2, 3, 4, 5] rfl⟩
    · refine lv_if_eq (tgt := 16) hx hb dX1_least_11 (by decide) (fun h => absurd h (by decide)) (fun _ => ?_)
      refine lv_iconst (v := (-1)) hx hb dX1_least_14 (by decide) ?_
      exact cw_iret hx hb hr hlocks () (Or.inl ⟨fun hh => by have := hh.2; omega, rfl⟩) hP hK hD hS dX1_least_15
  · refine lv_if_ne (tgt := 14) hx hb dX1_least_4 (by decide) (fun _ => ?_) (fun h => absurd h (by decide))
    refine lv_iconst (v := (-1)) hx hb dX1_least_14 (by decide) ?_
    exact cw_iret hx hb hr hlocks () (Or.inl ⟨fun hh => hbs hh.1, rfl⟩) hP hK hD hS dX1_least_15
set_option maxHeartbeats 4000000 in
set_option maxRecDepth 100000 in
/-- definitely -/
theorem mY_definitely (l : Launch) (dC : Nat → ClassId) (dI : Nat → Nat → Nat) (d : Nat → ClassId) (h : Nat) (a : Nat → Nat) (S : WSt) (av : Nat → Bool) (hO : cwOk S) (x : Int32) : cwMi l yX1_definitely cX1_definitely 3 (some .int) 2 45 (dC, dI) vwCl (YT d) [.ref h, .int x] (YS d h a S av) (fun r (_ : Nat → Bool) => cwDefM S (cwIx x 8) r) (fun t => YS d h a S t) := by
  refine cw_met ([(0, .ref h), (1, .int x)]) (by decide) (Nat.le_of_ble_eq_true rfl) rfl ?_
  intro p e s m below meth c A ls hx hb hr hlocks hml hown hts hA hP hK hD hS hl
  have hown : s.vm.findClass RX1 = some m.cls := hown
  have hV := hO.1
  refine lv_iload_n hx hb dX1_definitely_0 rfl (lv_at hl 1 rfl) ?_
  refine cw_callS (n := 1) (As := [.int x]) (rest := []) ⟨hx, hb, hml, hown, hts⟩ (mY_badSet l (dC, dI) x) (lw_S q193 q194 q14 q195) (by decide +kernel) rfl ⟨Nat.le_of_ble_eq_true rfl, Nat.le_of_ble_eq_true rfl⟩ ⟨Nat.le_refl _, Nat.le_refl _⟩ hK hP hD hS hA hl.1 rfl (Nat.le_of_ble_eq_true rfl) dX1_definitely_1 (fun r H locs hpost hP hS => ?_)
  rcases hpost with ⟨rfl, sv, hs0, hsv, rfl⟩ | ⟨rfl, hbs⟩
  · rw [show cwIx (nI sv) 8 = sv from cwIx_nI hsv (by decide)]
    refine lv_if_eq (tgt := 9) hx hb dX1_definitely_4 (by decide) (fun _ => ?_) (fun h => absurd h (by decide))
    refine lv_iconst (v := (nI 0)) hx hb dX1_definitely_9 (by decide) ?_
    refine lv_istore_n (lv' := [(2, .int (nI 0)), (0, .ref h), (1, .int (nI sv))]) hx hb dX1_definitely_10 rfl hl (by decide) rfl (fun ls hl => ?_)
    refine cw_loop (head := 11) (I := fun n1 H locs ls => ∃ (nn : Nat) (t : Nat → Bool), (nn ≤ 729) ∧ (∀ j, j < nn → (t j = true ↔ cwPoss (sC S) (cwK (sK S)) (cwSt j) ∧ ¬ cwGood (cwG (sG S)) sv (cwSt j) ∧ (j = 0 ∨ ∃ x, x < 3 ∧ 0 < cwSt j x ∧ t (j - cwUnit x) = true))) ∧ n1 = 729 - nn ∧ va_P (dC, dI) vwCl (YW d h a (sC S) (sG S) (sK S) (sM S) (sD S) (sI S) (sR S) t) H ∧ va_D A (YW d h a (sC S) (sG S) (sK S) (sM S) (sD S) (sI S) (sR S) t) ∧ va_S A s.heap H locs ∧ lv_has ls 3 [(2, .int (nI nn)), (0, .ref h), (1, .int (nI sv))]) ?_ (729) ⟨0, av, by omega, (fun x hx => absurd hx (by omega)), rfl, hP, hD, hS, hl⟩
    intro n1 H locs ls ⟨nn, t, hn9, hrec, hn1, hP, hD, hS, hl⟩ ih1
    refine lv_iload_n hx hb dX1_definitely_11 rfl (lv_at hl 0 rfl) ?_
    refine lv_sipush (v := (nI 729)) hx hb dX1_definitely_12 (by decide) ?_
    refine cw_ge (tgt := 60) hx hb (by omega) (by omega) dX1_definitely_15 (by decide) (fun hn => ?_) (fun hn => ?_)
    · have e9 : nn = 729 := by omega
      subst e9
      have hcl := cwCode_lt hV.1
      refine lv_bipush (v := (nI 81)) hx hb dX1_definitely_60 (by decide) ?_
      refine lv_aload_n hx hb dX1_definitely_62 rfl (lv_at hl 1 rfl) ?_
      refine cwY_get hx hb hts hown hK hP 0 rfl 0 (by decide) q137 rfl dX1_definitely_63 ?_
      refine lv_iconst (v := (nI 0)) hx hb dX1_definitely_66 (by decide) ?_
      refine cw_iald hx hb hK hP 1 0 rfl rfl (by omega) (by omega) dX1_definitely_67 ?_
      refine cw_imul hx hb dX1_definitely_68 ?_
      refine lv_bipush (v := (nI 9)) hx hb dX1_definitely_69 (by decide) ?_
      refine lv_aload_n hx hb dX1_definitely_71 rfl (lv_at hl 1 rfl) ?_
      refine cwY_get hx hb hts hown hK hP 0 rfl 0 (by decide) q137 rfl dX1_definitely_72 ?_
      refine lv_iconst (v := (nI 1)) hx hb dX1_definitely_75 (by decide) ?_
      refine cw_iald hx hb hK hP 1 0 rfl rfl (by omega) (by omega) dX1_definitely_76 ?_
      refine cw_imul hx hb dX1_definitely_77 ?_
      refine cw_iadd hx hb dX1_definitely_78 ?_
      refine lv_aload_n hx hb dX1_definitely_79 rfl (lv_at hl 1 rfl) ?_
      refine cwY_get hx hb hts hown hK hP 0 rfl 0 (by decide) q137 rfl dX1_definitely_80 ?_
      refine lv_iconst (v := (nI 2)) hx hb dX1_definitely_83 (by decide) ?_
      refine cw_iald hx hb hK hP 1 0 rfl rfl (by omega) (by omega) dX1_definitely_84 ?_
      refine cw_iadd hx hb dX1_definitely_85 ?_
      refine cw_nat (b := cwCode (sC S)) (rfl) ?_
      refine lv_istore_n (lv' := [(2, .int (nI (cwCode (sC S)))), (0, .ref h), (1, .int (nI sv))]) hx hb dX1_definitely_86 rfl hl (by decide) rfl (fun ls hl => ?_)
      refine lv_aload_n hx hb dX1_definitely_87 rfl (lv_at hl 1 rfl) ?_
      refine cwY_get hx hb hts hown hK hP 0 rfl 7 (by decide) q144 rfl dX1_definitely_88 ?_
      refine lv_iload_n hx hb dX1_definitely_91 rfl (lv_at hl 0 rfl) ?_
      refine cw_zald hx hb hK hP 7 6 rfl rfl (by omega) (by omega) dX1_definitely_92 ?_
      refine cw_zeq (tgt := 100) hx hb dX1_definitely_93 (by decide) (fun hl9 => ?_) (fun hl9 => ?_)
      · refine lv_iconst (v := 1) hx hb dX1_definitely_100 (by decide) ?_
        exact cw_iret hx hb hr hlocks t (Or.inr ⟨⟨hs0, hsv⟩, t, hrec, by rw [hl9]; rfl⟩) hP hK hD hS dX1_definitely_101
      · refine lv_iconst (v := 0) hx hb dX1_definitely_96 (by decide) ?_
        refine lv_goto (tgt := 101) hx hb dX1_definitely_97 (by decide) ?_
        exact cw_iret hx hb hr hlocks t (Or.inr ⟨⟨hs0, hsv⟩, t, hrec, by rw [hl9]; rfl⟩) hP hK hD hS dX1_definitely_101
    · refine lv_aload_n hx hb dX1_definitely_18 rfl (lv_at hl 1 rfl) ?_
      refine cwY_get hx hb hts hown hK hP 0 rfl 7 (by decide) q144 rfl dX1_definitely_19 ?_
      refine lv_iload_n hx hb dX1_definitely_22 rfl (lv_at hl 0 rfl) ?_
      refine cw_cut (pc' := 53) (fun H' locs' ls' st' => va_P (dC, dI) vwCl (YW d h a (sC S) (sG S) (sK S) (sM S) (sD S) (sI S) (sR S) t) H' ∧ va_S A s.heap H' locs' ∧ ls' = ls ∧ ∃ bb : Bool, st' = [.int (bI bb), .int (nI nn), .ref (a 6)] ∧ (bb = true ↔ cwPoss (sC S) (cwK (sK S)) (cwSt nn) ∧ ¬ cwGood (cwG (sG S)) sv (cwSt nn) ∧ (nn = 0 ∨ ∃ x, x < 3 ∧ 0 < cwSt nn x ∧ t (nn - cwUnit x) = true))) ?_ (fun hk => ?_)
      · intro H' locs' ls' st' ⟨hP, hS, e1, bb, e2, hbb⟩
        subst e1
        subst e2
        refine cw_zast hx hb hK hP hD hS 7 6 rfl rfl (by omega) (by omega) dX1_definitely_53 (fun H locs hP hD hS => ?_)
        have hP : va_P (dC, dI) vwCl (YW d h a (sC S) (sG S) (sK S) (sM S) (sD S) (sI S) (sR S) (va_up t nn bb)) H := hP
        have hD : va_D A (YW d h a (sC S) (sG S) (sK S) (sM S) (sD S) (sI S) (sR S) (va_up t nn bb)) := hD
        refine lv_iinc (v := nI (nn + 1)) (lv' := [(2, .int (nI (nn + 1))), (0, .ref h), (1, .int (nI sv))]) hx hb dX1_definitely_54 hl (k := 0) rfl (nI_1 _) (by decide) rfl (fun ls hl => ?_)
        refine lv_goto (tgt := 11) hx hb dX1_definitely_57 (by decide) ?_
        exact ih1 (729 - (nn + 1)) _ _ _ (by omega) ⟨nn + 1, _, by omega, cwRec_up hn hrec hbb, rfl, hP, hD, hS, hl⟩
      · refine lv_aload_n hx hb dX1_definitely_23 rfl (lv_at hl 1 rfl) ?_
        refine lv_iload_n hx hb dX1_definitely_24 rfl (lv_at hl 0 rfl) ?_
        refine cw_callV (n := 1) (C := RX1) (As := [.int (nI nn)]) (rest := [.int (nI nn), .ref (a 6)]) (wr := []) ⟨hx, hb, hml, hown, hts⟩ (mY_possible l dC dI d h a S t hV nn hn) (lw_V q196 q198 qs9 q14 q199) (by decide +kernel) rfl ⟨Nat.le_of_ble_eq_true rfl, Nat.le_of_ble_eq_true rfl⟩ ⟨Nat.le_refl _, Nat.le_refl _⟩ hK hP hD hS hA [0, 1, 2, 3, 4, 5, 6, 7] [] rfl rfl rfl (by decide) (by decide) (by decide) rfl rfl rfl hl.1 rfl (Nat.le_of_ble_eq_true rfl) dX1_definitely_25 (fun r uu H locs hpost hP hD hS => ?_)
        have hP : va_P (dC, dI) vwCl (YW d h a (sC S) (sG S) (sK S) (sM S) (sD S) (sI S) (sR S) t) H := hP
        have hD : va_D A (YW d h a (sC S) (sG S) (sK S) (sM S) (sD S) (sI S) (sR S) t) := hD
        rcases hpost with ⟨rfl, hp⟩ | ⟨rfl, hp⟩
        · refine lv_if_eq (tgt := 52) hx hb dX1_definitely_28 (by decide) (fun h => absurd h (by decide)) (fun _ => ?_)
          refine lv_aload_n hx hb dX1_definitely_31 rfl (lv_at hl 1 rfl) ?_
          refine lv_iload_n hx hb dX1_definitely_32 rfl (lv_at hl 0 rfl) ?_
          refine lv_iload_n hx hb dX1_definitely_33 rfl (lv_at hl 2 rfl) ?_
          refine cw_callV (n := 2) (C := RX1) (As := [.int (nI nn), .int (nI sv)]) (rest := [.int (nI nn), .ref (a 6)]) (wr := []) ⟨hx, hb, hml, hown, hts⟩ (mY_isGood l dC dI d h a S t nn sv hn hsv) (lw_V q203 q205 qs10 q14 q206) (by decide +kernel) rfl ⟨Nat.le_of_ble_eq_true rfl, Nat.le_of_ble_eq_true rfl⟩ ⟨Nat.le_refl _, Nat.le_refl _⟩ hK hP hD hS hA [0, 1, 2, 3, 4, 5, 6, 7] [] rfl rfl rfl (by decide) (by decide) (by decide) rfl rfl rfl hl.1 rfl (Nat.le_of_ble_eq_true rfl) dX1_definitely_34 (fun r uu H locs hpost hP hD hS => ?_)
          have hP : va_P (dC, dI) vwCl (YW d h a (sC S) (sG S) (sK S) (sM S) (sD S) (sI S) (sR S) t) H := hP
          have hD : va_D A (YW d h a (sC S) (sG S) (sK S) (sM S) (sD S) (sI S) (sR S) t) := hD
          rcases hpost with ⟨rfl, hg⟩ | ⟨rfl, hg⟩
          · refine lv_if_ne (tgt := 52) hx hb dX1_definitely_37 (by decide) (fun _ => ?_) (fun h => absurd h (by decide))
            refine lv_iconst (v := (bI false)) hx hb dX1_definitely_52 (by decide) ?_
            exact hk _ _ _ _ ⟨hP, hS, rfl, false, rfl, ⟨(fun hh => by cases hh), fun hh => absurd hg hh.2.1⟩⟩
          · refine lv_if_ne (tgt := 52) hx hb dX1_definitely_37 (by decide) (fun h => absurd h (by decide)) (fun _ => ?_)
            refine lv_aload_n hx hb dX1_definitely_40 rfl (lv_at hl 1 rfl) ?_
            refine lv_iload_n hx hb dX1_definitely_41 rfl (lv_at hl 0 rfl) ?_
            refine cw_callV (n := 1) (C := RX1) (As := [.int (nI nn)]) (rest := [.int (nI nn), .ref (a 6)]) (wr := []) ⟨hx, hb, hml, hown, hts⟩ (mY_reached l dC dI d h a S t nn hn) (lw_V q215 q217 qs11 q14 q218) (by decide +kernel) rfl ⟨Nat.le_of_ble_eq_true rfl, Nat.le_of_ble_eq_true rfl⟩ ⟨Nat.le_refl _, Nat.le_refl _⟩ hK hP hD hS hA [0, 1, 2, 3, 4, 5, 6, 7] [] rfl rfl rfl (by decide) (by decide) (by decide) rfl rfl rfl hl.1 rfl (Nat.le_of_ble_eq_true rfl) dX1_definitely_42 (fun r uu H locs hpost hP hD hS => ?_)
            have hP : va_P (dC, dI) vwCl (YW d h a (sC S) (sG S) (sK S) (sM S) (sD S) (sI S) (sR S) t) H := hP
            have hD : va_D A (YW d h a (sC S) (sG S) (sK S) (sM S) (sD S) (sI S) (sR S) t) := hD
            rcases hpost with ⟨rfl, hr1⟩ | ⟨rfl, hr1⟩
            · refine lv_if_eq (tgt := 52) hx hb dX1_definitely_45 (by decide) (fun h => absurd h (by decide)) (fun _ => ?_)
              refine lv_iconst (v := (bI true)) hx hb dX1_definitely_48 (by decide) ?_
              refine lv_goto (tgt := 53) hx hb dX1_definitely_49 (by decide) ?_
              exact hk _ _ _ _ ⟨hP, hS, rfl, true, rfl, ⟨fun _ => ⟨hp, hg, hr1⟩, fun _ => rfl⟩⟩
            · refine lv_if_eq (tgt := 52) hx hb dX1_definitely_45 (by decide) (fun _ => ?_) (fun h => absurd h (by decide))
              refine lv_iconst (v := (bI false)) hx hb dX1_definitely_52 (by decide) ?_
              exact hk _ _ _ _ ⟨hP, hS, rfl, false, rfl, ⟨(fun hh => by cases hh), fun hh => absurd hh.2.2 hr1⟩⟩
        · refine lv_if_eq (tgt := 52) hx hb dX1_definitely_28 (by decide) (fun _ => ?_) (fun h => absurd h (by decide))
          refine lv_iconst (v := (bI false)) hx hb dX1_definitely_52 (by decide) ?_
          exact hk _ _ _ _ ⟨hP, hS, rfl, false, rfl, ⟨(fun hh => by cases hh), fun hh => absurd hh.1 hp⟩⟩
  · refine lv_if_eq (tgt := 9) hx hb dX1_definitely_4 (by decide) (fun h => absurd h (by decide)) (fun _ => ?_)
    refine lv_iconst (v := (-1)) hx hb dX1_definitely_7 (by decide) ?_
    exact cw_iret hx hb hr hlocks av (Or.inl ⟨hbs, rfl⟩) hP hK hD hS dX1_definitely_8
set_option maxHeartbeats 4000000 in
set_option maxRecDepth 100000 in
/-- cuts -/
theorem mY_cuts (l : Launch) (dC : Nat → ClassId) (dI : Nat → Nat → Nat) (d : Nat → ClassId) (h : Nat) (a : Nat → Nat) (S : WSt) (av : Nat → Bool) (hO : cwOk S) : cwMi l yX1_cuts cX1_cuts 3 (some .int) 2 45 (dC, dI) vwCl (YT d) [.ref h] (YS d h a S av) (fun r (_ : Unit) => r = nI (cwCuts (sC S) (cwK (sK S)))) (fun _ => YS d h a S av) := by
  refine cw_met ([(0, .ref h)]) (by decide) (Nat.le_of_ble_eq_true rfl) rfl ?_
  intro p e s m below meth c A ls hx hb hr hlocks hml hown hts hA hP hK hD hS hl
  have hown : s.vm.findClass RX1 = some m.cls := hown
  have hV := hO.1
  refine lv_iconst (v := (nI 0)) hx hb dX1_cuts_0 (by decide) ?_
  refine lv_istore_n (lv' := [(1, .int (nI 0)), (0, .ref h)]) hx hb dX1_cuts_1 rfl hl (by decide) rfl (fun ls hl => ?_)
  refine lv_iconst (v := (nI 0)) hx hb dX1_cuts_2 (by decide) ?_
  refine lv_istore_n (lv' := [(2, .int (nI 0)), (1, .int (nI 0)), (0, .ref h)]) hx hb dX1_cuts_3 rfl hl (by decide) rfl (fun ls hl => ?_)
  refine cw_loop (head := 4) (I := fun n1 H locs ls => ∃ nn, (nn ≤ 729) ∧ n1 = 729 - nn ∧ va_P (dC, dI) vwCl (YW d h a (sC S) (sG S) (sK S) (sM S) (sD S) (sI S) (sR S) av) H ∧ va_D A (YW d h a (sC S) (sG S) (sK S) (sM S) (sD S) (sI S) (sR S) av) ∧ va_S A s.heap H locs ∧ lv_has ls 3 [(2, .int (nI nn)), (1, .int (nI (cwSum (fun x => wInd (cwPoss (sC S) (cwK (sK S)) (cwSt x))) nn))), (0, .ref h)]) ?_ (729) ⟨0, by omega, rfl, hP, hD, hS, hl⟩
  intro n1 H locs ls ⟨nn, hn9, hn1, hP, hD, hS, hl⟩ ih1
  refine lv_iload_n hx hb dX1_cuts_4 rfl (lv_at hl 0 rfl) ?_
  refine lv_sipush (v := (nI 729)) hx hb dX1_cuts_5 (by decide) ?_
  refine cw_ge (tgt := 28) hx hb (by omega) (by omega) dX1_cuts_8 (by decide) (fun hn => ?_) (fun hn => ?_)
  · have e9 : nn = 729 := by omega
    subst e9
    refine lv_iload_n hx hb dX1_cuts_28 rfl (lv_at hl 1 rfl) ?_
    refine cw_nat (b := cwCuts (sC S) (cwK (sK S))) (cw_cuts hV) ?_
    exact cw_iret hx hb hr hlocks () (rfl) hP hK hD hS dX1_cuts_29
  · refine lv_aload_n hx hb dX1_cuts_11 rfl (lv_at hl 2 rfl) ?_
    refine lv_iload_n hx hb dX1_cuts_12 rfl (lv_at hl 0 rfl) ?_
    refine cw_callV (n := 1) (C := RX1) (As := [.int (nI nn)]) (rest := []) (wr := []) ⟨hx, hb, hml, hown, hts⟩ (mY_possible l dC dI d h a S av hV nn hn) (lw_V q196 q198 qs9 q14 q199) (by decide +kernel) rfl ⟨Nat.le_of_ble_eq_true rfl, Nat.le_of_ble_eq_true rfl⟩ ⟨Nat.le_refl _, Nat.le_refl _⟩ hK hP hD hS hA [0, 1, 2, 3, 4, 5, 6, 7] [] rfl rfl rfl (by decide) (by decide) (by decide) rfl rfl rfl hl.1 rfl (Nat.le_of_ble_eq_true rfl) dX1_cuts_13 (fun r uu H locs hpost hP hD hS => ?_)
    have hP : va_P (dC, dI) vwCl (YW d h a (sC S) (sG S) (sK S) (sM S) (sD S) (sI S) (sR S) av) H := hP
    have hD : va_D A (YW d h a (sC S) (sG S) (sK S) (sM S) (sD S) (sI S) (sR S) av) := hD
    rcases hpost with ⟨rfl, hp⟩ | ⟨rfl, hp⟩
    · refine lv_if_eq (tgt := 22) hx hb dX1_cuts_16 (by decide) (fun h => absurd h (by decide)) (fun _ => ?_)
      refine lv_iinc (v := nI (cwSum (fun x => wInd (cwPoss (sC S) (cwK (sK S)) (cwSt x))) nn + 1)) (lv' := [(1, .int (nI (cwSum (fun x => wInd (cwPoss (sC S) (cwK (sK S)) (cwSt x))) nn + 1))), (2, .int (nI nn)), (0, .ref h)]) hx hb dX1_cuts_19 hl (k := 1) rfl (nI_1 _) (by decide) rfl (fun ls hl => ?_)
      have e9 : nI (cwSum (fun x => wInd (cwPoss (sC S) (cwK (sK S)) (cwSt x))) nn + 1) = nI (cwSum (fun x => wInd (cwPoss (sC S) (cwK (sK S)) (cwSt x))) (nn + 1)) := by
        rw [cwSum_s, show wInd (cwPoss (sC S) (cwK (sK S)) (cwSt nn)) = 1 from wInd_t hp]
      rw [e9] at hl
      refine lv_iinc (v := nI (nn + 1)) (lv' := [(2, .int (nI (nn + 1))), (1, .int (nI (cwSum (fun x => wInd (cwPoss (sC S) (cwK (sK S)) (cwSt x))) (nn + 1)))), (0, .ref h)]) hx hb dX1_cuts_22 hl (k := 1) rfl (nI_1 _) (by decide) rfl (fun ls hl => ?_)
      refine lv_goto (tgt := 4) hx hb dX1_cuts_25 (by decide) ?_
      exact ih1 (729 - (nn + 1)) _ _ _ (by omega) ⟨nn + 1, by omega, rfl, hP, hD, hS, hl⟩
    · refine lv_if_eq (tgt := 22) hx hb dX1_cuts_16 (by decide) (fun _ => ?_) (fun h => absurd h (by decide))
      have e9 : nI (cwSum (fun x => wInd (cwPoss (sC S) (cwK (sK S)) (cwSt x))) nn) = nI (cwSum (fun x => wInd (cwPoss (sC S) (cwK (sK S)) (cwSt x))) (nn + 1)) := by
        rw [cwSum_s, show wInd (cwPoss (sC S) (cwK (sK S)) (cwSt nn)) = 0 from wInd_f hp, Nat.add_zero]
      rw [e9] at hl
      refine lv_iinc (v := nI (nn + 1)) (lv' := [(2, .int (nI (nn + 1))), (1, .int (nI (cwSum (fun x => wInd (cwPoss (sC S) (cwK (sK S)) (cwSt x))) (nn + 1)))), (0, .ref h)]) hx hb dX1_cuts_22 hl (k := 0) rfl (nI_1 _) (by decide) rfl (fun ls hl => ?_)
      refine lv_goto (tgt := 4) hx hb dX1_cuts_25 (by decide) ?_
      exact ih1 (729 - (nn + 1)) _ _ _ (by omega) ⟨nn + 1, by omega, rfl, hP, hD, hS, hl⟩
end
section
/-! the constructors -/
abbrev XF0 : List Value := [.null, .null, .null, .int (nI 0), .null, .null, .null, .null, .null, .null]
abbrev YF0 : List Value := [.null, .null, .null, .int (nI 0), .null, .null, .null, .null]
abbrev cwT9 {α : Type} (x0 x1 x2 x3 x4 x5 x6 x7 x8 : α) : Nat → α := fun k => match k with
  | 0 => x0
  | 1 => x1
  | 2 => x2
  | 3 => x3
  | 4 => x4
  | 5 => x5
  | 6 => x6
  | 7 => x7
  | _ => x8
abbrev cwT7 {α : Type} (x0 x1 x2 x3 x4 x5 x6 : α) : Nat → α := fun k => match k with
  | 0 => x0
  | 1 => x1
  | 2 => x2
  | 3 => x3
  | 4 => x4
  | 5 => x5
  | _ => x6
set_option maxHeartbeats 4000000 in
set_option maxRecDepth 100000 in
/-- CutWatch(): new arrays of zeros -/
theorem mX_init (l : Launch) (dC : Nat → ClassId) (dI : Nat → Nat → Nat) (h sz : Nat) : Met l yX0_init (ws_ yX0_init cX0_init 1 none) ({ frames := 1, cells := 9, slots := 192, locals := 12 }) (va_Pc [.ref h] (fun U => U.heap.size = sz ∧ va_P (dC, dI) vwCl [(h, .inr (0, XF0))] U.heap ∧ va_K (dC, dI) vwCl [] U ∧ va_D (fun _ => True) [(h, .inr (0, XF0))])) (va_Qv (fun (_ : (Nat → ClassId) × (Nat → Nat)) => True) (fun u t => cwB (dC, dI) vwCl (XT u.1) (va_A [(h, .inr (0, XF0))] sz) (XS u.1 h u.2 cwS0 (fun _ => 0) (fun _ => 0) (fun _ => 0)) t) (va_A [(h, .inr (0, XF0))] sz)) 9 192 (va_A [(h, .inr (0, XF0))] sz) := by
  refine Met.ofW (cc := cX0_init) (maxL := 1) (ret := none) (by decide) rfl ?_
  intro p e s m args below meth c s₁ B hml hv
  obtain ⟨rfl, hsz, hP, hK, hD0⟩ := hv
  have hx := B.exec
  have hb := B.bytes
  have hr := B.returns
  have hts := atoms_spec (ws := ws_ yX0_init cX0_init 1 none) B.pre
  have hts : ∀ w ∈ lw_all, w.before _ s = true := fun w h => hts w (List.mem_cons_of_mem _ h)
  have hown : s.vm.findClass RX0 = some m.cls := findClass_of_methodNamed B.named
  have hlocks := B.notSynchronized
  have hin : meth.name = "<init>" := (name_of_methodNamed B.named B.method).1
  subst hsz
  have hD := hD0.self (sz := s.heap.size)
  generalize hAe : va_A [(h, .inr (0, XF0))] s.heap.size = A at hD ⊢
  have hA : ∀ q : Nat, s.heap.size ≤ q → A q := fun q h => by rw [← hAe]; exact Or.inr h
  have hS : va_S A s.heap s.heap [] := va_S.rf
  have hl := lv_entry ([.ref h]) (n := 1) (Nat.le_of_ble_eq_true rfl)
  rw [lg_entry_eq]
  generalize (lg_sl ([.ref h]) ++ List.replicate (1 - (lg_sl ([.ref h])).length) Slot.unset).toArray = ls at hl ⊢
  have hl : lv_has ls 1 [(0, .ref h)] := hl
  refine lv_aload_n hx hb dX0_init_0 rfl (lv_at hl 0 rfl) ?_
  refine W.objInit hx hb hown (hts _ q20) (hts _ q21) (hts _ q22) rfl (by rw [hml]; exact hl.1) rfl dX0_init_1 (Nat.le_of_ble_eq_true rfl) (Nat.le_of_ble_eq_true rfl) ?_
  refine W.eq (g2 := F0 m 4 ls []) rfl ?_
  refine lv_aload_n hx hb dX0_init_4 rfl (lv_at hl 0 rfl) ?_
  refine lv_iconst (v := nI 3) hx hb dX0_init_5 (by decide) ?_
  refine va_newa (atype := .int) (ty := .int) (a0 := (3, .inl (nF (fun _ => 0)))) (N' := 3) hx hb (hts _ q54) rfl hK hP hD hS hA (fun _ => rfl) (by decide) (by decide) (by decide) (Nat.le_of_ble_eq_true rfl) (Nat.le_of_ble_eq_true rfl) dX0_init_6 (fun q0 c0 H hK hP hD hS => ?_)
  have hP : va_P (dC, dI) vwCl [(h, .inr (0, [.null, .null, .null, .int (nI 0), .null, .null, .null, .null, .null, .null])), (q0, .inl (c0, 3, .inl (nF (fun _ => 0))))] H := hP
  have hD : va_D A [(h, .inr (0, [.null, .null, .null, .int (nI 0), .null, .null, .null, .null, .null, .null])), (q0, .inl (c0, 3, .inl (nF (fun _ => 0))))] := hD
  have hK : va_K (dC, dI) vwCl [(c0, .int)] s := hK
  refine W.widen (k := 1) (n := 3) (Nat.le_of_ble_eq_true rfl) (Nat.le_of_ble_eq_true rfl) ?_
  refine va_putF (D := (dC, dI)) (ci := 0) (v := .ref q0) (ty := .array .int) (C := RX0) (T := TX0) (N := 10) hx hb hts in_X0 tyX0 tyX0_ok nmX0 hown hK hP hD hS 0 rfl rfl 0 (by decide) (hts _ q23) (fun _ h9 => h9) rfl hin rfl (by decide +kernel) rfl rfl (Nat.le_of_ble_eq_true rfl) dX0_init_8 (fun H locs hP hD hS => ?_)
  have hP : va_P (dC, dI) vwCl [(h, .inr (0, [.ref q0, .null, .null, .int (nI 0), .null, .null, .null, .null, .null, .null])), (q0, .inl (c0, 3, .inl (nF (fun _ => 0))))] H := hP
  have hD : va_D A [(h, .inr (0, [.ref q0, .null, .null, .int (nI 0), .null, .null, .null, .null, .null, .null])), (q0, .inl (c0, 3, .inl (nF (fun _ => 0))))] := hD
  refine lv_aload_n hx hb dX0_init_11 rfl (lv_at hl 0 rfl) ?_
  refine lv_bipush (v := nI 27) hx hb dX0_init_12 (by decide) ?_
  refine va_newa (atype := .boolean) (ty := .boolean) (a0 := (27, .inl (bF (fun _ => false)))) (N' := 27) hx hb (hts _ q55) rfl hK hP hD hS hA (fun _ => rfl) (by decide) (by decide) (by decide) (Nat.le_of_ble_eq_true rfl) (Nat.le_of_ble_eq_true rfl) dX0_init_14 (fun q1 c1 H hK hP hD hS => ?_)
  have hP : va_P (dC, dI) vwCl [(h, .inr (0, [.ref q0, .null, .null, .int (nI 0), .null, .null, .null, .null, .null, .null])), (q0, .inl (c0, 3, .inl (nF (fun _ => 0)))), (q1, .inl (c1, 27, .inl (bF (fun _ => false))))] H := hP
  have hD : va_D A [(h, .inr (0, [.ref q0, .null, .null, .int (nI 0), .null, .null, .null, .null, .null, .null])), (q0, .inl (c0, 3, .inl (nF (fun _ => 0)))), (q1, .inl (c1, 27, .inl (bF (fun _ => false))))] := hD
  have hK : va_K (dC, dI) vwCl [(c0, .int), (c1, .boolean)] s := hK
  refine W.widen (k := 2) (n := 30) (Nat.le_of_ble_eq_true rfl) (Nat.le_of_ble_eq_true rfl) ?_
  refine va_putF (D := (dC, dI)) (ci := 0) (v := .ref q1) (ty := .array .boolean) (C := RX0) (T := TX0) (N := 10) hx hb hts in_X0 tyX0 tyX0_ok nmX0 hown hK hP hD hS 0 rfl rfl 1 (by decide) (hts _ q24) (fun _ h9 => h9) rfl hin rfl (by decide +kernel) rfl rfl (Nat.le_of_ble_eq_true rfl) dX0_init_16 (fun H locs hP hD hS => ?_)
  have hP : va_P (dC, dI) vwCl [(h, .inr (0, [.ref q0, .ref q1, .null, .int (nI 0), .null, .null, .null, .null, .null, .null])), (q0, .inl (c0, 3, .inl (nF (fun _ => 0)))), (q1, .inl (c1, 27, .inl (bF (fun _ => false))))] H := hP
  have hD : va_D A [(h, .inr (0, [.ref q0, .ref q1, .null, .int (nI 0), .null, .null, .null, .null, .null, .null])), (q0, .inl (c0, 3, .inl (nF (fun _ => 0)))), (q1, .inl (c1, 27, .inl (bF (fun _ => false))))] := hD
  refine lv_aload_n hx hb dX0_init_19 rfl (lv_at hl 0 rfl) ?_
  refine lv_bipush (v := nI 81) hx hb dX0_init_20 (by decide) ?_
  refine va_newa (atype := .int) (ty := .int) (a0 := (81, .inl (nF (fun _ => 0)))) (N' := 81) hx hb (hts _ q54) rfl hK hP hD hS hA (fun _ => rfl) (by decide) (by decide) (by decide) (Nat.le_of_ble_eq_true rfl) (Nat.le_of_ble_eq_true rfl) dX0_init_22 (fun q2 c2 H hK hP hD hS => ?_)
  have hP : va_P (dC, dI) vwCl [(h, .inr (0, [.ref q0, .ref q1, .null, .int (nI 0), .null, .null, .null, .null, .null, .null])), (q0, .inl (c0, 3, .inl (nF (fun _ => 0)))), (q1, .inl (c1, 27, .inl (bF (fun _ => false)))), (q2, .inl (c2, 81, .inl (nF (fun _ => 0))))] H := hP
  have hD : va_D A [(h, .inr (0, [.ref q0, .ref q1, .null, .int (nI 0), .null, .null, .null, .null, .null, .null])), (q0, .inl (c0, 3, .inl (nF (fun _ => 0)))), (q1, .inl (c1, 27, .inl (bF (fun _ => false)))), (q2, .inl (c2, 81, .inl (nF (fun _ => 0))))] := hD
  have hK : va_K (dC, dI) vwCl [(c0, .int), (c1, .boolean), (c2, .int)] s := hK
  refine W.widen (k := 3) (n := 111) (Nat.le_of_ble_eq_true rfl) (Nat.le_of_ble_eq_true rfl) ?_
  refine va_putF (D := (dC, dI)) (ci := 0) (v := .ref q2) (ty := .array .int) (C := RX0) (T := TX0) (N := 10) hx hb hts in_X0 tyX0 tyX0_ok nmX0 hown hK hP hD hS 0 rfl rfl 2 (by decide) (hts _ q25) (fun _ h9 => h9) rfl hin rfl (by decide +kernel) rfl rfl (Nat.le_of_ble_eq_true rfl) dX0_init_24 (fun H locs hP hD hS => ?_)
  have hP : va_P (dC, dI) vwCl [(h, .inr (0, [.ref q0, .ref q1, .ref q2, .int (nI 0), .null, .null, .null, .null, .null, .null])), (q0, .inl (c0, 3, .inl (nF (fun _ => 0)))), (q1, .inl (c1, 27, .inl (bF (fun _ => false)))), (q2, .inl (c2, 81, .inl (nF (fun _ => 0))))] H := hP
  have hD : va_D A [(h, .inr (0, [.ref q0, .ref q1, .ref q2, .int (nI 0), .null, .null, .null, .null, .null, .null])), (q0, .inl (c0, 3, .inl (nF (fun _ => 0)))), (q1, .inl (c1, 27, .inl (bF (fun _ => false)))), (q2, .inl (c2, 81, .inl (nF (fun _ => 0))))] := hD
  refine lv_aload_n hx hb dX0_init_27 rfl (lv_at hl 0 rfl) ?_
  refine lv_bipush (v := nI 24) hx hb dX0_init_28 (by decide) ?_
  refine va_newa (atype := .int) (ty := .int) (a0 := (24, .inl (nF (fun _ => 0)))) (N' := 24) hx hb (hts _ q54) rfl hK hP hD hS hA (fun _ => rfl) (by decide) (by decide) (by decide) (Nat.le_of_ble_eq_true rfl) (Nat.le_of_ble_eq_true rfl) dX0_init_30 (fun q3 c3 H hK hP hD hS => ?_)
  have hP : va_P (dC, dI) vwCl [(h, .inr (0, [.ref q0, .ref q1, .ref q2, .int (nI 0), .null, .null, .null, .null, .null, .null])), (q0, .inl (c0, 3, .inl (nF (fun _ => 0)))), (q1, .inl (c1, 27, .inl (bF (fun _ => false)))), (q2, .inl (c2, 81, .inl (nF (fun _ => 0)))), (q3, .inl (c3, 24, .inl (nF (fun _ => 0))))] H := hP
  have hD : va_D A [(h, .inr (0, [.ref q0, .ref q1, .ref q2, .int (nI 0), .null, .null, .null, .null, .null, .null])), (q0, .inl (c0, 3, .inl (nF (fun _ => 0)))), (q1, .inl (c1, 27, .inl (bF (fun _ => false)))), (q2, .inl (c2, 81, .inl (nF (fun _ => 0)))), (q3, .inl (c3, 24, .inl (nF (fun _ => 0))))] := hD
  have hK : va_K (dC, dI) vwCl [(c0, .int), (c1, .boolean), (c2, .int), (c3, .int)] s := hK
  refine W.widen (k := 4) (n := 135) (Nat.le_of_ble_eq_true rfl) (Nat.le_of_ble_eq_true rfl) ?_
  refine va_putF (D := (dC, dI)) (ci := 0) (v := .ref q3) (ty := .array .int) (C := RX0) (T := TX0) (N := 10) hx hb hts in_X0 tyX0 tyX0_ok nmX0 hown hK hP hD hS 0 rfl rfl 4 (by decide) (hts _ q27) (fun _ h9 => h9) rfl hin rfl (by decide +kernel) rfl rfl (Nat.le_of_ble_eq_true rfl) dX0_init_32 (fun H locs hP hD hS => ?_)
  have hP : va_P (dC, dI) vwCl [(h, .inr (0, [.ref q0, .ref q1, .ref q2, .int (nI 0), .ref q3, .null, .null, .null, .null, .null])), (q0, .inl (c0, 3, .inl (nF (fun _ => 0)))), (q1, .inl (c1, 27, .inl (bF (fun _ => false)))), (q2, .inl (c2, 81, .inl (nF (fun _ => 0)))), (q3, .inl (c3, 24, .inl (nF (fun _ => 0))))] H := hP
  have hD : va_D A [(h, .inr (0, [.ref q0, .ref q1, .ref q2, .int (nI 0), .ref q3, .null, .null, .null, .null, .null])), (q0, .inl (c0, 3, .inl (nF (fun _ => 0)))), (q1, .inl (c1, 27, .inl (bF (fun _ => false)))), (q2, .inl (c2, 81, .inl (nF (fun _ => 0)))), (q3, .inl (c3, 24, .inl (nF (fun _ => 0))))] := hD
  refine lv_aload_n hx hb dX0_init_35 rfl (lv_at hl 0 rfl) ?_
  refine lv_bipush (v := nI 24) hx hb dX0_init_36 (by decide) ?_
  refine va_newa (atype := .int) (ty := .int) (a0 := (24, .inl (nF (fun _ => 0)))) (N' := 24) hx hb (hts _ q54) rfl hK hP hD hS hA (fun _ => rfl) (by decide) (by decide) (by decide) (Nat.le_of_ble_eq_true rfl) (Nat.le_of_ble_eq_true rfl) dX0_init_38 (fun q4 c4 H hK hP hD hS => ?_)
  have hP : va_P (dC, dI) vwCl [(h, .inr (0, [.ref q0, .ref q1, .ref q2, .int (nI 0), .ref q3, .null, .null, .null, .null, .null])), (q0, .inl (c0, 3, .inl (nF (fun _ => 0)))), (q1, .inl (c1, 27, .inl (bF (fun _ => false)))), (q2, .inl (c2, 81, .inl (nF (fun _ => 0)))), (q3, .inl (c3, 24, .inl (nF (fun _ => 0)))), (q4, .inl (c4, 24, .inl (nF (fun _ => 0))))] H := hP
  have hD : va_D A [(h, .inr (0, [.ref q0, .ref q1, .ref q2, .int (nI 0), .ref q3, .null, .null, .null, .null, .null])), (q0, .inl (c0, 3, .inl (nF (fun _ => 0)))), (q1, .inl (c1, 27, .inl (bF (fun _ => false)))), (q2, .inl (c2, 81, .inl (nF (fun _ => 0)))), (q3, .inl (c3, 24, .inl (nF (fun _ => 0)))), (q4, .inl (c4, 24, .inl (nF (fun _ => 0))))] := hD
  have hK : va_K (dC, dI) vwCl [(c0, .int), (c1, .boolean), (c2, .int), (c3, .int), (c4, .int)] s := hK
  refine W.widen (k := 5) (n := 159) (Nat.le_of_ble_eq_true rfl) (Nat.le_of_ble_eq_true rfl) ?_
  refine va_putF (D := (dC, dI)) (ci := 0) (v := .ref q4) (ty := .array .int) (C := RX0) (T := TX0) (N := 10) hx hb hts in_X0 tyX0 tyX0_ok nmX0 hown hK hP hD hS 0 rfl rfl 5 (by decide) (hts _ q28) (fun _ h9 => h9) rfl hin rfl (by decide +kernel) rfl rfl (Nat.le_of_ble_eq_true rfl) dX0_init_40 (fun H locs hP hD hS => ?_)
  have hP : va_P (dC, dI) vwCl [(h, .inr (0, [.ref q0, .ref q1, .ref q2, .int (nI 0), .ref q3, .ref q4, .null, .null, .null, .null])), (q0, .inl (c0, 3, .inl (nF (fun _ => 0)))), (q1, .inl (c1, 27, .inl (bF (fun _ => false)))), (q2, .inl (c2, 81, .inl (nF (fun _ => 0)))), (q3, .inl (c3, 24, .inl (nF (fun _ => 0)))), (q4, .inl (c4, 24, .inl (nF (fun _ => 0))))] H := hP
  have hD : va_D A [(h, .inr (0, [.ref q0, .ref q1, .ref q2, .int (nI 0), .ref q3, .ref q4, .null, .null, .null, .null])), (q0, .inl (c0, 3, .inl (nF (fun _ => 0)))), (q1, .inl (c1, 27, .inl (bF (fun _ => false)))), (q2, .inl (c2, 81, .inl (nF (fun _ => 0)))), (q3, .inl (c3, 24, .inl (nF (fun _ => 0)))), (q4, .inl (c4, 24, .inl (nF (fun _ => 0))))] := hD
  refine lv_aload_n hx hb dX0_init_43 rfl (lv_at hl 0 rfl) ?_
  refine lv_bipush (v := nI 24) hx hb dX0_init_44 (by decide) ?_
  refine va_newa (atype := .boolean) (ty := .boolean) (a0 := (24, .inl (bF (fun _ => false)))) (N' := 24) hx hb (hts _ q55) rfl hK hP hD hS hA (fun _ => rfl) (by decide) (by decide) (by decide) (Nat.le_of_ble_eq_true rfl) (Nat.le_of_ble_eq_true rfl) dX0_init_46 (fun q5 c5 H hK hP hD hS => ?_)
  have hP : va_P (dC, dI) vwCl [(h, .inr (0, [.ref q0, .ref q1, .ref q2, .int (nI 0), .ref q3, .ref q4, .null, .null, .null, .null])), (q0, .inl (c0, 3, .inl (nF (fun _ => 0)))), (q1, .inl (c1, 27, .inl (bF (fun _ => false)))), (q2, .inl (c2, 81, .inl (nF (fun _ => 0)))), (q3, .inl (c3, 24, .inl (nF (fun _ => 0)))), (q4, .inl (c4, 24, .inl (nF (fun _ => 0)))), (q5, .inl (c5, 24, .inl (bF (fun _ => false))))] H := hP
  have hD : va_D A [(h, .inr (0, [.ref q0, .ref q1, .ref q2, .int (nI 0), .ref q3, .ref q4, .null, .null, .null, .null])), (q0, .inl (c0, 3, .inl (nF (fun _ => 0)))), (q1, .inl (c1, 27, .inl (bF (fun _ => false)))), (q2, .inl (c2, 81, .inl (nF (fun _ => 0)))), (q3, .inl (c3, 24, .inl (nF (fun _ => 0)))), (q4, .inl (c4, 24, .inl (nF (fun _ => 0)))), (q5, .inl (c5, 24, .inl (bF (fun _ => false))))] := hD
  have hK : va_K (dC, dI) vwCl [(c0, .int), (c1, .boolean), (c2, .int), (c3, .int), (c4, .int), (c5, .boolean)] s := hK
  refine W.widen (k := 6) (n := 183) (Nat.le_of_ble_eq_true rfl) (Nat.le_of_ble_eq_true rfl) ?_
  refine va_putF (D := (dC, dI)) (ci := 0) (v := .ref q5) (ty := .array .boolean) (C := RX0) (T := TX0) (N := 10) hx hb hts in_X0 tyX0 tyX0_ok nmX0 hown hK hP hD hS 0 rfl rfl 6 (by decide) (hts _ q29) (fun _ h9 => h9) rfl hin rfl (by decide +kernel) rfl rfl (Nat.le_of_ble_eq_true rfl) dX0_init_48 (fun H locs hP hD hS => ?_)
  have hP : va_P (dC, dI) vwCl [(h, .inr (0, [.ref q0, .ref q1, .ref q2, .int (nI 0), .ref q3, .ref q4, .ref q5, .null, .null, .null])), (q0, .inl (c0, 3, .inl (nF (fun _ => 0)))), (q1, .inl (c1, 27, .inl (bF (fun _ => false)))), (q2, .inl (c2, 81, .inl (nF (fun _ => 0)))), (q3, .inl (c3, 24, .inl (nF (fun _ => 0)))), (q4, .inl (c4, 24, .inl (nF (fun _ => 0)))), (q5, .inl (c5, 24, .inl (bF (fun _ => false))))] H := hP
  have hD : va_D A [(h, .inr (0, [.ref q0, .ref q1, .ref q2, .int (nI 0), .ref q3, .ref q4, .ref q5, .null, .null, .null])), (q0, .inl (c0, 3, .inl (nF (fun _ => 0)))), (q1, .inl (c1, 27, .inl (bF (fun _ => false)))), (q2, .inl (c2, 81, .inl (nF (fun _ => 0)))), (q3, .inl (c3, 24, .inl (nF (fun _ => 0)))), (q4, .inl (c4, 24, .inl (nF (fun _ => 0)))), (q5, .inl (c5, 24, .inl (bF (fun _ => false))))] := hD
  refine lv_aload_n hx hb dX0_init_51 rfl (lv_at hl 0 rfl) ?_
  refine lv_iconst (v := nI 3) hx hb dX0_init_52 (by decide) ?_
  refine va_newa (atype := .int) (ty := .int) (a0 := (3, .inl (nF (fun _ => 0)))) (N' := 3) hx hb (hts _ q54) rfl hK hP hD hS hA (fun _ => rfl) (by decide) (by decide) (by decide) (Nat.le_of_ble_eq_true rfl) (Nat.le_of_ble_eq_true rfl) dX0_init_53 (fun q6 c6 H hK hP hD hS => ?_)
  have hP : va_P (dC, dI) vwCl [(h, .inr (0, [.ref q0, .ref q1, .ref q2, .int (nI 0), .ref q3, .ref q4, .ref q5, .null, .null, .null])), (q0, .inl (c0, 3, .inl (nF (fun _ => 0)))), (q1, .inl (c1, 27, .inl (bF (fun _ => false)))), (q2, .inl (c2, 81, .inl (nF (fun _ => 0)))), (q3, .inl (c3, 24, .inl (nF (fun _ => 0)))), (q4, .inl (c4, 24, .inl (nF (fun _ => 0)))), (q5, .inl (c5, 24, .inl (bF (fun _ => false)))), (q6, .inl (c6, 3, .inl (nF (fun _ => 0))))] H := hP
  have hD : va_D A [(h, .inr (0, [.ref q0, .ref q1, .ref q2, .int (nI 0), .ref q3, .ref q4, .ref q5, .null, .null, .null])), (q0, .inl (c0, 3, .inl (nF (fun _ => 0)))), (q1, .inl (c1, 27, .inl (bF (fun _ => false)))), (q2, .inl (c2, 81, .inl (nF (fun _ => 0)))), (q3, .inl (c3, 24, .inl (nF (fun _ => 0)))), (q4, .inl (c4, 24, .inl (nF (fun _ => 0)))), (q5, .inl (c5, 24, .inl (bF (fun _ => false)))), (q6, .inl (c6, 3, .inl (nF (fun _ => 0))))] := hD
  have hK : va_K (dC, dI) vwCl [(c0, .int), (c1, .boolean), (c2, .int), (c3, .int), (c4, .int), (c5, .boolean), (c6, .int)] s := hK
  refine W.widen (k := 7) (n := 186) (Nat.le_of_ble_eq_true rfl) (Nat.le_of_ble_eq_true rfl) ?_
  refine va_putF (D := (dC, dI)) (ci := 0) (v := .ref q6) (ty := .array .int) (C := RX0) (T := TX0) (N := 10) hx hb hts in_X0 tyX0 tyX0_ok nmX0 hown hK hP hD hS 0 rfl rfl 7 (by decide) (hts _ q30) (fun _ h9 => h9) rfl hin rfl (by decide +kernel) rfl rfl (Nat.le_of_ble_eq_true rfl) dX0_init_55 (fun H locs hP hD hS => ?_)
  have hP : va_P (dC, dI) vwCl [(h, .inr (0, [.ref q0, .ref q1, .ref q2, .int (nI 0), .ref q3, .ref q4, .ref q5, .ref q6, .null, .null])), (q0, .inl (c0, 3, .inl (nF (fun _ => 0)))), (q1, .inl (c1, 27, .inl (bF (fun _ => false)))), (q2, .inl (c2, 81, .inl (nF (fun _ => 0)))), (q3, .inl (c3, 24, .inl (nF (fun _ => 0)))), (q4, .inl (c4, 24, .inl (nF (fun _ => 0)))), (q5, .inl (c5, 24, .inl (bF (fun _ => false)))), (q6, .inl (c6, 3, .inl (nF (fun _ => 0))))] H := hP
  have hD : va_D A [(h, .inr (0, [.ref q0, .ref q1, .ref q2, .int (nI 0), .ref q3, .ref q4, .ref q5, .ref q6, .null, .null])), (q0, .inl (c0, 3, .inl (nF (fun _ => 0)))), (q1, .inl (c1, 27, .inl (bF (fun _ => false)))), (q2, .inl (c2, 81, .inl (nF (fun _ => 0)))), (q3, .inl (c3, 24, .inl (nF (fun _ => 0)))), (q4, .inl (c4, 24, .inl (nF (fun _ => 0)))), (q5, .inl (c5, 24, .inl (bF (fun _ => false)))), (q6, .inl (c6, 3, .inl (nF (fun _ => 0))))] := hD
  refine lv_aload_n hx hb dX0_init_58 rfl (lv_at hl 0 rfl) ?_
  refine lv_iconst (v := nI 3) hx hb dX0_init_59 (by decide) ?_
  refine va_newa (atype := .int) (ty := .int) (a0 := (3, .inl (nF (fun _ => 0)))) (N' := 3) hx hb (hts _ q54) rfl hK hP hD hS hA (fun _ => rfl) (by decide) (by decide) (by decide) (Nat.le_of_ble_eq_true rfl) (Nat.le_of_ble_eq_true rfl) dX0_init_60 (fun q7 c7 H hK hP hD hS => ?_)
  have hP : va_P (dC, dI) vwCl [(h, .inr (0, [.ref q0, .ref q1, .ref q2, .int (nI 0), .ref q3, .ref q4, .ref q5, .ref q6, .null, .null])), (q0, .inl (c0, 3, .inl (nF (fun _ => 0)))), (q1, .inl (c1, 27, .inl (bF (fun _ => false)))), (q2, .inl (c2, 81, .inl (nF (fun _ => 0)))), (q3, .inl (c3, 24, .inl (nF (fun _ => 0)))), (q4, .inl (c4, 24, .inl (nF (fun _ => 0)))), (q5, .inl (c5, 24, .inl (bF (fun _ => false)))), (q6, .inl (c6, 3, .inl (nF (fun _ => 0)))), (q7, .inl (c7, 3, .inl (nF (fun _ => 0))))] H := hP
  have hD : va_D A [(h, .inr (0, [.ref q0, .ref q1, .ref q2, .int (nI 0), .ref q3, .ref q4, .ref q5, .ref q6, .null, .null])), (q0, .inl (c0, 3, .inl (nF (fun _ => 0)))), (q1, .inl (c1, 27, .inl (bF (fun _ => false)))), (q2, .inl (c2, 81, .inl (nF (fun _ => 0)))), (q3, .inl (c3, 24, .inl (nF (fun _ => 0)))), (q4, .inl (c4, 24, .inl (nF (fun _ => 0)))), (q5, .inl (c5, 24, .inl (bF (fun _ => false)))), (q6, .inl (c6, 3, .inl (nF (fun _ => 0)))), (q7, .inl (c7, 3, .inl (nF (fun _ => 0))))] := hD
  have hK : va_K (dC, dI) vwCl [(c0, .int), (c1, .boolean), (c2, .int), (c3, .int), (c4, .int), (c5, .boolean), (c6, .int), (c7, .int)] s := hK
  refine W.widen (k := 8) (n := 189) (Nat.le_of_ble_eq_true rfl) (Nat.le_of_ble_eq_true rfl) ?_
  refine va_putF (D := (dC, dI)) (ci := 0) (v := .ref q7) (ty := .array .int) (C := RX0) (T := TX0) (N := 10) hx hb hts in_X0 tyX0 tyX0_ok nmX0 hown hK hP hD hS 0 rfl rfl 8 (by decide) (hts _ q31) (fun _ h9 => h9) rfl hin rfl (by decide +kernel) rfl rfl (Nat.le_of_ble_eq_true rfl) dX0_init_62 (fun H locs hP hD hS => ?_)
  have hP : va_P (dC, dI) vwCl [(h, .inr (0, [.ref q0, .ref q1, .ref q2, .int (nI 0), .ref q3, .ref q4, .ref q5, .ref q6, .ref q7, .null])), (q0, .inl (c0, 3, .inl (nF (fun _ => 0)))), (q1, .inl (c1, 27, .inl (bF (fun _ => false)))), (q2, .inl (c2, 81, .inl (nF (fun _ => 0)))), (q3, .inl (c3, 24, .inl (nF (fun _ => 0)))), (q4, .inl (c4, 24, .inl (nF (fun _ => 0)))), (q5, .inl (c5, 24, .inl (bF (fun _ => false)))), (q6, .inl (c6, 3, .inl (nF (fun _ => 0)))), (q7, .inl (c7, 3, .inl (nF (fun _ => 0))))] H := hP
  have hD : va_D A [(h, .inr (0, [.ref q0, .ref q1, .ref q2, .int (nI 0), .ref q3, .ref q4, .ref q5, .ref q6, .ref q7, .null])), (q0, .inl (c0, 3, .inl (nF (fun _ => 0)))), (q1, .inl (c1, 27, .inl (bF (fun _ => false)))), (q2, .inl (c2, 81, .inl (nF (fun _ => 0)))), (q3, .inl (c3, 24, .inl (nF (fun _ => 0)))), (q4, .inl (c4, 24, .inl (nF (fun _ => 0)))), (q5, .inl (c5, 24, .inl (bF (fun _ => false)))), (q6, .inl (c6, 3, .inl (nF (fun _ => 0)))), (q7, .inl (c7, 3, .inl (nF (fun _ => 0))))] := hD
  refine lv_aload_n hx hb dX0_init_65 rfl (lv_at hl 0 rfl) ?_
  refine lv_iconst (v := nI 3) hx hb dX0_init_66 (by decide) ?_
  refine va_newa (atype := .int) (ty := .int) (a0 := (3, .inl (nF (fun _ => 0)))) (N' := 3) hx hb (hts _ q54) rfl hK hP hD hS hA (fun _ => rfl) (by decide) (by decide) (by decide) (Nat.le_of_ble_eq_true rfl) (Nat.le_of_ble_eq_true rfl) dX0_init_67 (fun q8 c8 H hK hP hD hS => ?_)
  have hP : va_P (dC, dI) vwCl [(h, .inr (0, [.ref q0, .ref q1, .ref q2, .int (nI 0), .ref q3, .ref q4, .ref q5, .ref q6, .ref q7, .null])), (q0, .inl (c0, 3, .inl (nF (fun _ => 0)))), (q1, .inl (c1, 27, .inl (bF (fun _ => false)))), (q2, .inl (c2, 81, .inl (nF (fun _ => 0)))), (q3, .inl (c3, 24, .inl (nF (fun _ => 0)))), (q4, .inl (c4, 24, .inl (nF (fun _ => 0)))), (q5, .inl (c5, 24, .inl (bF (fun _ => false)))), (q6, .inl (c6, 3, .inl (nF (fun _ => 0)))), (q7, .inl (c7, 3, .inl (nF (fun _ => 0)))), (q8, .inl (c8, 3, .inl (nF (fun _ => 0))))] H := hP
  have hD : va_D A [(h, .inr (0, [.ref q0, .ref q1, .ref q2, .int (nI 0), .ref q3, .ref q4, .ref q5, .ref q6, .ref q7, .null])), (q0, .inl (c0, 3, .inl (nF (fun _ => 0)))), (q1, .inl (c1, 27, .inl (bF (fun _ => false)))), (q2, .inl (c2, 81, .inl (nF (fun _ => 0)))), (q3, .inl (c3, 24, .inl (nF (fun _ => 0)))), (q4, .inl (c4, 24, .inl (nF (fun _ => 0)))), (q5, .inl (c5, 24, .inl (bF (fun _ => false)))), (q6, .inl (c6, 3, .inl (nF (fun _ => 0)))), (q7, .inl (c7, 3, .inl (nF (fun _ => 0)))), (q8, .inl (c8, 3, .inl (nF (fun _ => 0))))] := hD
  have hK : va_K (dC, dI) vwCl [(c0, .int), (c1, .boolean), (c2, .int), (c3, .int), (c4, .int), (c5, .boolean), (c6, .int), (c7, .int), (c8, .int)] s := hK
  refine W.widen (k := 9) (n := 192) (Nat.le_of_ble_eq_true rfl) (Nat.le_of_ble_eq_true rfl) ?_
  refine va_putF (D := (dC, dI)) (ci := 0) (v := .ref q8) (ty := .array .int) (C := RX0) (T := TX0) (N := 10) hx hb hts in_X0 tyX0 tyX0_ok nmX0 hown hK hP hD hS 0 rfl rfl 9 (by decide) (hts _ q32) (fun _ h9 => h9) rfl hin rfl (by decide +kernel) rfl rfl (Nat.le_of_ble_eq_true rfl) dX0_init_69 (fun H locs hP hD hS => ?_)
  have hP : va_P (dC, dI) vwCl [(h, .inr (0, [.ref q0, .ref q1, .ref q2, .int (nI 0), .ref q3, .ref q4, .ref q5, .ref q6, .ref q7, .ref q8])), (q0, .inl (c0, 3, .inl (nF (fun _ => 0)))), (q1, .inl (c1, 27, .inl (bF (fun _ => false)))), (q2, .inl (c2, 81, .inl (nF (fun _ => 0)))), (q3, .inl (c3, 24, .inl (nF (fun _ => 0)))), (q4, .inl (c4, 24, .inl (nF (fun _ => 0)))), (q5, .inl (c5, 24, .inl (bF (fun _ => false)))), (q6, .inl (c6, 3, .inl (nF (fun _ => 0)))), (q7, .inl (c7, 3, .inl (nF (fun _ => 0)))), (q8, .inl (c8, 3, .inl (nF (fun _ => 0))))] H := hP
  have hD : va_D A [(h, .inr (0, [.ref q0, .ref q1, .ref q2, .int (nI 0), .ref q3, .ref q4, .ref q5, .ref q6, .ref q7, .ref q8])), (q0, .inl (c0, 3, .inl (nF (fun _ => 0)))), (q1, .inl (c1, 27, .inl (bF (fun _ => false)))), (q2, .inl (c2, 81, .inl (nF (fun _ => 0)))), (q3, .inl (c3, 24, .inl (nF (fun _ => 0)))), (q4, .inl (c4, 24, .inl (nF (fun _ => 0)))), (q5, .inl (c5, 24, .inl (bF (fun _ => false)))), (q6, .inl (c6, 3, .inl (nF (fun _ => 0)))), (q7, .inl (c7, 3, .inl (nF (fun _ => 0)))), (q8, .inl (c8, 3, .inl (nF (fun _ => 0))))] := hD
  exact W.vret hx hb hr (fun t ht hW => ⟨⟨(cwT9 c0 c1 c2 c3 c4 c5 c6 c7 c8, cwT9 q0 q1 q2 q3 q4 q5 q6 q7 q8), rfl, trivial, ⟨by rw [ht]; exact hP, va_K.moved hW.alike hK, hD⟩⟩, hS.F ht⟩) hS.2.2 dX0_init_72
set_option maxHeartbeats 4000000 in
set_option maxRecDepth 100000 in
/-- CutWatchModel(): new arrays of zeros -/
theorem mY_init (l : Launch) (dC : Nat → ClassId) (dI : Nat → Nat → Nat) (h sz : Nat) : Met l yX1_init (ws_ yX1_init cX1_init 1 none) ({ frames := 1, cells := 7, slots := 912, locals := 12 }) (va_Pc [.ref h] (fun U => U.heap.size = sz ∧ va_P (dC, dI) vwCl [(h, .inr (1, YF0))] U.heap ∧ va_K (dC, dI) vwCl [] U ∧ va_D (fun _ => True) [(h, .inr (1, YF0))])) (va_Qv (fun (_ : (Nat → ClassId) × (Nat → Nat)) => True) (fun u t => cwB (dC, dI) vwCl (YT u.1) (va_A [(h, .inr (1, YF0))] sz) (YS u.1 h u.2 cwS0 (fun _ => false)) t) (va_A [(h, .inr (1, YF0))] sz)) 7 912 (va_A [(h, .inr (1, YF0))] sz) := by
  refine Met.ofW (cc := cX1_init) (maxL := 1) (ret := none) (by decide) rfl ?_
  intro p e s m args below meth c s₁ B hml hv
  obtain ⟨rfl, hsz, hP, hK, hD0⟩ := hv
  have hx := B.exec
  have hb := B.bytes
  have hr := B.returns
  have hts := atoms_spec (ws := ws_ yX1_init cX1_init 1 none) B.pre
  have hts : ∀ w ∈ lw_all, w.before _ s = true := fun w h => hts w (List.mem_cons_of_mem _ h)
  have hown : s.vm.findClass RX1 = some m.cls := findClass_of_methodNamed B.named
  have hlocks := B.notSynchronized
  have hin : meth.name = "<init>" := (name_of_methodNamed B.named B.method).1
  subst hsz
  have hD := hD0.self (sz := s.heap.size)
  generalize hAe : va_A [(h, .inr (1, YF0))] s.heap.size = A at hD ⊢
  have hA : ∀ q : Nat, s.heap.size ≤ q → A q := fun q h => by rw [← hAe]; exact Or.inr h
  have hS : va_S A s.heap s.heap [] := va_S.rf
  have hl := lv_entry ([.ref h]) (n := 1) (Nat.le_of_ble_eq_true rfl)
  rw [lg_entry_eq]
  generalize (lg_sl ([.ref h]) ++ List.replicate (1 - (lg_sl ([.ref h])).length) Slot.unset).toArray = ls at hl ⊢
  have hl : lv_has ls 1 [(0, .ref h)] := hl
  refine lv_aload_n hx hb dX1_init_0 rfl (lv_at hl 0 rfl) ?_
  refine W.objInit hx hb hown (hts _ q136) (hts _ q21) (hts _ q22) rfl (by rw [hml]; exact hl.1) rfl dX1_init_1 (Nat.le_of_ble_eq_true rfl) (Nat.le_of_ble_eq_true rfl) ?_
  refine W.eq (g2 := F0 m 4 ls []) rfl ?_
  refine lv_aload_n hx hb dX1_init_4 rfl (lv_at hl 0 rfl) ?_
  refine lv_iconst (v := nI 3) hx hb dX1_init_5 (by decide) ?_
  refine va_newa (atype := .int) (ty := .int) (a0 := (3, .inl (nF (fun _ => 0)))) (N' := 3) hx hb (hts _ q54) rfl hK hP hD hS hA (fun _ => rfl) (by decide) (by decide) (by decide) (Nat.le_of_ble_eq_true rfl) (Nat.le_of_ble_eq_true rfl) dX1_init_6 (fun q0 c0 H hK hP hD hS => ?_)
  have hP : va_P (dC, dI) vwCl [(h, .inr (1, [.null, .null, .null, .int (nI 0), .null, .null, .null, .null])), (q0, .inl (c0, 3, .inl (nF (fun _ => 0))))] H := hP
  have hD : va_D A [(h, .inr (1, [.null, .null, .null, .int (nI 0), .null, .null, .null, .null])), (q0, .inl (c0, 3, .inl (nF (fun _ => 0))))] := hD
  have hK : va_K (dC, dI) vwCl [(c0, .int)] s := hK
  refine W.widen (k := 1) (n := 3) (Nat.le_of_ble_eq_true rfl) (Nat.le_of_ble_eq_true rfl) ?_
  refine va_putF (D := (dC, dI)) (ci := 1) (v := .ref q0) (ty := .array .int) (C := RX1) (T := TX1) (N := 8) hx hb hts in_X1 tyX1 tyX1_ok nmX1 hown hK hP hD hS 0 rfl rfl 0 (by decide) (hts _ q137) (fun _ h9 => h9) rfl hin rfl (by decide +kernel) rfl rfl (Nat.le_of_ble_eq_true rfl) dX1_init_8 (fun H locs hP hD hS => ?_)
  have hP : va_P (dC, dI) vwCl [(h, .inr (1, [.ref q0, .null, .null, .int (nI 0), .null, .null, .null, .null])), (q0, .inl (c0, 3, .inl (nF (fun _ => 0))))] H := hP
  have hD : va_D A [(h, .inr (1, [.ref q0, .null, .null, .int (nI 0), .null, .null, .null, .null])), (q0, .inl (c0, 3, .inl (nF (fun _ => 0))))] := hD
  refine lv_aload_n hx hb dX1_init_11 rfl (lv_at hl 0 rfl) ?_
  refine lv_bipush (v := nI 27) hx hb dX1_init_12 (by decide) ?_
  refine va_newa (atype := .boolean) (ty := .boolean) (a0 := (27, .inl (bF (fun _ => false)))) (N' := 27) hx hb (hts _ q55) rfl hK hP hD hS hA (fun _ => rfl) (by decide) (by decide) (by decide) (Nat.le_of_ble_eq_true rfl) (Nat.le_of_ble_eq_true rfl) dX1_init_14 (fun q1 c1 H hK hP hD hS => ?_)
  have hP : va_P (dC, dI) vwCl [(h, .inr (1, [.ref q0, .null, .null, .int (nI 0), .null, .null, .null, .null])), (q0, .inl (c0, 3, .inl (nF (fun _ => 0)))), (q1, .inl (c1, 27, .inl (bF (fun _ => false))))] H := hP
  have hD : va_D A [(h, .inr (1, [.ref q0, .null, .null, .int (nI 0), .null, .null, .null, .null])), (q0, .inl (c0, 3, .inl (nF (fun _ => 0)))), (q1, .inl (c1, 27, .inl (bF (fun _ => false))))] := hD
  have hK : va_K (dC, dI) vwCl [(c0, .int), (c1, .boolean)] s := hK
  refine W.widen (k := 2) (n := 30) (Nat.le_of_ble_eq_true rfl) (Nat.le_of_ble_eq_true rfl) ?_
  refine va_putF (D := (dC, dI)) (ci := 1) (v := .ref q1) (ty := .array .boolean) (C := RX1) (T := TX1) (N := 8) hx hb hts in_X1 tyX1 tyX1_ok nmX1 hown hK hP hD hS 0 rfl rfl 1 (by decide) (hts _ q138) (fun _ h9 => h9) rfl hin rfl (by decide +kernel) rfl rfl (Nat.le_of_ble_eq_true rfl) dX1_init_16 (fun H locs hP hD hS => ?_)
  have hP : va_P (dC, dI) vwCl [(h, .inr (1, [.ref q0, .ref q1, .null, .int (nI 0), .null, .null, .null, .null])), (q0, .inl (c0, 3, .inl (nF (fun _ => 0)))), (q1, .inl (c1, 27, .inl (bF (fun _ => false))))] H := hP
  have hD : va_D A [(h, .inr (1, [.ref q0, .ref q1, .null, .int (nI 0), .null, .null, .null, .null])), (q0, .inl (c0, 3, .inl (nF (fun _ => 0)))), (q1, .inl (c1, 27, .inl (bF (fun _ => false))))] := hD
  refine lv_aload_n hx hb dX1_init_19 rfl (lv_at hl 0 rfl) ?_
  refine lv_bipush (v := nI 81) hx hb dX1_init_20 (by decide) ?_
  refine va_newa (atype := .int) (ty := .int) (a0 := (81, .inl (nF (fun _ => 0)))) (N' := 81) hx hb (hts _ q54) rfl hK hP hD hS hA (fun _ => rfl) (by decide) (by decide) (by decide) (Nat.le_of_ble_eq_true rfl) (Nat.le_of_ble_eq_true rfl) dX1_init_22 (fun q2 c2 H hK hP hD hS => ?_)
  have hP : va_P (dC, dI) vwCl [(h, .inr (1, [.ref q0, .ref q1, .null, .int (nI 0), .null, .null, .null, .null])), (q0, .inl (c0, 3, .inl (nF (fun _ => 0)))), (q1, .inl (c1, 27, .inl (bF (fun _ => false)))), (q2, .inl (c2, 81, .inl (nF (fun _ => 0))))] H := hP
  have hD : va_D A [(h, .inr (1, [.ref q0, .ref q1, .null, .int (nI 0), .null, .null, .null, .null])), (q0, .inl (c0, 3, .inl (nF (fun _ => 0)))), (q1, .inl (c1, 27, .inl (bF (fun _ => false)))), (q2, .inl (c2, 81, .inl (nF (fun _ => 0))))] := hD
  have hK : va_K (dC, dI) vwCl [(c0, .int), (c1, .boolean), (c2, .int)] s := hK
  refine W.widen (k := 3) (n := 111) (Nat.le_of_ble_eq_true rfl) (Nat.le_of_ble_eq_true rfl) ?_
  refine va_putF (D := (dC, dI)) (ci := 1) (v := .ref q2) (ty := .array .int) (C := RX1) (T := TX1) (N := 8) hx hb hts in_X1 tyX1 tyX1_ok nmX1 hown hK hP hD hS 0 rfl rfl 2 (by decide) (hts _ q139) (fun _ h9 => h9) rfl hin rfl (by decide +kernel) rfl rfl (Nat.le_of_ble_eq_true rfl) dX1_init_24 (fun H locs hP hD hS => ?_)
  have hP : va_P (dC, dI) vwCl [(h, .inr (1, [.ref q0, .ref q1, .ref q2, .int (nI 0), .null, .null, .null, .null])), (q0, .inl (c0, 3, .inl (nF (fun _ => 0)))), (q1, .inl (c1, 27, .inl (bF (fun _ => false)))), (q2, .inl (c2, 81, .inl (nF (fun _ => 0))))] H := hP
  have hD : va_D A [(h, .inr (1, [.ref q0, .ref q1, .ref q2, .int (nI 0), .null, .null, .null, .null])), (q0, .inl (c0, 3, .inl (nF (fun _ => 0)))), (q1, .inl (c1, 27, .inl (bF (fun _ => false)))), (q2, .inl (c2, 81, .inl (nF (fun _ => 0))))] := hD
  refine lv_aload_n hx hb dX1_init_27 rfl (lv_at hl 0 rfl) ?_
  refine lv_bipush (v := nI 24) hx hb dX1_init_28 (by decide) ?_
  refine va_newa (atype := .int) (ty := .int) (a0 := (24, .inl (nF (fun _ => 0)))) (N' := 24) hx hb (hts _ q54) rfl hK hP hD hS hA (fun _ => rfl) (by decide) (by decide) (by decide) (Nat.le_of_ble_eq_true rfl) (Nat.le_of_ble_eq_true rfl) dX1_init_30 (fun q3 c3 H hK hP hD hS => ?_)
  have hP : va_P (dC, dI) vwCl [(h, .inr (1, [.ref q0, .ref q1, .ref q2, .int (nI 0), .null, .null, .null, .null])), (q0, .inl (c0, 3, .inl (nF (fun _ => 0)))), (q1, .inl (c1, 27, .inl (bF (fun _ => false)))), (q2, .inl (c2, 81, .inl (nF (fun _ => 0)))), (q3, .inl (c3, 24, .inl (nF (fun _ => 0))))] H := hP
  have hD : va_D A [(h, .inr (1, [.ref q0, .ref q1, .ref q2, .int (nI 0), .null, .null, .null, .null])), (q0, .inl (c0, 3, .inl (nF (fun _ => 0)))), (q1, .inl (c1, 27, .inl (bF (fun _ => false)))), (q2, .inl (c2, 81, .inl (nF (fun _ => 0)))), (q3, .inl (c3, 24, .inl (nF (fun _ => 0))))] := hD
  have hK : va_K (dC, dI) vwCl [(c0, .int), (c1, .boolean), (c2, .int), (c3, .int)] s := hK
  refine W.widen (k := 4) (n := 135) (Nat.le_of_ble_eq_true rfl) (Nat.le_of_ble_eq_true rfl) ?_
  refine va_putF (D := (dC, dI)) (ci := 1) (v := .ref q3) (ty := .array .int) (C := RX1) (T := TX1) (N := 8) hx hb hts in_X1 tyX1 tyX1_ok nmX1 hown hK hP hD hS 0 rfl rfl 4 (by decide) (hts _ q141) (fun _ h9 => h9) rfl hin rfl (by decide +kernel) rfl rfl (Nat.le_of_ble_eq_true rfl) dX1_init_32 (fun H locs hP hD hS => ?_)
  have hP : va_P (dC, dI) vwCl [(h, .inr (1, [.ref q0, .ref q1, .ref q2, .int (nI 0), .ref q3, .null, .null, .null])), (q0, .inl (c0, 3, .inl (nF (fun _ => 0)))), (q1, .inl (c1, 27, .inl (bF (fun _ => false)))), (q2, .inl (c2, 81, .inl (nF (fun _ => 0)))), (q3, .inl (c3, 24, .inl (nF (fun _ => 0))))] H := hP
  have hD : va_D A [(h, .inr (1, [.ref q0, .ref q1, .ref q2, .int (nI 0), .ref q3, .null, .null, .null])), (q0, .inl (c0, 3, .inl (nF (fun _ => 0)))), (q1, .inl (c1, 27, .inl (bF (fun _ => false)))), (q2, .inl (c2, 81, .inl (nF (fun _ => 0)))), (q3, .inl (c3, 24, .inl (nF (fun _ => 0))))] := hD
  refine lv_aload_n hx hb dX1_init_35 rfl (lv_at hl 0 rfl) ?_
  refine lv_bipush (v := nI 24) hx hb dX1_init_36 (by decide) ?_
  refine va_newa (atype := .int) (ty := .int) (a0 := (24, .inl (nF (fun _ => 0)))) (N' := 24) hx hb (hts _ q54) rfl hK hP hD hS hA (fun _ => rfl) (by decide) (by decide) (by decide) (Nat.le_of_ble_eq_true rfl) (Nat.le_of_ble_eq_true rfl) dX1_init_38 (fun q4 c4 H hK hP hD hS => ?_)
  have hP : va_P (dC, dI) vwCl [(h, .inr (1, [.ref q0, .ref q1, .ref q2, .int (nI 0), .ref q3, .null, .null, .null])), (q0, .inl (c0, 3, .inl (nF (fun _ => 0)))), (q1, .inl (c1, 27, .inl (bF (fun _ => false)))), (q2, .inl (c2, 81, .inl (nF (fun _ => 0)))), (q3, .inl (c3, 24, .inl (nF (fun _ => 0)))), (q4, .inl (c4, 24, .inl (nF (fun _ => 0))))] H := hP
  have hD : va_D A [(h, .inr (1, [.ref q0, .ref q1, .ref q2, .int (nI 0), .ref q3, .null, .null, .null])), (q0, .inl (c0, 3, .inl (nF (fun _ => 0)))), (q1, .inl (c1, 27, .inl (bF (fun _ => false)))), (q2, .inl (c2, 81, .inl (nF (fun _ => 0)))), (q3, .inl (c3, 24, .inl (nF (fun _ => 0)))), (q4, .inl (c4, 24, .inl (nF (fun _ => 0))))] := hD
  have hK : va_K (dC, dI) vwCl [(c0, .int), (c1, .boolean), (c2, .int), (c3, .int), (c4, .int)] s := hK
  refine W.widen (k := 5) (n := 159) (Nat.le_of_ble_eq_true rfl) (Nat.le_of_ble_eq_true rfl) ?_
  refine va_putF (D := (dC, dI)) (ci := 1) (v := .ref q4) (ty := .array .int) (C := RX1) (T := TX1) (N := 8) hx hb hts in_X1 tyX1 tyX1_ok nmX1 hown hK hP hD hS 0 rfl rfl 5 (by decide) (hts _ q142) (fun _ h9 => h9) rfl hin rfl (by decide +kernel) rfl rfl (Nat.le_of_ble_eq_true rfl) dX1_init_40 (fun H locs hP hD hS => ?_)
  have hP : va_P (dC, dI) vwCl [(h, .inr (1, [.ref q0, .ref q1, .ref q2, .int (nI 0), .ref q3, .ref q4, .null, .null])), (q0, .inl (c0, 3, .inl (nF (fun _ => 0)))), (q1, .inl (c1, 27, .inl (bF (fun _ => false)))), (q2, .inl (c2, 81, .inl (nF (fun _ => 0)))), (q3, .inl (c3, 24, .inl (nF (fun _ => 0)))), (q4, .inl (c4, 24, .inl (nF (fun _ => 0))))] H := hP
  have hD : va_D A [(h, .inr (1, [.ref q0, .ref q1, .ref q2, .int (nI 0), .ref q3, .ref q4, .null, .null])), (q0, .inl (c0, 3, .inl (nF (fun _ => 0)))), (q1, .inl (c1, 27, .inl (bF (fun _ => false)))), (q2, .inl (c2, 81, .inl (nF (fun _ => 0)))), (q3, .inl (c3, 24, .inl (nF (fun _ => 0)))), (q4, .inl (c4, 24, .inl (nF (fun _ => 0))))] := hD
  refine lv_aload_n hx hb dX1_init_43 rfl (lv_at hl 0 rfl) ?_
  refine lv_bipush (v := nI 24) hx hb dX1_init_44 (by decide) ?_
  refine va_newa (atype := .boolean) (ty := .boolean) (a0 := (24, .inl (bF (fun _ => false)))) (N' := 24) hx hb (hts _ q55) rfl hK hP hD hS hA (fun _ => rfl) (by decide) (by decide) (by decide) (Nat.le_of_ble_eq_true rfl) (Nat.le_of_ble_eq_true rfl) dX1_init_46 (fun q5 c5 H hK hP hD hS => ?_)
  have hP : va_P (dC, dI) vwCl [(h, .inr (1, [.ref q0, .ref q1, .ref q2, .int (nI 0), .ref q3, .ref q4, .null, .null])), (q0, .inl (c0, 3, .inl (nF (fun _ => 0)))), (q1, .inl (c1, 27, .inl (bF (fun _ => false)))), (q2, .inl (c2, 81, .inl (nF (fun _ => 0)))), (q3, .inl (c3, 24, .inl (nF (fun _ => 0)))), (q4, .inl (c4, 24, .inl (nF (fun _ => 0)))), (q5, .inl (c5, 24, .inl (bF (fun _ => false))))] H := hP
  have hD : va_D A [(h, .inr (1, [.ref q0, .ref q1, .ref q2, .int (nI 0), .ref q3, .ref q4, .null, .null])), (q0, .inl (c0, 3, .inl (nF (fun _ => 0)))), (q1, .inl (c1, 27, .inl (bF (fun _ => false)))), (q2, .inl (c2, 81, .inl (nF (fun _ => 0)))), (q3, .inl (c3, 24, .inl (nF (fun _ => 0)))), (q4, .inl (c4, 24, .inl (nF (fun _ => 0)))), (q5, .inl (c5, 24, .inl (bF (fun _ => false))))] := hD
  have hK : va_K (dC, dI) vwCl [(c0, .int), (c1, .boolean), (c2, .int), (c3, .int), (c4, .int), (c5, .boolean)] s := hK
  refine W.widen (k := 6) (n := 183) (Nat.le_of_ble_eq_true rfl) (Nat.le_of_ble_eq_true rfl) ?_
  refine va_putF (D := (dC, dI)) (ci := 1) (v := .ref q5) (ty := .array .boolean) (C := RX1) (T := TX1) (N := 8) hx hb hts in_X1 tyX1 tyX1_ok nmX1 hown hK hP hD hS 0 rfl rfl 6 (by decide) (hts _ q143) (fun _ h9 => h9) rfl hin rfl (by decide +kernel) rfl rfl (Nat.le_of_ble_eq_true rfl) dX1_init_48 (fun H locs hP hD hS => ?_)
  have hP : va_P (dC, dI) vwCl [(h, .inr (1, [.ref q0, .ref q1, .ref q2, .int (nI 0), .ref q3, .ref q4, .ref q5, .null])), (q0, .inl (c0, 3, .inl (nF (fun _ => 0)))), (q1, .inl (c1, 27, .inl (bF (fun _ => false)))), (q2, .inl (c2, 81, .inl (nF (fun _ => 0)))), (q3, .inl (c3, 24, .inl (nF (fun _ => 0)))), (q4, .inl (c4, 24, .inl (nF (fun _ => 0)))), (q5, .inl (c5, 24, .inl (bF (fun _ => false))))] H := hP
  have hD : va_D A [(h, .inr (1, [.ref q0, .ref q1, .ref q2, .int (nI 0), .ref q3, .ref q4, .ref q5, .null])), (q0, .inl (c0, 3, .inl (nF (fun _ => 0)))), (q1, .inl (c1, 27, .inl (bF (fun _ => false)))), (q2, .inl (c2, 81, .inl (nF (fun _ => 0)))), (q3, .inl (c3, 24, .inl (nF (fun _ => 0)))), (q4, .inl (c4, 24, .inl (nF (fun _ => 0)))), (q5, .inl (c5, 24, .inl (bF (fun _ => false))))] := hD
  refine lv_aload_n hx hb dX1_init_51 rfl (lv_at hl 0 rfl) ?_
  refine lv_sipush (v := nI 729) hx hb dX1_init_52 (by decide) ?_
  refine va_newa (atype := .boolean) (ty := .boolean) (a0 := (729, .inl (bF (fun _ => false)))) (N' := 729) hx hb (hts _ q55) rfl hK hP hD hS hA (fun _ => rfl) (by decide) (by decide) (by decide) (Nat.le_of_ble_eq_true rfl) (Nat.le_of_ble_eq_true rfl) dX1_init_55 (fun q6 c6 H hK hP hD hS => ?_)
  have hP : va_P (dC, dI) vwCl [(h, .inr (1, [.ref q0, .ref q1, .ref q2, .int (nI 0), .ref q3, .ref q4, .ref q5, .null])), (q0, .inl (c0, 3, .inl (nF (fun _ => 0)))), (q1, .inl (c1, 27, .inl (bF (fun _ => false)))), (q2, .inl (c2, 81, .inl (nF (fun _ => 0)))), (q3, .inl (c3, 24, .inl (nF (fun _ => 0)))), (q4, .inl (c4, 24, .inl (nF (fun _ => 0)))), (q5, .inl (c5, 24, .inl (bF (fun _ => false)))), (q6, .inl (c6, 729, .inl (bF (fun _ => false))))] H := hP
  have hD : va_D A [(h, .inr (1, [.ref q0, .ref q1, .ref q2, .int (nI 0), .ref q3, .ref q4, .ref q5, .null])), (q0, .inl (c0, 3, .inl (nF (fun _ => 0)))), (q1, .inl (c1, 27, .inl (bF (fun _ => false)))), (q2, .inl (c2, 81, .inl (nF (fun _ => 0)))), (q3, .inl (c3, 24, .inl (nF (fun _ => 0)))), (q4, .inl (c4, 24, .inl (nF (fun _ => 0)))), (q5, .inl (c5, 24, .inl (bF (fun _ => false)))), (q6, .inl (c6, 729, .inl (bF (fun _ => false))))] := hD
  have hK : va_K (dC, dI) vwCl [(c0, .int), (c1, .boolean), (c2, .int), (c3, .int), (c4, .int), (c5, .boolean), (c6, .boolean)] s := hK
  refine W.widen (k := 7) (n := 912) (Nat.le_of_ble_eq_true rfl) (Nat.le_of_ble_eq_true rfl) ?_
  refine va_putF (D := (dC, dI)) (ci := 1) (v := .ref q6) (ty := .array .boolean) (C := RX1) (T := TX1) (N := 8) hx hb hts in_X1 tyX1 tyX1_ok nmX1 hown hK hP hD hS 0 rfl rfl 7 (by decide) (hts _ q144) (fun _ h9 => h9) rfl hin rfl (by decide +kernel) rfl rfl (Nat.le_of_ble_eq_true rfl) dX1_init_57 (fun H locs hP hD hS => ?_)
  have hP : va_P (dC, dI) vwCl [(h, .inr (1, [.ref q0, .ref q1, .ref q2, .int (nI 0), .ref q3, .ref q4, .ref q5, .ref q6])), (q0, .inl (c0, 3, .inl (nF (fun _ => 0)))), (q1, .inl (c1, 27, .inl (bF (fun _ => false)))), (q2, .inl (c2, 81, .inl (nF (fun _ => 0)))), (q3, .inl (c3, 24, .inl (nF (fun _ => 0)))), (q4, .inl (c4, 24, .inl (nF (fun _ => 0)))), (q5, .inl (c5, 24, .inl (bF (fun _ => false)))), (q6, .inl (c6, 729, .inl (bF (fun _ => false))))] H := hP
  have hD : va_D A [(h, .inr (1, [.ref q0, .ref q1, .ref q2, .int (nI 0), .ref q3, .ref q4, .ref q5, .ref q6])), (q0, .inl (c0, 3, .inl (nF (fun _ => 0)))), (q1, .inl (c1, 27, .inl (bF (fun _ => false)))), (q2, .inl (c2, 81, .inl (nF (fun _ => 0)))), (q3, .inl (c3, 24, .inl (nF (fun _ => 0)))), (q4, .inl (c4, 24, .inl (nF (fun _ => 0)))), (q5, .inl (c5, 24, .inl (bF (fun _ => false)))), (q6, .inl (c6, 729, .inl (bF (fun _ => false))))] := hD
  exact W.vret hx hb hr (fun t ht hW => ⟨⟨(cwT7 c0 c1 c2 c3 c4 c5 c6, cwT7 q0 q1 q2 q3 q4 q5 q6), rfl, trivial, ⟨by rw [ht]; exact hP, va_K.moved hW.alike hK, hD⟩⟩, hS.F ht⟩) hS.2.2 dX1_init_60
end
section
/-! the law's own entry -/
set_option maxRecDepth 100000
abbrev cL_law : ByteArray := code
theorem dL_law_0 : decode cL_law 0 = .ok (.new 7, 3) := by decide +kernel
theorem dL_law_3 : decode cL_law 3 = .ok (.dup, 1) := by decide +kernel
theorem dL_law_4 : decode cL_law 4 = .ok (.invokespecial 9, 3) := by decide +kernel
theorem dL_law_7 : decode cL_law 7 = .ok (.astore_n 1, 1) := by decide +kernel
theorem dL_law_8 : decode cL_law 8 = .ok (.new 10, 3) := by decide +kernel
theorem dL_law_11 : decode cL_law 11 = .ok (.dup, 1) := by decide +kernel
theorem dL_law_12 : decode cL_law 12 = .ok (.invokespecial 12, 3) := by decide +kernel
theorem dL_law_15 : decode cL_law 15 = .ok (.astore_n 2, 1) := by decide +kernel
theorem dL_law_16 : decode cL_law 16 = .ok (.iconst 0, 1) := by decide +kernel
theorem dL_law_17 : decode cL_law 17 = .ok (.istore_n 3, 1) := by decide +kernel
theorem dL_law_18 : decode cL_law 18 = .ok (.iload_n 3, 1) := by decide +kernel
theorem dL_law_19 : decode cL_law 19 = .ok (.aload_n 0, 1) := by decide +kernel
theorem dL_law_20 : decode cL_law 20 = .ok (.arraylength, 1) := by decide +kernel
theorem dL_law_21 : decode cL_law 21 = .ok (.iconst 4, 1) := by decide +kernel
theorem dL_law_22 : decode cL_law 22 = .ok (.isub, 1) := by decide +kernel
theorem dL_law_23 : decode cL_law 23 = .ok (.if_icmp .gt 435, 3) := by decide +kernel
theorem dL_law_26 : decode cL_law 26 = .ok (.aload_n 0, 1) := by decide +kernel
theorem dL_law_27 : decode cL_law 27 = .ok (.iload_n 3, 1) := by decide +kernel
theorem dL_law_28 : decode cL_law 28 = .ok (.iaload, 1) := by decide +kernel
theorem dL_law_29 : decode cL_law 29 = .ok (.bipush 15, 2) := by decide +kernel
theorem dL_law_31 : decode cL_law 31 = .ok (.iand, 1) := by decide +kernel
theorem dL_law_32 : decode cL_law 32 = .ok (.tableswitch 420 0 9 #[56, 105, 154, 203, 262, 305, 328, 361, 384, 397], 56) := by decide +kernel
theorem dL_law_88 : decode cL_law 88 = .ok (.aload_n 1, 1) := by decide +kernel
theorem dL_law_89 : decode cL_law 89 = .ok (.aload_n 0, 1) := by decide +kernel
theorem dL_law_90 : decode cL_law 90 = .ok (.iload_n 3, 1) := by decide +kernel
theorem dL_law_91 : decode cL_law 91 = .ok (.iconst 1, 1) := by decide +kernel
theorem dL_law_92 : decode cL_law 92 = .ok (.iadd, 1) := by decide +kernel
theorem dL_law_93 : decode cL_law 93 = .ok (.iaload, 1) := by decide +kernel
theorem dL_law_94 : decode cL_law 94 = .ok (.aload_n 0, 1) := by decide +kernel
theorem dL_law_95 : decode cL_law 95 = .ok (.iload_n 3, 1) := by decide +kernel
theorem dL_law_96 : decode cL_law 96 = .ok (.iconst 2, 1) := by decide +kernel
theorem dL_law_97 : decode cL_law 97 = .ok (.iadd, 1) := by decide +kernel
theorem dL_law_98 : decode cL_law 98 = .ok (.iaload, 1) := by decide +kernel
theorem dL_law_99 : decode cL_law 99 = .ok (.ifCond .eq 7, 3) := by decide +kernel
theorem dL_law_102 : decode cL_law 102 = .ok (.iconst 1, 1) := by decide +kernel
theorem dL_law_103 : decode cL_law 103 = .ok (.goto 4, 3) := by decide +kernel
theorem dL_law_106 : decode cL_law 106 = .ok (.iconst 0, 1) := by decide +kernel
theorem dL_law_107 : decode cL_law 107 = .ok (.invokevirtual 13, 3) := by decide +kernel
theorem dL_law_110 : decode cL_law 110 = .ok (.aload_n 2, 1) := by decide +kernel
theorem dL_law_111 : decode cL_law 111 = .ok (.aload_n 0, 1) := by decide +kernel
theorem dL_law_112 : decode cL_law 112 = .ok (.iload_n 3, 1) := by decide +kernel
theorem dL_law_113 : decode cL_law 113 = .ok (.iconst 1, 1) := by decide +kernel
theorem dL_law_114 : decode cL_law 114 = .ok (.iadd, 1) := by decide +kernel
theorem dL_law_115 : decode cL_law 115 = .ok (.iaload, 1) := by decide +kernel
theorem dL_law_116 : decode cL_law 116 = .ok (.aload_n 0, 1) := by decide +kernel
theorem dL_law_117 : decode cL_law 117 = .ok (.iload_n 3, 1) := by decide +kernel
theorem dL_law_118 : decode cL_law 118 = .ok (.iconst 2, 1) := by decide +kernel
theorem dL_law_119 : decode cL_law 119 = .ok (.iadd, 1) := by decide +kernel
theorem dL_law_120 : decode cL_law 120 = .ok (.iaload, 1) := by decide +kernel
theorem dL_law_121 : decode cL_law 121 = .ok (.ifCond .eq 7, 3) := by decide +kernel
end
section
set_option maxRecDepth 100000
theorem dL_law_124 : decode cL_law 124 = .ok (.iconst 1, 1) := by decide +kernel
theorem dL_law_125 : decode cL_law 125 = .ok (.goto 4, 3) := by decide +kernel
theorem dL_law_128 : decode cL_law 128 = .ok (.iconst 0, 1) := by decide +kernel
theorem dL_law_129 : decode cL_law 129 = .ok (.invokevirtual 17, 3) := by decide +kernel
theorem dL_law_132 : decode cL_law 132 = .ok (.if_icmp .eq 320, 3) := by decide +kernel
theorem dL_law_135 : decode cL_law 135 = .ok (.iconst 0, 1) := by decide +kernel
theorem dL_law_136 : decode cL_law 136 = .ok (.ireturn, 1) := by decide +kernel
theorem dL_law_137 : decode cL_law 137 = .ok (.aload_n 1, 1) := by decide +kernel
theorem dL_law_138 : decode cL_law 138 = .ok (.aload_n 0, 1) := by decide +kernel
theorem dL_law_139 : decode cL_law 139 = .ok (.iload_n 3, 1) := by decide +kernel
theorem dL_law_140 : decode cL_law 140 = .ok (.iconst 1, 1) := by decide +kernel
theorem dL_law_141 : decode cL_law 141 = .ok (.iadd, 1) := by decide +kernel
theorem dL_law_142 : decode cL_law 142 = .ok (.iaload, 1) := by decide +kernel
theorem dL_law_143 : decode cL_law 143 = .ok (.aload_n 0, 1) := by decide +kernel
theorem dL_law_144 : decode cL_law 144 = .ok (.iload_n 3, 1) := by decide +kernel
theorem dL_law_145 : decode cL_law 145 = .ok (.iconst 2, 1) := by decide +kernel
theorem dL_law_146 : decode cL_law 146 = .ok (.iadd, 1) := by decide +kernel
theorem dL_law_147 : decode cL_law 147 = .ok (.iaload, 1) := by decide +kernel
theorem dL_law_148 : decode cL_law 148 = .ok (.ifCond .eq 7, 3) := by decide +kernel
theorem dL_law_151 : decode cL_law 151 = .ok (.iconst 1, 1) := by decide +kernel
theorem dL_law_152 : decode cL_law 152 = .ok (.goto 4, 3) := by decide +kernel
theorem dL_law_155 : decode cL_law 155 = .ok (.iconst 0, 1) := by decide +kernel
theorem dL_law_156 : decode cL_law 156 = .ok (.invokevirtual 18, 3) := by decide +kernel
theorem dL_law_159 : decode cL_law 159 = .ok (.aload_n 2, 1) := by decide +kernel
theorem dL_law_160 : decode cL_law 160 = .ok (.aload_n 0, 1) := by decide +kernel
theorem dL_law_161 : decode cL_law 161 = .ok (.iload_n 3, 1) := by decide +kernel
theorem dL_law_162 : decode cL_law 162 = .ok (.iconst 1, 1) := by decide +kernel
theorem dL_law_163 : decode cL_law 163 = .ok (.iadd, 1) := by decide +kernel
theorem dL_law_164 : decode cL_law 164 = .ok (.iaload, 1) := by decide +kernel
theorem dL_law_165 : decode cL_law 165 = .ok (.aload_n 0, 1) := by decide +kernel
theorem dL_law_166 : decode cL_law 166 = .ok (.iload_n 3, 1) := by decide +kernel
theorem dL_law_167 : decode cL_law 167 = .ok (.iconst 2, 1) := by decide +kernel
theorem dL_law_168 : decode cL_law 168 = .ok (.iadd, 1) := by decide +kernel
theorem dL_law_169 : decode cL_law 169 = .ok (.iaload, 1) := by decide +kernel
theorem dL_law_170 : decode cL_law 170 = .ok (.ifCond .eq 7, 3) := by decide +kernel
theorem dL_law_173 : decode cL_law 173 = .ok (.iconst 1, 1) := by decide +kernel
theorem dL_law_174 : decode cL_law 174 = .ok (.goto 4, 3) := by decide +kernel
theorem dL_law_177 : decode cL_law 177 = .ok (.iconst 0, 1) := by decide +kernel
theorem dL_law_178 : decode cL_law 178 = .ok (.invokevirtual 21, 3) := by decide +kernel
theorem dL_law_181 : decode cL_law 181 = .ok (.if_icmp .eq 271, 3) := by decide +kernel
theorem dL_law_184 : decode cL_law 184 = .ok (.iconst 0, 1) := by decide +kernel
theorem dL_law_185 : decode cL_law 185 = .ok (.ireturn, 1) := by decide +kernel
theorem dL_law_186 : decode cL_law 186 = .ok (.aload_n 1, 1) := by decide +kernel
theorem dL_law_187 : decode cL_law 187 = .ok (.aload_n 0, 1) := by decide +kernel
theorem dL_law_188 : decode cL_law 188 = .ok (.iload_n 3, 1) := by decide +kernel
theorem dL_law_189 : decode cL_law 189 = .ok (.iconst 1, 1) := by decide +kernel
theorem dL_law_190 : decode cL_law 190 = .ok (.iadd, 1) := by decide +kernel
theorem dL_law_191 : decode cL_law 191 = .ok (.iaload, 1) := by decide +kernel
theorem dL_law_192 : decode cL_law 192 = .ok (.aload_n 0, 1) := by decide +kernel
theorem dL_law_193 : decode cL_law 193 = .ok (.iload_n 3, 1) := by decide +kernel
end
section
set_option maxRecDepth 100000
theorem dL_law_194 : decode cL_law 194 = .ok (.iconst 2, 1) := by decide +kernel
theorem dL_law_195 : decode cL_law 195 = .ok (.iadd, 1) := by decide +kernel
theorem dL_law_196 : decode cL_law 196 = .ok (.iaload, 1) := by decide +kernel
theorem dL_law_197 : decode cL_law 197 = .ok (.ifCond .eq 7, 3) := by decide +kernel
theorem dL_law_200 : decode cL_law 200 = .ok (.iconst 1, 1) := by decide +kernel
theorem dL_law_201 : decode cL_law 201 = .ok (.goto 4, 3) := by decide +kernel
theorem dL_law_204 : decode cL_law 204 = .ok (.iconst 0, 1) := by decide +kernel
theorem dL_law_205 : decode cL_law 205 = .ok (.invokevirtual 22, 3) := by decide +kernel
theorem dL_law_208 : decode cL_law 208 = .ok (.aload_n 2, 1) := by decide +kernel
theorem dL_law_209 : decode cL_law 209 = .ok (.aload_n 0, 1) := by decide +kernel
theorem dL_law_210 : decode cL_law 210 = .ok (.iload_n 3, 1) := by decide +kernel
theorem dL_law_211 : decode cL_law 211 = .ok (.iconst 1, 1) := by decide +kernel
theorem dL_law_212 : decode cL_law 212 = .ok (.iadd, 1) := by decide +kernel
theorem dL_law_213 : decode cL_law 213 = .ok (.iaload, 1) := by decide +kernel
theorem dL_law_214 : decode cL_law 214 = .ok (.aload_n 0, 1) := by decide +kernel
theorem dL_law_215 : decode cL_law 215 = .ok (.iload_n 3, 1) := by decide +kernel
theorem dL_law_216 : decode cL_law 216 = .ok (.iconst 2, 1) := by decide +kernel
theorem dL_law_217 : decode cL_law 217 = .ok (.iadd, 1) := by decide +kernel
theorem dL_law_218 : decode cL_law 218 = .ok (.iaload, 1) := by decide +kernel
theorem dL_law_219 : decode cL_law 219 = .ok (.ifCond .eq 7, 3) := by decide +kernel
theorem dL_law_222 : decode cL_law 222 = .ok (.iconst 1, 1) := by decide +kernel
theorem dL_law_223 : decode cL_law 223 = .ok (.goto 4, 3) := by decide +kernel
theorem dL_law_226 : decode cL_law 226 = .ok (.iconst 0, 1) := by decide +kernel
theorem dL_law_227 : decode cL_law 227 = .ok (.invokevirtual 25, 3) := by decide +kernel
theorem dL_law_230 : decode cL_law 230 = .ok (.if_icmp .eq 222, 3) := by decide +kernel
theorem dL_law_233 : decode cL_law 233 = .ok (.iconst 0, 1) := by decide +kernel
theorem dL_law_234 : decode cL_law 234 = .ok (.ireturn, 1) := by decide +kernel
theorem dL_law_235 : decode cL_law 235 = .ok (.aload_n 1, 1) := by decide +kernel
theorem dL_law_236 : decode cL_law 236 = .ok (.aload_n 0, 1) := by decide +kernel
theorem dL_law_237 : decode cL_law 237 = .ok (.iload_n 3, 1) := by decide +kernel
theorem dL_law_238 : decode cL_law 238 = .ok (.iconst 1, 1) := by decide +kernel
theorem dL_law_239 : decode cL_law 239 = .ok (.iadd, 1) := by decide +kernel
theorem dL_law_240 : decode cL_law 240 = .ok (.iaload, 1) := by decide +kernel
theorem dL_law_241 : decode cL_law 241 = .ok (.aload_n 0, 1) := by decide +kernel
theorem dL_law_242 : decode cL_law 242 = .ok (.iload_n 3, 1) := by decide +kernel
theorem dL_law_243 : decode cL_law 243 = .ok (.iconst 2, 1) := by decide +kernel
theorem dL_law_244 : decode cL_law 244 = .ok (.iadd, 1) := by decide +kernel
theorem dL_law_245 : decode cL_law 245 = .ok (.iaload, 1) := by decide +kernel
theorem dL_law_246 : decode cL_law 246 = .ok (.aload_n 0, 1) := by decide +kernel
theorem dL_law_247 : decode cL_law 247 = .ok (.iload_n 3, 1) := by decide +kernel
theorem dL_law_248 : decode cL_law 248 = .ok (.iconst 3, 1) := by decide +kernel
theorem dL_law_249 : decode cL_law 249 = .ok (.iadd, 1) := by decide +kernel
theorem dL_law_250 : decode cL_law 250 = .ok (.iaload, 1) := by decide +kernel
theorem dL_law_251 : decode cL_law 251 = .ok (.ifCond .eq 7, 3) := by decide +kernel
theorem dL_law_254 : decode cL_law 254 = .ok (.iconst 1, 1) := by decide +kernel
theorem dL_law_255 : decode cL_law 255 = .ok (.goto 4, 3) := by decide +kernel
theorem dL_law_258 : decode cL_law 258 = .ok (.iconst 0, 1) := by decide +kernel
theorem dL_law_259 : decode cL_law 259 = .ok (.invokevirtual 26, 3) := by decide +kernel
theorem dL_law_262 : decode cL_law 262 = .ok (.aload_n 2, 1) := by decide +kernel
theorem dL_law_263 : decode cL_law 263 = .ok (.aload_n 0, 1) := by decide +kernel
end
section
set_option maxRecDepth 100000
theorem dL_law_264 : decode cL_law 264 = .ok (.iload_n 3, 1) := by decide +kernel
theorem dL_law_265 : decode cL_law 265 = .ok (.iconst 1, 1) := by decide +kernel
theorem dL_law_266 : decode cL_law 266 = .ok (.iadd, 1) := by decide +kernel
theorem dL_law_267 : decode cL_law 267 = .ok (.iaload, 1) := by decide +kernel
theorem dL_law_268 : decode cL_law 268 = .ok (.aload_n 0, 1) := by decide +kernel
theorem dL_law_269 : decode cL_law 269 = .ok (.iload_n 3, 1) := by decide +kernel
theorem dL_law_270 : decode cL_law 270 = .ok (.iconst 2, 1) := by decide +kernel
theorem dL_law_271 : decode cL_law 271 = .ok (.iadd, 1) := by decide +kernel
theorem dL_law_272 : decode cL_law 272 = .ok (.iaload, 1) := by decide +kernel
theorem dL_law_273 : decode cL_law 273 = .ok (.aload_n 0, 1) := by decide +kernel
theorem dL_law_274 : decode cL_law 274 = .ok (.iload_n 3, 1) := by decide +kernel
theorem dL_law_275 : decode cL_law 275 = .ok (.iconst 3, 1) := by decide +kernel
theorem dL_law_276 : decode cL_law 276 = .ok (.iadd, 1) := by decide +kernel
theorem dL_law_277 : decode cL_law 277 = .ok (.iaload, 1) := by decide +kernel
theorem dL_law_278 : decode cL_law 278 = .ok (.ifCond .eq 7, 3) := by decide +kernel
theorem dL_law_281 : decode cL_law 281 = .ok (.iconst 1, 1) := by decide +kernel
theorem dL_law_282 : decode cL_law 282 = .ok (.goto 4, 3) := by decide +kernel
theorem dL_law_285 : decode cL_law 285 = .ok (.iconst 0, 1) := by decide +kernel
theorem dL_law_286 : decode cL_law 286 = .ok (.invokevirtual 30, 3) := by decide +kernel
theorem dL_law_289 : decode cL_law 289 = .ok (.if_icmp .eq 163, 3) := by decide +kernel
theorem dL_law_292 : decode cL_law 292 = .ok (.iconst 0, 1) := by decide +kernel
theorem dL_law_293 : decode cL_law 293 = .ok (.ireturn, 1) := by decide +kernel
theorem dL_law_294 : decode cL_law 294 = .ok (.aload_n 1, 1) := by decide +kernel
theorem dL_law_295 : decode cL_law 295 = .ok (.aload_n 0, 1) := by decide +kernel
theorem dL_law_296 : decode cL_law 296 = .ok (.iload_n 3, 1) := by decide +kernel
theorem dL_law_297 : decode cL_law 297 = .ok (.iconst 1, 1) := by decide +kernel
theorem dL_law_298 : decode cL_law 298 = .ok (.iadd, 1) := by decide +kernel
theorem dL_law_299 : decode cL_law 299 = .ok (.iaload, 1) := by decide +kernel
theorem dL_law_300 : decode cL_law 300 = .ok (.aload_n 0, 1) := by decide +kernel
theorem dL_law_301 : decode cL_law 301 = .ok (.iload_n 3, 1) := by decide +kernel
theorem dL_law_302 : decode cL_law 302 = .ok (.iconst 2, 1) := by decide +kernel
theorem dL_law_303 : decode cL_law 303 = .ok (.iadd, 1) := by decide +kernel
theorem dL_law_304 : decode cL_law 304 = .ok (.iaload, 1) := by decide +kernel
theorem dL_law_305 : decode cL_law 305 = .ok (.aload_n 0, 1) := by decide +kernel
theorem dL_law_306 : decode cL_law 306 = .ok (.iload_n 3, 1) := by decide +kernel
theorem dL_law_307 : decode cL_law 307 = .ok (.iconst 3, 1) := by decide +kernel
theorem dL_law_308 : decode cL_law 308 = .ok (.iadd, 1) := by decide +kernel
theorem dL_law_309 : decode cL_law 309 = .ok (.iaload, 1) := by decide +kernel
theorem dL_law_310 : decode cL_law 310 = .ok (.invokevirtual 31, 3) := by decide +kernel
theorem dL_law_313 : decode cL_law 313 = .ok (.aload_n 2, 1) := by decide +kernel
theorem dL_law_314 : decode cL_law 314 = .ok (.aload_n 0, 1) := by decide +kernel
theorem dL_law_315 : decode cL_law 315 = .ok (.iload_n 3, 1) := by decide +kernel
theorem dL_law_316 : decode cL_law 316 = .ok (.iconst 1, 1) := by decide +kernel
theorem dL_law_317 : decode cL_law 317 = .ok (.iadd, 1) := by decide +kernel
theorem dL_law_318 : decode cL_law 318 = .ok (.iaload, 1) := by decide +kernel
theorem dL_law_319 : decode cL_law 319 = .ok (.aload_n 0, 1) := by decide +kernel
theorem dL_law_320 : decode cL_law 320 = .ok (.iload_n 3, 1) := by decide +kernel
theorem dL_law_321 : decode cL_law 321 = .ok (.iconst 2, 1) := by decide +kernel
theorem dL_law_322 : decode cL_law 322 = .ok (.iadd, 1) := by decide +kernel
theorem dL_law_323 : decode cL_law 323 = .ok (.iaload, 1) := by decide +kernel
end
section
set_option maxRecDepth 100000
theorem dL_law_324 : decode cL_law 324 = .ok (.aload_n 0, 1) := by decide +kernel
theorem dL_law_325 : decode cL_law 325 = .ok (.iload_n 3, 1) := by decide +kernel
theorem dL_law_326 : decode cL_law 326 = .ok (.iconst 3, 1) := by decide +kernel
theorem dL_law_327 : decode cL_law 327 = .ok (.iadd, 1) := by decide +kernel
theorem dL_law_328 : decode cL_law 328 = .ok (.iaload, 1) := by decide +kernel
theorem dL_law_329 : decode cL_law 329 = .ok (.invokevirtual 35, 3) := by decide +kernel
theorem dL_law_332 : decode cL_law 332 = .ok (.if_icmp .eq 120, 3) := by decide +kernel
theorem dL_law_335 : decode cL_law 335 = .ok (.iconst 0, 1) := by decide +kernel
theorem dL_law_336 : decode cL_law 336 = .ok (.ireturn, 1) := by decide +kernel
theorem dL_law_337 : decode cL_law 337 = .ok (.aload_n 1, 1) := by decide +kernel
theorem dL_law_338 : decode cL_law 338 = .ok (.aload_n 0, 1) := by decide +kernel
theorem dL_law_339 : decode cL_law 339 = .ok (.iload_n 3, 1) := by decide +kernel
theorem dL_law_340 : decode cL_law 340 = .ok (.iconst 1, 1) := by decide +kernel
theorem dL_law_341 : decode cL_law 341 = .ok (.iadd, 1) := by decide +kernel
theorem dL_law_342 : decode cL_law 342 = .ok (.iaload, 1) := by decide +kernel
theorem dL_law_343 : decode cL_law 343 = .ok (.invokevirtual 36, 3) := by decide +kernel
theorem dL_law_346 : decode cL_law 346 = .ok (.aload_n 2, 1) := by decide +kernel
theorem dL_law_347 : decode cL_law 347 = .ok (.aload_n 0, 1) := by decide +kernel
theorem dL_law_348 : decode cL_law 348 = .ok (.iload_n 3, 1) := by decide +kernel
theorem dL_law_349 : decode cL_law 349 = .ok (.iconst 1, 1) := by decide +kernel
theorem dL_law_350 : decode cL_law 350 = .ok (.iadd, 1) := by decide +kernel
theorem dL_law_351 : decode cL_law 351 = .ok (.iaload, 1) := by decide +kernel
theorem dL_law_352 : decode cL_law 352 = .ok (.invokevirtual 40, 3) := by decide +kernel
theorem dL_law_355 : decode cL_law 355 = .ok (.if_icmp .eq 97, 3) := by decide +kernel
theorem dL_law_358 : decode cL_law 358 = .ok (.iconst 0, 1) := by decide +kernel
theorem dL_law_359 : decode cL_law 359 = .ok (.ireturn, 1) := by decide +kernel
theorem dL_law_360 : decode cL_law 360 = .ok (.aload_n 1, 1) := by decide +kernel
theorem dL_law_361 : decode cL_law 361 = .ok (.aload_n 0, 1) := by decide +kernel
theorem dL_law_362 : decode cL_law 362 = .ok (.iload_n 3, 1) := by decide +kernel
theorem dL_law_363 : decode cL_law 363 = .ok (.iconst 1, 1) := by decide +kernel
theorem dL_law_364 : decode cL_law 364 = .ok (.iadd, 1) := by decide +kernel
theorem dL_law_365 : decode cL_law 365 = .ok (.iaload, 1) := by decide +kernel
theorem dL_law_366 : decode cL_law 366 = .ok (.aload_n 0, 1) := by decide +kernel
theorem dL_law_367 : decode cL_law 367 = .ok (.iload_n 3, 1) := by decide +kernel
theorem dL_law_368 : decode cL_law 368 = .ok (.iconst 2, 1) := by decide +kernel
theorem dL_law_369 : decode cL_law 369 = .ok (.iadd, 1) := by decide +kernel
theorem dL_law_370 : decode cL_law 370 = .ok (.iaload, 1) := by decide +kernel
theorem dL_law_371 : decode cL_law 371 = .ok (.invokevirtual 41, 3) := by decide +kernel
theorem dL_law_374 : decode cL_law 374 = .ok (.aload_n 2, 1) := by decide +kernel
theorem dL_law_375 : decode cL_law 375 = .ok (.aload_n 0, 1) := by decide +kernel
theorem dL_law_376 : decode cL_law 376 = .ok (.iload_n 3, 1) := by decide +kernel
theorem dL_law_377 : decode cL_law 377 = .ok (.iconst 1, 1) := by decide +kernel
theorem dL_law_378 : decode cL_law 378 = .ok (.iadd, 1) := by decide +kernel
theorem dL_law_379 : decode cL_law 379 = .ok (.iaload, 1) := by decide +kernel
theorem dL_law_380 : decode cL_law 380 = .ok (.aload_n 0, 1) := by decide +kernel
theorem dL_law_381 : decode cL_law 381 = .ok (.iload_n 3, 1) := by decide +kernel
theorem dL_law_382 : decode cL_law 382 = .ok (.iconst 2, 1) := by decide +kernel
theorem dL_law_383 : decode cL_law 383 = .ok (.iadd, 1) := by decide +kernel
theorem dL_law_384 : decode cL_law 384 = .ok (.iaload, 1) := by decide +kernel
theorem dL_law_385 : decode cL_law 385 = .ok (.invokevirtual 45, 3) := by decide +kernel
end
section
set_option maxRecDepth 100000
theorem dL_law_388 : decode cL_law 388 = .ok (.if_icmp .eq 64, 3) := by decide +kernel
theorem dL_law_391 : decode cL_law 391 = .ok (.iconst 0, 1) := by decide +kernel
theorem dL_law_392 : decode cL_law 392 = .ok (.ireturn, 1) := by decide +kernel
theorem dL_law_393 : decode cL_law 393 = .ok (.aload_n 1, 1) := by decide +kernel
theorem dL_law_394 : decode cL_law 394 = .ok (.aload_n 0, 1) := by decide +kernel
theorem dL_law_395 : decode cL_law 395 = .ok (.iload_n 3, 1) := by decide +kernel
theorem dL_law_396 : decode cL_law 396 = .ok (.iconst 1, 1) := by decide +kernel
theorem dL_law_397 : decode cL_law 397 = .ok (.iadd, 1) := by decide +kernel
theorem dL_law_398 : decode cL_law 398 = .ok (.iaload, 1) := by decide +kernel
theorem dL_law_399 : decode cL_law 399 = .ok (.invokevirtual 46, 3) := by decide +kernel
theorem dL_law_402 : decode cL_law 402 = .ok (.aload_n 2, 1) := by decide +kernel
theorem dL_law_403 : decode cL_law 403 = .ok (.aload_n 0, 1) := by decide +kernel
theorem dL_law_404 : decode cL_law 404 = .ok (.iload_n 3, 1) := by decide +kernel
theorem dL_law_405 : decode cL_law 405 = .ok (.iconst 1, 1) := by decide +kernel
theorem dL_law_406 : decode cL_law 406 = .ok (.iadd, 1) := by decide +kernel
theorem dL_law_407 : decode cL_law 407 = .ok (.iaload, 1) := by decide +kernel
theorem dL_law_408 : decode cL_law 408 = .ok (.invokevirtual 49, 3) := by decide +kernel
theorem dL_law_411 : decode cL_law 411 = .ok (.if_icmp .eq 41, 3) := by decide +kernel
theorem dL_law_414 : decode cL_law 414 = .ok (.iconst 0, 1) := by decide +kernel
theorem dL_law_415 : decode cL_law 415 = .ok (.ireturn, 1) := by decide +kernel
theorem dL_law_416 : decode cL_law 416 = .ok (.aload_n 1, 1) := by decide +kernel
theorem dL_law_417 : decode cL_law 417 = .ok (.invokevirtual 50, 3) := by decide +kernel
theorem dL_law_420 : decode cL_law 420 = .ok (.aload_n 2, 1) := by decide +kernel
theorem dL_law_421 : decode cL_law 421 = .ok (.invokevirtual 54, 3) := by decide +kernel
theorem dL_law_424 : decode cL_law 424 = .ok (.if_icmp .eq 28, 3) := by decide +kernel
theorem dL_law_427 : decode cL_law 427 = .ok (.iconst 0, 1) := by decide +kernel
theorem dL_law_428 : decode cL_law 428 = .ok (.ireturn, 1) := by decide +kernel
theorem dL_law_429 : decode cL_law 429 = .ok (.aload_n 1, 1) := by decide +kernel
theorem dL_law_430 : decode cL_law 430 = .ok (.aload_n 0, 1) := by decide +kernel
theorem dL_law_431 : decode cL_law 431 = .ok (.iload_n 3, 1) := by decide +kernel
theorem dL_law_432 : decode cL_law 432 = .ok (.iconst 1, 1) := by decide +kernel
theorem dL_law_433 : decode cL_law 433 = .ok (.iadd, 1) := by decide +kernel
theorem dL_law_434 : decode cL_law 434 = .ok (.iaload, 1) := by decide +kernel
theorem dL_law_435 : decode cL_law 435 = .ok (.invokevirtual 55, 3) := by decide +kernel
theorem dL_law_438 : decode cL_law 438 = .ok (.aload_n 2, 1) := by decide +kernel
theorem dL_law_439 : decode cL_law 439 = .ok (.aload_n 0, 1) := by decide +kernel
theorem dL_law_440 : decode cL_law 440 = .ok (.iload_n 3, 1) := by decide +kernel
theorem dL_law_441 : decode cL_law 441 = .ok (.iconst 1, 1) := by decide +kernel
theorem dL_law_442 : decode cL_law 442 = .ok (.iadd, 1) := by decide +kernel
theorem dL_law_443 : decode cL_law 443 = .ok (.iaload, 1) := by decide +kernel
theorem dL_law_444 : decode cL_law 444 = .ok (.invokevirtual 58, 3) := by decide +kernel
theorem dL_law_447 : decode cL_law 447 = .ok (.if_icmp .eq 5, 3) := by decide +kernel
theorem dL_law_450 : decode cL_law 450 = .ok (.iconst 0, 1) := by decide +kernel
theorem dL_law_451 : decode cL_law 451 = .ok (.ireturn, 1) := by decide +kernel
theorem dL_law_452 : decode cL_law 452 = .ok (.iinc 3 4, 3) := by decide +kernel
theorem dL_law_455 : decode cL_law 455 = .ok (.goto (-437), 3) := by decide +kernel
theorem dL_law_458 : decode cL_law 458 = .ok (.iconst 1, 1) := by decide +kernel
theorem dL_law_459 : decode cL_law 459 = .ok (.ireturn, 1) := by decide +kernel
end
section
/-! THE CLAIM OUT OF ONE WALK OF THE LAW'S BODY. Your part is whole_start (and what it stands on); all else here is the same for every law, but numbers. -/
def R_law : String := "CutWatchLaw"
def lw_P (b : Addr) (xs : List Int32) (args : Array Value) (s : State) : Prop := args = #[.ref b] ∧ s.IntsAt b xs ∧ xs.length ≤ 256 ∧ (Jvm.Cond.and given_1 narrow_1).before args s = true
def lw_Q (_ : Array Value) (s : State) (o : Outcome) (t : State) : Prop := o = .returned (some (.int 1)) ∧ Framed s o t [] 600000 7290000
def lw_Z (below : List Frame) (a : Array Value) (s : State) : State → Prop := fun t => ∃ o, t.status = .running ∧ Ended t below o ∧ lw_Q a s o t
/-- the law's own end, with 1 on the stack, nothing written that was there before, its room as the claim has it -/
theorem lw_ret {p : Program} {l : Launch} {e : Env} {s : State} {m : MethodId} {below : List Frame} {meth : Method} {c : Code} {b : Nat} (hx : p.tables.exec = Jvm.exec) (hb : c.code = code) (hr : meth.sig.returnType = ret) (hlocks : meth.locks = false) {pc : Nat} {H : Heap} {ls : Array Slot} (hdg : decode code pc = .ok (.ireturn, 1)) : W p l e room_1 s m #[Value.ref b] below meth c H [] 600000 7290000 (lw_Z below #[Value.ref b] s) (F0 m pc ls [.int 1]) := by
  intro T hT X
  obtain ⟨fs, hret, hrun, hended, hW, hframe⟩ := X.leave (v := some (.int 1)) (hlocks := hlocks) (fun h => by rw [hr] at h; cases h)
  have hmeth' : T.vm.method? m = some meth := X.method'
  refine ⟨T.setFrames fs, ?_, .returned (some (.int 1)), hrun, hended, rfl, ⟨_, rfl⟩, hW, hframe⟩
  jvm_step X.here [X.here.top, hx, hb, hdg, hmeth', hr, ret, narrow_b1]
  (try refine ⟨rfl, ?_⟩); (try refine ⟨rfl, ?_⟩)
  first | (intro acts; rw [hret _ acts rfl rfl rfl]) | rw [hret _ _ rfl rfl rfl]
  exact Steps.refl _
/-- what holds at the law's entry: the machine, the code, the tables' words (any of lw_tbl by 'hts w (by decide +kernel)'), the script of L ints xs at the cell b, what the Statement gives of the start (any of its parts by flat_of_before) -/
def lw_At (p : Program) (s : State) (m : MethodId) (meth : Method) (c : Code) (b L : Nat) (xs : Nat → Int32) : Prop :=
  p.tables.exec = Jvm.exec ∧ c.code = code ∧ meth.sig.returnType = ret ∧ c.maxLocals = 4 ∧ s.vm.findClass R_law = some m.cls ∧ (∀ w ∈ lw_tbl, w.before #[Value.ref b] s = true) ∧ va_X b L xs s s.heap ∧ b < s.heap.size ∧ meth.locks = false ∧ (Jvm.Cond.and given_1 narrow_1).before #[Value.ref b] s = true
section CWL
variable {p : Program} {l : Launch} {e : Env} {R : Room} {s : State} {m : MethodId} {args : Array Value} {below : List Frame} {meth : Method} {c : Code} {H : Heap} {locs : List Loc} {cells slots : Nat} {Q : State → Prop}
variable {cc : ByteArray} {pc : Nat} {ls : Array Slot} {rest : List Value} {A : Nat → Prop} {H0 : Heap}
theorem cw_sld (hexec : p.tables.exec = Jvm.exec) (hb : c.code = cc) {b L : Nat} {xs : Nat → Int32} (hX : va_X b L xs s H0) (hbl : b < H0.size) (hbA : ¬ A b) (hS : va_S A H0 H locs) {i : Nat} (hi : i < L) (hL : L < 2 ^ 31) (hdg : decode cc pc = .ok (.iaload, 1))
    (kk : W p l e R s m args below meth c H locs cells slots Q (F0 m (pc + 1) ls (.int (xs i) :: rest))) : W p l e R s m args below meth c H locs cells slots Q (F0 m pc ls (.int (nI i) :: .ref b :: rest)) :=
  va_sld hexec hb hX hbl hbA hS (vp_in_nI hi hL) hdg (by rw [nI_clamp (by omega)]; exact kk)
end CWL
theorem cw_lawge {i L : Nat} (hi : i < 2 ^ 30) (hL : L < 2 ^ 30) (h : ¬ nI L - nI 4 < nI i) : i + 4 ≤ L := by
  rw [Int32.lt_iff_toInt_lt, pk_sub_toInt hL (by decide), nI_toInt (by omega)] at h
  omega
/-- the law's loop at its head, by the calls that are left -/
abbrev cwInv (b L : Nat) (s : State) (dC : Nat → ClassId) (dI : Nat → Nat → Nat) (A : Nat → Prop) (xd yd : Nat → ClassId) (xo yo : Nat) (xa ya : Nat → Nat) (n : Nat) (H : Heap) (locs : List Loc) (ls : Array Slot) : Prop := ∃ (i : Nat) (S : WSt) (u v w : Nat → Nat) (av : Nat → Bool), i ≤ L ∧ cwOk S ∧ n = L + 4 - i ∧ va_P (dC, dI) vwCl (XS xd xo xa S u v w ++ YS yd yo ya S av) H ∧ va_D A (XS xd xo xa S u v w ++ YS yd yo ya S av) ∧ va_S A s.heap H locs ∧ lv_has ls 4 [(3, .int (nI i)), (2, .ref yo), (1, .ref xo), (0, .ref b)]
abbrev cwGo (p : Program) (l : Launch) (e : Env) (s : State) (m : MethodId) (below : List Frame) (meth : Method) (c : Code) (b L : Nat) (dC : Nat → ClassId) (dI : Nat → Nat → Nat) (A : Nat → Prop) (xd yd : Nat → ClassId) (xo yo : Nat) (xa ya : Nat → Nat) (n : Nat) : Prop :=
  ∀ (n' : Nat) (H' : Heap) (locs' : List Loc) (ls' : Array Slot), n' < n → cwInv b L s dC dI A xd yd xo yo xa ya n' H' locs' ls' → W p l e room_1 s m #[Value.ref b] below meth c H' locs' 18 1122 (lw_Z below #[Value.ref b] s) (F0 m 18 ls' [])
end
section
/-! the law: its ten cases -/
set_option maxHeartbeats 4000000 in
set_option maxRecDepth 100000 in
/-- the law at 88: start of both, the same answer, and on to the loop's head -/
theorem law_start {p : Program} {e : Env} {s : State} {m : MethodId} {below : List Frame} {meth : Method} {c : Code} {l : Launch} {b L : Nat} {xs : Nat → Int32} {dC : Nat → ClassId} {dI : Nat → Nat → Nat} {A : Nat → Prop} {H : Heap} {locs : List Loc} {ls : Array Slot} (hx : p.tables.exec = Jvm.exec) (hb : c.code = code) (hml : c.maxLocals = 4) (hown : s.vm.findClass R_law = some m.cls) (hts : ∀ w ∈ lw_all, w.before #[Value.ref b] s = true) (hA : ∀ q : Nat, s.heap.size ≤ q → A q) (hScr : va_X b L xs s s.heap) (hbl : b < s.heap.size) (hbA : ¬ A b) (hL : L ≤ 256) {xd yd : Nat → ClassId} {xo yo : Nat} {xa ya : Nat → Nat} (hKX : va_K (dC, dI) vwCl (XT xd) s) (hKY : va_K (dC, dI) vwCl (YT yd) s) {i n : Nat} {S : WSt} {u v w : Nat → Nat} {av : Nat → Bool} (hi : i ≤ L) (h4 : i + 4 ≤ L) (hO : cwOk S) (hn : n = L + 4 - i) (hP : va_P (dC, dI) vwCl (XS xd xo xa S u v w ++ YS yd yo ya S av) H) (hD : va_D A (XS xd xo xa S u v w ++ YS yd yo ya S av)) (hS : va_S A s.heap H locs) (hl : lv_has ls 4 [(3, .int (nI i)), (2, .ref yo), (1, .ref xo), (0, .ref b)]) (ih : cwGo p l e s m below meth c b L dC dI A xd yd xo yo xa ya n) : W p l e room_1 s m #[Value.ref b] below meth c H locs 18 1122 (lw_Z below #[Value.ref b] s) (F0 m 88 ls []) := by
  refine lv_aload_n hx hb dL_law_88 rfl (lv_at hl 2 rfl) ?_
  refine lv_aload_n hx hb dL_law_89 rfl (lv_at hl 3 rfl) ?_
  refine lv_iload_n hx hb dL_law_90 rfl (lv_at hl 0 rfl) ?_
  refine lv_iconst (v := (nI 1)) hx hb dL_law_91 (by decide) ?_
  refine cw_iadd hx hb dL_law_92 ?_
  refine cw_sld hx hb hScr hbl hbA hS (by omega) (by omega) dL_law_93 ?_
  refine lv_aload_n hx hb dL_law_94 rfl (lv_at hl 3 rfl) ?_
  refine lv_iload_n hx hb dL_law_95 rfl (lv_at hl 0 rfl) ?_
  refine lv_iconst (v := (nI 2)) hx hb dL_law_96 (by decide) ?_
  refine cw_iadd hx hb dL_law_97 ?_
  refine cw_sld hx hb hScr hbl hbA hS (by omega) (by omega) dL_law_98 ?_
  refine cw_bool hx hb dL_law_99 dL_law_102 dL_law_103 dL_law_106 ?_
  refine cw_callV (n := 2) (C := RX0) (As := [.int (xs (i + 1)), .int (bI (xs (i + 2) != 0))]) (rest := []) (wr := (YS yd yo ya S av)) ⟨hx, hb, hml, hown, hts⟩ (mX_start l dC dI xd xo xa S u v w (xs (i + 1)) (xs (i + 2) != 0)) (lw_V q56 q57 q58 q13 q59) (by decide +kernel) rfl ⟨Nat.le_of_ble_eq_true rfl, Nat.le_of_ble_eq_true rfl⟩ ⟨Nat.le_of_ble_eq_true rfl, Nat.le_of_ble_eq_true rfl⟩ hKX hP hD hS hA [0, 1, 2, 3, 4, 5, 6, 7, 8, 9] [10, 11, 12, 13, 14, 15, 16, 17] rfl rfl rfl (by decide) (by decide) (by decide) rfl rfl rfl hl.1 rfl (Nat.le_of_ble_eq_true rfl) dL_law_107 (fun r1 ux H locs hp1 hP hD hS => ?_)
  have hP : va_P (dC, dI) vwCl (YS yd yo ya S av ++ XS xd xo xa ((cwStart S (cwIx (xs (i + 1)) 3) (xs (i + 2) != 0)).2) u v w) H := hP
  have hD : va_D A (YS yd yo ya S av ++ XS xd xo xa ((cwStart S (cwIx (xs (i + 1)) 3) (xs (i + 2) != 0)).2) u v w) := hD
  refine lv_aload_n hx hb dL_law_110 rfl (lv_at hl 1 rfl) ?_
  refine lv_aload_n hx hb dL_law_111 rfl (lv_at hl 3 rfl) ?_
  refine lv_iload_n hx hb dL_law_112 rfl (lv_at hl 0 rfl) ?_
  refine lv_iconst (v := (nI 1)) hx hb dL_law_113 (by decide) ?_
  refine cw_iadd hx hb dL_law_114 ?_
  refine cw_sld hx hb hScr hbl hbA hS (by omega) (by omega) dL_law_115 ?_
  refine lv_aload_n hx hb dL_law_116 rfl (lv_at hl 3 rfl) ?_
  refine lv_iload_n hx hb dL_law_117 rfl (lv_at hl 0 rfl) ?_
  refine lv_iconst (v := (nI 2)) hx hb dL_law_118 (by decide) ?_
  refine cw_iadd hx hb dL_law_119 ?_
  refine cw_sld hx hb hScr hbl hbA hS (by omega) (by omega) dL_law_120 ?_
  refine cw_bool hx hb dL_law_121 dL_law_124 dL_law_125 dL_law_128 ?_
  refine cw_callV (n := 2) (C := RX1) (As := [.int (xs (i + 1)), .int (bI (xs (i + 2) != 0))]) (rest := [.int r1]) (wr := (XS xd xo xa ((cwStart S (cwIx (xs (i + 1)) 3) (xs (i + 2) != 0)).2) u v w)) ⟨hx, hb, hml, hown, hts⟩ (mY_start l dC dI yd yo ya S av (xs (i + 1)) (xs (i + 2) != 0)) (lw_V q162 q163 q164 q14 q165) (by decide +kernel) rfl ⟨Nat.le_of_ble_eq_true rfl, Nat.le_of_ble_eq_true rfl⟩ ⟨Nat.le_of_ble_eq_true rfl, Nat.le_of_ble_eq_true rfl⟩ hKY hP hD hS hA [0, 1, 2, 3, 4, 5, 6, 7] [8, 9, 10, 11, 12, 13, 14, 15, 16, 17] rfl rfl rfl (by decide) (by decide) (by decide) rfl rfl rfl hl.1 rfl (Nat.le_of_ble_eq_true rfl) dL_law_129 (fun r2 uy H locs hp2 hP hD hS => ?_)
  have hP : va_P (dC, dI) vwCl (XS xd xo xa ((cwStart S (cwIx (xs (i + 1)) 3) (xs (i + 2) != 0)).2) u v w ++ YS yd yo ya ((cwStart S (cwIx (xs (i + 1)) 3) (xs (i + 2) != 0)).2) av) H := hP
  have hD : va_D A (XS xd xo xa ((cwStart S (cwIx (xs (i + 1)) 3) (xs (i + 2) != 0)).2) u v w ++ YS yd yo ya ((cwStart S (cwIx (xs (i + 1)) 3) (xs (i + 2) != 0)).2) av) := hD
  have heq : r1 = r2 := Eq.trans hp1 (Eq.symm hp2)
  refine lv_icmp_eq (tgt := 452) hx hb dL_law_132 (by decide) (fun _ => ?_) (fun hne => absurd heq hne)
  refine lv_iinc (v := nI (i + 4)) (lv' := [(3, .int (nI (i + 4))), (2, .ref yo), (1, .ref xo), (0, .ref b)]) hx hb dL_law_452 hl (k := 0) rfl (nI_add _ 4) (by decide) rfl (fun ls hl => ?_)
  refine lv_goto (tgt := 18) hx hb dL_law_455 (by decide) ?_
  exact ih (L + 4 - (i + 4)) _ _ _ (by omega) ⟨i + 4, (cwStart S (cwIx (xs (i + 1)) 3) (xs (i + 2) != 0)).2, u, v, w, av, by omega, cwOk_start hO _ _, rfl, hP, hD, hS, hl⟩
set_option maxHeartbeats 4000000 in
set_option maxRecDepth 100000 in
/-- the law at 137: step of both, the same answer, and on to the loop's head -/
theorem law_step {p : Program} {e : Env} {s : State} {m : MethodId} {below : List Frame} {meth : Method} {c : Code} {l : Launch} {b L : Nat} {xs : Nat → Int32} {dC : Nat → ClassId} {dI : Nat → Nat → Nat} {A : Nat → Prop} {H : Heap} {locs : List Loc} {ls : Array Slot} (hx : p.tables.exec = Jvm.exec) (hb : c.code = code) (hml : c.maxLocals = 4) (hown : s.vm.findClass R_law = some m.cls) (hts : ∀ w ∈ lw_all, w.before #[Value.ref b] s = true) (hA : ∀ q : Nat, s.heap.size ≤ q → A q) (hScr : va_X b L xs s s.heap) (hbl : b < s.heap.size) (hbA : ¬ A b) (hL : L ≤ 256) {xd yd : Nat → ClassId} {xo yo : Nat} {xa ya : Nat → Nat} (hKX : va_K (dC, dI) vwCl (XT xd) s) (hKY : va_K (dC, dI) vwCl (YT yd) s) {i n : Nat} {S : WSt} {u v w : Nat → Nat} {av : Nat → Bool} (hi : i ≤ L) (h4 : i + 4 ≤ L) (hO : cwOk S) (hn : n = L + 4 - i) (hP : va_P (dC, dI) vwCl (XS xd xo xa S u v w ++ YS yd yo ya S av) H) (hD : va_D A (XS xd xo xa S u v w ++ YS yd yo ya S av)) (hS : va_S A s.heap H locs) (hl : lv_has ls 4 [(3, .int (nI i)), (2, .ref yo), (1, .ref xo), (0, .ref b)]) (ih : cwGo p l e s m below meth c b L dC dI A xd yd xo yo xa ya n) : W p l e room_1 s m #[Value.ref b] below meth c H locs 18 1122 (lw_Z below #[Value.ref b] s) (F0 m 137 ls []) := by
  refine lv_aload_n hx hb dL_law_137 rfl (lv_at hl 2 rfl) ?_
  refine lv_aload_n hx hb dL_law_138 rfl (lv_at hl 3 rfl) ?_
  refine lv_iload_n hx hb dL_law_139 rfl (lv_at hl 0 rfl) ?_
  refine lv_iconst (v := (nI 1)) hx hb dL_law_140 (by decide) ?_
  refine cw_iadd hx hb dL_law_141 ?_
  refine cw_sld hx hb hScr hbl hbA hS (by omega) (by omega) dL_law_142 ?_
  refine lv_aload_n hx hb dL_law_143 rfl (lv_at hl 3 rfl) ?_
  refine lv_iload_n hx hb dL_law_144 rfl (lv_at hl 0 rfl) ?_
  refine lv_iconst (v := (nI 2)) hx hb dL_law_145 (by decide) ?_
  refine cw_iadd hx hb dL_law_146 ?_
  refine cw_sld hx hb hScr hbl hbA hS (by omega) (by omega) dL_law_147 ?_
  refine cw_bool hx hb dL_law_148 dL_law_151 dL_law_152 dL_law_155 ?_
  refine cw_callV (n := 2) (C := RX0) (As := [.int (xs (i + 1)), .int (bI (xs (i + 2) != 0))]) (rest := []) (wr := (YS yd yo ya S av)) ⟨hx, hb, hml, hown, hts⟩ (mX_step l dC dI xd xo xa S u v w hO (xs (i + 1)) (xs (i + 2) != 0)) (lw_V q63 q64 q65 q13 q66) (by decide +kernel) rfl ⟨Nat.le_of_ble_eq_true rfl, Nat.le_of_ble_eq_true rfl⟩ ⟨Nat.le_of_ble_eq_true rfl, Nat.le_of_ble_eq_true rfl⟩ hKX hP hD hS hA [0, 1, 2, 3, 4, 5, 6, 7, 8, 9] [10, 11, 12, 13, 14, 15, 16, 17] rfl rfl rfl (by decide) (by decide) (by decide) rfl rfl rfl hl.1 rfl (Nat.le_of_ble_eq_true rfl) dL_law_156 (fun r1 ux H locs hp1 hP hD hS => ?_)
  have hP : va_P (dC, dI) vwCl (YS yd yo ya S av ++ XS xd xo xa ((cwStep S (cwIx (xs (i + 1)) 3) (xs (i + 2) != 0)).2) u v w) H := hP
  have hD : va_D A (YS yd yo ya S av ++ XS xd xo xa ((cwStep S (cwIx (xs (i + 1)) 3) (xs (i + 2) != 0)).2) u v w) := hD
  refine lv_aload_n hx hb dL_law_159 rfl (lv_at hl 1 rfl) ?_
  refine lv_aload_n hx hb dL_law_160 rfl (lv_at hl 3 rfl) ?_
  refine lv_iload_n hx hb dL_law_161 rfl (lv_at hl 0 rfl) ?_
  refine lv_iconst (v := (nI 1)) hx hb dL_law_162 (by decide) ?_
  refine cw_iadd hx hb dL_law_163 ?_
  refine cw_sld hx hb hScr hbl hbA hS (by omega) (by omega) dL_law_164 ?_
  refine lv_aload_n hx hb dL_law_165 rfl (lv_at hl 3 rfl) ?_
  refine lv_iload_n hx hb dL_law_166 rfl (lv_at hl 0 rfl) ?_
  refine lv_iconst (v := (nI 2)) hx hb dL_law_167 (by decide) ?_
  refine cw_iadd hx hb dL_law_168 ?_
  refine cw_sld hx hb hScr hbl hbA hS (by omega) (by omega) dL_law_169 ?_
  refine cw_bool hx hb dL_law_170 dL_law_173 dL_law_174 dL_law_177 ?_
  refine cw_callV (n := 2) (C := RX1) (As := [.int (xs (i + 1)), .int (bI (xs (i + 2) != 0))]) (rest := [.int r1]) (wr := (XS xd xo xa ((cwStep S (cwIx (xs (i + 1)) 3) (xs (i + 2) != 0)).2) u v w)) ⟨hx, hb, hml, hown, hts⟩ (mY_step l dC dI yd yo ya S av hO (xs (i + 1)) (xs (i + 2) != 0)) (lw_V q169 q170 q171 q14 q172) (by decide +kernel) rfl ⟨Nat.le_of_ble_eq_true rfl, Nat.le_of_ble_eq_true rfl⟩ ⟨Nat.le_of_ble_eq_true rfl, Nat.le_of_ble_eq_true rfl⟩ hKY hP hD hS hA [0, 1, 2, 3, 4, 5, 6, 7] [8, 9, 10, 11, 12, 13, 14, 15, 16, 17] rfl rfl rfl (by decide) (by decide) (by decide) rfl rfl rfl hl.1 rfl (Nat.le_of_ble_eq_true rfl) dL_law_178 (fun r2 uy H locs hp2 hP hD hS => ?_)
  have hP : va_P (dC, dI) vwCl (XS xd xo xa ((cwStep S (cwIx (xs (i + 1)) 3) (xs (i + 2) != 0)).2) u v w ++ YS yd yo ya ((cwStep S (cwIx (xs (i + 1)) 3) (xs (i + 2) != 0)).2) av) H := hP
  have hD : va_D A (XS xd xo xa ((cwStep S (cwIx (xs (i + 1)) 3) (xs (i + 2) != 0)).2) u v w ++ YS yd yo ya ((cwStep S (cwIx (xs (i + 1)) 3) (xs (i + 2) != 0)).2) av) := hD
  have heq : r1 = r2 := Eq.trans hp1 (Eq.symm hp2)
  refine lv_icmp_eq (tgt := 452) hx hb dL_law_181 (by decide) (fun _ => ?_) (fun hne => absurd heq hne)
  refine lv_iinc (v := nI (i + 4)) (lv' := [(3, .int (nI (i + 4))), (2, .ref yo), (1, .ref xo), (0, .ref b)]) hx hb dL_law_452 hl (k := 0) rfl (nI_add _ 4) (by decide) rfl (fun ls hl => ?_)
  refine lv_goto (tgt := 18) hx hb dL_law_455 (by decide) ?_
  exact ih (L + 4 - (i + 4)) _ _ _ (by omega) ⟨i + 4, (cwStep S (cwIx (xs (i + 1)) 3) (xs (i + 2) != 0)).2, u, v, w, av, by omega, cwOk_step hO _ _, rfl, hP, hD, hS, hl⟩
set_option maxHeartbeats 4000000 in
set_option maxRecDepth 100000 in
/-- the law at 186: send of both, the same answer, and on to the loop's head -/
theorem law_send {p : Program} {e : Env} {s : State} {m : MethodId} {below : List Frame} {meth : Method} {c : Code} {l : Launch} {b L : Nat} {xs : Nat → Int32} {dC : Nat → ClassId} {dI : Nat → Nat → Nat} {A : Nat → Prop} {H : Heap} {locs : List Loc} {ls : Array Slot} (hx : p.tables.exec = Jvm.exec) (hb : c.code = code) (hml : c.maxLocals = 4) (hown : s.vm.findClass R_law = some m.cls) (hts : ∀ w ∈ lw_all, w.before #[Value.ref b] s = true) (hA : ∀ q : Nat, s.heap.size ≤ q → A q) (hScr : va_X b L xs s s.heap) (hbl : b < s.heap.size) (hbA : ¬ A b) (hL : L ≤ 256) {xd yd : Nat → ClassId} {xo yo : Nat} {xa ya : Nat → Nat} (hKX : va_K (dC, dI) vwCl (XT xd) s) (hKY : va_K (dC, dI) vwCl (YT yd) s) {i n : Nat} {S : WSt} {u v w : Nat → Nat} {av : Nat → Bool} (hi : i ≤ L) (h4 : i + 4 ≤ L) (hO : cwOk S) (hn : n = L + 4 - i) (hP : va_P (dC, dI) vwCl (XS xd xo xa S u v w ++ YS yd yo ya S av) H) (hD : va_D A (XS xd xo xa S u v w ++ YS yd yo ya S av)) (hS : va_S A s.heap H locs) (hl : lv_has ls 4 [(3, .int (nI i)), (2, .ref yo), (1, .ref xo), (0, .ref b)]) (ih : cwGo p l e s m below meth c b L dC dI A xd yd xo yo xa ya n) : W p l e room_1 s m #[Value.ref b] below meth c H locs 18 1122 (lw_Z below #[Value.ref b] s) (F0 m 186 ls []) := by
  refine lv_aload_n hx hb dL_law_186 rfl (lv_at hl 2 rfl) ?_
  refine lv_aload_n hx hb dL_law_187 rfl (lv_at hl 3 rfl) ?_
  refine lv_iload_n hx hb dL_law_188 rfl (lv_at hl 0 rfl) ?_
  refine lv_iconst (v := (nI 1)) hx hb dL_law_189 (by decide) ?_
  refine cw_iadd hx hb dL_law_190 ?_
  refine cw_sld hx hb hScr hbl hbA hS (by omega) (by omega) dL_law_191 ?_
  refine lv_aload_n hx hb dL_law_192 rfl (lv_at hl 3 rfl) ?_
  refine lv_iload_n hx hb dL_law_193 rfl (lv_at hl 0 rfl) ?_
  refine lv_iconst (v := (nI 2)) hx hb dL_law_194 (by decide) ?_
  refine cw_iadd hx hb dL_law_195 ?_
  refine cw_sld hx hb hScr hbl hbA hS (by omega) (by omega) dL_law_196 ?_
  refine cw_bool hx hb dL_law_197 dL_law_200 dL_law_201 dL_law_204 ?_
  refine cw_callV (n := 2) (C := RX0) (As := [.int (xs (i + 1)), .int (bI (xs (i + 2) != 0))]) (rest := []) (wr := (YS yd yo ya S av)) ⟨hx, hb, hml, hown, hts⟩ (mX_send l dC dI xd xo xa S u v w hO (xs (i + 1)) (xs (i + 2) != 0)) (lw_V q71 q72 q73 q13 q74) (by decide +kernel) rfl ⟨Nat.le_of_ble_eq_true rfl, Nat.le_of_ble_eq_true rfl⟩ ⟨Nat.le_of_ble_eq_true rfl, Nat.le_of_ble_eq_true rfl⟩ hKX hP hD hS hA [0, 1, 2, 3, 4, 5, 6, 7, 8, 9] [10, 11, 12, 13, 14, 15, 16, 17] rfl rfl rfl (by decide) (by decide) (by decide) rfl rfl rfl hl.1 rfl (Nat.le_of_ble_eq_true rfl) dL_law_205 (fun r1 ux H locs hp1 hP hD hS => ?_)
  have hP : va_P (dC, dI) vwCl (YS yd yo ya S av ++ XS xd xo xa ((cwSend S (cwIx (xs (i + 1)) 3) (xs (i + 2) != 0)).2) u v w) H := hP
  have hD : va_D A (YS yd yo ya S av ++ XS xd xo xa ((cwSend S (cwIx (xs (i + 1)) 3) (xs (i + 2) != 0)).2) u v w) := hD
  refine lv_aload_n hx hb dL_law_208 rfl (lv_at hl 1 rfl) ?_
  refine lv_aload_n hx hb dL_law_209 rfl (lv_at hl 3 rfl) ?_
  refine lv_iload_n hx hb dL_law_210 rfl (lv_at hl 0 rfl) ?_
  refine lv_iconst (v := (nI 1)) hx hb dL_law_211 (by decide) ?_
  refine cw_iadd hx hb dL_law_212 ?_
  refine cw_sld hx hb hScr hbl hbA hS (by omega) (by omega) dL_law_213 ?_
  refine lv_aload_n hx hb dL_law_214 rfl (lv_at hl 3 rfl) ?_
  refine lv_iload_n hx hb dL_law_215 rfl (lv_at hl 0 rfl) ?_
  refine lv_iconst (v := (nI 2)) hx hb dL_law_216 (by decide) ?_
  refine cw_iadd hx hb dL_law_217 ?_
  refine cw_sld hx hb hScr hbl hbA hS (by omega) (by omega) dL_law_218 ?_
  refine cw_bool hx hb dL_law_219 dL_law_222 dL_law_223 dL_law_226 ?_
  refine cw_callV (n := 2) (C := RX1) (As := [.int (xs (i + 1)), .int (bI (xs (i + 2) != 0))]) (rest := [.int r1]) (wr := (XS xd xo xa ((cwSend S (cwIx (xs (i + 1)) 3) (xs (i + 2) != 0)).2) u v w)) ⟨hx, hb, hml, hown, hts⟩ (mY_send l dC dI yd yo ya S av hO (xs (i + 1)) (xs (i + 2) != 0)) (lw_V q177 q178 q179 q14 q180) (by decide +kernel) rfl ⟨Nat.le_of_ble_eq_true rfl, Nat.le_of_ble_eq_true rfl⟩ ⟨Nat.le_of_ble_eq_true rfl, Nat.le_of_ble_eq_true rfl⟩ hKY hP hD hS hA [0, 1, 2, 3, 4, 5, 6, 7] [8, 9, 10, 11, 12, 13, 14, 15, 16, 17] rfl rfl rfl (by decide) (by decide) (by decide) rfl rfl rfl hl.1 rfl (Nat.le_of_ble_eq_true rfl) dL_law_227 (fun r2 uy H locs hp2 hP hD hS => ?_)
  have hP : va_P (dC, dI) vwCl (XS xd xo xa ((cwSend S (cwIx (xs (i + 1)) 3) (xs (i + 2) != 0)).2) u v w ++ YS yd yo ya ((cwSend S (cwIx (xs (i + 1)) 3) (xs (i + 2) != 0)).2) av) H := hP
  have hD : va_D A (XS xd xo xa ((cwSend S (cwIx (xs (i + 1)) 3) (xs (i + 2) != 0)).2) u v w ++ YS yd yo ya ((cwSend S (cwIx (xs (i + 1)) 3) (xs (i + 2) != 0)).2) av) := hD
  have heq : r1 = r2 := Eq.trans hp1 (Eq.symm hp2)
  refine lv_icmp_eq (tgt := 452) hx hb dL_law_230 (by decide) (fun _ => ?_) (fun hne => absurd heq hne)
  refine lv_iinc (v := nI (i + 4)) (lv' := [(3, .int (nI (i + 4))), (2, .ref yo), (1, .ref xo), (0, .ref b)]) hx hb dL_law_452 hl (k := 0) rfl (nI_add _ 4) (by decide) rfl (fun ls hl => ?_)
  refine lv_goto (tgt := 18) hx hb dL_law_455 (by decide) ?_
  exact ih (L + 4 - (i + 4)) _ _ _ (by omega) ⟨i + 4, (cwSend S (cwIx (xs (i + 1)) 3) (xs (i + 2) != 0)).2, u, v, w, av, by omega, cwOk_send hO _ _, rfl, hP, hD, hS, hl⟩
set_option maxHeartbeats 4000000 in
set_option maxRecDepth 100000 in
/-- the law at 235: receive of both, the same answer, and on to the loop's head -/
theorem law_receive {p : Program} {e : Env} {s : State} {m : MethodId} {below : List Frame} {meth : Method} {c : Code} {l : Launch} {b L : Nat} {xs : Nat → Int32} {dC : Nat → ClassId} {dI : Nat → Nat → Nat} {A : Nat → Prop} {H : Heap} {locs : List Loc} {ls : Array Slot} (hx : p.tables.exec = Jvm.exec) (hb : c.code = code) (hml : c.maxLocals = 4) (hown : s.vm.findClass R_law = some m.cls) (hts : ∀ w ∈ lw_all, w.before #[Value.ref b] s = true) (hA : ∀ q : Nat, s.heap.size ≤ q → A q) (hScr : va_X b L xs s s.heap) (hbl : b < s.heap.size) (hbA : ¬ A b) (hL : L ≤ 256) {xd yd : Nat → ClassId} {xo yo : Nat} {xa ya : Nat → Nat} (hKX : va_K (dC, dI) vwCl (XT xd) s) (hKY : va_K (dC, dI) vwCl (YT yd) s) {i n : Nat} {S : WSt} {u v w : Nat → Nat} {av : Nat → Bool} (hi : i ≤ L) (h4 : i + 4 ≤ L) (hO : cwOk S) (hn : n = L + 4 - i) (hP : va_P (dC, dI) vwCl (XS xd xo xa S u v w ++ YS yd yo ya S av) H) (hD : va_D A (XS xd xo xa S u v w ++ YS yd yo ya S av)) (hS : va_S A s.heap H locs) (hl : lv_has ls 4 [(3, .int (nI i)), (2, .ref yo), (1, .ref xo), (0, .ref b)]) (ih : cwGo p l e s m below meth c b L dC dI A xd yd xo yo xa ya n) : W p l e room_1 s m #[Value.ref b] below meth c H locs 18 1122 (lw_Z below #[Value.ref b] s) (F0 m 235 ls []) := by
  refine lv_aload_n hx hb dL_law_235 rfl (lv_at hl 2 rfl) ?_
  refine lv_aload_n hx hb dL_law_236 rfl (lv_at hl 3 rfl) ?_
  refine lv_iload_n hx hb dL_law_237 rfl (lv_at hl 0 rfl) ?_
  refine lv_iconst (v := (nI 1)) hx hb dL_law_238 (by decide) ?_
  refine cw_iadd hx hb dL_law_239 ?_
  refine cw_sld hx hb hScr hbl hbA hS (by omega) (by omega) dL_law_240 ?_
  refine lv_aload_n hx hb dL_law_241 rfl (lv_at hl 3 rfl) ?_
  refine lv_iload_n hx hb dL_law_242 rfl (lv_at hl 0 rfl) ?_
  refine lv_iconst (v := (nI 2)) hx hb dL_law_243 (by decide) ?_
  refine cw_iadd hx hb dL_law_244 ?_
  refine cw_sld hx hb hScr hbl hbA hS (by omega) (by omega) dL_law_245 ?_
  refine lv_aload_n hx hb dL_law_246 rfl (lv_at hl 3 rfl) ?_
  refine lv_iload_n hx hb dL_law_247 rfl (lv_at hl 0 rfl) ?_
  refine lv_iconst (v := (nI 3)) hx hb dL_law_248 (by decide) ?_
  refine cw_iadd hx hb dL_law_249 ?_
  refine cw_sld hx hb hScr hbl hbA hS (by omega) (by omega) dL_law_250 ?_
  refine cw_bool hx hb dL_law_251 dL_law_254 dL_law_255 dL_law_258 ?_
  refine cw_callV (n := 3) (C := RX0) (As := [.int (xs (i + 1)), .int (xs (i + 2)), .int (bI (xs (i + 3) != 0))]) (rest := []) (wr := (YS yd yo ya S av)) ⟨hx, hb, hml, hown, hts⟩ (mX_receive l dC dI xd xo xa S u v w hO (xs (i + 1)) (xs (i + 2)) (xs (i + 3) != 0)) (lw_V q75 q76 q77 q13 q78) (by decide +kernel) rfl ⟨Nat.le_of_ble_eq_true rfl, Nat.le_of_ble_eq_true rfl⟩ ⟨Nat.le_of_ble_eq_true rfl, Nat.le_of_ble_eq_true rfl⟩ hKX hP hD hS hA [0, 1, 2, 3, 4, 5, 6, 7, 8, 9] [10, 11, 12, 13, 14, 15, 16, 17] rfl rfl rfl (by decide) (by decide) (by decide) rfl rfl rfl hl.1 rfl (Nat.le_of_ble_eq_true rfl) dL_law_259 (fun r1 ux H locs hp1 hP hD hS => ?_)
  have hP : va_P (dC, dI) vwCl (YS yd yo ya S av ++ XS xd xo xa ((cwRecv S (cwIx (xs (i + 1)) 3) (cwIx (xs (i + 2)) (sM S)) (xs (i + 3) != 0)).2) u v w) H := hP
  have hD : va_D A (YS yd yo ya S av ++ XS xd xo xa ((cwRecv S (cwIx (xs (i + 1)) 3) (cwIx (xs (i + 2)) (sM S)) (xs (i + 3) != 0)).2) u v w) := hD
  refine lv_aload_n hx hb dL_law_262 rfl (lv_at hl 1 rfl) ?_
  refine lv_aload_n hx hb dL_law_263 rfl (lv_at hl 3 rfl) ?_
  refine lv_iload_n hx hb dL_law_264 rfl (lv_at hl 0 rfl) ?_
  refine lv_iconst (v := (nI 1)) hx hb dL_law_265 (by decide) ?_
  refine cw_iadd hx hb dL_law_266 ?_
  refine cw_sld hx hb hScr hbl hbA hS (by omega) (by omega) dL_law_267 ?_
  refine lv_aload_n hx hb dL_law_268 rfl (lv_at hl 3 rfl) ?_
  refine lv_iload_n hx hb dL_law_269 rfl (lv_at hl 0 rfl) ?_
  refine lv_iconst (v := (nI 2)) hx hb dL_law_270 (by decide) ?_
  refine cw_iadd hx hb dL_law_271 ?_
  refine cw_sld hx hb hScr hbl hbA hS (by omega) (by omega) dL_law_272 ?_
  refine lv_aload_n hx hb dL_law_273 rfl (lv_at hl 3 rfl) ?_
  refine lv_iload_n hx hb dL_law_274 rfl (lv_at hl 0 rfl) ?_
  refine lv_iconst (v := (nI 3)) hx hb dL_law_275 (by decide) ?_
  refine cw_iadd hx hb dL_law_276 ?_
  refine cw_sld hx hb hScr hbl hbA hS (by omega) (by omega) dL_law_277 ?_
  refine cw_bool hx hb dL_law_278 dL_law_281 dL_law_282 dL_law_285 ?_
  refine cw_callV (n := 3) (C := RX1) (As := [.int (xs (i + 1)), .int (xs (i + 2)), .int (bI (xs (i + 3) != 0))]) (rest := [.int r1]) (wr := (XS xd xo xa ((cwRecv S (cwIx (xs (i + 1)) 3) (cwIx (xs (i + 2)) (sM S)) (xs (i + 3) != 0)).2) u v w)) ⟨hx, hb, hml, hown, hts⟩ (mY_receive l dC dI yd yo ya S av hO (xs (i + 1)) (xs (i + 2)) (xs (i + 3) != 0)) (lw_V q181 q182 q183 q14 q184) (by decide +kernel) rfl ⟨Nat.le_of_ble_eq_true rfl, Nat.le_of_ble_eq_true rfl⟩ ⟨Nat.le_of_ble_eq_true rfl, Nat.le_of_ble_eq_true rfl⟩ hKY hP hD hS hA [0, 1, 2, 3, 4, 5, 6, 7] [8, 9, 10, 11, 12, 13, 14, 15, 16, 17] rfl rfl rfl (by decide) (by decide) (by decide) rfl rfl rfl hl.1 rfl (Nat.le_of_ble_eq_true rfl) dL_law_286 (fun r2 uy H locs hp2 hP hD hS => ?_)
  have hP : va_P (dC, dI) vwCl (XS xd xo xa ((cwRecv S (cwIx (xs (i + 1)) 3) (cwIx (xs (i + 2)) (sM S)) (xs (i + 3) != 0)).2) u v w ++ YS yd yo ya ((cwRecv S (cwIx (xs (i + 1)) 3) (cwIx (xs (i + 2)) (sM S)) (xs (i + 3) != 0)).2) av) H := hP
  have hD : va_D A (XS xd xo xa ((cwRecv S (cwIx (xs (i + 1)) 3) (cwIx (xs (i + 2)) (sM S)) (xs (i + 3) != 0)).2) u v w ++ YS yd yo ya ((cwRecv S (cwIx (xs (i + 1)) 3) (cwIx (xs (i + 2)) (sM S)) (xs (i + 3) != 0)).2) av) := hD
  have heq : r1 = r2 := Eq.trans hp1 (Eq.symm hp2)
  refine lv_icmp_eq (tgt := 452) hx hb dL_law_289 (by decide) (fun _ => ?_) (fun hne => absurd heq hne)
  refine lv_iinc (v := nI (i + 4)) (lv' := [(3, .int (nI (i + 4))), (2, .ref yo), (1, .ref xo), (0, .ref b)]) hx hb dL_law_452 hl (k := 0) rfl (nI_add _ 4) (by decide) rfl (fun ls hl => ?_)
  refine lv_goto (tgt := 18) hx hb dL_law_455 (by decide) ?_
  exact ih (L + 4 - (i + 4)) _ _ _ (by omega) ⟨i + 4, (cwRecv S (cwIx (xs (i + 1)) 3) (cwIx (xs (i + 2)) (sM S)) (xs (i + 3) != 0)).2, u, v, w, av, by omega, cwOk_recv hO _ _ _, rfl, hP, hD, hS, hl⟩
end
section
/-! the law: its ten cases -/
set_option maxHeartbeats 4000000 in
set_option maxRecDepth 100000 in
/-- the law at 294: knows of both, the same answer, and on to the loop's head -/
theorem law_knows {p : Program} {e : Env} {s : State} {m : MethodId} {below : List Frame} {meth : Method} {c : Code} {l : Launch} {b L : Nat} {xs : Nat → Int32} {dC : Nat → ClassId} {dI : Nat → Nat → Nat} {A : Nat → Prop} {H : Heap} {locs : List Loc} {ls : Array Slot} (hx : p.tables.exec = Jvm.exec) (hb : c.code = code) (hml : c.maxLocals = 4) (hown : s.vm.findClass R_law = some m.cls) (hts : ∀ w ∈ lw_all, w.before #[Value.ref b] s = true) (hA : ∀ q : Nat, s.heap.size ≤ q → A q) (hScr : va_X b L xs s s.heap) (hbl : b < s.heap.size) (hbA : ¬ A b) (hL : L ≤ 256) {xd yd : Nat → ClassId} {xo yo : Nat} {xa ya : Nat → Nat} (hKX : va_K (dC, dI) vwCl (XT xd) s) (hKY : va_K (dC, dI) vwCl (YT yd) s) {i n : Nat} {S : WSt} {u v w : Nat → Nat} {av : Nat → Bool} (hi : i ≤ L) (h4 : i + 4 ≤ L) (hO : cwOk S) (hn : n = L + 4 - i) (hP : va_P (dC, dI) vwCl (XS xd xo xa S u v w ++ YS yd yo ya S av) H) (hD : va_D A (XS xd xo xa S u v w ++ YS yd yo ya S av)) (hS : va_S A s.heap H locs) (hl : lv_has ls 4 [(3, .int (nI i)), (2, .ref yo), (1, .ref xo), (0, .ref b)]) (ih : cwGo p l e s m below meth c b L dC dI A xd yd xo yo xa ya n) : W p l e room_1 s m #[Value.ref b] below meth c H locs 18 1122 (lw_Z below #[Value.ref b] s) (F0 m 294 ls []) := by
  refine lv_aload_n hx hb dL_law_294 rfl (lv_at hl 2 rfl) ?_
  refine lv_aload_n hx hb dL_law_295 rfl (lv_at hl 3 rfl) ?_
  refine lv_iload_n hx hb dL_law_296 rfl (lv_at hl 0 rfl) ?_
  refine lv_iconst (v := (nI 1)) hx hb dL_law_297 (by decide) ?_
  refine cw_iadd hx hb dL_law_298 ?_
  refine cw_sld hx hb hScr hbl hbA hS (by omega) (by omega) dL_law_299 ?_
  refine lv_aload_n hx hb dL_law_300 rfl (lv_at hl 3 rfl) ?_
  refine lv_iload_n hx hb dL_law_301 rfl (lv_at hl 0 rfl) ?_
  refine lv_iconst (v := (nI 2)) hx hb dL_law_302 (by decide) ?_
  refine cw_iadd hx hb dL_law_303 ?_
  refine cw_sld hx hb hScr hbl hbA hS (by omega) (by omega) dL_law_304 ?_
  refine lv_aload_n hx hb dL_law_305 rfl (lv_at hl 3 rfl) ?_
  refine lv_iload_n hx hb dL_law_306 rfl (lv_at hl 0 rfl) ?_
  refine lv_iconst (v := (nI 3)) hx hb dL_law_307 (by decide) ?_
  refine cw_iadd hx hb dL_law_308 ?_
  refine cw_sld hx hb hScr hbl hbA hS (by omega) (by omega) dL_law_309 ?_
  refine cw_callV (n := 3) (C := RX0) (As := [.int (xs (i + 1)), .int (xs (i + 2)), .int (xs (i + 3))]) (rest := []) (wr := (YS yd yo ya S av)) ⟨hx, hb, hml, hown, hts⟩ (mX_knows l dC dI xd xo xa S u v w hO (xs (i + 1)) (xs (i + 2)) (xs (i + 3))) (lw_V q83 q84 q85 q13 q86) (by decide +kernel) rfl ⟨Nat.le_of_ble_eq_true rfl, Nat.le_of_ble_eq_true rfl⟩ ⟨Nat.le_of_ble_eq_true rfl, Nat.le_of_ble_eq_true rfl⟩ hKX hP hD hS hA [0, 1, 2, 3, 4, 5, 6, 7, 8, 9] [10, 11, 12, 13, 14, 15, 16, 17] rfl rfl rfl (by decide) (by decide) (by decide) rfl rfl rfl hl.1 rfl (Nat.le_of_ble_eq_true rfl) dL_law_310 (fun r1 ux H locs hp1 hP hD hS => ?_)
  have hP : va_P (dC, dI) vwCl (YS yd yo ya S av ++ XS xd xo xa S u v w) H := hP
  have hD : va_D A (YS yd yo ya S av ++ XS xd xo xa S u v w) := hD
  refine lv_aload_n hx hb dL_law_313 rfl (lv_at hl 1 rfl) ?_
  refine lv_aload_n hx hb dL_law_314 rfl (lv_at hl 3 rfl) ?_
  refine lv_iload_n hx hb dL_law_315 rfl (lv_at hl 0 rfl) ?_
  refine lv_iconst (v := (nI 1)) hx hb dL_law_316 (by decide) ?_
  refine cw_iadd hx hb dL_law_317 ?_
  refine cw_sld hx hb hScr hbl hbA hS (by omega) (by omega) dL_law_318 ?_
  refine lv_aload_n hx hb dL_law_319 rfl (lv_at hl 3 rfl) ?_
  refine lv_iload_n hx hb dL_law_320 rfl (lv_at hl 0 rfl) ?_
  refine lv_iconst (v := (nI 2)) hx hb dL_law_321 (by decide) ?_
  refine cw_iadd hx hb dL_law_322 ?_
  refine cw_sld hx hb hScr hbl hbA hS (by omega) (by omega) dL_law_323 ?_
  refine lv_aload_n hx hb dL_law_324 rfl (lv_at hl 3 rfl) ?_
  refine lv_iload_n hx hb dL_law_325 rfl (lv_at hl 0 rfl) ?_
  refine lv_iconst (v := (nI 3)) hx hb dL_law_326 (by decide) ?_
  refine cw_iadd hx hb dL_law_327 ?_
  refine cw_sld hx hb hScr hbl hbA hS (by omega) (by omega) dL_law_328 ?_
  refine cw_callV (n := 3) (C := RX1) (As := [.int (xs (i + 1)), .int (xs (i + 2)), .int (xs (i + 3))]) (rest := [.int r1]) (wr := (XS xd xo xa S u v w)) ⟨hx, hb, hml, hown, hts⟩ (mY_knows l dC dI yd yo ya S av hO (xs (i + 1)) (xs (i + 2)) (xs (i + 3))) (lw_V q185 q186 q187 q14 q188) (by decide +kernel) rfl ⟨Nat.le_of_ble_eq_true rfl, Nat.le_of_ble_eq_true rfl⟩ ⟨Nat.le_of_ble_eq_true rfl, Nat.le_of_ble_eq_true rfl⟩ hKY hP hD hS hA [0, 1, 2, 3, 4, 5, 6, 7] [8, 9, 10, 11, 12, 13, 14, 15, 16, 17] rfl rfl rfl (by decide) (by decide) (by decide) rfl rfl rfl hl.1 rfl (Nat.le_of_ble_eq_true rfl) dL_law_329 (fun r2 uy H locs hp2 hP hD hS => ?_)
  have hP : va_P (dC, dI) vwCl (XS xd xo xa S u v w ++ YS yd yo ya S av) H := hP
  have hD : va_D A (XS xd xo xa S u v w ++ YS yd yo ya S av) := hD
  have heq : r1 = r2 := Eq.trans hp1 (Eq.symm hp2)
  refine lv_icmp_eq (tgt := 452) hx hb dL_law_332 (by decide) (fun _ => ?_) (fun hne => absurd heq hne)
  refine lv_iinc (v := nI (i + 4)) (lv' := [(3, .int (nI (i + 4))), (2, .ref yo), (1, .ref xo), (0, .ref b)]) hx hb dL_law_452 hl (k := 0) rfl (nI_add _ 4) (by decide) rfl (fun ls hl => ?_)
  refine lv_goto (tgt := 18) hx hb dL_law_455 (by decide) ?_
  exact ih (L + 4 - (i + 4)) _ _ _ (by omega) ⟨i + 4, S, u, v, w, av, by omega, hO, rfl, hP, hD, hS, hl⟩
set_option maxHeartbeats 4000000 in
set_option maxRecDepth 100000 in
/-- the law at 337: possibly of both, the same answer, and on to the loop's head -/
theorem law_possibly {p : Program} {e : Env} {s : State} {m : MethodId} {below : List Frame} {meth : Method} {c : Code} {l : Launch} {b L : Nat} {xs : Nat → Int32} {dC : Nat → ClassId} {dI : Nat → Nat → Nat} {A : Nat → Prop} {H : Heap} {locs : List Loc} {ls : Array Slot} (hx : p.tables.exec = Jvm.exec) (hb : c.code = code) (hml : c.maxLocals = 4) (hown : s.vm.findClass R_law = some m.cls) (hts : ∀ w ∈ lw_all, w.before #[Value.ref b] s = true) (hA : ∀ q : Nat, s.heap.size ≤ q → A q) (hScr : va_X b L xs s s.heap) (hbl : b < s.heap.size) (hbA : ¬ A b) (hL : L ≤ 256) {xd yd : Nat → ClassId} {xo yo : Nat} {xa ya : Nat → Nat} (hKX : va_K (dC, dI) vwCl (XT xd) s) (hKY : va_K (dC, dI) vwCl (YT yd) s) {i n : Nat} {S : WSt} {u v w : Nat → Nat} {av : Nat → Bool} (hi : i ≤ L) (h4 : i + 4 ≤ L) (hO : cwOk S) (hn : n = L + 4 - i) (hP : va_P (dC, dI) vwCl (XS xd xo xa S u v w ++ YS yd yo ya S av) H) (hD : va_D A (XS xd xo xa S u v w ++ YS yd yo ya S av)) (hS : va_S A s.heap H locs) (hl : lv_has ls 4 [(3, .int (nI i)), (2, .ref yo), (1, .ref xo), (0, .ref b)]) (ih : cwGo p l e s m below meth c b L dC dI A xd yd xo yo xa ya n) : W p l e room_1 s m #[Value.ref b] below meth c H locs 18 1122 (lw_Z below #[Value.ref b] s) (F0 m 337 ls []) := by
  refine lv_aload_n hx hb dL_law_337 rfl (lv_at hl 2 rfl) ?_
  refine lv_aload_n hx hb dL_law_338 rfl (lv_at hl 3 rfl) ?_
  refine lv_iload_n hx hb dL_law_339 rfl (lv_at hl 0 rfl) ?_
  refine lv_iconst (v := (nI 1)) hx hb dL_law_340 (by decide) ?_
  refine cw_iadd hx hb dL_law_341 ?_
  refine cw_sld hx hb hScr hbl hbA hS (by omega) (by omega) dL_law_342 ?_
  refine cw_callV (n := 1) (C := RX0) (As := [.int (xs (i + 1))]) (rest := []) (wr := (YS yd yo ya S av)) ⟨hx, hb, hml, hown, hts⟩ (mX_possibly l dC dI xd xo xa S u v w hO (xs (i + 1))) (lw_V q87 q88 q89 q13 q90) (by decide +kernel) rfl ⟨Nat.le_of_ble_eq_true rfl, Nat.le_of_ble_eq_true rfl⟩ ⟨Nat.le_of_ble_eq_true rfl, Nat.le_of_ble_eq_true rfl⟩ hKX hP hD hS hA [0, 1, 2, 3, 4, 5, 6, 7, 8, 9] [10, 11, 12, 13, 14, 15, 16, 17] rfl rfl rfl (by decide) (by decide) (by decide) rfl rfl rfl hl.1 rfl (Nat.le_of_ble_eq_true rfl) dL_law_343 (fun r1 ux H locs hp1 hP hD hS => ?_)
  have hP : va_P (dC, dI) vwCl (YS yd yo ya S av ++ XS xd xo xa S ux v w) H := hP
  have hD : va_D A (YS yd yo ya S av ++ XS xd xo xa S ux v w) := hD
  refine lv_aload_n hx hb dL_law_346 rfl (lv_at hl 1 rfl) ?_
  refine lv_aload_n hx hb dL_law_347 rfl (lv_at hl 3 rfl) ?_
  refine lv_iload_n hx hb dL_law_348 rfl (lv_at hl 0 rfl) ?_
  refine lv_iconst (v := (nI 1)) hx hb dL_law_349 (by decide) ?_
  refine cw_iadd hx hb dL_law_350 ?_
  refine cw_sld hx hb hScr hbl hbA hS (by omega) (by omega) dL_law_351 ?_
  refine cw_callV (n := 1) (C := RX1) (As := [.int (xs (i + 1))]) (rest := [.int r1]) (wr := (XS xd xo xa S ux v w)) ⟨hx, hb, hml, hown, hts⟩ (mY_possibly l dC dI yd yo ya S av hO (xs (i + 1))) (lw_V q189 q190 q191 q14 q192) (by decide +kernel) rfl ⟨Nat.le_of_ble_eq_true rfl, Nat.le_of_ble_eq_true rfl⟩ ⟨Nat.le_of_ble_eq_true rfl, Nat.le_of_ble_eq_true rfl⟩ hKY hP hD hS hA [0, 1, 2, 3, 4, 5, 6, 7] [8, 9, 10, 11, 12, 13, 14, 15, 16, 17] rfl rfl rfl (by decide) (by decide) (by decide) rfl rfl rfl hl.1 rfl (Nat.le_of_ble_eq_true rfl) dL_law_352 (fun r2 uy H locs hp2 hP hD hS => ?_)
  have hP : va_P (dC, dI) vwCl (XS xd xo xa S ux v w ++ YS yd yo ya S av) H := hP
  have hD : va_D A (XS xd xo xa S ux v w ++ YS yd yo ya S av) := hD
  have heq : r1 = r2 := cwPossA_uniq hp1 hp2
  refine lv_icmp_eq (tgt := 452) hx hb dL_law_355 (by decide) (fun _ => ?_) (fun hne => absurd heq hne)
  refine lv_iinc (v := nI (i + 4)) (lv' := [(3, .int (nI (i + 4))), (2, .ref yo), (1, .ref xo), (0, .ref b)]) hx hb dL_law_452 hl (k := 0) rfl (nI_add _ 4) (by decide) rfl (fun ls hl => ?_)
  refine lv_goto (tgt := 18) hx hb dL_law_455 (by decide) ?_
  exact ih (L + 4 - (i + 4)) _ _ _ (by omega) ⟨i + 4, S, ux, v, w, av, by omega, hO, rfl, hP, hD, hS, hl⟩
set_option maxHeartbeats 4000000 in
set_option maxRecDepth 100000 in
/-- the law at 360: least of both, the same answer, and on to the loop's head -/
theorem law_least {p : Program} {e : Env} {s : State} {m : MethodId} {below : List Frame} {meth : Method} {c : Code} {l : Launch} {b L : Nat} {xs : Nat → Int32} {dC : Nat → ClassId} {dI : Nat → Nat → Nat} {A : Nat → Prop} {H : Heap} {locs : List Loc} {ls : Array Slot} (hx : p.tables.exec = Jvm.exec) (hb : c.code = code) (hml : c.maxLocals = 4) (hown : s.vm.findClass R_law = some m.cls) (hts : ∀ w ∈ lw_all, w.before #[Value.ref b] s = true) (hA : ∀ q : Nat, s.heap.size ≤ q → A q) (hScr : va_X b L xs s s.heap) (hbl : b < s.heap.size) (hbA : ¬ A b) (hL : L ≤ 256) {xd yd : Nat → ClassId} {xo yo : Nat} {xa ya : Nat → Nat} (hKX : va_K (dC, dI) vwCl (XT xd) s) (hKY : va_K (dC, dI) vwCl (YT yd) s) {i n : Nat} {S : WSt} {u v w : Nat → Nat} {av : Nat → Bool} (hi : i ≤ L) (h4 : i + 4 ≤ L) (hO : cwOk S) (hn : n = L + 4 - i) (hP : va_P (dC, dI) vwCl (XS xd xo xa S u v w ++ YS yd yo ya S av) H) (hD : va_D A (XS xd xo xa S u v w ++ YS yd yo ya S av)) (hS : va_S A s.heap H locs) (hl : lv_has ls 4 [(3, .int (nI i)), (2, .ref yo), (1, .ref xo), (0, .ref b)]) (ih : cwGo p l e s m below meth c b L dC dI A xd yd xo yo xa ya n) : W p l e room_1 s m #[Value.ref b] below meth c H locs 18 1122 (lw_Z below #[Value.ref b] s) (F0 m 360 ls []) := by
  refine lv_aload_n hx hb dL_law_360 rfl (lv_at hl 2 rfl) ?_
  refine lv_aload_n hx hb dL_law_361 rfl (lv_at hl 3 rfl) ?_
  refine lv_iload_n hx hb dL_law_362 rfl (lv_at hl 0 rfl) ?_
  refine lv_iconst (v := (nI 1)) hx hb dL_law_363 (by decide) ?_
  refine cw_iadd hx hb dL_law_364 ?_
  refine cw_sld hx hb hScr hbl hbA hS (by omega) (by omega) dL_law_365 ?_
  refine lv_aload_n hx hb dL_law_366 rfl (lv_at hl 3 rfl) ?_
  refine lv_iload_n hx hb dL_law_367 rfl (lv_at hl 0 rfl) ?_
  refine lv_iconst (v := (nI 2)) hx hb dL_law_368 (by decide) ?_
  refine cw_iadd hx hb dL_law_369 ?_
  refine cw_sld hx hb hScr hbl hbA hS (by omega) (by omega) dL_law_370 ?_
  refine cw_callV (n := 2) (C := RX0) (As := [.int (xs (i + 1)), .int (xs (i + 2))]) (rest := []) (wr := (YS yd yo ya S av)) ⟨hx, hb, hml, hown, hts⟩ (mX_least l dC dI xd xo xa S u v w hO (xs (i + 1)) (xs (i + 2))) (lw_V q99 q100 q101 q13 q102) (by decide +kernel) rfl ⟨Nat.le_of_ble_eq_true rfl, Nat.le_of_ble_eq_true rfl⟩ ⟨Nat.le_of_ble_eq_true rfl, Nat.le_of_ble_eq_true rfl⟩ hKX hP hD hS hA [0, 1, 2, 3, 4, 5, 6, 7, 8, 9] [10, 11, 12, 13, 14, 15, 16, 17] rfl rfl rfl (by decide) (by decide) (by decide) rfl rfl rfl hl.1 rfl (Nat.le_of_ble_eq_true rfl) dL_law_371 (fun r1 ux H locs hp1 hP hD hS => ?_)
  have hP : va_P (dC, dI) vwCl (YS yd yo ya S av ++ XS xd xo xa S ux v w) H := hP
  have hD : va_D A (YS yd yo ya S av ++ XS xd xo xa S ux v w) := hD
  refine lv_aload_n hx hb dL_law_374 rfl (lv_at hl 1 rfl) ?_
  refine lv_aload_n hx hb dL_law_375 rfl (lv_at hl 3 rfl) ?_
  refine lv_iload_n hx hb dL_law_376 rfl (lv_at hl 0 rfl) ?_
  refine lv_iconst (v := (nI 1)) hx hb dL_law_377 (by decide) ?_
  refine cw_iadd hx hb dL_law_378 ?_
  refine cw_sld hx hb hScr hbl hbA hS (by omega) (by omega) dL_law_379 ?_
  refine lv_aload_n hx hb dL_law_380 rfl (lv_at hl 3 rfl) ?_
  refine lv_iload_n hx hb dL_law_381 rfl (lv_at hl 0 rfl) ?_
  refine lv_iconst (v := (nI 2)) hx hb dL_law_382 (by decide) ?_
  refine cw_iadd hx hb dL_law_383 ?_
  refine cw_sld hx hb hScr hbl hbA hS (by omega) (by omega) dL_law_384 ?_
  refine cw_callV (n := 2) (C := RX1) (As := [.int (xs (i + 1)), .int (xs (i + 2))]) (rest := [.int r1]) (wr := (XS xd xo xa S ux v w)) ⟨hx, hb, hml, hown, hts⟩ (mY_least l dC dI yd yo ya S av hO (xs (i + 1)) (xs (i + 2))) (lw_V q207 q208 q209 q14 q210) (by decide +kernel) rfl ⟨Nat.le_of_ble_eq_true rfl, Nat.le_of_ble_eq_true rfl⟩ ⟨Nat.le_of_ble_eq_true rfl, Nat.le_of_ble_eq_true rfl⟩ hKY hP hD hS hA [0, 1, 2, 3, 4, 5, 6, 7] [8, 9, 10, 11, 12, 13, 14, 15, 16, 17] rfl rfl rfl (by decide) (by decide) (by decide) rfl rfl rfl hl.1 rfl (Nat.le_of_ble_eq_true rfl) dL_law_385 (fun r2 uy H locs hp2 hP hD hS => ?_)
  have hP : va_P (dC, dI) vwCl (XS xd xo xa S ux v w ++ YS yd yo ya S av) H := hP
  have hD : va_D A (XS xd xo xa S ux v w ++ YS yd yo ya S av) := hD
  have heq : r1 = r2 := cwLeastA_uniq hp1 hp2
  refine lv_icmp_eq (tgt := 452) hx hb dL_law_388 (by decide) (fun _ => ?_) (fun hne => absurd heq hne)
  refine lv_iinc (v := nI (i + 4)) (lv' := [(3, .int (nI (i + 4))), (2, .ref yo), (1, .ref xo), (0, .ref b)]) hx hb dL_law_452 hl (k := 0) rfl (nI_add _ 4) (by decide) rfl (fun ls hl => ?_)
  refine lv_goto (tgt := 18) hx hb dL_law_455 (by decide) ?_
  exact ih (L + 4 - (i + 4)) _ _ _ (by omega) ⟨i + 4, S, ux, v, w, av, by omega, hO, rfl, hP, hD, hS, hl⟩
set_option maxHeartbeats 4000000 in
set_option maxRecDepth 100000 in
/-- the law at 393: definitely of both, the same answer, and on to the loop's head -/
theorem law_definitely {p : Program} {e : Env} {s : State} {m : MethodId} {below : List Frame} {meth : Method} {c : Code} {l : Launch} {b L : Nat} {xs : Nat → Int32} {dC : Nat → ClassId} {dI : Nat → Nat → Nat} {A : Nat → Prop} {H : Heap} {locs : List Loc} {ls : Array Slot} (hx : p.tables.exec = Jvm.exec) (hb : c.code = code) (hml : c.maxLocals = 4) (hown : s.vm.findClass R_law = some m.cls) (hts : ∀ w ∈ lw_all, w.before #[Value.ref b] s = true) (hA : ∀ q : Nat, s.heap.size ≤ q → A q) (hScr : va_X b L xs s s.heap) (hbl : b < s.heap.size) (hbA : ¬ A b) (hL : L ≤ 256) {xd yd : Nat → ClassId} {xo yo : Nat} {xa ya : Nat → Nat} (hKX : va_K (dC, dI) vwCl (XT xd) s) (hKY : va_K (dC, dI) vwCl (YT yd) s) {i n : Nat} {S : WSt} {u v w : Nat → Nat} {av : Nat → Bool} (hi : i ≤ L) (h4 : i + 4 ≤ L) (hO : cwOk S) (hn : n = L + 4 - i) (hP : va_P (dC, dI) vwCl (XS xd xo xa S u v w ++ YS yd yo ya S av) H) (hD : va_D A (XS xd xo xa S u v w ++ YS yd yo ya S av)) (hS : va_S A s.heap H locs) (hl : lv_has ls 4 [(3, .int (nI i)), (2, .ref yo), (1, .ref xo), (0, .ref b)]) (ih : cwGo p l e s m below meth c b L dC dI A xd yd xo yo xa ya n) : W p l e room_1 s m #[Value.ref b] below meth c H locs 18 1122 (lw_Z below #[Value.ref b] s) (F0 m 393 ls []) := by
  refine lv_aload_n hx hb dL_law_393 rfl (lv_at hl 2 rfl) ?_
  refine lv_aload_n hx hb dL_law_394 rfl (lv_at hl 3 rfl) ?_
  refine lv_iload_n hx hb dL_law_395 rfl (lv_at hl 0 rfl) ?_
  refine lv_iconst (v := (nI 1)) hx hb dL_law_396 (by decide) ?_
  refine cw_iadd hx hb dL_law_397 ?_
  refine cw_sld hx hb hScr hbl hbA hS (by omega) (by omega) dL_law_398 ?_
  refine cw_callV (n := 1) (C := RX0) (As := [.int (xs (i + 1))]) (rest := []) (wr := (YS yd yo ya S av)) ⟨hx, hb, hml, hown, hts⟩ (mX_definitely l dC dI xd xo xa S u v w hO (xs (i + 1))) (lw_V q103 q104 q105 q13 q106) (by decide +kernel) rfl ⟨Nat.le_of_ble_eq_true rfl, Nat.le_of_ble_eq_true rfl⟩ ⟨Nat.le_of_ble_eq_true rfl, Nat.le_of_ble_eq_true rfl⟩ hKX hP hD hS hA [0, 1, 2, 3, 4, 5, 6, 7, 8, 9] [10, 11, 12, 13, 14, 15, 16, 17] rfl rfl rfl (by decide) (by decide) (by decide) rfl rfl rfl hl.1 rfl (Nat.le_of_ble_eq_true rfl) dL_law_399 (fun r1 ux H locs hp1 hP hD hS => ?_)
  have hP : va_P (dC, dI) vwCl (YS yd yo ya S av ++ XS xd xo xa S u ux.1 ux.2) H := hP
  have hD : va_D A (YS yd yo ya S av ++ XS xd xo xa S u ux.1 ux.2) := hD
  refine lv_aload_n hx hb dL_law_402 rfl (lv_at hl 1 rfl) ?_
  refine lv_aload_n hx hb dL_law_403 rfl (lv_at hl 3 rfl) ?_
  refine lv_iload_n hx hb dL_law_404 rfl (lv_at hl 0 rfl) ?_
  refine lv_iconst (v := (nI 1)) hx hb dL_law_405 (by decide) ?_
  refine cw_iadd hx hb dL_law_406 ?_
  refine cw_sld hx hb hScr hbl hbA hS (by omega) (by omega) dL_law_407 ?_
  refine cw_callV (n := 1) (C := RX1) (As := [.int (xs (i + 1))]) (rest := [.int r1]) (wr := (XS xd xo xa S u ux.1 ux.2)) ⟨hx, hb, hml, hown, hts⟩ (mY_definitely l dC dI yd yo ya S av hO (xs (i + 1))) (lw_V q211 q212 q213 q14 q214) (by decide +kernel) rfl ⟨Nat.le_of_ble_eq_true rfl, Nat.le_of_ble_eq_true rfl⟩ ⟨Nat.le_of_ble_eq_true rfl, Nat.le_of_ble_eq_true rfl⟩ hKY hP hD hS hA [0, 1, 2, 3, 4, 5, 6, 7] [8, 9, 10, 11, 12, 13, 14, 15, 16, 17] rfl rfl rfl (by decide) (by decide) (by decide) rfl rfl rfl hl.1 rfl (Nat.le_of_ble_eq_true rfl) dL_law_408 (fun r2 uy H locs hp2 hP hD hS => ?_)
  have hP : va_P (dC, dI) vwCl (XS xd xo xa S u ux.1 ux.2 ++ YS yd yo ya S uy) H := hP
  have hD : va_D A (XS xd xo xa S u ux.1 ux.2 ++ YS yd yo ya S uy) := hD
  have heq : r1 = r2 := cwDef_eq hp1 hp2
  refine lv_icmp_eq (tgt := 452) hx hb dL_law_411 (by decide) (fun _ => ?_) (fun hne => absurd heq hne)
  refine lv_iinc (v := nI (i + 4)) (lv' := [(3, .int (nI (i + 4))), (2, .ref yo), (1, .ref xo), (0, .ref b)]) hx hb dL_law_452 hl (k := 0) rfl (nI_add _ 4) (by decide) rfl (fun ls hl => ?_)
  refine lv_goto (tgt := 18) hx hb dL_law_455 (by decide) ?_
  exact ih (L + 4 - (i + 4)) _ _ _ (by omega) ⟨i + 4, S, u, ux.1, ux.2, uy, by omega, hO, rfl, hP, hD, hS, hl⟩
set_option maxHeartbeats 4000000 in
set_option maxRecDepth 100000 in
/-- the law at 416: cuts of both, the same answer, and on to the loop's head -/
theorem law_cuts {p : Program} {e : Env} {s : State} {m : MethodId} {below : List Frame} {meth : Method} {c : Code} {l : Launch} {b L : Nat} {xs : Nat → Int32} {dC : Nat → ClassId} {dI : Nat → Nat → Nat} {A : Nat → Prop} {H : Heap} {locs : List Loc} {ls : Array Slot} (hx : p.tables.exec = Jvm.exec) (hb : c.code = code) (hml : c.maxLocals = 4) (hown : s.vm.findClass R_law = some m.cls) (hts : ∀ w ∈ lw_all, w.before #[Value.ref b] s = true) (hA : ∀ q : Nat, s.heap.size ≤ q → A q) (hScr : va_X b L xs s s.heap) (hbl : b < s.heap.size) (hbA : ¬ A b) (hL : L ≤ 256) {xd yd : Nat → ClassId} {xo yo : Nat} {xa ya : Nat → Nat} (hKX : va_K (dC, dI) vwCl (XT xd) s) (hKY : va_K (dC, dI) vwCl (YT yd) s) {i n : Nat} {S : WSt} {u v w : Nat → Nat} {av : Nat → Bool} (hi : i ≤ L) (h4 : i + 4 ≤ L) (hO : cwOk S) (hn : n = L + 4 - i) (hP : va_P (dC, dI) vwCl (XS xd xo xa S u v w ++ YS yd yo ya S av) H) (hD : va_D A (XS xd xo xa S u v w ++ YS yd yo ya S av)) (hS : va_S A s.heap H locs) (hl : lv_has ls 4 [(3, .int (nI i)), (2, .ref yo), (1, .ref xo), (0, .ref b)]) (ih : cwGo p l e s m below meth c b L dC dI A xd yd xo yo xa ya n) : W p l e room_1 s m #[Value.ref b] below meth c H locs 18 1122 (lw_Z below #[Value.ref b] s) (F0 m 416 ls []) := by
  refine lv_aload_n hx hb dL_law_416 rfl (lv_at hl 2 rfl) ?_
  refine cw_callV (n := 0) (C := RX0) (As := []) (rest := []) (wr := (YS yd yo ya S av)) ⟨hx, hb, hml, hown, hts⟩ (mX_cuts l dC dI xd xo xa S u v w hO ) (lw_V q119 q120 q121 q13 q122) (by decide +kernel) rfl ⟨Nat.le_of_ble_eq_true rfl, Nat.le_of_ble_eq_true rfl⟩ ⟨Nat.le_of_ble_eq_true rfl, Nat.le_of_ble_eq_true rfl⟩ hKX hP hD hS hA [0, 1, 2, 3, 4, 5, 6, 7, 8, 9] [10, 11, 12, 13, 14, 15, 16, 17] rfl rfl rfl (by decide) (by decide) (by decide) rfl rfl rfl hl.1 rfl (Nat.le_of_ble_eq_true rfl) dL_law_417 (fun r1 ux H locs hp1 hP hD hS => ?_)
  have hP : va_P (dC, dI) vwCl (YS yd yo ya S av ++ XS xd xo xa S u v w) H := hP
  have hD : va_D A (YS yd yo ya S av ++ XS xd xo xa S u v w) := hD
  refine lv_aload_n hx hb dL_law_420 rfl (lv_at hl 1 rfl) ?_
  refine cw_callV (n := 0) (C := RX1) (As := []) (rest := [.int r1]) (wr := (XS xd xo xa S u v w)) ⟨hx, hb, hml, hown, hts⟩ (mY_cuts l dC dI yd yo ya S av hO ) (lw_V q219 q220 q221 q14 q222) (by decide +kernel) rfl ⟨Nat.le_of_ble_eq_true rfl, Nat.le_of_ble_eq_true rfl⟩ ⟨Nat.le_of_ble_eq_true rfl, Nat.le_of_ble_eq_true rfl⟩ hKY hP hD hS hA [0, 1, 2, 3, 4, 5, 6, 7] [8, 9, 10, 11, 12, 13, 14, 15, 16, 17] rfl rfl rfl (by decide) (by decide) (by decide) rfl rfl rfl hl.1 rfl (Nat.le_of_ble_eq_true rfl) dL_law_421 (fun r2 uy H locs hp2 hP hD hS => ?_)
  have hP : va_P (dC, dI) vwCl (XS xd xo xa S u v w ++ YS yd yo ya S av) H := hP
  have hD : va_D A (XS xd xo xa S u v w ++ YS yd yo ya S av) := hD
  have heq : r1 = r2 := Eq.trans hp1 (Eq.symm hp2)
  refine lv_icmp_eq (tgt := 452) hx hb dL_law_424 (by decide) (fun _ => ?_) (fun hne => absurd heq hne)
  refine lv_iinc (v := nI (i + 4)) (lv' := [(3, .int (nI (i + 4))), (2, .ref yo), (1, .ref xo), (0, .ref b)]) hx hb dL_law_452 hl (k := 0) rfl (nI_add _ 4) (by decide) rfl (fun ls hl => ?_)
  refine lv_goto (tgt := 18) hx hb dL_law_455 (by decide) ?_
  exact ih (L + 4 - (i + 4)) _ _ _ (by omega) ⟨i + 4, S, u, v, w, av, by omega, hO, rfl, hP, hD, hS, hl⟩
set_option maxHeartbeats 4000000 in
set_option maxRecDepth 100000 in
/-- the law at 429: events of both, the same answer, and on to the loop's head -/
theorem law_events {p : Program} {e : Env} {s : State} {m : MethodId} {below : List Frame} {meth : Method} {c : Code} {l : Launch} {b L : Nat} {xs : Nat → Int32} {dC : Nat → ClassId} {dI : Nat → Nat → Nat} {A : Nat → Prop} {H : Heap} {locs : List Loc} {ls : Array Slot} (hx : p.tables.exec = Jvm.exec) (hb : c.code = code) (hml : c.maxLocals = 4) (hown : s.vm.findClass R_law = some m.cls) (hts : ∀ w ∈ lw_all, w.before #[Value.ref b] s = true) (hA : ∀ q : Nat, s.heap.size ≤ q → A q) (hScr : va_X b L xs s s.heap) (hbl : b < s.heap.size) (hbA : ¬ A b) (hL : L ≤ 256) {xd yd : Nat → ClassId} {xo yo : Nat} {xa ya : Nat → Nat} (hKX : va_K (dC, dI) vwCl (XT xd) s) (hKY : va_K (dC, dI) vwCl (YT yd) s) {i n : Nat} {S : WSt} {u v w : Nat → Nat} {av : Nat → Bool} (hi : i ≤ L) (h4 : i + 4 ≤ L) (hO : cwOk S) (hn : n = L + 4 - i) (hP : va_P (dC, dI) vwCl (XS xd xo xa S u v w ++ YS yd yo ya S av) H) (hD : va_D A (XS xd xo xa S u v w ++ YS yd yo ya S av)) (hS : va_S A s.heap H locs) (hl : lv_has ls 4 [(3, .int (nI i)), (2, .ref yo), (1, .ref xo), (0, .ref b)]) (ih : cwGo p l e s m below meth c b L dC dI A xd yd xo yo xa ya n) : W p l e room_1 s m #[Value.ref b] below meth c H locs 18 1122 (lw_Z below #[Value.ref b] s) (F0 m 429 ls []) := by
  refine lv_aload_n hx hb dL_law_429 rfl (lv_at hl 2 rfl) ?_
  refine lv_aload_n hx hb dL_law_430 rfl (lv_at hl 3 rfl) ?_
  refine lv_iload_n hx hb dL_law_431 rfl (lv_at hl 0 rfl) ?_
  refine lv_iconst (v := (nI 1)) hx hb dL_law_432 (by decide) ?_
  refine cw_iadd hx hb dL_law_433 ?_
  refine cw_sld hx hb hScr hbl hbA hS (by omega) (by omega) dL_law_434 ?_
  refine cw_callV (n := 1) (C := RX0) (As := [.int (xs (i + 1))]) (rest := []) (wr := (YS yd yo ya S av)) ⟨hx, hb, hml, hown, hts⟩ (mX_events l dC dI xd xo xa S u v w (xs (i + 1))) (lw_V q127 q128 q129 q13 q130) (by decide +kernel) rfl ⟨Nat.le_of_ble_eq_true rfl, Nat.le_of_ble_eq_true rfl⟩ ⟨Nat.le_of_ble_eq_true rfl, Nat.le_of_ble_eq_true rfl⟩ hKX hP hD hS hA [0, 1, 2, 3, 4, 5, 6, 7, 8, 9] [10, 11, 12, 13, 14, 15, 16, 17] rfl rfl rfl (by decide) (by decide) (by decide) rfl rfl rfl hl.1 rfl (Nat.le_of_ble_eq_true rfl) dL_law_435 (fun r1 ux H locs hp1 hP hD hS => ?_)
  have hP : va_P (dC, dI) vwCl (YS yd yo ya S av ++ XS xd xo xa S u v w) H := hP
  have hD : va_D A (YS yd yo ya S av ++ XS xd xo xa S u v w) := hD
  refine lv_aload_n hx hb dL_law_438 rfl (lv_at hl 1 rfl) ?_
  refine lv_aload_n hx hb dL_law_439 rfl (lv_at hl 3 rfl) ?_
  refine lv_iload_n hx hb dL_law_440 rfl (lv_at hl 0 rfl) ?_
  refine lv_iconst (v := (nI 1)) hx hb dL_law_441 (by decide) ?_
  refine cw_iadd hx hb dL_law_442 ?_
  refine cw_sld hx hb hScr hbl hbA hS (by omega) (by omega) dL_law_443 ?_
  refine cw_callV (n := 1) (C := RX1) (As := [.int (xs (i + 1))]) (rest := [.int r1]) (wr := (XS xd xo xa S u v w)) ⟨hx, hb, hml, hown, hts⟩ (mY_events l dC dI yd yo ya S av (xs (i + 1))) (lw_V q223 q224 q225 q14 q226) (by decide +kernel) rfl ⟨Nat.le_of_ble_eq_true rfl, Nat.le_of_ble_eq_true rfl⟩ ⟨Nat.le_of_ble_eq_true rfl, Nat.le_of_ble_eq_true rfl⟩ hKY hP hD hS hA [0, 1, 2, 3, 4, 5, 6, 7] [8, 9, 10, 11, 12, 13, 14, 15, 16, 17] rfl rfl rfl (by decide) (by decide) (by decide) rfl rfl rfl hl.1 rfl (Nat.le_of_ble_eq_true rfl) dL_law_444 (fun r2 uy H locs hp2 hP hD hS => ?_)
  have hP : va_P (dC, dI) vwCl (XS xd xo xa S u v w ++ YS yd yo ya S av) H := hP
  have hD : va_D A (XS xd xo xa S u v w ++ YS yd yo ya S av) := hD
  have heq : r1 = r2 := Eq.trans hp1 (Eq.symm hp2)
  refine lv_icmp_eq (tgt := 452) hx hb dL_law_447 (by decide) (fun _ => ?_) (fun hne => absurd heq hne)
  refine lv_iinc (v := nI (i + 4)) (lv' := [(3, .int (nI (i + 4))), (2, .ref yo), (1, .ref xo), (0, .ref b)]) hx hb dL_law_452 hl (k := 0) rfl (nI_add _ 4) (by decide) rfl (fun ls hl => ?_)
  refine lv_goto (tgt := 18) hx hb dL_law_455 (by decide) ?_
  exact ih (L + 4 - (i + 4)) _ _ _ (by omega) ⟨i + 4, S, u, v, w, av, by omega, hO, rfl, hP, hD, hS, hl⟩
end
section
set_option maxHeartbeats 4000000 in
set_option maxRecDepth 100000 in
/-- the law's loop -/
theorem law_loop {p : Program} {e : Env} {s : State} {m : MethodId} {below : List Frame} {meth : Method} {c : Code} {l : Launch} {b L : Nat} {xs : Nat → Int32} {dC : Nat → ClassId} {dI : Nat → Nat → Nat} {A : Nat → Prop} {H : Heap} {locs : List Loc} {ls : Array Slot} (hx : p.tables.exec = Jvm.exec) (hb : c.code = code) (hml : c.maxLocals = 4) (hown : s.vm.findClass R_law = some m.cls) (hts : ∀ w ∈ lw_all, w.before #[Value.ref b] s = true) (hA : ∀ q : Nat, s.heap.size ≤ q → A q) (hScr : va_X b L xs s s.heap) (hbl : b < s.heap.size) (hbA : ¬ A b) (hL : L ≤ 256) {xd yd : Nat → ClassId} {xo yo : Nat} {xa ya : Nat → Nat} (hKX : va_K (dC, dI) vwCl (XT xd) s) (hKY : va_K (dC, dI) vwCl (YT yd) s) (hr : meth.sig.returnType = ret) (hlocks : meth.locks = false) (hforget : ∀ q : Nat, A q → s.heap.size ≤ q) {n : Nat} (hI : cwInv b L s dC dI A xd yd xo yo xa ya n H locs ls) : W p l e room_1 s m #[Value.ref b] below meth c H locs 18 1122 (lw_Z below #[Value.ref b] s) (F0 m 18 ls []) := by
  refine cw_loop (head := 18) (I := cwInv b L s dC dI A xd yd xo yo xa ya) ?_ n hI
  intro n H locs ls ⟨i, S, u, v, w, av, hi, hO, hn, hP, hD, hS, hl⟩ ih
  refine lv_iload_n hx hb dL_law_18 rfl (lv_at hl 0 rfl) ?_
  refine lv_aload_n hx hb dL_law_19 rfl (lv_at hl 3 rfl) ?_
  refine va_slen hx hb hScr hbl hbA hS dL_law_20 ?_
  refine lv_iconst (v := nI 4) hx hb dL_law_21 (by decide) ?_
  refine lv_isub hx hb dL_law_22 ?_
  refine lv_icmp_gt (tgt := 458) hx hb dL_law_23 (by decide) (fun h4 => ?_) (fun h4 => ?_)
  · refine lv_iconst (v := 1) hx hb dL_law_458 (by decide) ?_
    refine va_forget (fun q hq => hforget _ (hS.2.2 q hq)) ?_
    refine W.widen (k := 600000) (n := 7290000) (Nat.le_of_ble_eq_true rfl) (Nat.le_of_ble_eq_true rfl) ?_
    exact lw_ret hx hb hr hlocks dL_law_459
  · have h4 : i + 4 ≤ L := cw_lawge (by omega) (by omega) h4
    refine lv_aload_n hx hb dL_law_26 rfl (lv_at hl 3 rfl) ?_
    refine lv_iload_n hx hb dL_law_27 rfl (lv_at hl 0 rfl) ?_
    refine cw_sld hx hb hScr hbl hbA hS (by omega) (by omega) dL_law_28 ?_
    refine lv_bipush (v := nI 15) hx hb dL_law_29 (by decide) ?_
    refine lv_iand hx hb dL_law_31 ?_
    obtain ⟨j, hj, ej⟩ := pk_andE (xs i) (m := nI 15) 4 (by decide)
    refine cw_top ej ?_
    have hj2 : j = 0 ∨ j = 1 ∨ j = 2 ∨ j = 3 ∨ j = 4 ∨ j = 5 ∨ j = 6 ∨ j = 7 ∨ j = 8 ∨ j = 9 ∨ 10 ≤ j := by omega
    rcases hj2 with rfl | rfl | rfl | rfl | rfl | rfl | rfl | rfl | rfl | rfl | hj2
    · refine lv_tableIn (x := nI 0) (off := 56) (tgt := 88) hx hb dL_law_32 (by decide) (by decide) (by decide) (by decide) ?_
      exact law_start hx hb hml hown hts hA hScr hbl hbA hL hKX hKY hi h4 hO hn hP hD hS hl ih
    · refine lv_tableIn (x := nI 1) (off := 105) (tgt := 137) hx hb dL_law_32 (by decide) (by decide) (by decide) (by decide) ?_
      exact law_step hx hb hml hown hts hA hScr hbl hbA hL hKX hKY hi h4 hO hn hP hD hS hl ih
    · refine lv_tableIn (x := nI 2) (off := 154) (tgt := 186) hx hb dL_law_32 (by decide) (by decide) (by decide) (by decide) ?_
      exact law_send hx hb hml hown hts hA hScr hbl hbA hL hKX hKY hi h4 hO hn hP hD hS hl ih
    · refine lv_tableIn (x := nI 3) (off := 203) (tgt := 235) hx hb dL_law_32 (by decide) (by decide) (by decide) (by decide) ?_
      exact law_receive hx hb hml hown hts hA hScr hbl hbA hL hKX hKY hi h4 hO hn hP hD hS hl ih
    · refine lv_tableIn (x := nI 4) (off := 262) (tgt := 294) hx hb dL_law_32 (by decide) (by decide) (by decide) (by decide) ?_
      exact law_knows hx hb hml hown hts hA hScr hbl hbA hL hKX hKY hi h4 hO hn hP hD hS hl ih
    · refine lv_tableIn (x := nI 5) (off := 305) (tgt := 337) hx hb dL_law_32 (by decide) (by decide) (by decide) (by decide) ?_
      exact law_possibly hx hb hml hown hts hA hScr hbl hbA hL hKX hKY hi h4 hO hn hP hD hS hl ih
    · refine lv_tableIn (x := nI 6) (off := 328) (tgt := 360) hx hb dL_law_32 (by decide) (by decide) (by decide) (by decide) ?_
      exact law_least hx hb hml hown hts hA hScr hbl hbA hL hKX hKY hi h4 hO hn hP hD hS hl ih
    · refine lv_tableIn (x := nI 7) (off := 361) (tgt := 393) hx hb dL_law_32 (by decide) (by decide) (by decide) (by decide) ?_
      exact law_definitely hx hb hml hown hts hA hScr hbl hbA hL hKX hKY hi h4 hO hn hP hD hS hl ih
    · refine lv_tableIn (x := nI 8) (off := 384) (tgt := 416) hx hb dL_law_32 (by decide) (by decide) (by decide) (by decide) ?_
      exact law_cuts hx hb hml hown hts hA hScr hbl hbA hL hKX hKY hi h4 hO hn hP hD hS hl ih
    · refine lv_tableIn (x := nI 9) (off := 397) (tgt := 429) hx hb dL_law_32 (by decide) (by decide) (by decide) (by decide) ?_
      exact law_events hx hb hml hown hts hA hScr hbl hbA hL hKX hKY hi h4 hO hn hP hD hS hl ih
    · refine lv_tableOut (x := nI j) (tgt := 452) hx hb dL_law_32 (Or.inr (by rw [nI_toInt (by omega)]; omega)) (by decide) ?_
      refine lv_iinc (v := nI (i + 4)) (lv' := [(3, .int (nI (i + 4))), (2, .ref yo), (1, .ref xo), (0, .ref b)]) hx hb dL_law_452 hl (k := 0) rfl (nI_add _ 4) (by decide) rfl (fun ls hl => ?_)
      refine lv_goto (tgt := 18) hx hb dL_law_455 (by decide) ?_
      exact ih (L + 4 - (i + 4)) _ _ _ (by omega) ⟨i + 4, S, u, v, w, av, by omega, hO, rfl, hP, hD, hS, hl⟩
set_option maxHeartbeats 4000000 in
set_option maxRecDepth 100000 in
/-- YOUR PART: from the entry, for every script of at most 256 ints, the law comes to its end with true -/
theorem whole_start {p : Program} {e : Env} {s : State} {m : MethodId} {below : List Frame} {meth : Method} {c : Code} (l : Launch) {b L : Nat} {xs : Nat → Int32} (hL : L ≤ 256) (C0 : lw_At p s m meth c b L xs) : W p l e room_1 s m #[Value.ref b] below meth c s.heap [] 0 0 (lw_Z below #[Value.ref b] s) (entryFrame m ([Value.ref b] : List Value).toArray 4) := by
  obtain ⟨hx, hb, hr, hml, hown, hts0, hScr, hbl, hlocks, hgv⟩ := id C0
  have hts : ∀ w ∈ lw_all, w.before #[Value.ref b] s = true := fun w h => hts0 w (lw_all_tbl h)
  have hA : ∀ q : Nat, s.heap.size ≤ q → (fun q : Nat => s.heap.size ≤ q) q := fun _ h => h
  have hbA : ¬ (fun q : Nat => s.heap.size ≤ q) b := Nat.not_le.mpr hbl
  obtain ⟨c0_, iS0, hKn0⟩ := u_known (C := RX0) (T := TX0) (N := 10) (n := 10) hts in_X0 (hts _ q16)
  obtain ⟨c1_, iS1, hKn1⟩ := u_known (C := RX1) (T := TX1) (N := 8) (n := 8) hts in_X1 (hts _ q132)
  obtain ⟨dC, dI, hKc⟩ : ∃ (dC : Nat → ClassId) (dI : Nat → Nat → Nat), ∀ (k : Nat) (q : vw_C), vwCl[k]? = some q → u_Kn s q.1 q.2.1 q.2.2 (dC k) (dI k) := by
    refine ⟨fun k => if k = 0 then c0_ else c1_, fun k => if k = 0 then iS0 else iS1, ?_⟩
    intro k q hq
    match k, hq with
    | 0, hq => cases hq; exact hKn0
    | 1, hq => cases hq; exact hKn1
    | k + 2, hq => simp [vwCl] at hq
  have hS : va_S (fun q : Nat => s.heap.size ≤ q) s.heap s.heap [] := va_S.rf
  have hK : va_K (dC, dI) vwCl [] s := ⟨hKc, fun k q h => by simp at h⟩
  have hP : va_P (dC, dI) vwCl [] s.heap := fun k q h => by simp at h
  have hD : va_D (fun q : Nat => s.heap.size ≤ q) [] := ⟨fun i j p q h => by simp at h, fun k q h => by simp at h⟩
  have hl := lv_entry ([.ref b]) (n := 4) (Nat.le_of_ble_eq_true rfl)
  rw [lg_entry_eq]
  generalize (lg_sl ([.ref b]) ++ List.replicate (4 - (lg_sl ([.ref b])).length) Slot.unset).toArray = ls at hl ⊢
  have hl : lv_has ls 4 [(0, .ref b)] := hl
  refine va_new (ci := 0) (fs := XF0) (C := RX0) (T := TX0) (N := 10) hx hb hts in_X0 tyX0 tyX0_ok hown (hts _ q15) (hts _ q16) (hts _ q13) hK hP hD hS hA rfl (fun j hj => by rcases (show j = 0 ∨ j = 1 ∨ j = 2 ∨ j = 3 ∨ j = 4 ∨ j = 5 ∨ j = 6 ∨ j = 7 ∨ j = 8 ∨ j = 9 by omega) with rfl | rfl | rfl | rfl | rfl | rfl | rfl | rfl | rfl | rfl <;> rfl) (Nat.le_of_ble_eq_true rfl) (Nat.le_of_ble_eq_true rfl) dL_law_0 (fun xo H hP hD hS => ?_)
  have hP : va_P (dC, dI) vwCl ([(xo, .inr (0, XF0))]) H := hP
  have hD : va_D (fun q : Nat => s.heap.size ≤ q) ([(xo, .inr (0, XF0))]) := hD
  refine W.widen (k := 1) (n := 10) (Nat.le_of_ble_eq_true rfl) (Nat.le_of_ble_eq_true rfl) ?_
  refine lv_dup hx hb dL_law_3 rfl ?_
  have hPc := hP.sub (ws' := [(xo, .inr (0, XF0))]) [0] rfl
  have hDc := hD.sub (ws' := [(xo, .inr (0, XF0))]) [0] (by decide) rfl
  have hK0 := hK.sub (tys' := []) [] rfl
  have hFc := va_free (wc := [(xo, .inr (0, XF0))]) hD hS hA [0] rfl
  refine va_callv (va_runI (As := []) (rest := [.ref xo]) ⟨hx, hb, hml, hown, hts⟩ (mX_init l dC dI xo H.size) (cwI 0 hts (lw_meth q19) rfl rfl rfl (hts _ q13) (hts _ q17) (hts _ q18) rfl (by decide +kernel) ⟨Nat.le_of_ble_eq_true rfl, Nat.le_of_ble_eq_true rfl⟩) ⟨fun a U g mk q => by obtain ⟨q0, q1, qP, qK, qD⟩ := q; exact ⟨q0, q1, qP, va_K.moved (u := U) (U := U.calling g mk a) (Vm.Alike.refl U.vm) qK, qD⟩, fun U hU hW => ⟨rfl, by rw [hU], by rw [hU]; exact hPc, va_K.moved hW.alike hK0, hDc.weaken (fun _ _ _ _ => trivial)⟩⟩ rfl rfl hl.1 rfl (lv_room (Nat.le_of_ble_eq_true rfl)) dL_law_4 ⟨Nat.le_of_ble_eq_true rfl, Nat.le_of_ble_eq_true rfl⟩) hS (fun q _ h => hFc q h) hFc (fun uxo t H1 locs ht hvm hw hB hz1 hk1 hS => ?_)
  obtain ⟨xd, xa⟩ := uxo
  obtain ⟨hP1, hK1, hD1⟩ := hB
  rw [ht] at hP1
  have hKX : va_K (dC, dI) vwCl (XT xd) s := va_K.moved hvm.symm hK1
  obtain ⟨hP, hD⟩ := va_join (wr := []) (w1 := XS xd xo xa cwS0 (fun _ => 0) (fun _ => 0) (fun _ => 0)) hP hD [0] [] rfl rfl (by decide) (by decide) hk1 hFc hP1 hD1
  generalize H1 = H at hP hS ⊢
  have hP : va_P (dC, dI) vwCl (XS xd xo xa cwS0 (fun _ => 0) (fun _ => 0) (fun _ => 0)) H := hP
  have hD : va_D (fun q : Nat => s.heap.size ≤ q) (XS xd xo xa cwS0 (fun _ => 0) (fun _ => 0) (fun _ => 0)) := hD
  refine W.widen (k := 10) (n := 202) (Nat.le_of_ble_eq_true rfl) (Nat.le_of_ble_eq_true rfl) ?_
  refine lv_astore_n (lv' := [(1, .ref xo), (0, .ref b)]) hx hb dL_law_7 rfl hl (by decide) rfl (fun ls hl => ?_)
  refine va_new (ci := 1) (fs := YF0) (C := RX1) (T := TX1) (N := 8) hx hb hts in_X1 tyX1 tyX1_ok hown (hts _ q131) (hts _ q132) (hts _ q14) hK hP hD hS hA rfl (fun j hj => by rcases (show j = 0 ∨ j = 1 ∨ j = 2 ∨ j = 3 ∨ j = 4 ∨ j = 5 ∨ j = 6 ∨ j = 7 by omega) with rfl | rfl | rfl | rfl | rfl | rfl | rfl | rfl <;> rfl) (Nat.le_of_ble_eq_true rfl) (Nat.le_of_ble_eq_true rfl) dL_law_8 (fun yo H hP hD hS => ?_)
  have hP : va_P (dC, dI) vwCl (XS xd xo xa cwS0 (fun _ => 0) (fun _ => 0) (fun _ => 0) ++ [(yo, .inr (1, YF0))]) H := hP
  have hD : va_D (fun q : Nat => s.heap.size ≤ q) (XS xd xo xa cwS0 (fun _ => 0) (fun _ => 0) (fun _ => 0) ++ [(yo, .inr (1, YF0))]) := hD
  refine W.widen (k := 11) (n := 210) (Nat.le_of_ble_eq_true rfl) (Nat.le_of_ble_eq_true rfl) ?_
  refine lv_dup hx hb dL_law_11 rfl ?_
  have hPc := hP.sub (ws' := [(yo, .inr (1, YF0))]) [10] rfl
  have hDc := hD.sub (ws' := [(yo, .inr (1, YF0))]) [10] (by decide) rfl
  have hK0 := hK.sub (tys' := []) [] rfl
  have hFc := va_free (wc := [(yo, .inr (1, YF0))]) hD hS hA [10] rfl
  refine va_callv (va_runI (As := []) (rest := [.ref yo]) ⟨hx, hb, hml, hown, hts⟩ (mY_init l dC dI yo H.size) (cwI 0 hts (lw_meth q135) rfl rfl rfl (hts _ q14) (hts _ q133) (hts _ q134) rfl (by decide +kernel) ⟨Nat.le_of_ble_eq_true rfl, Nat.le_of_ble_eq_true rfl⟩) ⟨fun a U g mk q => by obtain ⟨q0, q1, qP, qK, qD⟩ := q; exact ⟨q0, q1, qP, va_K.moved (u := U) (U := U.calling g mk a) (Vm.Alike.refl U.vm) qK, qD⟩, fun U hU hW => ⟨rfl, by rw [hU], by rw [hU]; exact hPc, va_K.moved hW.alike hK0, hDc.weaken (fun _ _ _ _ => trivial)⟩⟩ rfl rfl hl.1 rfl (lv_room (Nat.le_of_ble_eq_true rfl)) dL_law_12 ⟨Nat.le_of_ble_eq_true rfl, Nat.le_of_ble_eq_true rfl⟩) hS (fun q _ h => hFc q h) hFc (fun uyo t H1 locs ht hvm hw hB hz1 hk1 hS => ?_)
  obtain ⟨yd, ya⟩ := uyo
  obtain ⟨hP1, hK1, hD1⟩ := hB
  rw [ht] at hP1
  have hKY : va_K (dC, dI) vwCl (YT yd) s := va_K.moved hvm.symm hK1
  obtain ⟨hP, hD⟩ := va_join (wr := XS xd xo xa cwS0 (fun _ => 0) (fun _ => 0) (fun _ => 0)) (w1 := YS yd yo ya cwS0 (fun _ => false)) hP hD [10] [0, 1, 2, 3, 4, 5, 6, 7, 8, 9] rfl rfl (by decide) (by decide) hk1 hFc hP1 hD1
  generalize H1 = H at hP hS ⊢
  have hP : va_P (dC, dI) vwCl (XS xd xo xa cwS0 (fun _ => 0) (fun _ => 0) (fun _ => 0) ++ YS yd yo ya cwS0 (fun _ => false)) H := hP
  have hD : va_D (fun q : Nat => s.heap.size ≤ q) (XS xd xo xa cwS0 (fun _ => 0) (fun _ => 0) (fun _ => 0) ++ YS yd yo ya cwS0 (fun _ => false)) := hD
  refine W.widen (k := 18) (n := 1122) (Nat.le_of_ble_eq_true rfl) (Nat.le_of_ble_eq_true rfl) ?_
  refine lv_astore_n (lv' := [(2, .ref yo), (1, .ref xo), (0, .ref b)]) hx hb dL_law_15 rfl hl (by decide) rfl (fun ls hl => ?_)
  refine lv_iconst (v := nI 0) hx hb dL_law_16 (by decide) ?_
  refine lv_istore_n (lv' := [(3, .int (nI 0)), (2, .ref yo), (1, .ref xo), (0, .ref b)]) hx hb dL_law_17 rfl hl (by decide) rfl (fun ls hl => ?_)
  exact law_loop hx hb hml hown hts hA hScr hbl hbA hL hKX hKY hr hlocks (fun q h => h) (n := L + 4) ⟨0, cwS0, _, _, _, _, Nat.zero_le _, cwOk_0, rfl, hP, hD, hS, hl⟩
end
section
-- ===== YOUR PART ENDS =====
set_option maxHeartbeats 4000000 in
theorem lw_walk (l : Launch) (b : Addr) (xs : List Int32) : MetFree l x (headSpec (Jvm.Cond.code x code maxLocals ret :: tables_1) room_1) (lw_P b xs) (fun _ _ _ _ _ => True) lw_Q := by
  refine MetFree.of_bodyS (code := code) (maxLocals := maxLocals) (ret := ret) (by decide) ?_ ?_
  · intro args s m h hn
    obtain ⟨meth, c, h1, h2, h3, h4, h5, h6, -, -⟩ := Cond.code_spec hn (atoms_spec (ws := Jvm.Cond.code x code maxLocals ret :: tables_1) h _ List.mem_cons_self)
    exact ⟨meth, c, h1, h2, h3, h4, h5, h6⟩
  · intro p e s m args below meth c s₁ B hml0 hP _
    obtain ⟨rfl, hx, hbd, hgv⟩ := hP
    obtain ⟨scr, harrAt, hlist, hof, hsmall⟩ := hx
    obtain ⟨hcb, hkn, -, -⟩ := State.arrayAt?_spec harrAt
    have hown : s.vm.findClass R_law = some m.cls := findClass_of_methodNamed B.named
    have hts0 : ∀ c ∈ (Jvm.Cond.code x code maxLocals ret :: tables_1), c.before #[Value.ref b] s = true := atoms_spec (ws := Jvm.Cond.code x code maxLocals ret :: tables_1) B.pre
    have hts : ∀ w ∈ lw_tbl, w.before #[Value.ref b] s = true := k2_hts_sels lw_privs (fun w hw => hts0 w (List.mem_cons_of_mem _ hw)) lw_privs_ok
    have hml : c.maxLocals = 4 := B.maxLocals_eq (hts0 _ List.mem_cons_self)
    have X₀ : Stand p l e room_1 s m #[Value.ref b] below meth c s₁ [] 0 0 := Stand.of_body B
    have hh0 : s₁.heap = s.heap := by rw [B.state]; rfl
    have hsz : scr.slots.size = xs.length := by rw [← Array.length_toList, hlist, List.length_map]
    have hval : ∀ j : Nat, j < xs.length → scr.slots[j]? = some (.int (xs.getD j 0)) := fun j hj => by
      rw [← Array.getElem?_toList, hlist]
      simp [hj]
    have hbl : b < s.heap.size := (Array.getElem?_eq_some_iff.mp hcb).1
    have hX : va_X b xs.length (fun j => xs.getD j 0) s s.heap := ⟨scr, hcb, hof, hkn, hsz, hval⟩
    have K : W p l e room_1 s m #[Value.ref b] below meth c s₁.heap [] 0 0 (lw_Z below #[Value.ref b] s) (entryFrame m ([Value.ref b] : List Value).toArray 4) := by
      rw [hh0]
      exact whole_start l hbd ⟨B.exec, B.bytes, B.returns, hml, hown, hts, hX, hbl, B.notSynchronized, hgv⟩
    obtain ⟨t, a1, o, b1, b2, b3⟩ := K s₁ rfl X₀
    exact ⟨t, o, a1, b1, b2, b3⟩
theorem lw_pre_spec {args : Array Value} {s : State} (h : (Jvm.Cond.and given_1 narrow_1).before args s = true) (hr : rest_1_c.before args s = true) : ∃ (b : Addr) (xs : List Int32), lw_P b xs args s := by
  have hs := flat_of_before _ h
  have hq := flat_of_before _ hr
  have hc : (Cond.count 1).before args s = true := hs _ (by decide +kernel)
  have harr : (Cond.arrayOf (.arg 0) .int).before args s = true := hs _ (by decide +kernel)
  have hle : (Cond.le (.length (.arg 0)) (.int 256)).before args s = true := hs _ (by decide +kernel)
  have hlen : (Cond.isInt (.length (.arg 0))).before args s = true := hq _ (by decide +kernel)
  have hall : (Cond.all (.arg 0) (.isInt (.elem (.arg 0) (.index 0)))).before args s = true := hq _ (by decide +kernel)
  obtain ⟨b, xs, hb, hx⟩ := State.ints_of_pre rfl harr hlen hall
  have hsm : xs.length < 2 ^ 31 := hx.choose_spec.2.2.2
  have hev : (Term.length (.arg 0)).eval args s none [] s = some (.int xs.length.toInt32) := hx.length_eval hb
  have hv := Cond.le_ints hev (show (Term.int 256).eval args s none [] s = some (.int 256) from rfl)
  have hd : xs.length.toInt32 ≤ 256 := by
    simpa [Cond.before, Cond.holds, hv] using hle
  have hN : xs.length ≤ 256 := (Int32.ofNat_le_ofNat hsm (by decide)).mp (show Int32.ofNat xs.length ≤ Int32.ofNat 256 from hd)
  exact ⟨b, xs, Cond.one_arg hc (show args[0]? = some (.ref b) from hb), hx, hN, h⟩
theorem lw_comes (l : Launch) : Comes l x (Jvm.Cond.code x code maxLocals ret :: tables_1) room_1 (fun tb e args s => Calls_1 tb e args s ∧ rest_1 tb e args s ∧ Pre_1 tb e args s)
    (fun _ _ args s o t => lw_Q args s o t) := by
  intro p e ha hc hk s m args below hf hfit hheap happ hpre
  obtain ⟨b, xs, hP⟩ := lw_pre_spec hpre.2.2 hpre.2.1
  obtain ⟨k, o, h1, h2, h3, hQ⟩ := lw_walk l b xs p e ha hc hk s m args below hf ((Spec.applies_iff_loose hf).mp happ).1 hP trivial
  exact ⟨k, o, h1, h2, h3, hQ⟩
theorem lw_frame {s t : State} {o : Outcome} {args : Array Value} (h : Framed s o t [] 600000 7290000) :
    Framed s o t (fieldLocs frame_1_writes args s ++ arrayLocs frame_1_arrays args s ++ staticLocs frame_1_statics s) 600000 7290000 := h
theorem lw_limb (L : Cond) (hL : ∀ (args : Array Value) (s t : State), L.after args s (.returned (some (.int 1))) t = true) :
    ArmFor flags0 classFile x code maxLocals ret World_1 tables_1 room_1 Calls_1 rest_1 Pre_1
      (fun tb e a s o t => postC L tb e a s o t ∧ Framed s o t (fieldLocs frame_1_writes a s ++ arrayLocs frame_1_arrays a s ++ staticLocs frame_1_statics s) 600000 7290000) := by
  intro l _ _ _ p e ha hc hk s m args below hf hfit hheap happ hpre
  obtain ⟨k, o, h1, h2, h3, rfl, hF⟩ := lw_comes l p e ha hc hk s m args below hf hfit hheap happ hpre
  exact ⟨k, _, h1, h2, h3, hL args s _, lw_frame hF⟩
theorem i_vc : Claimed_1_1 ∧ Claimed_1_2 := ⟨lw_limb limb_1_1 (fun args s t => by simp [limb_1_1, Cond.after, Cond.holds, Cond.value]), lw_limb limb_1_2 (fun args s t => Cond.after_iff.mpr (by
  first | (rw [show limb_1_2 = Cond.eq .result (.int 1) from rfl, Cond.eq_ints (x := 1) (y := 1) rfl rfl]; simp; done) | (simp [limb_1_2, Cond.value, Term.eval]; done)))⟩
end
