section
/-! ===== the calendar over naturals ===== -/
def cc_db (n : Nat) : Nat := 365 * n + (n + 3) / 4 - (n + 99) / 100 + (n + 399) / 400
def cc_len (y m : Nat) : Nat := if m = 2 then (if y % 4 = 0 ∧ (¬ y % 100 = 0 ∨ y % 400 = 0) then 29 else 28) else if m = 4 ∨ m = 6 ∨ m = 9 ∨ m = 11 then 30 else 31
def cc_dm (y : Nat) : Nat → Nat
  | 0 => 0
  | k + 1 => cc_dm y k + cc_len y (k + 1)
theorem cc_len_b (y m : Nat) : 28 ≤ cc_len y m ∧ cc_len y m ≤ 31 := by
  unfold cc_len
  split
  · split <;> omega
  · split <;> omega
theorem cc_dm_s (y k : Nat) : cc_dm y (k + 1) = cc_dm y k + cc_len y (k + 1) := rfl
theorem cc_dm_le (y : Nat) {a b : Nat} (h : a ≤ b) : cc_dm y a ≤ cc_dm y b := by
  induction b with
  | zero =>
    have e : a = 0 := by omega
    rw [e]
    exact Nat.le_refl _
  | succ b ih =>
    by_cases e : a = b + 1
    · rw [e]
      exact Nat.le_refl _
    · have h1 := ih (by omega)
      have h2 := cc_dm_s y b
      omega
theorem cc_dm_b (y k : Nat) : cc_dm y k ≤ 31 * k := by
  induction k with
  | zero => exact Nat.le_refl 0
  | succ k ih =>
    have h := (cc_len_b y (k + 1)).2
    have h2 := cc_dm_s y k
    omega
theorem cc_dm_12 (y : Nat) : cc_dm y 12 = 337 + cc_len y 2 := by
  have e : cc_dm y 12 = 0 + cc_len y 1 + cc_len y 2 + cc_len y 3 + cc_len y 4 + cc_len y 5 + cc_len y 6 + cc_len y 7 + cc_len y 8 + cc_len y 9 + cc_len y 10 + cc_len y 11 + cc_len y 12 := rfl
  have l1 : cc_len y 1 = 31 := by simp [cc_len]
  have l3 : cc_len y 3 = 31 := by simp [cc_len]
  have l4 : cc_len y 4 = 30 := by simp [cc_len]
  have l5 : cc_len y 5 = 31 := by simp [cc_len]
  have l6 : cc_len y 6 = 30 := by simp [cc_len]
  have l7 : cc_len y 7 = 31 := by simp [cc_len]
  have l8 : cc_len y 8 = 31 := by simp [cc_len]
  have l9 : cc_len y 9 = 30 := by simp [cc_len]
  have l10 : cc_len y 10 = 31 := by simp [cc_len]
  have l11 : cc_len y 11 = 30 := by simp [cc_len]
  have l12 : cc_len y 12 = 31 := by simp [cc_len]
  omega
theorem cc_db_s : ∀ n, n < 400 → cc_db (n + 1) = cc_db n + (337 + cc_len (2000 + n) 2) := by decide +kernel
theorem cc_db_u : ∀ n, n < 401 → cc_db n ≤ 366 * n := by decide +kernel
theorem cc_db_le {a b : Nat} (h : a ≤ b) (hb : b ≤ 400) : cc_db a ≤ cc_db b := by
  induction b with
  | zero =>
    have e : a = 0 := by omega
    rw [e]
    exact Nat.le_refl _
  | succ b ih =>
    by_cases e : a = b + 1
    · rw [e]
      exact Nat.le_refl _
    · have h1 := ih (by omega) (by omega)
      have h2 := cc_db_s b (by omega)
      omega
theorem cc_find (f : Nat → Nat) (d : Nat) (h0 : f 0 ≤ d) : ∀ N, d < f N → ∃ n, n < N ∧ f n ≤ d ∧ d < f (n + 1)
  | 0, h => absurd h (by omega)
  | N + 1, h => by
    by_cases e : d < f N
    · obtain ⟨n, a, b, c⟩ := cc_find f d h0 N e
      exact ⟨n, by omega, b, c⟩
    · exact ⟨N, by omega, by omega, h⟩
theorem cc_yr {d : Nat} (h : d < 146097) : ∃ n, n < 400 ∧ d / 366 ≤ n ∧ cc_db n ≤ d ∧ d < cc_db (n + 1) := by
  obtain ⟨n, a, b, c⟩ := cc_find cc_db d (by rw [show cc_db 0 = 0 from by decide]; exact Nat.zero_le d) 400 (by rw [show cc_db 400 = 146097 from by decide]; exact h)
  have u := cc_db_u (n + 1) (by omega)
  exact ⟨n, a, by omega, b, c⟩
/-- day d is the k-th of month m of year y -/
def cc_rel (d y m k : Nat) : Prop := 2000 ≤ y ∧ y < 2400 ∧ 1 ≤ m ∧ m ≤ 12 ∧ 1 ≤ k ∧ k ≤ cc_len y m ∧ cc_db (y - 2000) + cc_dm y (m - 1) + k = d + 1
/-! ===== the printed methods: years and months ===== -/
theorem cc_dbI {n : Nat} (h : n ≤ 400) : (((365 * nI n) + ((nI n + 3) / 4)) - ((nI n + 99) / 100)) + ((nI n + 399) / 400) = nI (cc_db n) := by
  show (((nI 365 * nI n) + ((nI n + nI 3) / nI 4)) - ((nI n + nI 99) / nI 100)) + ((nI n + nI 399) / nI 400) = nI (cc_db n)
  rw [nI_add n 3, nI_add n 99, nI_add n 399, pk_mul, pk_div (a := n + 3) (d := 4) (by omega) (by omega) (by omega), pk_div (a := n + 99) (d := 100) (by omega) (by omega) (by omega), pk_div (a := n + 399) (d := 400) (by omega) (by omega) (by omega), nI_add, pk_sub (a := 365 * n + (n + 3) / 4) (b := (n + 99) / 100) (by omega), nI_add]
  rfl
theorem cc_daysBefore {post : Int32 → Prop} {y : Nat} (h1 : 2000 ≤ y) (h2 : y ≤ 2400) (H : post (nI (cc_db (y - 2000)))) : wpX_daysBefore post () (nI y) := by
  unfold wpX_daysBefore
  refine nm_r (pk_sub (b := 2000) h1) ⟨by decide, by decide, by decide, ?_⟩
  rw [cc_dbI (by omega)]
  exact H
theorem cc_isLeap {post : Int32 → Prop} {y : Nat} (hy : y < 2 ^ 31) (H1 : (y % 4 = 0 ∧ (¬ y % 100 = 0 ∨ y % 400 = 0)) → post 1) (H0 : ¬ (y % 4 = 0 ∧ (¬ y % 100 = 0 ∨ y % 400 = 0)) → post 0) : wpX_isLeap post () (nI y) := by
  unfold wpX_isLeap
  refine ⟨by decide, pk_eq (y % 4) 0 (fun a => ⟨by decide, pk_eq (y % 100) 0 (fun b => ⟨by decide, pk_eq (y % 400) 0 (fun c => H1 ⟨a, Or.inr c⟩) (fun c => H0 (fun t => t.2.elim (fun z => z b) c)) (pk_rem (d := 400) hy (by omega) (by omega))⟩) (fun b => H1 ⟨a, Or.inl b⟩) (pk_rem (d := 100) hy (by omega) (by omega))⟩) (fun a => H0 (fun t => a t.1)) (pk_rem (d := 4) hy (by omega) (by omega))⟩
theorem cc_lengthOf {post : Int32 → Prop} {y m : Nat} (hy : y < 2 ^ 31) (hm : m < 2 ^ 31) (H : post (nI (cc_len y m))) : wpX_lengthOf post () (nI y) (nI m) := by
  have K : ∀ v, cc_len y m = v → post (nI v) := fun v e => e ▸ H
  unfold wpX_lengthOf
  refine pk_eq m 2 (fun a => ?_) (fun a => ?_)
  · exact cc_isLeap hy (fun l => br_f (by decide) (K 29 (by unfold cc_len; rw [if_pos a, if_pos l]))) (fun l => br_t rfl (K 28 (by unfold cc_len; rw [if_pos a, if_neg l])))
  · exact pk_eq m 4 (fun b => K 30 (by simp [cc_len, b])) (fun b => pk_eq m 6 (fun c => K 30 (by simp [cc_len, c])) (fun c => pk_eq m 9 (fun d => K 30 (by simp [cc_len, d])) (fun d => pk_eq m 11 (fun e => K 30 (by simp [cc_len, e])) (fun e => K 31 (by simp [cc_len, a, b, c, d, e])))))
theorem cc_yearOf {post : Int32 → Prop} {d n : Nat} (hd : d < 146097) (hn : n < 400) (hk : d / 366 ≤ n) (h1 : cc_db n ≤ d) (h2 : d < cc_db (n + 1)) (H : post (nI (2000 + n))) : wpX_yearOf post () (nI d) := by
  unfold wpX_yearOf
  refine ⟨by decide, nm_r (e' := nI (2000 + d / 366)) ?_ ?_⟩
  · show nI 2000 + nI d / nI 366 = nI (2000 + d / 366)
    rw [pk_div (by omega) (by omega) (by omega), nI_add]
  · refine pk_loop (σ := Unit) (fun f i _ => wX_yearOf_10 post (nI d) f (nI (2000 + i))) (fun _ _ => True) n (d / 366) () hk trivial ?_ ?_
    · intro f _ _
      show wX_yearOf_10 post (nI d) (f + 1) (nI (2000 + n))
      unfold wX_yearOf_10
      rw [nI_1]
      refine cc_daysBefore (by omega) (by omega) ?_
      rw [show 2000 + n + 1 - 2000 = n + 1 by omega]
      have hb := cc_db_u (n + 1) (by omega)
      exact br_t (nI_lt h2 (by omega)) H
    · intro f i _ hi _ hw
      show wX_yearOf_10 post (nI d) (f + 1) (nI (2000 + i))
      have hw' : wX_yearOf_10 post (nI d) f (nI (2000 + i + 1)) := hw () trivial
      unfold wX_yearOf_10
      rw [nI_1]
      refine cc_daysBefore (by omega) (by omega) ?_
      rw [show 2000 + i + 1 - 2000 = i + 1 by omega]
      have hb := cc_db_le (a := i + 1) (b := n) (by omega) (by omega)
      exact br_f (nI_nlt (by omega) (by omega)) (nm_e hw')
theorem cc_sp23 {post : St1 → Prop} {y : Nat} {D : Int32} {a1 : Nat → Int64} {a2 a3 a4 : Nat → Int32} {R e : Nat} (hy : y < 2400) (he : e < 12) (h1 : cc_dm y e ≤ R) (h2 : R < cc_dm y (e + 1)) (H : post (nI y, nI (e + 1), nI (R - cc_dm y e + 1), a1, a2, a3, a4)) : ∃ n, wX_split_23 post (nI y) D a1 a2 a3 a4 n (nI R) 1 := by
  have hR : R < 400 := by
    have hb := cc_dm_b y (e + 1)
    omega
  have K : ∃ n, wX_split_23 post (nI y) D a1 a2 a3 a4 n (nI (R - cc_dm y 0)) (nI (0 + 1)) := by
    refine pk_loop (σ := Unit) (fun n j _ => wX_split_23 post (nI y) D a1 a2 a3 a4 n (nI (R - cc_dm y j)) (nI (j + 1))) (fun _ _ => True) e 0 () (by omega) trivial ?_ ?_
    · intro n _ _
      show wX_split_23 post (nI y) D a1 a2 a3 a4 (n + 1) (nI (R - cc_dm y e)) (nI (e + 1))
      have hs := cc_dm_s y e
      have hl := cc_len_b y (e + 1)
      refine pk_le 12 (e + 1) (fun _ => nm_r (nI_1 _) H) (fun _ => ?_)
      refine cc_lengthOf (by omega) (by omega) ?_
      exact br_t (nI_lt (by omega) (by omega)) (nm_r (nI_1 _) H)
    · intro n j _ hj _ hw
      show wX_split_23 post (nI y) D a1 a2 a3 a4 (n + 1) (nI (R - cc_dm y j)) (nI (j + 1))
      have hs := cc_dm_s y j
      have hl := cc_dm_le y (show j + 1 ≤ e by omega)
      have hb := cc_len_b y (j + 1)
      have t : wX_split_23 post (nI y) D a1 a2 a3 a4 n (nI (R - cc_dm y (j + 1))) (nI (j + 1 + 1)) := hw () trivial
      rw [show R - cc_dm y (j + 1) = R - cc_dm y j - cc_len y (j + 1) by omega] at t
      refine pk_le 12 (j + 1) (fun z => absurd z (by omega)) (fun _ => ?_)
      refine cc_lengthOf (by omega) (by omega) ?_
      refine br_f (nI_nlt (by omega) (by omega)) ?_
      refine cc_lengthOf (by omega) (by omega) ?_
      exact nm_r (pk_sub (by omega)) (nm_r (nI_1 _) t)
  have e0 : R - cc_dm y 0 = R := Nat.sub_zero R
  rw [e0] at K
  exact K
theorem cc_ex (d : Nat) : ∃ t : Nat × Nat × Nat, d < 146097 → cc_rel d t.1 t.2.1 t.2.2 ∧ ∀ (post : St1 → Prop) (Y M D : Int32) (a1 : Nat → Int64) (a2 a3 a4 : Nat → Int32), post (nI t.1, nI t.2.1, nI t.2.2, a1, a2, a3, a4) → wpX_split post (Y, M, D, a1, a2, a3, a4) (nI d) := by
  by_cases h : d < 146097
  · obtain ⟨n, hn, hk, h1, h2⟩ := cc_yr h
    have hs := cc_db_s n hn
    obtain ⟨e, he, h3, h4⟩ := cc_find (cc_dm (2000 + n)) (d - cc_db n) (Nat.zero_le _) 12 (by rw [cc_dm_12]; omega)
    have h5 := cc_dm_s (2000 + n) e
    have e0 : 2000 + n - 2000 = n := by omega
    have R : cc_rel d (2000 + n) (e + 1) (d - cc_db n - cc_dm (2000 + n) e + 1) := by
      refine ⟨by omega, by omega, by omega, by omega, by omega, by omega, ?_⟩
      rw [e0, show e + 1 - 1 = e by omega]
      omega
    refine ⟨(2000 + n, e + 1, d - cc_db n - cc_dm (2000 + n) e + 1), fun _ => ⟨R, ?_⟩⟩
    intro post Y M D a1 a2 a3 a4 H
    unfold wpX_split
    dsimp only
    refine cc_yearOf h hn hk h1 h2 (cc_daysBefore (by omega) (by omega) (nm_r (e' := nI (d - cc_db n)) ?_ (cc_sp23 (by omega) he h3 h4 H)))
    rw [e0]
    exact pk_sub h1
  · exact ⟨(0, 0, 0), fun z => absurd z h⟩
/-- what split answers for day d -/
noncomputable def cc_t (d : Nat) : Nat × Nat × Nat := Classical.choose (cc_ex d)
noncomputable def cc_y (d : Nat) : Nat := (cc_t d).1
noncomputable def cc_m (d : Nat) : Nat := (cc_t d).2.1
noncomputable def cc_k (d : Nat) : Nat := (cc_t d).2.2
theorem cc_relT {d : Nat} (h : d < 146097) : cc_rel d (cc_y d) (cc_m d) (cc_k d) := (Classical.choose_spec (cc_ex d) h).1
theorem cc_split {post : St1 → Prop} {d : Nat} {Y M D : Int32} {a1 : Nat → Int64} {a2 a3 a4 : Nat → Int32} (h : d < 146097) (H : post (nI (cc_y d), nI (cc_m d), nI (cc_k d), a1, a2, a3, a4)) : wpX_split post (Y, M, D, a1, a2, a3, a4) (nI d) := (Classical.choose_spec (cc_ex d) h).2 post Y M D a1 a2 a3 a4 H
end
section
/-! ===== checks of ranges ===== -/
theorem cc_isDay {post : Int32 → Prop} {d : Nat} (h : d < 146097) (H : post 1) : wpX_isDay post () (nI d) := br_f (nI_pos (by omega)) (br_f (nI_ge (b := 146097) h (by omega)) H)
theorem cc_isYear {post : Int32 → Prop} {y : Nat} (h1 : 2000 ≤ y) (h2 : y < 2400) (H : post 1) : wpX_isYear post () (nI y) := br_f (nI_nlt (b := 2000) h1 (by omega)) (br_f (nI_ge (b := 2400) h2 (by omega)) H)
theorem cc_isRule {post : Int32 → Prop} {r : Nat} (h : r < 4) (H : post 1) : wpX_isRule post () (nI r) := br_f (nI_pos (by omega)) (br_f (nI_ge (b := 4) h (by omega)) H)
theorem cc_isField {post : Int32 → Prop} {f : Nat} (h : f < 5) (H : post 1) : wpX_isField post () (nI f) := br_f (nI_pos (by omega)) (br_f (nI_ge (b := 5) h (by omega)) H)
theorem cc_isRuleX {post : Int32 → Prop} {x : Int32} (H0 : post 0) (H1 : ∀ r, r < 4 → x = nI r → post 1) : wpX_isRule post () x := by
  unfold wpX_isRule
  rcases pk_ix x (n := 4) (by omega) with h | h | ⟨j, hj, e⟩
  · exact br_t h H0
  · exact br_c (fun _ => H0) (fun _ => br_t h H0)
  · exact br_c (fun _ => H0) (fun _ => br_c (fun _ => H0) (fun _ => H1 j hj e))
theorem cc_isFieldX {post : Int32 → Prop} {x : Int32} (H0 : post 0) (H1 : ∀ f, f < 5 → x = nI f → post 1) : wpX_isField post () x := by
  unfold wpX_isField
  rcases pk_ix x (n := 5) (by omega) with h | h | ⟨j, hj, e⟩
  · exact br_t h H0
  · exact br_c (fun _ => H0) (fun _ => br_t h H0)
  · exact br_c (fun _ => H0) (fun _ => br_c (fun _ => H0) (fun _ => H1 j hj e))
/-! ===== dates ===== -/
theorem cc_dbm {post : Int32 → Prop} {y m : Nat} (hy : y < 2400) (h1 : 1 ≤ m) (h2 : m ≤ 12) (H : post (nI (cc_dm y (m - 1)))) : wpX_daysBeforeMonth post () (nI y) (nI m) := by
  unfold wpX_daysBeforeMonth
  have K : ∃ n, wX_daysBeforeMonth_4 post (nI y) (nI m) n (nI (cc_dm y 0)) (nI (0 + 1)) := by
    refine pk_loop (σ := Unit) (fun n j _ => wX_daysBeforeMonth_4 post (nI y) (nI m) n (nI (cc_dm y j)) (nI (j + 1))) (fun _ _ => True) (m - 1) 0 () (by omega) trivial ?_ ?_
    · intro n _ _
      exact pk_le m (m - 1 + 1) (fun _ => H) (fun z => absurd z (by omega))
    · intro n j _ hj _ hw
      have t : wX_daysBeforeMonth_4 post (nI y) (nI m) n (nI (cc_dm y j + cc_len y (j + 1))) (nI (j + 1 + 1)) := hw () trivial
      exact pk_le m (j + 1) (fun z => absurd z (by omega)) (fun _ => cc_lengthOf (by omega) (by omega) (nm_r (nI_add _ _) (nm_r (nI_1 _) t)))
  exact K
theorem cc_dayNumber {post : Int32 → Prop} {y m k : Nat} (hy1 : 2000 ≤ y) (hy2 : y < 2400) (h1 : 1 ≤ m) (h2 : m ≤ 12) (hk : 1 ≤ k) (H : post (nI (cc_db (y - 2000) + cc_dm y (m - 1) + k - 1))) : wpX_dayNumber post () (nI y) (nI m) (nI k) := by
  unfold wpX_dayNumber
  refine cc_daysBefore hy1 (by omega) (cc_dbm hy2 h1 h2 (ek_v (P := post) ?_ H))
  rw [nI_add, nI_add]
  exact pk_sub (b := 1) (by omega)
section
variable {Y M D : Int32} {a1 : Nat → Int64} {a2 a3 a4 : Nat → Int32}
theorem cc_date {post : Int32 → St1 → Prop} {d : Nat} (h : d < 146097) (H : post (nI (10000 * cc_y d + 100 * cc_m d + cc_k d)) (nI (cc_y d), nI (cc_m d), nI (cc_k d), a1, a2, a3, a4)) : wpX_date post (Y, M, D, a1, a2, a3, a4) (nI d) := by
  unfold wpX_date
  dsimp only
  refine cc_isDay h (br_f (by decide) (cc_split h ?_))
  have e : ((10000 * nI (cc_y d)) + (100 * nI (cc_m d))) + nI (cc_k d) = nI (10000 * cc_y d + 100 * cc_m d + cc_k d) := by
    show nI 10000 * nI (cc_y d) + nI 100 * nI (cc_m d) + nI (cc_k d) = _
    rw [pk_mul, pk_mul, nI_add, nI_add]
  exact ek_v (P := fun r => post r (nI (cc_y d), nI (cc_m d), nI (cc_k d), a1, a2, a3, a4)) e H
theorem cc_day {post : Int32 → Prop} {d y m k : Nat} (R : cc_rel d y m k) (H : post (nI d)) : wpX_day post (Y, M, D, a1, a2, a3, a4) (nI (10000 * y + 100 * m + k)) := by
  obtain ⟨r1, r2, r3, r4, r5, r6, r7⟩ := R
  have hl := cc_len_b y m
  unfold wpX_day
  dsimp only
  refine ⟨by decide, nm_r (e' := nI y) ?_ ⟨by decide, by decide, nm_r (e' := nI m) ?_ ⟨by decide, nm_r (e' := nI k) ?_ ?_⟩⟩⟩
  · refine (pk_div (d := 10000) (by omega) (by omega) (by omega)).trans ?_
    rw [show (10000 * y + 100 * m + k) / 10000 = y by omega]
  · have e1 : nI (10000 * y + 100 * m + k) / 100 = nI (100 * y + m) := by
      refine (pk_div (d := 100) (by omega) (by omega) (by omega)).trans ?_
      rw [show (10000 * y + 100 * m + k) / 100 = 100 * y + m by omega]
    rw [e1]
    refine (pk_rem (d := 100) (by omega) (by omega) (by omega)).trans ?_
    rw [show (100 * y + m) % 100 = m by omega]
  · refine (pk_rem (d := 100) (by omega) (by omega) (by omega)).trans ?_
    rw [show (10000 * y + 100 * m + k) % 100 = k by omega]
  · exact br_f (nI_pos (by omega)) (cc_isYear r1 r2 (br_f (by decide) (br_f (nI_nlt (b := 1) r3 (by omega)) (br_f (nI_nlt (a := 12) r4 (by omega)) (br_f (nI_nlt (b := 1) r5 (by omega)) (cc_lengthOf (by omega) (by omega) (br_t (nI_le r6 (by omega)) (cc_dayNumber r1 r2 r3 r4 r5 (ek_v (P := post) (congrArg nI (by omega)) H)))))))))
theorem cc_addMonths {post : Int32 → St1 → Prop} {d : Nat} (h : d < 146097) (H : ∀ Y M D : Int32, post (nI d) (Y, M, D, a1, a2, a3, a4)) : wpX_addMonths post (Y, M, D, a1, a2, a3, a4) (nI d) 0 := by
  have R := cc_relT h
  unfold wpX_addMonths
  dsimp only
  refine cc_isDay h (br_f (by decide) (br_f (by decide) (br_t (by decide) (cc_split h ?_))))
  generalize cc_y d = y at *
  generalize cc_m d = m at *
  generalize cc_k d = k at *
  obtain ⟨r1, r2, r3, r4, r5, r6, r7⟩ := R
  have hl := cc_len_b y m
  have A : ∀ q, q = k → wX_addMonths_115 post (nI q) (nI m) (nI y) (nI y) (nI m) (nI k) a1 a2 a3 a4 := by
    intro q e
    subst e
    unfold wX_addMonths_115
    exact cc_dayNumber r1 r2 r3 r4 r5 (ek_v (P := fun r => post r (nI y, nI m, nI q, a1, a2, a3, a4)) (congrArg nI (by omega)) (H _ _ _))
  dsimp only
  refine nm_r (e' := nI (12 * (y - 2000) + m - 1)) ?_ ?_
  · show nI 12 * (nI y - nI 2000) + nI m - nI 1 + nI 0 = _
    rw [pk_sub r1, pk_mul, nI_add, pk_sub (by omega), nI_add, Nat.add_zero]
  · refine br_f (nI_pos (by omega)) (br_t (nI_lt (b := 4800) (by omega) (by omega)) ⟨by decide, nm_r (e' := nI y) ?_ ⟨by decide, nm_r (e' := nI m) ?_ (cc_lengthOf (by omega) (by omega) ?_)⟩⟩)
    · show nI 2000 + nI (12 * (y - 2000) + m - 1) / nI 12 = nI y
      rw [pk_div (by omega) (by omega) (by omega), nI_add, show 2000 + (12 * (y - 2000) + m - 1) / 12 = y by omega]
    · have e1 : nI (12 * (y - 2000) + m - 1) - nI (12 * (y - 2000) + m - 1) / 12 * 12 = nI (m - 1) := by
        refine (pk_rem (d := 12) (by omega) (by omega) (by omega)).trans ?_
        rw [show (12 * (y - 2000) + m - 1) % 12 = m - 1 by omega]
      rw [e1, nI_1, show m - 1 + 1 = m by omega]
    · exact pk_le (cc_len y m) k (fun z => A _ (by omega)) (fun z => A _ rfl)
/-- the weekday of a day -/
def cc_w (d : Nat) : Int32 := (nI d + 6) - (nI d + 6) / 7 * 7
theorem cc_wI {d : Nat} (h : d < 200000) : cc_w d = nI ((d + 6) % 7) := by
  show nI d + nI 6 - (nI d + nI 6) / nI 7 * nI 7 = _
  rw [nI_add]
  exact pk_rem (by omega) (by omega) (by omega)
theorem cc_w7 {d : Nat} (h : d < 146097) : cc_w (d + 7) = cc_w d := by
  rw [cc_wI (by omega), cc_wI (by omega), show (d + 7 + 6) % 7 = (d + 6) % 7 by omega]
theorem cc_weekday {post : Int32 → Prop} {d : Nat} (h : d < 146097) (H : post (cc_w d)) : wpX_weekday post (Y, M, D, a1, a2, a3, a4) (nI d) := by
  unfold wpX_weekday
  dsimp only
  exact cc_isDay h (br_f (by decide) ⟨by decide, H⟩)
end
end
section
/-! ===== the tables, what is allowed ===== -/
def cc_lo : Nat → Int32 := upd (upd (fun _ => 0) 2 1) 3 1
def cc_hi : Nat → Int32 := upd (upd (upd (upd (upd (fun _ => 0) 0 59) 1 23) 2 31) 3 12) 4 6
/-- rule r allows value v of field f -/
def cc_al (a1 : Nat → Int64) (a2 : Nat → Int32) (r f : Nat) (v : Int32) : Prop := (¬ v < cc_lo f ∧ ¬ cc_hi f < v) ∧ (¬ a2 (5 * r + f) = 0 ∨ ((((a1 (5 * r + f)).toUInt64 >>> (v.toInt64.toUInt64 &&& Int64.toUInt64 63)).toInt64) &&& 1) = 1)
/-- rule r fits the day d, the k-th of its month, by its day of the month and its weekday -/
def cc_df (a1 : Nat → Int64) (a2 : Nat → Int32) (r k d : Nat) : Prop := ((¬ a2 (5 * r + 2) = 0 ∨ ¬ a2 (5 * r + 4) = 0) ∧ (cc_al a1 a2 r 2 (nI k) ∧ cc_al a1 a2 r 4 (cc_w d))) ∨ (¬ (¬ a2 (5 * r + 2) = 0 ∨ ¬ a2 (5 * r + 4) = 0) ∧ (cc_al a1 a2 r 2 (nI k) ∨ cc_al a1 a2 r 4 (cc_w d)))
/-- rule r allows the time t of a day -/
def cc_tok (a1 : Nat → Int64) (a2 : Nat → Int32) (r t : Nat) : Prop := cc_al a1 a2 r 1 (nI (t / 60)) ∧ cc_al a1 a2 r 0 (nI (t % 60))
theorem cc_5 (r f : Nat) : 5 * nI r + nI f = nI (5 * r + f) := by
  show nI 5 * nI r + nI f = _
  rw [pk_mul, nI_add]
section
variable {Y M D : Int32} {a1 : Nat → Int64} {a2 : Nat → Int32} {r : Nat}
theorem cc_isValue {post : Int32 → Prop} {a3 a4 : Nat → Int32} {f : Nat} {v : Int32} (hf : f < 5) (H0 : ¬ (¬ v < a3 f ∧ ¬ a4 f < v) → post 0) (H1 : (¬ v < a3 f ∧ ¬ a4 f < v) → post 1) : wpX_isValue post (Y, M, D, a1, a2, a3, a4) (nI f) v := by
  unfold wpX_isValue
  dsimp only
  rw [nI_clamp (show f < 2 ^ 31 by omega)]
  exact ⟨pk_in f 5 hf, br_c (fun g => H0 (fun t => t.1 g)) (fun g => ⟨pk_in f 5 hf, br_c (fun k => H0 (fun t => t.2 k)) (fun k => H1 ⟨g, k⟩)⟩)⟩
theorem cc_isAllowed {post : Int32 → Prop} {f : Nat} {v : Int32} (hr : r < 4) (hf : f < 5) (H1 : cc_al a1 a2 r f v → post 1) (H0 : ¬ cc_al a1 a2 r f v → post 0) : wpX_isAllowed post (Y, M, D, a1, a2, cc_lo, cc_hi) (nI r) (nI f) v := by
  unfold wpX_isAllowed
  dsimp only
  refine nm_r (cc_5 r f) (cc_isValue hf (fun h => br_t rfl (H0 (fun t => h t.1))) (fun h => br_f (by decide) ⟨pk_in (5 * r + f) 20 (by omega), ?_⟩))
  rw [nI_clamp (show 5 * r + f < 2 ^ 31 by omega)]
  exact br_c (fun g => ⟨pk_in (5 * r + f) 20 (by omega), br_c (fun b => H1 ⟨h, Or.inr b⟩) (fun b => H0 (fun t => t.2.elim (fun z => z g) b))⟩) (fun g => H1 ⟨h, Or.inl g⟩)
theorem cc_isAllowedQ {post : Int32 → Prop} {f : Nat} {v : Int32} (hr : r < 4) (hf : f < 5) (H : ∀ x : Int32, (x = 0 ↔ ¬ cc_al a1 a2 r f v) → post x) : wpX_isAllowed post (Y, M, D, a1, a2, cc_lo, cc_hi) (nI r) (nI f) v :=
  cc_isAllowed hr hf (fun h => H 1 ⟨fun z => absurd z (by decide), fun z => absurd h z⟩) (fun h => H 0 ⟨fun _ => h, fun _ => rfl⟩)
theorem cc_57a {post : Int32 → Prop} {P Q : Prop} {x y : Int32} {a3 a4 : Nat → Int32} (hx : x = 0 ↔ ¬ P) (hy : y = 0 ↔ ¬ Q) (H1 : P ∨ Q → post 1) (H0 : ¬ (P ∨ Q) → post 0) : wX_dayFits_57 post x y 0 Y M D a1 a2 a3 a4 := by
  unfold wX_dayFits_57
  exact br_t rfl (br_c (fun g => br_c (fun k => H0 (fun t => t.elim (hx.mp g) (hy.mp k))) (fun k => H1 (Or.inr (Classical.byContradiction (fun z => k (hy.mpr z)))))) (fun g => H1 (Or.inl (Classical.byContradiction (fun z => g (hx.mpr z))))))
theorem cc_57b {post : Int32 → Prop} {P Q : Prop} {x y : Int32} {a3 a4 : Nat → Int32} (hx : x = 0 ↔ ¬ P) (hy : y = 0 ↔ ¬ Q) (H1 : P ∧ Q → post 1) (H0 : ¬ (P ∧ Q) → post 0) : wX_dayFits_52 post x y Y M D a1 a2 a3 a4 := by
  unfold wX_dayFits_52
  unfold wX_dayFits_57
  exact br_f (by decide) (br_c (fun g => H0 (fun t => hx.mp g t.1)) (fun g => br_c (fun k => H0 (fun t => hy.mp k t.2)) (fun k => H1 ⟨Classical.byContradiction (fun z => g (hx.mpr z)), Classical.byContradiction (fun z => k (hy.mpr z))⟩)))
theorem cc_dayFits {post : Int32 → Prop} {k d : Nat} (hr : r < 4) (H1 : cc_df a1 a2 r k d → post 1) (H0 : ¬ cc_df a1 a2 r k d → post 0) : wpX_dayFits post (Y, M, nI k, a1, a2, cc_lo, cc_hi) (nI r) (nI d) := by
  unfold wpX_dayFits
  dsimp only
  have c2 : 5 * nI r + 2 = nI (5 * r + 2) := cc_5 r 2
  have c4 : 5 * nI r + 4 = nI (5 * r + 4) := cc_5 r 4
  rw [c2, c4, nI_clamp (show 5 * r + 2 < 2 ^ 31 by omega), nI_clamp (show 5 * r + 4 < 2 ^ 31 by omega)]
  refine cc_isAllowedQ (f := 2) hr (by omega) (fun x hx => ⟨by decide, cc_isAllowedQ (f := 4) hr (by omega) (fun y hy => ⟨pk_in (5 * r + 2) 20 (by omega), br_c (fun g2 => ⟨pk_in (5 * r + 4) 20 (by omega), br_c (fun g4 => ?_) (fun g4 => ?_)⟩) (fun g2 => ?_)⟩)⟩)
  · have ns : ¬ (¬ a2 (5 * r + 2) = 0 ∨ ¬ a2 (5 * r + 4) = 0) := fun t => t.elim (fun z => z g2) (fun z => z g4)
    exact cc_57a hx hy (fun p => H1 (Or.inr ⟨ns, p⟩)) (fun p => H0 (fun t => t.elim (fun z => ns z.1) (fun z => p z.2)))
  · have st : ¬ a2 (5 * r + 2) = 0 ∨ ¬ a2 (5 * r + 4) = 0 := Or.inr g4
    exact cc_57b hx hy (fun p => H1 (Or.inl ⟨st, p⟩)) (fun p => H0 (fun t => t.elim (fun z => p z.2) (fun z => z.1 st)))
  · have st : ¬ a2 (5 * r + 2) = 0 ∨ ¬ a2 (5 * r + 4) = 0 := Or.inl g2
    exact cc_57b hx hy (fun p => H1 (Or.inl ⟨st, p⟩)) (fun p => H0 (fun t => t.elim (fun z => p z.2) (fun z => z.1 st)))
/-! ===== the times of a day ===== -/
theorem cc_60 (h m : Nat) : 60 * nI h + nI m = nI (60 * h + m) := by
  show nI 60 * nI h + nI m = _
  rw [pk_mul, nI_add]
theorem cc_tf43 {post J : Int32 → Prop} {x2 : Int32} {h lo : Nat} (hr : r < 4) (hlo : lo ≤ 60) (HJ : J (nI (h + 1))) (HS : ∀ i, lo ≤ i → i < 60 → cc_al a1 a2 r 0 (nI i) → post (nI (60 * h + i))) : ∃ n, wX_timeFrom_43 post J (nI r) x2 (nI h) Y M D a1 a2 cc_lo cc_hi n (nI lo) := by
  refine pk_loop (σ := Unit) (fun n i _ => wX_timeFrom_43 post J (nI r) x2 (nI h) Y M D a1 a2 cc_lo cc_hi n (nI i)) (fun i _ => lo ≤ i) 60 lo () hlo (Nat.le_refl lo) ?_ ?_
  · intro n _ _
    exact pk_le 60 60 (fun _ => nm_r (nI_1 h) HJ) (fun z => absurd z (by omega))
  · intro n i _ hi hl hw
    refine pk_le 60 i (fun z => absurd z (by omega)) (fun _ => cc_isAllowed (f := 0) hr (by omega) (fun al => br_f (by decide) ?_) (fun _ => br_t rfl (nm_r (nI_1 i) (hw () (Nat.le_succ_of_le hl)))))
    exact ek_v (P := post) (cc_60 h i) (HS i hl hi al)
theorem cc_tokI {h i : Nat} (hi : i < 60) (p : cc_al a1 a2 r 1 (nI h)) (q : cc_al a1 a2 r 0 (nI i)) : cc_tok a1 a2 r (60 * h + i) := by
  unfold cc_tok
  rw [show (60 * h + i) / 60 = h by omega, show (60 * h + i) % 60 = i by omega]
  exact ⟨p, q⟩
theorem cc_timeFrom {post : Int32 → Prop} {t : Nat} (hr : r < 4) (ht : t < 1440) (HN : post (-1)) (HS : ∀ s, t ≤ s → s < 1440 → cc_tok a1 a2 r s → post (nI s)) : wpX_timeFrom post (Y, M, D, a1, a2, cc_lo, cc_hi) (nI r) (nI t) := by
  unfold wpX_timeFrom
  dsimp only
  refine ⟨by decide, nm_r (pk_div (d := 60) (by omega) (by omega) (by omega)) ?_⟩
  refine pk_loop (σ := Unit) (fun n i _ => wX_timeFrom_5 post (nI r) (nI t) Y M D a1 a2 cc_lo cc_hi n (nI i)) (fun i _ => t / 60 ≤ i) 24 (t / 60) () (by omega) (Nat.le_refl _) ?_ ?_
  · intro n _ _
    exact pk_le 24 24 (fun _ => HN) (fun z => absurd z (by omega))
  · intro n i _ hi hl hw
    have hw' : wX_timeFrom_5 post (nI r) (nI t) Y M D a1 a2 cc_lo cc_hi n (nI (i + 1)) := hw () (Nat.le_succ_of_le hl)
    have hl' : t / 60 ≤ i := hl
    refine pk_le 24 i (fun z => absurd z (by omega)) (fun _ => cc_isAllowed (f := 1) hr (by omega) (fun al => br_f (by decide) ⟨by decide, ?_⟩) (fun _ => br_t rfl (nm_r (nI_1 i) hw')))
    refine pk_eq i (t / 60) (fun e => ⟨by decide, nm_r (pk_rem (d := 60) (by omega) (by omega) (by omega)) ?_⟩) (fun e => ?_) rfl (pk_div (d := 60) (by omega) (by omega) (by omega))
    · exact cc_tf43 hr (by omega) hw' (fun j h1 h2 q => HS (60 * i + j) (by omega) (by omega) (cc_tokI h2 al q))
    · exact cc_tf43 (lo := 0) hr (by omega) hw' (fun j h1 h2 q => HS (60 * i + j) (by omega) (by omega) (cc_tokI h2 al q))
theorem cc_timeUpTo {post : Int32 → Prop} {t : Nat} (hr : r < 4) (ht : t < 1440) (F : cc_tok a1 a2 r t) (H : post (nI t)) : wpX_timeUpTo post (Y, M, D, a1, a2, cc_lo, cc_hi) (nI r) (nI t) := by
  have E : post (60 * nI (t / 60) + nI (t % 60)) := ek_v (P := post) (cc_60 _ _) (ek_v (P := post) (congrArg nI (by omega)) H)
  unfold wpX_timeUpTo
  dsimp only
  refine ⟨by decide, nm_r (pk_div (d := 60) (by omega) (by omega) (by omega)) ⟨0 + 1, ?_⟩⟩
  refine br_f (nI_pos (by omega)) (cc_isAllowed (f := 1) hr (by omega) (fun _ => br_f (by decide) ⟨by decide, br_t (pk_div (d := 60) (by omega) (by omega) (by omega)).symm ⟨by decide, nm_r (pk_rem (d := 60) (by omega) (by omega) (by omega)) ⟨0 + 1, ?_⟩⟩⟩) (fun z => absurd F.1 z))
  exact br_f (nI_pos (by omega)) (cc_isAllowed (f := 0) hr (by omega) (fun _ => br_f (by decide) E) (fun z => absurd F.2 z))
end
end
section
/-! ===== next, fits, previous ===== -/
/-- rule r fits day d -/
def cc_dok (a1 : Nat → Int64) (a2 : Nat → Int32) (r d : Nat) : Prop := cc_al a1 a2 r 3 (nI (cc_m d)) ∧ cc_df a1 a2 r (cc_k d) d
/-- rule r fits minute t -/
def cc_fit (a1 : Nat → Int64) (a2 : Nat → Int32) (r t : Nat) : Prop := cc_dok a1 a2 r (t / 1440) ∧ cc_tok a1 a2 r (t % 1440)
/-- next's loop: at day d and time t nothing that lies behind minute m has been passed -/
def cc_nx (m d t : Nat) : Prop := d ≤ 146200 ∧ t < 1440 ∧ m < 1440 * d + t
theorem cc_1440 {d s : Nat} (hd : d < 2 ^ 31) (hs : s < 2 ^ 31) : (1440 * (nI d).toInt64) + (nI s).toInt64 = lN (1440 * d + s) := by
  rw [nI_l hd, nI_l hs]
  show lN 1440 * lN d + lN s = _
  rw [lN_mul, lN_add]
theorem cc_ld {t : Nat} (h : t < 2 ^ 31) : (lN t / 1440).toInt32 = nI (t / 1440) := by
  have e : lN t / 1440 = lN (t / 1440) := pk_lDiv (b := 1440) (by omega) (by omega) (by omega)
  rw [e, lN_i]
theorem cc_lr {t : Nat} (h : t < 2 ^ 31) : (lN t - lN t / 1440 * 1440).toInt32 = nI (t % 1440) := by
  have e : lN t - lN t / 1440 * 1440 = lN (t % 1440) := pk_lRem (b := 1440) (by omega) (by omega) (by omega)
  rw [e, lN_i]
section
variable {Y M D : Int32} {a1 : Nat → Int64} {a2 : Nat → Int32} {r : Nat}
theorem cc_nx56 {post : Int64 → St1 → Prop} {m d t : Nat} (hr : r < 4) (hI : cc_nx m d t)
    (HN : ∀ Y M D : Int32, post (-2) (Y, M, D, a1, a2, cc_lo, cc_hi))
    (HS : ∀ (s : Nat) (Y M D : Int32), m < s → s < 210379680 → cc_fit a1 a2 r s → post (lN s) (Y, M, D, a1, a2, cc_lo, cc_hi)) :
    ∃ n, wX_next_56 post (nI r) n (nI d) (nI t) Y M D a1 a2 cc_lo cc_hi := by
  refine loop_m (σ := Nat × Nat × Int32 × Int32 × Int32) (fun n s => wX_next_56 post (nI r) n (nI s.1) (nI s.2.1) s.2.2.1 s.2.2.2.1 s.2.2.2.2 a1 a2 cc_lo cc_hi) (fun s => cc_nx m s.1 s.2.1) (fun s => 146200 - s.1) ?_ (d, t, Y, M, D) hI
  rintro n ⟨d, t, Y, M, D⟩ ⟨h1, h2, h3⟩ hw
  have hw' : ∀ (d' t' : Nat) (Y M D : Int32), cc_nx m d' t' → 146200 - d' < 146200 - d → wX_next_56 post (nI r) n (nI d') (nI t') Y M D a1 a2 cc_lo cc_hi := fun d' t' Y M D g l => hw (d', t', Y, M, D) g l
  clear hw
  replace h1 : d ≤ 146200 := h1
  replace h2 : t < 1440 := h2
  replace h3 : m < 1440 * d + t := h3
  show wX_next_56 post (nI r) (n + 1) (nI d) (nI t) Y M D a1 a2 cc_lo cc_hi
  refine pk_le 146097 d (fun _ => HN _ _ _) (fun hd => cc_split hd ?_)
  have R := cc_relT hd
  have N : wX_next_132 post (wX_next_56 post (nI r) n) (nI r) (nI d) (-1) (nI (cc_y d)) (nI (cc_m d)) (nI (cc_k d)) a1 a2 cc_lo cc_hi := by
    unfold wX_next_132
    exact br_t (by decide) (nm_r (nI_1 d) (hw' (d + 1) 0 _ _ _ ⟨by omega, by omega, by omega⟩ (by omega)))
  dsimp only
  refine cc_isAllowed (f := 3) hr (by omega) (fun al => br_f (by decide) ?_) (fun _ => br_t rfl ?_)
  · refine cc_dayFits hr (fun df => br_f (by decide) (cc_timeFrom hr h2 N (fun s g1 g2 F => ?_))) (fun _ => br_t rfl N)
    unfold wX_next_132
    have e1 : (1440 * d + s) / 1440 = d := by omega
    have e2 : (1440 * d + s) % 1440 = s := by omega
    have G : cc_fit a1 a2 r (1440 * d + s) := by
      unfold cc_fit
      rw [e1, e2]
      exact ⟨⟨al, df⟩, F⟩
    exact br_f (nI_pos (by omega)) (ek_v (P := fun z => post z (nI (cc_y d), nI (cc_m d), nI (cc_k d), a1, a2, cc_lo, cc_hi)) (cc_1440 (by omega) (by omega)) (HS _ _ _ _ (by omega) (by omega) G))
  · obtain ⟨r1, r2, r3, r4, r5, r6, r7⟩ := R
    have hl := cc_len_b (cc_y d) (cc_m d)
    refine cc_lengthOf (by omega) (by omega) (nm_r (e' := nI (d + (cc_len (cc_y d) (cc_m d) - cc_k d + 1))) ?_ (hw' _ 0 _ _ _ ⟨by omega, by omega, by omega⟩ (by omega)))
    rw [pk_sub r6, nI_1, nI_add]
theorem cc_next {post : Int64 → St1 → Prop} {m : Nat} (hr : r < 4) (hm : m < 210379680)
    (HN : ∀ Y M D : Int32, post (-2) (Y, M, D, a1, a2, cc_lo, cc_hi))
    (HS : ∀ (s : Nat) (Y M D : Int32), m < s → s < 210379680 → cc_fit a1 a2 r s → post (lN s) (Y, M, D, a1, a2, cc_lo, cc_hi)) :
    wpX_next post (Y, M, D, a1, a2, cc_lo, cc_hi) (nI r) (lN m) := by
  unfold wpX_next
  dsimp only
  refine cc_isRule hr (br_f (by decide) ?_)
  by_cases h : m < 210379679
  · have p1 : lN m < 210379679 := (pk_lLT (b := 210379679) (by omega) (by omega)).mpr h
    have p2 : 0 ≤ lN m := (pk_lLE (a := 0) (by omega) (by omega)).mpr (Nat.zero_le m)
    refine br_t p1 (br_t p2 ?_)
    rw [lN_1]
    unfold wX_next_36
    exact ⟨by decide, nm_r (cc_ld (by omega)) ⟨by decide, nm_r (cc_lr (by omega)) (cc_nx56 hr ⟨by omega, by omega, by omega⟩ HN HS)⟩⟩
  · have p1 : ¬ lN m < 210379679 := fun z => h ((pk_lLT (b := 210379679) (by omega) (by omega)).mp z)
    exact br_f p1 (HN _ _ _)
theorem cc_fits81 {post : Int32 → St1 → Prop} {d : Nat} (hr : r < 4) (F : cc_dok a1 a2 r d) (H : ∀ Y M D : Int32, post 1 (Y, M, D, a1, a2, cc_lo, cc_hi)) : wX_fits_81 post (nI r) (nI d) 1 (nI (cc_y d)) (nI (cc_m d)) (nI (cc_k d)) a1 a2 cc_lo cc_hi := by
  unfold wX_fits_81
  exact br_f (by decide) (cc_isAllowed (f := 3) hr (by omega) (fun _ => br_f (by decide) (cc_dayFits hr (fun _ => br_f (by decide) (H _ _ _)) (fun z => absurd F.2 z))) (fun z => absurd F.1 z))
theorem cc_fits {post : Int32 → St1 → Prop} {t : Nat} (hr : r < 4) (ht : t < 210379680) (F : cc_fit a1 a2 r t) (H : ∀ Y M D : Int32, post 1 (Y, M, D, a1, a2, cc_lo, cc_hi)) : wpX_fits post (Y, M, D, a1, a2, cc_lo, cc_hi) (nI r) (lN t) := by
  have p1 : ¬ lN t < 0 := fun z => absurd ((pk_lLT (b := 0) (by omega) (by omega)).mp z) (by omega)
  have p2 : lN t < 210379680 := (pk_lLT (b := 210379680) (by omega) (by omega)).mpr ht
  have q1 : nI (t % 1440) / 60 = nI (t % 1440 / 60) := pk_div (d := 60) (by omega) (by omega) (by omega)
  have q2 : nI (t % 1440) - nI (t % 1440) / 60 * 60 = nI (t % 1440 % 60) := pk_rem (d := 60) (by omega) (by omega) (by omega)
  unfold wpX_fits
  dsimp only
  refine cc_isRule hr (br_f (by decide) (br_f p1 (br_t p2 ⟨by decide, nm_r (cc_ld (by omega)) ⟨by decide, nm_r (cc_lr (by omega)) (cc_split (by omega) ⟨by decide, ?_⟩)⟩⟩)))
  rw [q2, q1]
  refine cc_isAllowed (f := 1) hr (by omega) (fun _ => br_f (by decide) ⟨by decide, ?_⟩) (fun z => absurd F.2.1 z)
  exact cc_isAllowed (f := 0) hr (by omega) (fun _ => br_f (by decide) (cc_fits81 hr F.1 H)) (fun z => absurd F.2.2 z)
theorem cc_prev58 {post : Int64 → St1 → Prop} {t : Nat} (hr : r < 4) (ht : t < 210379680) (F : cc_fit a1 a2 r t) (H : ∀ Y M D : Int32, post (lN t) (Y, M, D, a1, a2, cc_lo, cc_hi)) : ∃ n, wX_previous_58 post (nI r) n (nI (t / 1440)) (nI (t % 1440)) Y M D a1 a2 cc_lo cc_hi := by
  refine ⟨0 + 1, br_f (nI_pos (by omega)) (cc_split (by omega) ?_)⟩
  dsimp only
  refine cc_isAllowed (f := 3) hr (by omega) (fun _ => br_f (by decide) ?_) (fun z => absurd F.1.1 z)
  refine cc_dayFits hr (fun _ => br_f (by decide) (cc_timeUpTo hr (by omega) F.2 ?_)) (fun z => absurd F.1.2 z)
  unfold wX_previous_120
  exact br_f (nI_pos (by omega)) (ek_v (P := fun z => post z (nI (cc_y (t / 1440)), nI (cc_m (t / 1440)), nI (cc_k (t / 1440)), a1, a2, cc_lo, cc_hi)) ((cc_1440 (by omega) (by omega)).trans (congrArg lN (by omega))) (H _ _ _))
theorem cc_prev38 {post : Int64 → St1 → Prop} {t : Nat} (hr : r < 4) (ht : t < 210379680) (F : cc_fit a1 a2 r t) (H : ∀ Y M D : Int32, post (lN t) (Y, M, D, a1, a2, cc_lo, cc_hi)) : wX_previous_38 post (nI r) (lN t) Y M D a1 a2 cc_lo cc_hi := by
  unfold wX_previous_38
  exact ⟨by decide, nm_r (cc_ld (by omega)) ⟨by decide, nm_r (cc_lr (by omega)) (cc_prev58 hr ht F H)⟩⟩
theorem cc_previous {post : Int64 → St1 → Prop} {t : Nat} (hr : r < 4) (ht : t < 210379680) (F : cc_fit a1 a2 r t) (H : ∀ Y M D : Int32, post (lN t) (Y, M, D, a1, a2, cc_lo, cc_hi)) : wpX_previous post (Y, M, D, a1, a2, cc_lo, cc_hi) (nI r) (lN (t + 1)) := by
  have p1 : 0 < lN (t + 1) := (pk_lLT (a := 0) (by omega) (by omega)).mpr (by omega)
  have K := cc_prev38 (Y := Y) (M := M) (D := D) hr ht F H
  unfold wpX_previous
  dsimp only
  refine cc_isRule hr (br_f (by decide) (br_t p1 ?_))
  by_cases h : t + 1 < 210379680
  · refine br_t ((pk_lLT (b := 210379680) (by omega) (by omega)).mpr h) ?_
    have e : lN (t + 1) - 1 = lN t := lN_sub (b := 1) (by omega)
    rw [e]
    exact K
  · refine br_f (fun z => h ((pk_lLT (b := 210379680) (by omega) (by omega)).mp z)) ?_
    have e : t = 210379679 := by omega
    rw [e] at K
    exact K
end
end
section
/-! ===== how many values are allowed ===== -/
noncomputable def cc_b (p : Prop) : Nat := @ite Nat p (Classical.propDecidable p) 1 0
theorem cc_b1 {p : Prop} (h : p) : cc_b p = 1 := @if_pos p (Classical.propDecidable p) h Nat 1 0
theorem cc_b0 {p : Prop} (h : ¬ p) : cc_b p = 0 := @if_neg p (Classical.propDecidable p) h Nat 1 0
noncomputable def cc_cnt (p : Nat → Prop) : Nat → Nat
  | 0 => 0
  | n + 1 => cc_cnt p n + cc_b (p n)
theorem cc_cnt1 {p : Nat → Prop} {n : Nat} (h : p n) : cc_cnt p (n + 1) = cc_cnt p n + 1 := by
  show cc_cnt p n + cc_b (p n) = _
  rw [cc_b1 h]
theorem cc_cnt0 {p : Nat → Prop} {n : Nat} (h : ¬ p n) : cc_cnt p (n + 1) = cc_cnt p n := by
  show cc_cnt p n + cc_b (p n) = _
  rw [cc_b0 h, Nat.add_zero]
theorem cc_cntE {p : Nat → Prop} {a : Nat} (h : ∀ v, a ≤ v → v < 60 → ¬ p v) : ∀ k, a + k ≤ 60 → cc_cnt p (a + k) = cc_cnt p a
  | 0, _ => rfl
  | k + 1, hk => by
    have e := cc_cntE h k (by omega)
    have z : ¬ p (a + k) := h (a + k) (by omega) (by omega)
    exact (cc_cnt0 z).trans e
section
variable {Y M D : Int32} {a1 : Nat → Int64} {a2 : Nat → Int32} {r : Nat}
theorem cc_allowed {post : Int32 → Prop} {f : Nat} {v : Int32} (hr : r < 4) (hf : f < 5) (H1 : cc_al a1 a2 r f v → post 1) (H0 : ¬ cc_al a1 a2 r f v → post 0) : wpX_allowed post (Y, M, D, a1, a2, cc_lo, cc_hi) (nI r) (nI f) v := by
  unfold wpX_allowed
  dsimp only
  exact cc_isRule hr (br_f (by decide) (cc_isField hf (br_f (by decide) (cc_isAllowed hr hf (fun h => br_f (by decide) (H1 h)) (fun h => br_t rfl (H0 h))))))
theorem cc_values {post : Int32 → Prop} {f : Nat} (hr : r < 4) (hf : f < 5) (H : post (nI (cc_cnt (fun v => cc_al a1 a2 r f (nI v)) 60))) : wpL_values post (Y, M, D, a1, a2, cc_lo, cc_hi) (nI r) (nI f) := by
  unfold wpL_values
  dsimp only
  have K : ∃ n, wL_values_5 post (nI r) (nI f) Y M D a1 a2 cc_lo cc_hi n (nI (cc_cnt (fun v => cc_al a1 a2 r f (nI v)) 0)) (nI 0) := by
    refine pk_loop (σ := Unit) (fun n i _ => wL_values_5 post (nI r) (nI f) Y M D a1 a2 cc_lo cc_hi n (nI (cc_cnt (fun v => cc_al a1 a2 r f (nI v)) i)) (nI i)) (fun _ _ => True) 60 0 () (by omega) trivial ?_ ?_
    · intro n _ _
      exact pk_le 60 60 (fun _ => H) (fun z => absurd z (by omega))
    · intro n i _ hi _ hw
      have t : wL_values_5 post (nI r) (nI f) Y M D a1 a2 cc_lo cc_hi n (nI (cc_cnt (fun v => cc_al a1 a2 r f (nI v)) (i + 1))) (nI (i + 1)) := hw () trivial
      refine pk_le 60 i (fun z => absurd z (by omega)) (fun _ => cc_allowed hr hf (fun al => br_t rfl ?_) (fun al => br_f (by decide) ?_))
      · rw [cc_cnt1 al] at t
        exact nm_r (nI_1 _) (nm_r (nI_1 i) t)
      · rw [cc_cnt0 al] at t
        exact nm_r (nI_1 i) t
  exact K
theorem cc_valuesOf {post : Int32 → Prop} {f e : Nat} (hr : r < 4) (hf : f < 5) (hlo : cc_lo f = nI 0) (hhi : cc_hi f = nI e) (he : e < 100) (H : post (nI (cc_cnt (fun v => cc_al a1 a2 r f (nI v)) (e + 1)))) : wpX_valuesOf post (Y, M, D, a1, a2, cc_lo, cc_hi) (nI r) (nI f) := by
  unfold wpX_valuesOf
  dsimp only
  refine ⟨pk_in f 5 hf, nm_r (e' := nI 0) (by rw [nI_clamp (by omega), hlo]) ?_⟩
  have hc : cc_hi (nI f).toNatClampNeg = nI e := by rw [nI_clamp (by omega), hhi]
  have K : ∃ n, wX_valuesOf_10 post (nI r) (nI f) Y M D a1 a2 cc_lo cc_hi n (nI (cc_cnt (fun v => cc_al a1 a2 r f (nI v)) 0)) (nI 0) := by
    refine pk_loop (σ := Unit) (fun n i _ => wX_valuesOf_10 post (nI r) (nI f) Y M D a1 a2 cc_lo cc_hi n (nI (cc_cnt (fun v => cc_al a1 a2 r f (nI v)) i)) (nI i)) (fun _ _ => True) (e + 1) 0 () (by omega) trivial ?_ ?_
    · intro n _ _
      exact ⟨pk_in f 5 hf, pk_lt e (e + 1) (fun _ => H) (fun z => absurd z (by omega)) hc⟩
    · intro n i _ hi _ hw
      have t : wX_valuesOf_10 post (nI r) (nI f) Y M D a1 a2 cc_lo cc_hi n (nI (cc_cnt (fun v => cc_al a1 a2 r f (nI v)) (i + 1))) (nI (i + 1)) := hw () trivial
      refine ⟨pk_in f 5 hf, pk_lt e i (fun z => absurd z (by omega)) (fun _ => cc_isAllowed hr hf (fun al => br_f (by decide) ?_) (fun al => br_t rfl ?_)) hc⟩
      · rw [cc_cnt1 al] at t
        exact nm_r (nI_1 _) (nm_r (nI_1 i) t)
      · rw [cc_cnt0 al] at t
        exact nm_r (nI_add _ 0) (nm_r (nI_1 i) t)
  exact K
theorem cc_isDue {post : Int32 → St1 → Prop} {d : Nat} (hr : r < 4) (hd : d < 146097) (H : ∀ x Y M D : Int32, post x (Y, M, D, a1, a2, cc_lo, cc_hi)) : wpX_isDue post (Y, M, D, a1, a2, cc_lo, cc_hi) (nI r) (nI d) := by
  unfold wpX_isDue
  dsimp only
  refine cc_split hd ?_
  dsimp only
  exact cc_isAllowed (f := 3) hr (by omega) (fun _ => br_f (by decide) (cc_dayFits hr (fun _ => br_f (by decide) (H _ _ _ _)) (fun _ => br_t rfl (H _ _ _ _)))) (fun _ => br_t rfl (H _ _ _ _))
theorem cc_dueOn {post : Int32 → St1 → Prop} {d : Nat} (hr : r < 4) (hd : d < 146097) (H0 : ∀ Y M D : Int32, post 0 (Y, M, D, a1, a2, cc_lo, cc_hi))
    (H1 : ∀ Y M D : Int32, post (nI (cc_cnt (fun v => cc_al a1 a2 r 0 (nI v)) 60) * nI (cc_cnt (fun v => cc_al a1 a2 r 1 (nI v)) 60)) (Y, M, D, a1, a2, cc_lo, cc_hi)) :
    wpX_dueOn post (Y, M, D, a1, a2, cc_lo, cc_hi) (nI r) (nI d) := by
  have E : cc_cnt (fun v => cc_al a1 a2 r 1 (nI v)) 60 = cc_cnt (fun v => cc_al a1 a2 r 1 (nI v)) (23 + 1) := by
    refine cc_cntE (p := fun v => cc_al a1 a2 r 1 (nI v)) (a := 24) (fun v h1 h2 t => ?_) 36 (by omega)
    have h3 : ¬ (23 : Int32) < nI v := t.1.2
    exact h3 (nI_lt (a := 23) (by omega) (by omega))
  rw [E] at H1
  unfold wpX_dueOn
  dsimp only
  refine cc_isRule hr (br_f (by decide) (cc_isDay hd (br_f (by decide) (cc_isDue hr hd (fun x Y M D => ?_)))))
  dsimp only
  exact br_c (fun _ => H0 _ _ _) (fun _ => cc_valuesOf (f := 0) (e := 59) hr (by omega) rfl rfl (by omega) (cc_valuesOf (f := 1) (e := 23) hr (by omega) rfl rfl (by omega) (H1 _ _ _)))
/-! ===== allow, fill, act: any answer, any sets ===== -/
theorem cc_a178 {post : Int32 → St1 → Prop} {q : Nat} {a3 a4 : Nat → Int32} (hq : q < 20) (H : ∀ x : Int32, post x (Y, M, D, a1, a2, a3, a4)) : ∃ n, wX_allow_178 post (nI q) Y M D a1 a2 a3 a4 n 0 0 :=
  pk_loop (fun n i s => wX_allow_178 post (nI q) Y M D a1 a2 a3 a4 n s (nI i)) (fun _ _ => True) 60 0 0 (by omega) trivial
    (fun n s _ => pk_le 60 60 (fun _ => H s) (fun z => absurd z (by omega)))
    (fun n i s hi _ hw => pk_le 60 i (fun z => absurd z (by omega)) (fun _ => ⟨pk_in q 20 hq, nm_e (nm_r (nI_1 i) (hw _ trivial))⟩))
theorem cc_a137 {post : Int32 → St1 → Prop} {q st t i : Nat} {a3 a4 : Nat → Int32} (hq : q < 20) (hs : 1 ≤ st) (hs2 : st < 60) (ht : t < 64) (hi : i ≤ t) (H : ∀ (x : Int32) (a1 : Nat → Int64), post x (Y, M, D, a1, a2, a3, a4)) : ∃ n, wX_allow_137 post (nI st) (nI t) (nI q) Y M D n (nI i) a1 a2 a3 a4 := by
  refine loop_m (σ := Nat × (Nat → Int64)) (fun n s => wX_allow_137 post (nI st) (nI t) (nI q) Y M D n (nI s.1) s.2 a2 a3 a4) (fun s => s.1 ≤ 200) (fun s => 200 - s.1) ?_ (i, a1) (show i ≤ 200 by omega)
  rintro n ⟨j, b⟩ hj hw
  have hj' : j ≤ 200 := hj
  have hw' : ∀ (j' : Nat) (b' : Nat → Int64), j' ≤ 200 → 200 - j' < 200 - j → wX_allow_137 post (nI st) (nI t) (nI q) Y M D n (nI j') b' a2 a3 a4 := fun j' b' g l => hw (j', b') g l
  show wX_allow_137 post (nI st) (nI t) (nI q) Y M D (n + 1) (nI j) b a2 a3 a4
  exact pk_lt t j (fun _ => cc_a178 hq (fun x => H x b)) (fun z => ⟨pk_in q 20 hq, pk_in q 20 hq, nm_e (nm_r (nI_add _ _) (hw' _ _ (by omega) (by omega)))⟩)
theorem cc_allow {post : Int32 → St1 → Prop} {p0 p1 p2 : Int32} (H : ∀ (x : Int32) (a1 : Nat → Int64) (a2 : Nat → Int32), post x (Y, M, D, a1, a2, cc_lo, cc_hi)) : wpX_allow post (Y, M, D, a1, a2, cc_lo, cc_hi) p0 p1 p2 := by
  unfold wpX_allow
  dsimp only
  refine nm_e (nm_e (br_c (fun _ => H _ _ _) (fun _ => cc_isRuleX (br_t rfl (H _ _ _)) (fun rr hr er => br_f (by decide) (cc_isFieldX (br_t rfl (H _ _ _)) (fun f hf ef => br_f (by decide) ?_))))))
  rw [er, ef]
  obtain ⟨t, ht, et⟩ := pk_andE p1 (m := 63) 6 (by decide)
  refine nm_e (nm_r et (br_c (fun _ => H _ _ _) (fun hp => ?_)))
  obtain ⟨j, hj, ej⟩ := nI_of hp
  have es : p1 >>> ((6 : Int32) &&& 31) = nI (j / 2 ^ 6) := by
    rw [ej]
    exact pk_shrN hj _ 6 (by decide)
  rw [es]
  refine cc_isValue hf (fun _ => br_t rfl (H _ _ _)) (fun _ => br_f (by decide) (cc_isValue hf (fun _ => br_t rfl (H _ _ _)) (fun _ => br_f (by decide) ?_)))
  refine pk_le (j / 2 ^ 6) t (fun hjt => ?_) (fun _ => H _ _ _)
  rcases pk_ix p2 (n := 60) (by omega) with h | h | ⟨st, hst, e2⟩
  · refine br_t ?_ (H _ _ _)
    have h' := Int32.lt_iff_toInt_lt.mp h
    refine Int32.lt_iff_toInt_lt.mpr ?_
    have z0 : (0 : Int32).toInt = 0 := by decide
    have z1 : (1 : Int32).toInt = 1 := by decide
    omega
  · refine br_c (fun _ => H _ _ _) (fun _ => br_f (fun g => ?_) (H _ _ _))
    have h' := Int32.le_iff_toInt_le.mp h
    have g' := Int32.le_iff_toInt_le.mp g
    have z0 : (nI 60).toInt = 60 := by decide
    have z1 : (59 : Int32).toInt = 59 := by decide
    omega
  · rw [e2]
    refine pk_lt st 1 (fun _ => H _ _ _) (fun h1 => br_t (nI_le (b := 59) (by omega) (by omega)) (nm_r (cc_5 rr f) ⟨pk_in (5 * rr + f) 20 (by omega), br_c (fun _ => ?_) (fun _ => ⟨pk_in (5 * rr + f) 20 (by omega), nm_e ⟨pk_in (5 * rr + f) 20 (by omega), nm_e ?_⟩⟩)⟩))
    · exact cc_a137 (by omega) h1 hst ht hjt (fun x b => H x b _)
    · exact cc_a137 (by omega) h1 hst ht hjt (fun x b => H x b _)
theorem cc_f37 {post : Int32 → St1 → Prop} {f : Nat} {z : Int32} {a3 a4 : Nat → Int32} (hr : r < 4) (hf : f < 5) (H : ∀ (x : Int32) (a2 : Nat → Int32), post x (Y, M, D, a1, a2, a3, a4)) : wX_fill_37 post (nI r) (nI f) z Y M D a1 a2 a3 a4 := by
  unfold wX_fill_37
  exact ⟨pk_in (5 * r + f) 20 (by omega) (cc_5 r f), nm_e (H _ _)⟩
theorem cc_fill {post : Int32 → St1 → Prop} {p0 p1 : Int32} (H : ∀ (x : Int32) (a2 : Nat → Int32), post x (Y, M, D, a1, a2, cc_lo, cc_hi)) : wpX_fill post (Y, M, D, a1, a2, cc_lo, cc_hi) p0 p1 := by
  unfold wpX_fill
  dsimp only
  refine cc_isRuleX (br_t rfl (H _ _)) (fun rr hr er => br_f (by decide) (cc_isFieldX (br_t rfl (H _ _)) (fun f hf ef => br_f (by decide) ?_)))
  rw [er, ef]
  exact ⟨pk_in (5 * rr + f) 20 (by omega) (cc_5 rr f), br_c (fun _ => cc_f37 hr hf H) (fun _ => cc_f37 hr hf H)⟩
theorem cc_low {post : Int32 → Prop} {x : Int32} (H0 : post 0) (H1 : post 1) : wpL_low post () x := br_c (fun _ => H1) (fun _ => br_c (fun _ => H1) (fun _ => H0))
theorem cc_high {post : Int32 → Prop} {x : Int32} (h0 : post 59) (h1 : post 23) (h2 : post 31) (h3 : post 12) (h4 : post 6) : wpL_high post () x := br_c (fun _ => h0) (fun _ => br_c (fun _ => h1) (fun _ => br_c (fun _ => h2) (fun _ => br_c (fun _ => h3) (fun _ => h4))))
theorem cc_from {post : Int32 → Prop} {x p1 : Int32} (H : ∀ z, post z) : wpL_from post () x p1 := by
  unfold wpL_from
  refine cc_low (cc_high (cc_low ⟨by decide, H _⟩ ⟨by decide, H _⟩) (cc_low ⟨by decide, H _⟩ ⟨by decide, H _⟩) (cc_low ⟨by decide, H _⟩ ⟨by decide, H _⟩) (cc_low ⟨by decide, H _⟩ ⟨by decide, H _⟩) (cc_low ⟨by decide, H _⟩ ⟨by decide, H _⟩)) (cc_high (cc_low ⟨by decide, H _⟩ ⟨by decide, H _⟩) (cc_low ⟨by decide, H _⟩ ⟨by decide, H _⟩) (cc_low ⟨by decide, H _⟩ ⟨by decide, H _⟩) (cc_low ⟨by decide, H _⟩ ⟨by decide, H _⟩) (cc_low ⟨by decide, H _⟩ ⟨by decide, H _⟩))
theorem cc_highX {post : Int32 → Prop} {x : Int32} (H : ∀ z, post z) : wpL_high post () x := cc_high (H _) (H _) (H _) (H _) (H _)
theorem cc_to {post : Int32 → Prop} {x p1 p2 : Int32} (H : ∀ z, post z) : wpL_to post () x p1 p2 := by
  unfold wpL_to
  exact cc_from (fun z => nm_e (cc_highX (fun w => br_c (fun _ => H _) (fun _ => br_c (fun _ => cc_highX (fun v => H v)) (fun _ => H _)))))
theorem cc_step {post : Int32 → Prop} {x : Int32} (H : ∀ z, post z) : wpL_step post () x := by
  unfold wpL_step
  exact ⟨by decide, H _⟩
theorem cc_field {post : Int32 → Prop} {x : Int32} (H : ∀ z, post z) : wpL_field post () x := by
  unfold wpL_field
  exact br_c (fun _ => H _) (fun _ => ⟨by decide, H _⟩)
theorem cc_act {post : Int32 → St1 → Prop} {p1 p2 p3 p4 : Int32} (H : ∀ (x : Int32) (a1 : Nat → Int64) (a2 : Nat → Int32), post x (Y, M, D, a1, a2, cc_lo, cc_hi)) : wpL_act post (Y, M, D, a1, a2, cc_lo, cc_hi) p1 p2 p3 p4 := by
  unfold wpL_act
  dsimp only
  exact nm_e (cc_field (fun f => br_c (fun _ => cc_fill (fun x b => H x _ b)) (fun _ => cc_from (fun g => cc_to (fun h => cc_step (fun k => cc_allow (fun x b c => H x b c)))))))
end
theorem cc_init {post : St1 → Prop} (H : ∀ a2 : Nat → Int32, post (0, 0, 0, (fun _ => 0), a2, cc_lo, cc_hi)) : wpX_init post 4 50 (0, 0, 0) := by
  unfold wpX_init
  dsimp only
  refine ⟨by omega, by omega, by omega, by omega, by omega, by omega, by omega, by omega, ?_⟩
  exact pk_loop (fun n i s => wX_init_36 post 4 50 4 50 0 0 0 n (nI i) (fun _ => 0) s (fun _ => 0) (fun _ => 0)) (fun _ _ => True) 20 0 (fun _ => 0) (by omega) trivial
    (fun n s _ => pk_le 20 20 (fun _ => nm_e (nm_e (nm_e (nm_e (nm_e (nm_e (nm_e (H s)))))))) (fun z => absurd z (by omega)))
    (fun n i s hi _ hw => pk_le 20 i (fun z => absurd z (by omega)) (fun _ => ⟨pk_in i 20 hi, nm_e (nm_r (nI_1 i) (hw _ trivial))⟩))
end
section
/-! ===== the law ===== -/
theorem cc_dayL {post : Int32 → Prop} {p0 p1 : Int32} (H : ∀ d, d < 146097 → post (nI d)) : wpL_day post () p0 p1 := by
  unfold wpL_day
  obtain ⟨u, hu, eu⟩ := pk_andE p0 (m := 1023) 10 (by decide)
  obtain ⟨v, hv, ev⟩ := pk_andE p1 (m := 255) 8 (by decide)
  have e1 : ((p0 &&& 1023) * 143) + (p1 &&& 255) = nI (u * 143 + v) := by
    rw [eu, ev]
    show nI u * nI 143 + nI v = _
    rw [pk_mul, nI_add]
  rw [e1]
  have e2 : nI (u * 143 + v) - nI (u * 143 + v) / 146097 * 146097 = nI ((u * 143 + v) % 146097) := pk_rem (d := 146097) (by omega) (by omega) (by omega)
  rw [e2]
  exact ⟨by decide, H _ (by omega)⟩
section
variable {post : Int32 → Prop} {L : Nat} {xs : Nat → Int32} {J : Int32 → Int32 → Int32 → Int32 → (Nat → Int64) → (Nat → Int32) → (Nat → Int32) → (Nat → Int32) → Prop} {kc ks : Nat} {Y M D : Int32} {a1 : Nat → Int64} {a2 : Nat → Int32} {r d t : Nat}
theorem cc_235 {x2 : Int32} (hr : r < 4) (hd : d < 146097) (HJ : ∀ Y M D : Int32, J (x2 + 4) Y M D a1 a2 cc_lo cc_hi) : wL_law_235 post L xs J x2 (nI r) (nI d) kc ks Y M D a1 a2 cc_lo cc_hi := by
  unfold wL_law_235
  refine cc_dueOn hr hd (fun Y M D => ?_) (fun Y M D => ?_)
  · dsimp only
    exact cc_values (f := 0) hr (by omega) (cc_values (f := 1) hr (by omega) (br_t rfl (nm_e (HJ _ _ _))))
  · dsimp only
    exact cc_values (f := 0) hr (by omega) (cc_values (f := 1) hr (by omega) (br_c (fun _ => nm_e (HJ _ _ _)) (fun _ => br_t rfl (nm_e (HJ _ _ _)))))
theorem cc_140 {w : Int32} (hr : r < 4) (hd : d < 146097) (hL : L ≤ 260) (ht : t + 3 < L) (HJ : ∀ Y M D : Int32, J (nI t + 4) Y M D a1 a2 cc_lo cc_hi) : wL_law_140 post L xs J (nI t) (nI r) (nI d) w w kc ks Y M D a1 a2 cc_lo cc_hi := by
  unfold wL_law_140
  obtain ⟨q, hq, eq⟩ := pk_andE (xs (nI t + 3).toNatClampNeg) (m := 2047) 11 (by decide)
  rw [eq]
  have e1 : nI q - nI q / 1440 * 1440 = nI (q % 1440) := pk_rem (d := 1440) (by omega) (by omega) (by omega)
  rw [e1]
  refine br_t rfl ⟨pk_in (t + 3) L ht (nI_add t 3), by decide, nm_r (cc_1440 (by omega) (by omega)) ?_⟩
  refine cc_next hr (by omega) (fun Y M D => br_t (by decide) (cc_235 hr hd HJ)) (fun s Y M D h1 h2 F => ?_)
  have p1 : ¬ lN s < 0 := fun z => absurd ((pk_lLT (b := 0) (by omega) (by omega)).mp z) (by omega)
  have p2 : lN (1440 * d + q % 1440) < lN s := (pk_lLT (by omega) (by omega)).mpr h1
  dsimp only
  refine br_f p1 (cc_fits hr h2 F (fun Y M D => ?_))
  dsimp only
  rw [lN_1]
  exact cc_previous hr h2 F (fun Y M D => br_t rfl (br_t rfl (br_t p2 (cc_235 hr hd HJ))))
end
theorem cc_law10 {xs : Nat → Int32} {L : Nat} (hL : L ≤ 260) {kc ks : Nat} {Y M D : Int32} {a1 : Nat → Int64} {a2 : Nat → Int32} : ∃ n, wL_law_10 (fun r => r = 1) L xs kc ks n 0 Y M D a1 a2 cc_lo cc_hi := by
  refine loop_m (σ := Nat × Int32 × Int32 × Int32 × (Nat → Int64) × (Nat → Int32)) (fun n s => wL_law_10 (fun r => r = 1) L xs kc ks n (nI s.1) s.2.1 s.2.2.1 s.2.2.2.1 s.2.2.2.2.1 s.2.2.2.2.2 cc_lo cc_hi) (fun s => s.1 ≤ 300) (fun s => 300 - s.1) ?_ (0, Y, M, D, a1, a2) (Nat.zero_le 300)
  rintro n ⟨t, Y, M, D, a1, a2⟩ ht hw
  have ht' : t ≤ 300 := ht
  have hw' : ∀ (Y M D : Int32) (b1 : Nat → Int64) (b2 : Nat → Int32), t + 4 ≤ 300 → wL_law_10 (fun r => r = 1) L xs kc ks n (nI (t + 4)) Y M D b1 b2 cc_lo cc_hi := fun Y M D b1 b2 g => hw (t + 4, Y, M, D, b1, b2) g (show 300 - (t + 4) < 300 - t by omega)
  clear hw
  show wL_law_10 (fun r => r = 1) L xs kc ks (n + 1) (nI t) Y M D a1 a2 cc_lo cc_hi
  refine pk_le L (t + 3) (fun _ => rfl) (fun h => ⟨pk_in t L (by omega), pk_in (t + 1) L (by omega) (nI_add t 1), pk_in (t + 2) L (by omega) (nI_add t 2), pk_in (t + 3) L (by omega) (nI_add t 3), cc_act (fun x b1 b2 => ?_)⟩) rfl (nI_add t 3)
  have HJ : ∀ Y M D : Int32, wL_law_10 (fun r => r = 1) L xs kc ks n (nI t + 4) Y M D b1 b2 cc_lo cc_hi := by
    intro Y M D
    have e : nI t + 4 = nI (t + 4) := nI_add t 4
    rw [e]
    exact hw' Y M D b1 b2 (by omega)
  obtain ⟨r, hr, er⟩ := pk_andE (xs (nI t + 1).toNatClampNeg) (m := 3) 2 (by decide)
  dsimp only
  refine ⟨pk_in (t + 1) L (by omega) (nI_add t 1), nm_r er ⟨pk_in (t + 2) L (by omega) (nI_add t 2), pk_in (t + 3) L (by omega) (nI_add t 3), cc_dayL (fun d hd => cc_date hd ?_)⟩⟩
  dsimp only
  refine cc_day (cc_relT hd) (cc_addMonths hd (fun Y M D => ?_))
  dsimp only
  refine br_t rfl (br_t rfl (cc_weekday hd ?_))
  refine pk_lt 146096 (d + 7) (fun _ => cc_140 hr hd hL h HJ) (fun g => ?_) rfl (nI_add d 7)
  have e : nI d + 7 = nI (d + 7) := nI_add d 7
  rw [e]
  refine cc_weekday (by omega) ?_
  rw [cc_w7 hd]
  exact cc_140 hr hd hL h HJ
theorem i_vc (xs : Nat → Int32) (L : Nat) (hL : L ≤ 260) : wpL_law (fun r => r = 1) L xs := by
  unfold wpL_law
  exact ⟨4, 50, by omega, by omega, cc_init (fun a2 => cc_law10 hL)⟩
end
