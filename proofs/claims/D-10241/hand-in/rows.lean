section
/-! ===== part 1: matrices of differences, plain ===== -/
def dt_cl (M : Nat → Nat → Int) : Prop := (∀ p, p < 5 → M p p = 0) ∧ (∀ p q r, p < 5 → q < 5 → r < 5 → M p q ≤ M p r + M r q) ∧ (∀ p q, p < 5 → q < 5 → M p q ≤ 7)
def dt_in (M : Nat → Nat → Int) (t : Nat → Int) : Prop := ∀ p q, p < 5 → q < 5 → t p - t q ≤ M p q
theorem dt_lo {M : Nat → Nat → Int} (h : dt_cl M) {p q : Nat} (hp : p < 5) (hq : q < 5) : -7 ≤ M p q := by
  have h1 := h.1 p hp
  have h2 := h.2.1 p p q hp hp hq
  have h3 := h.2.2 q p hq hp
  omega
/-- one comparison more -/
def dt_ti (M : Nat → Nat → Int) (i j : Nat) (l : Int) (p q : Nat) : Int := if M p i + l + M j q < M p q then M p i + l + M j q else M p q
theorem dt_ti_cl {M : Nat → Nat → Int} {i j : Nat} {l : Int} (h : dt_cl M) (hi : i < 5) (hj : j < 5) (hl : 0 ≤ M j i + l) : dt_cl (dt_ti M i j l) := by
  obtain ⟨hd, ht, hb⟩ := h
  refine ⟨fun p hp => ?_, fun p q r hp hq hr => ?_, fun p q hp hq => ?_⟩
  · have e := hd p hp
    have t1 := ht j i p hj hi hp
    unfold dt_ti
    split <;> omega
  · have e1 := ht p q r hp hq hr
    have e2 := ht p i r hp hi hr
    have e3 := ht j q r hj hq hr
    have e4 := ht j i r hj hi hr
    unfold dt_ti
    split <;> split <;> split <;> omega
  · have e := hb p q hp hq
    unfold dt_ti
    split <;> omega
theorem dt_ti_in {M : Nat → Nat → Int} {i j : Nat} {l : Int} {t : Nat → Int} (hi : i < 5) (hj : j < 5) (hn : t i - t j ≤ l) (h : dt_in M t) : dt_in (dt_ti M i j l) t := by
  intro p q hp hq
  have a := h p q hp hq
  have b := h p i hp hi
  have c := h j q hj hq
  unfold dt_ti
  split <;> omega
theorem dt_ti_le {M : Nat → Nat → Int} {i j : Nat} {l : Int} {p q : Nat} : dt_ti M i j l p q ≤ M p q := by
  unfold dt_ti
  split <;> omega
theorem dt_ti_ij {M : Nat → Nat → Int} {i j : Nat} {l : Int} (h : dt_cl M) (hi : i < 5) (hj : j < 5) : dt_ti M i j l i j ≤ l := by
  have a := h.1 i hi
  have b := h.1 j hj
  unfold dt_ti
  split <;> omega
/-- the column of i and the row of j stay as they were -/
theorem dt_ti_col {M : Nat → Nat → Int} {i j : Nat} {l : Int} (hl : 0 ≤ M j i + l) (p : Nat) : dt_ti M i j l p i = M p i := by
  unfold dt_ti
  split <;> omega
theorem dt_ti_row {M : Nat → Nat → Int} {i j : Nat} {l : Int} (hl : 0 ≤ M j i + l) (q : Nat) : dt_ti M i j l j q = M j q := by
  unfold dt_ti
  split <;> omega
theorem dt_ex {M : Nat → Nat → Int} (h : dt_cl M) {i j : Nat} (hi : i < 5) (hj : j < 5) : ∃ t : Nat → Int, dt_in M t ∧ t i - t j = M i j := by
  refine ⟨fun p => M p j, fun p q hp hq => ?_, ?_⟩
  · have e := h.2.1 p j q hp hj hq
    show M p j - M q j ≤ M p q
    omega
  · have e := h.1 j hj
    show M i j - M j j = M i j
    omega
theorem dt_cl_of {M N : Nat → Nat → Int} (e : ∀ p q, p < 5 → q < 5 → N p q = M p q) (h : dt_cl M) : dt_cl N := by
  refine ⟨fun p hp => ?_, fun p q r hp hq hr => ?_, fun p q hp hq => ?_⟩
  · rw [e p p hp hp]
    exact h.1 p hp
  · rw [e p q hp hq, e p r hp hr, e r q hr hq]
    exact h.2.1 p q r hp hq hr
  · rw [e p q hp hq]
    exact h.2.2 p q hp hq
theorem dt_in_of {M N : Nat → Nat → Int} {t : Nat → Int} (e : ∀ p q, p < 5 → q < 5 → N p q = M p q) (h : dt_in M t) : dt_in N t := by
  intro p q hp hq
  rw [e p q hp hq]
  exact h p q hp hq
/-! the constraints: Z sizes, E ends, B begins, L limits -/
def dt_met (Z E B : Nat → Nat) (L : Nat → Int) (t : Nat → Int) (c : Nat) : Prop := ∃ k, k < Z c ∧ t (E (3 * c + k)) - t (B (3 * c + k)) ≤ L (3 * c + k)
def dt_any (Z E B : Nat → Nat) (L : Nat → Int) (M : Nat → Nat → Int) (c : Nat) : Prop := ∃ k, k < Z c ∧ M (E (3 * c + k)) (B (3 * c + k)) ≤ L (3 * c + k)
def dt_sol (Z E B : Nat → Nat) (L : Nat → Int) (S : Nat → Nat → Int) (act : Nat) (t : Nat → Int) : Prop := dt_in S t ∧ ∀ c, c < act → dt_met Z E B L t c
def dt_lev (Z E B : Nat → Nat) (L : Nat → Int) (S M : Nat → Nat → Int) (d : Nat) : Prop := dt_cl M ∧ (∀ p q, p < 5 → q < 5 → M p q ≤ S p q) ∧ ∀ c, c < d → dt_any Z E B L M c
def dt_rem (Z E B : Nat → Nat) (L : Nat → Int) (act : Nat) (M : Nat → Nat → Int) (u d : Nat) (t : Nat → Int) : Prop :=
  d = act ∨ u = 0 ∨ (¬ dt_any Z E B L M d ∧ ∃ k, u ≤ k ∧ k < Z d ∧ t (E (3 * d + k)) - t (B (3 * d + k)) ≤ L (3 * d + k))
def dt_cov (md : Bool) (i j any : Nat) (best : Int) (t : Nat → Int) : Prop := any = 1 ∧ (md = true → t i - t j ≤ best)
def dt_pend (Z E B : Nat → Nat) (L : Nat → Int) (act h : Nat) (M : Nat → Nat → Nat → Int) (T : Nat → Nat) (t : Nat → Int) : Prop := ∃ d, d < h ∧ dt_in (M d) t ∧ dt_rem Z E B L act (M d) (T d) d t
/-- the search's invariant: h levels stand (depth is h - 1) -/
def dt_J (Z E B : Nat → Nat) (L : Nat → Int) (S : Nat → Nat → Int) (act : Nat) (md : Bool) (i j any : Nat) (best : Int) (h : Nat) (M : Nat → Nat → Nat → Int) (T : Nat → Nat) : Prop :=
  h ≤ act + 1 ∧ (any = 0 ∨ any = 1) ∧ (any = 0 → best = -1000) ∧ (any = 1 → ∃ t, dt_sol Z E B L S act t ∧ (md = true → t i - t j = best))
  ∧ (∀ d, d < h → dt_lev Z E B L S (M d) d ∧ T d ≤ 3) ∧ (∀ t, dt_sol Z E B L S act t → dt_cov md i j any best t ∨ dt_pend Z E B L act h M T t)
section
variable {Z E B : Nat → Nat} {L : Nat → Int} {S : Nat → Nat → Int} {act : Nat} {md : Bool} {i j any : Nat} {best : Int} {h d : Nat} {M M' : Nat → Nat → Nat → Int} {T T' : Nat → Nat}
theorem dt_lev_sol {N : Nat → Nat → Int} {t : Nat → Int} (hE : ∀ k, E k < 5) (hB : ∀ k, B k < 5) (hl : dt_lev Z E B L S N act) (ht : dt_in N t) : dt_sol Z E B L S act t := by
  refine ⟨fun p q hp hq => Int.le_trans (ht p q hp hq) (hl.2.1 p q hp hq), fun c hc => ?_⟩
  obtain ⟨k, hk, e⟩ := hl.2.2 c hc
  exact ⟨k, hk, Int.le_trans (ht _ _ (hE _) (hB _)) e⟩
theorem dt_J_init (hS : dt_cl S) (hM : ∀ p q, p < 5 → q < 5 → M 0 p q = S p q) (hT : T 0 = 0) : dt_J Z E B L S act md i j 0 (-1000) 1 M T := by
  refine ⟨by omega, Or.inl rfl, fun _ => rfl, fun z => absurd z (by decide), fun d hd => ?_, fun t ht => Or.inr ⟨0, by omega, dt_in_of hM ht.1, Or.inr (Or.inl hT)⟩⟩
  obtain rfl : d = 0 := by omega
  refine ⟨⟨dt_cl_of hM hS, fun p q hp hq => ?_, fun c hc => absurd hc (by omega)⟩, by omega⟩
  rw [hM p q hp hq]
  exact Int.le_refl _
theorem dt_J_down (hJ : dt_J Z E B L S act md i j any best (d + 1) M T) (hd : d < act) (hM : ∀ e, e ≤ d → M' e = M e) (hT : ∀ e, e < d → T' e = T e) (h3 : T' d ≤ 3) (h0 : T' (d + 1) = 0)
    (hl : dt_lev Z E B L S (M' (d + 1)) (d + 1))
    (hs : ∀ t, dt_sol Z E B L S act t → dt_in (M d) t → dt_rem Z E B L act (M d) (T d) d t → dt_in (M' (d + 1)) t ∨ dt_rem Z E B L act (M d) (T' d) d t) :
    dt_J Z E B L S act md i j any best (d + 2) M' T' := by
  obtain ⟨j1, j2, j3, j4, j5, j6⟩ := hJ
  refine ⟨by omega, j2, j3, j4, fun e he => ?_, fun t ht => ?_⟩
  · rcases Nat.lt_or_ge e d with z | z
    · rw [hM e (by omega), hT e z]
      exact j5 e (by omega)
    · rcases Nat.lt_or_ge e (d + 1) with y | y
      · obtain rfl : e = d := by omega
        rw [hM e (by omega)]
        exact ⟨(j5 e (by omega)).1, h3⟩
      · obtain rfl : e = d + 1 := by omega
        exact ⟨hl, by omega⟩
  · rcases j6 t ht with z | ⟨e, he, h1, h2⟩
    · exact Or.inl z
    · refine Or.inr ?_
      rcases Nat.lt_or_ge e d with y | y
      · refine ⟨e, by omega, ?_, ?_⟩
        · rw [hM e (by omega)]
          exact h1
        · rw [hM e (by omega), hT e y]
          exact h2
      · obtain rfl : e = d := by omega
        rcases hs t ht h1 h2 with x | x
        · exact ⟨e + 1, by omega, x, Or.inr (Or.inl h0)⟩
        · refine ⟨e, by omega, ?_, ?_⟩
          · rw [hM e (by omega)]
            exact h1
          · rw [hM e (by omega)]
            exact x
theorem dt_J_drop (hJ : dt_J Z E B L S act md i j any best (d + 1) M T) (hM : ∀ e, e < d → M' e = M e) (hT : ∀ e, e < d → T' e = T e)
    (hs : ∀ t, dt_sol Z E B L S act t → dt_in (M d) t → dt_rem Z E B L act (M d) (T d) d t → dt_cov md i j any best t) :
    dt_J Z E B L S act md i j any best d M' T' := by
  obtain ⟨j1, j2, j3, j4, j5, j6⟩ := hJ
  refine ⟨by omega, j2, j3, j4, fun e he => ?_, fun t ht => ?_⟩
  · rw [hM e he, hT e he]
    exact j5 e (by omega)
  · rcases j6 t ht with z | ⟨e, he, h1, h2⟩
    · exact Or.inl z
    · rcases Nat.lt_or_ge e d with y | y
      · refine Or.inr ⟨e, y, ?_, ?_⟩
        · rw [hM e y]
          exact h1
        · rw [hM e y, hT e y]
          exact h2
      · obtain rfl : e = d := by omega
        exact Or.inl (hs t ht h1 h2)
theorem dt_J_leaf (hJ : dt_J Z E B L S act md i j any best (act + 1) M T) (hE : ∀ k, E k < 5) (hB : ∀ k, B k < 5) (hi : i < 5) (hj : j < 5) {r : Int} (hr : md = true → r = M act i j) (hr0 : -1000 < r) :
    dt_J Z E B L S act md i j 1 (if r ≤ best then best else r) act M T := by
  obtain ⟨j1, j2, j3, j4, j5, j6⟩ := hJ
  refine ⟨by omega, Or.inr rfl, fun z => absurd z (by decide), fun _ => ?_, fun e he => j5 e (by omega), fun t ht => ?_⟩
  · by_cases c : r ≤ best
    · rw [if_pos c]
      rcases j2 with z | z
      · have := j3 z
        omega
      · exact j4 z
    · rw [if_neg c]
      have lv := (j5 act (by omega)).1
      obtain ⟨t, h1, h2⟩ := dt_ex lv.1 hi hj
      refine ⟨t, dt_lev_sol hE hB lv h1, fun z => ?_⟩
      rw [hr z]
      exact h2
  · have hb : best ≤ (if r ≤ best then best else r) := by split <;> omega
    have hb2 : r ≤ (if r ≤ best then best else r) := by split <;> omega
    rcases j6 t ht with z | ⟨e, he, h1, h2⟩
    · exact Or.inl ⟨rfl, fun y => Int.le_trans (z.2 y) hb⟩
    · rcases Nat.lt_or_ge e act with y | y
      · exact Or.inr ⟨e, y, h1, h2⟩
      · obtain rfl : e = act := by omega
        refine Or.inl ⟨rfl, fun y => Int.le_trans ?_ hb2⟩
        rw [hr y]
        exact h1 i j hi hj
theorem dt_J_prune (hJ : dt_J Z E B L S act md i j any best (d + 1) M T) (hi : i < 5) (hj : j < 5) (ha : any = 1) {r : Int} (hr : md = true → r = M d i j) (hb : r ≤ best) : dt_J Z E B L S act md i j any best d M T := by
  refine dt_J_drop hJ (fun _ _ => rfl) (fun _ _ => rfl) (fun t _ h1 _ => ⟨ha, fun y => Int.le_trans ?_ hb⟩)
  rw [hr y]
  exact h1 i j hi hj
/-- what is left of a level, for a solution -/
theorem dt_rem_k {N : Nat → Nat → Int} {u : Nat} {t : Nat → Int} (hd : d < act) (ht : dt_sol Z E B L S act t) (h : dt_rem Z E B L act N u d t) : (u = 0 ∧ dt_any Z E B L N d) ∨ (∃ k, u ≤ k ∧ k < Z d ∧ t (E (3 * d + k)) - t (B (3 * d + k)) ≤ L (3 * d + k)) := by
  rcases h with z | z | z
  · omega
  · obtain ⟨k, hk, e⟩ := ht.2 d hd
    exact Or.inr ⟨k, by omega, hk, e⟩
  · exact Or.inr z.2
theorem dt_J_fail (hJ : dt_J Z E B L S act md i j any best (d + 1) M T) (hE : ∀ k, E k < 5) (hB : ∀ k, B k < 5) (hd : d < act) (hM : ∀ e, e < d → M' e = M e) (hT : ∀ e, e < d → T' e = T e)
    (hc : (dt_any Z E B L (M d) d ∧ T d ≠ 0) ∨ (¬ dt_any Z E B L (M d) d ∧ ∀ k, T d ≤ k → k < Z d → M d (B (3 * d + k)) (E (3 * d + k)) + L (3 * d + k) < 0)) :
    dt_J Z E B L S act md i j any best d M' T' := by
  refine dt_J_drop hJ hM hT (fun t ht h1 h2 => ?_)
  rcases hc with ⟨c1, c2⟩ | ⟨c1, c2⟩
  · rcases h2 with z | z | z
    · omega
    · exact absurd z c2
    · exact absurd c1 z.1
  · rcases dt_rem_k hd ht h2 with ⟨_, z⟩ | ⟨k, k1, k2, k3⟩
    · exact absurd z c1
    · have e1 := c2 k k1 k2
      have e2 := h1 (B (3 * d + k)) (E (3 * d + k)) (hB _) (hE _)
      omega
theorem dt_J_pass (hJ : dt_J Z E B L S act md i j any best (d + 1) M T) (hd : d < act) (hM : ∀ e, e ≤ d → M' e = M e) (hN : ∀ p q, p < 5 → q < 5 → M' (d + 1) p q = M d p q) (hE : ∀ k, E k < 5) (hB : ∀ k, B k < 5)
    (hT : ∀ e, e < d → T' e = T e) (h3 : T' d ≤ 3) (h0 : T' (d + 1) = 0) (hc : dt_any Z E B L (M d) d) : dt_J Z E B L S act md i j any best (d + 2) M' T' := by
  have lv := (hJ.2.2.2.2.1 d (by omega)).1
  refine dt_J_down hJ hd hM hT h3 h0 ⟨dt_cl_of hN lv.1, fun p q hp hq => ?_, fun c hc' => ?_⟩ (fun t _ h1 _ => Or.inl (dt_in_of hN h1))
  · rw [hN p q hp hq]
    exact lv.2.1 p q hp hq
  · have w : dt_any Z E B L (M d) c := by
      rcases Nat.lt_or_ge c d with z | z
      · exact lv.2.2 c z
      · obtain rfl : c = d := by omega
        exact hc
    obtain ⟨k, k1, k2⟩ := w
    refine ⟨k, k1, ?_⟩
    rw [hN _ _ (hE _) (hB _)]
    exact k2
theorem dt_J_take (hJ : dt_J Z E B L S act md i j any best (d + 1) M T) (hd : d < act) (hE : ∀ k, E k < 5) (hB : ∀ k, B k < 5) {k : Nat} (hM : ∀ e, e ≤ d → M' e = M e)
    (hN : ∀ p q, p < 5 → q < 5 → M' (d + 1) p q = dt_ti (M d) (E (3 * d + k)) (B (3 * d + k)) (L (3 * d + k)) p q)
    (hT : ∀ e, e < d → T' e = T e) (hk : T' d = k + 1) (hk2 : T d ≤ k) (hk3 : k < Z d) (hZ : Z d ≤ 3) (h0 : T' (d + 1) = 0)
    (hn : ¬ dt_any Z E B L (M d) d) (hf : 0 ≤ M d (B (3 * d + k)) (E (3 * d + k)) + L (3 * d + k))
    (hu : ∀ k', T d ≤ k' → k' < k → M d (B (3 * d + k')) (E (3 * d + k')) + L (3 * d + k') < 0) :
    dt_J Z E B L S act md i j any best (d + 2) M' T' := by
  have lv := (hJ.2.2.2.2.1 d (by omega)).1
  refine dt_J_down hJ hd hM hT (by omega) h0 ⟨dt_cl_of hN (dt_ti_cl lv.1 (hE _) (hB _) hf), fun p q hp hq => ?_, fun c hc' => ?_⟩ (fun t ht h1 h2 => ?_)
  · rw [hN p q hp hq]
    exact Int.le_trans dt_ti_le (lv.2.1 p q hp hq)
  · rcases Nat.lt_or_ge c d with z | z
    · obtain ⟨k', k1, k2⟩ := lv.2.2 c z
      refine ⟨k', k1, ?_⟩
      rw [hN _ _ (hE _) (hB _)]
      exact Int.le_trans dt_ti_le k2
    · obtain rfl : c = d := by omega
      refine ⟨k, hk3, ?_⟩
      rw [hN _ _ (hE _) (hB _)]
      exact dt_ti_ij lv.1 (hE _) (hB _)
  · rcases dt_rem_k hd ht h2 with ⟨_, z⟩ | ⟨k', k1, k2, k3⟩
    · exact absurd z hn
    · rcases Nat.lt_or_ge k' k with y | y
      · have e1 := hu k' k1 y
        have e2 := h1 (B (3 * d + k')) (E (3 * d + k')) (hB _) (hE _)
        omega
      · rcases Nat.lt_or_ge k k' with x | x
        · exact Or.inr (Or.inr (Or.inr ⟨hn, k', by omega, k2, k3⟩))
        · obtain rfl : k' = k := by omega
          exact Or.inl (dt_in_of hN (dt_ti_in (hE _) (hB _) k3 h1))
end
/-! the steps: every one takes from what is left -/
def dt_W : Nat → Nat
  | 0 => 1
  | k + 1 => 3 * (1 + dt_W k) + 1
def dt_w (act d : Nat) : Nat := if d < act then 1 + dt_W (act - d - 1) else 0
def dt_ph (act : Nat) (T : Nat → Nat) : Nat → Nat
  | 0 => 0
  | k + 1 => dt_ph act T k + ((3 - T k) * dt_w act k + 1)
theorem dt_w_s {act d : Nat} (h : d < act) : dt_w act d = 2 + 3 * dt_w act (d + 1) := by
  unfold dt_w
  rw [if_pos h]
  by_cases c : d + 1 < act
  · rw [if_pos c, show act - d - 1 = (act - (d + 1) - 1) + 1 by omega]
    show 1 + (3 * (1 + dt_W (act - (d + 1) - 1)) + 1) = _
    omega
  · rw [if_neg c, show act - d - 1 = 0 by omega]
    rfl
theorem dt_ph_of {act : Nat} {T T' : Nat → Nat} : ∀ h, (∀ e, e < h → T' e = T e) → dt_ph act T' h = dt_ph act T h := by
  intro h
  induction h with
  | zero => exact fun _ => rfl
  | succ k ih =>
    intro e
    show dt_ph act T' k + ((3 - T' k) * dt_w act k + 1) = dt_ph act T k + ((3 - T k) * dt_w act k + 1)
    rw [ih (fun x hx => e x (by omega)), e k (by omega)]
theorem dt_ph_up {act d : Nat} {T T' : Nat → Nat} (h : ∀ e, e < d → T' e = T e) : dt_ph act T' d + 1 ≤ dt_ph act T (d + 1) := by
  show _ ≤ dt_ph act T d + ((3 - T d) * dt_w act d + 1)
  rw [dt_ph_of d h]
  omega
theorem dt_ph_down {act d : Nat} {T T' : Nat → Nat} (hd : d < act) (h : ∀ e, e < d → T' e = T e) (h1 : T d < T' d) (h3 : T' d ≤ 3) (h0 : T' (d + 1) = 0) : dt_ph act T' (d + 2) + 1 ≤ dt_ph act T (d + 1) := by
  show dt_ph act T' d + ((3 - T' d) * dt_w act d + 1) + ((3 - T' (d + 1)) * dt_w act (d + 1) + 1) + 1 ≤ dt_ph act T d + ((3 - T d) * dt_w act d + 1)
  rw [dt_ph_of d h, h0]
  have e := dt_w_s hd
  have f : (3 - T' d + 1) * dt_w act d ≤ (3 - T d) * dt_w act d := Nat.mul_le_mul_right _ (by omega)
  rw [Nat.add_mul, Nat.one_mul] at f
  omega
theorem dt_ph_1 : ∀ act, act < 9 → 0 + ((3 - 0) * dt_w act 0 + 1) ≤ 19681 := by decide
theorem dt_ph_init {act : Nat} {T : Nat → Nat} (h : act ≤ 8) (h0 : T 0 = 0) : dt_ph act T 1 ≤ 19681 := by
  show 0 + ((3 - T 0) * dt_w act 0 + 1) ≤ 19681
  rw [h0]
  exact dt_ph_1 act (by omega)
end
section
/-! ===== part 2: ints, the matrix of an array, the small loops ===== -/
theorem dt_add {x y : Int32} (h1 : -2000000 ≤ x.toInt) (h2 : x.toInt ≤ 2000000) (h3 : -2000000 ≤ y.toInt) (h4 : y.toInt ≤ 2000000) : (x + y).toInt = x.toInt + y.toInt := by
  rw [Int32.toInt_add]
  exact Int.bmod_eq_of_le (by omega) (by omega)
theorem dt_sub {x y : Int32} (h1 : -2000000 ≤ x.toInt) (h2 : x.toInt ≤ 2000000) (h3 : -2000000 ≤ y.toInt) (h4 : y.toInt ≤ 2000000) : (x - y).toInt = x.toInt - y.toInt := by
  rw [Int32.toInt_sub]
  exact Int.bmod_eq_of_le (by omega) (by omega)
theorem dt_neg {x : Int32} (h1 : -2000000 ≤ x.toInt) (h2 : x.toInt ≤ 2000000) : (-x).toInt = -x.toInt := by
  rw [Int32.toInt_neg]
  exact Int.bmod_eq_of_le (by omega) (by omega)
theorem dt_nm1 {d : Nat} (h : d < 2 ^ 31) : ¬ nI d = (-1 : Int32) := by
  intro e
  have e2 := congrArg Int32.toInt e
  rw [nI_toInt h, show (-1 : Int32).toInt = -1 from by decide] at e2
  omega
theorem dt_ix (o p q : Nat) : (nI o + 5 * nI p) + nI q = nI (o + 5 * p + q) := by
  rw [show (5 : Int32) = nI 5 from rfl, pk_mul, nI_add, nI_add]
theorem dt_ix0 (p q : Nat) : 5 * nI p + nI q = nI (5 * p + q) := by
  rw [show (5 : Int32) = nI 5 from rfl, pk_mul, nI_add]
theorem dt_ix25 (d k : Nat) : 25 * nI d + nI k = nI (25 * d + k) := by
  rw [show (25 : Int32) = nI 25 from rfl, pk_mul, nI_add]
theorem dt_ix50 (d k : Nat) : (25 * nI d + 25) + nI k = nI (25 * d + 25 + k) := by
  rw [show (25 : Int32) = nI 25 from rfl, pk_mul, nI_add, nI_add]
theorem dt_ix25m (d : Nat) : 25 * nI d = nI (25 * d) := by
  rw [show (25 : Int32) = nI 25 from rfl, pk_mul]
theorem dt_ix3 (d k : Nat) : 3 * nI d + nI k = nI (3 * d + k) := by
  rw [show (3 : Int32) = nI 3 from rfl, pk_mul, nI_add]
theorem dt_ix3m (d : Nat) : 3 * nI d = nI (3 * d) := by
  rw [show (3 : Int32) = nI 3 from rfl, pk_mul]
theorem dt_d5 {k : Nat} (h : k < 225) : nI k / 5 = nI (k / 5) := pk_div (d := 5) (by omega) (by decide) (by decide)
theorem dt_r5 {k : Nat} (h : k < 225) : nI k - nI k / 5 * 5 = nI (k % 5) := pk_rem (d := 5) (by omega) (by decide) (by decide)
theorem dt_fill {f s : Nat → Int32} {i k : Nat} {x : Int32} (hk : k = i) (h : ∀ j, j < i → s j = f j) (hx : x = f i) : ∀ j, j < i + 1 → upd s k x j = f j := by
  intro j hj
  rw [hk]
  by_cases e : j = i
  · rw [e, pk_us, hx]
  · rw [pk_un e]
    exact h j (by omega)
def dt_M (a : Nat → Int32) (o p q : Nat) : Int := if p < 5 ∧ q < 5 then (a (o + 5 * p + q)).toInt else 0
theorem dt_M_at {a : Nat → Int32} {o p q : Nat} (hp : p < 5) (hq : q < 5) : dt_M a o p q = (a (o + 5 * p + q)).toInt := if_pos ⟨hp, hq⟩
theorem dt_M_of {a b : Nat → Int32} {o : Nat} (h : ∀ k, o ≤ k → k < o + 25 → b k = a k) : dt_M b o = dt_M a o := by
  funext p q
  unfold dt_M
  by_cases c : p < 5 ∧ q < 5
  · rw [if_pos c, if_pos c, h _ (by omega) (by omega)]
  · rw [if_neg c, if_neg c]
/-- the start: every event 0 to 7 behind the origin -/
def dt_S (n p q : Nat) : Int := if p = q ∨ p = n then 0 else 7
theorem dt_S_cl (n : Nat) : dt_cl (dt_S n) := by
  refine ⟨fun p hp => if_pos (Or.inl rfl), fun p q r hp hq hr => ?_, fun p q hp hq => ?_⟩
  · unfold dt_S
    split <;> split <;> split <;> omega
  · unfold dt_S
    split <;> omega
section
variable {f1 f2 f3 f4 f5 f6 f7 : Int32} {a1 a2 a3 a4 a5 a6 a7 a8 a9 a10 : Nat → Int32}
theorem dt_openStart {post : St2 → Prop} {n : Nat} (hn : n ≤ 4) (H : ∀ b, (∀ p q, p < 5 → q < 5 → dt_M b 0 p q = dt_S n p q) → post (nI n, f2, f3, f4, f5, 0, f7, a1, a2, a3, a4, a5, a6, a7, b, a9, a10)) :
    wpX_openStart post (nI n, f2, f3, f4, f5, f6, f7, a1, a2, a3, a4, a5, a6, a7, a8, a9, a10) := by
  refine pk_loop (fun m k s => wX_openStart_7 post (nI n) f2 f3 f4 f5 0 f7 m (nI k) a1 a2 a3 a4 a5 a6 a7 s a9 a10) (fun k s => ∀ m, m < k → s m = (if m / 5 = m % 5 ∨ m / 5 = n then 0 else 7)) 25 0 a8 (by omega) (fun m hm => absurd hm (by omega)) ?_ ?_
  · intro m s h
    refine pk_le 25 25 (fun _ => H s (fun p q hp hq => ?_)) (fun z => absurd z (by omega))
    rw [dt_M_at hp hq, h _ (by omega), show (0 + 5 * p + q) / 5 = p by omega, show (0 + 5 * p + q) % 5 = q by omega]
    unfold dt_S
    split <;> rfl
  · intro m k s hk h hw
    have hc : (nI k).toNatClampNeg = k := nI_clamp (by omega)
    refine pk_le 25 k (fun z => absurd z (by omega)) (fun _ => ⟨by decide, nm_r (dt_d5 (by omega)) ⟨by decide, nm_r (dt_r5 (by omega)) ⟨pk_in k 25 hk, nm_e ?_⟩⟩⟩)
    refine pk_eq (k / 5) (k % 5) (fun e => ⟨pk_in k 25 hk, nm_e (nm_r (nI_1 k) (hw _ ?_))⟩) (fun e => pk_eq (k / 5) n (fun e2 => ⟨pk_in k 25 hk, nm_e (nm_r (nI_1 k) (hw _ ?_))⟩) (fun e2 => nm_r (nI_1 k) (hw _ ?_)))
    · intro j hj
      rw [hc]
      by_cases c : j = k
      · rw [c, pk_us, if_pos (Or.inl e)]
      · rw [pk_un c, pk_un c]
        exact h j (by omega)
    · intro j hj
      rw [hc]
      by_cases c : j = k
      · rw [c, pk_us, if_pos (Or.inr e2)]
      · rw [pk_un c, pk_un c]
        exact h j (by omega)
    · intro j hj
      rw [hc]
      by_cases c : j = k
      · rw [c, pk_us, if_neg (by omega)]
      · rw [pk_un c]
        exact h j (by omega)
theorem dt_copyOn {post : St2 → Prop} {d : Nat} (hd : d < 8) (H : ∀ b, (∀ k, k < 25 → b (25 * d + 25 + k) = a9 (25 * d + k)) → (∀ k, k < 25 * d + 25 → b k = a9 k) → post (f1, f2, f3, f4, f5, f6, f7, a1, a2, a3, a4, a5, a6, a7, a8, b, a10)) :
    wpX_copyOn post (f1, f2, f3, f4, f5, f6, f7, a1, a2, a3, a4, a5, a6, a7, a8, a9, a10) (nI d) := by
  refine pk_loop (fun m k s => wX_copyOn_2 post (nI d) f1 f2 f3 f4 f5 f6 f7 m (nI k) a1 a2 a3 a4 a5 a6 a7 a8 s a10) (fun k s => (∀ m, m < k → s (25 * d + 25 + m) = a9 (25 * d + m)) ∧ (∀ m, m < 25 * d + 25 → s m = a9 m)) 25 0 a9 (by omega) ⟨fun m hm => absurd hm (by omega), fun _ _ => rfl⟩ ?_ ?_
  · intro m s h
    exact pk_le 25 25 (fun _ => H s h.1 h.2) (fun z => absurd z (by omega))
  · intro m k s hk h hw
    refine pk_le 25 k (fun z => absurd z (by omega)) (fun _ => ⟨pk_in (25 * d + k) 225 (by omega) (dt_ix25 d k), pk_in (25 * d + 25 + k) 225 (by omega) (dt_ix50 d k), nm_e (nm_r (nI_1 k) (hw _ ?_))⟩)
    rw [pk_cl (25 * d + k) (dt_ix25 d k), pk_cl (25 * d + 25 + k) (dt_ix50 d k)]
    refine ⟨fun j hj => ?_, fun j hj => ?_⟩
    · by_cases c : j = k
      · rw [c, pk_us]
        exact h.2 _ (by omega)
      · rw [pk_un (by omega)]
        exact h.1 j (by omega)
    · rw [pk_un (by omega)]
      exact h.2 j hj
/-- a read of the matrix in the loop of tighten -/
theorem dt_tighten {post : St2 → Prop} {d i j : Nat} {l : Int32} (hd : d < 8) (hi : i < 5) (hj : j < 5) (hl : -10 ≤ l.toInt ∧ l.toInt ≤ 10) (hM : dt_cl (dt_M a9 (25 * d))) (hb : ∀ k, k < 25 → a9 (25 * d + 25 + k) = a9 (25 * d + k))
    (H : ∀ b, (∀ p q, p < 5 → q < 5 → dt_M b (25 * (d + 1)) p q = dt_ti (dt_M a9 (25 * d)) i j l.toInt p q) → (∀ k, k < 25 * d + 25 → b k = a9 k) → post (f1, f2, f3, f4, f5, f6, f7, a1, a2, a3, a4, a5, a6, a7, a8, b, a10)) :
    wpX_tighten post (f1, f2, f3, f4, f5, f6, f7, a1, a2, a3, a4, a5, a6, a7, a8, a9, a10) (nI d + 1) (nI i) (nI j) l := by
  refine nm_r (e' := nI (25 * d + 25)) (by rw [nI_1, dt_ix25m]; rfl) (nm_r (e' := nI (25 * d)) (by rw [show (25 : Int32) = nI 25 from rfl, pk_sub (by omega)]; rfl) ?_)
  refine pk_loop (fun m k s => wX_tighten_16 post (nI i) (nI j) l (nI (25 * d + 25)) (nI (25 * d)) f1 f2 f3 f4 f5 f6 f7 m (nI k) a1 a2 a3 a4 a5 a6 a7 a8 s a10) (fun k s => (∀ m, m < k → (s (25 * d + 25 + m)).toInt = dt_ti (dt_M a9 (25 * d)) i j l.toInt (m / 5) (m % 5)) ∧ (∀ m, (m < 25 * d + 25 ∨ 25 * d + 25 + k ≤ m) → s m = a9 m)) 25 0 a9 (by omega) ⟨fun m hm => absurd hm (by omega), fun _ _ => rfl⟩ ?_ ?_
  · intro m s h
    refine pk_le 25 25 (fun _ => H s (fun p q hp hq => ?_) (fun k hk => h.2 k (Or.inl hk))) (fun z => absurd z (by omega))
    have e := h.1 (5 * p + q) (by omega)
    rw [show (5 * p + q) / 5 = p by omega, show (5 * p + q) % 5 = q by omega] at e
    rw [dt_M_at hp hq, show 25 * (d + 1) + 5 * p + q = 25 * d + 25 + (5 * p + q) by omega]
    exact e
  · intro m k s hk h hw
    have hp : k / 5 < 5 := by omega
    have hq : k % 5 < 5 := by omega
    have e1 : s (25 * d + 5 * (k / 5) + i) = a9 (25 * d + 5 * (k / 5) + i) := h.2 _ (Or.inl (by omega))
    have e2 : s (25 * d + 5 * j + k % 5) = a9 (25 * d + 5 * j + k % 5) := h.2 _ (Or.inl (by omega))
    have e3 : s (25 * d + 25 + k) = a9 (25 * d + 5 * (k / 5) + k % 5) := by
      rw [h.2 _ (Or.inr (by omega)), hb k hk, show 25 * d + 5 * (k / 5) + k % 5 = 25 * d + k by omega]
    have m1 := dt_M_at (a := a9) (o := 25 * d) hp hi
    have m2 := dt_M_at (a := a9) (o := 25 * d) hj hq
    have m3 := dt_M_at (a := a9) (o := 25 * d) hp hq
    have r1 := dt_lo hM hp hi
    have r2 := dt_lo hM hj hq
    have r4 := hM.2.2 _ _ hp hi
    have r5 := hM.2.2 _ _ hj hq
    have w1 : (a9 (25 * d + 5 * (k / 5) + i) + l).toInt = dt_M a9 (25 * d) (k / 5) i + l.toInt := by
      rw [dt_add (by omega) (by omega) (by omega) (by omega), m1]
    have w : (a9 (25 * d + 5 * (k / 5) + i) + l + a9 (25 * d + 5 * j + k % 5)).toInt = dt_M a9 (25 * d) (k / 5) i + l.toInt + dt_M a9 (25 * d) j (k % 5) := by
      rw [dt_add (by omega) (by omega) (by omega) (by omega), w1, m2]
    refine pk_le 25 k (fun z => absurd z (by omega)) (fun _ => ⟨by decide, nm_r (dt_d5 (by omega)) ⟨by decide, nm_r (dt_r5 (by omega)) ⟨pk_in _ 225 (by omega) (dt_ix (25 * d) (k / 5) i), pk_in _ 225 (by omega) (dt_ix (25 * d) j (k % 5)), ?_⟩⟩⟩)
    rw [pk_cl _ (dt_ix (25 * d) (k / 5) i), pk_cl _ (dt_ix (25 * d) j (k % 5)), e1, e2]
    refine nm_e ⟨pk_in _ 225 (by omega) (nI_add (25 * d + 25) k), ?_⟩
    rw [pk_cl _ (nI_add (25 * d + 25) k), e3]
    refine br_c (fun g => nm_r (nI_1 k) (hw _ ⟨fun x hx => ?_, fun x hx => h.2 x (by omega)⟩)) (fun g => ⟨pk_in _ 225 (by omega) (nI_add (25 * d + 25) k), nm_e (nm_r (nI_1 k) (hw _ ⟨fun x hx => ?_, fun x hx => ?_⟩))⟩)
    · by_cases c : x = k
      · rw [c, e3]
        rw [Int32.le_iff_toInt_le, w, ← m3] at g
        rw [← m3]
        unfold dt_ti
        rw [if_neg (by omega)]
      · exact h.1 x (by omega)
    · by_cases c : x = k
      · rw [c, pk_us, w]
        rw [Int32.le_iff_toInt_le, w, ← m3] at g
        unfold dt_ti
        rw [if_pos (by omega)]
      · rw [pk_un (by omega)]
        exact h.1 x (by omega)
    · rw [pk_un (by omega)]
      exact h.2 x (by omega)
end
end
section
/-! ===== part 3: goOn ===== -/
/-- what the constraints' arrays hold -/
def dt_C (Z E B : Nat → Nat) (L : Nat → Int) (a1 a2 a3 a4 : Nat → Int32) : Prop :=
  (∀ k, a1 k = nI (E k) ∧ E k < 5) ∧ (∀ k, a2 k = nI (B k) ∧ B k < 5) ∧ (∀ k, (a3 k).toInt = L k ∧ -10 ≤ L k ∧ L k ≤ 10) ∧ (∀ c, a4 c = nI (Z c) ∧ Z c ≤ 3)
def dt_inf (E B : Nat → Nat) (L : Nat → Int) (M : Nat → Nat → Int) (a : Nat) : Prop := M (B a) (E a) + L a < 0
section
variable {f1 f2 f3 f4 f6 f7 : Int32} {a1 a2 a3 a4 a5 a6 a7 a8 a9 a10 : Nat → Int32} {Z E B : Nat → Nat} {L : Nat → Int} {d u : Nat}
theorem dt_go145 {post : Int32 → St2 → Prop} (hd : d < 8) (hC : dt_C Z E B L a1 a2 a3 a4) (hM : dt_cl (dt_M a9 (25 * d))) (ht : a10 d = nI u) (hu : u ≤ 3)
    (HQ : ∀ b9 b10, (∀ k, k < 25 * d + 25 → b9 k = a9 k) → (∀ e, e ≠ d → b10 e = a10 e) → (∀ k, u ≤ k → k < Z d → dt_M a9 (25 * d) (B (3 * d + k)) (E (3 * d + k)) + L (3 * d + k) < 0) → post 0 (f1, f2, f3, f4, -1, f6, f7, a1, a2, a3, a4, a5, a6, a7, a8, b9, b10))
    (HT : ∀ k b9 b10, (∀ k, k < 25 * d + 25 → b9 k = a9 k) → (∀ e, e ≠ d → b10 e = a10 e) → u ≤ k → k < Z d → b10 d = nI (k + 1) → 0 ≤ dt_M a9 (25 * d) (B (3 * d + k)) (E (3 * d + k)) + L (3 * d + k) →
      (∀ k', u ≤ k' → k' < k → dt_M a9 (25 * d) (B (3 * d + k')) (E (3 * d + k')) + L (3 * d + k') < 0) →
      (∀ p q, p < 5 → q < 5 → dt_M b9 (25 * (d + 1)) p q = dt_ti (dt_M a9 (25 * d)) (E (3 * d + k)) (B (3 * d + k)) (L (3 * d + k)) p q) → post 1 (f1, f2, f3, f4, -1, f6, f7, a1, a2, a3, a4, a5, a6, a7, a8, b9, b10)) :
    ∃ n, wX_goOn_145 post (nI d) (nI (25 * d)) (nI (Z d)) f1 f2 f3 f4 (-1) f6 f7 n 0 a1 a2 a3 a4 a5 a6 a7 a8 a9 a10 := by
  obtain ⟨c1, c2, c3, c4⟩ := hC
  have hz := (c4 d).2
  have hcd : (nI d).toNatClampNeg = d := nI_clamp (by omega)
  refine pk_loop (fun n k s => wX_goOn_145 post (nI d) (nI (25 * d)) (nI (Z d)) f1 f2 f3 f4 (-1) f6 f7 n (nI k) a1 a2 a3 a4 a5 a6 a7 a8 a9 s)
    (fun k s => s d = nI (u + k) ∧ (∀ e, e ≠ d → s e = a10 e) ∧ (∀ k', u ≤ k' → k' < u + k → dt_M a9 (25 * d) (B (3 * d + k')) (E (3 * d + k')) + L (3 * d + k') < 0)) 3 0 a10 (by omega)
    ⟨ht, fun _ _ => rfl, fun k' h1 h2 => absurd h2 (by omega)⟩ ?_ ?_
  · intro n s h
    exact pk_le 3 3 (fun _ => HQ a9 s (fun _ _ => rfl) h.2.1 (fun k h1 h2 => h.2.2 k h1 (by omega))) (fun z => absurd z (by omega))
  · intro n k s hk h hw
    refine pk_le 3 k (fun z => absurd z (by omega)) (fun _ => ⟨pk_in d 9 (by omega), ?_⟩)
    rw [hcd, h.1]
    refine pk_le (Z d) (u + k) (fun z => HQ a9 s (fun _ _ => rfl) h.2.1 (fun k' h1 h2 => h.2.2 k' h1 (by omega))) (fun z => ?_)
    obtain ⟨e1, b1⟩ := c1 (3 * d + (u + k))
    obtain ⟨e2, b2⟩ := c2 (3 * d + (u + k))
    obtain ⟨e3, b3⟩ := c3 (3 * d + (u + k))
    refine ⟨pk_in d 9 (by omega), nm_r (dt_ix3 d (u + k)) ⟨pk_in d 9 (by omega), pk_in d 9 (by omega), nm_r (e' := upd s d (nI (u + k + 1))) (by rw [nI_1]) ?_⟩⟩
    have hi : ∀ e, e ≠ d → upd s d (nI (u + k + 1)) e = a10 e := fun e he => by
      rw [pk_un he]
      exact h.2.1 e he
    have x6 : vp_in (nI (3 * d + (u + k))) 24 := vp_in_nI (by omega) (by decide)
    have x6c : (nI (3 * d + (u + k))).toNatClampNeg = 3 * d + (u + k) := nI_clamp (by omega)
    have mm := dt_M_at (a := a9) (o := 25 * d) b2 b1
    have lo := dt_lo hM b2 b1
    have hi7 := hM.2.2 _ _ b2 b1
    have ea : (a9 (25 * d + 5 * B (3 * d + (u + k)) + E (3 * d + (u + k))) + a3 (3 * d + (u + k))).toInt = dt_M a9 (25 * d) (B (3 * d + (u + k))) (E (3 * d + (u + k))) + L (3 * d + (u + k)) := by
      rw [dt_add (by omega) (by omega) (by omega) (by omega), mm, e3]
    refine ⟨x6, x6, ?_⟩
    rw [x6c, e1, e2]
    refine ⟨pk_in _ 225 (by omega) (dt_ix (25 * d) _ _), x6, ?_⟩
    rw [pk_cl _ (dt_ix (25 * d) (B (3 * d + (u + k))) (E (3 * d + (u + k))))]
    refine br_c (fun g => nm_r (nI_1 k) (hw _ ⟨pk_us, hi, fun k' h1 h2 => ?_⟩)) (fun g => ?_)
    · by_cases c : k' = u + k
      · rw [c, ← ea]
        exact Int32.lt_iff_toInt_lt.mp g
      · exact h.2.2 k' h1 (by omega)
    · refine dt_copyOn hd (fun b hb1 hb2 => ⟨x6, x6, x6, ?_⟩)
      have eM : dt_M b (25 * d) = dt_M a9 (25 * d) := dt_M_of (fun k _ hk => hb2 k (by omega))
      rw [e1, e2]
      refine dt_tighten hd b1 b2 (by omega) (by rw [eM]; exact hM) (fun k hk => by rw [hb1 k hk, hb2 _ (by omega)]) (fun b' hb3 hb4 => ?_)
      refine HT (u + k) b' _ (fun k hk => by rw [hb4 k hk, hb2 k hk]) hi (by omega) z pk_us ?_ h.2.2 (fun p q hp hq => ?_)
      · rw [← ea]
        exact Int.not_lt.mp (fun y => g (Int32.lt_iff_toInt_lt.mpr y))
      · rw [hb3 p q hp hq, eM, e3]
theorem dt_goOn {post : Int32 → St2 → Prop} (hd : d < 8) (hC : dt_C Z E B L a1 a2 a3 a4) (hM : dt_cl (dt_M a9 (25 * d))) (ht : a10 d = nI u) (hu : u ≤ 3)
    (HP : ∀ b9 b10, (∀ k, k < 25 * d + 25 → b9 k = a9 k) → (∀ e, e ≠ d → b10 e = a10 e) → dt_any Z E B L (dt_M a9 (25 * d)) d → u = 0 → b10 d = nI 1 →
      (∀ p q, p < 5 → q < 5 → dt_M b9 (25 * (d + 1)) p q = dt_M a9 (25 * d) p q) → post 1 (f1, f2, f3, f4, -1, f6, f7, a1, a2, a3, a4, a5, a6, a7, a8, b9, b10))
    (HQ : ∀ b9 b10, (∀ k, k < 25 * d + 25 → b9 k = a9 k) → (∀ e, e ≠ d → b10 e = a10 e) →
      ((dt_any Z E B L (dt_M a9 (25 * d)) d ∧ u ≠ 0) ∨ (¬ dt_any Z E B L (dt_M a9 (25 * d)) d ∧ ∀ k, u ≤ k → k < Z d → dt_M a9 (25 * d) (B (3 * d + k)) (E (3 * d + k)) + L (3 * d + k) < 0)) →
      post 0 (f1, f2, f3, f4, -1, f6, f7, a1, a2, a3, a4, a5, a6, a7, a8, b9, b10))
    (HT : ∀ k b9 b10, (∀ k, k < 25 * d + 25 → b9 k = a9 k) → (∀ e, e ≠ d → b10 e = a10 e) → ¬ dt_any Z E B L (dt_M a9 (25 * d)) d → u ≤ k → k < Z d → b10 d = nI (k + 1) → 0 ≤ dt_M a9 (25 * d) (B (3 * d + k)) (E (3 * d + k)) + L (3 * d + k) →
      (∀ k', u ≤ k' → k' < k → dt_M a9 (25 * d) (B (3 * d + k')) (E (3 * d + k')) + L (3 * d + k') < 0) →
      (∀ p q, p < 5 → q < 5 → dt_M b9 (25 * (d + 1)) p q = dt_ti (dt_M a9 (25 * d)) (E (3 * d + k)) (B (3 * d + k)) (L (3 * d + k)) p q) → post 1 (f1, f2, f3, f4, -1, f6, f7, a1, a2, a3, a4, a5, a6, a7, a8, b9, b10)) :
    wpX_goOn post (f1, f2, f3, f4, -1, f6, f7, a1, a2, a3, a4, a5, a6, a7, a8, a9, a10) (nI d) := by
  have hC' := hC
  obtain ⟨c1, c2, c3, c4⟩ := hC'
  have hz := (c4 d).2
  have hcd : (nI d).toNatClampNeg = d := nI_clamp (by omega)
  refine nm_r (dt_ix25m d) (br_f (dt_nm1 (by omega)) ⟨pk_in d 8 hd, ?_⟩)
  rw [hcd, (c4 d).1]
  refine br_f (dt_nm1 (by omega)) (nm_r (dt_ix3m d) ?_)
  refine pk_loop (fun n k (s : Int32) => wX_goOn_44 post (nI d) (nI (25 * d)) (nI (Z d)) f1 f2 f3 f4 (-1) f6 f7 a1 a2 a3 a4 a5 a6 a7 a8 a9 a10 n s (nI (3 * d + k)))
    (fun k s => (s = 0 ∧ ∀ k', k' < k → ¬ dt_M a9 (25 * d) (E (3 * d + k')) (B (3 * d + k')) ≤ L (3 * d + k')) ∨ (s = 1 ∧ ∃ k', k' < k ∧ dt_M a9 (25 * d) (E (3 * d + k')) (B (3 * d + k')) ≤ L (3 * d + k'))) (Z d) 0 0 (by omega)
    (Or.inl ⟨rfl, fun k' h => absurd h (by omega)⟩) ?_ ?_
  · intro n s h
    refine pk_le (3 * d + Z d) (3 * d + Z d) (fun _ => ?_) (fun z => absurd z (by omega)) (hx := dt_ix3 d (Z d))
    rcases h with ⟨rfl, h⟩ | ⟨rfl, h⟩
    · have hn : ¬ dt_any Z E B L (dt_M a9 (25 * d)) d := fun ⟨k, k1, k2⟩ => h k k1 k2
      exact br_t rfl (dt_go145 hd hC hM ht hu (fun b9 b10 g1 g2 g3 => HQ b9 b10 g1 g2 (Or.inr ⟨hn, g3⟩)) (fun k b9 b10 g1 g2 g3 g4 g5 g6 g7 g8 => HT k b9 b10 g1 g2 hn g3 g4 g5 g6 g7 g8))
    · refine br_f (by decide) ⟨pk_in d 9 (by omega), pk_in d 9 (by omega), nm_r (e' := upd a10 d (nI (u + 1))) (by rw [hcd, ht, nI_1]) ?_⟩
      have hi : ∀ e, e ≠ d → upd a10 d (nI (u + 1)) e = a10 e := fun e he => pk_un he
      refine dt_copyOn hd (fun b hb1 hb2 => ⟨pk_in d 9 (by omega), ?_⟩)
      rw [hcd, pk_us]
      refine pk_eq (u + 1) 1 (fun z => ?_) (fun z => ?_)
      · obtain rfl : u = 0 := by omega
        refine HP b _ hb2 hi h rfl pk_us (fun p q hp hq => ?_)
        rw [dt_M_at hp hq, dt_M_at hp hq, show 25 * (d + 1) + 5 * p + q = 25 * d + 25 + (5 * p + q) by omega, hb1 _ (by omega), Nat.add_assoc]
      · exact HQ b _ hb2 hi (Or.inl ⟨h, by omega⟩)
  · intro n k s hk h hw
    refine pk_le (3 * d + Z d) (3 * d + k) (fun z => absurd z (by omega)) (fun z => ?_) (hx := dt_ix3 d (Z d))
    have x6 : vp_in (nI (3 * d + k)) 24 := vp_in_nI (by omega) (by decide)
    have x6c : (nI (3 * d + k)).toNatClampNeg = 3 * d + k := nI_clamp (by omega)
    have n1 : nI (3 * d + k) + 1 = nI (3 * d + (k + 1)) := nI_1 _
    rcases h with ⟨rfl, h⟩ | ⟨rfl, h⟩
    · obtain ⟨e1, b1⟩ := c1 (3 * d + k)
      obtain ⟨e2, b2⟩ := c2 (3 * d + k)
      obtain ⟨e3, b3⟩ := c3 (3 * d + k)
      have mm := dt_M_at (a := a9) (o := 25 * d) b1 b2
      refine br_t rfl ⟨x6, x6, ?_⟩
      rw [x6c, e1, e2]
      refine ⟨pk_in _ 225 (by omega) (dt_ix (25 * d) _ _), x6, ?_⟩
      rw [pk_cl _ (dt_ix (25 * d) (E (3 * d + k)) (B (3 * d + k)))]
      refine br_c (fun g => nm_r n1 (hw 0 (Or.inl ⟨rfl, fun k' hk' => ?_⟩))) (fun g => nm_r n1 (hw 1 (Or.inr ⟨rfl, k, by omega, ?_⟩)))
      · by_cases c : k' = k
        · rw [c, mm, ← e3]
          have := Int32.lt_iff_toInt_lt.mp g
          omega
        · exact h k' (by omega)
      · rw [mm, ← e3]
        exact Int.not_lt.mp (fun y => g (Int32.lt_iff_toInt_lt.mpr y))
    · obtain ⟨k', k1, k2⟩ := h
      exact br_f (by decide) (nm_r n1 (hw 1 (Or.inr ⟨rfl, k', by omega, k2⟩)))
end
end
section
/-! ===== part 4: search ===== -/
theorem dt_nb (k : Nat) (h : k = 0 ∨ k = 1) : narrow .boolean (.int (nI k)) = .int (nI k) := by
  rcases h with rfl | rfl <;> rfl
def dt_cs (b : Nat → Int32) (d : Nat) : Nat := (b d).toNatClampNeg
def dt_ms (b : Nat → Int32) (d : Nat) : Nat → Nat → Int := dt_M b (25 * d)
/-- the loop's invariant over the state -/
def dt_I (Z E B : Nat → Nat) (L : Nat → Int) (a8 : Nat → Int32) (c : Nat) (md : Bool) (i j : Nat) (any h st : Nat) (best : Int32) (b9 b10 : Nat → Int32) : Prop :=
  dt_J Z E B L (dt_M a8 0) c md i j any best.toInt h (dt_ms b9) (dt_cs b10) ∧ (∀ d, d < h → b10 d = nI (dt_cs b10 d)) ∧ st + dt_ph c (dt_cs b10) h ≤ 19681
theorem dt_down {b10 b' : Nat → Int32} {d v : Nat} (hv : v ≤ 3) (h1 : ∀ e, e ≠ d → b' e = b10 e) (h2 : b' d = nI v) (h3 : ∀ e, e < d + 1 → b10 e = nI (dt_cs b10 e)) :
    (∀ e, e < d → dt_cs (upd b' (d + 1) 0) e = dt_cs b10 e) ∧ dt_cs (upd b' (d + 1) 0) d = v ∧ dt_cs (upd b' (d + 1) 0) (d + 1) = 0 ∧ (∀ e, e < d + 2 → upd b' (d + 1) 0 e = nI (dt_cs (upd b' (d + 1) 0) e)) := by
  have A : ∀ e, e < d → dt_cs (upd b' (d + 1) 0) e = dt_cs b10 e := fun e he => by
    unfold dt_cs
    rw [pk_un (by omega), h1 e (by omega)]
  have Bv : dt_cs (upd b' (d + 1) 0) d = v := by
    unfold dt_cs
    rw [pk_un (by omega), h2, nI_clamp (by omega)]
  have C : dt_cs (upd b' (d + 1) 0) (d + 1) = 0 := by
    unfold dt_cs
    rw [pk_us]
    exact sb_cl0
  refine ⟨A, Bv, C, fun e he => ?_⟩
  rcases Nat.lt_or_ge e d with z | z
  · rw [A e z, pk_un (by omega), h1 e (by omega)]
    exact h3 e (by omega)
  · rcases Nat.lt_or_ge e (d + 1) with y | y
    · obtain rfl : e = d := by omega
      rw [Bv, pk_un (by omega), h2]
    · obtain rfl : e = d + 1 := by omega
      rw [C, pk_us]
      rfl
section
variable {f1 f3 f4 f7 : Int32} {a1 a2 a3 a4 a5 a6 a7 a8 a9 a10 : Nat → Int32} {Z E B : Nat → Nat} {L : Nat → Int} {c d i j any st : Nat} {md : Bool} {best : Int32} {b9 b10 : Nat → Int32} {x1 x2 : Int32}
theorem dt_s172 {post : Int32 → St2 → Prop} {J69 : Int32 → Int32 → Int32 → Int32 → Int32 → Int32 → Int32 → Int32 → Int32 → Int32 → (Nat → Int32) → (Nat → Int32) → (Nat → Int32) → (Nat → Int32) → (Nat → Int32) → (Nat → Int32) → (Nat → Int32) → (Nat → Int32) → (Nat → Int32) → (Nat → Int32) → Prop}
    (hC : dt_C Z E B L a1 a2 a3 a4) (hc : c ≤ 8) (hd : d < c) (hI : dt_I Z E B L a8 c md i j any (d + 1) st best b9 b10)
    (hw : ∀ any' h' x4' best' b9' b10', x4' = nI h' + (-1) → dt_I Z E B L a8 c md i j any' h' (st + 1) best' b9' b10' → J69 (nI any') x4' (nI (st + 1)) f1 (nI c) f3 (nI c) (-1) 0 best' a1 a2 a3 a4 a5 a6 a7 a8 b9' b10') :
    wX_search_172 post J69 x1 x2 (nI any) (nI d) (nI st) f1 (nI c) f3 (nI c) (-1) 0 best a1 a2 a3 a4 a5 a6 a7 a8 b9 b10 := by
  obtain ⟨hJ, hb, hp⟩ := hI
  have hE : ∀ k, E k < 5 := fun k => (hC.1 k).2
  have hB : ∀ k, B k < 5 := fun k => (hC.2.1 k).2
  have hZ : ∀ k, Z k ≤ 3 := fun k => (hC.2.2.2 k).2
  have lv := hJ.2.2.2.2.1 d (by omega)
  have low : ∀ b : Nat → Int32, (∀ k, k < 25 * d + 25 → b k = b9 k) → ∀ e, e ≤ d → dt_ms b e = dt_ms b9 e := fun b hb e he => dt_M_of (fun k _ hk => hb k (by omega))
  refine dt_goOn (by omega) hC lv.1.1 (hb d (by omega)) lv.2 ?_ ?_ ?_
  · intro b b' g1 g2 g3 g4 g5 g6
    obtain ⟨A, Bv, C, D⟩ := dt_down (v := 1) (by omega) g2 g5 hb
    refine br_f (by decide) (nm_r (nI_1 d) ⟨pk_in (d + 1) 9 (by omega), nm_r (e' := upd b' (d + 1) 0) (by rw [nI_clamp (by omega)]) (nm_r (nI_1 st) ?_)⟩)
    refine hw any (d + 2) _ best _ _ (pk_m1 (d + 1)).symm ⟨dt_J_pass hJ hd (low b g1) g6 hE hB A (by omega) C g3, D, ?_⟩
    have := dt_ph_down (act := c) hd A (by rw [Bv]; exact Nat.lt_of_le_of_lt (Nat.le_of_eq g4) (by omega)) (by omega) C
    omega
  · intro b b' g1 g2 g3
    refine br_t rfl (nm_e (nm_r (nI_1 st) ?_))
    have A : ∀ e, e < d → dt_cs b' e = dt_cs b10 e := fun e he => by
      unfold dt_cs
      rw [g2 e (by omega)]
    refine hw any d _ best _ _ rfl ⟨dt_J_fail hJ hE hB hd (fun e he => low b g1 e (by omega)) A g3, fun e he => ?_, ?_⟩
    · rw [A e he, g2 e (by omega)]
      exact hb e (by omega)
    · have := dt_ph_up (act := c) (d := d) A
      omega
  · intro k b b' g1 g2 g3 g4 g5 g6 g7 g8 g9
    have hz := hZ d
    obtain ⟨A, Bv, C, D⟩ := dt_down (v := k + 1) (by omega) g2 g6 hb
    refine br_f (by decide) (nm_r (nI_1 d) ⟨pk_in (d + 1) 9 (by omega), nm_r (e' := upd b' (d + 1) 0) (by rw [nI_clamp (by omega)]) (nm_r (nI_1 st) ?_)⟩)
    refine hw any (d + 2) _ best _ _ (pk_m1 (d + 1)).symm ⟨dt_J_take hJ hd hE hB (low b g1) g9 A Bv g4 g5 hz C g3 g7 g8, D, ?_⟩
    have := dt_ph_down (act := c) hd A (by rw [Bv]; exact Nat.lt_succ_of_le g4) (by omega) C
    omega
theorem dt_s105 {post : Int32 → St2 → Prop} {J69 : Int32 → Int32 → Int32 → Int32 → Int32 → Int32 → Int32 → Int32 → Int32 → Int32 → (Nat → Int32) → (Nat → Int32) → (Nat → Int32) → (Nat → Int32) → (Nat → Int32) → (Nat → Int32) → (Nat → Int32) → (Nat → Int32) → (Nat → Int32) → (Nat → Int32) → Prop} {z0 : Int32}
    (hC : dt_C Z E B L a1 a2 a3 a4) (hc : c ≤ 8) (hi : i < 5) (hj : j < 5) (hI : dt_I Z E B L a8 c md i j any (d + 1) st best b9 b10) (hx : md = true ↔ 0 ≤ x1)
    (hr : md = true → z0.toInt = dt_M b9 (25 * d) i j) (hr0 : -1000 < z0.toInt)
    (H1 : ∀ b9' b10' best', (∃ t, dt_sol Z E B L (dt_M a8 0) c t ∧ (md = true → t i - t j = best'.toInt)) → (∀ t, dt_sol Z E B L (dt_M a8 0) c t → md = true → t i - t j ≤ best'.toInt) → post 1 (f1, nI c, f3, nI c, -1, 0, best', a1, a2, a3, a4, a5, a6, a7, a8, b9', b10'))
    (hw : ∀ any' h' x4' best' b9' b10', x4' = nI h' + (-1) → dt_I Z E B L a8 c md i j any' h' (st + 1) best' b9' b10' → J69 (nI any') x4' (nI (st + 1)) f1 (nI c) f3 (nI c) (-1) 0 best' a1 a2 a3 a4 a5 a6 a7 a8 b9' b10') :
    wX_search_105 post J69 x1 x2 (nI any) (nI d) (nI st) z0 f1 (nI c) f3 (nI c) (-1) 0 best a1 a2 a3 a4 a5 a6 a7 a8 b9 b10 := by
  have hI' := hI
  obtain ⟨hJ, hb, hp⟩ := hI
  have hE : ∀ k, E k < 5 := fun k => (hC.1 k).2
  have hB : ∀ k, B k < 5 := fun k => (hC.2.1 k).2
  have hdc := hJ.1
  have hany := hJ.2.1
  have up := dt_ph_up (act := c) (d := d) (T := dt_cs b10) (T' := dt_cs b10) (fun _ _ => rfl)
  refine pk_eq d c (fun e => ?_) (fun e => ?_)
  · subst e
    have hJ' := dt_J_leaf hJ hE hB hi hj hr hr0
    have fin : ∀ best' : Int32, best'.toInt = (if z0.toInt ≤ best.toInt then best.toInt else z0.toInt) → wX_search_137 post J69 x1 x2 1 (nI d) (nI st) best' f1 (nI d) f3 (nI d) (-1) 0 best a1 a2 a3 a4 a5 a6 a7 a8 b9 b10 := by
      intro best' eb
      rw [← eb] at hJ'
      refine br_c (fun _ => nm_e (nm_r (nI_1 st) (hw 1 d _ best' _ _ rfl ⟨hJ', fun e he => hb e (by omega), by omega⟩))) (fun g => ⟨rfl, H1 _ _ _ (hJ'.2.2.2.1 rfl) (fun _ _ z => absurd (hx.mp z) g)⟩)
    refine br_c (fun g => fin best ?_) (fun g => fin z0 ?_)
    · rw [if_pos (Int32.le_iff_toInt_le.mp g)]
    · rw [if_neg (fun y => g (Int32.le_iff_toInt_le.mpr y))]
  · have hd : d < c := by omega
    have R := dt_s172 (post := post) (x1 := x1) (x2 := x2) hC hc hd hI' hw
    refine pk_eq any 0 (fun _ => R) (fun ea => br_c (fun _ => R) (fun g => nm_e (nm_r (nI_1 st) ?_))) (ha := by omega)
    have ha : any = 1 := by
      rcases hJ.2.1 with z | z
      · exact absurd z ea
      · exact z
    refine hw any d _ best _ _ rfl ⟨dt_J_prune hJ hi hj ha hr (Int.not_lt.mp (fun y => g (Int32.lt_iff_toInt_lt.mpr y))), fun e he => hb e (by omega), by omega⟩
theorem dt_search {post : Int32 → St2 → Prop} (hC : dt_C Z E B L a1 a2 a3 a4) (hc : c ≤ 8) (hi : i < 5) (hj : j < 5) (hS : dt_cl (dt_M a8 0)) (hx : (md = false ∧ x1 = -1) ∨ (md = true ∧ x1 = nI i ∧ x2 = nI j))
    (H0 : ∀ b9 b10 best, (∀ t, ¬ dt_sol Z E B L (dt_M a8 0) c t) → post 0 (f1, nI c, f3, nI c, -1, 0, best, a1, a2, a3, a4, a5, a6, a7, a8, b9, b10))
    (H1 : ∀ b9 b10 best, (∃ t, dt_sol Z E B L (dt_M a8 0) c t ∧ (md = true → t i - t j = best.toInt)) → (∀ t, dt_sol Z E B L (dt_M a8 0) c t → md = true → t i - t j ≤ best.toInt) → post 1 (f1, nI c, f3, nI c, -1, 0, best, a1, a2, a3, a4, a5, a6, a7, a8, b9, b10)) :
    wpX_search post (f1, nI c, f3, f4, -1, 0, f7, a1, a2, a3, a4, a5, a6, a7, a8, a9, a10) x1 x2 := by
  refine br_t rfl ?_
  refine pk_loop (fun n k s => wX_search_32 post x1 x2 0 0 f1 (nI c) f3 (nI c) (-1) 0 (-1000) n (nI k) a1 a2 a3 a4 a5 a6 a7 a8 s a10) (fun k s => ∀ m, m < k → s m = a8 m) 25 0 a9 (by omega) (fun m hm => absurd hm (by omega)) ?_ ?_
  · intro n s h
    refine pk_le 25 25 (fun _ => nm_e ?_) (fun z => absurd z (by omega))
    suffices main : ∃ n, wX_search_69 post x1 x2 n (nI 0) (nI 1 + (-1)) (nI 0) f1 (nI c) f3 (nI c) (-1) 0 (-1000) a1 a2 a3 a4 a5 a6 a7 a8 s (upd a10 0 0) by
      rw [show nI 1 + (-1) = nI 0 from pk_m1 0, nI_0] at main
      exact main
    refine loop_m (σ := Nat × Nat × Nat × Int32 × (Nat → Int32) × (Nat → Int32)) (fun n s => wX_search_69 post x1 x2 n (nI s.1) (nI s.2.1 + (-1)) (nI s.2.2.1) f1 (nI c) f3 (nI c) (-1) 0 s.2.2.2.1 a1 a2 a3 a4 a5 a6 a7 a8 s.2.2.2.2.1 s.2.2.2.2.2)
      (fun s => dt_I Z E B L a8 c md i j s.1 s.2.1 s.2.2.1 s.2.2.2.1 s.2.2.2.2.1 s.2.2.2.2.2) (fun s => 40000 - s.2.2.1) ?_ (0, 1, 0, -1000, s, upd a10 0 0) ⟨?_, ?_, ?_⟩
    · rintro n ⟨any, h, st, best, b9, b10⟩ hI hw
      have hI' : dt_I Z E B L a8 c md i j any h st best b9 b10 := hI
      obtain ⟨hJ, hb, hp⟩ := hI'
      refine pk_le 40000 st (fun z => absurd z (by omega)) (fun _ => ?_) (hb := by omega)
      cases h with
      | zero =>
        have hcov : ∀ t, dt_sol Z E B L (dt_M a8 0) c t → dt_cov md i j any best.toInt t := by
          intro t ht
          rcases hJ.2.2.2.2.2 t ht with z | ⟨d, hd, _⟩
          · exact z
          · omega
        refine br_t (show nI 0 + (-1) < 0 by decide) ⟨dt_nb any hJ.2.1, ?_⟩
        rcases hJ.2.1 with z | z
        · subst z
          exact H0 _ _ _ (fun t ht => absurd (hcov t ht).1 (by decide))
        · subst z
          exact H1 _ _ _ (hJ.2.2.2.1 rfl) (fun t ht => (hcov t ht).2)
      | succ d =>
        have hd := hJ.1
        have lv := (hJ.2.2.2.2.1 d (by omega)).1.1
        have hw' : ∀ any' h' x4' best' b9' b10', x4' = nI h' + (-1) → dt_I Z E B L a8 c md i j any' h' (st + 1) best' b9' b10' → wX_search_69 post x1 x2 n (nI any') x4' (nI (st + 1)) f1 (nI c) f3 (nI c) (-1) 0 best' a1 a2 a3 a4 a5 a6 a7 a8 b9' b10' := by
          intro any' h' x4' best' b9' b10' e hI2
          subst e
          exact hw (any', h', st + 1, best', b9', b10') hI2 (by show 40000 - (st + 1) < 40000 - st; omega)
        have K : ∀ z0 : Int32, (md = true ↔ 0 ≤ x1) → (md = true → z0.toInt = dt_M b9 (25 * d) i j) → -1000 < z0.toInt → wX_search_105 post (wX_search_69 post x1 x2 n) x1 x2 (nI any) (nI d) (nI st) z0 f1 (nI c) f3 (nI c) (-1) 0 best a1 a2 a3 a4 a5 a6 a7 a8 b9 b10 :=
          fun z0 g1 g2 g3 => dt_s105 hC hc hi hj hI g1 g2 g3 H1 hw'
        show ((nI (d + 1) + (-1) < 0 → _) ∧ _)
        rw [pk_m1 d]
        refine br_f (nI_pos (by omega)) ?_
        rcases hx with ⟨rfl, rfl⟩ | ⟨rfl, rfl, rfl⟩
        · exact br_f (by decide) (K 0 (by decide) (fun z => absurd z (by decide)) (by decide))
        · have eix : (25 * nI d + 5 * nI i) + nI j = nI (25 * d + 5 * i + j) := by rw [dt_ix25m, dt_ix]
          have hz : (0 : Int32) ≤ nI i := nI_pos' (by omega)
          refine br_t hz ⟨pk_in _ 225 (by omega) eix, ?_⟩
          rw [pk_cl _ eix]
          have em := dt_M_at (a := b9) (o := 25 * d) hi hj
          have lo := dt_lo lv hi hj
          exact K _ ⟨fun _ => hz, fun _ => rfl⟩ (fun _ => em.symm) (by show -1000 < (b9 (25 * d + 5 * i + j)).toInt; rw [← em]; exact Int.lt_of_lt_of_le (by decide) lo)
    · refine dt_J_init hS (fun p q hp hq => ?_) ?_
      · show dt_M s (25 * 0) p q = dt_M a8 0 p q
        rw [dt_M_at hp hq, dt_M_at hp hq, show 25 * 0 + 5 * p + q = 0 + 5 * p + q by omega, h _ (by omega)]
      · show (upd a10 0 0 0).toNatClampNeg = 0
        rw [pk_us]
        exact sb_cl0
    · intro d hd
      have hd' : d < 1 := hd
      obtain rfl : d = 0 := by omega
      rfl
    · have e : dt_cs (upd a10 0 0) 0 = 0 := by
        unfold dt_cs
        rw [pk_us]
        exact sb_cl0
      have := dt_ph_init (T := dt_cs (upd a10 0 0)) hc e
      show 0 + dt_ph c (dt_cs (upd a10 0 0)) 1 ≤ 19681
      omega
  · intro n k s hk h hw
    refine pk_le 25 k (fun z => absurd z (by omega)) (fun _ => ⟨pk_in k 25 hk, pk_in k 225 (by omega), nm_e (nm_r (nI_1 k) (hw _ (dt_fill (nI_clamp (by omega)) h ?_)))⟩)
    rw [nI_clamp (by omega)]
end
end
section
/-! ===== part 5: canMeet, solvable, excess, earliest, latest, widest ===== -/
theorem dt_sol_of {Z E B : Nat → Nat} {L : Nat → Int} {M N : Nat → Nat → Int} {c : Nat} {t : Nat → Int} (e : ∀ p q, p < 5 → q < 5 → N p q = M p q) : dt_sol Z E B L N c t ↔ dt_sol Z E B L M c t :=
  ⟨fun h => ⟨dt_in_of (fun p q hp hq => (e p q hp hq).symm) h.1, h.2⟩, fun h => ⟨dt_in_of e h.1, h.2⟩⟩
theorem dt_sol0 {Z E B : Nat → Nat} {L : Nat → Int} (n : Nat) : dt_sol Z E B L (dt_S n) 0 (fun _ => 0) := by
  refine ⟨fun p q _ _ => ?_, fun c hc => absurd hc (by omega)⟩
  show (0 : Int) - 0 ≤ dt_S n p q
  unfold dt_S
  split <;> omega
section
variable {f3 f4 f6 f7 : Int32} {a1 a2 a3 a4 a5 a6 a7 a8 a9 a10 : Nat → Int32} {Z E B : Nat → Nat} {L : Nat → Int} {n c : Nat}
theorem dt_canMeet {post : Int32 → St2 → Prop} {f1 : Int32} (hC : dt_C Z E B L a1 a2 a3 a4) (hc : c ≤ 8) (hS : dt_cl (dt_M a8 0))
    (H0 : ∀ b9 b10 best, (∀ t, ¬ dt_sol Z E B L (dt_M a8 0) c t) → post 0 (f1, nI c, f3, nI c, -1, 0, best, a1, a2, a3, a4, a5, a6, a7, a8, b9, b10))
    (H1 : ∀ b9 b10 best, (∃ t, dt_sol Z E B L (dt_M a8 0) c t) → post 1 (f1, nI c, f3, nI c, -1, 0, best, a1, a2, a3, a4, a5, a6, a7, a8, b9, b10)) :
    wpX_canMeet post (f1, nI c, f3, f4, -1, 0, f7, a1, a2, a3, a4, a5, a6, a7, a8, a9, a10) :=
  dt_search (md := false) (i := 0) (j := 0) hC hc (by decide) (by decide) hS (Or.inl ⟨rfl, rfl⟩) (fun b9 b10 best h => ⟨rfl, H0 b9 b10 best h⟩) (fun b9 b10 best h _ => ⟨rfl, H1 b9 b10 best (h.elim (fun t ht => ⟨t, ht.1⟩))⟩)
theorem dt_solvable {post : Int32 → St2 → Prop} (hn : n ≤ 4) (hC : dt_C Z E B L a1 a2 a3 a4) (hc : c ≤ 8)
    (H0 : (∀ t, ¬ dt_sol Z E B L (dt_S n) c t) → ∀ g4 g6 g7 b8 b9 b10, post 0 (nI n, nI c, f3, g4, -1, g6, g7, a1, a2, a3, a4, a5, a6, a7, b8, b9, b10))
    (H1 : (∃ t, dt_sol Z E B L (dt_S n) c t) → ∀ g4 g6 g7 b8 b9 b10, post 1 (nI n, nI c, f3, g4, -1, g6, g7, a1, a2, a3, a4, a5, a6, a7, b8, b9, b10)) :
    wpX_solvable post (nI n, nI c, f3, f4, -1, f6, f7, a1, a2, a3, a4, a5, a6, a7, a8, a9, a10) := by
  unfold wpX_solvable
  refine dt_openStart hn (fun b hb => ?_)
  refine dt_canMeet hC hc (dt_cl_of hb (dt_S_cl n)) (fun b9 b10 best h => br_t rfl (H0 (fun t ht => h t ((dt_sol_of hb).mpr ht)) _ _ _ _ _ _)) (fun b9 b10 best h => br_f (by decide) (H1 ?_ _ _ _ _ _ _))
  obtain ⟨t, ht⟩ := h
  exact ⟨t, (dt_sol_of hb).mp ht⟩
theorem dt_excess {post : Int32 → St2 → Prop} (hn : n ≤ 4) (hC : dt_C Z E B L a1 a2 a3 a4) (hc : c ≤ 8)
    (H : ∀ k, k ≤ 8 → (k = 0 ↔ ∃ t, dt_sol Z E B L (dt_S n) c t) → ∀ g4 g6 g7 b8 b9 b10, post (nI k) (nI n, nI c, f3, g4, -1, g6, g7, a1, a2, a3, a4, a5, a6, a7, b8, b9, b10)) :
    wpX_excess post (nI n, nI c, f3, f4, -1, f6, f7, a1, a2, a3, a4, a5, a6, a7, a8, a9, a10) := by
  refine loop_m (σ := Nat × Int32 × Int32 × Int32 × (Nat → Int32) × (Nat → Int32) × (Nat → Int32)) (fun m s => wX_excess_9 post (nI c) m (nI s.1) (nI s.1) (nI n) (nI (c - s.1)) f3 s.2.1 (-1) s.2.2.1 s.2.2.2.1 a1 a2 a3 a4 a5 a6 a7 s.2.2.2.2.1 s.2.2.2.2.2.1 s.2.2.2.2.2.2)
    (fun s => s.1 ≤ c ∧ (s.1 ≠ 0 → ¬ ∃ t, dt_sol Z E B L (dt_S n) c t)) (fun s => 9 - s.1) ?_ (0, f4, f6, f7, a8, a9, a10) ⟨by show 0 ≤ c; omega, fun z => absurd rfl z⟩
  rintro m ⟨k, g4, g6, g7, b8, b9, b10⟩ ⟨hk, hs⟩ hw
  have hk' : k ≤ c := hk
  have hs' : k ≠ 0 → ¬ ∃ t, dt_sol Z E B L (dt_S n) c t := hs
  refine pk_lt 8 k (fun z => absurd z (by omega)) (fun _ => ?_)
  refine dt_openStart hn (fun b hb => ?_)
  refine dt_canMeet hC (show c - k ≤ 8 by omega) (dt_cl_of hb (dt_S_cl n)) (fun d9 d10 best h => br_t rfl ?_) (fun d9 d10 best h => br_f (by decide) ?_)
  · have hlt : k < c := by
      rcases Nat.lt_or_ge k c with z | z
      · exact z
      · have e : c - k = 0 := by omega
        rw [e] at h
        exact absurd ((dt_sol_of hb).mpr (dt_sol0 n)) (h _)
    refine nm_r (e' := nI (c - (k + 1))) ?_ (nm_r (nI_1 k) (nm_r (nI_1 k) (hw (k + 1, nI (c - k), 0, best, b, d9, d10) ⟨hlt, fun _ => ?_⟩ ?_)))
    · show nI (c - k) - 1 = _
      rw [show c - k = (c - (k + 1)) + 1 by omega]
      exact nI_pred _
    · intro ⟨t, ht⟩
      exact h t ((dt_sol_of hb).mpr ⟨ht.1, fun x hx => ht.2 x (by omega)⟩)
    · show 9 - (k + 1) < 9 - k
      omega
  · refine H k (by omega) ⟨fun z => ?_, fun z => Decidable.byContradiction (fun y => hs' y z)⟩ _ _ _ _ _ _
    subst z
    obtain ⟨t, ht⟩ := h
    exact ⟨t, (dt_sol_of hb).mp ht⟩
theorem dt_isEvent {post : Int32 → Prop} {f2 f5 : Int32} {e : Nat} (hn : n ≤ 4) (he : e < n) (hp : post 1) : wpX_isEvent post (nI n, f2, f3, f4, f5, f6, f7, a1, a2, a3, a4, a5, a6, a7, a8, a9, a10) (nI e) :=
  br_f (nI_pos (by omega)) (pk_le n e (fun z => absurd z (by omega)) (fun _ => hp))
theorem dt_isPoint {post : Int32 → Prop} {f2 f5 : Int32} {e : Nat} (hn : n ≤ 4) (he : e ≤ n) (hp : post 1) : wpX_isPoint post (nI n, f2, f3, f4, f5, f6, f7, a1, a2, a3, a4, a5, a6, a7, a8, a9, a10) (nI e) :=
  br_f (nI_pos (by omega)) (pk_lt n e (fun z => absurd z (by omega)) (fun _ => hp))
theorem dt_earliest {post : Int32 → St2 → Prop} {e : Nat} (hn : n ≤ 4) (hC : dt_C Z E B L a1 a2 a3 a4) (hc : c ≤ 8) (he : e < n) (hs : ∃ t, dt_sol Z E B L (dt_S n) c t)
    (H : ∀ best : Int32, (∃ t, dt_sol Z E B L (dt_S n) c t ∧ t n - t e = best.toInt) → (∀ t, dt_sol Z E B L (dt_S n) c t → t n - t e ≤ best.toInt) → ∀ g4 g6 g7 b8 b9 b10, post (-best) (nI n, nI c, f3, g4, -1, g6, g7, a1, a2, a3, a4, a5, a6, a7, b8, b9, b10)) :
    wpX_earliest post (nI n, nI c, f3, f4, -1, f6, f7, a1, a2, a3, a4, a5, a6, a7, a8, a9, a10) (nI e) := by
  unfold wpX_earliest
  refine dt_isEvent hn he ?_
  refine br_f (by decide) ?_
  refine dt_openStart hn (fun b hb => ?_)
  obtain ⟨t0, ht0⟩ := hs
  refine dt_search (md := true) (i := n) (j := e) hC hc (by omega) (by omega) (dt_cl_of hb (dt_S_cl n)) (Or.inr ⟨rfl, rfl, rfl⟩) (fun b9 b10 best h => absurd ((dt_sol_of hb).mpr ht0) (h t0)) (fun b9 b10 best h h2 => br_f (by decide) (H best ?_ (fun t ht => h2 t ((dt_sol_of hb).mpr ht) rfl) _ _ _ _ _ _))
  obtain ⟨t, ht, e1⟩ := h
  exact ⟨t, (dt_sol_of hb).mp ht, e1 rfl⟩
theorem dt_latest {post : Int32 → St2 → Prop} {e : Nat} (hn : n ≤ 4) (hC : dt_C Z E B L a1 a2 a3 a4) (hc : c ≤ 8) (he : e < n) (hs : ∃ t, dt_sol Z E B L (dt_S n) c t)
    (H : ∀ best : Int32, (∃ t, dt_sol Z E B L (dt_S n) c t ∧ t e - t n = best.toInt) → (∀ t, dt_sol Z E B L (dt_S n) c t → t e - t n ≤ best.toInt) → ∀ g4 g6 g7 b8 b9 b10, post best (nI n, nI c, f3, g4, -1, g6, g7, a1, a2, a3, a4, a5, a6, a7, b8, b9, b10)) :
    wpX_latest post (nI n, nI c, f3, f4, -1, f6, f7, a1, a2, a3, a4, a5, a6, a7, a8, a9, a10) (nI e) := by
  unfold wpX_latest
  refine dt_isEvent hn he ?_
  refine br_f (by decide) ?_
  refine dt_openStart hn (fun b hb => ?_)
  obtain ⟨t0, ht0⟩ := hs
  refine dt_search (md := true) (i := e) (j := n) hC hc (by omega) (by omega) (dt_cl_of hb (dt_S_cl n)) (Or.inr ⟨rfl, rfl, rfl⟩) (fun b9 b10 best h => absurd ((dt_sol_of hb).mpr ht0) (h t0)) (fun b9 b10 best h h2 => br_f (by decide) (H best ?_ (fun t ht => h2 t ((dt_sol_of hb).mpr ht) rfl) _ _ _ _ _ _))
  obtain ⟨t, ht, e1⟩ := h
  exact ⟨t, (dt_sol_of hb).mp ht, e1 rfl⟩
theorem dt_widest {post : Int32 → St2 → Prop} {i j : Nat} (hn : n ≤ 4) (hC : dt_C Z E B L a1 a2 a3 a4) (hc : c ≤ 8) (hi : i ≤ n) (hj : j ≤ n) (hs : ∃ t, dt_sol Z E B L (dt_S n) c t)
    (H : ∀ best : Int32, (∃ t, dt_sol Z E B L (dt_S n) c t ∧ t i - t j = best.toInt) → (∀ t, dt_sol Z E B L (dt_S n) c t → t i - t j ≤ best.toInt) → ∀ g4 g6 g7 b8 b9 b10, post best (nI n, nI c, f3, g4, -1, g6, g7, a1, a2, a3, a4, a5, a6, a7, b8, b9, b10)) :
    wpX_widest post (nI n, nI c, f3, f4, -1, f6, f7, a1, a2, a3, a4, a5, a6, a7, a8, a9, a10) (nI i) (nI j) := by
  unfold wpX_widest
  refine dt_isPoint hn hi ?_
  refine br_f (by decide) ?_
  refine dt_isPoint hn hj ?_
  refine br_f (by decide) ?_
  refine dt_openStart hn (fun b hb => ?_)
  obtain ⟨t0, ht0⟩ := hs
  refine dt_search (md := true) (i := i) (j := j) hC hc (by omega) (by omega) (dt_cl_of hb (dt_S_cl n)) (Or.inr ⟨rfl, rfl, rfl⟩) (fun b9 b10 best h => absurd ((dt_sol_of hb).mpr ht0) (h t0)) (fun b9 b10 best h h2 => br_f (by decide) (H best ?_ (fun t ht => h2 t ((dt_sol_of hb).mpr ht) rfl) _ _ _ _ _ _))
  obtain ⟨t, ht, e1⟩ := h
  exact ⟨t, (dt_sol_of hb).mp ht, e1 rfl⟩
end
end
section
/-! ===== part 6: tightenStart, firstFrom(0, 0, 0), next(-1), timeIn, meets ===== -/
theorem dt_M0_at {a : Nat → Int32} {p q : Nat} (hp : p < 5) (hq : q < 5) : dt_M a 0 p q = (a (5 * p + q)).toInt := by
  rw [dt_M_at hp hq, Nat.zero_add]
theorem dt_of_toInt {x : Int32} {k : Nat} (hk : k < 2 ^ 31) (h : x.toInt = k) : x = nI k := by
  apply Int32.toInt_inj.mp
  rw [nI_toInt hk]
  exact h
section
variable {f1 f2 f3 f4 f5 f6 f7 : Int32} {a1 a2 a3 a4 a5 a6 a7 a8 a9 a10 : Nat → Int32}
theorem dt_tightenStart {post : St2 → Prop} {i j : Nat} {x : Int32} (hS : dt_cl (dt_M a8 0)) (hi : i < 5) (hj : j < 5) (hl : -10 ≤ x.toInt ∧ x.toInt ≤ 10) (hf : 0 ≤ dt_M a8 0 j i + x.toInt)
    (H : ∀ b, dt_cl (dt_M b 0) → (∀ t, dt_in (dt_M b 0) t ↔ (dt_in (dt_M a8 0) t ∧ t i - t j ≤ x.toInt)) → post (f1, f2, f3, f4, f5, 0, f7, a1, a2, a3, a4, a5, a6, a7, b, a9, a10)) :
    wpX_tightenStart post (f1, f2, f3, f4, f5, 0, f7, a1, a2, a3, a4, a5, a6, a7, a8, a9, a10) (nI i) (nI j) x := by
  have mij := dt_M0_at (a := a8) hi hj
  have mji := dt_M0_at (a := a8) hj hi
  have rji := hS.2.2 _ _ hj hi
  have rji2 := dt_lo hS hj hi
  refine br_t rfl ⟨pk_in _ 25 (by omega) (dt_ix0 i j), ?_⟩
  rw [pk_cl _ (dt_ix0 i j)]
  refine br_c (fun g => ⟨pk_in _ 25 (by omega) (dt_ix0 j i), ?_⟩) (fun g => H a8 hS (fun t => ⟨fun h => ⟨h, ?_⟩, fun h => h.1⟩))
  · rw [pk_cl _ (dt_ix0 j i)]
    have es : (a8 (5 * j + i) + x).toInt = dt_M a8 0 j i + x.toInt := by
      rw [dt_add (by omega) (by omega) (by omega) (by omega), mji]
    refine br_t (Int32.le_iff_toInt_le.mpr (by rw [es]; exact hf)) ?_
    refine pk_loop (fun n k s => wX_tightenStart_46 post (nI i) (nI j) x f1 f2 f3 f4 f5 0 f7 n (nI k) a1 a2 a3 a4 a5 a6 a7 s a9 a10) (fun k s => (∀ m, m < k → (s m).toInt = dt_ti (dt_M a8 0) i j x.toInt (m / 5) (m % 5)) ∧ (∀ m, k ≤ m → s m = a8 m)) 25 0 a8 (by omega) ⟨fun m hm => absurd hm (by omega), fun _ _ => rfl⟩ ?_ ?_
    · intro n s h
      have eM : ∀ p q, p < 5 → q < 5 → dt_M s 0 p q = dt_ti (dt_M a8 0) i j x.toInt p q := fun p q hp hq => by
        rw [dt_M0_at hp hq, h.1 _ (by omega), show (5 * p + q) / 5 = p by omega, show (5 * p + q) % 5 = q by omega]
      refine pk_le 25 25 (fun _ => H s (dt_cl_of eM (dt_ti_cl hS hi hj hf)) (fun t => ⟨fun ht => ?_, fun ht => dt_in_of eM (dt_ti_in hi hj ht.2 ht.1)⟩)) (fun z => absurd z (by omega))
      have ht' : dt_in (dt_ti (dt_M a8 0) i j x.toInt) t := dt_in_of (fun p q hp hq => (eM p q hp hq).symm) ht
      exact ⟨fun p q hp hq => Int.le_trans (ht' p q hp hq) dt_ti_le, Int.le_trans (ht' i j hi hj) (dt_ti_ij hS hi hj)⟩
    · intro n k s hk h hw
      have hp : k / 5 < 5 := by omega
      have hq : k % 5 < 5 := by omega
      have hc : (nI k).toNatClampNeg = k := nI_clamp (by omega)
      have e1 : (s (5 * (k / 5) + i)).toInt = dt_M a8 0 (k / 5) i := by
        rcases Nat.lt_or_ge (5 * (k / 5) + i) k with z | z
        · rw [h.1 _ z, show (5 * (k / 5) + i) / 5 = k / 5 by omega, show (5 * (k / 5) + i) % 5 = i by omega]
          exact dt_ti_col hf _
        · rw [h.2 _ z, dt_M0_at hp hi]
      have e2 : (s (5 * j + k % 5)).toInt = dt_M a8 0 j (k % 5) := by
        rcases Nat.lt_or_ge (5 * j + k % 5) k with z | z
        · rw [h.1 _ z, show (5 * j + k % 5) / 5 = j by omega, show (5 * j + k % 5) % 5 = k % 5 by omega]
          exact dt_ti_row hf _
        · rw [h.2 _ z, dt_M0_at hj hq]
      have e3 : (s k).toInt = dt_M a8 0 (k / 5) (k % 5) := by
        rw [h.2 k (by omega), dt_M0_at hp hq, show 5 * (k / 5) + k % 5 = k by omega]
      have r1 := dt_lo hS hp hi
      have r2 := dt_lo hS hj hq
      have r4 := hS.2.2 _ _ hp hi
      have r5 := hS.2.2 _ _ hj hq
      have w1 : (s (5 * (k / 5) + i) + x).toInt = dt_M a8 0 (k / 5) i + x.toInt := by
        rw [dt_add (by omega) (by omega) (by omega) (by omega), e1]
      have w : (s (5 * (k / 5) + i) + x + s (5 * j + k % 5)).toInt = dt_M a8 0 (k / 5) i + x.toInt + dt_M a8 0 j (k % 5) := by
        rw [dt_add (by omega) (by omega) (by omega) (by omega), w1, e2]
      have v := pk_in (x := nI k) k 25 hk
      refine pk_le 25 k (fun z => absurd z (by omega)) (fun _ => ⟨by decide, nm_r (dt_d5 (by omega)) ⟨by decide, nm_r (dt_r5 (by omega)) ⟨pk_in _ 25 (by omega) (dt_ix0 (k / 5) i), pk_in _ 25 (by omega) (dt_ix0 j (k % 5)), ?_⟩⟩⟩)
      rw [pk_cl _ (dt_ix0 (k / 5) i), pk_cl _ (dt_ix0 j (k % 5)), hc]
      refine nm_e ⟨v, br_c (fun g => ⟨v, v, nm_e (nm_r (nI_1 k) (hw _ ⟨fun y hy => ?_, fun y hy => ?_⟩))⟩) (fun g => ⟨v, nm_e (nm_r (nI_1 k) (hw _ ⟨fun y hy => ?_, fun y hy => ?_⟩))⟩)⟩
      · by_cases c : y = k
        · rw [c, pk_us, e3]
          rw [Int32.le_iff_toInt_le, w, e3] at g
          unfold dt_ti
          rw [if_neg (by omega)]
        · rw [pk_un c]
          exact h.1 y (by omega)
      · rw [pk_un (by omega)]
        exact h.2 y (by omega)
      · by_cases c : y = k
        · rw [c, pk_us, w]
          rw [Int32.le_iff_toInt_le, w, e3] at g
          unfold dt_ti
          rw [if_pos (by omega)]
        · rw [pk_un c]
          exact h.1 y (by omega)
      · rw [pk_un (by omega)]
        exact h.2 y (by omega)
  · have h1 := h i j hi hj
    have h2 := Int.not_lt.mp (fun y => g (Int32.lt_iff_toInt_lt.mpr y))
    omega
end
/-- a number's digits: its first k -/
def dt_dig (N k : Nat) (t : Nat → Int) (n : Nat) : Prop := N < 8 ^ k ∧ ∀ p, p < k → t p - t n = ((N / 8 ^ (k - 1 - p) % 8 : Nat) : Int)
theorem dt_dig_s {N k v n : Nat} {t : Nat → Int} (h : dt_dig N k t n) (hv : v < 8) (ht : t k - t n = (v : Int)) : dt_dig (8 * N + v) (k + 1) t n := by
  refine ⟨?_, fun p hp => ?_⟩
  · have := h.1
    rw [Nat.pow_succ]
    omega
  · rcases Nat.lt_or_ge p k with z | z
    · rw [h.2 p z, show k + 1 - 1 - p = (k - 1 - p) + 1 by omega, Nat.pow_succ, Nat.mul_comm (8 ^ (k - 1 - p)) 8, ← Nat.div_div_eq_div_mul, show (8 * N + v) / 8 = N by omega]
    · obtain rfl : p = k := by omega
      rw [ht, show p + 1 - 1 - p = 0 by omega, Nat.pow_zero, Nat.div_one, show (8 * N + v) % 8 = v by omega]
section
variable {f3 f4 f6 f7 : Int32} {a1 a2 a3 a4 a5 a6 a7 a8 a9 a10 : Nat → Int32} {Z E B : Nat → Nat} {L : Nat → Int} {n c : Nat}
theorem dt_ff76 {post : Int32 → St2 → Prop} (hn2 : 2 ≤ n) (hn : n ≤ 4) (hC : dt_C Z E B L a1 a2 a3 a4) (hc : c ≤ 8) (hS : dt_cl (dt_M a8 0)) (hin : ∀ t, dt_in (dt_M a8 0) t ↔ dt_in (dt_S n) t)
    (H0 : (∀ t, ¬ dt_sol Z E B L (dt_S n) c t) → ∀ g4 g6 g7 b8 b9 b10, post (-1) (nI n, nI c, f3, g4, -1, g6, g7, a1, a2, a3, a4, a5, a6, a7, b8, b9, b10))
    (H1 : ∀ N, (∃ t, dt_sol Z E B L (dt_S n) c t ∧ dt_dig N n t n) → ∀ g4 g6 g7 b8 b9 b10, post (nI N) (nI n, nI c, f3, g4, -1, g6, g7, a1, a2, a3, a4, a5, a6, a7, b8, b9, b10)) :
    ∃ m, wX_firstFrom_76 post m 0 0 (nI n) (nI c) f3 f4 (-1) 0 f7 a1 a2 a3 a4 a5 a6 a7 a8 a9 a10 := by
  refine pk_loop (σ := Nat × Int32 × Int32 × (Nat → Int32) × (Nat → Int32) × (Nat → Int32)) (fun m k s => wX_firstFrom_76 post m (nI s.1) (nI k) (nI n) (nI c) f3 s.2.1 (-1) 0 s.2.2.1 a1 a2 a3 a4 a5 a6 a7 s.2.2.2.1 s.2.2.2.2.1 s.2.2.2.2.2)
    (fun k s => dt_cl (dt_M s.2.2.2.1 0) ∧ (∀ t, dt_in (dt_M s.2.2.2.1 0) t → dt_in (dt_S n) t) ∧ (k = 0 → ∀ t, dt_in (dt_S n) t → dt_in (dt_M s.2.2.2.1 0) t) ∧ (k ≠ 0 → ∃ t, dt_sol Z E B L (dt_M s.2.2.2.1 0) c t) ∧ (∀ t, dt_sol Z E B L (dt_M s.2.2.2.1 0) c t → dt_dig s.1 k t n)) n 0 (0, f4, f7, a8, a9, a10) (by omega)
    ⟨hS, fun t => (hin t).mp, fun _ t => (hin t).mpr, fun z => absurd rfl z, fun t _ => ⟨(show 0 < 8 ^ 0 by decide), fun p hp => absurd hp (by omega)⟩⟩ ?_ ?_
  · rintro m ⟨N, g4, g7, b8, b9, b10⟩ ⟨k1, k2, k3, k4, k5⟩
    refine pk_le n n (fun _ => H1 N ?_ _ _ _ _ _ _) (fun z => absurd z (by omega))
    obtain ⟨t, ht⟩ := k4 (by omega)
    exact ⟨t, ⟨k2 t ht.1, ht.2⟩, k5 t ht⟩
  · rintro m k ⟨N, g4, g7, b8, b9, b10⟩ hk ⟨k1, k2, k3, k4, k5⟩ hw
    dsimp only at k1 k2 k3 k4 k5
    refine pk_le n k (fun z => absurd z (by omega)) (fun _ => ?_)
    refine dt_search (md := true) (i := n) (j := k) hC hc (by omega) (by omega) k1 (Or.inr ⟨rfl, rfl, rfl⟩) (fun d9 d10 best h => br_t rfl (H0 (fun t ht => ?_) _ _ _ _ _ _)) (fun d9 d10 best h h2 => br_f (by decide) ?_)
    · by_cases e : k = 0
      · exact h t ⟨k3 e t ht.1, ht.2⟩
      · obtain ⟨t', ht'⟩ := k4 e
        exact h t' ht'
    · obtain ⟨t, ht, et⟩ := h
      have et := et rfl
      have i1 := k2 t ht.1 n k (by omega) (by omega)
      have i2 := k2 t ht.1 k n (by omega) (by omega)
      have i3 := ht.1 n k (by omega) (by omega)
      have s1 : dt_S n n k = 0 := if_pos (Or.inr rfl)
      have s2 : dt_S n k n = 7 := if_neg (by omega)
      rw [s1] at i1
      rw [s2] at i2
      have eneg : (-best).toInt = -best.toInt := dt_neg (by omega) (by omega)
      obtain ⟨v, hv⟩ : ∃ v : Nat, -best.toInt = (v : Int) := ⟨(-best.toInt).toNat, by omega⟩
      have ev : -best = nI v := dt_of_toInt (by omega) (by rw [eneg]; exact hv)
      have hv8 : v < 8 := by omega
      refine nm_r ev ?_
      have vt : (nI v).toInt = (v : Int) := nI_toInt (by omega)
      refine dt_tightenStart k1 (by omega) (by omega) (by omega) (by omega) (fun b hb1 hb2 => nm_r (e' := nI (8 * N + v)) ?_ (nm_r (nI_1 k) (hw (8 * N + v, nI c, best, b, d9, d10) ⟨hb1, fun t' h => k2 t' ((hb2 t').mp h).1, fun z => absurd z (by omega), fun _ => ⟨t, (hb2 t).mpr ⟨ht.1, by omega⟩, ht.2⟩, fun t' h => ?_⟩)))
      · show 8 * nI N + nI v = _
        rw [show (8 : Int32) = nI 8 from rfl, pk_mul, nI_add]
      · have q := (hb2 t').mp h.1
        have q1 : dt_sol Z E B L (dt_M b8 0) c t' := ⟨q.1, h.2⟩
        have q2 := h2 t' q1 rfl
        exact dt_dig_s (k5 t' q1) hv8 (by omega)
theorem dt_next {post : Int32 → St2 → Prop} (hn2 : 2 ≤ n) (hn : n ≤ 4) (hC : dt_C Z E B L a1 a2 a3 a4) (hc : c ≤ 8)
    (H0 : (∀ t, ¬ dt_sol Z E B L (dt_S n) c t) → ∀ g4 g6 g7 b8 b9 b10, post (-1) (nI n, nI c, f3, g4, -1, g6, g7, a1, a2, a3, a4, a5, a6, a7, b8, b9, b10))
    (H1 : ∀ N, (∃ t, dt_sol Z E B L (dt_S n) c t ∧ dt_dig N n t n) → ∀ g4 g6 g7 b8 b9 b10, post (nI N) (nI n, nI c, f3, g4, -1, g6, g7, a1, a2, a3, a4, a5, a6, a7, b8, b9, b10)) :
    wpX_next post (nI n, nI c, f3, f4, -1, f6, f7, a1, a2, a3, a4, a5, a6, a7, a8, a9, a10) (-1) := by
  have sh : ∀ k, k < 5 → 2 ≤ k → (-1 : Int32) < ((1 : Int32) <<< ((3 * nI k) &&& 31)) - 1 := by decide
  refine nm_e (br_t (sh n (by omega) hn2) (br_f (by decide) ?_))
  unfold wpX_firstFrom
  refine dt_openStart hn (fun b hb => ?_)
  refine ⟨1, ?_⟩
  refine br_t (by decide) ?_
  have hS := dt_cl_of hb (dt_S_cl n)
  have z0 : (-(0 : Int32)).toInt = 0 := by decide
  refine dt_tightenStart (j := 0) hS (by omega) (by omega) (by rw [z0]; omega) ?_ (fun b' hb1 hb2 => ?_)
  · rw [z0, hb 0 n (by omega) (by omega)]
    unfold dt_S
    split <;> omega
  · refine dt_ff76 hn2 hn hC hc hb1 (fun t => ⟨fun h => dt_in_of (fun p q hp hq => (hb p q hp hq).symm) ((hb2 t).mp h).1, fun h => (hb2 t).mpr ⟨dt_in_of hb h, ?_⟩⟩) H0 H1
    have := h n 0 (by omega) (by omega)
    rw [show dt_S n n 0 = 0 from if_pos (Or.inr rfl)] at this
    rw [z0]
    exact this
/-- the time of a point in a plan -/
def dt_tm (n N e : Nat) : Nat := if e = n then 0 else N / 8 ^ (n - 1 - e) % 8
theorem dt_sh : ∀ n, n < 5 → ∀ e, e < n → (((3 * ((nI n - 1) - nI e)) &&& 31 : Int32).toBitVec.smod 32).toNat = 3 * (n - 1 - e) := by decide
theorem dt_timeIn {post : Int32 → Prop} {f2 f5 : Int32} {N e : Nat} (hn : n ≤ 4) (he : e ≤ n) (hN : N < 2 ^ 31) (H : post (nI (dt_tm n N e))) : wpX_timeIn post (nI n, f2, f3, f4, f5, f6, f7, a1, a2, a3, a4, a5, a6, a7, a8, a9, a10) (nI N) (nI e) := by
  unfold dt_tm at H
  refine pk_eq e n (fun z => ?_) (fun z => ?_)
  · rw [if_pos z] at H
    exact H
  · rw [if_neg z] at H
    have hd : N / 2 ^ (3 * (n - 1 - e)) ≤ N := Nat.div_le_self _ _
    rw [pk_shrN hN _ _ (dt_sh n (by omega) e (by omega)), pk_andN (by omega) 3 (by decide), Nat.pow_mul]
    exact H
theorem dt_meets {post : Int32 → Prop} {N : Nat} (hn2 : 2 ≤ n) (hn : n ≤ 4) (hC : dt_C Z E B L a1 a2 a3 a4) (hE : ∀ k, E k ≤ n) (hB : ∀ k, B k ≤ n) (hc : c ≤ 8) (hs : ∃ t, dt_sol Z E B L (dt_S n) c t ∧ dt_dig N n t n) (H : post 1) :
    wpX_meets post (nI n, nI c, f3, f4, -1, f6, f7, a1, a2, a3, a4, a5, a6, a7, a8, a9, a10) (nI N) := by
  obtain ⟨t, ht, hN, hd⟩ := hs
  obtain ⟨c1, c2, c3, c4⟩ := hC
  have s8 : ∀ k, k < 5 → (1 : Int32) <<< ((3 * nI k) &&& 31) = nI (8 ^ k) ∧ 8 ^ k ≤ 4096 := by decide
  obtain ⟨s1, s2⟩ := s8 n (by omega)
  have tm : ∀ e, e ≤ n → t e - t n = (dt_tm n N e : Int) ∧ dt_tm n N e < 8 := by
    intro e he
    unfold dt_tm
    by_cases z : e = n
    · rw [if_pos z, z]
      exact ⟨by omega, by omega⟩
    · rw [if_neg z]
      exact ⟨hd e (by omega), Nat.mod_lt _ (by decide)⟩
  refine br_f (nI_pos (by omega)) (pk_lt N (8 ^ n) (fun _ => ?_) (fun z => absurd z (by omega)) rfl s1 (by omega) (by omega))
  refine pk_loop (σ := Unit) (fun m k _ => wX_meets_20 post (nI N) (nI n) (nI c) f3 f4 (-1) f6 f7 a1 a2 a3 a4 a5 a6 a7 a8 a9 a10 m (nI k)) (fun _ _ => True) c 0 () (by omega) trivial ?_ ?_
  · intro m _ _
    exact pk_le c c (fun _ => H) (fun z => absurd z (by omega))
  · intro m k _ hk _ hw
    refine pk_le c k (fun z => absurd z (by omega)) (fun _ => nm_r (dt_ix3m k) ?_)
    obtain ⟨z1, z2⟩ := c4 k
    have hck : (nI k).toNatClampNeg = k := nI_clamp (by omega)
    refine pk_loop (fun m' x (s : Int32) => wX_meets_35 post (wX_meets_20 post (nI N) (nI n) (nI c) f3 f4 (-1) f6 f7 a1 a2 a3 a4 a5 a6 a7 a8 a9 a10 m) (nI N) (nI k) (nI n) (nI c) f3 f4 (-1) f6 f7 a1 a2 a3 a4 a5 a6 a7 a8 a9 a10 m' s (nI (3 * k + x)))
      (fun x s => (s = 0 ∧ ∀ y, y < x → ¬ t (E (3 * k + y)) - t (B (3 * k + y)) ≤ L (3 * k + y)) ∨ s = 1) (Z k) 0 0 (by omega) (Or.inl ⟨rfl, fun y hy => absurd hy (by omega)⟩) ?_ ?_
    · intro m' s h
      refine ⟨pk_in k 8 (by omega), ?_⟩
      rw [hck, z1]
      refine pk_le (3 * k + Z k) (3 * k + Z k) (fun _ => ?_) (fun z => absurd z (by omega)) (hx := dt_ix3 k (Z k))
      rcases h with ⟨_, h⟩ | rfl
      · obtain ⟨y, y1, y2⟩ := ht.2 k hk
        exact absurd y2 (h y y1)
      · exact br_f (by decide) (nm_r (nI_1 k) (hw () trivial))
    · intro m' x s hx h hw2
      refine ⟨pk_in k 8 (by omega), ?_⟩
      rw [hck, z1]
      refine pk_le (3 * k + Z k) (3 * k + x) (fun z => absurd z (by omega)) (fun _ => ?_) (hx := dt_ix3 k (Z k))
      have x6 : vp_in (nI (3 * k + x)) 24 := vp_in_nI (by omega) (by decide)
      have x6c : (nI (3 * k + x)).toNatClampNeg = 3 * k + x := nI_clamp (by omega)
      have n1 : nI (3 * k + x) + 1 = nI (3 * k + (x + 1)) := nI_1 _
      rcases h with ⟨rfl, h⟩ | rfl
      · refine br_t rfl ⟨x6, ?_⟩
        obtain ⟨e1, b1⟩ := c1 (3 * k + x)
        obtain ⟨e2, b2⟩ := c2 (3 * k + x)
        obtain ⟨e3, b3⟩ := c3 (3 * k + x)
        have t1 := tm _ (hE (3 * k + x))
        have t2 := tm _ (hB (3 * k + x))
        rw [x6c, e1, e2]
        refine dt_timeIn hn (hE _) (by omega) ⟨x6, ?_⟩
        refine dt_timeIn hn (hB _) (by omega) ⟨x6, ?_⟩
        have es : (nI (dt_tm n N (E (3 * k + x))) - nI (dt_tm n N (B (3 * k + x)))).toInt = t (E (3 * k + x)) - t (B (3 * k + x)) := by
          rw [pk_sub_toInt (by omega) (by omega)]
          omega
        refine br_c (fun g => nm_r n1 (hw2 0 (Or.inl ⟨rfl, fun y hy => ?_⟩))) (fun g => nm_r n1 (hw2 1 (Or.inr rfl)))
        by_cases q : y = x
        · rw [q]
          have := Int32.lt_iff_toInt_lt.mp g
          rw [es, e3] at this
          omega
        · exact h y (by omega)
      · exact br_f (by decide) (nm_r n1 (hw2 1 (Or.inr rfl)))
end
end
section
/-! ===== part 7: holds ===== -/
section
variable {f3 f4 f6 f7 : Int32} {a1 a2 a3 a4 a5 a6 a7 a8 a9 a10 : Nat → Int32} {Z E B : Nat → Nat} {L : Nat → Int} {n c : Nat}
theorem dt_holds71 {post : Int32 → St2 → Prop} (hn2 : 2 ≤ n) (hn : n ≤ 4) (hC : dt_C Z E B L a1 a2 a3 a4) (hc : c ≤ 8) (hs : ∃ t, dt_sol Z E B L (dt_S n) c t)
    (H : ∀ g4 g6 g7 b8 b9 b10, post 1 (nI n, nI c, f3, g4, -1, g6, g7, a1, a2, a3, a4, a5, a6, a7, b8, b9, b10)) :
    ∃ m, wL_holds_71 post (nI n) m 0 (nI n) (nI c) f3 f4 (-1) f6 f7 a1 a2 a3 a4 a5 a6 a7 a8 a9 a10 := by
  refine pk_loop (σ := Int32 × Int32 × Int32 × (Nat → Int32) × (Nat → Int32) × (Nat → Int32)) (fun m k s => wL_holds_71 post (nI n) m (nI k) (nI n) (nI c) f3 s.1 (-1) s.2.1 s.2.2.1 a1 a2 a3 a4 a5 a6 a7 s.2.2.2.1 s.2.2.2.2.1 s.2.2.2.2.2)
    (fun _ _ => True) n 0 (f4, f6, f7, a8, a9, a10) (by omega) trivial ?_ ?_
  · intro m s _
    exact pk_le n n (fun _ => H _ _ _ _ _ _) (fun z => absurd z (by omega))
  · intro m k s hk _ hw
    refine pk_le n k (fun z => absurd z (by omega)) (fun _ => ?_)
    refine dt_earliest hn hC hc hk hs (fun q1 h1 h1' g4 g6 g7 b8 b9 b10 => ?_)
    refine dt_latest hn hC hc hk hs (fun q2 h2 h2' g4 g6 g7 b8 b9 b10 => ?_)
    obtain ⟨t1, s1, e1⟩ := h1
    obtain ⟨t2, s2, e2⟩ := h2
    have w1 := s1.1 n k (by omega) (by omega)
    have w2 := s1.1 k n (by omega) (by omega)
    have w3 := s2.1 n k (by omega) (by omega)
    have w4 := s2.1 k n (by omega) (by omega)
    rw [show dt_S n n k = 0 from if_pos (Or.inr rfl)] at w1 w3
    rw [show dt_S n k n = 7 from if_neg (by omega)] at w2 w4
    have w5 := h1' t2 s2
    have w6 := h2' t1 s1
    have n1 : (-q1).toInt = -q1.toInt := dt_neg (by omega) (by omega)
    have n2 : (-(-q1)).toInt = q1.toInt := by
      rw [dt_neg (by omega) (by omega)]
      omega
    refine br_f (fun g => ?_) (br_f (fun g => ?_) (br_t ?_ ?_))
    · have := Int32.lt_iff_toInt_lt.mp g
      rw [show (0 : Int32).toInt = 0 from by decide] at this
      omega
    · have := Int32.lt_iff_toInt_lt.mp g
      omega
    · rw [Int32.le_iff_toInt_le, show (7 : Int32).toInt = 7 from by decide]
      omega
    · refine dt_widest hn hC hc (by omega) (by omega) hs (fun q3 h3 h3' g4 g6 g7 b8 b9 b10 => br_t ?_ ?_)
      · obtain ⟨t3, s3, e3⟩ := h3
        have y1 := h3' t2 s2
        have y2 := h2' t3 s3
        apply Int32.toInt_inj.mp
        omega
      · refine dt_widest hn hC hc (by omega) (by omega) hs (fun q5 h5 h5' g4 g6 g7 b8 b9 b10 => br_t ?_ (nm_r (nI_1 k) (hw (g4, g6, g7, b8, b9, b10) trivial)))
        obtain ⟨t5, s5, e5⟩ := h5
        have y1 := h5' t1 s1
        have y2 := h1' t5 s5
        apply Int32.toInt_inj.mp
        omega
theorem dt_holds {post : Int32 → St2 → Prop} (hn2 : 2 ≤ n) (hn : n ≤ 4) (hC : dt_C Z E B L a1 a2 a3 a4) (hE : ∀ k, E k ≤ n) (hB : ∀ k, B k ≤ n) (hc : c ≤ 8)
    (H : ∀ g4 g6 g7 b8 b9 b10, post 1 (nI n, nI c, f3, g4, -1, g6, g7, a1, a2, a3, a4, a5, a6, a7, b8, b9, b10)) :
    wpL_holds post (nI n, nI c, f3, f4, -1, f6, f7, a1, a2, a3, a4, a5, a6, a7, a8, a9, a10) (nI n) := by
  unfold wpL_holds
  refine dt_solvable hn hC hc (fun hs g4 g6 g7 b8 b9 b10 => ?_) (fun hs g4 g6 g7 b8 b9 b10 => ?_)
  · refine br_f (by decide) ?_
    unfold wL_holds_13
    refine dt_next hn2 hn hC hc (fun _ g4 g6 g7 b8 b9 b10 => ?_) (fun N hN => ?_)
    · refine dt_excess hn hC hc (fun k hk hk0 g4 g6 g7 b8 b9 b10 => br_f (fun z => ?_) (br_t rfl (br_t rfl (br_t rfl (H _ _ _ _ _ _)))))
      have := (nI_eq (a := k) (b := 0) (by omega) (by decide)).mp z
      obtain ⟨t, ht⟩ := hk0.mp this
      exact hs t ht
    · obtain ⟨t, ht, _⟩ := hN
      exact absurd ht (hs t)
  · refine br_t rfl ?_
    unfold wL_holds_13
    refine dt_next hn2 hn hC hc (fun h0 => ?_) (fun N hN g4 g6 g7 b8 b9 b10 => ?_)
    · obtain ⟨t, ht⟩ := hs
      exact absurd ht (h0 t)
    · have hN8 : N < 8 ^ n := by
        obtain ⟨t, _, h⟩ := hN
        exact h.1
      have s8 : ∀ k, k < 5 → 8 ^ k ≤ 4096 := by decide
      have s9 := s8 n (by omega)
      refine dt_excess hn hC hc (fun k hk hk0 g4 g6 g7 b8 b9 b10 => ?_)
      have hk1 := hk0.mpr hs
      subst hk1
      refine br_t rfl (br_t rfl (br_f (by decide) (br_f (nI_pos (by omega)) ?_)))
      exact dt_meets hn2 hn hC hE hB hc hN (br_t rfl (dt_holds71 hn2 hn hC hc hs H))
end
end
section
/-! ===== part 8: alternative, add, apart, remove, clear keep the object in order ===== -/
def dt_pt (n : Nat) (x : Int32) : Prop := ∃ e : Nat, e ≤ n ∧ x = nI e
def dt_li (x : Int32) : Prop := -10 ≤ x.toInt ∧ x.toInt ≤ 10
def dt_sz (x : Int32) : Prop := ∃ z : Nat, z ≤ 3 ∧ x = nI z
/-- the constraints' arrays -/
def dt_A (n : Nat) (a1 a2 a3 a4 : Nat → Int32) : Prop := (∀ k, dt_pt n (a1 k)) ∧ (∀ k, dt_pt n (a2 k)) ∧ (∀ k, dt_li (a3 k)) ∧ (∀ k, dt_sz (a4 k))
/-- the draft's arrays -/
def dt_D (n : Nat) (a5 a6 a7 : Nat → Int32) : Prop := (∀ k, dt_pt n (a5 k)) ∧ (∀ k, dt_pt n (a6 k)) ∧ (∀ k, dt_li (a7 k))
theorem dt_up {P : Int32 → Prop} {a : Nat → Int32} {i : Nat} {x : Int32} (h : ∀ k, P (a k)) (hx : P x) : ∀ k, P (upd a i x k) := by
  intro k
  by_cases e : k = i
  · rw [e, pk_us]
    exact hx
  · rw [pk_un e]
    exact h k
theorem dt_sz_nI {z : Nat} (h : z ≤ 3) : dt_sz (nI z) := ⟨z, h, rfl⟩
theorem dt_A_C {n : Nat} {a1 a2 a3 a4 : Nat → Int32} (hn : n ≤ 4) (h : dt_A n a1 a2 a3 a4) : ∃ (Z E B : Nat → Nat) (L : Nat → Int), dt_C Z E B L a1 a2 a3 a4 ∧ (∀ k, E k ≤ n) ∧ (∀ k, B k ≤ n) := by
  obtain ⟨h1, h2, h3, h4⟩ := h
  have P : ∀ (a : Nat → Int32), (∀ k, dt_pt n (a k)) → ∀ k, a k = nI (a k).toNatClampNeg ∧ (a k).toNatClampNeg ≤ n := by
    intro a ha k
    obtain ⟨e, he, q⟩ := ha k
    rw [q, nI_clamp (by omega)]
    exact ⟨rfl, he⟩
  refine ⟨fun k => (a4 k).toNatClampNeg, fun k => (a1 k).toNatClampNeg, fun k => (a2 k).toNatClampNeg, fun k => (a3 k).toInt, ⟨fun k => ⟨(P a1 h1 k).1, Nat.lt_of_le_of_lt (P a1 h1 k).2 (by omega)⟩, fun k => ⟨(P a2 h2 k).1, Nat.lt_of_le_of_lt (P a2 h2 k).2 (by omega)⟩, fun k => ⟨rfl, h3 k⟩, fun k => ?_⟩, fun k => (P a1 h1 k).2, fun k => (P a2 h2 k).2⟩
  obtain ⟨z, hz, q⟩ := h4 k
  show a4 k = nI (a4 k).toNatClampNeg ∧ (a4 k).toNatClampNeg ≤ 3
  rw [q, nI_clamp (by omega)]
  exact ⟨rfl, hz⟩
section
variable {f3 f4 f5 f6 f7 : Int32} {a1 a2 a3 a4 a5 a6 a7 a8 a9 a10 : Nat → Int32} {n c d : Nat}
theorem dt_offer {post : St2 → Prop} {f1 p0 p1 p2 : Int32} {z : Nat} (hc : c < 8) (hz : a4 c = nI z) (hz3 : z < 3) (hA : dt_A n a1 a2 a3 a4) (h0 : dt_pt n p0) (h1 : dt_pt n p1) (h2 : dt_li p2)
    (H : ∀ b1 b2 b3 b4, dt_A n b1 b2 b3 b4 → b4 c = nI (z + 1) → post (f1, nI c, f3, f4, f5, f6, f7, b1, b2, b3, b4, a5, a6, a7, a8, a9, a10)) :
    wpX_offer post (f1, nI c, f3, f4, f5, f6, f7, a1, a2, a3, a4, a5, a6, a7, a8, a9, a10) p0 p1 p2 := by
  have hcc : (nI c).toNatClampNeg = c := nI_clamp (by omega)
  have x4 : vp_in (nI (3 * c + z)) 24 := vp_in_nI (by omega) (by decide)
  have v := pk_in (x := nI c) c 8 hc
  refine ⟨v, ?_⟩
  rw [hcc, hz]
  refine nm_r (dt_ix3 c z) ⟨x4, nm_e ⟨x4, nm_e ⟨x4, nm_e ⟨v, v, ?_⟩⟩⟩⟩
  rw [nI_1]
  refine nm_e (H _ _ _ _ ⟨dt_up hA.1 h0, dt_up hA.2.1 h1, dt_up hA.2.2.1 h2, dt_up hA.2.2.2 (dt_sz_nI (by omega))⟩ pk_us)
theorem dt_alt {post : Int32 → St2 → Prop} {i j : Nat} {x : Int32} (hn : n ≤ 4) (hd : d ≤ 3) (hD : dt_D n a5 a6 a7) (hi : i ≤ n) (hj : j ≤ n) (hx : dt_li x)
    (H : ∀ r d' b5 b6 b7, d' ≤ 3 → dt_D n b5 b6 b7 → post r (nI n, nI c, nI d', f4, f5, f6, f7, a1, a2, a3, a4, b5, b6, b7, a8, a9, a10)) :
    wpX_alternative post (nI n, nI c, nI d, f4, f5, f6, f7, a1, a2, a3, a4, a5, a6, a7, a8, a9, a10) (nI i) (nI j) x := by
  have S : ∀ r, post r (nI n, nI c, nI d, f4, f5, f6, f7, a1, a2, a3, a4, a5, a6, a7, a8, a9, a10) := fun r => H r d a5 a6 a7 hd hD
  unfold wpX_alternative
  refine dt_isPoint hn hi ?_
  refine br_f (by decide) ?_
  refine dt_isPoint hn hj ?_
  refine br_f (by decide) (br_c (fun _ => S _) (fun _ => br_c (fun _ => S _) (fun _ => br_c (fun _ => ?_) (fun _ => S _))))
  refine pk_eq d 3 (fun _ => S _) (fun z => ?_)
  have v := pk_in (x := nI d) d 3 (by omega)
  exact ⟨v, nm_e ⟨v, nm_e ⟨v, nm_e (nm_r (nI_1 d) (H _ (d + 1) _ _ _ (by omega) ⟨dt_up hD.1 ⟨i, hi, rfl⟩, dt_up hD.2.1 ⟨j, hj, rfl⟩, dt_up hD.2.2 hx⟩))⟩⟩⟩
theorem dt_addW {post : Int32 → St2 → Prop} (hc : c ≤ 8) (hd : d ≤ 3) (hA : dt_A n a1 a2 a3 a4) (hD : dt_D n a5 a6 a7)
    (H : ∀ r c' d' b1 b2 b3 b4, c' ≤ 8 → d' ≤ 3 → dt_A n b1 b2 b3 b4 → post r (nI n, nI c', nI d', f4, f5, f6, f7, b1, b2, b3, b4, a5, a6, a7, a8, a9, a10)) :
    wpX_add post (nI n, nI c, nI d, f4, f5, f6, f7, a1, a2, a3, a4, a5, a6, a7, a8, a9, a10) := by
  refine br_c (fun _ => H _ c d _ _ _ _ hc hd hA) (fun _ => pk_eq c 8 (fun _ => H _ c d _ _ _ _ hc hd hA) (fun z => ⟨pk_in c 8 (by omega), nm_r (e' := upd a4 c 0) (by rw [nI_clamp (by omega)]) ?_⟩))
  refine pk_loop (σ := (Nat → Int32) × (Nat → Int32) × (Nat → Int32) × (Nat → Int32)) (fun m k s => wX_add_33 post m (nI k) (nI n) (nI c) (nI d) f4 f5 f6 f7 s.1 s.2.1 s.2.2.1 s.2.2.2 a5 a6 a7 a8 a9 a10)
    (fun k s => dt_A n s.1 s.2.1 s.2.2.1 s.2.2.2 ∧ s.2.2.2 c = nI k) d 0 (a1, a2, a3, upd a4 c 0) (by omega) ⟨⟨hA.1, hA.2.1, hA.2.2.1, dt_up hA.2.2.2 (dt_sz_nI (z := 0) (by omega))⟩, pk_us⟩ ?_ ?_
  · intro m s h
    exact pk_le d d (fun _ => nm_r (nI_1 c) (H _ (c + 1) 0 _ _ _ _ (by omega) (by omega) h.1)) (fun z => absurd z (by omega))
  · intro m k s hk h hw
    have v := pk_in (x := nI k) k 3 (by omega)
    refine pk_le d k (fun z => absurd z (by omega)) (fun _ => ⟨v, v, v, ?_⟩)
    exact dt_offer (by omega) h.2 (by omega) h.1 (hD.1 _) (hD.2.1 _) (hD.2.2 _) (fun b1 b2 b3 b4 g1 g2 => nm_r (nI_1 k) (hw (b1, b2, b3, b4) ⟨g1, g2⟩))
theorem dt_apart {post : Int32 → St2 → Prop} {i j : Nat} {x y : Int32} (hn : n ≤ 4) (hc : c ≤ 8) (hA : dt_A n a1 a2 a3 a4) (hi : i < n) (hj : j < n)
    (H : ∀ r c' b1 b2 b3 b4, c' ≤ 8 → dt_A n b1 b2 b3 b4 → post r (nI n, nI c', f3, f4, f5, f6, f7, b1, b2, b3, b4, a5, a6, a7, a8, a9, a10)) :
    wpX_apart post (nI n, nI c, f3, f4, f5, f6, f7, a1, a2, a3, a4, a5, a6, a7, a8, a9, a10) (nI (8 * i + j)) x y := by
  have S : ∀ r, post r (nI n, nI c, f3, f4, f5, f6, f7, a1, a2, a3, a4, a5, a6, a7, a8, a9, a10) := fun r => H r c _ _ _ _ hc hA
  have ei : nI (8 * i + j) >>> ((3 : Int32) &&& 31) = nI i := by
    rw [pk_shrN (by omega) _ 3 (by decide), show (8 * i + j) / 2 ^ 3 = i by omega]
  have ej : nI (8 * i + j) &&& 7 = nI j := by
    rw [pk_andN (by omega) 3 (by decide), show (8 * i + j) % 2 ^ 3 = j by omega]
  refine nm_r ei (nm_r ej (br_f (nI_pos (by omega)) ?_))
  refine dt_isEvent hn hi ?_
  refine br_f (by decide) ?_
  refine dt_isEvent hn hj ?_
  refine br_f (by decide) (br_c (fun _ => S _) (fun _ => br_c (fun _ => S _) (fun g1 => br_c (fun g2 => br_c (fun _ => S _) (fun g3 => br_c (fun g4 => ?_) (fun _ => S _))) (fun _ => S _))))
  have t1 : 0 ≤ x.toInt ∧ x.toInt ≤ 7 := ⟨Int.not_lt.mp (fun w => g1 (Int32.lt_iff_toInt_lt.mpr w)), Int32.le_iff_toInt_le.mp g2⟩
  have t2 : 0 ≤ y.toInt ∧ y.toInt ≤ 7 := ⟨Int.not_lt.mp (fun w => g3 (Int32.lt_iff_toInt_lt.mpr w)), Int32.le_iff_toInt_le.mp g4⟩
  have lx : dt_li (-x) := by
    unfold dt_li
    rw [dt_neg (by omega) (by omega)]
    omega
  have ly : dt_li y := ⟨by omega, by omega⟩
  have pi : dt_pt n (nI i) := ⟨i, by omega, rfl⟩
  have pj : dt_pt n (nI j) := ⟨j, by omega, rfl⟩
  have z0 : ∀ b1 b2 b3 b4 : Nat → Int32, ∀ k, dt_A n b1 b2 b3 b4 → dt_A n b1 b2 b3 (upd b4 k 0) := fun b1 b2 b3 b4 k h => ⟨h.1, h.2.1, h.2.2.1, dt_up h.2.2.2 (dt_sz_nI (z := 0) (by omega))⟩
  refine pk_le (c + 3) 8 (fun hc3 => ?_) (fun _ => S _) (hx := nI_add c 3)
  refine ⟨pk_in c 8 (by omega), nm_r (e' := upd a4 c 0) (by rw [nI_clamp (by omega)]) ?_⟩
  refine dt_offer (z := 0) (by omega) pk_us (by omega) (z0 _ _ _ _ _ hA) pi pj lx (fun b1 b2 b3 b4 k1 k2 => ?_)
  refine dt_offer (z := 1) (by omega) k2 (by omega) k1 pj pi lx (fun b1 b2 b3 b4 k1 k2 => ?_)
  refine nm_r (nI_1 c) ⟨pk_in (c + 1) 8 (by omega), nm_r (e' := upd b4 (c + 1) 0) (by rw [nI_clamp (by omega)]) ?_⟩
  refine dt_offer (z := 0) (by omega) pk_us (by omega) (z0 _ _ _ _ _ k1) pi pj ly (fun b1 b2 b3 b4 k1 k2 => ?_)
  refine nm_r (nI_1 (c + 1)) ⟨pk_in (c + 2) 8 (by omega), nm_r (e' := upd b4 (c + 2) 0) (by rw [nI_clamp (by omega)]) ?_⟩
  refine dt_offer (z := 0) (by omega) pk_us (by omega) (z0 _ _ _ _ _ k1) pj pi ly (fun b1 b2 b3 b4 k1 k2 => ?_)
  exact nm_r (nI_1 (c + 2)) (H _ (c + 3) _ _ _ _ (by omega) k1)
theorem dt_remove {post : Int32 → St2 → Prop} {p : Nat} (hp : p < 8) (hc : c ≤ 8) (hA : dt_A n a1 a2 a3 a4)
    (H : ∀ r c' b1 b2 b3 b4, c' ≤ 8 → dt_A n b1 b2 b3 b4 → post r (nI n, nI c', f3, f4, f5, f6, f7, b1, b2, b3, b4, a5, a6, a7, a8, a9, a10)) :
    wpX_remove post (nI n, nI c, f3, f4, f5, f6, f7, a1, a2, a3, a4, a5, a6, a7, a8, a9, a10) (nI p) := by
  unfold wpX_remove
  refine br_f (nI_pos (by omega)) (pk_le c p (fun _ => br_t rfl (H _ c _ _ _ _ hc hA)) (fun hpc => br_f (by decide) (nm_r (nI_1 p) ?_)))
  refine pk_loop (σ := (Nat → Int32) × (Nat → Int32) × (Nat → Int32) × (Nat → Int32)) (fun m k s => wX_remove_14 post (nI n) (nI c) f3 f4 f5 f6 f7 m (nI k) s.1 s.2.1 s.2.2.1 s.2.2.2 a5 a6 a7 a8 a9 a10)
    (fun k s => 1 ≤ k ∧ dt_A n s.1 s.2.1 s.2.2.1 s.2.2.2) c (p + 1) (a1, a2, a3, a4) (by omega) ⟨by omega, hA⟩ ?_ ?_
  · intro m s h
    refine pk_le c c (fun _ => nm_r (e' := nI (c - 1)) ?_ (H _ (c - 1) _ _ _ _ (by omega) h.2)) (fun z => absurd z (by omega))
    exact pk_sub (b := 1) (by omega)
  · rintro m k ⟨s1, s2, s3, s4⟩ hk ⟨k1, h⟩ hw
    have em : nI k - 1 = nI (k - 1) := pk_sub (b := 1) (by omega)
    refine pk_le c k (fun z => absurd z (by omega)) (fun _ => ⟨pk_in k 8 (by omega), pk_in (k - 1) 8 (by omega) em, nm_e ?_⟩)
    refine pk_loop (σ := (Nat → Int32) × (Nat → Int32) × (Nat → Int32)) (fun m' x s => wX_remove_38 post (wX_remove_14 post (nI n) (nI c) f3 f4 f5 f6 f7 m) (nI k) (nI n) (nI c) f3 f4 f5 f6 f7 m' (nI x) s.1 s.2.1 s.2.2 (upd s4 (nI k - 1).toNatClampNeg (s4 (nI k).toNatClampNeg)) a5 a6 a7 a8 a9 a10)
      (fun x s => dt_A n s.1 s.2.1 s.2.2 (upd s4 (nI k - 1).toNatClampNeg (s4 (nI k).toNatClampNeg))) 3 0 (s1, s2, s3) (by omega) ⟨h.1, h.2.1, h.2.2.1, dt_up h.2.2.2 (h.2.2.2 _)⟩ ?_ ?_
    · rintro m' ⟨r1, r2, r3⟩ g
      exact pk_le 3 3 (fun _ => nm_r (nI_1 k) (hw (r1, r2, r3, _) ⟨by omega, g⟩)) (fun z => absurd z (by omega))
    · rintro m' x ⟨r1, r2, r3⟩ hx g hw2
      have e2 : (3 * nI k - 3) + nI x = nI (3 * k - 3 + x) := by
        rw [dt_ix3m, show (3 : Int32) = nI 3 from rfl, pk_sub (by omega), nI_add]
      have v1 := pk_in (x := 3 * nI k + nI x) (3 * k + x) 24 (by omega) (dt_ix3 k x)
      have v2 := pk_in (x := (3 * nI k - 3) + nI x) (3 * k - 3 + x) 24 (by omega) e2
      refine pk_le 3 x (fun z => absurd z (by omega)) (fun _ => ⟨v1, v2, nm_e ⟨v1, v2, nm_e ⟨v1, v2, nm_e (nm_r (nI_1 x) (hw2 (_, _, _) ⟨dt_up g.1 (g.1 _), dt_up g.2.1 (g.2.1 _), dt_up g.2.2.1 (g.2.2.1 _), g.2.2.2⟩))⟩⟩⟩)
theorem dt_turn {post : St2 → Prop} {op x : Int32} (hn2 : 2 ≤ n) (hn : n ≤ 4) (hc : c ≤ 8) (hd : d ≤ 3) (hA : dt_A n a1 a2 a3 a4) (hD : dt_D n a5 a6 a7)
    (H : ∀ c' d' b1 b2 b3 b4 b5 b6 b7, c' ≤ 8 → d' ≤ 3 → dt_A n b1 b2 b3 b4 → dt_D n b5 b6 b7 → post (nI n, nI c', nI d', f4, f5, f6, f7, b1, b2, b3, b4, b5, b6, b7, a8, a9, a10)) :
    wpL_turn post (nI n, nI c, nI d, f4, f5, f6, f7, a1, a2, a3, a4, a5, a6, a7, a8, a9, a10) (nI n) op x := by
  obtain ⟨i, hi, ei⟩ := pk_andE x (m := 7) 3 (by decide)
  obtain ⟨j, hj, ej⟩ := pk_andE (x >>> ((3 : Int32) &&& 31)) (m := 7) 3 (by decide)
  obtain ⟨k, hk, ek⟩ := pk_andE (x >>> ((6 : Int32) &&& 31)) (m := 15) 4 (by decide)
  have n1 : ¬ nI n + 1 = 0 := by
    rw [nI_1]
    exact nI_ne0 (by omega) (by omega)
  have n0 : ¬ nI n = 0 := nI_ne0 (by omega) (by omega)
  have hi' : i % (n + 1) < n + 1 := Nat.mod_lt _ (by omega)
  have hj' : j % (n + 1) < n + 1 := Nat.mod_lt _ (by omega)
  refine ⟨n1, nm_r (e' := nI (i % (n + 1))) (by rw [ei, nI_1, pk_rem (by omega) (by omega) (by omega)]) ⟨n1, nm_r (e' := nI (j % (n + 1))) (by rw [ej, nI_1, pk_rem (by omega) (by omega) (by omega)]) ?_⟩⟩
  refine br_c (fun _ => br_c (fun _ => br_c (fun _ => ⟨n0, n0, ?_⟩) (fun _ => br_c (fun _ => ?_) (fun _ => ?_))) (fun _ => ?_)) (fun _ => ?_)
  · have hi2 : i % (n + 1) % n < n := Nat.mod_lt _ (by omega)
    have hj2 : j % (n + 1) % n < n := Nat.mod_lt _ (by omega)
    rw [pk_rem (by omega) (by omega) (by omega), pk_rem (by omega) (by omega) (by omega), show (8 : Int32) = nI 8 from rfl, pk_mul, nI_add]
    exact dt_apart hn hc hA hi2 hj2 (fun r c' b1 b2 b3 b4 g1 g2 => H c' d _ _ _ _ _ _ _ g1 hd g2 hD)
  · rw [ei]
    exact dt_remove (by omega) hc hA (fun r c' b1 b2 b3 b4 g1 g2 => H c' d _ _ _ _ _ _ _ g1 hd g2 hD)
  · exact H c 0 _ _ _ _ _ _ _ hc (by omega) hA hD
  · exact dt_addW hc hd hA hD (fun r c' d' b1 b2 b3 b4 g1 g2 g3 => H c' d' _ _ _ _ _ _ _ g1 g2 g3 hD)
  · refine dt_alt hn hd hD (by omega) (by omega) ?_ (fun r d' b5 b6 b7 g1 g2 => H c d' _ _ _ _ _ _ _ hc g1 hA g2)
    rw [ek]
    unfold dt_li
    rw [show (8 : Int32) = nI 8 from rfl, pk_sub_toInt (by omega) (by omega)]
    omega
end
end
section
/-! ===== part 9: the law ===== -/
theorem dt_cell {post : Int32 → Prop} {L k : Nat} {xs : Nat → Int32} {u : St0} {p : Int32} (hL : L ≤ 260) (hk : k < 2 ^ 31) (hp : p = nI k) (H : ∀ r, post r) : wpL_cell post L xs u p := by
  subst hp
  exact pk_le L k (fun _ => H _) (fun z => ⟨pk_in k L z, H _⟩)
theorem dt_law24 {n L kc ks : Nat} {xs : Nat → Int32} {f4 f6 f7 : Int32} {a1 a2 a3 a4 a5 a6 a7 a8 a9 a10 : Nat → Int32} {c d : Nat} (hL : L ≤ 260) (hn2 : 2 ≤ n) (hn : n ≤ 4) (hc : c ≤ 8) (hd : d ≤ 3) (hA : dt_A n a1 a2 a3 a4) (hD : dt_D n a5 a6 a7) :
    ∃ m, wL_law_24 (fun r => r = 1) L xs (nI n) kc ks m (nI 1) (nI n) (nI c) (nI d) f4 (-1) f6 f7 a1 a2 a3 a4 a5 a6 a7 a8 a9 a10 := by
  refine loop_m (σ := Nat × Nat × Nat × Int32 × Int32 × Int32 × (Nat → Int32) × (Nat → Int32) × (Nat → Int32) × (Nat → Int32) × (Nat → Int32) × (Nat → Int32) × (Nat → Int32) × (Nat → Int32) × (Nat → Int32) × (Nat → Int32))
    (fun m s => wL_law_24 (fun r => r = 1) L xs (nI n) kc ks m (nI s.1) (nI n) (nI s.2.1) (nI s.2.2.1) s.2.2.2.1 (-1) s.2.2.2.2.1 s.2.2.2.2.2.1 s.2.2.2.2.2.2.1 s.2.2.2.2.2.2.2.1 s.2.2.2.2.2.2.2.2.1 s.2.2.2.2.2.2.2.2.2.1 s.2.2.2.2.2.2.2.2.2.2.1 s.2.2.2.2.2.2.2.2.2.2.2.1 s.2.2.2.2.2.2.2.2.2.2.2.2.1 s.2.2.2.2.2.2.2.2.2.2.2.2.2.1 s.2.2.2.2.2.2.2.2.2.2.2.2.2.2.1 s.2.2.2.2.2.2.2.2.2.2.2.2.2.2.2)
    (fun s => s.1 ≤ 262 ∧ s.2.1 ≤ 8 ∧ s.2.2.1 ≤ 3 ∧ dt_A n s.2.2.2.2.2.2.1 s.2.2.2.2.2.2.2.1 s.2.2.2.2.2.2.2.2.1 s.2.2.2.2.2.2.2.2.2.1 ∧ dt_D n s.2.2.2.2.2.2.2.2.2.2.1 s.2.2.2.2.2.2.2.2.2.2.2.1 s.2.2.2.2.2.2.2.2.2.2.2.2.1)
    (fun s => L - s.1) ?_ (1, c, d, f4, f6, f7, a1, a2, a3, a4, a5, a6, a7, a8, a9, a10) ⟨(show 1 ≤ 262 by omega), hc, hd, hA, hD⟩
  rintro m ⟨k, c, d, f4, f6, f7, a1, a2, a3, a4, a5, a6, a7, a8, a9, a10⟩ ⟨h1, h2, h3, h4, h5⟩ hw
  dsimp only at h1 h2 h3 h4 h5
  refine pk_le L k (fun _ => rfl) (fun hk => ?_)
  refine dt_cell (k := k) hL (by omega) rfl (fun r48 => ?_)
  refine dt_cell (k := k + 1) hL (by omega) (nI_1 k) (fun r49 => ?_)
  refine dt_turn hn2 hn h2 h3 h4 h5 (fun c' d' b1 b2 b3 b4 b5 b6 b7 g1 g2 g3 g4 => ?_)
  obtain ⟨Z, E, B, Li, hC, hE, hB⟩ := dt_A_C hn g3
  refine dt_holds hn2 hn hC hE hB g1 (fun g4' g6' g7' b8 b9 b10 => br_f (by decide) (nm_r (e' := nI (k + 2)) (nI_add k 2) (hw (k + 2, c', d', g4', g6', g7', b1, b2, b3, b4, b5, b6, b7, b8, b9, b10) ⟨(show k + 2 ≤ 262 by omega), g1, g2, g3, g4⟩ ?_)))
  show L - (k + 2) < L - k
  omega
theorem i_vc (xs : Nat → Int32) (L : Nat) (hL : L ≤ 260) : wpL_law (fun r => r = 1) L xs := by
  refine dt_cell (k := 0) hL (by decide) rfl (fun r => ?_)
  obtain ⟨k, hk, ek⟩ := pk_andE r (m := 2147483647) 31 (by decide)
  have hk3 : k % 3 < 3 := Nat.mod_lt _ (by decide)
  refine ⟨by decide, nm_r (e' := nI (2 + k % 3)) ?_ ⟨10, 348, by decide, by decide, ?_⟩⟩
  · rw [ek, show (3 : Int32) = nI 3 from rfl, pk_rem (by omega) (by decide) (by decide), show (2 : Int32) = nI 2 from rfl, nI_add]
  · refine ⟨by decide, by decide, by decide, by decide, by decide, by decide, by decide, by decide, by decide, by decide, by decide, by decide, by decide, by decide, by decide, by decide, by decide, by decide, by decide, by decide, ?_⟩
    have l0 : dt_li 0 := ⟨by decide, by decide⟩
    have z0 : ∀ n, dt_A n (fun _ => 0) (fun _ => 0) (fun _ => 0) (fun _ => 0) := fun n => ⟨fun _ => ⟨0, by omega, rfl⟩, fun _ => ⟨0, by omega, rfl⟩, fun _ => l0, fun _ => ⟨0, by omega, rfl⟩⟩
    have z1 : ∀ n, dt_D n (fun _ => 0) (fun _ => 0) (fun _ => 0) := fun n => ⟨fun _ => ⟨0, by omega, rfl⟩, fun _ => ⟨0, by omega, rfl⟩, fun _ => l0⟩
    refine pk_le 2 (2 + k % 3) (fun _ => ?_) (fun z => absurd z (by omega))
    refine pk_le (2 + k % 3) 4 (fun _ => ?_) (fun z => absurd z (by omega))
    exact dt_law24 (c := 0) (d := 0) hL (by omega) (by omega) (by omega) (by omega) (z0 _) (z1 _)
end
