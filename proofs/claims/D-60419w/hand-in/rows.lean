section
/-! PURE: sums, the slot simulation of thirteen places, the demand test; no program in sight -/
def ps_sum (f : Nat → Nat) : Nat → Nat
  | 0 => 0
  | n + 1 => ps_sum f n + f n
theorem ps_sum_le {f g : Nat → Nat} : ∀ n, (∀ i, i < n → f i ≤ g i) → ps_sum f n ≤ ps_sum g n
  | 0, _ => Nat.le_refl _
  | n + 1, h => Nat.add_le_add (ps_sum_le n (fun i hi => h i (by omega))) (h n (by omega))
theorem ps_sum_congr {f g : Nat → Nat} (n : Nat) (h : ∀ i, i < n → f i = g i) : ps_sum f n = ps_sum g n :=
  Nat.le_antisymm (ps_sum_le n (fun i hi => Nat.le_of_eq (h i hi))) (ps_sum_le n (fun i hi => Nat.le_of_eq (h i hi).symm))
theorem ps_sum_lt {f g : Nat → Nat} {b : Nat} : ∀ n, (∀ i, i < n → f i ≤ g i) → b < n → f b + 1 ≤ g b → ps_sum f n + 1 ≤ ps_sum g n
  | 0, _, hb, _ => absurd hb (Nat.not_lt_zero _)
  | n + 1, h, hb, hl => by
    show ps_sum f n + f n + 1 ≤ ps_sum g n + g n
    by_cases hbn : b = n
    · subst hbn
      have := ps_sum_le (f := f) (g := g) b (fun i hi => h i (by omega))
      omega
    · have h1 := ps_sum_lt n (fun i hi => h i (by omega)) (by omega) hl
      have h2 := h n (by omega)
      omega
theorem ps_sum_up {f g : Nat → Nat} {b : Nat} : ∀ n, (∀ i, i < n → i ≠ b → f i ≤ g i) → f b ≤ g b + 1 → ps_sum f n ≤ ps_sum g n + 1
  | 0, _, _ => Nat.zero_le _
  | n + 1, h, hl => by
    show ps_sum f n + f n ≤ ps_sum g n + g n + 1
    by_cases hbn : b = n
    · subst hbn
      have := ps_sum_le (f := f) (g := g) b (fun i hi => h i (by omega) (by omega))
      omega
    · have h1 := ps_sum_up n (fun i hi hb => h i (by omega) hb) hl
      have h2 := h n (by omega) (by omega)
      omega
theorem ps_sum_pick {f : Nat → Nat} {i : Nat} : ∀ n, i < n → f i ≤ ps_sum f n
  | 0, h => absurd h (Nat.not_lt_zero _)
  | n + 1, h => by
    show f i ≤ ps_sum f n + f n
    by_cases hi : i = n
    · subst hi; omega
    · have := ps_sum_pick (f := f) n (show i < n by omega); omega
theorem ps_sum_two (f : Nat → Nat) : ∀ n, ps_sum f (2 * n) = ps_sum (fun k => f (2 * k) + f (2 * k + 1)) n
  | 0 => rfl
  | n + 1 => by
    show ps_sum f (2 * n + 2) = ps_sum (fun k => f (2 * k) + f (2 * k + 1)) n + (f (2 * n) + f (2 * n + 1))
    rw [← ps_sum_two f n]
    show ps_sum f (2 * n) + f (2 * n) + f (2 * n + 1) = _
    omega
/-! division -/
theorem ps_dm {p : Nat} (hp : 0 < p) (s : Nat) : ((s + 1) % p = 0 ∧ (s + 1) / p = s / p + 1 ∧ s + 1 = s / p * p + p) ∨ (¬ (s + 1) % p = 0 ∧ (s + 1) / p = s / p) := by
  have h1 := Nat.div_add_mod s p
  have h2 := Nat.mod_lt s hp
  rw [Nat.mul_comm] at h1
  by_cases h : s % p + 1 = p
  · left
    have e : s + 1 = (s / p + 1) * p := by rw [Nat.add_mul, Nat.one_mul]; omega
    refine ⟨?_, ?_, ?_⟩
    · rw [e]; exact Nat.mul_mod_left _ _
    · rw [e]; exact Nat.mul_div_cancel _ hp
    · omega
  · right
    have e : s + 1 = p * (s / p) + (s % p + 1) := by rw [Nat.mul_comm]; omega
    have h3 : s % p + 1 < p := by omega
    constructor
    · rw [e, Nat.mul_add_mod, Nat.mod_eq_of_lt h3]; omega
    · rw [e, Nat.mul_add_div hp, Nat.div_eq_of_lt h3]; rfl
theorem ps_lo {p : Nat} (s : Nat) : s / p * p ≤ s := Nat.div_mul_le_self s p
theorem ps_hi {p : Nat} (hp : 0 < p) (s : Nat) : s < s / p * p + p := by
  have h1 := Nat.div_add_mod s p
  have h2 := Nat.mod_lt s hp
  rw [Nat.mul_comm] at h1
  omega
theorem ps_dv {p q x : Nat} (hp : 0 < p) (h1 : q * p ≤ x) (h2 : x < q * p + p) : x / p = q := by
  have a : q ≤ x / p := (Nat.le_div_iff_mul_le hp).mpr h1
  have b : x / p < q + 1 := (Nat.div_lt_iff_lt_mul hp).mpr (by rw [Nat.add_mul, Nat.one_mul]; exact h2)
  omega
theorem ps_md {p q x : Nat} (hp : 0 < p) (h1 : q * p < x) (h2 : x < q * p + p) : ¬ x % p = 0 := by
  intro h
  have e := ps_dv hp (Nat.le_of_lt h1) h2
  have h3 := Nat.div_add_mod x p
  rw [e, h, Nat.mul_comm] at h3
  omega
/-! the most urgent of n places: none is -1; the least deadline, the least place among equals -/
def ps_bst (L u : Nat → Nat) : Nat → Int
  | 0 => -1
  | n + 1 => if 0 < L n ∧ (ps_bst L u n < 0 ∨ u n < u (ps_bst L u n).toNat) then (n : Int) else ps_bst L u n
def ps_isB (L u : Nat → Nat) (n : Nat) (b : Int) : Prop :=
  (b = -1 ∧ ∀ i, i < n → L i = 0) ∨ ∃ k : Nat, b = (k : Int) ∧ k < n ∧ 0 < L k ∧ (∀ i, i < n → 0 < L i → u k ≤ u i) ∧ ∀ i, i < k → 0 < L i → u k < u i
theorem ps_isB_0 (L u : Nat → Nat) : ps_isB L u 0 (-1) := Or.inl ⟨rfl, fun i hi => absurd hi (Nat.not_lt_zero _)⟩
theorem ps_isB_new {L u : Nat → Nat} {n : Nat} {b : Int} (h : ps_isB L u n b) (h1 : 0 < L n) (h2 : b < 0 ∨ u n < u b.toNat) : ps_isB L u (n + 1) (n : Int) := by
  refine Or.inr ⟨n, rfl, by omega, h1, ?_, ?_⟩
  · intro i hi hL
    rcases h with ⟨-, h0⟩ | ⟨k, rfl, hk, hLk, hmin, -⟩
    · by_cases e : i = n
      · subst e; exact Nat.le_refl _
      · have := h0 i (by omega); omega
    · by_cases e : i = n
      · subst e; exact Nat.le_refl _
      · have := hmin i (by omega) hL
        rcases h2 with h2 | h2
        · omega
        · rw [Int.toNat_natCast] at h2; omega
  · intro i hi hL
    rcases h with ⟨-, h0⟩ | ⟨k, rfl, hk, hLk, hmin, -⟩
    · have := h0 i hi; omega
    · have := hmin i hi hL
      rcases h2 with h2 | h2
      · omega
      · rw [Int.toNat_natCast] at h2; omega
theorem ps_isB_old {L u : Nat → Nat} {n : Nat} {b : Int} (h : ps_isB L u n b) (h1 : ¬ (0 < L n ∧ (b < 0 ∨ u n < u b.toNat))) : ps_isB L u (n + 1) b := by
  rcases h with ⟨rfl, h0⟩ | ⟨k, rfl, hk, hLk, hmin, hfst⟩
  · refine Or.inl ⟨rfl, fun i hi => ?_⟩
    by_cases e : i = n
    · subst e
      rcases Nat.eq_zero_or_pos (L i) with z | z
      · exact z
      · exact absurd ⟨z, Or.inl (by omega)⟩ h1
    · exact h0 i (by omega)
  · refine Or.inr ⟨k, rfl, by omega, hLk, fun i hi hL => ?_, hfst⟩
    by_cases e : i = n
    · subst e
      rcases Nat.lt_or_ge (u i) (u k) with z | z
      · exact absurd ⟨hL, Or.inr (by rw [Int.toNat_natCast]; exact z)⟩ h1
      · exact z
    · exact hmin i (by omega) hL
theorem ps_bst_is (L u : Nat → Nat) : ∀ n, ps_isB L u n (ps_bst L u n)
  | 0 => ps_isB_0 L u
  | n + 1 => by
    have ih := ps_bst_is L u n
    unfold ps_bst
    split
    · rename_i h; exact ps_isB_new ih h.1 h.2
    · rename_i h; exact ps_isB_old ih h
theorem ps_isB_uniq {L u : Nat → Nat} {n : Nat} {a b : Int} (ha : ps_isB L u n a) (hb : ps_isB L u n b) : a = b := by
  rcases ha with ⟨rfl, h0⟩ | ⟨k, rfl, hk, hLk, hmin, hfst⟩
  · rcases hb with ⟨rfl, -⟩ | ⟨j, rfl, hj, hLj, -⟩
    · rfl
    · have := h0 j hj; omega
  · rcases hb with ⟨rfl, g0⟩ | ⟨j, rfl, hj, hLj, gmin, gfst⟩
    · have := g0 k hk; omega
    · have a1 := hmin j hj hLj
      have a2 := gmin k hk hLk
      rcases Nat.lt_trichotomy k j with z | z | z
      · have := gfst k z hLk; omega
      · subst z; rfl
      · have := hfst j z hLj; omega
theorem ps_isB_congr {L u L' u' : Nat → Nat} {n : Nat} {b : Int} (h : ∀ i, i < n → (L i = 0 ↔ L' i = 0)) (hu : ∀ i, i < n → 0 < L i → u i = u' i) (hb : ps_isB L u n b) : ps_isB L' u' n b := by
  have pos : ∀ i, i < n → 0 < L' i → 0 < L i := fun i hi h1 => by
    rcases Nat.eq_zero_or_pos (L i) with z | z
    · have := (h i hi).mp z; omega
    · exact z
  rcases hb with ⟨rfl, h0⟩ | ⟨k, rfl, hk, hLk, hmin, hfst⟩
  · exact Or.inl ⟨rfl, fun i hi => (h i hi).mp (h0 i hi)⟩
  · refine Or.inr ⟨k, rfl, hk, ?_, fun i hi hL => ?_, fun i hi hL => ?_⟩
    · rcases Nat.eq_zero_or_pos (L' k) with z | z
      · have := (h k hk).mpr z; omega
      · exact z
    · rw [← hu k hk hLk, ← hu i hi (pos i hi hL)]; exact hmin i hi (pos i hi hL)
    · have hi' : i < n := by omega
      rw [← hu k hk hLk, ← hu i hi' (pos i hi' hL)]; exact hfst i hi (pos i hi' hL)
theorem ps_isB_range {L u : Nat → Nat} {n : Nat} {b : Int} (h : ps_isB L u n b) : -1 ≤ b ∧ b < n := by
  rcases h with ⟨rfl, -⟩ | ⟨k, rfl, hk, -⟩ <;> omega
/-! the simulation: left after the release of slot t; who runs in slot t; left behind slot t -/
def ps_due (d p : Nat → Nat) (t i : Nat) : Nat := t / p i * p i + d i
def ps_aft (L : Nat → Nat) (b : Int) (i : Nat) : Nat := if b = (i : Int) then L i - 1 else L i
def ps_lft (c d p : Nat → Nat) : Nat → Nat → Nat
  | 0 => c
  | t + 1 => fun i => if (t + 1) % p i = 0 then c i else ps_aft (ps_lft c d p t) (ps_bst (ps_lft c d p t) (ps_due d p t) 13) i
def ps_b (c d p : Nat → Nat) (t : Nat) : Int := ps_bst (ps_lft c d p t) (ps_due d p t) 13
def ps_a (c d p : Nat → Nat) (t i : Nat) : Nat := ps_aft (ps_lft c d p t) (ps_b c d p t) i
theorem ps_lft_succ (c d p : Nat → Nat) (t i : Nat) : ps_lft c d p (t + 1) i = if (t + 1) % p i = 0 then c i else ps_a c d p t i := rfl
theorem ps_a_le (c d p : Nat → Nat) (t i : Nat) : ps_a c d p t i ≤ ps_lft c d p t i := by
  unfold ps_a ps_aft; split <;> omega
theorem ps_lft_le (c d p : Nat → Nat) : ∀ t i, ps_lft c d p t i ≤ c i
  | 0, i => Nat.le_refl _
  | t + 1, i => by
    rw [ps_lft_succ]
    split
    · exact Nat.le_refl _
    · exact Nat.le_trans (ps_a_le c d p t i) (ps_lft_le c d p t i)
theorem ps_b_is (c d p : Nat → Nat) (t : Nat) : ps_isB (ps_lft c d p t) (ps_due d p t) 13 (ps_b c d p t) := ps_bst_is _ _ 13
def ps_ok (c d p : Nat → Nat) : Prop := ∀ i, i < 13 → 0 < c i → c i ≤ d i ∧ d i ≤ p i ∧ 2 ≤ p i ∧ p i ≤ 60 ∧ 60 % p i = 0
def ps_noMiss (c d p : Nat → Nat) : Prop := ∀ t, t < 60 → ∀ i, i < 13 → 0 < ps_a c d p t i → t + 1 < ps_due d p t i
/-- how many jobs have deadlines up to t -/
def ps_N (d p : Nat → Nat) (t i : Nat) : Nat := if d i ≤ t then (t - d i) / p i + 1 else 0
def ps_dem (c d p : Nat → Nat) (t : Nat) : Nat := ps_sum (fun i => ps_N d p t i * c i) 13
def ps_sched (c d p : Nat → Nat) : Prop := ∀ t, t ≤ 60 → ps_dem c d p t ≤ t
theorem ps_N_mono (d p : Nat → Nat) {s t : Nat} (h : s ≤ t) (i : Nat) : ps_N d p s i ≤ ps_N d p t i := by
  unfold ps_N
  split
  · rw [if_pos (by omega)]
    exact Nat.add_le_add_right (Nat.div_le_div_right (by omega)) 1
  · exact Nat.zero_le _
theorem ps_dem_mono (c d p : Nat → Nat) {s t : Nat} (h : s ≤ t) : ps_dem c d p s ≤ ps_dem c d p t :=
  ps_sum_le 13 (fun i _ => Nat.mul_le_mul_right _ (ps_N_mono d p h i))
theorem ps_N_due {d p : Nat → Nat} {T s i : Nat} (hp : 0 < p i) : ps_due d p s i ≤ T ↔ s / p i < ps_N d p T i := by
  unfold ps_due ps_N
  by_cases h : d i ≤ T
  · rw [if_pos h, Nat.lt_succ_iff, Nat.le_div_iff_mul_le hp]
    omega
  · rw [if_neg h]
    exact ⟨fun g => absurd g (by omega), fun g => absurd g (Nat.not_lt_zero _)⟩
theorem ps_N_rest {d p : Nat → Nat} {T s i : Nat} (hp : 0 < p i) (hs : s < T) : ps_N d p T i - s / p i - 1 ≤ ps_N d p (T - (s + 1)) i := by
  by_cases h0 : ps_N d p T i - s / p i - 1 = 0
  · rw [h0]; exact Nat.zero_le _
  · have h4 := ps_hi hp s
    have hK0 : ∃ K, ps_N d p T i = K + 1 ∧ ∃ M, K = M + (s / p i + 1) := by
      generalize s / p i = q at h0
      exact ⟨ps_N d p T i - 1, by omega, ps_N d p T i - 1 - (q + 1), by omega⟩
    obtain ⟨K, hK, M, hM⟩ := hK0
    have hg : ps_N d p T i - s / p i - 1 = M + 1 := by
      rw [hK, hM]
      generalize s / p i = q
      omega
    have h1 : d i ≤ T ∧ K ≤ (T - d i) / p i := by
      unfold ps_N at hK
      split at hK
      · exact ⟨by assumption, by omega⟩
      · omega
    have h2 : K * p i ≤ T - d i := (Nat.le_div_iff_mul_le hp).mp h1.2
    have h3 : K * p i = M * p i + (s / p i * p i + p i) := by rw [hM, Nat.add_mul, Nat.add_mul, Nat.one_mul]
    have h5 : M ≤ (T - (s + 1) - d i) / p i := (Nat.le_div_iff_mul_le hp).mpr (by omega)
    rw [hg]
    unfold ps_N
    rw [if_pos (show d i ≤ T - (s + 1) by omega)]
    exact Nat.add_le_add_right h5 1
/-! no more demand than time: then no job misses -/
def ps_r (c d p : Nat → Nat) (L : Nat → Nat) (T s i : Nat) : Nat := if s / p i < ps_N d p T i then L i + c i * (ps_N d p T i - s / p i - 1) else 0
theorem ps_r_step {c d p : Nat → Nat} (hok : ps_ok c d p) {T s : Nat} (hs : s < T) (hT : T ≤ 60) (hd : ps_sched c d p) (h : ps_sum (ps_r c d p (ps_lft c d p s) T s) 13 ≤ T - s) : ps_sum (ps_r c d p (ps_a c d p s) T s) 13 ≤ T - (s + 1) := by
  have hle : ∀ i, ps_r c d p (ps_a c d p s) T s i ≤ ps_r c d p (ps_lft c d p s) T s i := fun i => by
    have := ps_a_le c d p s i
    unfold ps_r; split <;> omega
  by_cases hb : ∃ k, k < 13 ∧ 0 < ps_lft c d p s k ∧ s / p k < ps_N d p T k
  · obtain ⟨k, hk, hL, hN⟩ := hb
    rcases ps_b_is c d p s with ⟨-, h0⟩ | ⟨j, hj, hj13, hLj, hmin, -⟩
    · have := h0 k hk; omega
    · have hcj : 0 < c j := Nat.lt_of_lt_of_le hLj (ps_lft_le c d p s j)
      have hck : 0 < c k := Nat.lt_of_lt_of_le hL (ps_lft_le c d p s k)
      obtain ⟨-, -, hpj, -, -⟩ := hok j hj13 hcj
      obtain ⟨-, -, hpk, -, -⟩ := hok k hk hck
      have h1 : ps_due d p s k ≤ T := (ps_N_due (by omega)).mpr hN
      have h2 : s / p j < ps_N d p T j := (ps_N_due (by omega)).mp (Nat.le_trans (hmin k hk hL) h1)
      have h3 := ps_sum_lt (b := j) (f := ps_r c d p (ps_a c d p s) T s) (g := ps_r c d p (ps_lft c d p s) T s) 13 (fun i _ => hle i) hj13 (by
        unfold ps_r
        rw [if_pos h2, if_pos h2]
        have : ps_a c d p s j = ps_lft c d p s j - 1 := by unfold ps_a ps_aft; rw [if_pos hj]
        omega)
      omega
  · have h1 : ps_sum (ps_r c d p (ps_a c d p s) T s) 13 ≤ ps_dem c d p (T - (s + 1)) := by
      refine ps_sum_le 13 (fun i hi => ?_)
      unfold ps_r
      split
      · rename_i hN
        have hz : ps_lft c d p s i = 0 := by
          rcases Nat.eq_zero_or_pos (ps_lft c d p s i) with z | z
          · exact z
          · exact absurd ⟨i, hi, z, hN⟩ hb
        have ha := ps_a_le c d p s i
        have ha0 : ps_a c d p s i = 0 := by omega
        rw [ha0, Nat.zero_add, Nat.mul_comm]
        rcases Nat.eq_zero_or_pos (c i) with z | z
        · rw [z]; exact Nat.zero_le _
        · obtain ⟨-, -, hp, -, -⟩ := hok i hi z
          exact Nat.mul_le_mul_right _ (ps_N_rest (by omega) hs)
      · exact Nat.zero_le _
    have h2 := hd (T - (s + 1)) (by omega)
    omega
theorem ps_r_rel {c d p : Nat → Nat} (hok : ps_ok c d p) (T s : Nat) : ps_sum (ps_r c d p (ps_lft c d p (s + 1)) T (s + 1)) 13 ≤ ps_sum (ps_r c d p (ps_a c d p s) T s) 13 := by
  refine ps_sum_le 13 (fun i hi => ?_)
  unfold ps_r
  rcases Nat.eq_zero_or_pos (c i) with z | z
  · have := ps_lft_le c d p (s + 1) i
    split
    · rw [z, Nat.zero_mul]; omega
    · exact Nat.zero_le _
  · obtain ⟨-, -, hp, -, -⟩ := hok i hi z
    rw [ps_lft_succ]
    rcases ps_dm (show 0 < p i by omega) s with ⟨h1, h2, -⟩ | ⟨h1, h2⟩
    · rw [if_pos h1, h2]
      by_cases hN : s / p i + 1 < ps_N d p T i
      · rw [if_pos hN, if_pos (by omega)]
        obtain ⟨M, hM⟩ : ∃ M, ps_N d p T i = M + (s / p i + 1) + 1 := ⟨ps_N d p T i - (s / p i + 1) - 1, by omega⟩
        rw [hM]
        have e1 : M + (s / p i + 1) + 1 - (s / p i + 1) - 1 = M := by omega
        have e2 : M + (s / p i + 1) + 1 - s / p i - 1 = M + 1 := by omega
        rw [e1, e2, Nat.mul_add, Nat.mul_one]
        omega
      · rw [if_neg hN]; exact Nat.zero_le _
    · rw [if_neg h1, h2]
      exact Nat.le_refl _
theorem ps_edf1 {c d p : Nat → Nat} (hok : ps_ok c d p) (hd : ps_sched c d p) : ps_noMiss c d p := by
  intro t ht i hi ha
  rcases Nat.lt_or_ge (t + 1) (ps_due d p t i) with h | h
  · exact h
  · exfalso
    have key : ∀ s, s ≤ t → ps_sum (ps_r c d p (ps_lft c d p s) (t + 1) s) 13 ≤ t + 1 - s := by
      intro s
      induction s with
      | zero =>
        intro _
        refine Nat.le_trans (ps_sum_le 13 (fun j hj => ?_)) (hd (t + 1) (by omega))
        unfold ps_r
        rw [Nat.zero_div]
        split
        · rename_i hN
          show c j + c j * (ps_N d p (t + 1) j - 0 - 1) ≤ ps_N d p (t + 1) j * c j
          obtain ⟨M, hM⟩ : ∃ M, ps_N d p (t + 1) j = M + 1 := ⟨ps_N d p (t + 1) j - 1, by omega⟩
          rw [hM, Nat.sub_zero, Nat.add_sub_cancel, Nat.add_mul, Nat.one_mul, Nat.mul_comm (c j) M]
          omega
        · exact Nat.zero_le _
      | succ s ih =>
        intro hs
        have h1 := ps_r_step hok (show s < t + 1 by omega) (show t + 1 ≤ 60 by omega) hd (ih (by omega))
        have h2 := ps_r_rel hok (t + 1) s
        omega
    have h1 := ps_r_step hok (show t < t + 1 by omega) (show t + 1 ≤ 60 by omega) hd (key t (Nat.le_refl _))
    have h2 := ps_sum_pick (f := ps_r c d p (ps_a c d p t) (t + 1) t) 13 hi
    have hc : 0 < c i := Nat.lt_of_lt_of_le ha (Nat.le_trans (ps_a_le c d p t i) (ps_lft_le c d p t i))
    obtain ⟨-, -, hp, -, -⟩ := hok i hi hc
    have h3 := (ps_N_due (T := t + 1) (s := t) (d := d) (p := p) (i := i) (by omega)).mp h
    unfold ps_r at h2
    rw [if_pos h3] at h2
    unfold ps_r at h1
    omega
/-! no job misses: then no more demand than time -/
def ps_w (c p : Nat → Nat) (L : Nat → Nat) (t i : Nat) : Nat := (t / p i + 1) * c i - L i
theorem ps_w_step {c d p : Nat → Nat} (t : Nat) : ps_sum (ps_w c p (ps_a c d p t) t) 13 ≤ ps_sum (ps_w c p (ps_lft c d p t) t) 13 + 1 := by
  rcases ps_b_is c d p t with ⟨hb, -⟩ | ⟨j, hj, -⟩
  · refine Nat.le_succ_of_le (ps_sum_le 13 (fun i hi => ?_))
    have : ps_a c d p t i = ps_lft c d p t i := by unfold ps_a ps_aft; rw [if_neg (by rw [hb]; omega)]
    unfold ps_w; omega
  · refine ps_sum_up (b := j) 13 (fun i hi hij => ?_) ?_
    · have : ps_a c d p t i = ps_lft c d p t i := by unfold ps_a ps_aft; rw [if_neg (by rw [hj]; omega)]
      unfold ps_w; omega
    · have : ps_a c d p t j = ps_lft c d p t j - 1 := by unfold ps_a ps_aft; rw [if_pos hj]
      unfold ps_w; omega
theorem ps_edf2 {c d p : Nat → Nat} (hok : ps_ok c d p) (hn : ps_noMiss c d p) : ps_sched c d p := by
  have key : ∀ t, t < 60 → ps_sum (ps_w c p (ps_lft c d p t) t) 13 ≤ t := by
    intro t
    induction t with
    | zero =>
      intro _
      refine Nat.le_trans (ps_sum_le (g := fun _ => 0) 13 (fun i _ => ?_)) (by decide)
      unfold ps_w
      rw [Nat.zero_div, Nat.zero_add, Nat.one_mul]
      show c i - c i ≤ 0
      omega
    | succ t ih =>
      intro ht
      have h1 := ih (by omega)
      have h2 := ps_w_step (c := c) (d := d) (p := p) t
      have h3 : ps_sum (ps_w c p (ps_lft c d p (t + 1)) (t + 1)) 13 ≤ ps_sum (ps_w c p (ps_a c d p t) t) 13 := by
        refine ps_sum_le 13 (fun i hi => ?_)
        unfold ps_w
        rcases Nat.eq_zero_or_pos (c i) with z | z
        · rw [z, Nat.mul_zero, Nat.zero_sub]; exact Nat.zero_le _
        · obtain ⟨hcd, hdp, hp, -, -⟩ := hok i hi z
          rw [ps_lft_succ]
          rcases ps_dm (show 0 < p i by omega) t with ⟨g1, g2, g3⟩ | ⟨g1, g2⟩
          · have ha : ps_a c d p t i = 0 := by
              rcases Nat.eq_zero_or_pos (ps_a c d p t i) with y | y
              · exact y
              · have := hn t (by omega) i hi y
                unfold ps_due at this
                omega
            rw [if_pos g1, g2, ha, Nat.add_mul (t / p i + 1), Nat.one_mul]
            omega
          · rw [if_neg g1, g2]
            exact Nat.le_refl _
      omega
  intro T hT
  rcases Nat.eq_zero_or_pos T with z | z
  · subst z
    refine Nat.le_trans (ps_sum_le (g := fun _ => 0) 13 (fun i hi => ?_)) (by decide)
    rcases Nat.eq_zero_or_pos (c i) with y | y
    · rw [y, Nat.mul_zero]; exact Nat.le_refl _
    · obtain ⟨hcd, -⟩ := hok i hi y
      unfold ps_N
      rw [if_neg (by omega), Nat.zero_mul]
      exact Nat.le_refl _
  · obtain ⟨t, rfl⟩ : ∃ t, T = t + 1 := ⟨T - 1, by omega⟩
    have h1 := key t (by omega)
    have h2 := ps_w_step (c := c) (d := d) (p := p) t
    have h3 : ps_dem c d p (t + 1) ≤ ps_sum (ps_w c p (ps_a c d p t) t) 13 := by
      refine ps_sum_le 13 (fun i hi => ?_)
      unfold ps_w
      rcases Nat.eq_zero_or_pos (c i) with y | y
      · rw [y, Nat.mul_zero]; exact Nat.zero_le _
      · obtain ⟨hcd, hdp, hp, -, -⟩ := hok i hi y
        have ha1 := Nat.le_trans (ps_a_le c d p t i) (ps_lft_le c d p t i)
        rcases Nat.eq_zero_or_pos (ps_a c d p t i) with a0 | a0
        · rw [a0, Nat.sub_zero]
          refine Nat.mul_le_mul_right _ ?_
          unfold ps_N
          split
          · exact Nat.add_le_add_right (Nat.div_le_div_right (by omega)) 1
          · exact Nat.zero_le _
        · have hm := hn t (by omega) i hi a0
          unfold ps_due at hm
          have hN : ps_N d p (t + 1) i ≤ t / p i := by
            unfold ps_N
            split
            · exact (Nat.div_lt_iff_lt_mul (by omega)).mpr (by omega)
            · exact Nat.zero_le _
          have h4 := Nat.mul_le_mul_right (c i) hN
          rw [Nat.add_mul, Nat.one_mul]
          omega
    omega
theorem ps_edf {c d p : Nat → Nat} (hok : ps_ok c d p) : ps_noMiss c d p ↔ ps_sched c d p := ⟨ps_edf2 hok, ps_edf1 hok⟩
/-! what the release and the check of a slot see -/
theorem ps_seen {c d p : Nat → Nat} (hok : ps_ok c d p) (hn : ∀ s, s < 60 → ∀ i, i < 13 → 0 < ps_a c d p s i → s + 1 < ps_due d p s i) {t i : Nat} (ht : t < 60) (hi : i < 13) (hL : 0 < ps_lft c d p t i) : t < ps_due d p t i := by
  have hc : 0 < c i := Nat.lt_of_lt_of_le hL (ps_lft_le c d p t i)
  obtain ⟨hcd, hdp, hp, -, -⟩ := hok i hi hc
  cases t with
  | zero => unfold ps_due; omega
  | succ t =>
    rw [ps_lft_succ] at hL
    rcases ps_dm (show 0 < p i by omega) t with ⟨g1, g2, g3⟩ | ⟨g1, g2⟩
    · unfold ps_due
      rw [g2, Nat.add_mul, Nat.one_mul]
      omega
    · rw [if_neg g1] at hL
      have := hn t (by omega) i hi hL
      unfold ps_due at this ⊢
      rw [g2]
      exact this
/-- the jobs' greatest response -/
def ps_rsp (c d p : Nat → Nat) : Nat → Nat → Nat
  | 0 => fun _ => 0
  | t + 1 => fun i => if ps_b c d p t = (i : Int) ∧ ps_lft c d p t i = 1 ∧ ps_rsp c d p t i < t + 1 - t / p i * p i then t + 1 - t / p i * p i else ps_rsp c d p t i
theorem ps_rsp_succ (c d p : Nat → Nat) (t i : Nat) : ps_rsp c d p (t + 1) i = if ps_b c d p t = (i : Int) ∧ ps_lft c d p t i = 1 ∧ ps_rsp c d p t i < t + 1 - t / p i * p i then t + 1 - t / p i * p i else ps_rsp c d p t i := rfl
/-- what is seen in a slot -/
def ps_run (c d p : Nat → Nat) (t : Nat) : Int := if ps_b c d p t < 0 then -5 else ps_b c d p t
/-! places without cost don't matter -/
def ps_same (c d p c' d' p' : Nat → Nat) : Prop := ∀ i, i < 13 → c i = c' i ∧ (0 < c i → d i = d' i ∧ p i = p' i)
theorem ps_same_lft {c d p c' d' p' : Nat → Nat} (h : ps_same c d p c' d' p') : ∀ t, (∀ i, i < 13 → ps_lft c d p t i = ps_lft c' d' p' t i) ∧ ps_b c d p t = ps_b c' d' p' t := by
  have hb : ∀ t, (∀ i, i < 13 → ps_lft c d p t i = ps_lft c' d' p' t i) → ps_b c d p t = ps_b c' d' p' t := fun t ht => by
    refine ps_isB_uniq (ps_isB_congr (fun i hi => by rw [ht i hi]) (fun i hi hL => ?_) (ps_b_is c d p t)) (ps_b_is c' d' p' t)
    obtain ⟨-, h2⟩ := h i hi
    obtain ⟨e1, e2⟩ := h2 (Nat.lt_of_lt_of_le hL (ps_lft_le c d p t i))
    unfold ps_due
    rw [e1, e2]
  intro t
  induction t with
  | zero => exact ⟨fun i hi => (h i hi).1, hb 0 (fun i hi => (h i hi).1)⟩
  | succ t ih =>
    have hl : ∀ i, i < 13 → ps_lft c d p (t + 1) i = ps_lft c' d' p' (t + 1) i := fun i hi => by
      obtain ⟨h1, h2⟩ := h i hi
      rcases Nat.eq_zero_or_pos (c i) with z | z
      · have a1 := ps_lft_le c d p (t + 1) i
        have a2 := ps_lft_le c' d' p' (t + 1) i
        omega
      · rw [ps_lft_succ, ps_lft_succ, h1, (h2 z).2]
        unfold ps_a ps_aft
        rw [ih.1 i hi, ih.2]
    exact ⟨hl, hb (t + 1) hl⟩
theorem ps_same_rsp {c d p c' d' p' : Nat → Nat} (h : ps_same c d p c' d' p') : ∀ t i, i < 13 → 0 < c i → ps_rsp c d p t i = ps_rsp c' d' p' t i
  | 0, i, _, _ => rfl
  | t + 1, i, hi, hc => by
    rw [ps_rsp_succ, ps_rsp_succ, ps_same_rsp h t i hi hc, (ps_same_lft h t).1 i hi, (ps_same_lft h t).2, ((h i hi).2 hc).2]
theorem ps_same_run {c d p c' d' p' : Nat → Nat} (h : ps_same c d p c' d' p') (t : Nat) : ps_run c d p t = ps_run c' d' p' t := by
  unfold ps_run; rw [(ps_same_lft h t).2]
theorem ps_same_dem {c d p c' d' p' : Nat → Nat} (h : ps_same c d p c' d' p') (t : Nat) : ps_dem c d p t = ps_dem c' d' p' t := by
  refine ps_sum_congr 13 (fun i hi => ?_)
  obtain ⟨h1, h2⟩ := h i hi
  rcases Nat.eq_zero_or_pos (c i) with z | z
  · show ps_N d p t i * c i = ps_N d' p' t i * c' i
    rw [← h1, z, Nat.mul_zero, Nat.mul_zero]
  · show ps_N d p t i * c i = ps_N d' p' t i * c' i
    unfold ps_N
    rw [(h2 z).1, (h2 z).2, h1]
theorem ps_same_sched {c d p c' d' p' : Nat → Nat} (h : ps_same c d p c' d' p') : ps_sched c d p ↔ ps_sched c' d' p' := by
  constructor
  · intro g t ht; rw [← ps_same_dem h t]; exact g t ht
  · intro g t ht; rw [ps_same_dem h t]; exact g t ht
theorem ps_same_ok {c d p c' d' p' : Nat → Nat} (h : ps_same c d p c' d' p') (g : ps_ok c d p) : ps_ok c' d' p' := by
  intro i hi hc
  obtain ⟨h1, h2⟩ := h i hi
  obtain ⟨e1, e2⟩ := h2 (by omega)
  have := g i hi (by omega)
  rw [← h1, ← e1, ← e2]
  exact this
theorem ps_same_symm {c d p c' d' p' : Nat → Nat} (h : ps_same c d p c' d' p') : ps_same c' d' p' c d p := by
  intro i hi
  obtain ⟨h1, h2⟩ := h i hi
  exact ⟨h1.symm, fun hc => ⟨(h2 (by omega)).1.symm, (h2 (by omega)).2.symm⟩⟩
/-! less cost, less demand -/
theorem ps_sched_mono {c c' d p : Nat → Nat} (h : ∀ i, i < 13 → c' i ≤ c i) (hs : ps_sched c d p) : ps_sched c' d p :=
  fun t ht => Nat.le_trans (ps_sum_le 13 (fun i hi => Nat.mul_le_mul_left _ (h i hi))) (hs t ht)
/-! the walk backwards -/
def ps_ql (f : Nat → Nat) (t : Nat) : Prop := f t ≤ t → ∀ s, t ≤ s → s ≤ 60 → f s ≤ s
theorem ps_ql_top (f : Nat → Nat) : ps_ql f 60 := fun h s h1 h2 => by
  have : s = 60 := by omega
  subst this; exact h
theorem ps_ql_need {f : Nat → Nat} (hm : ∀ s t, s ≤ t → f s ≤ f t) {t : Nat} (h : ps_ql f t) (h1 : f t < t) : ps_ql f (f t) := fun _ s hs h60 => by
  rcases Nat.lt_or_ge s t with z | z
  · exact Nat.le_trans (hm s t (by omega)) hs
  · exact h (by omega) s z h60
theorem ps_ql_before {f : Nat → Nat} {t b : Nat} (h : ps_ql f t) (h1 : f t ≤ t) (hb : ∀ s, b ≤ s → s < t → f s = f b) : ps_ql f b := fun h2 s hs h60 => by
  rcases Nat.lt_or_ge s t with z | z
  · rw [hb s hs z]; omega
  · exact h h1 s z h60
theorem ps_ql_true {f : Nat → Nat} (hm : ∀ s t, s ≤ t → f s ≤ f t) {t least : Nat} (h : ps_ql f t) (h1 : f t ≤ t) (h2 : f t ≤ least) (h0 : ∀ s, s < least → f s = 0) : ∀ s, s ≤ 60 → f s ≤ s := fun s hs => by
  rcases Nat.lt_or_ge s t with z | z
  · rcases Nat.lt_or_ge s least with y | y
    · rw [h0 s y]; exact Nat.zero_le _
    · have := hm s t (by omega); omega
  · exact h h1 s z hs
/-- between the last deadline before t and t the demand stands still -/
theorem ps_dem_still {c d p : Nat → Nat} (hok : ps_ok c d p) {t b : Nat} (hb : ∀ i, i < 13 → 0 < c i → d i < t → d i + (t - 1 - d i) / p i * p i ≤ b) {s : Nat} (h1 : b ≤ s) (h2 : s < t) : ps_dem c d p s = ps_dem c d p b := by
  refine ps_sum_congr 13 (fun i hi => ?_)
  show ps_N d p s i * c i = ps_N d p b i * c i
  rcases Nat.eq_zero_or_pos (c i) with z | z
  · rw [z, Nat.mul_zero, Nat.mul_zero]
  · obtain ⟨hcd, hdp, hp, -, -⟩ := hok i hi z
    unfold ps_N
    by_cases hdt : d i < t
    · have h3 := hb i hi z hdt
      have e1 : (b - d i) / p i = (t - 1 - d i) / p i := by
        refine Nat.le_antisymm (Nat.div_le_div_right (by omega)) ((Nat.le_div_iff_mul_le (by omega)).mpr (by omega))
      have e2 : (s - d i) / p i = (t - 1 - d i) / p i := by
        refine Nat.le_antisymm (Nat.div_le_div_right (by omega)) ((Nat.le_div_iff_mul_le (by omega)).mpr (by omega))
      rw [if_pos (by omega), if_pos (by omega), e1, e2]
    · rw [if_neg (by omega), if_neg (by omega)]
theorem ps_dem_least {c d p : Nat → Nat} {least : Nat} (h : ∀ i, i < 13 → 0 < c i → least ≤ d i) {s : Nat} (hs : s < least) : ps_dem c d p s = 0 := by
  refine Nat.le_antisymm (Nat.le_trans (ps_sum_le (g := fun _ => 0) 13 (fun i hi => ?_)) (by decide)) (Nat.zero_le _)
  rcases Nat.eq_zero_or_pos (c i) with z | z
  · rw [z, Nat.mul_zero]; exact Nat.le_refl _
  · have := h i hi z
    unfold ps_N
    rw [if_neg (by omega), Nat.zero_mul]; exact Nat.le_refl _
/-- the load is the demand of the whole cycle -/
theorem ps_N_60 {d p : Nat → Nat} {i : Nat} (h1 : 1 ≤ d i) (h2 : d i ≤ p i) (h3 : 2 ≤ p i) (h4 : p i ≤ 60) (h5 : 60 % p i = 0) : ps_N d p 60 i = 60 / p i := by
  unfold ps_N
  rw [if_pos (by omega)]
  have h6 := Nat.div_add_mod 60 (p i)
  rw [h5, Nat.mul_comm] at h6
  have h7 : 1 ≤ 60 / p i := (Nat.le_div_iff_mul_le (by omega)).mpr (by omega)
  obtain ⟨k, hk⟩ : ∃ k, 60 / p i = k + 1 := ⟨60 / p i - 1, by omega⟩
  have h8 : (k + 1) * p i = 60 := by rw [← hk]; omega
  rw [Nat.add_mul, Nat.one_mul] at h8
  have h9 : (60 - d i) / p i = k := ps_dv (by omega) (by omega) (by omega)
  omega
/-! a stretch: no release in it, and its job isn't done before its end -/
theorem ps_stretch {c d p : Nat → Nat} (hok : ps_ok c d p) {now e : Nat} (hn : ∀ i, i < 13 → 0 < c i → e ≤ now / p i * p i + p i) (hb : ∀ k : Nat, ps_b c d p now = (k : Int) → e - now ≤ ps_lft c d p now k) :
    ∀ j, now + j < e → ps_b c d p (now + j) = ps_b c d p now ∧ (∀ i, i < 13 → ps_lft c d p (now + j) i = if ps_b c d p now = (i : Int) then ps_lft c d p now i - j else ps_lft c d p now i) ∧ ∀ i, i < 13 → 0 < c i → (now + j) / p i = now / p i := by
  intro j
  induction j with
  | zero =>
    intro _
    refine ⟨rfl, fun i _ => ?_, fun _ _ _ => rfl⟩
    show ps_lft c d p now i = _
    split <;> rfl
  | succ j ih =>
    intro hj
    obtain ⟨i1, i2, i3⟩ := ih (by omega)
    have hdv : ∀ i, i < 13 → 0 < c i → (now + (j + 1)) / p i = now / p i ∧ ¬ (now + j + 1) % p i = 0 := fun i hi hc => by
      obtain ⟨-, -, hp, -, -⟩ := hok i hi hc
      have h1 := ps_lo (p := p i) now
      have h2 := hn i hi hc
      exact ⟨ps_dv (by omega) (by omega) (by omega), ps_md (q := now / p i) (by omega) (by omega) (by omega)⟩
    have hl : ∀ i, i < 13 → ps_lft c d p (now + (j + 1)) i = if ps_b c d p now = (i : Int) then ps_lft c d p now i - (j + 1) else ps_lft c d p now i := fun i hi => by
      rcases Nat.eq_zero_or_pos (c i) with z | z
      · have a1 := ps_lft_le c d p (now + (j + 1)) i
        have a2 := ps_lft_le c d p now i
        split <;> omega
      · show ps_lft c d p (now + j + 1) i = _
        rw [ps_lft_succ, if_neg (hdv i hi z).2]
        unfold ps_a ps_aft
        rw [i1, i2 i hi]
        split <;> omega
    refine ⟨?_, hl, fun i hi hc => (hdv i hi hc).1⟩
    refine ps_isB_uniq (ps_b_is c d p (now + (j + 1))) (ps_isB_congr (fun i hi => ?_) (fun i hi hL => ?_) (ps_b_is c d p now))
    · rw [hl i hi]
      split
      · rename_i h
        have := hb i h
        omega
      · exact Iff.rfl
    · unfold ps_due
      rw [(hdv i hi (Nat.lt_of_lt_of_le hL (ps_lft_le c d p now i))).1]
theorem ps_stretch_end {c d p : Nat → Nat} (hok : ps_ok c d p) {now e : Nat} (he : now < e) (hn : ∀ i, i < 13 → 0 < c i → e ≤ now / p i * p i + p i) (hb : ∀ k : Nat, ps_b c d p now = (k : Int) → e - now ≤ ps_lft c d p now k) (i : Nat) (hi : i < 13) :
    ps_a c d p (e - 1) i = if ps_b c d p now = (i : Int) then ps_lft c d p now i - (e - now) else ps_lft c d p now i := by
  obtain ⟨h1, h2, -⟩ := ps_stretch hok hn hb (e - 1 - now) (by omega)
  rw [show now + (e - 1 - now) = e - 1 by omega] at h1 h2
  unfold ps_a ps_aft
  rw [h1, h2 i hi]
  split <;> omega
theorem ps_stretch_rsp {c d p : Nat → Nat} (hok : ps_ok c d p) {now e : Nat} (he : now < e) (hn : ∀ i, i < 13 → 0 < c i → e ≤ now / p i * p i + p i) (hb : ∀ k : Nat, ps_b c d p now = (k : Int) → e - now ≤ ps_lft c d p now k) (i : Nat) (hi : i < 13) (hc : 0 < c i) :
    ps_rsp c d p e i = if ps_b c d p now = (i : Int) ∧ ps_lft c d p now i = e - now ∧ ps_rsp c d p now i < e - now / p i * p i then e - now / p i * p i else ps_rsp c d p now i := by
  have key : ∀ j, now + j < e → ps_rsp c d p (now + j) i = ps_rsp c d p now i := by
    intro j
    induction j with
    | zero => intro _; rfl
    | succ j ih =>
      intro hj
      obtain ⟨h1, h2, h3⟩ := ps_stretch hok hn hb j (by omega)
      show ps_rsp c d p (now + j + 1) i = _
      rw [ps_rsp_succ, if_neg, ih (by omega)]
      rintro ⟨g1, g2, -⟩
      rw [h2 i hi, ← h1, if_pos g1] at g2
      have := hb i (by rw [← h1]; exact g1)
      omega
  obtain ⟨h1, h2, h3⟩ := ps_stretch hok hn hb (e - 1 - now) (by omega)
  have h4 := key (e - 1 - now) (by omega)
  rw [show now + (e - 1 - now) = e - 1 by omega] at h1 h2 h3 h4
  obtain ⟨t, rfl⟩ : ∃ t, e = t + 1 := ⟨e - 1, by omega⟩
  rw [Nat.add_sub_cancel] at h1 h2 h3 h4
  rw [ps_rsp_succ, h4, h3 i hi hc, h1, h2 i hi]
  by_cases g : ps_b c d p now = (i : Int)
  · rw [if_pos g]
    have := hb i g
    by_cases g2 : ps_lft c d p now i = t + 1 - now
    · have e1 : ps_lft c d p now i - (t - now) = 1 := by omega
      rw [e1]
      simp only [g, g2, true_and]
    · have e1 : ¬ ps_lft c d p now i - (t - now) = 1 := by omega
      simp only [g, e1, g2, true_and, false_and, and_false, if_false]
  · simp only [g, false_and, if_false]
end
section
/-! the tables' words (the skeleton's PART A, printed for this claim) -/
-- ===== PART A: goes FIRST, ahead of the names: the tables' words, and 'selects' of the private methods out of them =====
/-- a private method of a class that the tables say can be made, by its rows of tables_1 -/
def lw_okq (q : MethodName × Nat) : Prop := (q.1.cls ≠ "java/lang/invoke/MethodHandle" ∧ q.1.cls ≠ "java/lang/invoke/VarHandle") ∧ Cond.instantiable q.1.cls q.2 ∈ tables_1 ∧ Cond.privateMethod q.1 ∈ tables_1 ∧ Cond.instanceMethod q.1 ∈ tables_1
theorem lw_p0 : lw_okq (⟨"SemiPartEdf", "freeId", "()I"⟩, 14) := ⟨⟨by decide +kernel, by decide +kernel⟩, List.mem_of_getElem? (i := 4) (by decide +kernel), List.mem_of_getElem? (i := 64) (by decide +kernel), List.mem_of_getElem? (i := 65) (by decide +kernel)⟩
theorem lw_p1 : lw_okq (⟨"SemiPartEdf", "placeWhole", "(III)Z"⟩, 14) := ⟨⟨by decide +kernel, by decide +kernel⟩, List.mem_of_getElem? (i := 4) (by decide +kernel), List.mem_of_getElem? (i := 68) (by decide +kernel), List.mem_of_getElem? (i := 69) (by decide +kernel)⟩
theorem lw_p2 : lw_okq (⟨"SemiPartEdf", "passesWith", "(IIII)Z"⟩, 14) := ⟨⟨by decide +kernel, by decide +kernel⟩, List.mem_of_getElem? (i := 4) (by decide +kernel), List.mem_of_getElem? (i := 72) (by decide +kernel), List.mem_of_getElem? (i := 73) (by decide +kernel)⟩
theorem lw_p3 : lw_okq (⟨"SemiPartEdf", "setPart", "(IIII)V"⟩, 14) := ⟨⟨by decide +kernel, by decide +kernel⟩, List.mem_of_getElem? (i := 4) (by decide +kernel), List.mem_of_getElem? (i := 76) (by decide +kernel), List.mem_of_getElem? (i := 77) (by decide +kernel)⟩
theorem lw_p4 : lw_okq (⟨"SemiPartEdf", "passes", "(I)Z"⟩, 14) := ⟨⟨by decide +kernel, by decide +kernel⟩, List.mem_of_getElem? (i := 4) (by decide +kernel), List.mem_of_getElem? (i := 80) (by decide +kernel), List.mem_of_getElem? (i := 81) (by decide +kernel)⟩
theorem lw_p5 : lw_okq (⟨"SemiPartEdf", "loadOf", "(I)I"⟩, 14) := ⟨⟨by decide +kernel, by decide +kernel⟩, List.mem_of_getElem? (i := 4) (by decide +kernel), List.mem_of_getElem? (i := 84) (by decide +kernel), List.mem_of_getElem? (i := 85) (by decide +kernel)⟩
theorem lw_p6 : lw_okq (⟨"SemiPartEdf", "leastDeadline", "(I)I"⟩, 14) := ⟨⟨by decide +kernel, by decide +kernel⟩, List.mem_of_getElem? (i := 4) (by decide +kernel), List.mem_of_getElem? (i := 88) (by decide +kernel), List.mem_of_getElem? (i := 89) (by decide +kernel)⟩
theorem lw_p7 : lw_okq (⟨"SemiPartEdf", "demand", "(II)I"⟩, 14) := ⟨⟨by decide +kernel, by decide +kernel⟩, List.mem_of_getElem? (i := 4) (by decide +kernel), List.mem_of_getElem? (i := 92) (by decide +kernel), List.mem_of_getElem? (i := 93) (by decide +kernel)⟩
theorem lw_p8 : lw_okq (⟨"SemiPartEdf", "deadlineBefore", "(II)I"⟩, 14) := ⟨⟨by decide +kernel, by decide +kernel⟩, List.mem_of_getElem? (i := 4) (by decide +kernel), List.mem_of_getElem? (i := 96) (by decide +kernel), List.mem_of_getElem? (i := 97) (by decide +kernel)⟩
theorem lw_p9 : lw_okq (⟨"SemiPartEdf", "placeSplit", "(IIII)Z"⟩, 14) := ⟨⟨by decide +kernel, by decide +kernel⟩, List.mem_of_getElem? (i := 4) (by decide +kernel), List.mem_of_getElem? (i := 100) (by decide +kernel), List.mem_of_getElem? (i := 101) (by decide +kernel)⟩
theorem lw_p10 : lw_okq (⟨"SemiPartEdf", "coreForRest", "(IIII)I"⟩, 14) := ⟨⟨by decide +kernel, by decide +kernel⟩, List.mem_of_getElem? (i := 4) (by decide +kernel), List.mem_of_getElem? (i := 104) (by decide +kernel), List.mem_of_getElem? (i := 105) (by decide +kernel)⟩
theorem lw_p11 : lw_okq (⟨"SemiPartEdf", "noTask", "(I)Z"⟩, 14) := ⟨⟨by decide +kernel, by decide +kernel⟩, List.mem_of_getElem? (i := 4) (by decide +kernel), List.mem_of_getElem? (i := 112) (by decide +kernel), List.mem_of_getElem? (i := 113) (by decide +kernel)⟩
theorem lw_p12 : lw_okq (⟨"SemiPartEdf", "badCore", "(I)Z"⟩, 14) := ⟨⟨by decide +kernel, by decide +kernel⟩, List.mem_of_getElem? (i := 4) (by decide +kernel), List.mem_of_getElem? (i := 132) (by decide +kernel), List.mem_of_getElem? (i := 133) (by decide +kernel)⟩
theorem lw_p13 : lw_okq (⟨"SemiPartEdf", "plan", "(I)V"⟩, 14) := ⟨⟨by decide +kernel, by decide +kernel⟩, List.mem_of_getElem? (i := 4) (by decide +kernel), List.mem_of_getElem? (i := 140) (by decide +kernel), List.mem_of_getElem? (i := 141) (by decide +kernel)⟩
theorem lw_p14 : lw_okq (⟨"SemiPartEdf", "stretch", "(II)I"⟩, 14) := ⟨⟨by decide +kernel, by decide +kernel⟩, List.mem_of_getElem? (i := 4) (by decide +kernel), List.mem_of_getElem? (i := 144) (by decide +kernel), List.mem_of_getElem? (i := 145) (by decide +kernel)⟩
theorem lw_p15 : lw_okq (⟨"SemiPartEdf", "advance", "(III)V"⟩, 14) := ⟨⟨by decide +kernel, by decide +kernel⟩, List.mem_of_getElem? (i := 4) (by decide +kernel), List.mem_of_getElem? (i := 148) (by decide +kernel), List.mem_of_getElem? (i := 149) (by decide +kernel)⟩
def lw_privs_1 : List (MethodName × Nat) := [(⟨"SemiPartEdf", "freeId", "()I"⟩, 14), (⟨"SemiPartEdf", "placeWhole", "(III)Z"⟩, 14), (⟨"SemiPartEdf", "passesWith", "(IIII)Z"⟩, 14), (⟨"SemiPartEdf", "setPart", "(IIII)V"⟩, 14), (⟨"SemiPartEdf", "passes", "(I)Z"⟩, 14), (⟨"SemiPartEdf", "loadOf", "(I)I"⟩, 14), (⟨"SemiPartEdf", "leastDeadline", "(I)I"⟩, 14), (⟨"SemiPartEdf", "demand", "(II)I"⟩, 14), (⟨"SemiPartEdf", "deadlineBefore", "(II)I"⟩, 14), (⟨"SemiPartEdf", "placeSplit", "(IIII)Z"⟩, 14), (⟨"SemiPartEdf", "coreForRest", "(IIII)I"⟩, 14), (⟨"SemiPartEdf", "noTask", "(I)Z"⟩, 14), (⟨"SemiPartEdf", "badCore", "(I)Z"⟩, 14), (⟨"SemiPartEdf", "plan", "(I)V"⟩, 14), (⟨"SemiPartEdf", "stretch", "(II)I"⟩, 14), (⟨"SemiPartEdf", "advance", "(III)V"⟩, 14)]
theorem lw_r1 : ∀ q ∈ lw_privs_1, lw_okq q := List.forall_mem_cons.mpr ⟨lw_p0, List.forall_mem_cons.mpr ⟨lw_p1, List.forall_mem_cons.mpr ⟨lw_p2, List.forall_mem_cons.mpr ⟨lw_p3, List.forall_mem_cons.mpr ⟨lw_p4, List.forall_mem_cons.mpr ⟨lw_p5, List.forall_mem_cons.mpr ⟨lw_p6, List.forall_mem_cons.mpr ⟨lw_p7, List.forall_mem_cons.mpr ⟨lw_p8, List.forall_mem_cons.mpr ⟨lw_p9, List.forall_mem_cons.mpr ⟨lw_p10, List.forall_mem_cons.mpr ⟨lw_p11, List.forall_mem_cons.mpr ⟨lw_p12, List.forall_mem_cons.mpr ⟨lw_p13, List.forall_mem_cons.mpr ⟨lw_p14, List.forall_mem_cons.mpr ⟨lw_p15, fun _ h => absurd h List.not_mem_nil⟩⟩⟩⟩⟩⟩⟩⟩⟩⟩⟩⟩⟩⟩⟩⟩
theorem lw_p16 : lw_okq (⟨"SemiPartEdfModel", "badPeriod", "(I)Z"⟩, 14) := ⟨⟨by decide +kernel, by decide +kernel⟩, List.mem_of_getElem? (i := 163) (by decide +kernel), List.mem_of_getElem? (i := 216) (by decide +kernel), List.mem_of_getElem? (i := 217) (by decide +kernel)⟩
theorem lw_p17 : lw_okq (⟨"SemiPartEdfModel", "count", "()I"⟩, 14) := ⟨⟨by decide +kernel, by decide +kernel⟩, List.mem_of_getElem? (i := 163) (by decide +kernel), List.mem_of_getElem? (i := 220) (by decide +kernel), List.mem_of_getElem? (i := 221) (by decide +kernel)⟩
theorem lw_p18 : lw_okq (⟨"SemiPartEdfModel", "freeId", "()I"⟩, 14) := ⟨⟨by decide +kernel, by decide +kernel⟩, List.mem_of_getElem? (i := 163) (by decide +kernel), List.mem_of_getElem? (i := 224) (by decide +kernel), List.mem_of_getElem? (i := 225) (by decide +kernel)⟩
theorem lw_p19 : lw_okq (⟨"SemiPartEdfModel", "takes", "(IIIII)Z"⟩, 14) := ⟨⟨by decide +kernel, by decide +kernel⟩, List.mem_of_getElem? (i := 163) (by decide +kernel), List.mem_of_getElem? (i := 228) (by decide +kernel), List.mem_of_getElem? (i := 229) (by decide +kernel)⟩
theorem lw_p20 : lw_okq (⟨"SemiPartEdfModel", "parts", "(I)V"⟩, 14) := ⟨⟨by decide +kernel, by decide +kernel⟩, List.mem_of_getElem? (i := 163) (by decide +kernel), List.mem_of_getElem? (i := 232) (by decide +kernel), List.mem_of_getElem? (i := 233) (by decide +kernel)⟩
theorem lw_p21 : lw_okq (⟨"SemiPartEdfModel", "runs", "()Z"⟩, 14) := ⟨⟨by decide +kernel, by decide +kernel⟩, List.mem_of_getElem? (i := 163) (by decide +kernel), List.mem_of_getElem? (i := 236) (by decide +kernel), List.mem_of_getElem? (i := 237) (by decide +kernel)⟩
theorem lw_p22 : lw_okq (⟨"SemiPartEdfModel", "release", "(I)Z"⟩, 14) := ⟨⟨by decide +kernel, by decide +kernel⟩, List.mem_of_getElem? (i := 163) (by decide +kernel), List.mem_of_getElem? (i := 240) (by decide +kernel), List.mem_of_getElem? (i := 241) (by decide +kernel)⟩
theorem lw_p23 : lw_okq (⟨"SemiPartEdfModel", "place", "(IIII)I"⟩, 14) := ⟨⟨by decide +kernel, by decide +kernel⟩, List.mem_of_getElem? (i := 163) (by decide +kernel), List.mem_of_getElem? (i := 244) (by decide +kernel), List.mem_of_getElem? (i := 245) (by decide +kernel)⟩
theorem lw_p24 : lw_okq (⟨"SemiPartEdfModel", "second", "(IIIII)I"⟩, 14) := ⟨⟨by decide +kernel, by decide +kernel⟩, List.mem_of_getElem? (i := 163) (by decide +kernel), List.mem_of_getElem? (i := 248) (by decide +kernel), List.mem_of_getElem? (i := 249) (by decide +kernel)⟩
theorem lw_p25 : lw_okq (⟨"SemiPartEdfModel", "none", "(I)Z"⟩, 14) := ⟨⟨by decide +kernel, by decide +kernel⟩, List.mem_of_getElem? (i := 163) (by decide +kernel), List.mem_of_getElem? (i := 256) (by decide +kernel), List.mem_of_getElem? (i := 257) (by decide +kernel)⟩
theorem lw_p26 : lw_okq (⟨"SemiPartEdfModel", "badCore", "(I)Z"⟩, 14) := ⟨⟨by decide +kernel, by decide +kernel⟩, List.mem_of_getElem? (i := 163) (by decide +kernel), List.mem_of_getElem? (i := 276) (by decide +kernel), List.mem_of_getElem? (i := 277) (by decide +kernel)⟩
def lw_privs_2 : List (MethodName × Nat) := [(⟨"SemiPartEdfModel", "badPeriod", "(I)Z"⟩, 14), (⟨"SemiPartEdfModel", "count", "()I"⟩, 14), (⟨"SemiPartEdfModel", "freeId", "()I"⟩, 14), (⟨"SemiPartEdfModel", "takes", "(IIIII)Z"⟩, 14), (⟨"SemiPartEdfModel", "parts", "(I)V"⟩, 14), (⟨"SemiPartEdfModel", "runs", "()Z"⟩, 14), (⟨"SemiPartEdfModel", "release", "(I)Z"⟩, 14), (⟨"SemiPartEdfModel", "place", "(IIII)I"⟩, 14), (⟨"SemiPartEdfModel", "second", "(IIIII)I"⟩, 14), (⟨"SemiPartEdfModel", "none", "(I)Z"⟩, 14), (⟨"SemiPartEdfModel", "badCore", "(I)Z"⟩, 14)]
theorem lw_r2 : ∀ q ∈ lw_privs_2, lw_okq q := List.forall_mem_cons.mpr ⟨lw_p16, List.forall_mem_cons.mpr ⟨lw_p17, List.forall_mem_cons.mpr ⟨lw_p18, List.forall_mem_cons.mpr ⟨lw_p19, List.forall_mem_cons.mpr ⟨lw_p20, List.forall_mem_cons.mpr ⟨lw_p21, List.forall_mem_cons.mpr ⟨lw_p22, List.forall_mem_cons.mpr ⟨lw_p23, List.forall_mem_cons.mpr ⟨lw_p24, List.forall_mem_cons.mpr ⟨lw_p25, List.forall_mem_cons.mpr ⟨lw_p26, fun _ h => absurd h List.not_mem_nil⟩⟩⟩⟩⟩⟩⟩⟩⟩⟩⟩
def lw_privs : List (MethodName × Nat) := lw_privs_1 ++ (lw_privs_2)
def lw_tbl : List Cond := k2_sels lw_privs ++ tables_1
theorem lw_privs_ok : ∀ q ∈ lw_privs, lw_okq q := by
  show ∀ q ∈ lw_privs_1 ++ (lw_privs_2), lw_okq q
  exact List.forall_mem_append.mpr ⟨lw_r1, lw_r2⟩
/-! the law's frame (the skeleton's) -/
/-! THE CLAIM OUT OF ONE WALK OF THE LAW'S BODY. Your part is whole_start (and what it stands on); all else here is the same for every law, but numbers. -/
def R_law : String := "SemiPartEdfLaw"
def lw_P (b : Addr) (xs : List Int32) (args : Array Value) (s : State) : Prop := args = #[.ref b] ∧ s.IntsAt b xs ∧ xs.length ≤ 2049 ∧ (Jvm.Cond.and given_1 narrow_1).before args s = true
def lw_Q (_ : Array Value) (s : State) (o : Outcome) (t : State) : Prop := o = .returned (some (.int 1)) ∧ Framed s o t [] 25 548
def lw_Z (below : List Frame) (a : Array Value) (s : State) : State → Prop := fun t => ∃ o, t.status = .running ∧ Ended t below o ∧ lw_Q a s o t
/-- the law's own end, with 1 on the stack, nothing written that was there before, its room as the claim has it -/
theorem lw_ret {p : Program} {l : Launch} {e : Env} {s : State} {m : MethodId} {below : List Frame} {meth : Method} {c : Code} {b : Nat} (hx : p.tables.exec = Jvm.exec) (hb : c.code = code) (hr : meth.sig.returnType = ret) (hlocks : meth.locks = false) {pc : Nat} {H : Heap} {ls : Array Slot} (hdg : decode code pc = .ok (.ireturn, 1)) : W p l e room_1 s m #[Value.ref b] below meth c H [] 25 548 (lw_Z below #[Value.ref b] s) (F0 m pc ls [.int 1]) := by
  intro T hT X
  obtain ⟨fs, hret, hrun, hended, hW, hframe⟩ := X.leave (v := some (.int 1)) (hlocks := hlocks) (fun h => by rw [hr] at h; cases h)
  have hmeth' : T.vm.method? m = some meth := X.method'
  refine ⟨T.setFrames fs, ?_, .returned (some (.int 1)), hrun, hended, rfl, ⟨_, rfl⟩, hW, hframe⟩
  jvm_step X.here [X.here.top, hx, hb, hdg, hmeth', hr, ret, narrow_b1]
  (try refine ⟨rfl, ?_⟩); (try refine ⟨rfl, ?_⟩)
  first | (intro acts; rw [hret _ acts rfl rfl rfl]) | rw [hret _ _ rfl rfl rfl]
  exact Steps.refl _
/-- what holds at the law's entry: the machine, the code, the tables' words (any of lw_tbl by 'hts w (by decide +kernel)'), the script of L ints xs at the cell b, what the Statement gives of the start (any of its parts by flat_of_before) -/
def lw_At (p : Program) (s : State) (m : MethodId) (meth : Method) (c : Code) (b L : Nat) (xs : Nat → Int32) : Prop :=
  p.tables.exec = Jvm.exec ∧ c.code = code ∧ meth.sig.returnType = ret ∧ c.maxLocals = 4 ∧ s.vm.findClass R_law = some m.cls ∧ (∀ w ∈ lw_tbl, w.before #[Value.ref b] s = true) ∧ va_X b L xs s s.heap ∧ b < s.heap.size ∧ meth.locks = false ∧ (Jvm.Cond.and given_1 narrow_1).before #[Value.ref b] s = true
/-- the words that a state keeps -/
def tb_ : List Cond := lw_tbl.filter goodWord
/-! names: fields in the order of the slots, methods, where their words stand in the tables -/
def nA_ : String := "SemiPartEdf"
def fA_ : u_T := fun k => match k with
  | 0 => ("SemiPartEdf", "cores", "I", true)
  | 1 => ("SemiPartEdf", "tasks", "I", false)
  | 2 => ("SemiPartEdf", "used", "[Z", true)
  | 3 => ("SemiPartEdf", "period", "[I", true)
  | 4 => ("SemiPartEdf", "partCore", "[I", true)
  | 5 => ("SemiPartEdf", "cost", "[I", true)
  | 6 => ("SemiPartEdf", "deadline", "[I", true)
  | 7 => ("SemiPartEdf", "plannedCore", "I", false)
  | 8 => ("SemiPartEdf", "stretches", "I", false)
  | 9 => ("SemiPartEdf", "endOf", "[I", true)
  | 10 => ("SemiPartEdf", "taskIn", "[I", true)
  | 11 => ("SemiPartEdf", "left", "[I", true)
  | 12 => ("SemiPartEdf", "release", "[I", true)
  | _ => ("SemiPartEdf", "slowest", "[I", true)
def tA_ : Nat → FieldType := fun k => match k with
  | 0 => .int
  | 1 => .int
  | 2 => (.array .boolean)
  | 3 => (.array .int)
  | 4 => (.array .int)
  | 5 => (.array .int)
  | 6 => (.array .int)
  | 7 => .int
  | 8 => .int
  | 9 => (.array .int)
  | 10 => (.array .int)
  | 11 => (.array .int)
  | 12 => (.array .int)
  | _ => (.array .int)
theorem tA_ok : ∀ k, k < 14 → parseFieldDescriptor (fA_ k).2.2.1 = some (tA_ k) := by decide +kernel
theorem nA_ne : ∀ a, a < 14 → ∀ b, b < 14 → a ≠ b → (fA_ a).2.1 ≠ (fA_ b).2.1 := by decide +kernel
theorem iA_in : ∀ w ∈ u_ws nA_ fA_ 14, w ∈ tb_ := by decide +kernel
def nB_ : String := "SemiPartEdfModel"
def fB_ : u_T := fun k => match k with
  | 0 => ("SemiPartEdfModel", "cores", "I", true)
  | 1 => ("SemiPartEdfModel", "periods", "[I", true)
  | 2 => ("SemiPartEdfModel", "costs", "[I", true)
  | 3 => ("SemiPartEdfModel", "deadlines", "[I", true)
  | 4 => ("SemiPartEdfModel", "firsts", "[I", true)
  | 5 => ("SemiPartEdfModel", "coreOf", "[I", true)
  | 6 => ("SemiPartEdfModel", "secondOf", "[I", true)
  | 7 => ("SemiPartEdfModel", "c", "[I", true)
  | 8 => ("SemiPartEdfModel", "d", "[I", true)
  | 9 => ("SemiPartEdfModel", "p", "[I", true)
  | 10 => ("SemiPartEdfModel", "left", "[I", true)
  | 11 => ("SemiPartEdfModel", "due", "[I", true)
  | 12 => ("SemiPartEdfModel", "ran", "[I", true)
  | _ => ("SemiPartEdfModel", "responses", "[I", true)
def tB_ : Nat → FieldType := fun k => match k with
  | 0 => .int
  | 1 => (.array .int)
  | 2 => (.array .int)
  | 3 => (.array .int)
  | 4 => (.array .int)
  | 5 => (.array .int)
  | 6 => (.array .int)
  | 7 => (.array .int)
  | 8 => (.array .int)
  | 9 => (.array .int)
  | 10 => (.array .int)
  | 11 => (.array .int)
  | 12 => (.array .int)
  | _ => (.array .int)
theorem tB_ok : ∀ k, k < 14 → parseFieldDescriptor (fB_ k).2.2.1 = some (tB_ k) := by decide +kernel
theorem nB_ne : ∀ a, a < 14 → ∀ b, b < 14 → a ≠ b → (fB_ a).2.1 ≠ (fB_ b).2.1 := by decide +kernel
theorem iB_in : ∀ w ∈ u_ws nB_ fB_ 14, w ∈ tb_ := by decide +kernel
theorem lw_good (w : Cond) (h : w ∈ tb_) : (w.onTables && w.keeps) = true ∨ ∃ ty, w = .arrayClass ty := good_of_word (List.mem_filter.mp h).2
abbrev ecl_ : List vw_C := [(nA_, fA_, 14), (nB_, fB_, 14)]
abbrev kA_init : ByteArray := prog_1_method_1_code
abbrev yA_init : MethodName := ⟨"SemiPartEdf", "<init>", "(I)V"⟩
abbrev kA_admit : ByteArray := prog_1_method_13_code
abbrev yA_admit : MethodName := site_108
abbrev kA_badPeriod : ByteArray := prog_1_method_2_code
abbrev yA_badPeriod : MethodName := ⟨"SemiPartEdf", "badPeriod", "(I)Z"⟩
abbrev kA_freeId : ByteArray := prog_1_method_12_code
abbrev yA_freeId : MethodName := ⟨"SemiPartEdf", "freeId", "()I"⟩
abbrev kA_placeWhole : ByteArray := prog_1_method_14_code
abbrev yA_placeWhole : MethodName := ⟨"SemiPartEdf", "placeWhole", "(III)Z"⟩
abbrev kA_passesWith : ByteArray := prog_1_method_10_code
abbrev yA_passesWith : MethodName := ⟨"SemiPartEdf", "passesWith", "(IIII)Z"⟩
abbrev kA_setPart : ByteArray := prog_1_method_11_code
abbrev yA_setPart : MethodName := ⟨"SemiPartEdf", "setPart", "(IIII)V"⟩
abbrev kA_passes : ByteArray := prog_1_method_9_code
abbrev yA_passes : MethodName := ⟨"SemiPartEdf", "passes", "(I)Z"⟩
abbrev kA_loadOf : ByteArray := prog_1_method_5_code
abbrev yA_loadOf : MethodName := ⟨"SemiPartEdf", "loadOf", "(I)I"⟩
abbrev kA_leastDeadline : ByteArray := prog_1_method_7_code
abbrev yA_leastDeadline : MethodName := ⟨"SemiPartEdf", "leastDeadline", "(I)I"⟩
abbrev kA_demand : ByteArray := prog_1_method_6_code
abbrev yA_demand : MethodName := ⟨"SemiPartEdf", "demand", "(II)I"⟩
abbrev kA_deadlineBefore : ByteArray := prog_1_method_8_code
abbrev yA_deadlineBefore : MethodName := ⟨"SemiPartEdf", "deadlineBefore", "(II)I"⟩
abbrev kA_placeSplit : ByteArray := prog_1_method_15_code
abbrev yA_placeSplit : MethodName := ⟨"SemiPartEdf", "placeSplit", "(IIII)Z"⟩
abbrev kA_coreForRest : ByteArray := prog_1_method_16_code
abbrev yA_coreForRest : MethodName := ⟨"SemiPartEdf", "coreForRest", "(IIII)I"⟩
abbrev kA_remove : ByteArray := prog_1_method_17_code
abbrev yA_remove : MethodName := ⟨"SemiPartEdf", "remove", "(I)I"⟩
abbrev kA_noTask : ByteArray := prog_1_method_3_code
abbrev yA_noTask : MethodName := ⟨"SemiPartEdf", "noTask", "(I)Z"⟩
abbrev kA_core : ByteArray := prog_1_method_21_code
abbrev yA_core : MethodName := ⟨"SemiPartEdf", "core", "(I)I"⟩
abbrev kA_secondCore : ByteArray := prog_1_method_22_code
abbrev yA_secondCore : MethodName := ⟨"SemiPartEdf", "secondCore", "(I)I"⟩
abbrev kA_firstCost : ByteArray := prog_1_method_23_code
abbrev yA_firstCost : MethodName := ⟨"SemiPartEdf", "firstCost", "(I)I"⟩
abbrev kA_load : ByteArray := prog_1_method_24_code
abbrev yA_load : MethodName := ⟨"SemiPartEdf", "load", "(I)I"⟩
abbrev kA_badCore : ByteArray := prog_1_method_4_code
abbrev yA_badCore : MethodName := ⟨"SemiPartEdf", "badCore", "(I)Z"⟩
abbrev kA_running : ByteArray := prog_1_method_25_code
abbrev yA_running : MethodName := ⟨"SemiPartEdf", "running", "(II)I"⟩
abbrev kA_plan : ByteArray := prog_1_method_18_code
abbrev yA_plan : MethodName := ⟨"SemiPartEdf", "plan", "(I)V"⟩
abbrev kA_stretch : ByteArray := prog_1_method_19_code
abbrev yA_stretch : MethodName := ⟨"SemiPartEdf", "stretch", "(II)I"⟩
abbrev kA_advance : ByteArray := prog_1_method_20_code
abbrev yA_advance : MethodName := ⟨"SemiPartEdf", "advance", "(III)V"⟩
abbrev kA_response : ByteArray := prog_1_method_26_code
abbrev yA_response : MethodName := ⟨"SemiPartEdf", "response", "(II)I"⟩
abbrev kA_spare : ByteArray := prog_1_method_27_code
abbrev yA_spare : MethodName := ⟨"SemiPartEdf", "spare", "(II)I"⟩
abbrev kL_cell : ByteArray := method_2_code
abbrev yL_cell : MethodName := ⟨"SemiPartEdfLaw", "cell", "([II)I"⟩
abbrev kB_init : ByteArray := prog_3_method_1_code
abbrev yB_init : MethodName := ⟨"SemiPartEdfModel", "<init>", "(I)V"⟩
abbrev kB_admit : ByteArray := prog_3_method_12_code
abbrev yB_admit : MethodName := site_127
abbrev kB_badPeriod : ByteArray := prog_3_method_2_code
abbrev yB_badPeriod : MethodName := ⟨"SemiPartEdfModel", "badPeriod", "(I)Z"⟩
abbrev kB_count : ByteArray := prog_3_method_5_code
abbrev yB_count : MethodName := ⟨"SemiPartEdfModel", "count", "()I"⟩
abbrev kB_freeId : ByteArray := prog_3_method_6_code
abbrev yB_freeId : MethodName := ⟨"SemiPartEdfModel", "freeId", "()I"⟩
abbrev kB_takes : ByteArray := prog_3_method_10_code
abbrev yB_takes : MethodName := ⟨"SemiPartEdfModel", "takes", "(IIIII)Z"⟩
abbrev kB_parts : ByteArray := prog_3_method_7_code
abbrev yB_parts : MethodName := ⟨"SemiPartEdfModel", "parts", "(I)V"⟩
abbrev kB_runs : ByteArray := prog_3_method_9_code
abbrev yB_runs : MethodName := ⟨"SemiPartEdfModel", "runs", "()Z"⟩
abbrev kB_release : ByteArray := prog_3_method_8_code
abbrev yB_release : MethodName := ⟨"SemiPartEdfModel", "release", "(I)Z"⟩
abbrev kB_place : ByteArray := prog_3_method_11_code
abbrev yB_place : MethodName := ⟨"SemiPartEdfModel", "place", "(IIII)I"⟩
abbrev kB_second : ByteArray := prog_3_method_13_code
abbrev yB_second : MethodName := ⟨"SemiPartEdfModel", "second", "(IIIII)I"⟩
abbrev kB_remove : ByteArray := prog_3_method_14_code
abbrev yB_remove : MethodName := ⟨"SemiPartEdfModel", "remove", "(I)I"⟩
abbrev kB_none : ByteArray := prog_3_method_3_code
abbrev yB_none : MethodName := ⟨"SemiPartEdfModel", "none", "(I)Z"⟩
abbrev kB_core : ByteArray := prog_3_method_15_code
abbrev yB_core : MethodName := ⟨"SemiPartEdfModel", "core", "(I)I"⟩
abbrev kB_secondCore : ByteArray := prog_3_method_16_code
abbrev yB_secondCore : MethodName := ⟨"SemiPartEdfModel", "secondCore", "(I)I"⟩
abbrev kB_firstCost : ByteArray := prog_3_method_17_code
abbrev yB_firstCost : MethodName := ⟨"SemiPartEdfModel", "firstCost", "(I)I"⟩
abbrev kB_load : ByteArray := prog_3_method_18_code
abbrev yB_load : MethodName := ⟨"SemiPartEdfModel", "load", "(I)I"⟩
abbrev kB_badCore : ByteArray := prog_3_method_4_code
abbrev yB_badCore : MethodName := ⟨"SemiPartEdfModel", "badCore", "(I)Z"⟩
abbrev kB_running : ByteArray := prog_3_method_19_code
abbrev yB_running : MethodName := ⟨"SemiPartEdfModel", "running", "(II)I"⟩
abbrev kB_response : ByteArray := prog_3_method_20_code
abbrev yB_response : MethodName := ⟨"SemiPartEdfModel", "response", "(II)I"⟩
abbrev kB_spare : ByteArray := prog_3_method_21_code
abbrev yB_spare : MethodName := ⟨"SemiPartEdfModel", "spare", "(II)I"⟩
theorem lA_0 : Cond.fieldLink nA_ 41 (fA_ 0).1 (fA_ 0).2.1 (fA_ 0).2.2.1 ∈ tb_ := List.mem_filter.mpr ⟨List.mem_append_right _ (List.mem_of_getElem? (i := 11) (by decide +kernel)), rfl⟩
theorem lA_1 : Cond.fieldLink nA_ 73 (fA_ 1).1 (fA_ 1).2.1 (fA_ 1).2.2.1 ∈ tb_ := List.mem_filter.mpr ⟨List.mem_append_right _ (List.mem_of_getElem? (i := 12) (by decide +kernel)), rfl⟩
theorem lA_2 : Cond.fieldLink nA_ 7 (fA_ 2).1 (fA_ 2).2.1 (fA_ 2).2.2.1 ∈ tb_ := List.mem_filter.mpr ⟨List.mem_append_right _ (List.mem_of_getElem? (i := 13) (by decide +kernel)), rfl⟩
theorem lA_3 : Cond.fieldLink nA_ 13 (fA_ 3).1 (fA_ 3).2.1 (fA_ 3).2.2.1 ∈ tb_ := List.mem_filter.mpr ⟨List.mem_append_right _ (List.mem_of_getElem? (i := 14) (by decide +kernel)), rfl⟩
theorem lA_4 : Cond.fieldLink nA_ 17 (fA_ 4).1 (fA_ 4).2.1 (fA_ 4).2.2.1 ∈ tb_ := List.mem_filter.mpr ⟨List.mem_append_right _ (List.mem_of_getElem? (i := 15) (by decide +kernel)), rfl⟩
theorem lA_5 : Cond.fieldLink nA_ 20 (fA_ 5).1 (fA_ 5).2.1 (fA_ 5).2.2.1 ∈ tb_ := List.mem_filter.mpr ⟨List.mem_append_right _ (List.mem_of_getElem? (i := 16) (by decide +kernel)), rfl⟩
theorem lA_6 : Cond.fieldLink nA_ 23 (fA_ 6).1 (fA_ 6).2.1 (fA_ 6).2.2.1 ∈ tb_ := List.mem_filter.mpr ⟨List.mem_append_right _ (List.mem_of_getElem? (i := 17) (by decide +kernel)), rfl⟩
theorem lA_7 : Cond.fieldLink nA_ 45 (fA_ 7).1 (fA_ 7).2.1 (fA_ 7).2.2.1 ∈ tb_ := List.mem_filter.mpr ⟨List.mem_append_right _ (List.mem_of_getElem? (i := 18) (by decide +kernel)), rfl⟩
theorem lA_8 : Cond.fieldLink nA_ 98 (fA_ 8).1 (fA_ 8).2.1 (fA_ 8).2.2.1 ∈ tb_ := List.mem_filter.mpr ⟨List.mem_append_right _ (List.mem_of_getElem? (i := 19) (by decide +kernel)), rfl⟩
theorem lA_9 : Cond.fieldLink nA_ 26 (fA_ 9).1 (fA_ 9).2.1 (fA_ 9).2.2.1 ∈ tb_ := List.mem_filter.mpr ⟨List.mem_append_right _ (List.mem_of_getElem? (i := 20) (by decide +kernel)), rfl⟩
theorem lA_10 : Cond.fieldLink nA_ 29 (fA_ 10).1 (fA_ 10).2.1 (fA_ 10).2.2.1 ∈ tb_ := List.mem_filter.mpr ⟨List.mem_append_right _ (List.mem_of_getElem? (i := 21) (by decide +kernel)), rfl⟩
theorem lA_11 : Cond.fieldLink nA_ 32 (fA_ 11).1 (fA_ 11).2.1 (fA_ 11).2.2.1 ∈ tb_ := List.mem_filter.mpr ⟨List.mem_append_right _ (List.mem_of_getElem? (i := 22) (by decide +kernel)), rfl⟩
theorem lA_12 : Cond.fieldLink nA_ 35 (fA_ 12).1 (fA_ 12).2.1 (fA_ 12).2.2.1 ∈ tb_ := List.mem_filter.mpr ⟨List.mem_append_right _ (List.mem_of_getElem? (i := 23) (by decide +kernel)), rfl⟩
theorem lA_13 : Cond.fieldLink nA_ 38 (fA_ 13).1 (fA_ 13).2.1 (fA_ 13).2.2.1 ∈ tb_ := List.mem_filter.mpr ⟨List.mem_append_right _ (List.mem_of_getElem? (i := 24) (by decide +kernel)), rfl⟩
theorem lB_0 : Cond.fieldLink nB_ 49 (fB_ 0).1 (fB_ 0).2.1 (fB_ 0).2.2.1 ∈ tb_ := List.mem_filter.mpr ⟨List.mem_append_right _ (List.mem_of_getElem? (i := 168) (by decide +kernel)), rfl⟩
theorem lB_1 : Cond.fieldLink nB_ 7 (fB_ 1).1 (fB_ 1).2.1 (fB_ 1).2.2.1 ∈ tb_ := List.mem_filter.mpr ⟨List.mem_append_right _ (List.mem_of_getElem? (i := 169) (by decide +kernel)), rfl⟩
theorem lB_2 : Cond.fieldLink nB_ 13 (fB_ 2).1 (fB_ 2).2.1 (fB_ 2).2.2.1 ∈ tb_ := List.mem_filter.mpr ⟨List.mem_append_right _ (List.mem_of_getElem? (i := 170) (by decide +kernel)), rfl⟩
theorem lB_3 : Cond.fieldLink nB_ 16 (fB_ 3).1 (fB_ 3).2.1 (fB_ 3).2.2.1 ∈ tb_ := List.mem_filter.mpr ⟨List.mem_append_right _ (List.mem_of_getElem? (i := 171) (by decide +kernel)), rfl⟩
theorem lB_4 : Cond.fieldLink nB_ 19 (fB_ 4).1 (fB_ 4).2.1 (fB_ 4).2.2.1 ∈ tb_ := List.mem_filter.mpr ⟨List.mem_append_right _ (List.mem_of_getElem? (i := 172) (by decide +kernel)), rfl⟩
theorem lB_5 : Cond.fieldLink nB_ 22 (fB_ 5).1 (fB_ 5).2.1 (fB_ 5).2.2.1 ∈ tb_ := List.mem_filter.mpr ⟨List.mem_append_right _ (List.mem_of_getElem? (i := 173) (by decide +kernel)), rfl⟩
theorem lB_6 : Cond.fieldLink nB_ 25 (fB_ 6).1 (fB_ 6).2.1 (fB_ 6).2.2.1 ∈ tb_ := List.mem_filter.mpr ⟨List.mem_append_right _ (List.mem_of_getElem? (i := 174) (by decide +kernel)), rfl⟩
theorem lB_7 : Cond.fieldLink nB_ 28 (fB_ 7).1 (fB_ 7).2.1 (fB_ 7).2.2.1 ∈ tb_ := List.mem_filter.mpr ⟨List.mem_append_right _ (List.mem_of_getElem? (i := 175) (by decide +kernel)), rfl⟩
theorem lB_8 : Cond.fieldLink nB_ 31 (fB_ 8).1 (fB_ 8).2.1 (fB_ 8).2.2.1 ∈ tb_ := List.mem_filter.mpr ⟨List.mem_append_right _ (List.mem_of_getElem? (i := 176) (by decide +kernel)), rfl⟩
theorem lB_9 : Cond.fieldLink nB_ 34 (fB_ 9).1 (fB_ 9).2.1 (fB_ 9).2.2.1 ∈ tb_ := List.mem_filter.mpr ⟨List.mem_append_right _ (List.mem_of_getElem? (i := 177) (by decide +kernel)), rfl⟩
theorem lB_10 : Cond.fieldLink nB_ 37 (fB_ 10).1 (fB_ 10).2.1 (fB_ 10).2.2.1 ∈ tb_ := List.mem_filter.mpr ⟨List.mem_append_right _ (List.mem_of_getElem? (i := 178) (by decide +kernel)), rfl⟩
theorem lB_11 : Cond.fieldLink nB_ 40 (fB_ 11).1 (fB_ 11).2.1 (fB_ 11).2.2.1 ∈ tb_ := List.mem_filter.mpr ⟨List.mem_append_right _ (List.mem_of_getElem? (i := 179) (by decide +kernel)), rfl⟩
theorem lB_12 : Cond.fieldLink nB_ 43 (fB_ 12).1 (fB_ 12).2.1 (fB_ 12).2.2.1 ∈ tb_ := List.mem_filter.mpr ⟨List.mem_append_right _ (List.mem_of_getElem? (i := 180) (by decide +kernel)), rfl⟩
theorem lB_13 : Cond.fieldLink nB_ 46 (fB_ 13).1 (fB_ 13).2.1 (fB_ 13).2.2.1 ∈ tb_ := List.mem_filter.mpr ⟨List.mem_append_right _ (List.mem_of_getElem? (i := 181) (by decide +kernel)), rfl⟩
theorem eA_ini : Cond.initialized nA_ ∈ tb_ := List.mem_filter.mpr ⟨List.mem_append_right _ (List.mem_of_getElem? (i := 1) (by decide +kernel)), rfl⟩
theorem eB_ini : Cond.initialized nB_ ∈ tb_ := List.mem_filter.mpr ⟨List.mem_append_right _ (List.mem_of_getElem? (i := 2) (by decide +kernel)), rfl⟩
theorem eL_ini : Cond.initialized R_law ∈ tb_ := List.mem_filter.mpr ⟨List.mem_append_right _ (List.mem_of_getElem? (i := 0) (by decide +kernel)), rfl⟩
theorem e_arrI : Cond.arrayClass .int ∈ tb_ := List.mem_filter.mpr ⟨List.mem_append_right _ (List.mem_of_getElem? (i := 55) (by decide +kernel)), rfl⟩
theorem e_arrZ : Cond.arrayClass .boolean ∈ tb_ := List.mem_filter.mpr ⟨List.mem_append_right _ (List.mem_of_getElem? (i := 54) (by decide +kernel)), rfl⟩
theorem mA_init_c : Cond.code yA_init kA_init 4 none ∈ tb_ := List.mem_filter.mpr ⟨List.mem_append_right _ (List.mem_of_getElem? (i := 7) rfl), rfl⟩
theorem mA_init_i : Cond.instanceMethod yA_init ∈ tb_ := List.mem_filter.mpr ⟨List.mem_append_right _ (List.mem_of_getElem? (i := 6) (by decide +kernel)), rfl⟩
theorem mA_admit_c : Cond.code yA_admit kA_admit 7 (some .int) ∈ tb_ := List.mem_filter.mpr ⟨List.mem_append_right _ (List.mem_of_getElem? (i := 59) rfl), rfl⟩
theorem mA_admit_i : Cond.instanceMethod yA_admit ∈ tb_ := List.mem_filter.mpr ⟨List.mem_append_right _ (List.mem_of_getElem? (i := 57) (by decide +kernel)), rfl⟩
theorem mA_admit_s : Cond.selects nA_ yA_admit yA_admit ∈ tb_ := List.mem_filter.mpr ⟨List.mem_append_right _ (List.mem_of_getElem? (i := 58) (by decide +kernel)), rfl⟩
theorem mA_badPeriod_c : Cond.code yA_badPeriod kA_badPeriod 1 (some .boolean) ∈ tb_ := List.mem_filter.mpr ⟨List.mem_append_right _ (List.mem_of_getElem? (i := 62) rfl), rfl⟩
theorem mA_badPeriod_t : Cond.static yA_badPeriod ∈ tb_ := List.mem_filter.mpr ⟨List.mem_append_right _ (List.mem_of_getElem? (i := 61) (by decide +kernel)), rfl⟩
theorem mA_freeId_c : Cond.code yA_freeId kA_freeId 2 (some .int) ∈ tb_ := List.mem_filter.mpr ⟨List.mem_append_right _ (List.mem_of_getElem? (i := 66) rfl), rfl⟩
theorem mA_freeId_i : Cond.instanceMethod yA_freeId ∈ tb_ := List.mem_filter.mpr ⟨List.mem_append_right _ (List.mem_of_getElem? (i := 65) (by decide +kernel)), rfl⟩
theorem mA_freeId_s : Cond.selects nA_ yA_freeId yA_freeId ∈ tb_ := List.mem_filter.mpr ⟨List.mem_append_left _ (List.mem_of_getElem? (i := 0) (by decide +kernel)), rfl⟩
theorem mA_placeWhole_c : Cond.code yA_placeWhole kA_placeWhole 6 (some .boolean) ∈ tb_ := List.mem_filter.mpr ⟨List.mem_append_right _ (List.mem_of_getElem? (i := 70) rfl), rfl⟩
theorem mA_placeWhole_i : Cond.instanceMethod yA_placeWhole ∈ tb_ := List.mem_filter.mpr ⟨List.mem_append_right _ (List.mem_of_getElem? (i := 69) (by decide +kernel)), rfl⟩
theorem mA_placeWhole_s : Cond.selects nA_ yA_placeWhole yA_placeWhole ∈ tb_ := List.mem_filter.mpr ⟨List.mem_append_left _ (List.mem_of_getElem? (i := 1) (by decide +kernel)), rfl⟩
theorem mA_passesWith_c : Cond.code yA_passesWith kA_passesWith 6 (some .boolean) ∈ tb_ := List.mem_filter.mpr ⟨List.mem_append_right _ (List.mem_of_getElem? (i := 74) rfl), rfl⟩
theorem mA_passesWith_i : Cond.instanceMethod yA_passesWith ∈ tb_ := List.mem_filter.mpr ⟨List.mem_append_right _ (List.mem_of_getElem? (i := 73) (by decide +kernel)), rfl⟩
theorem mA_passesWith_s : Cond.selects nA_ yA_passesWith yA_passesWith ∈ tb_ := List.mem_filter.mpr ⟨List.mem_append_left _ (List.mem_of_getElem? (i := 2) (by decide +kernel)), rfl⟩
theorem mA_setPart_c : Cond.code yA_setPart kA_setPart 5 none ∈ tb_ := List.mem_filter.mpr ⟨List.mem_append_right _ (List.mem_of_getElem? (i := 78) rfl), rfl⟩
theorem mA_setPart_i : Cond.instanceMethod yA_setPart ∈ tb_ := List.mem_filter.mpr ⟨List.mem_append_right _ (List.mem_of_getElem? (i := 77) (by decide +kernel)), rfl⟩
theorem mA_setPart_s : Cond.selects nA_ yA_setPart yA_setPart ∈ tb_ := List.mem_filter.mpr ⟨List.mem_append_left _ (List.mem_of_getElem? (i := 3) (by decide +kernel)), rfl⟩
theorem mA_passes_c : Cond.code yA_passes kA_passes 7 (some .boolean) ∈ tb_ := List.mem_filter.mpr ⟨List.mem_append_right _ (List.mem_of_getElem? (i := 82) rfl), rfl⟩
theorem mA_passes_i : Cond.instanceMethod yA_passes ∈ tb_ := List.mem_filter.mpr ⟨List.mem_append_right _ (List.mem_of_getElem? (i := 81) (by decide +kernel)), rfl⟩
theorem mA_passes_s : Cond.selects nA_ yA_passes yA_passes ∈ tb_ := List.mem_filter.mpr ⟨List.mem_append_left _ (List.mem_of_getElem? (i := 4) (by decide +kernel)), rfl⟩
theorem mA_loadOf_c : Cond.code yA_loadOf kA_loadOf 4 (some .int) ∈ tb_ := List.mem_filter.mpr ⟨List.mem_append_right _ (List.mem_of_getElem? (i := 86) rfl), rfl⟩
theorem mA_loadOf_i : Cond.instanceMethod yA_loadOf ∈ tb_ := List.mem_filter.mpr ⟨List.mem_append_right _ (List.mem_of_getElem? (i := 85) (by decide +kernel)), rfl⟩
theorem mA_loadOf_s : Cond.selects nA_ yA_loadOf yA_loadOf ∈ tb_ := List.mem_filter.mpr ⟨List.mem_append_left _ (List.mem_of_getElem? (i := 5) (by decide +kernel)), rfl⟩
theorem mA_leastDeadline_c : Cond.code yA_leastDeadline kA_leastDeadline 4 (some .int) ∈ tb_ := List.mem_filter.mpr ⟨List.mem_append_right _ (List.mem_of_getElem? (i := 90) rfl), rfl⟩
theorem mA_leastDeadline_i : Cond.instanceMethod yA_leastDeadline ∈ tb_ := List.mem_filter.mpr ⟨List.mem_append_right _ (List.mem_of_getElem? (i := 89) (by decide +kernel)), rfl⟩
theorem mA_leastDeadline_s : Cond.selects nA_ yA_leastDeadline yA_leastDeadline ∈ tb_ := List.mem_filter.mpr ⟨List.mem_append_left _ (List.mem_of_getElem? (i := 6) (by decide +kernel)), rfl⟩
theorem mA_demand_c : Cond.code yA_demand kA_demand 5 (some .int) ∈ tb_ := List.mem_filter.mpr ⟨List.mem_append_right _ (List.mem_of_getElem? (i := 94) rfl), rfl⟩
theorem mA_demand_i : Cond.instanceMethod yA_demand ∈ tb_ := List.mem_filter.mpr ⟨List.mem_append_right _ (List.mem_of_getElem? (i := 93) (by decide +kernel)), rfl⟩
theorem mA_demand_s : Cond.selects nA_ yA_demand yA_demand ∈ tb_ := List.mem_filter.mpr ⟨List.mem_append_left _ (List.mem_of_getElem? (i := 7) (by decide +kernel)), rfl⟩
theorem mA_deadlineBefore_c : Cond.code yA_deadlineBefore kA_deadlineBefore 6 (some .int) ∈ tb_ := List.mem_filter.mpr ⟨List.mem_append_right _ (List.mem_of_getElem? (i := 98) rfl), rfl⟩
theorem mA_deadlineBefore_i : Cond.instanceMethod yA_deadlineBefore ∈ tb_ := List.mem_filter.mpr ⟨List.mem_append_right _ (List.mem_of_getElem? (i := 97) (by decide +kernel)), rfl⟩
theorem mA_deadlineBefore_s : Cond.selects nA_ yA_deadlineBefore yA_deadlineBefore ∈ tb_ := List.mem_filter.mpr ⟨List.mem_append_left _ (List.mem_of_getElem? (i := 8) (by decide +kernel)), rfl⟩
theorem mA_placeSplit_c : Cond.code yA_placeSplit kA_placeSplit 9 (some .boolean) ∈ tb_ := List.mem_filter.mpr ⟨List.mem_append_right _ (List.mem_of_getElem? (i := 102) rfl), rfl⟩
theorem mA_placeSplit_i : Cond.instanceMethod yA_placeSplit ∈ tb_ := List.mem_filter.mpr ⟨List.mem_append_right _ (List.mem_of_getElem? (i := 101) (by decide +kernel)), rfl⟩
theorem mA_placeSplit_s : Cond.selects nA_ yA_placeSplit yA_placeSplit ∈ tb_ := List.mem_filter.mpr ⟨List.mem_append_left _ (List.mem_of_getElem? (i := 9) (by decide +kernel)), rfl⟩
theorem mA_coreForRest_c : Cond.code yA_coreForRest kA_coreForRest 7 (some .int) ∈ tb_ := List.mem_filter.mpr ⟨List.mem_append_right _ (List.mem_of_getElem? (i := 106) rfl), rfl⟩
theorem mA_coreForRest_i : Cond.instanceMethod yA_coreForRest ∈ tb_ := List.mem_filter.mpr ⟨List.mem_append_right _ (List.mem_of_getElem? (i := 105) (by decide +kernel)), rfl⟩
theorem mA_coreForRest_s : Cond.selects nA_ yA_coreForRest yA_coreForRest ∈ tb_ := List.mem_filter.mpr ⟨List.mem_append_left _ (List.mem_of_getElem? (i := 10) (by decide +kernel)), rfl⟩
theorem mA_remove_c : Cond.code yA_remove kA_remove 2 (some .int) ∈ tb_ := List.mem_filter.mpr ⟨List.mem_append_right _ (List.mem_of_getElem? (i := 110) rfl), rfl⟩
theorem mA_remove_i : Cond.instanceMethod yA_remove ∈ tb_ := List.mem_filter.mpr ⟨List.mem_append_right _ (List.mem_of_getElem? (i := 108) (by decide +kernel)), rfl⟩
theorem mA_remove_s : Cond.selects nA_ yA_remove yA_remove ∈ tb_ := List.mem_filter.mpr ⟨List.mem_append_right _ (List.mem_of_getElem? (i := 109) (by decide +kernel)), rfl⟩
theorem mA_noTask_c : Cond.code yA_noTask kA_noTask 2 (some .boolean) ∈ tb_ := List.mem_filter.mpr ⟨List.mem_append_right _ (List.mem_of_getElem? (i := 114) rfl), rfl⟩
theorem mA_noTask_i : Cond.instanceMethod yA_noTask ∈ tb_ := List.mem_filter.mpr ⟨List.mem_append_right _ (List.mem_of_getElem? (i := 113) (by decide +kernel)), rfl⟩
theorem mA_noTask_s : Cond.selects nA_ yA_noTask yA_noTask ∈ tb_ := List.mem_filter.mpr ⟨List.mem_append_left _ (List.mem_of_getElem? (i := 11) (by decide +kernel)), rfl⟩
theorem mA_core_c : Cond.code yA_core kA_core 2 (some .int) ∈ tb_ := List.mem_filter.mpr ⟨List.mem_append_right _ (List.mem_of_getElem? (i := 118) rfl), rfl⟩
theorem mA_core_i : Cond.instanceMethod yA_core ∈ tb_ := List.mem_filter.mpr ⟨List.mem_append_right _ (List.mem_of_getElem? (i := 116) (by decide +kernel)), rfl⟩
theorem mA_core_s : Cond.selects nA_ yA_core yA_core ∈ tb_ := List.mem_filter.mpr ⟨List.mem_append_right _ (List.mem_of_getElem? (i := 117) (by decide +kernel)), rfl⟩
theorem mA_secondCore_c : Cond.code yA_secondCore kA_secondCore 2 (some .int) ∈ tb_ := List.mem_filter.mpr ⟨List.mem_append_right _ (List.mem_of_getElem? (i := 122) rfl), rfl⟩
theorem mA_secondCore_i : Cond.instanceMethod yA_secondCore ∈ tb_ := List.mem_filter.mpr ⟨List.mem_append_right _ (List.mem_of_getElem? (i := 120) (by decide +kernel)), rfl⟩
theorem mA_secondCore_s : Cond.selects nA_ yA_secondCore yA_secondCore ∈ tb_ := List.mem_filter.mpr ⟨List.mem_append_right _ (List.mem_of_getElem? (i := 121) (by decide +kernel)), rfl⟩
theorem mA_firstCost_c : Cond.code yA_firstCost kA_firstCost 2 (some .int) ∈ tb_ := List.mem_filter.mpr ⟨List.mem_append_right _ (List.mem_of_getElem? (i := 126) rfl), rfl⟩
theorem mA_firstCost_i : Cond.instanceMethod yA_firstCost ∈ tb_ := List.mem_filter.mpr ⟨List.mem_append_right _ (List.mem_of_getElem? (i := 124) (by decide +kernel)), rfl⟩
theorem mA_firstCost_s : Cond.selects nA_ yA_firstCost yA_firstCost ∈ tb_ := List.mem_filter.mpr ⟨List.mem_append_right _ (List.mem_of_getElem? (i := 125) (by decide +kernel)), rfl⟩
theorem mA_load_c : Cond.code yA_load kA_load 2 (some .int) ∈ tb_ := List.mem_filter.mpr ⟨List.mem_append_right _ (List.mem_of_getElem? (i := 130) rfl), rfl⟩
theorem mA_load_i : Cond.instanceMethod yA_load ∈ tb_ := List.mem_filter.mpr ⟨List.mem_append_right _ (List.mem_of_getElem? (i := 128) (by decide +kernel)), rfl⟩
theorem mA_load_s : Cond.selects nA_ yA_load yA_load ∈ tb_ := List.mem_filter.mpr ⟨List.mem_append_right _ (List.mem_of_getElem? (i := 129) (by decide +kernel)), rfl⟩
theorem mA_badCore_c : Cond.code yA_badCore kA_badCore 2 (some .boolean) ∈ tb_ := List.mem_filter.mpr ⟨List.mem_append_right _ (List.mem_of_getElem? (i := 134) rfl), rfl⟩
theorem mA_badCore_i : Cond.instanceMethod yA_badCore ∈ tb_ := List.mem_filter.mpr ⟨List.mem_append_right _ (List.mem_of_getElem? (i := 133) (by decide +kernel)), rfl⟩
theorem mA_badCore_s : Cond.selects nA_ yA_badCore yA_badCore ∈ tb_ := List.mem_filter.mpr ⟨List.mem_append_left _ (List.mem_of_getElem? (i := 12) (by decide +kernel)), rfl⟩
theorem mA_running_c : Cond.code yA_running kA_running 4 (some .int) ∈ tb_ := List.mem_filter.mpr ⟨List.mem_append_right _ (List.mem_of_getElem? (i := 138) rfl), rfl⟩
theorem mA_running_i : Cond.instanceMethod yA_running ∈ tb_ := List.mem_filter.mpr ⟨List.mem_append_right _ (List.mem_of_getElem? (i := 136) (by decide +kernel)), rfl⟩
theorem mA_running_s : Cond.selects nA_ yA_running yA_running ∈ tb_ := List.mem_filter.mpr ⟨List.mem_append_right _ (List.mem_of_getElem? (i := 137) (by decide +kernel)), rfl⟩
theorem mA_plan_c : Cond.code yA_plan kA_plan 4 none ∈ tb_ := List.mem_filter.mpr ⟨List.mem_append_right _ (List.mem_of_getElem? (i := 142) rfl), rfl⟩
theorem mA_plan_i : Cond.instanceMethod yA_plan ∈ tb_ := List.mem_filter.mpr ⟨List.mem_append_right _ (List.mem_of_getElem? (i := 141) (by decide +kernel)), rfl⟩
theorem mA_plan_s : Cond.selects nA_ yA_plan yA_plan ∈ tb_ := List.mem_filter.mpr ⟨List.mem_append_left _ (List.mem_of_getElem? (i := 13) (by decide +kernel)), rfl⟩
theorem mA_stretch_c : Cond.code yA_stretch kA_stretch 7 (some .int) ∈ tb_ := List.mem_filter.mpr ⟨List.mem_append_right _ (List.mem_of_getElem? (i := 146) rfl), rfl⟩
theorem mA_stretch_i : Cond.instanceMethod yA_stretch ∈ tb_ := List.mem_filter.mpr ⟨List.mem_append_right _ (List.mem_of_getElem? (i := 145) (by decide +kernel)), rfl⟩
theorem mA_stretch_s : Cond.selects nA_ yA_stretch yA_stretch ∈ tb_ := List.mem_filter.mpr ⟨List.mem_append_left _ (List.mem_of_getElem? (i := 14) (by decide +kernel)), rfl⟩
theorem mA_advance_c : Cond.code yA_advance kA_advance 5 none ∈ tb_ := List.mem_filter.mpr ⟨List.mem_append_right _ (List.mem_of_getElem? (i := 150) rfl), rfl⟩
theorem mA_advance_i : Cond.instanceMethod yA_advance ∈ tb_ := List.mem_filter.mpr ⟨List.mem_append_right _ (List.mem_of_getElem? (i := 149) (by decide +kernel)), rfl⟩
theorem mA_advance_s : Cond.selects nA_ yA_advance yA_advance ∈ tb_ := List.mem_filter.mpr ⟨List.mem_append_left _ (List.mem_of_getElem? (i := 15) (by decide +kernel)), rfl⟩
theorem mA_response_c : Cond.code yA_response kA_response 3 (some .int) ∈ tb_ := List.mem_filter.mpr ⟨List.mem_append_right _ (List.mem_of_getElem? (i := 154) rfl), rfl⟩
theorem mA_response_i : Cond.instanceMethod yA_response ∈ tb_ := List.mem_filter.mpr ⟨List.mem_append_right _ (List.mem_of_getElem? (i := 152) (by decide +kernel)), rfl⟩
theorem mA_response_s : Cond.selects nA_ yA_response yA_response ∈ tb_ := List.mem_filter.mpr ⟨List.mem_append_right _ (List.mem_of_getElem? (i := 153) (by decide +kernel)), rfl⟩
theorem mA_spare_c : Cond.code yA_spare kA_spare 8 (some .int) ∈ tb_ := List.mem_filter.mpr ⟨List.mem_append_right _ (List.mem_of_getElem? (i := 158) rfl), rfl⟩
theorem mA_spare_i : Cond.instanceMethod yA_spare ∈ tb_ := List.mem_filter.mpr ⟨List.mem_append_right _ (List.mem_of_getElem? (i := 156) (by decide +kernel)), rfl⟩
theorem mA_spare_s : Cond.selects nA_ yA_spare yA_spare ∈ tb_ := List.mem_filter.mpr ⟨List.mem_append_right _ (List.mem_of_getElem? (i := 157) (by decide +kernel)), rfl⟩
theorem mL_cell_c : Cond.code yL_cell kL_cell 2 (some .int) ∈ tb_ := List.mem_filter.mpr ⟨List.mem_append_right _ (List.mem_of_getElem? (i := 161) rfl), rfl⟩
theorem mL_cell_t : Cond.static yL_cell ∈ tb_ := List.mem_filter.mpr ⟨List.mem_append_right _ (List.mem_of_getElem? (i := 160) (by decide +kernel)), rfl⟩
theorem mB_init_c : Cond.code yB_init kB_init 3 none ∈ tb_ := List.mem_filter.mpr ⟨List.mem_append_right _ (List.mem_of_getElem? (i := 166) rfl), rfl⟩
theorem mB_init_i : Cond.instanceMethod yB_init ∈ tb_ := List.mem_filter.mpr ⟨List.mem_append_right _ (List.mem_of_getElem? (i := 165) (by decide +kernel)), rfl⟩
theorem mB_admit_c : Cond.code yB_admit kB_admit 9 (some .int) ∈ tb_ := List.mem_filter.mpr ⟨List.mem_append_right _ (List.mem_of_getElem? (i := 214) rfl), rfl⟩
theorem mB_admit_i : Cond.instanceMethod yB_admit ∈ tb_ := List.mem_filter.mpr ⟨List.mem_append_right _ (List.mem_of_getElem? (i := 212) (by decide +kernel)), rfl⟩
theorem mB_admit_s : Cond.selects nB_ yB_admit yB_admit ∈ tb_ := List.mem_filter.mpr ⟨List.mem_append_right _ (List.mem_of_getElem? (i := 213) (by decide +kernel)), rfl⟩
theorem mB_badPeriod_c : Cond.code yB_badPeriod kB_badPeriod 2 (some .boolean) ∈ tb_ := List.mem_filter.mpr ⟨List.mem_append_right _ (List.mem_of_getElem? (i := 218) rfl), rfl⟩
theorem mB_badPeriod_i : Cond.instanceMethod yB_badPeriod ∈ tb_ := List.mem_filter.mpr ⟨List.mem_append_right _ (List.mem_of_getElem? (i := 217) (by decide +kernel)), rfl⟩
theorem mB_badPeriod_s : Cond.selects nB_ yB_badPeriod yB_badPeriod ∈ tb_ := List.mem_filter.mpr ⟨List.mem_append_left _ (List.mem_of_getElem? (i := 16) (by decide +kernel)), rfl⟩
theorem mB_count_c : Cond.code yB_count kB_count 3 (some .int) ∈ tb_ := List.mem_filter.mpr ⟨List.mem_append_right _ (List.mem_of_getElem? (i := 222) rfl), rfl⟩
theorem mB_count_i : Cond.instanceMethod yB_count ∈ tb_ := List.mem_filter.mpr ⟨List.mem_append_right _ (List.mem_of_getElem? (i := 221) (by decide +kernel)), rfl⟩
theorem mB_count_s : Cond.selects nB_ yB_count yB_count ∈ tb_ := List.mem_filter.mpr ⟨List.mem_append_left _ (List.mem_of_getElem? (i := 17) (by decide +kernel)), rfl⟩
theorem mB_freeId_c : Cond.code yB_freeId kB_freeId 2 (some .int) ∈ tb_ := List.mem_filter.mpr ⟨List.mem_append_right _ (List.mem_of_getElem? (i := 226) rfl), rfl⟩
theorem mB_freeId_i : Cond.instanceMethod yB_freeId ∈ tb_ := List.mem_filter.mpr ⟨List.mem_append_right _ (List.mem_of_getElem? (i := 225) (by decide +kernel)), rfl⟩
theorem mB_freeId_s : Cond.selects nB_ yB_freeId yB_freeId ∈ tb_ := List.mem_filter.mpr ⟨List.mem_append_left _ (List.mem_of_getElem? (i := 18) (by decide +kernel)), rfl⟩
theorem mB_takes_c : Cond.code yB_takes kB_takes 6 (some .boolean) ∈ tb_ := List.mem_filter.mpr ⟨List.mem_append_right _ (List.mem_of_getElem? (i := 230) rfl), rfl⟩
theorem mB_takes_i : Cond.instanceMethod yB_takes ∈ tb_ := List.mem_filter.mpr ⟨List.mem_append_right _ (List.mem_of_getElem? (i := 229) (by decide +kernel)), rfl⟩
theorem mB_takes_s : Cond.selects nB_ yB_takes yB_takes ∈ tb_ := List.mem_filter.mpr ⟨List.mem_append_left _ (List.mem_of_getElem? (i := 19) (by decide +kernel)), rfl⟩
theorem mB_parts_c : Cond.code yB_parts kB_parts 4 none ∈ tb_ := List.mem_filter.mpr ⟨List.mem_append_right _ (List.mem_of_getElem? (i := 234) rfl), rfl⟩
theorem mB_parts_i : Cond.instanceMethod yB_parts ∈ tb_ := List.mem_filter.mpr ⟨List.mem_append_right _ (List.mem_of_getElem? (i := 233) (by decide +kernel)), rfl⟩
theorem mB_parts_s : Cond.selects nB_ yB_parts yB_parts ∈ tb_ := List.mem_filter.mpr ⟨List.mem_append_left _ (List.mem_of_getElem? (i := 20) (by decide +kernel)), rfl⟩
theorem mB_runs_c : Cond.code yB_runs kB_runs 4 (some .boolean) ∈ tb_ := List.mem_filter.mpr ⟨List.mem_append_right _ (List.mem_of_getElem? (i := 238) rfl), rfl⟩
theorem mB_runs_i : Cond.instanceMethod yB_runs ∈ tb_ := List.mem_filter.mpr ⟨List.mem_append_right _ (List.mem_of_getElem? (i := 237) (by decide +kernel)), rfl⟩
theorem mB_runs_s : Cond.selects nB_ yB_runs yB_runs ∈ tb_ := List.mem_filter.mpr ⟨List.mem_append_left _ (List.mem_of_getElem? (i := 21) (by decide +kernel)), rfl⟩
theorem mB_release_c : Cond.code yB_release kB_release 3 (some .boolean) ∈ tb_ := List.mem_filter.mpr ⟨List.mem_append_right _ (List.mem_of_getElem? (i := 242) rfl), rfl⟩
theorem mB_release_i : Cond.instanceMethod yB_release ∈ tb_ := List.mem_filter.mpr ⟨List.mem_append_right _ (List.mem_of_getElem? (i := 241) (by decide +kernel)), rfl⟩
theorem mB_release_s : Cond.selects nB_ yB_release yB_release ∈ tb_ := List.mem_filter.mpr ⟨List.mem_append_left _ (List.mem_of_getElem? (i := 22) (by decide +kernel)), rfl⟩
theorem mB_place_c : Cond.code yB_place kB_place 5 (some .int) ∈ tb_ := List.mem_filter.mpr ⟨List.mem_append_right _ (List.mem_of_getElem? (i := 246) rfl), rfl⟩
theorem mB_place_i : Cond.instanceMethod yB_place ∈ tb_ := List.mem_filter.mpr ⟨List.mem_append_right _ (List.mem_of_getElem? (i := 245) (by decide +kernel)), rfl⟩
theorem mB_place_s : Cond.selects nB_ yB_place yB_place ∈ tb_ := List.mem_filter.mpr ⟨List.mem_append_left _ (List.mem_of_getElem? (i := 23) (by decide +kernel)), rfl⟩
theorem mB_second_c : Cond.code yB_second kB_second 7 (some .int) ∈ tb_ := List.mem_filter.mpr ⟨List.mem_append_right _ (List.mem_of_getElem? (i := 250) rfl), rfl⟩
theorem mB_second_i : Cond.instanceMethod yB_second ∈ tb_ := List.mem_filter.mpr ⟨List.mem_append_right _ (List.mem_of_getElem? (i := 249) (by decide +kernel)), rfl⟩
theorem mB_second_s : Cond.selects nB_ yB_second yB_second ∈ tb_ := List.mem_filter.mpr ⟨List.mem_append_left _ (List.mem_of_getElem? (i := 24) (by decide +kernel)), rfl⟩
theorem mB_remove_c : Cond.code yB_remove kB_remove 2 (some .int) ∈ tb_ := List.mem_filter.mpr ⟨List.mem_append_right _ (List.mem_of_getElem? (i := 254) rfl), rfl⟩
theorem mB_remove_i : Cond.instanceMethod yB_remove ∈ tb_ := List.mem_filter.mpr ⟨List.mem_append_right _ (List.mem_of_getElem? (i := 252) (by decide +kernel)), rfl⟩
theorem mB_remove_s : Cond.selects nB_ yB_remove yB_remove ∈ tb_ := List.mem_filter.mpr ⟨List.mem_append_right _ (List.mem_of_getElem? (i := 253) (by decide +kernel)), rfl⟩
theorem mB_none_c : Cond.code yB_none kB_none 2 (some .boolean) ∈ tb_ := List.mem_filter.mpr ⟨List.mem_append_right _ (List.mem_of_getElem? (i := 258) rfl), rfl⟩
theorem mB_none_i : Cond.instanceMethod yB_none ∈ tb_ := List.mem_filter.mpr ⟨List.mem_append_right _ (List.mem_of_getElem? (i := 257) (by decide +kernel)), rfl⟩
theorem mB_none_s : Cond.selects nB_ yB_none yB_none ∈ tb_ := List.mem_filter.mpr ⟨List.mem_append_left _ (List.mem_of_getElem? (i := 25) (by decide +kernel)), rfl⟩
theorem mB_core_c : Cond.code yB_core kB_core 2 (some .int) ∈ tb_ := List.mem_filter.mpr ⟨List.mem_append_right _ (List.mem_of_getElem? (i := 262) rfl), rfl⟩
theorem mB_core_i : Cond.instanceMethod yB_core ∈ tb_ := List.mem_filter.mpr ⟨List.mem_append_right _ (List.mem_of_getElem? (i := 260) (by decide +kernel)), rfl⟩
theorem mB_core_s : Cond.selects nB_ yB_core yB_core ∈ tb_ := List.mem_filter.mpr ⟨List.mem_append_right _ (List.mem_of_getElem? (i := 261) (by decide +kernel)), rfl⟩
theorem mB_secondCore_c : Cond.code yB_secondCore kB_secondCore 2 (some .int) ∈ tb_ := List.mem_filter.mpr ⟨List.mem_append_right _ (List.mem_of_getElem? (i := 266) rfl), rfl⟩
theorem mB_secondCore_i : Cond.instanceMethod yB_secondCore ∈ tb_ := List.mem_filter.mpr ⟨List.mem_append_right _ (List.mem_of_getElem? (i := 264) (by decide +kernel)), rfl⟩
theorem mB_secondCore_s : Cond.selects nB_ yB_secondCore yB_secondCore ∈ tb_ := List.mem_filter.mpr ⟨List.mem_append_right _ (List.mem_of_getElem? (i := 265) (by decide +kernel)), rfl⟩
theorem mB_firstCost_c : Cond.code yB_firstCost kB_firstCost 2 (some .int) ∈ tb_ := List.mem_filter.mpr ⟨List.mem_append_right _ (List.mem_of_getElem? (i := 270) rfl), rfl⟩
theorem mB_firstCost_i : Cond.instanceMethod yB_firstCost ∈ tb_ := List.mem_filter.mpr ⟨List.mem_append_right _ (List.mem_of_getElem? (i := 268) (by decide +kernel)), rfl⟩
theorem mB_firstCost_s : Cond.selects nB_ yB_firstCost yB_firstCost ∈ tb_ := List.mem_filter.mpr ⟨List.mem_append_right _ (List.mem_of_getElem? (i := 269) (by decide +kernel)), rfl⟩
theorem mB_load_c : Cond.code yB_load kB_load 4 (some .int) ∈ tb_ := List.mem_filter.mpr ⟨List.mem_append_right _ (List.mem_of_getElem? (i := 274) rfl), rfl⟩
theorem mB_load_i : Cond.instanceMethod yB_load ∈ tb_ := List.mem_filter.mpr ⟨List.mem_append_right _ (List.mem_of_getElem? (i := 272) (by decide +kernel)), rfl⟩
theorem mB_load_s : Cond.selects nB_ yB_load yB_load ∈ tb_ := List.mem_filter.mpr ⟨List.mem_append_right _ (List.mem_of_getElem? (i := 273) (by decide +kernel)), rfl⟩
theorem mB_badCore_c : Cond.code yB_badCore kB_badCore 2 (some .boolean) ∈ tb_ := List.mem_filter.mpr ⟨List.mem_append_right _ (List.mem_of_getElem? (i := 278) rfl), rfl⟩
theorem mB_badCore_i : Cond.instanceMethod yB_badCore ∈ tb_ := List.mem_filter.mpr ⟨List.mem_append_right _ (List.mem_of_getElem? (i := 277) (by decide +kernel)), rfl⟩
theorem mB_badCore_s : Cond.selects nB_ yB_badCore yB_badCore ∈ tb_ := List.mem_filter.mpr ⟨List.mem_append_left _ (List.mem_of_getElem? (i := 26) (by decide +kernel)), rfl⟩
theorem mB_running_c : Cond.code yB_running kB_running 3 (some .int) ∈ tb_ := List.mem_filter.mpr ⟨List.mem_append_right _ (List.mem_of_getElem? (i := 282) rfl), rfl⟩
theorem mB_running_i : Cond.instanceMethod yB_running ∈ tb_ := List.mem_filter.mpr ⟨List.mem_append_right _ (List.mem_of_getElem? (i := 280) (by decide +kernel)), rfl⟩
theorem mB_running_s : Cond.selects nB_ yB_running yB_running ∈ tb_ := List.mem_filter.mpr ⟨List.mem_append_right _ (List.mem_of_getElem? (i := 281) (by decide +kernel)), rfl⟩
theorem mB_response_c : Cond.code yB_response kB_response 3 (some .int) ∈ tb_ := List.mem_filter.mpr ⟨List.mem_append_right _ (List.mem_of_getElem? (i := 286) rfl), rfl⟩
theorem mB_response_i : Cond.instanceMethod yB_response ∈ tb_ := List.mem_filter.mpr ⟨List.mem_append_right _ (List.mem_of_getElem? (i := 284) (by decide +kernel)), rfl⟩
theorem mB_response_s : Cond.selects nB_ yB_response yB_response ∈ tb_ := List.mem_filter.mpr ⟨List.mem_append_right _ (List.mem_of_getElem? (i := 285) (by decide +kernel)), rfl⟩
theorem mB_spare_c : Cond.code yB_spare kB_spare 5 (some .int) ∈ tb_ := List.mem_filter.mpr ⟨List.mem_append_right _ (List.mem_of_getElem? (i := 290) rfl), rfl⟩
theorem mB_spare_i : Cond.instanceMethod yB_spare ∈ tb_ := List.mem_filter.mpr ⟨List.mem_append_right _ (List.mem_of_getElem? (i := 288) (by decide +kernel)), rfl⟩
theorem mB_spare_s : Cond.selects nB_ yB_spare yB_spare ∈ tb_ := List.mem_filter.mpr ⟨List.mem_append_right _ (List.mem_of_getElem? (i := 289) (by decide +kernel)), rfl⟩
theorem e_gV {own : String} {idx : Nat} {C : String} {y : MethodName} {b : ByteArray} {n : Nat} {r : Option FieldType} (h1 : Cond.methodLink own idx y ∈ tb_) (h2 : Cond.instanceMethod y ∈ tb_) (h3 : Cond.selects C y y ∈ tb_) (h4 : Cond.initialized C ∈ tb_) (h5 : Cond.code y b n r ∈ tb_) : GoodIn tb_ (wsV own idx C y (.code y b n r :: tb_)) := by
  intro w hw
  have hm : w ∈ tb_ := by
    unfold wsV at hw
    rcases List.mem_append.mp hw with h | h
    · simp only [List.mem_cons, List.not_mem_nil, or_false] at h
      rcases h with rfl | rfl | rfl | rfl <;> assumption
    · rcases List.mem_cons.mp h with rfl | h
      · exact h5
      · exact h
  exact ⟨hm, lw_good w hm⟩
theorem e_gC {y : MethodName} {b : ByteArray} {n : Nat} {r : Option FieldType} (h5 : Cond.code y b n r ∈ tb_) : GoodIn tb_ (.code y b n r :: tb_) := by
  intro w hw
  have hm : w ∈ tb_ := by
    rcases List.mem_cons.mp hw with rfl | h
    · exact h5
    · exact h
  exact ⟨hm, lw_good w hm⟩
theorem e_gS {own : String} {idx : Nat} {y : MethodName} {b : ByteArray} {n : Nat} {r : Option FieldType} (h1 : Cond.methodLink own idx y ∈ tb_) (h2 : Cond.static y ∈ tb_) (h4 : Cond.initialized own ∈ tb_) (h5 : Cond.code y b n r ∈ tb_) : GoodIn tb_ (wsS own idx y (.code y b n r :: tb_)) := by
  intro w hw
  have hm : w ∈ tb_ := by
    unfold wsS at hw
    rcases List.mem_append.mp hw with h | h
    · simp only [List.mem_cons, List.not_mem_nil, or_false] at h
      rcases h with rfl | rfl | rfl <;> assumption
    · rcases List.mem_cons.mp h with rfl | h
      · exact h5
      · exact h
  exact ⟨hm, lw_good w hm⟩
theorem hL_A_init : Cond.methodLink R_law 15 yA_init ∈ tb_ := List.mem_filter.mpr ⟨List.mem_append_right _ (List.mem_of_getElem? (i := 5) (by decide +kernel)), rfl⟩
theorem gL_A_init : GoodIn tb_ (.code yA_init kA_init 4 none :: tb_) := e_gC mA_init_c
theorem oA_ : Cond.methodLink "SemiPartEdf" 1 objectInit ∈ tb_ := List.mem_filter.mpr ⟨List.mem_append_right _ (List.mem_of_getElem? (i := 8) (by decide +kernel)), rfl⟩
theorem hL_A_admit : Cond.methodLink R_law 21 yA_admit ∈ tb_ := List.mem_filter.mpr ⟨List.mem_append_right _ (List.mem_of_getElem? (i := 56) (by decide +kernel)), rfl⟩
theorem gL_A_admit : GoodIn tb_ (wsV R_law 21 nA_ yA_admit (.code yA_admit kA_admit 7 (some .int) :: tb_)) := e_gV hL_A_admit mA_admit_i mA_admit_s eA_ini mA_admit_c
theorem hA_A_badPeriod : Cond.methodLink nA_ 70 yA_badPeriod ∈ tb_ := List.mem_filter.mpr ⟨List.mem_append_right _ (List.mem_of_getElem? (i := 60) (by decide +kernel)), rfl⟩
theorem gA_A_badPeriod : GoodIn tb_ (wsS nA_ 70 yA_badPeriod (.code yA_badPeriod kA_badPeriod 1 (some .boolean) :: tb_)) := e_gS hA_A_badPeriod mA_badPeriod_t eA_ini mA_badPeriod_c
theorem hA_A_freeId : Cond.methodLink nA_ 76 yA_freeId ∈ tb_ := List.mem_filter.mpr ⟨List.mem_append_right _ (List.mem_of_getElem? (i := 63) (by decide +kernel)), rfl⟩
theorem gA_A_freeId : GoodIn tb_ (wsV nA_ 76 nA_ yA_freeId (.code yA_freeId kA_freeId 2 (some .int) :: tb_)) := e_gV hA_A_freeId mA_freeId_i mA_freeId_s eA_ini mA_freeId_c
theorem hA_A_placeWhole : Cond.methodLink nA_ 80 yA_placeWhole ∈ tb_ := List.mem_filter.mpr ⟨List.mem_append_right _ (List.mem_of_getElem? (i := 67) (by decide +kernel)), rfl⟩
theorem gA_A_placeWhole : GoodIn tb_ (wsV nA_ 80 nA_ yA_placeWhole (.code yA_placeWhole kA_placeWhole 6 (some .boolean) :: tb_)) := e_gV hA_A_placeWhole mA_placeWhole_i mA_placeWhole_s eA_ini mA_placeWhole_c
theorem hA_A_passesWith : Cond.methodLink nA_ 88 yA_passesWith ∈ tb_ := List.mem_filter.mpr ⟨List.mem_append_right _ (List.mem_of_getElem? (i := 71) (by decide +kernel)), rfl⟩
theorem gA_A_passesWith : GoodIn tb_ (wsV nA_ 88 nA_ yA_passesWith (.code yA_passesWith kA_passesWith 6 (some .boolean) :: tb_)) := e_gV hA_A_passesWith mA_passesWith_i mA_passesWith_s eA_ini mA_passesWith_c
theorem hA_A_setPart : Cond.methodLink nA_ 62 yA_setPart ∈ tb_ := List.mem_filter.mpr ⟨List.mem_append_right _ (List.mem_of_getElem? (i := 75) (by decide +kernel)), rfl⟩
theorem gA_A_setPart : GoodIn tb_ (wsV nA_ 62 nA_ yA_setPart (.code yA_setPart kA_setPart 5 none :: tb_)) := e_gV hA_A_setPart mA_setPart_i mA_setPart_s eA_ini mA_setPart_c
theorem hA_A_passes : Cond.methodLink nA_ 66 yA_passes ∈ tb_ := List.mem_filter.mpr ⟨List.mem_append_right _ (List.mem_of_getElem? (i := 79) (by decide +kernel)), rfl⟩
theorem gA_A_passes : GoodIn tb_ (wsV nA_ 66 nA_ yA_passes (.code yA_passes kA_passes 7 (some .boolean) :: tb_)) := e_gV hA_A_passes mA_passes_i mA_passes_s eA_ini mA_passes_c
theorem hA_A_loadOf : Cond.methodLink nA_ 48 yA_loadOf ∈ tb_ := List.mem_filter.mpr ⟨List.mem_append_right _ (List.mem_of_getElem? (i := 83) (by decide +kernel)), rfl⟩
theorem gA_A_loadOf : GoodIn tb_ (wsV nA_ 48 nA_ yA_loadOf (.code yA_loadOf kA_loadOf 4 (some .int) :: tb_)) := e_gV hA_A_loadOf mA_loadOf_i mA_loadOf_s eA_ini mA_loadOf_c
theorem hA_A_leastDeadline : Cond.methodLink nA_ 52 yA_leastDeadline ∈ tb_ := List.mem_filter.mpr ⟨List.mem_append_right _ (List.mem_of_getElem? (i := 87) (by decide +kernel)), rfl⟩
theorem gA_A_leastDeadline : GoodIn tb_ (wsV nA_ 52 nA_ yA_leastDeadline (.code yA_leastDeadline kA_leastDeadline 4 (some .int) :: tb_)) := e_gV hA_A_leastDeadline mA_leastDeadline_i mA_leastDeadline_s eA_ini mA_leastDeadline_c
theorem hA_A_demand : Cond.methodLink nA_ 55 yA_demand ∈ tb_ := List.mem_filter.mpr ⟨List.mem_append_right _ (List.mem_of_getElem? (i := 91) (by decide +kernel)), rfl⟩
theorem gA_A_demand : GoodIn tb_ (wsV nA_ 55 nA_ yA_demand (.code yA_demand kA_demand 5 (some .int) :: tb_)) := e_gV hA_A_demand mA_demand_i mA_demand_s eA_ini mA_demand_c
theorem hA_A_deadlineBefore : Cond.methodLink nA_ 59 yA_deadlineBefore ∈ tb_ := List.mem_filter.mpr ⟨List.mem_append_right _ (List.mem_of_getElem? (i := 95) (by decide +kernel)), rfl⟩
theorem gA_A_deadlineBefore : GoodIn tb_ (wsV nA_ 59 nA_ yA_deadlineBefore (.code yA_deadlineBefore kA_deadlineBefore 6 (some .int) :: tb_)) := e_gV hA_A_deadlineBefore mA_deadlineBefore_i mA_deadlineBefore_s eA_ini mA_deadlineBefore_c
theorem hA_A_placeSplit : Cond.methodLink nA_ 84 yA_placeSplit ∈ tb_ := List.mem_filter.mpr ⟨List.mem_append_right _ (List.mem_of_getElem? (i := 99) (by decide +kernel)), rfl⟩
theorem gA_A_placeSplit : GoodIn tb_ (wsV nA_ 84 nA_ yA_placeSplit (.code yA_placeSplit kA_placeSplit 9 (some .boolean) :: tb_)) := e_gV hA_A_placeSplit mA_placeSplit_i mA_placeSplit_s eA_ini mA_placeSplit_c
theorem hA_A_coreForRest : Cond.methodLink nA_ 91 yA_coreForRest ∈ tb_ := List.mem_filter.mpr ⟨List.mem_append_right _ (List.mem_of_getElem? (i := 103) (by decide +kernel)), rfl⟩
theorem gA_A_coreForRest : GoodIn tb_ (wsV nA_ 91 nA_ yA_coreForRest (.code yA_coreForRest kA_coreForRest 7 (some .int) :: tb_)) := e_gV hA_A_coreForRest mA_coreForRest_i mA_coreForRest_s eA_ini mA_coreForRest_c
theorem hL_A_remove : Cond.methodLink R_law 26 yA_remove ∈ tb_ := List.mem_filter.mpr ⟨List.mem_append_right _ (List.mem_of_getElem? (i := 107) (by decide +kernel)), rfl⟩
theorem gL_A_remove : GoodIn tb_ (wsV R_law 26 nA_ yA_remove (.code yA_remove kA_remove 2 (some .int) :: tb_)) := e_gV hL_A_remove mA_remove_i mA_remove_s eA_ini mA_remove_c
theorem hA_A_noTask : Cond.methodLink nA_ 95 yA_noTask ∈ tb_ := List.mem_filter.mpr ⟨List.mem_append_right _ (List.mem_of_getElem? (i := 111) (by decide +kernel)), rfl⟩
theorem gA_A_noTask : GoodIn tb_ (wsV nA_ 95 nA_ yA_noTask (.code yA_noTask kA_noTask 2 (some .boolean) :: tb_)) := e_gV hA_A_noTask mA_noTask_i mA_noTask_s eA_ini mA_noTask_c
theorem hL_A_core : Cond.methodLink R_law 31 yA_core ∈ tb_ := List.mem_filter.mpr ⟨List.mem_append_right _ (List.mem_of_getElem? (i := 115) (by decide +kernel)), rfl⟩
theorem gL_A_core : GoodIn tb_ (wsV R_law 31 nA_ yA_core (.code yA_core kA_core 2 (some .int) :: tb_)) := e_gV hL_A_core mA_core_i mA_core_s eA_ini mA_core_c
theorem hL_A_secondCore : Cond.methodLink R_law 35 yA_secondCore ∈ tb_ := List.mem_filter.mpr ⟨List.mem_append_right _ (List.mem_of_getElem? (i := 119) (by decide +kernel)), rfl⟩
theorem gL_A_secondCore : GoodIn tb_ (wsV R_law 35 nA_ yA_secondCore (.code yA_secondCore kA_secondCore 2 (some .int) :: tb_)) := e_gV hL_A_secondCore mA_secondCore_i mA_secondCore_s eA_ini mA_secondCore_c
theorem hL_A_firstCost : Cond.methodLink R_law 39 yA_firstCost ∈ tb_ := List.mem_filter.mpr ⟨List.mem_append_right _ (List.mem_of_getElem? (i := 123) (by decide +kernel)), rfl⟩
theorem gL_A_firstCost : GoodIn tb_ (wsV R_law 39 nA_ yA_firstCost (.code yA_firstCost kA_firstCost 2 (some .int) :: tb_)) := e_gV hL_A_firstCost mA_firstCost_i mA_firstCost_s eA_ini mA_firstCost_c
theorem hL_A_load : Cond.methodLink R_law 43 yA_load ∈ tb_ := List.mem_filter.mpr ⟨List.mem_append_right _ (List.mem_of_getElem? (i := 127) (by decide +kernel)), rfl⟩
theorem gL_A_load : GoodIn tb_ (wsV R_law 43 nA_ yA_load (.code yA_load kA_load 2 (some .int) :: tb_)) := e_gV hL_A_load mA_load_i mA_load_s eA_ini mA_load_c
theorem hA_A_badCore : Cond.methodLink nA_ 108 yA_badCore ∈ tb_ := List.mem_filter.mpr ⟨List.mem_append_right _ (List.mem_of_getElem? (i := 131) (by decide +kernel)), rfl⟩
theorem gA_A_badCore : GoodIn tb_ (wsV nA_ 108 nA_ yA_badCore (.code yA_badCore kA_badCore 2 (some .boolean) :: tb_)) := e_gV hA_A_badCore mA_badCore_i mA_badCore_s eA_ini mA_badCore_c
theorem hL_A_running : Cond.methodLink R_law 47 yA_running ∈ tb_ := List.mem_filter.mpr ⟨List.mem_append_right _ (List.mem_of_getElem? (i := 135) (by decide +kernel)), rfl⟩
theorem gL_A_running : GoodIn tb_ (wsV R_law 47 nA_ yA_running (.code yA_running kA_running 4 (some .int) :: tb_)) := e_gV hL_A_running mA_running_i mA_running_s eA_ini mA_running_c
theorem hA_A_plan : Cond.methodLink nA_ 111 yA_plan ∈ tb_ := List.mem_filter.mpr ⟨List.mem_append_right _ (List.mem_of_getElem? (i := 139) (by decide +kernel)), rfl⟩
theorem gA_A_plan : GoodIn tb_ (wsV nA_ 111 nA_ yA_plan (.code yA_plan kA_plan 4 none :: tb_)) := e_gV hA_A_plan mA_plan_i mA_plan_s eA_ini mA_plan_c
theorem hA_A_stretch : Cond.methodLink nA_ 101 yA_stretch ∈ tb_ := List.mem_filter.mpr ⟨List.mem_append_right _ (List.mem_of_getElem? (i := 143) (by decide +kernel)), rfl⟩
theorem gA_A_stretch : GoodIn tb_ (wsV nA_ 101 nA_ yA_stretch (.code yA_stretch kA_stretch 7 (some .int) :: tb_)) := e_gV hA_A_stretch mA_stretch_i mA_stretch_s eA_ini mA_stretch_c
theorem hA_A_advance : Cond.methodLink nA_ 104 yA_advance ∈ tb_ := List.mem_filter.mpr ⟨List.mem_append_right _ (List.mem_of_getElem? (i := 147) (by decide +kernel)), rfl⟩
theorem gA_A_advance : GoodIn tb_ (wsV nA_ 104 nA_ yA_advance (.code yA_advance kA_advance 5 none :: tb_)) := e_gV hA_A_advance mA_advance_i mA_advance_s eA_ini mA_advance_c
theorem hL_A_response : Cond.methodLink R_law 52 yA_response ∈ tb_ := List.mem_filter.mpr ⟨List.mem_append_right _ (List.mem_of_getElem? (i := 151) (by decide +kernel)), rfl⟩
theorem gL_A_response : GoodIn tb_ (wsV R_law 52 nA_ yA_response (.code yA_response kA_response 3 (some .int) :: tb_)) := e_gV hL_A_response mA_response_i mA_response_s eA_ini mA_response_c
theorem hL_A_spare : Cond.methodLink R_law 56 yA_spare ∈ tb_ := List.mem_filter.mpr ⟨List.mem_append_right _ (List.mem_of_getElem? (i := 155) (by decide +kernel)), rfl⟩
theorem gL_A_spare : GoodIn tb_ (wsV R_law 56 nA_ yA_spare (.code yA_spare kA_spare 8 (some .int) :: tb_)) := e_gV hL_A_spare mA_spare_i mA_spare_s eA_ini mA_spare_c
theorem hL_L_cell : Cond.methodLink R_law 9 yL_cell ∈ tb_ := List.mem_filter.mpr ⟨List.mem_append_right _ (List.mem_of_getElem? (i := 159) (by decide +kernel)), rfl⟩
theorem gL_L_cell : GoodIn tb_ (wsS R_law 9 yL_cell (.code yL_cell kL_cell 2 (some .int) :: tb_)) := e_gS hL_L_cell mL_cell_t eL_ini mL_cell_c
theorem hL_B_init : Cond.methodLink R_law 20 yB_init ∈ tb_ := List.mem_filter.mpr ⟨List.mem_append_right _ (List.mem_of_getElem? (i := 164) (by decide +kernel)), rfl⟩
theorem gL_B_init : GoodIn tb_ (.code yB_init kB_init 3 none :: tb_) := e_gC mB_init_c
theorem oB_ : Cond.methodLink "SemiPartEdfModel" 1 objectInit ∈ tb_ := List.mem_filter.mpr ⟨List.mem_append_right _ (List.mem_of_getElem? (i := 167) (by decide +kernel)), rfl⟩
theorem hL_B_admit : Cond.methodLink R_law 25 yB_admit ∈ tb_ := List.mem_filter.mpr ⟨List.mem_append_right _ (List.mem_of_getElem? (i := 211) (by decide +kernel)), rfl⟩
theorem gL_B_admit : GoodIn tb_ (wsV R_law 25 nB_ yB_admit (.code yB_admit kB_admit 9 (some .int) :: tb_)) := e_gV hL_B_admit mB_admit_i mB_admit_s eB_ini mB_admit_c
theorem hB_B_badPeriod : Cond.methodLink nB_ 65 yB_badPeriod ∈ tb_ := List.mem_filter.mpr ⟨List.mem_append_right _ (List.mem_of_getElem? (i := 215) (by decide +kernel)), rfl⟩
theorem gB_B_badPeriod : GoodIn tb_ (wsV nB_ 65 nB_ yB_badPeriod (.code yB_badPeriod kB_badPeriod 2 (some .boolean) :: tb_)) := e_gV hB_B_badPeriod mB_badPeriod_i mB_badPeriod_s eB_ini mB_badPeriod_c
theorem hB_B_count : Cond.methodLink nB_ 68 yB_count ∈ tb_ := List.mem_filter.mpr ⟨List.mem_append_right _ (List.mem_of_getElem? (i := 219) (by decide +kernel)), rfl⟩
theorem gB_B_count : GoodIn tb_ (wsV nB_ 68 nB_ yB_count (.code yB_count kB_count 3 (some .int) :: tb_)) := e_gV hB_B_count mB_count_i mB_count_s eB_ini mB_count_c
theorem hB_B_freeId : Cond.methodLink nB_ 72 yB_freeId ∈ tb_ := List.mem_filter.mpr ⟨List.mem_append_right _ (List.mem_of_getElem? (i := 223) (by decide +kernel)), rfl⟩
theorem gB_B_freeId : GoodIn tb_ (wsV nB_ 72 nB_ yB_freeId (.code yB_freeId kB_freeId 2 (some .int) :: tb_)) := e_gV hB_B_freeId mB_freeId_i mB_freeId_s eB_ini mB_freeId_c
theorem hB_B_takes : Cond.methodLink nB_ 75 yB_takes ∈ tb_ := List.mem_filter.mpr ⟨List.mem_append_right _ (List.mem_of_getElem? (i := 227) (by decide +kernel)), rfl⟩
theorem gB_B_takes : GoodIn tb_ (wsV nB_ 75 nB_ yB_takes (.code yB_takes kB_takes 6 (some .boolean) :: tb_)) := e_gV hB_B_takes mB_takes_i mB_takes_s eB_ini mB_takes_c
theorem hB_B_parts : Cond.methodLink nB_ 57 yB_parts ∈ tb_ := List.mem_filter.mpr ⟨List.mem_append_right _ (List.mem_of_getElem? (i := 231) (by decide +kernel)), rfl⟩
theorem gB_B_parts : GoodIn tb_ (wsV nB_ 57 nB_ yB_parts (.code yB_parts kB_parts 4 none :: tb_)) := e_gV hB_B_parts mB_parts_i mB_parts_s eB_ini mB_parts_c
theorem hB_B_runs : Cond.methodLink nB_ 61 yB_runs ∈ tb_ := List.mem_filter.mpr ⟨List.mem_append_right _ (List.mem_of_getElem? (i := 235) (by decide +kernel)), rfl⟩
theorem gB_B_runs : GoodIn tb_ (wsV nB_ 61 nB_ yB_runs (.code yB_runs kB_runs 4 (some .boolean) :: tb_)) := e_gV hB_B_runs mB_runs_i mB_runs_s eB_ini mB_runs_c
theorem hB_B_release : Cond.methodLink nB_ 53 yB_release ∈ tb_ := List.mem_filter.mpr ⟨List.mem_append_right _ (List.mem_of_getElem? (i := 239) (by decide +kernel)), rfl⟩
theorem gB_B_release : GoodIn tb_ (wsV nB_ 53 nB_ yB_release (.code yB_release kB_release 3 (some .boolean) :: tb_)) := e_gV hB_B_release mB_release_i mB_release_s eB_ini mB_release_c
theorem hB_B_place : Cond.methodLink nB_ 79 yB_place ∈ tb_ := List.mem_filter.mpr ⟨List.mem_append_right _ (List.mem_of_getElem? (i := 243) (by decide +kernel)), rfl⟩
theorem gB_B_place : GoodIn tb_ (wsV nB_ 79 nB_ yB_place (.code yB_place kB_place 5 (some .int) :: tb_)) := e_gV hB_B_place mB_place_i mB_place_s eB_ini mB_place_c
theorem hB_B_second : Cond.methodLink nB_ 83 yB_second ∈ tb_ := List.mem_filter.mpr ⟨List.mem_append_right _ (List.mem_of_getElem? (i := 247) (by decide +kernel)), rfl⟩
theorem gB_B_second : GoodIn tb_ (wsV nB_ 83 nB_ yB_second (.code yB_second kB_second 7 (some .int) :: tb_)) := e_gV hB_B_second mB_second_i mB_second_s eB_ini mB_second_c
theorem hL_B_remove : Cond.methodLink R_law 30 yB_remove ∈ tb_ := List.mem_filter.mpr ⟨List.mem_append_right _ (List.mem_of_getElem? (i := 251) (by decide +kernel)), rfl⟩
theorem gL_B_remove : GoodIn tb_ (wsV R_law 30 nB_ yB_remove (.code yB_remove kB_remove 2 (some .int) :: tb_)) := e_gV hL_B_remove mB_remove_i mB_remove_s eB_ini mB_remove_c
theorem hB_B_none : Cond.methodLink nB_ 87 yB_none ∈ tb_ := List.mem_filter.mpr ⟨List.mem_append_right _ (List.mem_of_getElem? (i := 255) (by decide +kernel)), rfl⟩
theorem gB_B_none : GoodIn tb_ (wsV nB_ 87 nB_ yB_none (.code yB_none kB_none 2 (some .boolean) :: tb_)) := e_gV hB_B_none mB_none_i mB_none_s eB_ini mB_none_c
theorem hL_B_core : Cond.methodLink R_law 34 yB_core ∈ tb_ := List.mem_filter.mpr ⟨List.mem_append_right _ (List.mem_of_getElem? (i := 259) (by decide +kernel)), rfl⟩
theorem gL_B_core : GoodIn tb_ (wsV R_law 34 nB_ yB_core (.code yB_core kB_core 2 (some .int) :: tb_)) := e_gV hL_B_core mB_core_i mB_core_s eB_ini mB_core_c
theorem hL_B_secondCore : Cond.methodLink R_law 38 yB_secondCore ∈ tb_ := List.mem_filter.mpr ⟨List.mem_append_right _ (List.mem_of_getElem? (i := 263) (by decide +kernel)), rfl⟩
theorem gL_B_secondCore : GoodIn tb_ (wsV R_law 38 nB_ yB_secondCore (.code yB_secondCore kB_secondCore 2 (some .int) :: tb_)) := e_gV hL_B_secondCore mB_secondCore_i mB_secondCore_s eB_ini mB_secondCore_c
theorem hL_B_firstCost : Cond.methodLink R_law 42 yB_firstCost ∈ tb_ := List.mem_filter.mpr ⟨List.mem_append_right _ (List.mem_of_getElem? (i := 267) (by decide +kernel)), rfl⟩
theorem gL_B_firstCost : GoodIn tb_ (wsV R_law 42 nB_ yB_firstCost (.code yB_firstCost kB_firstCost 2 (some .int) :: tb_)) := e_gV hL_B_firstCost mB_firstCost_i mB_firstCost_s eB_ini mB_firstCost_c
theorem hL_B_load : Cond.methodLink R_law 46 yB_load ∈ tb_ := List.mem_filter.mpr ⟨List.mem_append_right _ (List.mem_of_getElem? (i := 271) (by decide +kernel)), rfl⟩
theorem gL_B_load : GoodIn tb_ (wsV R_law 46 nB_ yB_load (.code yB_load kB_load 4 (some .int) :: tb_)) := e_gV hL_B_load mB_load_i mB_load_s eB_ini mB_load_c
theorem hB_B_badCore : Cond.methodLink nB_ 90 yB_badCore ∈ tb_ := List.mem_filter.mpr ⟨List.mem_append_right _ (List.mem_of_getElem? (i := 275) (by decide +kernel)), rfl⟩
theorem gB_B_badCore : GoodIn tb_ (wsV nB_ 90 nB_ yB_badCore (.code yB_badCore kB_badCore 2 (some .boolean) :: tb_)) := e_gV hB_B_badCore mB_badCore_i mB_badCore_s eB_ini mB_badCore_c
theorem hL_B_running : Cond.methodLink R_law 51 yB_running ∈ tb_ := List.mem_filter.mpr ⟨List.mem_append_right _ (List.mem_of_getElem? (i := 279) (by decide +kernel)), rfl⟩
theorem gL_B_running : GoodIn tb_ (wsV R_law 51 nB_ yB_running (.code yB_running kB_running 3 (some .int) :: tb_)) := e_gV hL_B_running mB_running_i mB_running_s eB_ini mB_running_c
theorem hL_B_response : Cond.methodLink R_law 55 yB_response ∈ tb_ := List.mem_filter.mpr ⟨List.mem_append_right _ (List.mem_of_getElem? (i := 283) (by decide +kernel)), rfl⟩
theorem gL_B_response : GoodIn tb_ (wsV R_law 55 nB_ yB_response (.code yB_response kB_response 3 (some .int) :: tb_)) := e_gV hL_B_response mB_response_i mB_response_s eB_ini mB_response_c
theorem hL_B_spare : Cond.methodLink R_law 59 yB_spare ∈ tb_ := List.mem_filter.mpr ⟨List.mem_append_right _ (List.mem_of_getElem? (i := 287) (by decide +kernel)), rfl⟩
theorem gL_B_spare : GoodIn tb_ (wsV R_law 59 nB_ yB_spare (.code yB_spare kB_spare 5 (some .int) :: tb_)) := e_gV hL_B_spare mB_spare_i mB_spare_s eB_ini mB_spare_c
theorem qA_ : Cond.classLink R_law 7 nA_ ∈ tb_ := List.mem_filter.mpr ⟨List.mem_append_right _ (List.mem_of_getElem? (i := 3) (by decide +kernel)), rfl⟩
theorem qB_ : Cond.classLink R_law 18 nB_ ∈ tb_ := List.mem_filter.mpr ⟨List.mem_append_right _ (List.mem_of_getElem? (i := 162) (by decide +kernel)), rfl⟩
theorem vA_ : Cond.instantiable nA_ 14 ∈ tb_ := List.mem_filter.mpr ⟨List.mem_append_right _ (List.mem_of_getElem? (i := 4) (by decide +kernel)), rfl⟩
theorem vB_ : Cond.instantiable nB_ 14 ∈ tb_ := List.mem_filter.mpr ⟨List.mem_append_right _ (List.mem_of_getElem? (i := 163) (by decide +kernel)), rfl⟩
theorem oO_i : Cond.instanceMethod objectInit ∈ tb_ := List.mem_filter.mpr ⟨List.mem_append_right _ (List.mem_of_getElem? (i := 9) (by decide +kernel)), rfl⟩
theorem oO_c : Cond.code objectInit ⟨#[0xb1]⟩ 1 none ∈ tb_ := List.mem_filter.mpr ⟨List.mem_append_right _ (List.mem_of_getElem? (i := 10) rfl), rfl⟩
end
section
/-! decode rows, printed by program -/
theorem dA_init_0 : decode kA_init 0 = .ok (.aload_n 0, 1) := by decide +kernel
theorem dA_init_1 : decode kA_init 1 = .ok (.invokespecial 1, 3) := by decide +kernel
theorem dA_init_4 : decode kA_init 4 = .ok (.aload_n 0, 1) := by decide +kernel
theorem dA_init_5 : decode kA_init 5 = .ok (.bipush 13, 2) := by decide +kernel
theorem dA_init_7 : decode kA_init 7 = .ok (.newarray .boolean, 2) := by decide +kernel
theorem dA_init_9 : decode kA_init 9 = .ok (.putfield 7, 3) := by decide +kernel
theorem dA_init_12 : decode kA_init 12 = .ok (.aload_n 0, 1) := by decide +kernel
theorem dA_init_13 : decode kA_init 13 = .ok (.bipush 13, 2) := by decide +kernel
theorem dA_init_15 : decode kA_init 15 = .ok (.newarray .int, 2) := by decide +kernel
theorem dA_init_17 : decode kA_init 17 = .ok (.putfield 13, 3) := by decide +kernel
theorem dA_init_20 : decode kA_init 20 = .ok (.aload_n 0, 1) := by decide +kernel
theorem dA_init_21 : decode kA_init 21 = .ok (.bipush 26, 2) := by decide +kernel
theorem dA_init_23 : decode kA_init 23 = .ok (.newarray .int, 2) := by decide +kernel
theorem dA_init_25 : decode kA_init 25 = .ok (.putfield 17, 3) := by decide +kernel
theorem dA_init_28 : decode kA_init 28 = .ok (.aload_n 0, 1) := by decide +kernel
theorem dA_init_29 : decode kA_init 29 = .ok (.bipush 26, 2) := by decide +kernel
theorem dA_init_31 : decode kA_init 31 = .ok (.newarray .int, 2) := by decide +kernel
theorem dA_init_33 : decode kA_init 33 = .ok (.putfield 20, 3) := by decide +kernel
theorem dA_init_36 : decode kA_init 36 = .ok (.aload_n 0, 1) := by decide +kernel
theorem dA_init_37 : decode kA_init 37 = .ok (.bipush 26, 2) := by decide +kernel
theorem dA_init_39 : decode kA_init 39 = .ok (.newarray .int, 2) := by decide +kernel
theorem dA_init_41 : decode kA_init 41 = .ok (.putfield 23, 3) := by decide +kernel
theorem dA_init_44 : decode kA_init 44 = .ok (.aload_n 0, 1) := by decide +kernel
theorem dA_init_45 : decode kA_init 45 = .ok (.bipush 64, 2) := by decide +kernel
theorem dA_init_47 : decode kA_init 47 = .ok (.newarray .int, 2) := by decide +kernel
theorem dA_init_49 : decode kA_init 49 = .ok (.putfield 26, 3) := by decide +kernel
theorem dA_init_52 : decode kA_init 52 = .ok (.aload_n 0, 1) := by decide +kernel
theorem dA_init_53 : decode kA_init 53 = .ok (.bipush 64, 2) := by decide +kernel
theorem dA_init_55 : decode kA_init 55 = .ok (.newarray .int, 2) := by decide +kernel
theorem dA_init_57 : decode kA_init 57 = .ok (.putfield 29, 3) := by decide +kernel
theorem dA_init_60 : decode kA_init 60 = .ok (.aload_n 0, 1) := by decide +kernel
theorem dA_init_61 : decode kA_init 61 = .ok (.bipush 26, 2) := by decide +kernel
theorem dA_init_63 : decode kA_init 63 = .ok (.newarray .int, 2) := by decide +kernel
theorem dA_init_65 : decode kA_init 65 = .ok (.putfield 32, 3) := by decide +kernel
theorem dA_init_68 : decode kA_init 68 = .ok (.aload_n 0, 1) := by decide +kernel
theorem dA_init_69 : decode kA_init 69 = .ok (.bipush 26, 2) := by decide +kernel
theorem dA_init_71 : decode kA_init 71 = .ok (.newarray .int, 2) := by decide +kernel
theorem dA_init_73 : decode kA_init 73 = .ok (.putfield 35, 3) := by decide +kernel
theorem dA_init_76 : decode kA_init 76 = .ok (.aload_n 0, 1) := by decide +kernel
theorem dA_init_77 : decode kA_init 77 = .ok (.bipush 26, 2) := by decide +kernel
theorem dA_init_79 : decode kA_init 79 = .ok (.newarray .int, 2) := by decide +kernel
theorem dA_init_81 : decode kA_init 81 = .ok (.putfield 38, 3) := by decide +kernel
theorem dA_init_84 : decode kA_init 84 = .ok (.iload_n 1, 1) := by decide +kernel
theorem dA_init_85 : decode kA_init 85 = .ok (.istore_n 2, 1) := by decide +kernel
theorem dA_init_86 : decode kA_init 86 = .ok (.iload_n 2, 1) := by decide +kernel
theorem dA_init_87 : decode kA_init 87 = .ok (.iconst 1, 1) := by decide +kernel
theorem dA_init_88 : decode kA_init 88 = .ok (.if_icmp .ge 5, 3) := by decide +kernel
theorem dA_init_91 : decode kA_init 91 = .ok (.iconst 1, 1) := by decide +kernel
theorem dA_init_92 : decode kA_init 92 = .ok (.istore_n 2, 1) := by decide +kernel
theorem dA_init_93 : decode kA_init 93 = .ok (.iload_n 2, 1) := by decide +kernel
theorem dA_init_94 : decode kA_init 94 = .ok (.iconst 3, 1) := by decide +kernel
theorem dA_init_95 : decode kA_init 95 = .ok (.if_icmp .le 5, 3) := by decide +kernel
theorem dA_init_98 : decode kA_init 98 = .ok (.iconst 3, 1) := by decide +kernel
theorem dA_init_99 : decode kA_init 99 = .ok (.istore_n 2, 1) := by decide +kernel
theorem dA_init_100 : decode kA_init 100 = .ok (.aload_n 0, 1) := by decide +kernel
theorem dA_init_101 : decode kA_init 101 = .ok (.iload_n 2, 1) := by decide +kernel
theorem dA_init_102 : decode kA_init 102 = .ok (.putfield 41, 3) := by decide +kernel
theorem dA_init_105 : decode kA_init 105 = .ok (.iconst 0, 1) := by decide +kernel
theorem dA_init_106 : decode kA_init 106 = .ok (.istore_n 3, 1) := by decide +kernel
theorem dA_init_107 : decode kA_init 107 = .ok (.iload_n 3, 1) := by decide +kernel
theorem dA_init_108 : decode kA_init 108 = .ok (.bipush 26, 2) := by decide +kernel
theorem dA_init_110 : decode kA_init 110 = .ok (.if_icmp .ge 16, 3) := by decide +kernel
theorem dA_init_113 : decode kA_init 113 = .ok (.aload_n 0, 1) := by decide +kernel
theorem dA_init_114 : decode kA_init 114 = .ok (.getfield 17, 3) := by decide +kernel
theorem dA_init_117 : decode kA_init 117 = .ok (.iload_n 3, 1) := by decide +kernel
theorem dA_init_118 : decode kA_init 118 = .ok (.iconst (-1), 1) := by decide +kernel
theorem dA_init_119 : decode kA_init 119 = .ok (.iastore, 1) := by decide +kernel
theorem dA_init_120 : decode kA_init 120 = .ok (.iinc 3 1, 3) := by decide +kernel
theorem dA_init_123 : decode kA_init 123 = .ok (.goto (-16), 3) := by decide +kernel
theorem dA_init_126 : decode kA_init 126 = .ok (.aload_n 0, 1) := by decide +kernel
theorem dA_init_127 : decode kA_init 127 = .ok (.iconst (-1), 1) := by decide +kernel
theorem dA_init_128 : decode kA_init 128 = .ok (.putfield 45, 3) := by decide +kernel
theorem dA_init_131 : decode kA_init 131 = .ok (.return_, 1) := by decide +kernel
theorem dA_badPeriod_0 : decode kA_badPeriod 0 = .ok (.iload_n 0, 1) := by decide +kernel
theorem dA_badPeriod_1 : decode kA_badPeriod 1 = .ok (.iconst 2, 1) := by decide +kernel
theorem dA_badPeriod_2 : decode kA_badPeriod 2 = .ok (.if_icmp .lt 16, 3) := by decide +kernel
theorem dA_badPeriod_5 : decode kA_badPeriod 5 = .ok (.iload_n 0, 1) := by decide +kernel
theorem dA_badPeriod_6 : decode kA_badPeriod 6 = .ok (.bipush 60, 2) := by decide +kernel
theorem dA_badPeriod_8 : decode kA_badPeriod 8 = .ok (.if_icmp .gt 10, 3) := by decide +kernel
theorem dA_badPeriod_11 : decode kA_badPeriod 11 = .ok (.bipush 60, 2) := by decide +kernel
theorem dA_badPeriod_13 : decode kA_badPeriod 13 = .ok (.iload_n 0, 1) := by decide +kernel
theorem dA_badPeriod_14 : decode kA_badPeriod 14 = .ok (.irem, 1) := by decide +kernel
theorem dA_badPeriod_15 : decode kA_badPeriod 15 = .ok (.ifCond .eq 7, 3) := by decide +kernel
theorem dA_badPeriod_18 : decode kA_badPeriod 18 = .ok (.iconst 1, 1) := by decide +kernel
theorem dA_badPeriod_19 : decode kA_badPeriod 19 = .ok (.goto 4, 3) := by decide +kernel
theorem dA_badPeriod_22 : decode kA_badPeriod 22 = .ok (.iconst 0, 1) := by decide +kernel
theorem dA_badPeriod_23 : decode kA_badPeriod 23 = .ok (.ireturn, 1) := by decide +kernel
theorem dA_noTask_0 : decode kA_noTask 0 = .ok (.iload_n 1, 1) := by decide +kernel
theorem dA_noTask_1 : decode kA_noTask 1 = .ok (.ifCond .lt 18, 3) := by decide +kernel
theorem dA_noTask_4 : decode kA_noTask 4 = .ok (.iload_n 1, 1) := by decide +kernel
theorem dA_noTask_5 : decode kA_noTask 5 = .ok (.bipush 12, 2) := by decide +kernel
theorem dA_noTask_7 : decode kA_noTask 7 = .ok (.if_icmp .ge 12, 3) := by decide +kernel
theorem dA_noTask_10 : decode kA_noTask 10 = .ok (.aload_n 0, 1) := by decide +kernel
theorem dA_noTask_11 : decode kA_noTask 11 = .ok (.getfield 7, 3) := by decide +kernel
theorem dA_noTask_14 : decode kA_noTask 14 = .ok (.iload_n 1, 1) := by decide +kernel
theorem dA_noTask_15 : decode kA_noTask 15 = .ok (.baload, 1) := by decide +kernel
theorem dA_noTask_16 : decode kA_noTask 16 = .ok (.ifCond .ne 7, 3) := by decide +kernel
theorem dA_noTask_19 : decode kA_noTask 19 = .ok (.iconst 1, 1) := by decide +kernel
theorem dA_noTask_20 : decode kA_noTask 20 = .ok (.goto 4, 3) := by decide +kernel
theorem dA_noTask_23 : decode kA_noTask 23 = .ok (.iconst 0, 1) := by decide +kernel
theorem dA_noTask_24 : decode kA_noTask 24 = .ok (.ireturn, 1) := by decide +kernel
theorem dA_badCore_0 : decode kA_badCore 0 = .ok (.iload_n 1, 1) := by decide +kernel
theorem dA_badCore_1 : decode kA_badCore 1 = .ok (.ifCond .lt 11, 3) := by decide +kernel
theorem dA_badCore_4 : decode kA_badCore 4 = .ok (.iload_n 1, 1) := by decide +kernel
theorem dA_badCore_5 : decode kA_badCore 5 = .ok (.aload_n 0, 1) := by decide +kernel
theorem dA_badCore_6 : decode kA_badCore 6 = .ok (.getfield 41, 3) := by decide +kernel
theorem dA_badCore_9 : decode kA_badCore 9 = .ok (.if_icmp .lt 7, 3) := by decide +kernel
theorem dA_badCore_12 : decode kA_badCore 12 = .ok (.iconst 1, 1) := by decide +kernel
theorem dA_badCore_13 : decode kA_badCore 13 = .ok (.goto 4, 3) := by decide +kernel
theorem dA_badCore_16 : decode kA_badCore 16 = .ok (.iconst 0, 1) := by decide +kernel
theorem dA_badCore_17 : decode kA_badCore 17 = .ok (.ireturn, 1) := by decide +kernel
theorem dA_loadOf_0 : decode kA_loadOf 0 = .ok (.iconst 0, 1) := by decide +kernel
theorem dA_loadOf_1 : decode kA_loadOf 1 = .ok (.istore_n 2, 1) := by decide +kernel
theorem dA_loadOf_2 : decode kA_loadOf 2 = .ok (.iconst 0, 1) := by decide +kernel
theorem dA_loadOf_3 : decode kA_loadOf 3 = .ok (.istore_n 3, 1) := by decide +kernel
theorem dA_loadOf_4 : decode kA_loadOf 4 = .ok (.iload_n 3, 1) := by decide +kernel
theorem dA_loadOf_5 : decode kA_loadOf 5 = .ok (.bipush 26, 2) := by decide +kernel
theorem dA_loadOf_7 : decode kA_loadOf 7 = .ok (.if_icmp .ge 40, 3) := by decide +kernel
theorem dA_loadOf_10 : decode kA_loadOf 10 = .ok (.aload_n 0, 1) := by decide +kernel
theorem dA_loadOf_11 : decode kA_loadOf 11 = .ok (.getfield 17, 3) := by decide +kernel
theorem dA_loadOf_14 : decode kA_loadOf 14 = .ok (.iload_n 3, 1) := by decide +kernel
theorem dA_loadOf_15 : decode kA_loadOf 15 = .ok (.iaload, 1) := by decide +kernel
theorem dA_loadOf_16 : decode kA_loadOf 16 = .ok (.iload_n 1, 1) := by decide +kernel
theorem dA_loadOf_17 : decode kA_loadOf 17 = .ok (.if_icmp .ne 24, 3) := by decide +kernel
theorem dA_loadOf_20 : decode kA_loadOf 20 = .ok (.iload_n 2, 1) := by decide +kernel
theorem dA_loadOf_21 : decode kA_loadOf 21 = .ok (.aload_n 0, 1) := by decide +kernel
theorem dA_loadOf_22 : decode kA_loadOf 22 = .ok (.getfield 20, 3) := by decide +kernel
theorem dA_loadOf_25 : decode kA_loadOf 25 = .ok (.iload_n 3, 1) := by decide +kernel
theorem dA_loadOf_26 : decode kA_loadOf 26 = .ok (.iaload, 1) := by decide +kernel
theorem dA_loadOf_27 : decode kA_loadOf 27 = .ok (.bipush 60, 2) := by decide +kernel
theorem dA_loadOf_29 : decode kA_loadOf 29 = .ok (.aload_n 0, 1) := by decide +kernel
theorem dA_loadOf_30 : decode kA_loadOf 30 = .ok (.getfield 13, 3) := by decide +kernel
theorem dA_loadOf_33 : decode kA_loadOf 33 = .ok (.iload_n 3, 1) := by decide +kernel
theorem dA_loadOf_34 : decode kA_loadOf 34 = .ok (.iconst 2, 1) := by decide +kernel
theorem dA_loadOf_35 : decode kA_loadOf 35 = .ok (.idiv, 1) := by decide +kernel
theorem dA_loadOf_36 : decode kA_loadOf 36 = .ok (.iaload, 1) := by decide +kernel
theorem dA_loadOf_37 : decode kA_loadOf 37 = .ok (.idiv, 1) := by decide +kernel
theorem dA_loadOf_38 : decode kA_loadOf 38 = .ok (.imul, 1) := by decide +kernel
theorem dA_loadOf_39 : decode kA_loadOf 39 = .ok (.iadd, 1) := by decide +kernel
theorem dA_loadOf_40 : decode kA_loadOf 40 = .ok (.istore_n 2, 1) := by decide +kernel
theorem dA_loadOf_41 : decode kA_loadOf 41 = .ok (.iinc 3 1, 3) := by decide +kernel
theorem dA_loadOf_44 : decode kA_loadOf 44 = .ok (.goto (-40), 3) := by decide +kernel
theorem dA_loadOf_47 : decode kA_loadOf 47 = .ok (.iload_n 2, 1) := by decide +kernel
theorem dA_loadOf_48 : decode kA_loadOf 48 = .ok (.ireturn, 1) := by decide +kernel
theorem dA_demand_0 : decode kA_demand 0 = .ok (.iconst 0, 1) := by decide +kernel
theorem dA_demand_1 : decode kA_demand 1 = .ok (.istore_n 3, 1) := by decide +kernel
theorem dA_demand_2 : decode kA_demand 2 = .ok (.iconst 0, 1) := by decide +kernel
theorem dA_demand_3 : decode kA_demand 3 = .ok (.istore 4, 2) := by decide +kernel
theorem dA_demand_5 : decode kA_demand 5 = .ok (.iload 4, 2) := by decide +kernel
theorem dA_demand_7 : decode kA_demand 7 = .ok (.bipush 26, 2) := by decide +kernel
theorem dA_demand_9 : decode kA_demand 9 = .ok (.if_icmp .ge 63, 3) := by decide +kernel
theorem dA_demand_12 : decode kA_demand 12 = .ok (.aload_n 0, 1) := by decide +kernel
theorem dA_demand_13 : decode kA_demand 13 = .ok (.getfield 17, 3) := by decide +kernel
theorem dA_demand_16 : decode kA_demand 16 = .ok (.iload 4, 2) := by decide +kernel
theorem dA_demand_18 : decode kA_demand 18 = .ok (.iaload, 1) := by decide +kernel
theorem dA_demand_19 : decode kA_demand 19 = .ok (.iload_n 1, 1) := by decide +kernel
theorem dA_demand_20 : decode kA_demand 20 = .ok (.if_icmp .ne 46, 3) := by decide +kernel
theorem dA_demand_23 : decode kA_demand 23 = .ok (.iload_n 2, 1) := by decide +kernel
theorem dA_demand_24 : decode kA_demand 24 = .ok (.aload_n 0, 1) := by decide +kernel
theorem dA_demand_25 : decode kA_demand 25 = .ok (.getfield 23, 3) := by decide +kernel
theorem dA_demand_28 : decode kA_demand 28 = .ok (.iload 4, 2) := by decide +kernel
theorem dA_demand_30 : decode kA_demand 30 = .ok (.iaload, 1) := by decide +kernel
theorem dA_demand_31 : decode kA_demand 31 = .ok (.if_icmp .lt 35, 3) := by decide +kernel
theorem dA_demand_34 : decode kA_demand 34 = .ok (.iload_n 3, 1) := by decide +kernel
theorem dA_demand_35 : decode kA_demand 35 = .ok (.iload_n 2, 1) := by decide +kernel
theorem dA_demand_36 : decode kA_demand 36 = .ok (.aload_n 0, 1) := by decide +kernel
theorem dA_demand_37 : decode kA_demand 37 = .ok (.getfield 23, 3) := by decide +kernel
theorem dA_demand_40 : decode kA_demand 40 = .ok (.iload 4, 2) := by decide +kernel
theorem dA_demand_42 : decode kA_demand 42 = .ok (.iaload, 1) := by decide +kernel
theorem dA_demand_43 : decode kA_demand 43 = .ok (.isub, 1) := by decide +kernel
theorem dA_demand_44 : decode kA_demand 44 = .ok (.aload_n 0, 1) := by decide +kernel
theorem dA_demand_45 : decode kA_demand 45 = .ok (.getfield 13, 3) := by decide +kernel
theorem dA_demand_48 : decode kA_demand 48 = .ok (.iload 4, 2) := by decide +kernel
theorem dA_demand_50 : decode kA_demand 50 = .ok (.iconst 2, 1) := by decide +kernel
theorem dA_demand_51 : decode kA_demand 51 = .ok (.idiv, 1) := by decide +kernel
theorem dA_demand_52 : decode kA_demand 52 = .ok (.iaload, 1) := by decide +kernel
theorem dA_demand_53 : decode kA_demand 53 = .ok (.idiv, 1) := by decide +kernel
theorem dA_demand_54 : decode kA_demand 54 = .ok (.iconst 1, 1) := by decide +kernel
theorem dA_demand_55 : decode kA_demand 55 = .ok (.iadd, 1) := by decide +kernel
theorem dA_demand_56 : decode kA_demand 56 = .ok (.aload_n 0, 1) := by decide +kernel
theorem dA_demand_57 : decode kA_demand 57 = .ok (.getfield 20, 3) := by decide +kernel
theorem dA_demand_60 : decode kA_demand 60 = .ok (.iload 4, 2) := by decide +kernel
theorem dA_demand_62 : decode kA_demand 62 = .ok (.iaload, 1) := by decide +kernel
theorem dA_demand_63 : decode kA_demand 63 = .ok (.imul, 1) := by decide +kernel
theorem dA_demand_64 : decode kA_demand 64 = .ok (.iadd, 1) := by decide +kernel
theorem dA_demand_65 : decode kA_demand 65 = .ok (.istore_n 3, 1) := by decide +kernel
theorem dA_demand_66 : decode kA_demand 66 = .ok (.iinc 4 1, 3) := by decide +kernel
theorem dA_demand_69 : decode kA_demand 69 = .ok (.goto (-64), 3) := by decide +kernel
theorem dA_demand_72 : decode kA_demand 72 = .ok (.iload_n 3, 1) := by decide +kernel
theorem dA_demand_73 : decode kA_demand 73 = .ok (.ireturn, 1) := by decide +kernel
theorem dA_leastDeadline_0 : decode kA_leastDeadline 0 = .ok (.bipush 60, 2) := by decide +kernel
theorem dA_leastDeadline_2 : decode kA_leastDeadline 2 = .ok (.istore_n 2, 1) := by decide +kernel
theorem dA_leastDeadline_3 : decode kA_leastDeadline 3 = .ok (.iconst 0, 1) := by decide +kernel
theorem dA_leastDeadline_4 : decode kA_leastDeadline 4 = .ok (.istore_n 3, 1) := by decide +kernel
theorem dA_leastDeadline_5 : decode kA_leastDeadline 5 = .ok (.iload_n 3, 1) := by decide +kernel
theorem dA_leastDeadline_6 : decode kA_leastDeadline 6 = .ok (.bipush 26, 2) := by decide +kernel
theorem dA_leastDeadline_8 : decode kA_leastDeadline 8 = .ok (.if_icmp .ge 36, 3) := by decide +kernel
theorem dA_leastDeadline_11 : decode kA_leastDeadline 11 = .ok (.aload_n 0, 1) := by decide +kernel
theorem dA_leastDeadline_12 : decode kA_leastDeadline 12 = .ok (.getfield 17, 3) := by decide +kernel
theorem dA_leastDeadline_15 : decode kA_leastDeadline 15 = .ok (.iload_n 3, 1) := by decide +kernel
theorem dA_leastDeadline_16 : decode kA_leastDeadline 16 = .ok (.iaload, 1) := by decide +kernel
theorem dA_leastDeadline_17 : decode kA_leastDeadline 17 = .ok (.iload_n 1, 1) := by decide +kernel
theorem dA_leastDeadline_18 : decode kA_leastDeadline 18 = .ok (.if_icmp .ne 20, 3) := by decide +kernel
theorem dA_leastDeadline_21 : decode kA_leastDeadline 21 = .ok (.aload_n 0, 1) := by decide +kernel
theorem dA_leastDeadline_22 : decode kA_leastDeadline 22 = .ok (.getfield 23, 3) := by decide +kernel
theorem dA_leastDeadline_25 : decode kA_leastDeadline 25 = .ok (.iload_n 3, 1) := by decide +kernel
theorem dA_leastDeadline_26 : decode kA_leastDeadline 26 = .ok (.iaload, 1) := by decide +kernel
theorem dA_leastDeadline_27 : decode kA_leastDeadline 27 = .ok (.iload_n 2, 1) := by decide +kernel
theorem dA_leastDeadline_28 : decode kA_leastDeadline 28 = .ok (.if_icmp .ge 10, 3) := by decide +kernel
theorem dA_leastDeadline_31 : decode kA_leastDeadline 31 = .ok (.aload_n 0, 1) := by decide +kernel
theorem dA_leastDeadline_32 : decode kA_leastDeadline 32 = .ok (.getfield 23, 3) := by decide +kernel
theorem dA_leastDeadline_35 : decode kA_leastDeadline 35 = .ok (.iload_n 3, 1) := by decide +kernel
theorem dA_leastDeadline_36 : decode kA_leastDeadline 36 = .ok (.iaload, 1) := by decide +kernel
theorem dA_leastDeadline_37 : decode kA_leastDeadline 37 = .ok (.istore_n 2, 1) := by decide +kernel
theorem dA_leastDeadline_38 : decode kA_leastDeadline 38 = .ok (.iinc 3 1, 3) := by decide +kernel
theorem dA_leastDeadline_41 : decode kA_leastDeadline 41 = .ok (.goto (-36), 3) := by decide +kernel
theorem dA_leastDeadline_44 : decode kA_leastDeadline 44 = .ok (.iload_n 2, 1) := by decide +kernel
theorem dA_leastDeadline_45 : decode kA_leastDeadline 45 = .ok (.ireturn, 1) := by decide +kernel
theorem dA_deadlineBefore_0 : decode kA_deadlineBefore 0 = .ok (.iconst 0, 1) := by decide +kernel
theorem dA_deadlineBefore_1 : decode kA_deadlineBefore 1 = .ok (.istore_n 3, 1) := by decide +kernel
theorem dA_deadlineBefore_2 : decode kA_deadlineBefore 2 = .ok (.iconst 0, 1) := by decide +kernel
theorem dA_deadlineBefore_3 : decode kA_deadlineBefore 3 = .ok (.istore 4, 2) := by decide +kernel
theorem dA_deadlineBefore_5 : decode kA_deadlineBefore 5 = .ok (.iload 4, 2) := by decide +kernel
theorem dA_deadlineBefore_7 : decode kA_deadlineBefore 7 = .ok (.bipush 26, 2) := by decide +kernel
theorem dA_deadlineBefore_9 : decode kA_deadlineBefore 9 = .ok (.if_icmp .ge 81, 3) := by decide +kernel
theorem dA_deadlineBefore_12 : decode kA_deadlineBefore 12 = .ok (.aload_n 0, 1) := by decide +kernel
theorem dA_deadlineBefore_13 : decode kA_deadlineBefore 13 = .ok (.getfield 17, 3) := by decide +kernel
theorem dA_deadlineBefore_16 : decode kA_deadlineBefore 16 = .ok (.iload 4, 2) := by decide +kernel
theorem dA_deadlineBefore_18 : decode kA_deadlineBefore 18 = .ok (.iaload, 1) := by decide +kernel
theorem dA_deadlineBefore_19 : decode kA_deadlineBefore 19 = .ok (.iload_n 1, 1) := by decide +kernel
theorem dA_deadlineBefore_20 : decode kA_deadlineBefore 20 = .ok (.if_icmp .ne 64, 3) := by decide +kernel
theorem dA_deadlineBefore_23 : decode kA_deadlineBefore 23 = .ok (.aload_n 0, 1) := by decide +kernel
theorem dA_deadlineBefore_24 : decode kA_deadlineBefore 24 = .ok (.getfield 23, 3) := by decide +kernel
theorem dA_deadlineBefore_27 : decode kA_deadlineBefore 27 = .ok (.iload 4, 2) := by decide +kernel
theorem dA_deadlineBefore_29 : decode kA_deadlineBefore 29 = .ok (.iaload, 1) := by decide +kernel
theorem dA_deadlineBefore_30 : decode kA_deadlineBefore 30 = .ok (.iload_n 2, 1) := by decide +kernel
theorem dA_deadlineBefore_31 : decode kA_deadlineBefore 31 = .ok (.if_icmp .ge 53, 3) := by decide +kernel
theorem dA_deadlineBefore_34 : decode kA_deadlineBefore 34 = .ok (.aload_n 0, 1) := by decide +kernel
theorem dA_deadlineBefore_35 : decode kA_deadlineBefore 35 = .ok (.getfield 23, 3) := by decide +kernel
theorem dA_deadlineBefore_38 : decode kA_deadlineBefore 38 = .ok (.iload 4, 2) := by decide +kernel
theorem dA_deadlineBefore_40 : decode kA_deadlineBefore 40 = .ok (.iaload, 1) := by decide +kernel
theorem dA_deadlineBefore_41 : decode kA_deadlineBefore 41 = .ok (.iload_n 2, 1) := by decide +kernel
theorem dA_deadlineBefore_42 : decode kA_deadlineBefore 42 = .ok (.iconst 1, 1) := by decide +kernel
theorem dA_deadlineBefore_43 : decode kA_deadlineBefore 43 = .ok (.isub, 1) := by decide +kernel
theorem dA_deadlineBefore_44 : decode kA_deadlineBefore 44 = .ok (.aload_n 0, 1) := by decide +kernel
theorem dA_deadlineBefore_45 : decode kA_deadlineBefore 45 = .ok (.getfield 23, 3) := by decide +kernel
theorem dA_deadlineBefore_48 : decode kA_deadlineBefore 48 = .ok (.iload 4, 2) := by decide +kernel
theorem dA_deadlineBefore_50 : decode kA_deadlineBefore 50 = .ok (.iaload, 1) := by decide +kernel
theorem dA_deadlineBefore_51 : decode kA_deadlineBefore 51 = .ok (.isub, 1) := by decide +kernel
theorem dA_deadlineBefore_52 : decode kA_deadlineBefore 52 = .ok (.aload_n 0, 1) := by decide +kernel
theorem dA_deadlineBefore_53 : decode kA_deadlineBefore 53 = .ok (.getfield 13, 3) := by decide +kernel
theorem dA_deadlineBefore_56 : decode kA_deadlineBefore 56 = .ok (.iload 4, 2) := by decide +kernel
theorem dA_deadlineBefore_58 : decode kA_deadlineBefore 58 = .ok (.iconst 2, 1) := by decide +kernel
theorem dA_deadlineBefore_59 : decode kA_deadlineBefore 59 = .ok (.idiv, 1) := by decide +kernel
theorem dA_deadlineBefore_60 : decode kA_deadlineBefore 60 = .ok (.iaload, 1) := by decide +kernel
theorem dA_deadlineBefore_61 : decode kA_deadlineBefore 61 = .ok (.idiv, 1) := by decide +kernel
theorem dA_deadlineBefore_62 : decode kA_deadlineBefore 62 = .ok (.aload_n 0, 1) := by decide +kernel
theorem dA_deadlineBefore_63 : decode kA_deadlineBefore 63 = .ok (.getfield 13, 3) := by decide +kernel
theorem dA_deadlineBefore_66 : decode kA_deadlineBefore 66 = .ok (.iload 4, 2) := by decide +kernel
theorem dA_deadlineBefore_68 : decode kA_deadlineBefore 68 = .ok (.iconst 2, 1) := by decide +kernel
theorem dA_deadlineBefore_69 : decode kA_deadlineBefore 69 = .ok (.idiv, 1) := by decide +kernel
theorem dA_deadlineBefore_70 : decode kA_deadlineBefore 70 = .ok (.iaload, 1) := by decide +kernel
theorem dA_deadlineBefore_71 : decode kA_deadlineBefore 71 = .ok (.imul, 1) := by decide +kernel
theorem dA_deadlineBefore_72 : decode kA_deadlineBefore 72 = .ok (.iadd, 1) := by decide +kernel
theorem dA_deadlineBefore_73 : decode kA_deadlineBefore 73 = .ok (.istore 5, 2) := by decide +kernel
theorem dA_deadlineBefore_75 : decode kA_deadlineBefore 75 = .ok (.iload 5, 2) := by decide +kernel
theorem dA_deadlineBefore_77 : decode kA_deadlineBefore 77 = .ok (.iload_n 3, 1) := by decide +kernel
theorem dA_deadlineBefore_78 : decode kA_deadlineBefore 78 = .ok (.if_icmp .le 6, 3) := by decide +kernel
theorem dA_deadlineBefore_81 : decode kA_deadlineBefore 81 = .ok (.iload 5, 2) := by decide +kernel
theorem dA_deadlineBefore_83 : decode kA_deadlineBefore 83 = .ok (.istore_n 3, 1) := by decide +kernel
theorem dA_deadlineBefore_84 : decode kA_deadlineBefore 84 = .ok (.iinc 4 1, 3) := by decide +kernel
theorem dA_deadlineBefore_87 : decode kA_deadlineBefore 87 = .ok (.goto (-82), 3) := by decide +kernel
theorem dA_deadlineBefore_90 : decode kA_deadlineBefore 90 = .ok (.iload_n 3, 1) := by decide +kernel
theorem dA_deadlineBefore_91 : decode kA_deadlineBefore 91 = .ok (.ireturn, 1) := by decide +kernel
theorem dA_passes_0 : decode kA_passes 0 = .ok (.aload_n 0, 1) := by decide +kernel
theorem dA_passes_1 : decode kA_passes 1 = .ok (.iload_n 1, 1) := by decide +kernel
theorem dA_passes_2 : decode kA_passes 2 = .ok (.invokevirtual 48, 3) := by decide +kernel
theorem dA_passes_5 : decode kA_passes 5 = .ok (.istore_n 2, 1) := by decide +kernel
theorem dA_passes_6 : decode kA_passes 6 = .ok (.iload_n 2, 1) := by decide +kernel
theorem dA_passes_7 : decode kA_passes 7 = .ok (.bipush 60, 2) := by decide +kernel
theorem dA_passes_9 : decode kA_passes 9 = .ok (.if_icmp .le 5, 3) := by decide +kernel
theorem dA_passes_12 : decode kA_passes 12 = .ok (.iconst 0, 1) := by decide +kernel
theorem dA_passes_13 : decode kA_passes 13 = .ok (.ireturn, 1) := by decide +kernel
theorem dA_passes_14 : decode kA_passes 14 = .ok (.aload_n 0, 1) := by decide +kernel
theorem dA_passes_15 : decode kA_passes 15 = .ok (.iload_n 1, 1) := by decide +kernel
theorem dA_passes_16 : decode kA_passes 16 = .ok (.invokevirtual 52, 3) := by decide +kernel
theorem dA_passes_19 : decode kA_passes 19 = .ok (.istore_n 3, 1) := by decide +kernel
theorem dA_passes_20 : decode kA_passes 20 = .ok (.bipush 60, 2) := by decide +kernel
theorem dA_passes_22 : decode kA_passes 22 = .ok (.istore 4, 2) := by decide +kernel
theorem dA_passes_24 : decode kA_passes 24 = .ok (.aload_n 0, 1) := by decide +kernel
theorem dA_passes_25 : decode kA_passes 25 = .ok (.iload_n 1, 1) := by decide +kernel
theorem dA_passes_26 : decode kA_passes 26 = .ok (.iload 4, 2) := by decide +kernel
theorem dA_passes_28 : decode kA_passes 28 = .ok (.invokevirtual 55, 3) := by decide +kernel
theorem dA_passes_31 : decode kA_passes 31 = .ok (.istore 5, 2) := by decide +kernel
theorem dA_passes_33 : decode kA_passes 33 = .ok (.iconst 0, 1) := by decide +kernel
theorem dA_passes_34 : decode kA_passes 34 = .ok (.istore 6, 2) := by decide +kernel
theorem dA_passes_36 : decode kA_passes 36 = .ok (.iload 6, 2) := by decide +kernel
theorem dA_passes_38 : decode kA_passes 38 = .ok (.bipush 62, 2) := by decide +kernel
theorem dA_passes_40 : decode kA_passes 40 = .ok (.if_icmp .ge 52, 3) := by decide +kernel
theorem dA_passes_43 : decode kA_passes 43 = .ok (.iload 5, 2) := by decide +kernel
theorem dA_passes_45 : decode kA_passes 45 = .ok (.iload 4, 2) := by decide +kernel
theorem dA_passes_47 : decode kA_passes 47 = .ok (.if_icmp .gt 45, 3) := by decide +kernel
theorem dA_passes_50 : decode kA_passes 50 = .ok (.iload 5, 2) := by decide +kernel
theorem dA_passes_52 : decode kA_passes 52 = .ok (.iload_n 3, 1) := by decide +kernel
theorem dA_passes_53 : decode kA_passes 53 = .ok (.if_icmp .le 39, 3) := by decide +kernel
theorem dA_passes_56 : decode kA_passes 56 = .ok (.iload 5, 2) := by decide +kernel
theorem dA_passes_58 : decode kA_passes 58 = .ok (.iload 4, 2) := by decide +kernel
theorem dA_passes_60 : decode kA_passes 60 = .ok (.if_icmp .ge 8, 3) := by decide +kernel
theorem dA_passes_63 : decode kA_passes 63 = .ok (.iload 5, 2) := by decide +kernel
theorem dA_passes_65 : decode kA_passes 65 = .ok (.goto 10, 3) := by decide +kernel
theorem dA_passes_68 : decode kA_passes 68 = .ok (.aload_n 0, 1) := by decide +kernel
theorem dA_passes_69 : decode kA_passes 69 = .ok (.iload_n 1, 1) := by decide +kernel
theorem dA_passes_70 : decode kA_passes 70 = .ok (.iload 4, 2) := by decide +kernel
theorem dA_passes_72 : decode kA_passes 72 = .ok (.invokevirtual 59, 3) := by decide +kernel
theorem dA_passes_75 : decode kA_passes 75 = .ok (.istore 4, 2) := by decide +kernel
theorem dA_passes_77 : decode kA_passes 77 = .ok (.aload_n 0, 1) := by decide +kernel
theorem dA_passes_78 : decode kA_passes 78 = .ok (.iload_n 1, 1) := by decide +kernel
theorem dA_passes_79 : decode kA_passes 79 = .ok (.iload 4, 2) := by decide +kernel
theorem dA_passes_81 : decode kA_passes 81 = .ok (.invokevirtual 55, 3) := by decide +kernel
theorem dA_passes_84 : decode kA_passes 84 = .ok (.istore 5, 2) := by decide +kernel
theorem dA_passes_86 : decode kA_passes 86 = .ok (.iinc 6 1, 3) := by decide +kernel
theorem dA_passes_89 : decode kA_passes 89 = .ok (.goto (-53), 3) := by decide +kernel
theorem dA_passes_92 : decode kA_passes 92 = .ok (.iload 5, 2) := by decide +kernel
theorem dA_passes_94 : decode kA_passes 94 = .ok (.iload 4, 2) := by decide +kernel
theorem dA_passes_96 : decode kA_passes 96 = .ok (.if_icmp .gt 13, 3) := by decide +kernel
theorem dA_passes_99 : decode kA_passes 99 = .ok (.iload 5, 2) := by decide +kernel
theorem dA_passes_101 : decode kA_passes 101 = .ok (.iload_n 3, 1) := by decide +kernel
theorem dA_passes_102 : decode kA_passes 102 = .ok (.if_icmp .gt 7, 3) := by decide +kernel
theorem dA_passes_105 : decode kA_passes 105 = .ok (.iconst 1, 1) := by decide +kernel
theorem dA_passes_106 : decode kA_passes 106 = .ok (.goto 4, 3) := by decide +kernel
theorem dA_passes_109 : decode kA_passes 109 = .ok (.iconst 0, 1) := by decide +kernel
theorem dA_passes_110 : decode kA_passes 110 = .ok (.ireturn, 1) := by decide +kernel
theorem dA_passesWith_0 : decode kA_passesWith 0 = .ok (.aload_n 0, 1) := by decide +kernel
theorem dA_passesWith_1 : decode kA_passesWith 1 = .ok (.iload_n 2, 1) := by decide +kernel
theorem dA_passesWith_2 : decode kA_passesWith 2 = .ok (.iload_n 1, 1) := by decide +kernel
theorem dA_passesWith_3 : decode kA_passesWith 3 = .ok (.iload_n 3, 1) := by decide +kernel
theorem dA_passesWith_4 : decode kA_passesWith 4 = .ok (.iload 4, 2) := by decide +kernel
theorem dA_passesWith_6 : decode kA_passesWith 6 = .ok (.invokevirtual 62, 3) := by decide +kernel
theorem dA_passesWith_9 : decode kA_passesWith 9 = .ok (.aload_n 0, 1) := by decide +kernel
theorem dA_passesWith_10 : decode kA_passesWith 10 = .ok (.iload_n 1, 1) := by decide +kernel
theorem dA_passesWith_11 : decode kA_passesWith 11 = .ok (.invokevirtual 66, 3) := by decide +kernel
theorem dA_passesWith_14 : decode kA_passesWith 14 = .ok (.istore 5, 2) := by decide +kernel
theorem dA_passesWith_16 : decode kA_passesWith 16 = .ok (.aload_n 0, 1) := by decide +kernel
theorem dA_passesWith_17 : decode kA_passesWith 17 = .ok (.getfield 17, 3) := by decide +kernel
theorem dA_passesWith_20 : decode kA_passesWith 20 = .ok (.iload_n 2, 1) := by decide +kernel
theorem dA_passesWith_21 : decode kA_passesWith 21 = .ok (.iconst (-1), 1) := by decide +kernel
theorem dA_passesWith_22 : decode kA_passesWith 22 = .ok (.iastore, 1) := by decide +kernel
theorem dA_passesWith_23 : decode kA_passesWith 23 = .ok (.iload 5, 2) := by decide +kernel
theorem dA_passesWith_25 : decode kA_passesWith 25 = .ok (.ireturn, 1) := by decide +kernel
theorem dA_setPart_0 : decode kA_setPart 0 = .ok (.aload_n 0, 1) := by decide +kernel
theorem dA_setPart_1 : decode kA_setPart 1 = .ok (.getfield 17, 3) := by decide +kernel
theorem dA_setPart_4 : decode kA_setPart 4 = .ok (.iload_n 1, 1) := by decide +kernel
theorem dA_setPart_5 : decode kA_setPart 5 = .ok (.iload_n 2, 1) := by decide +kernel
theorem dA_setPart_6 : decode kA_setPart 6 = .ok (.iastore, 1) := by decide +kernel
theorem dA_setPart_7 : decode kA_setPart 7 = .ok (.aload_n 0, 1) := by decide +kernel
theorem dA_setPart_8 : decode kA_setPart 8 = .ok (.getfield 20, 3) := by decide +kernel
theorem dA_setPart_11 : decode kA_setPart 11 = .ok (.iload_n 1, 1) := by decide +kernel
theorem dA_setPart_12 : decode kA_setPart 12 = .ok (.iload_n 3, 1) := by decide +kernel
theorem dA_setPart_13 : decode kA_setPart 13 = .ok (.iastore, 1) := by decide +kernel
theorem dA_setPart_14 : decode kA_setPart 14 = .ok (.aload_n 0, 1) := by decide +kernel
theorem dA_setPart_15 : decode kA_setPart 15 = .ok (.getfield 23, 3) := by decide +kernel
theorem dA_setPart_18 : decode kA_setPart 18 = .ok (.iload_n 1, 1) := by decide +kernel
theorem dA_setPart_19 : decode kA_setPart 19 = .ok (.iload 4, 2) := by decide +kernel
theorem dA_setPart_21 : decode kA_setPart 21 = .ok (.iastore, 1) := by decide +kernel
theorem dA_setPart_22 : decode kA_setPart 22 = .ok (.return_, 1) := by decide +kernel
theorem dA_freeId_0 : decode kA_freeId 0 = .ok (.iconst 0, 1) := by decide +kernel
theorem dA_freeId_1 : decode kA_freeId 1 = .ok (.istore_n 1, 1) := by decide +kernel
theorem dA_freeId_2 : decode kA_freeId 2 = .ok (.iload_n 1, 1) := by decide +kernel
theorem dA_freeId_3 : decode kA_freeId 3 = .ok (.bipush 12, 2) := by decide +kernel
theorem dA_freeId_5 : decode kA_freeId 5 = .ok (.if_icmp .ge 18, 3) := by decide +kernel
theorem dA_freeId_8 : decode kA_freeId 8 = .ok (.aload_n 0, 1) := by decide +kernel
theorem dA_freeId_9 : decode kA_freeId 9 = .ok (.getfield 7, 3) := by decide +kernel
theorem dA_freeId_12 : decode kA_freeId 12 = .ok (.iload_n 1, 1) := by decide +kernel
theorem dA_freeId_13 : decode kA_freeId 13 = .ok (.baload, 1) := by decide +kernel
theorem dA_freeId_14 : decode kA_freeId 14 = .ok (.ifCond .eq 9, 3) := by decide +kernel
theorem dA_freeId_17 : decode kA_freeId 17 = .ok (.iinc 1 1, 3) := by decide +kernel
theorem dA_freeId_20 : decode kA_freeId 20 = .ok (.goto (-18), 3) := by decide +kernel
theorem dA_freeId_23 : decode kA_freeId 23 = .ok (.iload_n 1, 1) := by decide +kernel
theorem dA_freeId_24 : decode kA_freeId 24 = .ok (.ireturn, 1) := by decide +kernel
theorem dA_admit_0 : decode kA_admit 0 = .ok (.iload_n 3, 1) := by decide +kernel
theorem dA_admit_1 : decode kA_admit 1 = .ok (.invokestatic 70, 3) := by decide +kernel
theorem dA_admit_4 : decode kA_admit 4 = .ok (.ifCond .eq 5, 3) := by decide +kernel
theorem dA_admit_7 : decode kA_admit 7 = .ok (.iconst (-1), 1) := by decide +kernel
theorem dA_admit_8 : decode kA_admit 8 = .ok (.ireturn, 1) := by decide +kernel
theorem dA_admit_9 : decode kA_admit 9 = .ok (.iload_n 1, 1) := by decide +kernel
theorem dA_admit_10 : decode kA_admit 10 = .ok (.iconst 1, 1) := by decide +kernel
theorem dA_admit_11 : decode kA_admit 11 = .ok (.if_icmp .lt 23, 3) := by decide +kernel
theorem dA_admit_14 : decode kA_admit 14 = .ok (.iload_n 1, 1) := by decide +kernel
theorem dA_admit_15 : decode kA_admit 15 = .ok (.iload_n 3, 1) := by decide +kernel
theorem dA_admit_16 : decode kA_admit 16 = .ok (.if_icmp .gt 18, 3) := by decide +kernel
theorem dA_admit_19 : decode kA_admit 19 = .ok (.iload_n 2, 1) := by decide +kernel
theorem dA_admit_20 : decode kA_admit 20 = .ok (.iconst 1, 1) := by decide +kernel
theorem dA_admit_21 : decode kA_admit 21 = .ok (.if_icmp .lt 13, 3) := by decide +kernel
theorem dA_admit_24 : decode kA_admit 24 = .ok (.iload_n 2, 1) := by decide +kernel
theorem dA_admit_25 : decode kA_admit 25 = .ok (.iload_n 3, 1) := by decide +kernel
theorem dA_admit_26 : decode kA_admit 26 = .ok (.if_icmp .gt 8, 3) := by decide +kernel
theorem dA_admit_29 : decode kA_admit 29 = .ok (.iload_n 1, 1) := by decide +kernel
theorem dA_admit_30 : decode kA_admit 30 = .ok (.iload_n 2, 1) := by decide +kernel
theorem dA_admit_31 : decode kA_admit 31 = .ok (.if_icmp .le 6, 3) := by decide +kernel
theorem dA_admit_34 : decode kA_admit 34 = .ok (.bipush (-2), 2) := by decide +kernel
theorem dA_admit_36 : decode kA_admit 36 = .ok (.ireturn, 1) := by decide +kernel
theorem dA_admit_37 : decode kA_admit 37 = .ok (.aload_n 0, 1) := by decide +kernel
theorem dA_admit_38 : decode kA_admit 38 = .ok (.getfield 73, 3) := by decide +kernel
theorem dA_admit_41 : decode kA_admit 41 = .ok (.bipush 12, 2) := by decide +kernel
theorem dA_admit_43 : decode kA_admit 43 = .ok (.if_icmp .lt 6, 3) := by decide +kernel
theorem dA_admit_46 : decode kA_admit 46 = .ok (.bipush (-3), 2) := by decide +kernel
theorem dA_admit_48 : decode kA_admit 48 = .ok (.ireturn, 1) := by decide +kernel
theorem dA_admit_49 : decode kA_admit 49 = .ok (.aload_n 0, 1) := by decide +kernel
theorem dA_admit_50 : decode kA_admit 50 = .ok (.invokevirtual 76, 3) := by decide +kernel
theorem dA_admit_53 : decode kA_admit 53 = .ok (.istore 4, 2) := by decide +kernel
theorem dA_admit_55 : decode kA_admit 55 = .ok (.aload_n 0, 1) := by decide +kernel
theorem dA_admit_56 : decode kA_admit 56 = .ok (.getfield 13, 3) := by decide +kernel
theorem dA_admit_59 : decode kA_admit 59 = .ok (.iload 4, 2) := by decide +kernel
theorem dA_admit_61 : decode kA_admit 61 = .ok (.iload_n 3, 1) := by decide +kernel
theorem dA_admit_62 : decode kA_admit 62 = .ok (.iastore, 1) := by decide +kernel
theorem dA_admit_63 : decode kA_admit 63 = .ok (.aload_n 0, 1) := by decide +kernel
theorem dA_admit_64 : decode kA_admit 64 = .ok (.iload 4, 2) := by decide +kernel
theorem dA_admit_66 : decode kA_admit 66 = .ok (.iload_n 1, 1) := by decide +kernel
theorem dA_admit_67 : decode kA_admit 67 = .ok (.iload_n 2, 1) := by decide +kernel
theorem dA_admit_68 : decode kA_admit 68 = .ok (.invokevirtual 80, 3) := by decide +kernel
theorem dA_admit_71 : decode kA_admit 71 = .ok (.istore 5, 2) := by decide +kernel
theorem dA_admit_73 : decode kA_admit 73 = .ok (.iload_n 1, 1) := by decide +kernel
theorem dA_admit_74 : decode kA_admit 74 = .ok (.iconst 1, 1) := by decide +kernel
theorem dA_admit_75 : decode kA_admit 75 = .ok (.isub, 1) := by decide +kernel
theorem dA_admit_76 : decode kA_admit 76 = .ok (.istore 6, 2) := by decide +kernel
theorem dA_admit_78 : decode kA_admit 78 = .ok (.iload 6, 2) := by decide +kernel
theorem dA_admit_80 : decode kA_admit 80 = .ok (.iconst 1, 1) := by decide +kernel
theorem dA_admit_81 : decode kA_admit 81 = .ok (.if_icmp .lt 26, 3) := by decide +kernel
theorem dA_admit_84 : decode kA_admit 84 = .ok (.iload 5, 2) := by decide +kernel
theorem dA_admit_86 : decode kA_admit 86 = .ok (.ifCond .ne 21, 3) := by decide +kernel
theorem dA_admit_89 : decode kA_admit 89 = .ok (.aload_n 0, 1) := by decide +kernel
theorem dA_admit_90 : decode kA_admit 90 = .ok (.iload 4, 2) := by decide +kernel
theorem dA_admit_92 : decode kA_admit 92 = .ok (.iload 6, 2) := by decide +kernel
theorem dA_admit_94 : decode kA_admit 94 = .ok (.iload_n 1, 1) := by decide +kernel
theorem dA_admit_95 : decode kA_admit 95 = .ok (.iload_n 2, 1) := by decide +kernel
theorem dA_admit_96 : decode kA_admit 96 = .ok (.invokevirtual 84, 3) := by decide +kernel
theorem dA_admit_99 : decode kA_admit 99 = .ok (.istore 5, 2) := by decide +kernel
theorem dA_admit_101 : decode kA_admit 101 = .ok (.iinc 6 (-1), 3) := by decide +kernel
theorem dA_admit_104 : decode kA_admit 104 = .ok (.goto (-26), 3) := by decide +kernel
theorem dA_admit_107 : decode kA_admit 107 = .ok (.iload 5, 2) := by decide +kernel
theorem dA_admit_109 : decode kA_admit 109 = .ok (.ifCond .ne 6, 3) := by decide +kernel
theorem dA_admit_112 : decode kA_admit 112 = .ok (.bipush (-4), 2) := by decide +kernel
theorem dA_admit_114 : decode kA_admit 114 = .ok (.ireturn, 1) := by decide +kernel
theorem dA_admit_115 : decode kA_admit 115 = .ok (.aload_n 0, 1) := by decide +kernel
theorem dA_admit_116 : decode kA_admit 116 = .ok (.getfield 7, 3) := by decide +kernel
theorem dA_admit_119 : decode kA_admit 119 = .ok (.iload 4, 2) := by decide +kernel
theorem dA_admit_121 : decode kA_admit 121 = .ok (.iconst 1, 1) := by decide +kernel
theorem dA_admit_122 : decode kA_admit 122 = .ok (.bastore, 1) := by decide +kernel
theorem dA_admit_123 : decode kA_admit 123 = .ok (.aload_n 0, 1) := by decide +kernel
theorem dA_admit_124 : decode kA_admit 124 = .ok (.dup, 1) := by decide +kernel
theorem dA_admit_125 : decode kA_admit 125 = .ok (.getfield 73, 3) := by decide +kernel
theorem dA_admit_128 : decode kA_admit 128 = .ok (.iconst 1, 1) := by decide +kernel
theorem dA_admit_129 : decode kA_admit 129 = .ok (.iadd, 1) := by decide +kernel
theorem dA_admit_130 : decode kA_admit 130 = .ok (.putfield 73, 3) := by decide +kernel
theorem dA_admit_133 : decode kA_admit 133 = .ok (.aload_n 0, 1) := by decide +kernel
theorem dA_admit_134 : decode kA_admit 134 = .ok (.iconst (-1), 1) := by decide +kernel
theorem dA_admit_135 : decode kA_admit 135 = .ok (.putfield 45, 3) := by decide +kernel
theorem dA_admit_138 : decode kA_admit 138 = .ok (.iload 4, 2) := by decide +kernel
theorem dA_admit_140 : decode kA_admit 140 = .ok (.ireturn, 1) := by decide +kernel
theorem dA_placeWhole_0 : decode kA_placeWhole 0 = .ok (.iconst 0, 1) := by decide +kernel
theorem dA_placeWhole_1 : decode kA_placeWhole 1 = .ok (.istore 4, 2) := by decide +kernel
theorem dA_placeWhole_3 : decode kA_placeWhole 3 = .ok (.iload 4, 2) := by decide +kernel
theorem dA_placeWhole_5 : decode kA_placeWhole 5 = .ok (.aload_n 0, 1) := by decide +kernel
theorem dA_placeWhole_6 : decode kA_placeWhole 6 = .ok (.getfield 41, 3) := by decide +kernel
theorem dA_placeWhole_9 : decode kA_placeWhole 9 = .ok (.if_icmp .ge 40, 3) := by decide +kernel
theorem dA_placeWhole_12 : decode kA_placeWhole 12 = .ok (.aload_n 0, 1) := by decide +kernel
theorem dA_placeWhole_13 : decode kA_placeWhole 13 = .ok (.iload 4, 2) := by decide +kernel
theorem dA_placeWhole_15 : decode kA_placeWhole 15 = .ok (.iconst 2, 1) := by decide +kernel
theorem dA_placeWhole_16 : decode kA_placeWhole 16 = .ok (.iload_n 1, 1) := by decide +kernel
theorem dA_placeWhole_17 : decode kA_placeWhole 17 = .ok (.imul, 1) := by decide +kernel
theorem dA_placeWhole_18 : decode kA_placeWhole 18 = .ok (.iload_n 2, 1) := by decide +kernel
theorem dA_placeWhole_19 : decode kA_placeWhole 19 = .ok (.iload_n 3, 1) := by decide +kernel
theorem dA_placeWhole_20 : decode kA_placeWhole 20 = .ok (.invokevirtual 88, 3) := by decide +kernel
theorem dA_placeWhole_23 : decode kA_placeWhole 23 = .ok (.istore 5, 2) := by decide +kernel
theorem dA_placeWhole_25 : decode kA_placeWhole 25 = .ok (.iload 5, 2) := by decide +kernel
theorem dA_placeWhole_27 : decode kA_placeWhole 27 = .ok (.ifCond .eq 16, 3) := by decide +kernel
theorem dA_placeWhole_30 : decode kA_placeWhole 30 = .ok (.aload_n 0, 1) := by decide +kernel
theorem dA_placeWhole_31 : decode kA_placeWhole 31 = .ok (.iconst 2, 1) := by decide +kernel
theorem dA_placeWhole_32 : decode kA_placeWhole 32 = .ok (.iload_n 1, 1) := by decide +kernel
theorem dA_placeWhole_33 : decode kA_placeWhole 33 = .ok (.imul, 1) := by decide +kernel
theorem dA_placeWhole_34 : decode kA_placeWhole 34 = .ok (.iload 4, 2) := by decide +kernel
theorem dA_placeWhole_36 : decode kA_placeWhole 36 = .ok (.iload_n 2, 1) := by decide +kernel
theorem dA_placeWhole_37 : decode kA_placeWhole 37 = .ok (.iload_n 3, 1) := by decide +kernel
theorem dA_placeWhole_38 : decode kA_placeWhole 38 = .ok (.invokevirtual 62, 3) := by decide +kernel
theorem dA_placeWhole_41 : decode kA_placeWhole 41 = .ok (.iconst 1, 1) := by decide +kernel
theorem dA_placeWhole_42 : decode kA_placeWhole 42 = .ok (.ireturn, 1) := by decide +kernel
theorem dA_placeWhole_43 : decode kA_placeWhole 43 = .ok (.iinc 4 1, 3) := by decide +kernel
theorem dA_placeWhole_46 : decode kA_placeWhole 46 = .ok (.goto (-43), 3) := by decide +kernel
theorem dA_placeWhole_49 : decode kA_placeWhole 49 = .ok (.iconst 0, 1) := by decide +kernel
theorem dA_placeWhole_50 : decode kA_placeWhole 50 = .ok (.ireturn, 1) := by decide +kernel
theorem dA_placeSplit_0 : decode kA_placeSplit 0 = .ok (.iconst (-1), 1) := by decide +kernel
theorem dA_placeSplit_1 : decode kA_placeSplit 1 = .ok (.istore 5, 2) := by decide +kernel
theorem dA_placeSplit_3 : decode kA_placeSplit 3 = .ok (.iconst (-1), 1) := by decide +kernel
theorem dA_placeSplit_4 : decode kA_placeSplit 4 = .ok (.istore 6, 2) := by decide +kernel
theorem dA_placeSplit_6 : decode kA_placeSplit 6 = .ok (.iconst 0, 1) := by decide +kernel
theorem dA_placeSplit_7 : decode kA_placeSplit 7 = .ok (.istore 7, 2) := by decide +kernel
theorem dA_placeSplit_9 : decode kA_placeSplit 9 = .ok (.iload 7, 2) := by decide +kernel
theorem dA_placeSplit_11 : decode kA_placeSplit 11 = .ok (.aload_n 0, 1) := by decide +kernel
theorem dA_placeSplit_12 : decode kA_placeSplit 12 = .ok (.getfield 41, 3) := by decide +kernel
theorem dA_placeSplit_15 : decode kA_placeSplit 15 = .ok (.if_icmp .ge 57, 3) := by decide +kernel
theorem dA_placeSplit_18 : decode kA_placeSplit 18 = .ok (.iload 6, 2) := by decide +kernel
theorem dA_placeSplit_20 : decode kA_placeSplit 20 = .ok (.ifCond .ge 52, 3) := by decide +kernel
theorem dA_placeSplit_23 : decode kA_placeSplit 23 = .ok (.aload_n 0, 1) := by decide +kernel
theorem dA_placeSplit_24 : decode kA_placeSplit 24 = .ok (.iload 7, 2) := by decide +kernel
theorem dA_placeSplit_26 : decode kA_placeSplit 26 = .ok (.iconst 2, 1) := by decide +kernel
theorem dA_placeSplit_27 : decode kA_placeSplit 27 = .ok (.iload_n 1, 1) := by decide +kernel
theorem dA_placeSplit_28 : decode kA_placeSplit 28 = .ok (.imul, 1) := by decide +kernel
theorem dA_placeSplit_29 : decode kA_placeSplit 29 = .ok (.iload_n 2, 1) := by decide +kernel
theorem dA_placeSplit_30 : decode kA_placeSplit 30 = .ok (.iload_n 2, 1) := by decide +kernel
theorem dA_placeSplit_31 : decode kA_placeSplit 31 = .ok (.invokevirtual 88, 3) := by decide +kernel
theorem dA_placeSplit_34 : decode kA_placeSplit 34 = .ok (.istore 8, 2) := by decide +kernel
theorem dA_placeSplit_36 : decode kA_placeSplit 36 = .ok (.iload 8, 2) := by decide +kernel
theorem dA_placeSplit_38 : decode kA_placeSplit 38 = .ok (.ifCond .eq 28, 3) := by decide +kernel
theorem dA_placeSplit_41 : decode kA_placeSplit 41 = .ok (.aload_n 0, 1) := by decide +kernel
theorem dA_placeSplit_42 : decode kA_placeSplit 42 = .ok (.iload_n 1, 1) := by decide +kernel
theorem dA_placeSplit_43 : decode kA_placeSplit 43 = .ok (.iload 7, 2) := by decide +kernel
theorem dA_placeSplit_45 : decode kA_placeSplit 45 = .ok (.iload_n 3, 1) := by decide +kernel
theorem dA_placeSplit_46 : decode kA_placeSplit 46 = .ok (.iload_n 2, 1) := by decide +kernel
theorem dA_placeSplit_47 : decode kA_placeSplit 47 = .ok (.isub, 1) := by decide +kernel
theorem dA_placeSplit_48 : decode kA_placeSplit 48 = .ok (.iload 4, 2) := by decide +kernel
theorem dA_placeSplit_50 : decode kA_placeSplit 50 = .ok (.iload_n 2, 1) := by decide +kernel
theorem dA_placeSplit_51 : decode kA_placeSplit 51 = .ok (.isub, 1) := by decide +kernel
theorem dA_placeSplit_52 : decode kA_placeSplit 52 = .ok (.invokevirtual 91, 3) := by decide +kernel
theorem dA_placeSplit_55 : decode kA_placeSplit 55 = .ok (.istore 5, 2) := by decide +kernel
theorem dA_placeSplit_57 : decode kA_placeSplit 57 = .ok (.iload 5, 2) := by decide +kernel
theorem dA_placeSplit_59 : decode kA_placeSplit 59 = .ok (.ifCond .lt 7, 3) := by decide +kernel
theorem dA_placeSplit_62 : decode kA_placeSplit 62 = .ok (.iload 7, 2) := by decide +kernel
theorem dA_placeSplit_64 : decode kA_placeSplit 64 = .ok (.istore 6, 2) := by decide +kernel
theorem dA_placeSplit_66 : decode kA_placeSplit 66 = .ok (.iinc 7 1, 3) := by decide +kernel
theorem dA_placeSplit_69 : decode kA_placeSplit 69 = .ok (.goto (-60), 3) := by decide +kernel
theorem dA_placeSplit_72 : decode kA_placeSplit 72 = .ok (.iload 6, 2) := by decide +kernel
theorem dA_placeSplit_74 : decode kA_placeSplit 74 = .ok (.ifCond .ge 5, 3) := by decide +kernel
theorem dA_placeSplit_77 : decode kA_placeSplit 77 = .ok (.iconst 0, 1) := by decide +kernel
theorem dA_placeSplit_78 : decode kA_placeSplit 78 = .ok (.ireturn, 1) := by decide +kernel
theorem dA_placeSplit_79 : decode kA_placeSplit 79 = .ok (.aload_n 0, 1) := by decide +kernel
theorem dA_placeSplit_80 : decode kA_placeSplit 80 = .ok (.iconst 2, 1) := by decide +kernel
theorem dA_placeSplit_81 : decode kA_placeSplit 81 = .ok (.iload_n 1, 1) := by decide +kernel
theorem dA_placeSplit_82 : decode kA_placeSplit 82 = .ok (.imul, 1) := by decide +kernel
theorem dA_placeSplit_83 : decode kA_placeSplit 83 = .ok (.iload 6, 2) := by decide +kernel
theorem dA_placeSplit_85 : decode kA_placeSplit 85 = .ok (.iload_n 2, 1) := by decide +kernel
theorem dA_placeSplit_86 : decode kA_placeSplit 86 = .ok (.iload_n 2, 1) := by decide +kernel
theorem dA_placeSplit_87 : decode kA_placeSplit 87 = .ok (.invokevirtual 62, 3) := by decide +kernel
theorem dA_placeSplit_90 : decode kA_placeSplit 90 = .ok (.aload_n 0, 1) := by decide +kernel
theorem dA_placeSplit_91 : decode kA_placeSplit 91 = .ok (.iconst 2, 1) := by decide +kernel
theorem dA_placeSplit_92 : decode kA_placeSplit 92 = .ok (.iload_n 1, 1) := by decide +kernel
theorem dA_placeSplit_93 : decode kA_placeSplit 93 = .ok (.imul, 1) := by decide +kernel
theorem dA_placeSplit_94 : decode kA_placeSplit 94 = .ok (.iconst 1, 1) := by decide +kernel
theorem dA_placeSplit_95 : decode kA_placeSplit 95 = .ok (.iadd, 1) := by decide +kernel
theorem dA_placeSplit_96 : decode kA_placeSplit 96 = .ok (.iload 5, 2) := by decide +kernel
theorem dA_placeSplit_98 : decode kA_placeSplit 98 = .ok (.iload_n 3, 1) := by decide +kernel
theorem dA_placeSplit_99 : decode kA_placeSplit 99 = .ok (.iload_n 2, 1) := by decide +kernel
theorem dA_placeSplit_100 : decode kA_placeSplit 100 = .ok (.isub, 1) := by decide +kernel
theorem dA_placeSplit_101 : decode kA_placeSplit 101 = .ok (.iload 4, 2) := by decide +kernel
theorem dA_placeSplit_103 : decode kA_placeSplit 103 = .ok (.iload_n 2, 1) := by decide +kernel
theorem dA_placeSplit_104 : decode kA_placeSplit 104 = .ok (.isub, 1) := by decide +kernel
theorem dA_placeSplit_105 : decode kA_placeSplit 105 = .ok (.invokevirtual 62, 3) := by decide +kernel
theorem dA_placeSplit_108 : decode kA_placeSplit 108 = .ok (.iconst 1, 1) := by decide +kernel
theorem dA_placeSplit_109 : decode kA_placeSplit 109 = .ok (.ireturn, 1) := by decide +kernel
theorem dA_coreForRest_0 : decode kA_coreForRest 0 = .ok (.iconst 0, 1) := by decide +kernel
theorem dA_coreForRest_1 : decode kA_coreForRest 1 = .ok (.istore 5, 2) := by decide +kernel
theorem dA_coreForRest_3 : decode kA_coreForRest 3 = .ok (.iload 5, 2) := by decide +kernel
theorem dA_coreForRest_5 : decode kA_coreForRest 5 = .ok (.aload_n 0, 1) := by decide +kernel
theorem dA_coreForRest_6 : decode kA_coreForRest 6 = .ok (.getfield 41, 3) := by decide +kernel
theorem dA_coreForRest_9 : decode kA_coreForRest 9 = .ok (.if_icmp .ge 39, 3) := by decide +kernel
theorem dA_coreForRest_12 : decode kA_coreForRest 12 = .ok (.iload 5, 2) := by decide +kernel
theorem dA_coreForRest_14 : decode kA_coreForRest 14 = .ok (.iload_n 2, 1) := by decide +kernel
theorem dA_coreForRest_15 : decode kA_coreForRest 15 = .ok (.if_icmp .eq 27, 3) := by decide +kernel
theorem dA_coreForRest_18 : decode kA_coreForRest 18 = .ok (.aload_n 0, 1) := by decide +kernel
theorem dA_coreForRest_19 : decode kA_coreForRest 19 = .ok (.iload 5, 2) := by decide +kernel
theorem dA_coreForRest_21 : decode kA_coreForRest 21 = .ok (.iconst 2, 1) := by decide +kernel
theorem dA_coreForRest_22 : decode kA_coreForRest 22 = .ok (.iload_n 1, 1) := by decide +kernel
theorem dA_coreForRest_23 : decode kA_coreForRest 23 = .ok (.imul, 1) := by decide +kernel
theorem dA_coreForRest_24 : decode kA_coreForRest 24 = .ok (.iconst 1, 1) := by decide +kernel
theorem dA_coreForRest_25 : decode kA_coreForRest 25 = .ok (.iadd, 1) := by decide +kernel
theorem dA_coreForRest_26 : decode kA_coreForRest 26 = .ok (.iload_n 3, 1) := by decide +kernel
theorem dA_coreForRest_27 : decode kA_coreForRest 27 = .ok (.iload 4, 2) := by decide +kernel
theorem dA_coreForRest_29 : decode kA_coreForRest 29 = .ok (.invokevirtual 88, 3) := by decide +kernel
theorem dA_coreForRest_32 : decode kA_coreForRest 32 = .ok (.istore 6, 2) := by decide +kernel
theorem dA_coreForRest_34 : decode kA_coreForRest 34 = .ok (.iload 6, 2) := by decide +kernel
theorem dA_coreForRest_36 : decode kA_coreForRest 36 = .ok (.ifCond .eq 6, 3) := by decide +kernel
theorem dA_coreForRest_39 : decode kA_coreForRest 39 = .ok (.iload 5, 2) := by decide +kernel
theorem dA_coreForRest_41 : decode kA_coreForRest 41 = .ok (.ireturn, 1) := by decide +kernel
theorem dA_coreForRest_42 : decode kA_coreForRest 42 = .ok (.iinc 5 1, 3) := by decide +kernel
theorem dA_coreForRest_45 : decode kA_coreForRest 45 = .ok (.goto (-42), 3) := by decide +kernel
theorem dA_coreForRest_48 : decode kA_coreForRest 48 = .ok (.iconst (-1), 1) := by decide +kernel
theorem dA_coreForRest_49 : decode kA_coreForRest 49 = .ok (.ireturn, 1) := by decide +kernel
theorem dA_remove_0 : decode kA_remove 0 = .ok (.aload_n 0, 1) := by decide +kernel
theorem dA_remove_1 : decode kA_remove 1 = .ok (.iload_n 1, 1) := by decide +kernel
theorem dA_remove_2 : decode kA_remove 2 = .ok (.invokevirtual 95, 3) := by decide +kernel
theorem dA_remove_5 : decode kA_remove 5 = .ok (.ifCond .eq 6, 3) := by decide +kernel
theorem dA_remove_8 : decode kA_remove 8 = .ok (.bipush (-5), 2) := by decide +kernel
theorem dA_remove_10 : decode kA_remove 10 = .ok (.ireturn, 1) := by decide +kernel
theorem dA_remove_11 : decode kA_remove 11 = .ok (.aload_n 0, 1) := by decide +kernel
theorem dA_remove_12 : decode kA_remove 12 = .ok (.getfield 7, 3) := by decide +kernel
theorem dA_remove_15 : decode kA_remove 15 = .ok (.iload_n 1, 1) := by decide +kernel
theorem dA_remove_16 : decode kA_remove 16 = .ok (.iconst 0, 1) := by decide +kernel
theorem dA_remove_17 : decode kA_remove 17 = .ok (.bastore, 1) := by decide +kernel
theorem dA_remove_18 : decode kA_remove 18 = .ok (.aload_n 0, 1) := by decide +kernel
theorem dA_remove_19 : decode kA_remove 19 = .ok (.getfield 17, 3) := by decide +kernel
theorem dA_remove_22 : decode kA_remove 22 = .ok (.iconst 2, 1) := by decide +kernel
theorem dA_remove_23 : decode kA_remove 23 = .ok (.iload_n 1, 1) := by decide +kernel
theorem dA_remove_24 : decode kA_remove 24 = .ok (.imul, 1) := by decide +kernel
theorem dA_remove_25 : decode kA_remove 25 = .ok (.iconst (-1), 1) := by decide +kernel
theorem dA_remove_26 : decode kA_remove 26 = .ok (.iastore, 1) := by decide +kernel
theorem dA_remove_27 : decode kA_remove 27 = .ok (.aload_n 0, 1) := by decide +kernel
theorem dA_remove_28 : decode kA_remove 28 = .ok (.getfield 17, 3) := by decide +kernel
theorem dA_remove_31 : decode kA_remove 31 = .ok (.iconst 2, 1) := by decide +kernel
theorem dA_remove_32 : decode kA_remove 32 = .ok (.iload_n 1, 1) := by decide +kernel
theorem dA_remove_33 : decode kA_remove 33 = .ok (.imul, 1) := by decide +kernel
theorem dA_remove_34 : decode kA_remove 34 = .ok (.iconst 1, 1) := by decide +kernel
theorem dA_remove_35 : decode kA_remove 35 = .ok (.iadd, 1) := by decide +kernel
theorem dA_remove_36 : decode kA_remove 36 = .ok (.iconst (-1), 1) := by decide +kernel
theorem dA_remove_37 : decode kA_remove 37 = .ok (.iastore, 1) := by decide +kernel
theorem dA_remove_38 : decode kA_remove 38 = .ok (.aload_n 0, 1) := by decide +kernel
theorem dA_remove_39 : decode kA_remove 39 = .ok (.dup, 1) := by decide +kernel
theorem dA_remove_40 : decode kA_remove 40 = .ok (.getfield 73, 3) := by decide +kernel
theorem dA_remove_43 : decode kA_remove 43 = .ok (.iconst 1, 1) := by decide +kernel
theorem dA_remove_44 : decode kA_remove 44 = .ok (.isub, 1) := by decide +kernel
theorem dA_remove_45 : decode kA_remove 45 = .ok (.putfield 73, 3) := by decide +kernel
theorem dA_remove_48 : decode kA_remove 48 = .ok (.aload_n 0, 1) := by decide +kernel
theorem dA_remove_49 : decode kA_remove 49 = .ok (.iconst (-1), 1) := by decide +kernel
theorem dA_remove_50 : decode kA_remove 50 = .ok (.putfield 45, 3) := by decide +kernel
theorem dA_remove_53 : decode kA_remove 53 = .ok (.aload_n 0, 1) := by decide +kernel
theorem dA_remove_54 : decode kA_remove 54 = .ok (.getfield 73, 3) := by decide +kernel
theorem dA_remove_57 : decode kA_remove 57 = .ok (.ireturn, 1) := by decide +kernel
theorem dA_plan_0 : decode kA_plan 0 = .ok (.aload_n 0, 1) := by decide +kernel
theorem dA_plan_1 : decode kA_plan 1 = .ok (.getfield 45, 3) := by decide +kernel
theorem dA_plan_4 : decode kA_plan 4 = .ok (.iload_n 1, 1) := by decide +kernel
theorem dA_plan_5 : decode kA_plan 5 = .ok (.if_icmp .ne 4, 3) := by decide +kernel
theorem dA_plan_8 : decode kA_plan 8 = .ok (.return_, 1) := by decide +kernel
theorem dA_plan_9 : decode kA_plan 9 = .ok (.aload_n 0, 1) := by decide +kernel
theorem dA_plan_10 : decode kA_plan 10 = .ok (.iload_n 1, 1) := by decide +kernel
theorem dA_plan_11 : decode kA_plan 11 = .ok (.putfield 45, 3) := by decide +kernel
theorem dA_plan_14 : decode kA_plan 14 = .ok (.aload_n 0, 1) := by decide +kernel
theorem dA_plan_15 : decode kA_plan 15 = .ok (.iconst 0, 1) := by decide +kernel
theorem dA_plan_16 : decode kA_plan 16 = .ok (.putfield 98, 3) := by decide +kernel
theorem dA_plan_19 : decode kA_plan 19 = .ok (.iconst 0, 1) := by decide +kernel
theorem dA_plan_20 : decode kA_plan 20 = .ok (.istore_n 2, 1) := by decide +kernel
theorem dA_plan_21 : decode kA_plan 21 = .ok (.iload_n 2, 1) := by decide +kernel
theorem dA_plan_22 : decode kA_plan 22 = .ok (.bipush 26, 2) := by decide +kernel
theorem dA_plan_24 : decode kA_plan 24 = .ok (.if_icmp .ge 49, 3) := by decide +kernel
theorem dA_plan_27 : decode kA_plan 27 = .ok (.aload_n 0, 1) := by decide +kernel
theorem dA_plan_28 : decode kA_plan 28 = .ok (.getfield 32, 3) := by decide +kernel
theorem dA_plan_31 : decode kA_plan 31 = .ok (.iload_n 2, 1) := by decide +kernel
theorem dA_plan_32 : decode kA_plan 32 = .ok (.aload_n 0, 1) := by decide +kernel
theorem dA_plan_33 : decode kA_plan 33 = .ok (.getfield 17, 3) := by decide +kernel
theorem dA_plan_36 : decode kA_plan 36 = .ok (.iload_n 2, 1) := by decide +kernel
theorem dA_plan_37 : decode kA_plan 37 = .ok (.iaload, 1) := by decide +kernel
theorem dA_plan_38 : decode kA_plan 38 = .ok (.iload_n 1, 1) := by decide +kernel
theorem dA_plan_39 : decode kA_plan 39 = .ok (.if_icmp .ne 12, 3) := by decide +kernel
theorem dA_plan_42 : decode kA_plan 42 = .ok (.aload_n 0, 1) := by decide +kernel
theorem dA_plan_43 : decode kA_plan 43 = .ok (.getfield 20, 3) := by decide +kernel
theorem dA_plan_46 : decode kA_plan 46 = .ok (.iload_n 2, 1) := by decide +kernel
theorem dA_plan_47 : decode kA_plan 47 = .ok (.iaload, 1) := by decide +kernel
theorem dA_plan_48 : decode kA_plan 48 = .ok (.goto 4, 3) := by decide +kernel
theorem dA_plan_51 : decode kA_plan 51 = .ok (.iconst 0, 1) := by decide +kernel
theorem dA_plan_52 : decode kA_plan 52 = .ok (.iastore, 1) := by decide +kernel
theorem dA_plan_53 : decode kA_plan 53 = .ok (.aload_n 0, 1) := by decide +kernel
theorem dA_plan_54 : decode kA_plan 54 = .ok (.getfield 35, 3) := by decide +kernel
theorem dA_plan_57 : decode kA_plan 57 = .ok (.iload_n 2, 1) := by decide +kernel
theorem dA_plan_58 : decode kA_plan 58 = .ok (.iconst 0, 1) := by decide +kernel
theorem dA_plan_59 : decode kA_plan 59 = .ok (.iastore, 1) := by decide +kernel
theorem dA_plan_60 : decode kA_plan 60 = .ok (.aload_n 0, 1) := by decide +kernel
theorem dA_plan_61 : decode kA_plan 61 = .ok (.getfield 38, 3) := by decide +kernel
theorem dA_plan_64 : decode kA_plan 64 = .ok (.iload_n 2, 1) := by decide +kernel
theorem dA_plan_65 : decode kA_plan 65 = .ok (.iconst 0, 1) := by decide +kernel
theorem dA_plan_66 : decode kA_plan 66 = .ok (.iastore, 1) := by decide +kernel
theorem dA_plan_67 : decode kA_plan 67 = .ok (.iinc 2 1, 3) := by decide +kernel
theorem dA_plan_70 : decode kA_plan 70 = .ok (.goto (-49), 3) := by decide +kernel
theorem dA_plan_73 : decode kA_plan 73 = .ok (.iconst 0, 1) := by decide +kernel
theorem dA_plan_74 : decode kA_plan 74 = .ok (.istore_n 2, 1) := by decide +kernel
theorem dA_plan_75 : decode kA_plan 75 = .ok (.iconst 0, 1) := by decide +kernel
theorem dA_plan_76 : decode kA_plan 76 = .ok (.istore_n 3, 1) := by decide +kernel
theorem dA_plan_77 : decode kA_plan 77 = .ok (.iload_n 3, 1) := by decide +kernel
theorem dA_plan_78 : decode kA_plan 78 = .ok (.bipush 60, 2) := by decide +kernel
theorem dA_plan_80 : decode kA_plan 80 = .ok (.if_icmp .ge 22, 3) := by decide +kernel
theorem dA_plan_83 : decode kA_plan 83 = .ok (.iload_n 2, 1) := by decide +kernel
theorem dA_plan_84 : decode kA_plan 84 = .ok (.bipush 60, 2) := by decide +kernel
theorem dA_plan_86 : decode kA_plan 86 = .ok (.if_icmp .ge 16, 3) := by decide +kernel
theorem dA_plan_89 : decode kA_plan 89 = .ok (.aload_n 0, 1) := by decide +kernel
theorem dA_plan_90 : decode kA_plan 90 = .ok (.iload_n 1, 1) := by decide +kernel
theorem dA_plan_91 : decode kA_plan 91 = .ok (.iload_n 2, 1) := by decide +kernel
theorem dA_plan_92 : decode kA_plan 92 = .ok (.invokevirtual 101, 3) := by decide +kernel
theorem dA_plan_95 : decode kA_plan 95 = .ok (.istore_n 2, 1) := by decide +kernel
theorem dA_plan_96 : decode kA_plan 96 = .ok (.iinc 3 1, 3) := by decide +kernel
theorem dA_plan_99 : decode kA_plan 99 = .ok (.goto (-22), 3) := by decide +kernel
theorem dA_plan_102 : decode kA_plan 102 = .ok (.return_, 1) := by decide +kernel
theorem dA_stretch_0 : decode kA_stretch 0 = .ok (.iconst (-1), 1) := by decide +kernel
theorem dA_stretch_1 : decode kA_stretch 1 = .ok (.istore_n 3, 1) := by decide +kernel
theorem dA_stretch_2 : decode kA_stretch 2 = .ok (.bipush 60, 2) := by decide +kernel
theorem dA_stretch_4 : decode kA_stretch 4 = .ok (.istore 4, 2) := by decide +kernel
theorem dA_stretch_6 : decode kA_stretch 6 = .ok (.iconst 0, 1) := by decide +kernel
theorem dA_stretch_7 : decode kA_stretch 7 = .ok (.istore 5, 2) := by decide +kernel
theorem dA_stretch_9 : decode kA_stretch 9 = .ok (.iload 5, 2) := by decide +kernel
theorem dA_stretch_11 : decode kA_stretch 11 = .ok (.bipush 26, 2) := by decide +kernel
theorem dA_stretch_13 : decode kA_stretch 13 = .ok (.if_icmp .ge 143, 3) := by decide +kernel
theorem dA_stretch_16 : decode kA_stretch 16 = .ok (.aload_n 0, 1) := by decide +kernel
theorem dA_stretch_17 : decode kA_stretch 17 = .ok (.getfield 17, 3) := by decide +kernel
theorem dA_stretch_20 : decode kA_stretch 20 = .ok (.iload 5, 2) := by decide +kernel
theorem dA_stretch_22 : decode kA_stretch 22 = .ok (.iaload, 1) := by decide +kernel
theorem dA_stretch_23 : decode kA_stretch 23 = .ok (.iload_n 1, 1) := by decide +kernel
theorem dA_stretch_24 : decode kA_stretch 24 = .ok (.if_icmp .eq 6, 3) := by decide +kernel
theorem dA_stretch_27 : decode kA_stretch 27 = .ok (.goto 123, 3) := by decide +kernel
theorem dA_stretch_30 : decode kA_stretch 30 = .ok (.aload_n 0, 1) := by decide +kernel
theorem dA_stretch_31 : decode kA_stretch 31 = .ok (.getfield 32, 3) := by decide +kernel
theorem dA_stretch_34 : decode kA_stretch 34 = .ok (.iload 5, 2) := by decide +kernel
theorem dA_stretch_36 : decode kA_stretch 36 = .ok (.iaload, 1) := by decide +kernel
theorem dA_stretch_37 : decode kA_stretch 37 = .ok (.ifCond .le 24, 3) := by decide +kernel
theorem dA_stretch_40 : decode kA_stretch 40 = .ok (.aload_n 0, 1) := by decide +kernel
theorem dA_stretch_41 : decode kA_stretch 41 = .ok (.getfield 35, 3) := by decide +kernel
theorem dA_stretch_44 : decode kA_stretch 44 = .ok (.iload 5, 2) := by decide +kernel
theorem dA_stretch_46 : decode kA_stretch 46 = .ok (.iaload, 1) := by decide +kernel
theorem dA_stretch_47 : decode kA_stretch 47 = .ok (.iload_n 2, 1) := by decide +kernel
theorem dA_stretch_48 : decode kA_stretch 48 = .ok (.if_icmp .le 13, 3) := by decide +kernel
theorem dA_stretch_51 : decode kA_stretch 51 = .ok (.aload_n 0, 1) := by decide +kernel
theorem dA_stretch_52 : decode kA_stretch 52 = .ok (.getfield 35, 3) := by decide +kernel
theorem dA_stretch_55 : decode kA_stretch 55 = .ok (.iload 5, 2) := by decide +kernel
theorem dA_stretch_57 : decode kA_stretch 57 = .ok (.iaload, 1) := by decide +kernel
theorem dA_stretch_58 : decode kA_stretch 58 = .ok (.goto 20, 3) := by decide +kernel
theorem dA_stretch_61 : decode kA_stretch 61 = .ok (.aload_n 0, 1) := by decide +kernel
theorem dA_stretch_62 : decode kA_stretch 62 = .ok (.getfield 35, 3) := by decide +kernel
theorem dA_stretch_65 : decode kA_stretch 65 = .ok (.iload 5, 2) := by decide +kernel
theorem dA_stretch_67 : decode kA_stretch 67 = .ok (.iaload, 1) := by decide +kernel
theorem dA_stretch_68 : decode kA_stretch 68 = .ok (.aload_n 0, 1) := by decide +kernel
theorem dA_stretch_69 : decode kA_stretch 69 = .ok (.getfield 13, 3) := by decide +kernel
theorem dA_stretch_72 : decode kA_stretch 72 = .ok (.iload 5, 2) := by decide +kernel
theorem dA_stretch_74 : decode kA_stretch 74 = .ok (.iconst 2, 1) := by decide +kernel
theorem dA_stretch_75 : decode kA_stretch 75 = .ok (.idiv, 1) := by decide +kernel
theorem dA_stretch_76 : decode kA_stretch 76 = .ok (.iaload, 1) := by decide +kernel
theorem dA_stretch_77 : decode kA_stretch 77 = .ok (.iadd, 1) := by decide +kernel
theorem dA_stretch_78 : decode kA_stretch 78 = .ok (.istore 6, 2) := by decide +kernel
theorem dA_stretch_80 : decode kA_stretch 80 = .ok (.iload 6, 2) := by decide +kernel
theorem dA_stretch_82 : decode kA_stretch 82 = .ok (.iload 4, 2) := by decide +kernel
theorem dA_stretch_84 : decode kA_stretch 84 = .ok (.if_icmp .ge 7, 3) := by decide +kernel
theorem dA_stretch_87 : decode kA_stretch 87 = .ok (.iload 6, 2) := by decide +kernel
theorem dA_stretch_89 : decode kA_stretch 89 = .ok (.istore 4, 2) := by decide +kernel
theorem dA_stretch_91 : decode kA_stretch 91 = .ok (.aload_n 0, 1) := by decide +kernel
theorem dA_stretch_92 : decode kA_stretch 92 = .ok (.getfield 32, 3) := by decide +kernel
theorem dA_stretch_95 : decode kA_stretch 95 = .ok (.iload 5, 2) := by decide +kernel
theorem dA_stretch_97 : decode kA_stretch 97 = .ok (.iaload, 1) := by decide +kernel
theorem dA_stretch_98 : decode kA_stretch 98 = .ok (.ifCond .le 52, 3) := by decide +kernel
theorem dA_stretch_101 : decode kA_stretch 101 = .ok (.aload_n 0, 1) := by decide +kernel
theorem dA_stretch_102 : decode kA_stretch 102 = .ok (.getfield 35, 3) := by decide +kernel
theorem dA_stretch_105 : decode kA_stretch 105 = .ok (.iload 5, 2) := by decide +kernel
theorem dA_stretch_107 : decode kA_stretch 107 = .ok (.iaload, 1) := by decide +kernel
theorem dA_stretch_108 : decode kA_stretch 108 = .ok (.iload_n 2, 1) := by decide +kernel
theorem dA_stretch_109 : decode kA_stretch 109 = .ok (.if_icmp .gt 41, 3) := by decide +kernel
theorem dA_stretch_112 : decode kA_stretch 112 = .ok (.iload_n 3, 1) := by decide +kernel
theorem dA_stretch_113 : decode kA_stretch 113 = .ok (.ifCond .lt 34, 3) := by decide +kernel
theorem dA_stretch_116 : decode kA_stretch 116 = .ok (.aload_n 0, 1) := by decide +kernel
theorem dA_stretch_117 : decode kA_stretch 117 = .ok (.getfield 35, 3) := by decide +kernel
theorem dA_stretch_120 : decode kA_stretch 120 = .ok (.iload 5, 2) := by decide +kernel
theorem dA_stretch_122 : decode kA_stretch 122 = .ok (.iaload, 1) := by decide +kernel
theorem dA_stretch_123 : decode kA_stretch 123 = .ok (.aload_n 0, 1) := by decide +kernel
theorem dA_stretch_124 : decode kA_stretch 124 = .ok (.getfield 23, 3) := by decide +kernel
theorem dA_stretch_127 : decode kA_stretch 127 = .ok (.iload 5, 2) := by decide +kernel
theorem dA_stretch_129 : decode kA_stretch 129 = .ok (.iaload, 1) := by decide +kernel
theorem dA_stretch_130 : decode kA_stretch 130 = .ok (.iadd, 1) := by decide +kernel
theorem dA_stretch_131 : decode kA_stretch 131 = .ok (.aload_n 0, 1) := by decide +kernel
theorem dA_stretch_132 : decode kA_stretch 132 = .ok (.getfield 35, 3) := by decide +kernel
theorem dA_stretch_135 : decode kA_stretch 135 = .ok (.iload_n 3, 1) := by decide +kernel
theorem dA_stretch_136 : decode kA_stretch 136 = .ok (.iaload, 1) := by decide +kernel
theorem dA_stretch_137 : decode kA_stretch 137 = .ok (.aload_n 0, 1) := by decide +kernel
theorem dA_stretch_138 : decode kA_stretch 138 = .ok (.getfield 23, 3) := by decide +kernel
theorem dA_stretch_141 : decode kA_stretch 141 = .ok (.iload_n 3, 1) := by decide +kernel
theorem dA_stretch_142 : decode kA_stretch 142 = .ok (.iaload, 1) := by decide +kernel
theorem dA_stretch_143 : decode kA_stretch 143 = .ok (.iadd, 1) := by decide +kernel
theorem dA_stretch_144 : decode kA_stretch 144 = .ok (.if_icmp .ge 6, 3) := by decide +kernel
theorem dA_stretch_147 : decode kA_stretch 147 = .ok (.iload 5, 2) := by decide +kernel
theorem dA_stretch_149 : decode kA_stretch 149 = .ok (.istore_n 3, 1) := by decide +kernel
theorem dA_stretch_150 : decode kA_stretch 150 = .ok (.iinc 5 1, 3) := by decide +kernel
theorem dA_stretch_153 : decode kA_stretch 153 = .ok (.goto (-144), 3) := by decide +kernel
theorem dA_stretch_156 : decode kA_stretch 156 = .ok (.iload 4, 2) := by decide +kernel
theorem dA_stretch_158 : decode kA_stretch 158 = .ok (.istore 5, 2) := by decide +kernel
theorem dA_stretch_160 : decode kA_stretch 160 = .ok (.iload_n 3, 1) := by decide +kernel
theorem dA_stretch_161 : decode kA_stretch 161 = .ok (.ifCond .lt 26, 3) := by decide +kernel
theorem dA_stretch_164 : decode kA_stretch 164 = .ok (.iload_n 2, 1) := by decide +kernel
theorem dA_stretch_165 : decode kA_stretch 165 = .ok (.aload_n 0, 1) := by decide +kernel
theorem dA_stretch_166 : decode kA_stretch 166 = .ok (.getfield 32, 3) := by decide +kernel
theorem dA_stretch_169 : decode kA_stretch 169 = .ok (.iload_n 3, 1) := by decide +kernel
theorem dA_stretch_170 : decode kA_stretch 170 = .ok (.iaload, 1) := by decide +kernel
theorem dA_stretch_171 : decode kA_stretch 171 = .ok (.iadd, 1) := by decide +kernel
theorem dA_stretch_172 : decode kA_stretch 172 = .ok (.iload 5, 2) := by decide +kernel
theorem dA_stretch_174 : decode kA_stretch 174 = .ok (.if_icmp .ge 13, 3) := by decide +kernel
theorem dA_stretch_177 : decode kA_stretch 177 = .ok (.iload_n 2, 1) := by decide +kernel
theorem dA_stretch_178 : decode kA_stretch 178 = .ok (.aload_n 0, 1) := by decide +kernel
theorem dA_stretch_179 : decode kA_stretch 179 = .ok (.getfield 32, 3) := by decide +kernel
theorem dA_stretch_182 : decode kA_stretch 182 = .ok (.iload_n 3, 1) := by decide +kernel
theorem dA_stretch_183 : decode kA_stretch 183 = .ok (.iaload, 1) := by decide +kernel
theorem dA_stretch_184 : decode kA_stretch 184 = .ok (.iadd, 1) := by decide +kernel
theorem dA_stretch_185 : decode kA_stretch 185 = .ok (.istore 5, 2) := by decide +kernel
theorem dA_stretch_187 : decode kA_stretch 187 = .ok (.aload_n 0, 1) := by decide +kernel
theorem dA_stretch_188 : decode kA_stretch 188 = .ok (.getfield 26, 3) := by decide +kernel
theorem dA_stretch_191 : decode kA_stretch 191 = .ok (.aload_n 0, 1) := by decide +kernel
theorem dA_stretch_192 : decode kA_stretch 192 = .ok (.getfield 98, 3) := by decide +kernel
theorem dA_stretch_195 : decode kA_stretch 195 = .ok (.iload 5, 2) := by decide +kernel
theorem dA_stretch_197 : decode kA_stretch 197 = .ok (.iastore, 1) := by decide +kernel
theorem dA_stretch_198 : decode kA_stretch 198 = .ok (.aload_n 0, 1) := by decide +kernel
theorem dA_stretch_199 : decode kA_stretch 199 = .ok (.getfield 29, 3) := by decide +kernel
theorem dA_stretch_202 : decode kA_stretch 202 = .ok (.aload_n 0, 1) := by decide +kernel
theorem dA_stretch_203 : decode kA_stretch 203 = .ok (.getfield 98, 3) := by decide +kernel
theorem dA_stretch_206 : decode kA_stretch 206 = .ok (.iload_n 3, 1) := by decide +kernel
theorem dA_stretch_207 : decode kA_stretch 207 = .ok (.ifCond .ge 8, 3) := by decide +kernel
theorem dA_stretch_210 : decode kA_stretch 210 = .ok (.bipush (-5), 2) := by decide +kernel
theorem dA_stretch_212 : decode kA_stretch 212 = .ok (.goto 6, 3) := by decide +kernel
theorem dA_stretch_215 : decode kA_stretch 215 = .ok (.iload_n 3, 1) := by decide +kernel
theorem dA_stretch_216 : decode kA_stretch 216 = .ok (.iconst 2, 1) := by decide +kernel
theorem dA_stretch_217 : decode kA_stretch 217 = .ok (.idiv, 1) := by decide +kernel
theorem dA_stretch_218 : decode kA_stretch 218 = .ok (.iastore, 1) := by decide +kernel
theorem dA_stretch_219 : decode kA_stretch 219 = .ok (.aload_n 0, 1) := by decide +kernel
theorem dA_stretch_220 : decode kA_stretch 220 = .ok (.dup, 1) := by decide +kernel
theorem dA_stretch_221 : decode kA_stretch 221 = .ok (.getfield 98, 3) := by decide +kernel
theorem dA_stretch_224 : decode kA_stretch 224 = .ok (.iconst 1, 1) := by decide +kernel
theorem dA_stretch_225 : decode kA_stretch 225 = .ok (.iadd, 1) := by decide +kernel
theorem dA_stretch_226 : decode kA_stretch 226 = .ok (.putfield 98, 3) := by decide +kernel
theorem dA_stretch_229 : decode kA_stretch 229 = .ok (.iload_n 3, 1) := by decide +kernel
theorem dA_stretch_230 : decode kA_stretch 230 = .ok (.ifCond .lt 11, 3) := by decide +kernel
theorem dA_stretch_233 : decode kA_stretch 233 = .ok (.aload_n 0, 1) := by decide +kernel
theorem dA_stretch_234 : decode kA_stretch 234 = .ok (.iload_n 3, 1) := by decide +kernel
theorem dA_stretch_235 : decode kA_stretch 235 = .ok (.iload_n 2, 1) := by decide +kernel
theorem dA_stretch_236 : decode kA_stretch 236 = .ok (.iload 5, 2) := by decide +kernel
theorem dA_stretch_238 : decode kA_stretch 238 = .ok (.invokevirtual 104, 3) := by decide +kernel
theorem dA_stretch_241 : decode kA_stretch 241 = .ok (.iload 5, 2) := by decide +kernel
theorem dA_stretch_243 : decode kA_stretch 243 = .ok (.ireturn, 1) := by decide +kernel
theorem dA_advance_0 : decode kA_advance 0 = .ok (.aload_n 0, 1) := by decide +kernel
theorem dA_advance_1 : decode kA_advance 1 = .ok (.getfield 32, 3) := by decide +kernel
theorem dA_advance_4 : decode kA_advance 4 = .ok (.iload_n 1, 1) := by decide +kernel
theorem dA_advance_5 : decode kA_advance 5 = .ok (.dup2, 1) := by decide +kernel
theorem dA_advance_6 : decode kA_advance 6 = .ok (.iaload, 1) := by decide +kernel
theorem dA_advance_7 : decode kA_advance 7 = .ok (.iload_n 3, 1) := by decide +kernel
theorem dA_advance_8 : decode kA_advance 8 = .ok (.iload_n 2, 1) := by decide +kernel
theorem dA_advance_9 : decode kA_advance 9 = .ok (.isub, 1) := by decide +kernel
theorem dA_advance_10 : decode kA_advance 10 = .ok (.isub, 1) := by decide +kernel
theorem dA_advance_11 : decode kA_advance 11 = .ok (.iastore, 1) := by decide +kernel
theorem dA_advance_12 : decode kA_advance 12 = .ok (.aload_n 0, 1) := by decide +kernel
theorem dA_advance_13 : decode kA_advance 13 = .ok (.getfield 32, 3) := by decide +kernel
theorem dA_advance_16 : decode kA_advance 16 = .ok (.iload_n 1, 1) := by decide +kernel
theorem dA_advance_17 : decode kA_advance 17 = .ok (.iaload, 1) := by decide +kernel
theorem dA_advance_18 : decode kA_advance 18 = .ok (.ifCond .le 4, 3) := by decide +kernel
theorem dA_advance_21 : decode kA_advance 21 = .ok (.return_, 1) := by decide +kernel
theorem dA_advance_22 : decode kA_advance 22 = .ok (.iload_n 3, 1) := by decide +kernel
theorem dA_advance_23 : decode kA_advance 23 = .ok (.aload_n 0, 1) := by decide +kernel
theorem dA_advance_24 : decode kA_advance 24 = .ok (.getfield 35, 3) := by decide +kernel
theorem dA_advance_27 : decode kA_advance 27 = .ok (.iload_n 1, 1) := by decide +kernel
theorem dA_advance_28 : decode kA_advance 28 = .ok (.iaload, 1) := by decide +kernel
theorem dA_advance_29 : decode kA_advance 29 = .ok (.isub, 1) := by decide +kernel
theorem dA_advance_30 : decode kA_advance 30 = .ok (.istore 4, 2) := by decide +kernel
theorem dA_advance_32 : decode kA_advance 32 = .ok (.iload 4, 2) := by decide +kernel
theorem dA_advance_34 : decode kA_advance 34 = .ok (.aload_n 0, 1) := by decide +kernel
theorem dA_advance_35 : decode kA_advance 35 = .ok (.getfield 38, 3) := by decide +kernel
theorem dA_advance_38 : decode kA_advance 38 = .ok (.iload_n 1, 1) := by decide +kernel
theorem dA_advance_39 : decode kA_advance 39 = .ok (.iaload, 1) := by decide +kernel
theorem dA_advance_40 : decode kA_advance 40 = .ok (.if_icmp .le 11, 3) := by decide +kernel
theorem dA_advance_43 : decode kA_advance 43 = .ok (.aload_n 0, 1) := by decide +kernel
theorem dA_advance_44 : decode kA_advance 44 = .ok (.getfield 38, 3) := by decide +kernel
theorem dA_advance_47 : decode kA_advance 47 = .ok (.iload_n 1, 1) := by decide +kernel
theorem dA_advance_48 : decode kA_advance 48 = .ok (.iload 4, 2) := by decide +kernel
theorem dA_advance_50 : decode kA_advance 50 = .ok (.iastore, 1) := by decide +kernel
theorem dA_advance_51 : decode kA_advance 51 = .ok (.aload_n 0, 1) := by decide +kernel
theorem dA_advance_52 : decode kA_advance 52 = .ok (.getfield 35, 3) := by decide +kernel
theorem dA_advance_55 : decode kA_advance 55 = .ok (.iload_n 1, 1) := by decide +kernel
theorem dA_advance_56 : decode kA_advance 56 = .ok (.dup2, 1) := by decide +kernel
theorem dA_advance_57 : decode kA_advance 57 = .ok (.iaload, 1) := by decide +kernel
theorem dA_advance_58 : decode kA_advance 58 = .ok (.aload_n 0, 1) := by decide +kernel
theorem dA_advance_59 : decode kA_advance 59 = .ok (.getfield 13, 3) := by decide +kernel
theorem dA_advance_62 : decode kA_advance 62 = .ok (.iload_n 1, 1) := by decide +kernel
theorem dA_advance_63 : decode kA_advance 63 = .ok (.iconst 2, 1) := by decide +kernel
theorem dA_advance_64 : decode kA_advance 64 = .ok (.idiv, 1) := by decide +kernel
theorem dA_advance_65 : decode kA_advance 65 = .ok (.iaload, 1) := by decide +kernel
theorem dA_advance_66 : decode kA_advance 66 = .ok (.iadd, 1) := by decide +kernel
theorem dA_advance_67 : decode kA_advance 67 = .ok (.iastore, 1) := by decide +kernel
theorem dA_advance_68 : decode kA_advance 68 = .ok (.aload_n 0, 1) := by decide +kernel
theorem dA_advance_69 : decode kA_advance 69 = .ok (.getfield 35, 3) := by decide +kernel
theorem dA_advance_72 : decode kA_advance 72 = .ok (.iload_n 1, 1) := by decide +kernel
theorem dA_advance_73 : decode kA_advance 73 = .ok (.iaload, 1) := by decide +kernel
theorem dA_advance_74 : decode kA_advance 74 = .ok (.bipush 60, 2) := by decide +kernel
theorem dA_advance_76 : decode kA_advance 76 = .ok (.if_icmp .ge 18, 3) := by decide +kernel
theorem dA_advance_79 : decode kA_advance 79 = .ok (.aload_n 0, 1) := by decide +kernel
theorem dA_advance_80 : decode kA_advance 80 = .ok (.getfield 32, 3) := by decide +kernel
theorem dA_advance_83 : decode kA_advance 83 = .ok (.iload_n 1, 1) := by decide +kernel
theorem dA_advance_84 : decode kA_advance 84 = .ok (.aload_n 0, 1) := by decide +kernel
theorem dA_advance_85 : decode kA_advance 85 = .ok (.getfield 20, 3) := by decide +kernel
theorem dA_advance_88 : decode kA_advance 88 = .ok (.iload_n 1, 1) := by decide +kernel
theorem dA_advance_89 : decode kA_advance 89 = .ok (.iaload, 1) := by decide +kernel
theorem dA_advance_90 : decode kA_advance 90 = .ok (.iastore, 1) := by decide +kernel
theorem dA_advance_91 : decode kA_advance 91 = .ok (.goto 10, 3) := by decide +kernel
theorem dA_advance_94 : decode kA_advance 94 = .ok (.aload_n 0, 1) := by decide +kernel
theorem dA_advance_95 : decode kA_advance 95 = .ok (.getfield 32, 3) := by decide +kernel
theorem dA_advance_98 : decode kA_advance 98 = .ok (.iload_n 1, 1) := by decide +kernel
theorem dA_advance_99 : decode kA_advance 99 = .ok (.iconst 0, 1) := by decide +kernel
theorem dA_advance_100 : decode kA_advance 100 = .ok (.iastore, 1) := by decide +kernel
theorem dA_advance_101 : decode kA_advance 101 = .ok (.return_, 1) := by decide +kernel
theorem dA_core_0 : decode kA_core 0 = .ok (.aload_n 0, 1) := by decide +kernel
theorem dA_core_1 : decode kA_core 1 = .ok (.iload_n 1, 1) := by decide +kernel
theorem dA_core_2 : decode kA_core 2 = .ok (.invokevirtual 95, 3) := by decide +kernel
theorem dA_core_5 : decode kA_core 5 = .ok (.ifCond .eq 8, 3) := by decide +kernel
theorem dA_core_8 : decode kA_core 8 = .ok (.bipush (-5), 2) := by decide +kernel
theorem dA_core_10 : decode kA_core 10 = .ok (.goto 11, 3) := by decide +kernel
theorem dA_core_13 : decode kA_core 13 = .ok (.aload_n 0, 1) := by decide +kernel
theorem dA_core_14 : decode kA_core 14 = .ok (.getfield 17, 3) := by decide +kernel
theorem dA_core_17 : decode kA_core 17 = .ok (.iconst 2, 1) := by decide +kernel
theorem dA_core_18 : decode kA_core 18 = .ok (.iload_n 1, 1) := by decide +kernel
theorem dA_core_19 : decode kA_core 19 = .ok (.imul, 1) := by decide +kernel
theorem dA_core_20 : decode kA_core 20 = .ok (.iaload, 1) := by decide +kernel
theorem dA_core_21 : decode kA_core 21 = .ok (.ireturn, 1) := by decide +kernel
theorem dA_secondCore_0 : decode kA_secondCore 0 = .ok (.aload_n 0, 1) := by decide +kernel
theorem dA_secondCore_1 : decode kA_secondCore 1 = .ok (.iload_n 1, 1) := by decide +kernel
theorem dA_secondCore_2 : decode kA_secondCore 2 = .ok (.invokevirtual 95, 3) := by decide +kernel
theorem dA_secondCore_5 : decode kA_secondCore 5 = .ok (.ifCond .eq 6, 3) := by decide +kernel
theorem dA_secondCore_8 : decode kA_secondCore 8 = .ok (.bipush (-5), 2) := by decide +kernel
theorem dA_secondCore_10 : decode kA_secondCore 10 = .ok (.ireturn, 1) := by decide +kernel
theorem dA_secondCore_11 : decode kA_secondCore 11 = .ok (.aload_n 0, 1) := by decide +kernel
theorem dA_secondCore_12 : decode kA_secondCore 12 = .ok (.getfield 17, 3) := by decide +kernel
theorem dA_secondCore_15 : decode kA_secondCore 15 = .ok (.iconst 2, 1) := by decide +kernel
theorem dA_secondCore_16 : decode kA_secondCore 16 = .ok (.iload_n 1, 1) := by decide +kernel
theorem dA_secondCore_17 : decode kA_secondCore 17 = .ok (.imul, 1) := by decide +kernel
theorem dA_secondCore_18 : decode kA_secondCore 18 = .ok (.iconst 1, 1) := by decide +kernel
theorem dA_secondCore_19 : decode kA_secondCore 19 = .ok (.iadd, 1) := by decide +kernel
theorem dA_secondCore_20 : decode kA_secondCore 20 = .ok (.iaload, 1) := by decide +kernel
theorem dA_secondCore_21 : decode kA_secondCore 21 = .ok (.ifCond .ge 8, 3) := by decide +kernel
theorem dA_secondCore_24 : decode kA_secondCore 24 = .ok (.bipush (-4), 2) := by decide +kernel
theorem dA_secondCore_26 : decode kA_secondCore 26 = .ok (.goto 13, 3) := by decide +kernel
theorem dA_secondCore_29 : decode kA_secondCore 29 = .ok (.aload_n 0, 1) := by decide +kernel
theorem dA_secondCore_30 : decode kA_secondCore 30 = .ok (.getfield 17, 3) := by decide +kernel
theorem dA_secondCore_33 : decode kA_secondCore 33 = .ok (.iconst 2, 1) := by decide +kernel
theorem dA_secondCore_34 : decode kA_secondCore 34 = .ok (.iload_n 1, 1) := by decide +kernel
theorem dA_secondCore_35 : decode kA_secondCore 35 = .ok (.imul, 1) := by decide +kernel
theorem dA_secondCore_36 : decode kA_secondCore 36 = .ok (.iconst 1, 1) := by decide +kernel
theorem dA_secondCore_37 : decode kA_secondCore 37 = .ok (.iadd, 1) := by decide +kernel
theorem dA_secondCore_38 : decode kA_secondCore 38 = .ok (.iaload, 1) := by decide +kernel
theorem dA_secondCore_39 : decode kA_secondCore 39 = .ok (.ireturn, 1) := by decide +kernel
theorem dA_firstCost_0 : decode kA_firstCost 0 = .ok (.aload_n 0, 1) := by decide +kernel
theorem dA_firstCost_1 : decode kA_firstCost 1 = .ok (.iload_n 1, 1) := by decide +kernel
theorem dA_firstCost_2 : decode kA_firstCost 2 = .ok (.invokevirtual 95, 3) := by decide +kernel
theorem dA_firstCost_5 : decode kA_firstCost 5 = .ok (.ifCond .eq 8, 3) := by decide +kernel
theorem dA_firstCost_8 : decode kA_firstCost 8 = .ok (.bipush (-5), 2) := by decide +kernel
theorem dA_firstCost_10 : decode kA_firstCost 10 = .ok (.goto 11, 3) := by decide +kernel
theorem dA_firstCost_13 : decode kA_firstCost 13 = .ok (.aload_n 0, 1) := by decide +kernel
theorem dA_firstCost_14 : decode kA_firstCost 14 = .ok (.getfield 20, 3) := by decide +kernel
theorem dA_firstCost_17 : decode kA_firstCost 17 = .ok (.iconst 2, 1) := by decide +kernel
theorem dA_firstCost_18 : decode kA_firstCost 18 = .ok (.iload_n 1, 1) := by decide +kernel
theorem dA_firstCost_19 : decode kA_firstCost 19 = .ok (.imul, 1) := by decide +kernel
theorem dA_firstCost_20 : decode kA_firstCost 20 = .ok (.iaload, 1) := by decide +kernel
theorem dA_firstCost_21 : decode kA_firstCost 21 = .ok (.ireturn, 1) := by decide +kernel
theorem dA_load_0 : decode kA_load 0 = .ok (.aload_n 0, 1) := by decide +kernel
theorem dA_load_1 : decode kA_load 1 = .ok (.iload_n 1, 1) := by decide +kernel
theorem dA_load_2 : decode kA_load 2 = .ok (.invokevirtual 108, 3) := by decide +kernel
theorem dA_load_5 : decode kA_load 5 = .ok (.ifCond .eq 6, 3) := by decide +kernel
theorem dA_load_8 : decode kA_load 8 = .ok (.bipush (-6), 2) := by decide +kernel
theorem dA_load_10 : decode kA_load 10 = .ok (.ireturn, 1) := by decide +kernel
theorem dA_load_11 : decode kA_load 11 = .ok (.aload_n 0, 1) := by decide +kernel
theorem dA_load_12 : decode kA_load 12 = .ok (.iload_n 1, 1) := by decide +kernel
theorem dA_load_13 : decode kA_load 13 = .ok (.invokevirtual 48, 3) := by decide +kernel
theorem dA_load_16 : decode kA_load 16 = .ok (.ireturn, 1) := by decide +kernel
theorem dA_running_0 : decode kA_running 0 = .ok (.aload_n 0, 1) := by decide +kernel
theorem dA_running_1 : decode kA_running 1 = .ok (.iload_n 1, 1) := by decide +kernel
theorem dA_running_2 : decode kA_running 2 = .ok (.invokevirtual 108, 3) := by decide +kernel
theorem dA_running_5 : decode kA_running 5 = .ok (.ifCond .eq 6, 3) := by decide +kernel
theorem dA_running_8 : decode kA_running 8 = .ok (.bipush (-6), 2) := by decide +kernel
theorem dA_running_10 : decode kA_running 10 = .ok (.ireturn, 1) := by decide +kernel
theorem dA_running_11 : decode kA_running 11 = .ok (.iload_n 2, 1) := by decide +kernel
theorem dA_running_12 : decode kA_running 12 = .ok (.ifCond .lt 9, 3) := by decide +kernel
theorem dA_running_15 : decode kA_running 15 = .ok (.iload_n 2, 1) := by decide +kernel
theorem dA_running_16 : decode kA_running 16 = .ok (.bipush 60, 2) := by decide +kernel
theorem dA_running_18 : decode kA_running 18 = .ok (.if_icmp .lt 6, 3) := by decide +kernel
theorem dA_running_21 : decode kA_running 21 = .ok (.bipush (-7), 2) := by decide +kernel
theorem dA_running_23 : decode kA_running 23 = .ok (.ireturn, 1) := by decide +kernel
theorem dA_running_24 : decode kA_running 24 = .ok (.aload_n 0, 1) := by decide +kernel
theorem dA_running_25 : decode kA_running 25 = .ok (.iload_n 1, 1) := by decide +kernel
theorem dA_running_26 : decode kA_running 26 = .ok (.invokevirtual 111, 3) := by decide +kernel
theorem dA_running_29 : decode kA_running 29 = .ok (.iconst 0, 1) := by decide +kernel
theorem dA_running_30 : decode kA_running 30 = .ok (.istore_n 3, 1) := by decide +kernel
theorem dA_running_31 : decode kA_running 31 = .ok (.iload_n 3, 1) := by decide +kernel
theorem dA_running_32 : decode kA_running 32 = .ok (.aload_n 0, 1) := by decide +kernel
theorem dA_running_33 : decode kA_running 33 = .ok (.getfield 98, 3) := by decide +kernel
theorem dA_running_36 : decode kA_running 36 = .ok (.iconst 1, 1) := by decide +kernel
theorem dA_running_37 : decode kA_running 37 = .ok (.isub, 1) := by decide +kernel
theorem dA_running_38 : decode kA_running 38 = .ok (.if_icmp .ge 19, 3) := by decide +kernel
theorem dA_running_41 : decode kA_running 41 = .ok (.aload_n 0, 1) := by decide +kernel
theorem dA_running_42 : decode kA_running 42 = .ok (.getfield 26, 3) := by decide +kernel
theorem dA_running_45 : decode kA_running 45 = .ok (.iload_n 3, 1) := by decide +kernel
theorem dA_running_46 : decode kA_running 46 = .ok (.iaload, 1) := by decide +kernel
theorem dA_running_47 : decode kA_running 47 = .ok (.iload_n 2, 1) := by decide +kernel
theorem dA_running_48 : decode kA_running 48 = .ok (.if_icmp .gt 9, 3) := by decide +kernel
theorem dA_running_51 : decode kA_running 51 = .ok (.iinc 3 1, 3) := by decide +kernel
theorem dA_running_54 : decode kA_running 54 = .ok (.goto (-23), 3) := by decide +kernel
theorem dA_running_57 : decode kA_running 57 = .ok (.aload_n 0, 1) := by decide +kernel
theorem dA_running_58 : decode kA_running 58 = .ok (.getfield 29, 3) := by decide +kernel
theorem dA_running_61 : decode kA_running 61 = .ok (.iload_n 3, 1) := by decide +kernel
theorem dA_running_62 : decode kA_running 62 = .ok (.iaload, 1) := by decide +kernel
theorem dA_running_63 : decode kA_running 63 = .ok (.ireturn, 1) := by decide +kernel
theorem dA_response_0 : decode kA_response 0 = .ok (.aload_n 0, 1) := by decide +kernel
theorem dA_response_1 : decode kA_response 1 = .ok (.iload_n 1, 1) := by decide +kernel
theorem dA_response_2 : decode kA_response 2 = .ok (.invokevirtual 108, 3) := by decide +kernel
theorem dA_response_5 : decode kA_response 5 = .ok (.ifCond .eq 6, 3) := by decide +kernel
theorem dA_response_8 : decode kA_response 8 = .ok (.bipush (-6), 2) := by decide +kernel
theorem dA_response_10 : decode kA_response 10 = .ok (.ireturn, 1) := by decide +kernel
theorem dA_response_11 : decode kA_response 11 = .ok (.aload_n 0, 1) := by decide +kernel
theorem dA_response_12 : decode kA_response 12 = .ok (.iload_n 2, 1) := by decide +kernel
theorem dA_response_13 : decode kA_response 13 = .ok (.invokevirtual 95, 3) := by decide +kernel
theorem dA_response_16 : decode kA_response 16 = .ok (.ifCond .eq 6, 3) := by decide +kernel
theorem dA_response_19 : decode kA_response 19 = .ok (.bipush (-5), 2) := by decide +kernel
theorem dA_response_21 : decode kA_response 21 = .ok (.ireturn, 1) := by decide +kernel
theorem dA_response_22 : decode kA_response 22 = .ok (.aload_n 0, 1) := by decide +kernel
theorem dA_response_23 : decode kA_response 23 = .ok (.iload_n 1, 1) := by decide +kernel
theorem dA_response_24 : decode kA_response 24 = .ok (.invokevirtual 111, 3) := by decide +kernel
theorem dA_response_27 : decode kA_response 27 = .ok (.aload_n 0, 1) := by decide +kernel
theorem dA_response_28 : decode kA_response 28 = .ok (.getfield 17, 3) := by decide +kernel
theorem dA_response_31 : decode kA_response 31 = .ok (.iconst 2, 1) := by decide +kernel
theorem dA_response_32 : decode kA_response 32 = .ok (.iload_n 2, 1) := by decide +kernel
theorem dA_response_33 : decode kA_response 33 = .ok (.imul, 1) := by decide +kernel
theorem dA_response_34 : decode kA_response 34 = .ok (.iaload, 1) := by decide +kernel
theorem dA_response_35 : decode kA_response 35 = .ok (.iload_n 1, 1) := by decide +kernel
theorem dA_response_36 : decode kA_response 36 = .ok (.if_icmp .ne 12, 3) := by decide +kernel
theorem dA_response_39 : decode kA_response 39 = .ok (.aload_n 0, 1) := by decide +kernel
theorem dA_response_40 : decode kA_response 40 = .ok (.getfield 38, 3) := by decide +kernel
theorem dA_response_43 : decode kA_response 43 = .ok (.iconst 2, 1) := by decide +kernel
theorem dA_response_44 : decode kA_response 44 = .ok (.iload_n 2, 1) := by decide +kernel
theorem dA_response_45 : decode kA_response 45 = .ok (.imul, 1) := by decide +kernel
theorem dA_response_46 : decode kA_response 46 = .ok (.iaload, 1) := by decide +kernel
theorem dA_response_47 : decode kA_response 47 = .ok (.ireturn, 1) := by decide +kernel
theorem dA_response_48 : decode kA_response 48 = .ok (.aload_n 0, 1) := by decide +kernel
theorem dA_response_49 : decode kA_response 49 = .ok (.getfield 17, 3) := by decide +kernel
theorem dA_response_52 : decode kA_response 52 = .ok (.iconst 2, 1) := by decide +kernel
theorem dA_response_53 : decode kA_response 53 = .ok (.iload_n 2, 1) := by decide +kernel
theorem dA_response_54 : decode kA_response 54 = .ok (.imul, 1) := by decide +kernel
theorem dA_response_55 : decode kA_response 55 = .ok (.iconst 1, 1) := by decide +kernel
theorem dA_response_56 : decode kA_response 56 = .ok (.iadd, 1) := by decide +kernel
theorem dA_response_57 : decode kA_response 57 = .ok (.iaload, 1) := by decide +kernel
theorem dA_response_58 : decode kA_response 58 = .ok (.iload_n 1, 1) := by decide +kernel
theorem dA_response_59 : decode kA_response 59 = .ok (.if_icmp .ne 14, 3) := by decide +kernel
theorem dA_response_62 : decode kA_response 62 = .ok (.aload_n 0, 1) := by decide +kernel
theorem dA_response_63 : decode kA_response 63 = .ok (.getfield 38, 3) := by decide +kernel
theorem dA_response_66 : decode kA_response 66 = .ok (.iconst 2, 1) := by decide +kernel
theorem dA_response_67 : decode kA_response 67 = .ok (.iload_n 2, 1) := by decide +kernel
theorem dA_response_68 : decode kA_response 68 = .ok (.imul, 1) := by decide +kernel
theorem dA_response_69 : decode kA_response 69 = .ok (.iconst 1, 1) := by decide +kernel
theorem dA_response_70 : decode kA_response 70 = .ok (.iadd, 1) := by decide +kernel
theorem dA_response_71 : decode kA_response 71 = .ok (.iaload, 1) := by decide +kernel
theorem dA_response_72 : decode kA_response 72 = .ok (.ireturn, 1) := by decide +kernel
theorem dA_response_73 : decode kA_response 73 = .ok (.bipush (-5), 2) := by decide +kernel
theorem dA_response_75 : decode kA_response 75 = .ok (.ireturn, 1) := by decide +kernel
theorem dA_spare_0 : decode kA_spare 0 = .ok (.aload_n 0, 1) := by decide +kernel
theorem dA_spare_1 : decode kA_spare 1 = .ok (.iload_n 1, 1) := by decide +kernel
theorem dA_spare_2 : decode kA_spare 2 = .ok (.invokevirtual 108, 3) := by decide +kernel
theorem dA_spare_5 : decode kA_spare 5 = .ok (.ifCond .eq 6, 3) := by decide +kernel
theorem dA_spare_8 : decode kA_spare 8 = .ok (.bipush (-6), 2) := by decide +kernel
theorem dA_spare_10 : decode kA_spare 10 = .ok (.ireturn, 1) := by decide +kernel
theorem dA_spare_11 : decode kA_spare 11 = .ok (.iload_n 2, 1) := by decide +kernel
theorem dA_spare_12 : decode kA_spare 12 = .ok (.invokestatic 70, 3) := by decide +kernel
theorem dA_spare_15 : decode kA_spare 15 = .ok (.ifCond .eq 5, 3) := by decide +kernel
theorem dA_spare_18 : decode kA_spare 18 = .ok (.iconst (-1), 1) := by decide +kernel
theorem dA_spare_19 : decode kA_spare 19 = .ok (.ireturn, 1) := by decide +kernel
theorem dA_spare_20 : decode kA_spare 20 = .ok (.aload_n 0, 1) := by decide +kernel
theorem dA_spare_21 : decode kA_spare 21 = .ok (.invokevirtual 76, 3) := by decide +kernel
theorem dA_spare_24 : decode kA_spare 24 = .ok (.istore_n 3, 1) := by decide +kernel
theorem dA_spare_25 : decode kA_spare 25 = .ok (.aload_n 0, 1) := by decide +kernel
theorem dA_spare_26 : decode kA_spare 26 = .ok (.getfield 13, 3) := by decide +kernel
theorem dA_spare_29 : decode kA_spare 29 = .ok (.iload_n 3, 1) := by decide +kernel
theorem dA_spare_30 : decode kA_spare 30 = .ok (.iload_n 2, 1) := by decide +kernel
theorem dA_spare_31 : decode kA_spare 31 = .ok (.iastore, 1) := by decide +kernel
theorem dA_spare_32 : decode kA_spare 32 = .ok (.iconst 0, 1) := by decide +kernel
theorem dA_spare_33 : decode kA_spare 33 = .ok (.istore 4, 2) := by decide +kernel
theorem dA_spare_35 : decode kA_spare 35 = .ok (.iload_n 2, 1) := by decide +kernel
theorem dA_spare_36 : decode kA_spare 36 = .ok (.iconst 1, 1) := by decide +kernel
theorem dA_spare_37 : decode kA_spare 37 = .ok (.iadd, 1) := by decide +kernel
theorem dA_spare_38 : decode kA_spare 38 = .ok (.istore 5, 2) := by decide +kernel
theorem dA_spare_40 : decode kA_spare 40 = .ok (.iload 5, 2) := by decide +kernel
theorem dA_spare_42 : decode kA_spare 42 = .ok (.iload 4, 2) := by decide +kernel
theorem dA_spare_44 : decode kA_spare 44 = .ok (.isub, 1) := by decide +kernel
theorem dA_spare_45 : decode kA_spare 45 = .ok (.iconst 1, 1) := by decide +kernel
theorem dA_spare_46 : decode kA_spare 46 = .ok (.if_icmp .le 44, 3) := by decide +kernel
theorem dA_spare_49 : decode kA_spare 49 = .ok (.iload 4, 2) := by decide +kernel
theorem dA_spare_51 : decode kA_spare 51 = .ok (.iload 5, 2) := by decide +kernel
theorem dA_spare_53 : decode kA_spare 53 = .ok (.iadd, 1) := by decide +kernel
theorem dA_spare_54 : decode kA_spare 54 = .ok (.iconst 2, 1) := by decide +kernel
theorem dA_spare_55 : decode kA_spare 55 = .ok (.idiv, 1) := by decide +kernel
theorem dA_spare_56 : decode kA_spare 56 = .ok (.istore 6, 2) := by decide +kernel
theorem dA_spare_58 : decode kA_spare 58 = .ok (.aload_n 0, 1) := by decide +kernel
theorem dA_spare_59 : decode kA_spare 59 = .ok (.iload_n 1, 1) := by decide +kernel
theorem dA_spare_60 : decode kA_spare 60 = .ok (.iconst 2, 1) := by decide +kernel
theorem dA_spare_61 : decode kA_spare 61 = .ok (.iload_n 3, 1) := by decide +kernel
theorem dA_spare_62 : decode kA_spare 62 = .ok (.imul, 1) := by decide +kernel
theorem dA_spare_63 : decode kA_spare 63 = .ok (.iload 6, 2) := by decide +kernel
theorem dA_spare_65 : decode kA_spare 65 = .ok (.iload_n 2, 1) := by decide +kernel
theorem dA_spare_66 : decode kA_spare 66 = .ok (.invokevirtual 88, 3) := by decide +kernel
theorem dA_spare_69 : decode kA_spare 69 = .ok (.istore 7, 2) := by decide +kernel
theorem dA_spare_71 : decode kA_spare 71 = .ok (.iload 7, 2) := by decide +kernel
theorem dA_spare_73 : decode kA_spare 73 = .ok (.ifCond .eq 10, 3) := by decide +kernel
theorem dA_spare_76 : decode kA_spare 76 = .ok (.iload 6, 2) := by decide +kernel
theorem dA_spare_78 : decode kA_spare 78 = .ok (.istore 4, 2) := by decide +kernel
theorem dA_spare_80 : decode kA_spare 80 = .ok (.goto 7, 3) := by decide +kernel
theorem dA_spare_83 : decode kA_spare 83 = .ok (.iload 6, 2) := by decide +kernel
theorem dA_spare_85 : decode kA_spare 85 = .ok (.istore 5, 2) := by decide +kernel
theorem dA_spare_87 : decode kA_spare 87 = .ok (.goto (-47), 3) := by decide +kernel
theorem dA_spare_90 : decode kA_spare 90 = .ok (.iload 4, 2) := by decide +kernel
theorem dA_spare_92 : decode kA_spare 92 = .ok (.ireturn, 1) := by decide +kernel
end
section
/-! decode rows, printed by program -/
theorem dB_init_0 : decode kB_init 0 = .ok (.aload_n 0, 1) := by decide +kernel
theorem dB_init_1 : decode kB_init 1 = .ok (.invokespecial 1, 3) := by decide +kernel
theorem dB_init_4 : decode kB_init 4 = .ok (.aload_n 0, 1) := by decide +kernel
theorem dB_init_5 : decode kB_init 5 = .ok (.bipush 12, 2) := by decide +kernel
theorem dB_init_7 : decode kB_init 7 = .ok (.newarray .int, 2) := by decide +kernel
theorem dB_init_9 : decode kB_init 9 = .ok (.putfield 7, 3) := by decide +kernel
theorem dB_init_12 : decode kB_init 12 = .ok (.aload_n 0, 1) := by decide +kernel
theorem dB_init_13 : decode kB_init 13 = .ok (.bipush 12, 2) := by decide +kernel
theorem dB_init_15 : decode kB_init 15 = .ok (.newarray .int, 2) := by decide +kernel
theorem dB_init_17 : decode kB_init 17 = .ok (.putfield 13, 3) := by decide +kernel
theorem dB_init_20 : decode kB_init 20 = .ok (.aload_n 0, 1) := by decide +kernel
theorem dB_init_21 : decode kB_init 21 = .ok (.bipush 12, 2) := by decide +kernel
theorem dB_init_23 : decode kB_init 23 = .ok (.newarray .int, 2) := by decide +kernel
theorem dB_init_25 : decode kB_init 25 = .ok (.putfield 16, 3) := by decide +kernel
theorem dB_init_28 : decode kB_init 28 = .ok (.aload_n 0, 1) := by decide +kernel
theorem dB_init_29 : decode kB_init 29 = .ok (.bipush 12, 2) := by decide +kernel
theorem dB_init_31 : decode kB_init 31 = .ok (.newarray .int, 2) := by decide +kernel
theorem dB_init_33 : decode kB_init 33 = .ok (.putfield 19, 3) := by decide +kernel
theorem dB_init_36 : decode kB_init 36 = .ok (.aload_n 0, 1) := by decide +kernel
theorem dB_init_37 : decode kB_init 37 = .ok (.bipush 12, 2) := by decide +kernel
theorem dB_init_39 : decode kB_init 39 = .ok (.newarray .int, 2) := by decide +kernel
theorem dB_init_41 : decode kB_init 41 = .ok (.putfield 22, 3) := by decide +kernel
theorem dB_init_44 : decode kB_init 44 = .ok (.aload_n 0, 1) := by decide +kernel
theorem dB_init_45 : decode kB_init 45 = .ok (.bipush 12, 2) := by decide +kernel
theorem dB_init_47 : decode kB_init 47 = .ok (.newarray .int, 2) := by decide +kernel
theorem dB_init_49 : decode kB_init 49 = .ok (.putfield 25, 3) := by decide +kernel
theorem dB_init_52 : decode kB_init 52 = .ok (.aload_n 0, 1) := by decide +kernel
theorem dB_init_53 : decode kB_init 53 = .ok (.bipush 13, 2) := by decide +kernel
theorem dB_init_55 : decode kB_init 55 = .ok (.newarray .int, 2) := by decide +kernel
theorem dB_init_57 : decode kB_init 57 = .ok (.putfield 28, 3) := by decide +kernel
theorem dB_init_60 : decode kB_init 60 = .ok (.aload_n 0, 1) := by decide +kernel
theorem dB_init_61 : decode kB_init 61 = .ok (.bipush 13, 2) := by decide +kernel
theorem dB_init_63 : decode kB_init 63 = .ok (.newarray .int, 2) := by decide +kernel
theorem dB_init_65 : decode kB_init 65 = .ok (.putfield 31, 3) := by decide +kernel
theorem dB_init_68 : decode kB_init 68 = .ok (.aload_n 0, 1) := by decide +kernel
theorem dB_init_69 : decode kB_init 69 = .ok (.bipush 13, 2) := by decide +kernel
theorem dB_init_71 : decode kB_init 71 = .ok (.newarray .int, 2) := by decide +kernel
theorem dB_init_73 : decode kB_init 73 = .ok (.putfield 34, 3) := by decide +kernel
theorem dB_init_76 : decode kB_init 76 = .ok (.aload_n 0, 1) := by decide +kernel
theorem dB_init_77 : decode kB_init 77 = .ok (.bipush 13, 2) := by decide +kernel
theorem dB_init_79 : decode kB_init 79 = .ok (.newarray .int, 2) := by decide +kernel
theorem dB_init_81 : decode kB_init 81 = .ok (.putfield 37, 3) := by decide +kernel
theorem dB_init_84 : decode kB_init 84 = .ok (.aload_n 0, 1) := by decide +kernel
theorem dB_init_85 : decode kB_init 85 = .ok (.bipush 13, 2) := by decide +kernel
theorem dB_init_87 : decode kB_init 87 = .ok (.newarray .int, 2) := by decide +kernel
theorem dB_init_89 : decode kB_init 89 = .ok (.putfield 40, 3) := by decide +kernel
theorem dB_init_92 : decode kB_init 92 = .ok (.aload_n 0, 1) := by decide +kernel
theorem dB_init_93 : decode kB_init 93 = .ok (.bipush 60, 2) := by decide +kernel
theorem dB_init_95 : decode kB_init 95 = .ok (.newarray .int, 2) := by decide +kernel
theorem dB_init_97 : decode kB_init 97 = .ok (.putfield 43, 3) := by decide +kernel
theorem dB_init_100 : decode kB_init 100 = .ok (.aload_n 0, 1) := by decide +kernel
theorem dB_init_101 : decode kB_init 101 = .ok (.bipush 13, 2) := by decide +kernel
theorem dB_init_103 : decode kB_init 103 = .ok (.newarray .int, 2) := by decide +kernel
theorem dB_init_105 : decode kB_init 105 = .ok (.putfield 46, 3) := by decide +kernel
theorem dB_init_108 : decode kB_init 108 = .ok (.iload_n 1, 1) := by decide +kernel
theorem dB_init_109 : decode kB_init 109 = .ok (.istore_n 2, 1) := by decide +kernel
theorem dB_init_110 : decode kB_init 110 = .ok (.iload_n 2, 1) := by decide +kernel
theorem dB_init_111 : decode kB_init 111 = .ok (.iconst 1, 1) := by decide +kernel
theorem dB_init_112 : decode kB_init 112 = .ok (.if_icmp .ge 5, 3) := by decide +kernel
theorem dB_init_115 : decode kB_init 115 = .ok (.iconst 1, 1) := by decide +kernel
theorem dB_init_116 : decode kB_init 116 = .ok (.istore_n 2, 1) := by decide +kernel
theorem dB_init_117 : decode kB_init 117 = .ok (.iload_n 2, 1) := by decide +kernel
theorem dB_init_118 : decode kB_init 118 = .ok (.iconst 3, 1) := by decide +kernel
theorem dB_init_119 : decode kB_init 119 = .ok (.if_icmp .le 5, 3) := by decide +kernel
theorem dB_init_122 : decode kB_init 122 = .ok (.iconst 3, 1) := by decide +kernel
theorem dB_init_123 : decode kB_init 123 = .ok (.istore_n 2, 1) := by decide +kernel
theorem dB_init_124 : decode kB_init 124 = .ok (.aload_n 0, 1) := by decide +kernel
theorem dB_init_125 : decode kB_init 125 = .ok (.iload_n 2, 1) := by decide +kernel
theorem dB_init_126 : decode kB_init 126 = .ok (.putfield 49, 3) := by decide +kernel
theorem dB_init_129 : decode kB_init 129 = .ok (.return_, 1) := by decide +kernel
theorem dB_badPeriod_0 : decode kB_badPeriod 0 = .ok (.iload_n 1, 1) := by decide +kernel
theorem dB_badPeriod_1 : decode kB_badPeriod 1 = .ok (.iconst 2, 1) := by decide +kernel
theorem dB_badPeriod_2 : decode kB_badPeriod 2 = .ok (.if_icmp .lt 9, 3) := by decide +kernel
theorem dB_badPeriod_5 : decode kB_badPeriod 5 = .ok (.iload_n 1, 1) := by decide +kernel
theorem dB_badPeriod_6 : decode kB_badPeriod 6 = .ok (.bipush 60, 2) := by decide +kernel
theorem dB_badPeriod_8 : decode kB_badPeriod 8 = .ok (.if_icmp .le 5, 3) := by decide +kernel
theorem dB_badPeriod_11 : decode kB_badPeriod 11 = .ok (.iconst 1, 1) := by decide +kernel
theorem dB_badPeriod_12 : decode kB_badPeriod 12 = .ok (.ireturn, 1) := by decide +kernel
theorem dB_badPeriod_13 : decode kB_badPeriod 13 = .ok (.bipush 60, 2) := by decide +kernel
theorem dB_badPeriod_15 : decode kB_badPeriod 15 = .ok (.iload_n 1, 1) := by decide +kernel
theorem dB_badPeriod_16 : decode kB_badPeriod 16 = .ok (.irem, 1) := by decide +kernel
theorem dB_badPeriod_17 : decode kB_badPeriod 17 = .ok (.ifCond .eq 7, 3) := by decide +kernel
theorem dB_badPeriod_20 : decode kB_badPeriod 20 = .ok (.iconst 1, 1) := by decide +kernel
theorem dB_badPeriod_21 : decode kB_badPeriod 21 = .ok (.goto 4, 3) := by decide +kernel
theorem dB_badPeriod_24 : decode kB_badPeriod 24 = .ok (.iconst 0, 1) := by decide +kernel
theorem dB_badPeriod_25 : decode kB_badPeriod 25 = .ok (.ireturn, 1) := by decide +kernel
theorem dB_none_0 : decode kB_none 0 = .ok (.iload_n 1, 1) := by decide +kernel
theorem dB_none_1 : decode kB_none 1 = .ok (.ifCond .lt 18, 3) := by decide +kernel
theorem dB_none_4 : decode kB_none 4 = .ok (.iload_n 1, 1) := by decide +kernel
theorem dB_none_5 : decode kB_none 5 = .ok (.bipush 11, 2) := by decide +kernel
theorem dB_none_7 : decode kB_none 7 = .ok (.if_icmp .gt 12, 3) := by decide +kernel
theorem dB_none_10 : decode kB_none 10 = .ok (.aload_n 0, 1) := by decide +kernel
theorem dB_none_11 : decode kB_none 11 = .ok (.getfield 7, 3) := by decide +kernel
theorem dB_none_14 : decode kB_none 14 = .ok (.iload_n 1, 1) := by decide +kernel
theorem dB_none_15 : decode kB_none 15 = .ok (.iaload, 1) := by decide +kernel
theorem dB_none_16 : decode kB_none 16 = .ok (.ifCond .ne 7, 3) := by decide +kernel
theorem dB_none_19 : decode kB_none 19 = .ok (.iconst 1, 1) := by decide +kernel
theorem dB_none_20 : decode kB_none 20 = .ok (.goto 4, 3) := by decide +kernel
theorem dB_none_23 : decode kB_none 23 = .ok (.iconst 0, 1) := by decide +kernel
theorem dB_none_24 : decode kB_none 24 = .ok (.ireturn, 1) := by decide +kernel
theorem dB_badCore_0 : decode kB_badCore 0 = .ok (.iload_n 1, 1) := by decide +kernel
theorem dB_badCore_1 : decode kB_badCore 1 = .ok (.ifCond .lt 11, 3) := by decide +kernel
theorem dB_badCore_4 : decode kB_badCore 4 = .ok (.iload_n 1, 1) := by decide +kernel
theorem dB_badCore_5 : decode kB_badCore 5 = .ok (.aload_n 0, 1) := by decide +kernel
theorem dB_badCore_6 : decode kB_badCore 6 = .ok (.getfield 49, 3) := by decide +kernel
theorem dB_badCore_9 : decode kB_badCore 9 = .ok (.if_icmp .lt 7, 3) := by decide +kernel
theorem dB_badCore_12 : decode kB_badCore 12 = .ok (.iconst 1, 1) := by decide +kernel
theorem dB_badCore_13 : decode kB_badCore 13 = .ok (.goto 4, 3) := by decide +kernel
theorem dB_badCore_16 : decode kB_badCore 16 = .ok (.iconst 0, 1) := by decide +kernel
theorem dB_badCore_17 : decode kB_badCore 17 = .ok (.ireturn, 1) := by decide +kernel
theorem dB_count_0 : decode kB_count 0 = .ok (.iconst 0, 1) := by decide +kernel
theorem dB_count_1 : decode kB_count 1 = .ok (.istore_n 1, 1) := by decide +kernel
theorem dB_count_2 : decode kB_count 2 = .ok (.iconst 0, 1) := by decide +kernel
theorem dB_count_3 : decode kB_count 3 = .ok (.istore_n 2, 1) := by decide +kernel
theorem dB_count_4 : decode kB_count 4 = .ok (.iload_n 2, 1) := by decide +kernel
theorem dB_count_5 : decode kB_count 5 = .ok (.bipush 12, 2) := by decide +kernel
theorem dB_count_7 : decode kB_count 7 = .ok (.if_icmp .ge 21, 3) := by decide +kernel
theorem dB_count_10 : decode kB_count 10 = .ok (.aload_n 0, 1) := by decide +kernel
theorem dB_count_11 : decode kB_count 11 = .ok (.getfield 7, 3) := by decide +kernel
theorem dB_count_14 : decode kB_count 14 = .ok (.iload_n 2, 1) := by decide +kernel
theorem dB_count_15 : decode kB_count 15 = .ok (.iaload, 1) := by decide +kernel
theorem dB_count_16 : decode kB_count 16 = .ok (.ifCond .eq 6, 3) := by decide +kernel
theorem dB_count_19 : decode kB_count 19 = .ok (.iinc 1 1, 3) := by decide +kernel
theorem dB_count_22 : decode kB_count 22 = .ok (.iinc 2 1, 3) := by decide +kernel
theorem dB_count_25 : decode kB_count 25 = .ok (.goto (-21), 3) := by decide +kernel
theorem dB_count_28 : decode kB_count 28 = .ok (.iload_n 1, 1) := by decide +kernel
theorem dB_count_29 : decode kB_count 29 = .ok (.ireturn, 1) := by decide +kernel
theorem dB_freeId_0 : decode kB_freeId 0 = .ok (.iconst 0, 1) := by decide +kernel
theorem dB_freeId_1 : decode kB_freeId 1 = .ok (.istore_n 1, 1) := by decide +kernel
theorem dB_freeId_2 : decode kB_freeId 2 = .ok (.iload_n 1, 1) := by decide +kernel
theorem dB_freeId_3 : decode kB_freeId 3 = .ok (.bipush 12, 2) := by decide +kernel
theorem dB_freeId_5 : decode kB_freeId 5 = .ok (.if_icmp .ge 20, 3) := by decide +kernel
theorem dB_freeId_8 : decode kB_freeId 8 = .ok (.aload_n 0, 1) := by decide +kernel
theorem dB_freeId_9 : decode kB_freeId 9 = .ok (.getfield 7, 3) := by decide +kernel
theorem dB_freeId_12 : decode kB_freeId 12 = .ok (.iload_n 1, 1) := by decide +kernel
theorem dB_freeId_13 : decode kB_freeId 13 = .ok (.iaload, 1) := by decide +kernel
theorem dB_freeId_14 : decode kB_freeId 14 = .ok (.ifCond .ne 5, 3) := by decide +kernel
theorem dB_freeId_17 : decode kB_freeId 17 = .ok (.iload_n 1, 1) := by decide +kernel
theorem dB_freeId_18 : decode kB_freeId 18 = .ok (.ireturn, 1) := by decide +kernel
theorem dB_freeId_19 : decode kB_freeId 19 = .ok (.iinc 1 1, 3) := by decide +kernel
theorem dB_freeId_22 : decode kB_freeId 22 = .ok (.goto (-20), 3) := by decide +kernel
theorem dB_freeId_25 : decode kB_freeId 25 = .ok (.bipush 12, 2) := by decide +kernel
theorem dB_freeId_27 : decode kB_freeId 27 = .ok (.ireturn, 1) := by decide +kernel
theorem dB_parts_0 : decode kB_parts 0 = .ok (.aload_n 0, 1) := by decide +kernel
theorem dB_parts_1 : decode kB_parts 1 = .ok (.getfield 28, 3) := by decide +kernel
theorem dB_parts_4 : decode kB_parts 4 = .ok (.bipush 12, 2) := by decide +kernel
theorem dB_parts_6 : decode kB_parts 6 = .ok (.iconst 0, 1) := by decide +kernel
theorem dB_parts_7 : decode kB_parts 7 = .ok (.iastore, 1) := by decide +kernel
theorem dB_parts_8 : decode kB_parts 8 = .ok (.iconst 0, 1) := by decide +kernel
theorem dB_parts_9 : decode kB_parts 9 = .ok (.istore_n 2, 1) := by decide +kernel
theorem dB_parts_10 : decode kB_parts 10 = .ok (.iload_n 2, 1) := by decide +kernel
theorem dB_parts_11 : decode kB_parts 11 = .ok (.bipush 12, 2) := by decide +kernel
theorem dB_parts_13 : decode kB_parts 13 = .ok (.if_icmp .ge 158, 3) := by decide +kernel
theorem dB_parts_16 : decode kB_parts 16 = .ok (.aload_n 0, 1) := by decide +kernel
theorem dB_parts_17 : decode kB_parts 17 = .ok (.getfield 28, 3) := by decide +kernel
theorem dB_parts_20 : decode kB_parts 20 = .ok (.iload_n 2, 1) := by decide +kernel
theorem dB_parts_21 : decode kB_parts 21 = .ok (.iconst 0, 1) := by decide +kernel
theorem dB_parts_22 : decode kB_parts 22 = .ok (.iastore, 1) := by decide +kernel
theorem dB_parts_23 : decode kB_parts 23 = .ok (.aload_n 0, 1) := by decide +kernel
theorem dB_parts_24 : decode kB_parts 24 = .ok (.getfield 34, 3) := by decide +kernel
theorem dB_parts_27 : decode kB_parts 27 = .ok (.iload_n 2, 1) := by decide +kernel
theorem dB_parts_28 : decode kB_parts 28 = .ok (.aload_n 0, 1) := by decide +kernel
theorem dB_parts_29 : decode kB_parts 29 = .ok (.getfield 7, 3) := by decide +kernel
theorem dB_parts_32 : decode kB_parts 32 = .ok (.iload_n 2, 1) := by decide +kernel
theorem dB_parts_33 : decode kB_parts 33 = .ok (.iaload, 1) := by decide +kernel
theorem dB_parts_34 : decode kB_parts 34 = .ok (.iastore, 1) := by decide +kernel
theorem dB_parts_35 : decode kB_parts 35 = .ok (.aload_n 0, 1) := by decide +kernel
theorem dB_parts_36 : decode kB_parts 36 = .ok (.getfield 25, 3) := by decide +kernel
theorem dB_parts_39 : decode kB_parts 39 = .ok (.iload_n 2, 1) := by decide +kernel
theorem dB_parts_40 : decode kB_parts 40 = .ok (.iaload, 1) := by decide +kernel
theorem dB_parts_41 : decode kB_parts 41 = .ok (.bipush (-4), 2) := by decide +kernel
theorem dB_parts_43 : decode kB_parts 43 = .ok (.if_icmp .eq 7, 3) := by decide +kernel
theorem dB_parts_46 : decode kB_parts 46 = .ok (.iconst 1, 1) := by decide +kernel
theorem dB_parts_47 : decode kB_parts 47 = .ok (.goto 4, 3) := by decide +kernel
theorem dB_parts_50 : decode kB_parts 50 = .ok (.iconst 0, 1) := by decide +kernel
theorem dB_parts_51 : decode kB_parts 51 = .ok (.istore_n 3, 1) := by decide +kernel
theorem dB_parts_52 : decode kB_parts 52 = .ok (.aload_n 0, 1) := by decide +kernel
theorem dB_parts_53 : decode kB_parts 53 = .ok (.getfield 7, 3) := by decide +kernel
theorem dB_parts_56 : decode kB_parts 56 = .ok (.iload_n 2, 1) := by decide +kernel
theorem dB_parts_57 : decode kB_parts 57 = .ok (.iaload, 1) := by decide +kernel
theorem dB_parts_58 : decode kB_parts 58 = .ok (.ifCond .eq 50, 3) := by decide +kernel
theorem dB_parts_61 : decode kB_parts 61 = .ok (.aload_n 0, 1) := by decide +kernel
theorem dB_parts_62 : decode kB_parts 62 = .ok (.getfield 22, 3) := by decide +kernel
theorem dB_parts_65 : decode kB_parts 65 = .ok (.iload_n 2, 1) := by decide +kernel
theorem dB_parts_66 : decode kB_parts 66 = .ok (.iaload, 1) := by decide +kernel
theorem dB_parts_67 : decode kB_parts 67 = .ok (.iload_n 1, 1) := by decide +kernel
theorem dB_parts_68 : decode kB_parts 68 = .ok (.if_icmp .ne 40, 3) := by decide +kernel
theorem dB_parts_71 : decode kB_parts 71 = .ok (.aload_n 0, 1) := by decide +kernel
theorem dB_parts_72 : decode kB_parts 72 = .ok (.getfield 28, 3) := by decide +kernel
theorem dB_parts_75 : decode kB_parts 75 = .ok (.iload_n 2, 1) := by decide +kernel
theorem dB_parts_76 : decode kB_parts 76 = .ok (.aload_n 0, 1) := by decide +kernel
theorem dB_parts_77 : decode kB_parts 77 = .ok (.getfield 19, 3) := by decide +kernel
theorem dB_parts_80 : decode kB_parts 80 = .ok (.iload_n 2, 1) := by decide +kernel
theorem dB_parts_81 : decode kB_parts 81 = .ok (.iaload, 1) := by decide +kernel
theorem dB_parts_82 : decode kB_parts 82 = .ok (.iastore, 1) := by decide +kernel
theorem dB_parts_83 : decode kB_parts 83 = .ok (.aload_n 0, 1) := by decide +kernel
theorem dB_parts_84 : decode kB_parts 84 = .ok (.getfield 31, 3) := by decide +kernel
theorem dB_parts_87 : decode kB_parts 87 = .ok (.iload_n 2, 1) := by decide +kernel
theorem dB_parts_88 : decode kB_parts 88 = .ok (.iload_n 3, 1) := by decide +kernel
theorem dB_parts_89 : decode kB_parts 89 = .ok (.ifCond .eq 12, 3) := by decide +kernel
theorem dB_parts_92 : decode kB_parts 92 = .ok (.aload_n 0, 1) := by decide +kernel
theorem dB_parts_93 : decode kB_parts 93 = .ok (.getfield 19, 3) := by decide +kernel
theorem dB_parts_96 : decode kB_parts 96 = .ok (.iload_n 2, 1) := by decide +kernel
theorem dB_parts_97 : decode kB_parts 97 = .ok (.iaload, 1) := by decide +kernel
theorem dB_parts_98 : decode kB_parts 98 = .ok (.goto 9, 3) := by decide +kernel
theorem dB_parts_101 : decode kB_parts 101 = .ok (.aload_n 0, 1) := by decide +kernel
theorem dB_parts_102 : decode kB_parts 102 = .ok (.getfield 16, 3) := by decide +kernel
theorem dB_parts_105 : decode kB_parts 105 = .ok (.iload_n 2, 1) := by decide +kernel
theorem dB_parts_106 : decode kB_parts 106 = .ok (.iaload, 1) := by decide +kernel
theorem dB_parts_107 : decode kB_parts 107 = .ok (.iastore, 1) := by decide +kernel
theorem dB_parts_108 : decode kB_parts 108 = .ok (.aload_n 0, 1) := by decide +kernel
theorem dB_parts_109 : decode kB_parts 109 = .ok (.getfield 7, 3) := by decide +kernel
theorem dB_parts_112 : decode kB_parts 112 = .ok (.iload_n 2, 1) := by decide +kernel
theorem dB_parts_113 : decode kB_parts 113 = .ok (.iaload, 1) := by decide +kernel
theorem dB_parts_114 : decode kB_parts 114 = .ok (.ifCond .eq 51, 3) := by decide +kernel
theorem dB_parts_117 : decode kB_parts 117 = .ok (.aload_n 0, 1) := by decide +kernel
theorem dB_parts_118 : decode kB_parts 118 = .ok (.getfield 25, 3) := by decide +kernel
theorem dB_parts_121 : decode kB_parts 121 = .ok (.iload_n 2, 1) := by decide +kernel
theorem dB_parts_122 : decode kB_parts 122 = .ok (.iaload, 1) := by decide +kernel
theorem dB_parts_123 : decode kB_parts 123 = .ok (.iload_n 1, 1) := by decide +kernel
theorem dB_parts_124 : decode kB_parts 124 = .ok (.if_icmp .ne 41, 3) := by decide +kernel
theorem dB_parts_127 : decode kB_parts 127 = .ok (.aload_n 0, 1) := by decide +kernel
theorem dB_parts_128 : decode kB_parts 128 = .ok (.getfield 28, 3) := by decide +kernel
theorem dB_parts_131 : decode kB_parts 131 = .ok (.iload_n 2, 1) := by decide +kernel
theorem dB_parts_132 : decode kB_parts 132 = .ok (.aload_n 0, 1) := by decide +kernel
theorem dB_parts_133 : decode kB_parts 133 = .ok (.getfield 13, 3) := by decide +kernel
theorem dB_parts_136 : decode kB_parts 136 = .ok (.iload_n 2, 1) := by decide +kernel
theorem dB_parts_137 : decode kB_parts 137 = .ok (.iaload, 1) := by decide +kernel
theorem dB_parts_138 : decode kB_parts 138 = .ok (.aload_n 0, 1) := by decide +kernel
theorem dB_parts_139 : decode kB_parts 139 = .ok (.getfield 19, 3) := by decide +kernel
theorem dB_parts_142 : decode kB_parts 142 = .ok (.iload_n 2, 1) := by decide +kernel
theorem dB_parts_143 : decode kB_parts 143 = .ok (.iaload, 1) := by decide +kernel
theorem dB_parts_144 : decode kB_parts 144 = .ok (.isub, 1) := by decide +kernel
theorem dB_parts_145 : decode kB_parts 145 = .ok (.iastore, 1) := by decide +kernel
theorem dB_parts_146 : decode kB_parts 146 = .ok (.aload_n 0, 1) := by decide +kernel
theorem dB_parts_147 : decode kB_parts 147 = .ok (.getfield 31, 3) := by decide +kernel
theorem dB_parts_150 : decode kB_parts 150 = .ok (.iload_n 2, 1) := by decide +kernel
theorem dB_parts_151 : decode kB_parts 151 = .ok (.aload_n 0, 1) := by decide +kernel
theorem dB_parts_152 : decode kB_parts 152 = .ok (.getfield 16, 3) := by decide +kernel
theorem dB_parts_155 : decode kB_parts 155 = .ok (.iload_n 2, 1) := by decide +kernel
theorem dB_parts_156 : decode kB_parts 156 = .ok (.iaload, 1) := by decide +kernel
theorem dB_parts_157 : decode kB_parts 157 = .ok (.aload_n 0, 1) := by decide +kernel
theorem dB_parts_158 : decode kB_parts 158 = .ok (.getfield 19, 3) := by decide +kernel
theorem dB_parts_161 : decode kB_parts 161 = .ok (.iload_n 2, 1) := by decide +kernel
theorem dB_parts_162 : decode kB_parts 162 = .ok (.iaload, 1) := by decide +kernel
theorem dB_parts_163 : decode kB_parts 163 = .ok (.isub, 1) := by decide +kernel
theorem dB_parts_164 : decode kB_parts 164 = .ok (.iastore, 1) := by decide +kernel
theorem dB_parts_165 : decode kB_parts 165 = .ok (.iinc 2 1, 3) := by decide +kernel
theorem dB_parts_168 : decode kB_parts 168 = .ok (.goto (-158), 3) := by decide +kernel
theorem dB_parts_171 : decode kB_parts 171 = .ok (.return_, 1) := by decide +kernel
theorem dB_release_0 : decode kB_release 0 = .ok (.iconst 0, 1) := by decide +kernel
theorem dB_release_1 : decode kB_release 1 = .ok (.istore_n 2, 1) := by decide +kernel
theorem dB_release_2 : decode kB_release 2 = .ok (.iload_n 2, 1) := by decide +kernel
theorem dB_release_3 : decode kB_release 3 = .ok (.bipush 13, 2) := by decide +kernel
theorem dB_release_5 : decode kB_release 5 = .ok (.if_icmp .ge 75, 3) := by decide +kernel
theorem dB_release_8 : decode kB_release 8 = .ok (.aload_n 0, 1) := by decide +kernel
theorem dB_release_9 : decode kB_release 9 = .ok (.getfield 28, 3) := by decide +kernel
theorem dB_release_12 : decode kB_release 12 = .ok (.iload_n 2, 1) := by decide +kernel
theorem dB_release_13 : decode kB_release 13 = .ok (.iaload, 1) := by decide +kernel
theorem dB_release_14 : decode kB_release 14 = .ok (.ifCond .le 60, 3) := by decide +kernel
theorem dB_release_17 : decode kB_release 17 = .ok (.aload_n 0, 1) := by decide +kernel
theorem dB_release_18 : decode kB_release 18 = .ok (.getfield 34, 3) := by decide +kernel
theorem dB_release_21 : decode kB_release 21 = .ok (.iload_n 2, 1) := by decide +kernel
theorem dB_release_22 : decode kB_release 22 = .ok (.iaload, 1) := by decide +kernel
theorem dB_release_23 : decode kB_release 23 = .ok (.ifCond .le 51, 3) := by decide +kernel
theorem dB_release_26 : decode kB_release 26 = .ok (.iload_n 1, 1) := by decide +kernel
theorem dB_release_27 : decode kB_release 27 = .ok (.aload_n 0, 1) := by decide +kernel
theorem dB_release_28 : decode kB_release 28 = .ok (.getfield 34, 3) := by decide +kernel
theorem dB_release_31 : decode kB_release 31 = .ok (.iload_n 2, 1) := by decide +kernel
theorem dB_release_32 : decode kB_release 32 = .ok (.iaload, 1) := by decide +kernel
theorem dB_release_33 : decode kB_release 33 = .ok (.irem, 1) := by decide +kernel
theorem dB_release_34 : decode kB_release 34 = .ok (.ifCond .ne 40, 3) := by decide +kernel
theorem dB_release_37 : decode kB_release 37 = .ok (.aload_n 0, 1) := by decide +kernel
theorem dB_release_38 : decode kB_release 38 = .ok (.getfield 37, 3) := by decide +kernel
theorem dB_release_41 : decode kB_release 41 = .ok (.iload_n 2, 1) := by decide +kernel
theorem dB_release_42 : decode kB_release 42 = .ok (.iaload, 1) := by decide +kernel
theorem dB_release_43 : decode kB_release 43 = .ok (.ifCond .le 5, 3) := by decide +kernel
theorem dB_release_46 : decode kB_release 46 = .ok (.iconst 0, 1) := by decide +kernel
theorem dB_release_47 : decode kB_release 47 = .ok (.ireturn, 1) := by decide +kernel
theorem dB_release_48 : decode kB_release 48 = .ok (.aload_n 0, 1) := by decide +kernel
theorem dB_release_49 : decode kB_release 49 = .ok (.getfield 37, 3) := by decide +kernel
theorem dB_release_52 : decode kB_release 52 = .ok (.iload_n 2, 1) := by decide +kernel
theorem dB_release_53 : decode kB_release 53 = .ok (.aload_n 0, 1) := by decide +kernel
theorem dB_release_54 : decode kB_release 54 = .ok (.getfield 28, 3) := by decide +kernel
theorem dB_release_57 : decode kB_release 57 = .ok (.iload_n 2, 1) := by decide +kernel
theorem dB_release_58 : decode kB_release 58 = .ok (.iaload, 1) := by decide +kernel
theorem dB_release_59 : decode kB_release 59 = .ok (.iastore, 1) := by decide +kernel
theorem dB_release_60 : decode kB_release 60 = .ok (.aload_n 0, 1) := by decide +kernel
theorem dB_release_61 : decode kB_release 61 = .ok (.getfield 40, 3) := by decide +kernel
theorem dB_release_64 : decode kB_release 64 = .ok (.iload_n 2, 1) := by decide +kernel
theorem dB_release_65 : decode kB_release 65 = .ok (.iload_n 1, 1) := by decide +kernel
theorem dB_release_66 : decode kB_release 66 = .ok (.aload_n 0, 1) := by decide +kernel
theorem dB_release_67 : decode kB_release 67 = .ok (.getfield 31, 3) := by decide +kernel
theorem dB_release_70 : decode kB_release 70 = .ok (.iload_n 2, 1) := by decide +kernel
theorem dB_release_71 : decode kB_release 71 = .ok (.iaload, 1) := by decide +kernel
theorem dB_release_72 : decode kB_release 72 = .ok (.iadd, 1) := by decide +kernel
theorem dB_release_73 : decode kB_release 73 = .ok (.iastore, 1) := by decide +kernel
theorem dB_release_74 : decode kB_release 74 = .ok (.iinc 2 1, 3) := by decide +kernel
theorem dB_release_77 : decode kB_release 77 = .ok (.goto (-75), 3) := by decide +kernel
theorem dB_release_80 : decode kB_release 80 = .ok (.iconst 1, 1) := by decide +kernel
theorem dB_release_81 : decode kB_release 81 = .ok (.ireturn, 1) := by decide +kernel
theorem dB_runs_0 : decode kB_runs 0 = .ok (.iconst 0, 1) := by decide +kernel
theorem dB_runs_1 : decode kB_runs 1 = .ok (.istore_n 1, 1) := by decide +kernel
theorem dB_runs_2 : decode kB_runs 2 = .ok (.iload_n 1, 1) := by decide +kernel
theorem dB_runs_3 : decode kB_runs 3 = .ok (.bipush 13, 2) := by decide +kernel
theorem dB_runs_5 : decode kB_runs 5 = .ok (.if_icmp .ge 23, 3) := by decide +kernel
theorem dB_runs_8 : decode kB_runs 8 = .ok (.aload_n 0, 1) := by decide +kernel
theorem dB_runs_9 : decode kB_runs 9 = .ok (.getfield 37, 3) := by decide +kernel
theorem dB_runs_12 : decode kB_runs 12 = .ok (.iload_n 1, 1) := by decide +kernel
theorem dB_runs_13 : decode kB_runs 13 = .ok (.iconst 0, 1) := by decide +kernel
theorem dB_runs_14 : decode kB_runs 14 = .ok (.iastore, 1) := by decide +kernel
theorem dB_runs_15 : decode kB_runs 15 = .ok (.aload_n 0, 1) := by decide +kernel
theorem dB_runs_16 : decode kB_runs 16 = .ok (.getfield 46, 3) := by decide +kernel
theorem dB_runs_19 : decode kB_runs 19 = .ok (.iload_n 1, 1) := by decide +kernel
theorem dB_runs_20 : decode kB_runs 20 = .ok (.iconst 0, 1) := by decide +kernel
theorem dB_runs_21 : decode kB_runs 21 = .ok (.iastore, 1) := by decide +kernel
theorem dB_runs_22 : decode kB_runs 22 = .ok (.iinc 1 1, 3) := by decide +kernel
theorem dB_runs_25 : decode kB_runs 25 = .ok (.goto (-23), 3) := by decide +kernel
theorem dB_runs_28 : decode kB_runs 28 = .ok (.iconst 0, 1) := by decide +kernel
theorem dB_runs_29 : decode kB_runs 29 = .ok (.istore_n 1, 1) := by decide +kernel
theorem dB_runs_30 : decode kB_runs 30 = .ok (.iload_n 1, 1) := by decide +kernel
theorem dB_runs_31 : decode kB_runs 31 = .ok (.bipush 60, 2) := by decide +kernel
theorem dB_runs_33 : decode kB_runs 33 = .ok (.if_icmp .ge 164, 3) := by decide +kernel
theorem dB_runs_36 : decode kB_runs 36 = .ok (.aload_n 0, 1) := by decide +kernel
theorem dB_runs_37 : decode kB_runs 37 = .ok (.iload_n 1, 1) := by decide +kernel
theorem dB_runs_38 : decode kB_runs 38 = .ok (.invokevirtual 53, 3) := by decide +kernel
theorem dB_runs_41 : decode kB_runs 41 = .ok (.ifCond .ne 5, 3) := by decide +kernel
theorem dB_runs_44 : decode kB_runs 44 = .ok (.iconst 0, 1) := by decide +kernel
theorem dB_runs_45 : decode kB_runs 45 = .ok (.ireturn, 1) := by decide +kernel
theorem dB_runs_46 : decode kB_runs 46 = .ok (.iconst (-1), 1) := by decide +kernel
theorem dB_runs_47 : decode kB_runs 47 = .ok (.istore_n 2, 1) := by decide +kernel
theorem dB_runs_48 : decode kB_runs 48 = .ok (.iconst 0, 1) := by decide +kernel
theorem dB_runs_49 : decode kB_runs 49 = .ok (.istore_n 3, 1) := by decide +kernel
theorem dB_runs_50 : decode kB_runs 50 = .ok (.iload_n 3, 1) := by decide +kernel
theorem dB_runs_51 : decode kB_runs 51 = .ok (.bipush 13, 2) := by decide +kernel
theorem dB_runs_53 : decode kB_runs 53 = .ok (.if_icmp .ge 60, 3) := by decide +kernel
theorem dB_runs_56 : decode kB_runs 56 = .ok (.aload_n 0, 1) := by decide +kernel
theorem dB_runs_57 : decode kB_runs 57 = .ok (.getfield 37, 3) := by decide +kernel
theorem dB_runs_60 : decode kB_runs 60 = .ok (.iload_n 3, 1) := by decide +kernel
theorem dB_runs_61 : decode kB_runs 61 = .ok (.iaload, 1) := by decide +kernel
theorem dB_runs_62 : decode kB_runs 62 = .ok (.ifCond .le 15, 3) := by decide +kernel
theorem dB_runs_65 : decode kB_runs 65 = .ok (.aload_n 0, 1) := by decide +kernel
theorem dB_runs_66 : decode kB_runs 66 = .ok (.getfield 40, 3) := by decide +kernel
theorem dB_runs_69 : decode kB_runs 69 = .ok (.iload_n 3, 1) := by decide +kernel
theorem dB_runs_70 : decode kB_runs 70 = .ok (.iaload, 1) := by decide +kernel
theorem dB_runs_71 : decode kB_runs 71 = .ok (.iload_n 1, 1) := by decide +kernel
theorem dB_runs_72 : decode kB_runs 72 = .ok (.if_icmp .gt 5, 3) := by decide +kernel
theorem dB_runs_75 : decode kB_runs 75 = .ok (.iconst 0, 1) := by decide +kernel
theorem dB_runs_76 : decode kB_runs 76 = .ok (.ireturn, 1) := by decide +kernel
theorem dB_runs_77 : decode kB_runs 77 = .ok (.aload_n 0, 1) := by decide +kernel
theorem dB_runs_78 : decode kB_runs 78 = .ok (.getfield 37, 3) := by decide +kernel
theorem dB_runs_81 : decode kB_runs 81 = .ok (.iload_n 3, 1) := by decide +kernel
theorem dB_runs_82 : decode kB_runs 82 = .ok (.iaload, 1) := by decide +kernel
theorem dB_runs_83 : decode kB_runs 83 = .ok (.ifCond .le 24, 3) := by decide +kernel
theorem dB_runs_86 : decode kB_runs 86 = .ok (.iload_n 2, 1) := by decide +kernel
theorem dB_runs_87 : decode kB_runs 87 = .ok (.ifCond .lt 18, 3) := by decide +kernel
theorem dB_runs_90 : decode kB_runs 90 = .ok (.aload_n 0, 1) := by decide +kernel
theorem dB_runs_91 : decode kB_runs 91 = .ok (.getfield 40, 3) := by decide +kernel
theorem dB_runs_94 : decode kB_runs 94 = .ok (.iload_n 3, 1) := by decide +kernel
theorem dB_runs_95 : decode kB_runs 95 = .ok (.iaload, 1) := by decide +kernel
theorem dB_runs_96 : decode kB_runs 96 = .ok (.aload_n 0, 1) := by decide +kernel
theorem dB_runs_97 : decode kB_runs 97 = .ok (.getfield 40, 3) := by decide +kernel
theorem dB_runs_100 : decode kB_runs 100 = .ok (.iload_n 2, 1) := by decide +kernel
theorem dB_runs_101 : decode kB_runs 101 = .ok (.iaload, 1) := by decide +kernel
theorem dB_runs_102 : decode kB_runs 102 = .ok (.if_icmp .ge 5, 3) := by decide +kernel
theorem dB_runs_105 : decode kB_runs 105 = .ok (.iload_n 3, 1) := by decide +kernel
theorem dB_runs_106 : decode kB_runs 106 = .ok (.istore_n 2, 1) := by decide +kernel
theorem dB_runs_107 : decode kB_runs 107 = .ok (.iinc 3 1, 3) := by decide +kernel
theorem dB_runs_110 : decode kB_runs 110 = .ok (.goto (-60), 3) := by decide +kernel
theorem dB_runs_113 : decode kB_runs 113 = .ok (.aload_n 0, 1) := by decide +kernel
theorem dB_runs_114 : decode kB_runs 114 = .ok (.getfield 43, 3) := by decide +kernel
theorem dB_runs_117 : decode kB_runs 117 = .ok (.iload_n 1, 1) := by decide +kernel
theorem dB_runs_118 : decode kB_runs 118 = .ok (.iload_n 2, 1) := by decide +kernel
theorem dB_runs_119 : decode kB_runs 119 = .ok (.ifCond .ge 8, 3) := by decide +kernel
theorem dB_runs_122 : decode kB_runs 122 = .ok (.bipush (-5), 2) := by decide +kernel
theorem dB_runs_124 : decode kB_runs 124 = .ok (.goto 4, 3) := by decide +kernel
theorem dB_runs_127 : decode kB_runs 127 = .ok (.iload_n 2, 1) := by decide +kernel
theorem dB_runs_128 : decode kB_runs 128 = .ok (.iastore, 1) := by decide +kernel
theorem dB_runs_129 : decode kB_runs 129 = .ok (.iload_n 2, 1) := by decide +kernel
theorem dB_runs_130 : decode kB_runs 130 = .ok (.ifCond .lt 61, 3) := by decide +kernel
theorem dB_runs_133 : decode kB_runs 133 = .ok (.aload_n 0, 1) := by decide +kernel
theorem dB_runs_134 : decode kB_runs 134 = .ok (.getfield 37, 3) := by decide +kernel
theorem dB_runs_137 : decode kB_runs 137 = .ok (.iload_n 2, 1) := by decide +kernel
theorem dB_runs_138 : decode kB_runs 138 = .ok (.aload_n 0, 1) := by decide +kernel
theorem dB_runs_139 : decode kB_runs 139 = .ok (.getfield 37, 3) := by decide +kernel
theorem dB_runs_142 : decode kB_runs 142 = .ok (.iload_n 2, 1) := by decide +kernel
theorem dB_runs_143 : decode kB_runs 143 = .ok (.iaload, 1) := by decide +kernel
theorem dB_runs_144 : decode kB_runs 144 = .ok (.iconst 1, 1) := by decide +kernel
theorem dB_runs_145 : decode kB_runs 145 = .ok (.isub, 1) := by decide +kernel
theorem dB_runs_146 : decode kB_runs 146 = .ok (.iastore, 1) := by decide +kernel
theorem dB_runs_147 : decode kB_runs 147 = .ok (.iload_n 1, 1) := by decide +kernel
theorem dB_runs_148 : decode kB_runs 148 = .ok (.iconst 1, 1) := by decide +kernel
theorem dB_runs_149 : decode kB_runs 149 = .ok (.iadd, 1) := by decide +kernel
theorem dB_runs_150 : decode kB_runs 150 = .ok (.aload_n 0, 1) := by decide +kernel
theorem dB_runs_151 : decode kB_runs 151 = .ok (.getfield 40, 3) := by decide +kernel
theorem dB_runs_154 : decode kB_runs 154 = .ok (.iload_n 2, 1) := by decide +kernel
theorem dB_runs_155 : decode kB_runs 155 = .ok (.iaload, 1) := by decide +kernel
theorem dB_runs_156 : decode kB_runs 156 = .ok (.aload_n 0, 1) := by decide +kernel
theorem dB_runs_157 : decode kB_runs 157 = .ok (.getfield 31, 3) := by decide +kernel
theorem dB_runs_160 : decode kB_runs 160 = .ok (.iload_n 2, 1) := by decide +kernel
theorem dB_runs_161 : decode kB_runs 161 = .ok (.iaload, 1) := by decide +kernel
theorem dB_runs_162 : decode kB_runs 162 = .ok (.isub, 1) := by decide +kernel
theorem dB_runs_163 : decode kB_runs 163 = .ok (.isub, 1) := by decide +kernel
theorem dB_runs_164 : decode kB_runs 164 = .ok (.istore_n 3, 1) := by decide +kernel
theorem dB_runs_165 : decode kB_runs 165 = .ok (.aload_n 0, 1) := by decide +kernel
theorem dB_runs_166 : decode kB_runs 166 = .ok (.getfield 37, 3) := by decide +kernel
theorem dB_runs_169 : decode kB_runs 169 = .ok (.iload_n 2, 1) := by decide +kernel
theorem dB_runs_170 : decode kB_runs 170 = .ok (.iaload, 1) := by decide +kernel
theorem dB_runs_171 : decode kB_runs 171 = .ok (.ifCond .ne 20, 3) := by decide +kernel
theorem dB_runs_174 : decode kB_runs 174 = .ok (.iload_n 3, 1) := by decide +kernel
theorem dB_runs_175 : decode kB_runs 175 = .ok (.aload_n 0, 1) := by decide +kernel
theorem dB_runs_176 : decode kB_runs 176 = .ok (.getfield 46, 3) := by decide +kernel
theorem dB_runs_179 : decode kB_runs 179 = .ok (.iload_n 2, 1) := by decide +kernel
theorem dB_runs_180 : decode kB_runs 180 = .ok (.iaload, 1) := by decide +kernel
theorem dB_runs_181 : decode kB_runs 181 = .ok (.if_icmp .le 10, 3) := by decide +kernel
theorem dB_runs_184 : decode kB_runs 184 = .ok (.aload_n 0, 1) := by decide +kernel
theorem dB_runs_185 : decode kB_runs 185 = .ok (.getfield 46, 3) := by decide +kernel
theorem dB_runs_188 : decode kB_runs 188 = .ok (.iload_n 2, 1) := by decide +kernel
theorem dB_runs_189 : decode kB_runs 189 = .ok (.iload_n 3, 1) := by decide +kernel
theorem dB_runs_190 : decode kB_runs 190 = .ok (.iastore, 1) := by decide +kernel
theorem dB_runs_191 : decode kB_runs 191 = .ok (.iinc 1 1, 3) := by decide +kernel
theorem dB_runs_194 : decode kB_runs 194 = .ok (.goto (-164), 3) := by decide +kernel
theorem dB_runs_197 : decode kB_runs 197 = .ok (.iconst 0, 1) := by decide +kernel
theorem dB_runs_198 : decode kB_runs 198 = .ok (.istore_n 1, 1) := by decide +kernel
theorem dB_runs_199 : decode kB_runs 199 = .ok (.iload_n 1, 1) := by decide +kernel
theorem dB_runs_200 : decode kB_runs 200 = .ok (.bipush 13, 2) := by decide +kernel
theorem dB_runs_202 : decode kB_runs 202 = .ok (.if_icmp .ge 20, 3) := by decide +kernel
theorem dB_runs_205 : decode kB_runs 205 = .ok (.aload_n 0, 1) := by decide +kernel
theorem dB_runs_206 : decode kB_runs 206 = .ok (.getfield 37, 3) := by decide +kernel
theorem dB_runs_209 : decode kB_runs 209 = .ok (.iload_n 1, 1) := by decide +kernel
theorem dB_runs_210 : decode kB_runs 210 = .ok (.iaload, 1) := by decide +kernel
theorem dB_runs_211 : decode kB_runs 211 = .ok (.ifCond .le 5, 3) := by decide +kernel
theorem dB_runs_214 : decode kB_runs 214 = .ok (.iconst 0, 1) := by decide +kernel
theorem dB_runs_215 : decode kB_runs 215 = .ok (.ireturn, 1) := by decide +kernel
theorem dB_runs_216 : decode kB_runs 216 = .ok (.iinc 1 1, 3) := by decide +kernel
theorem dB_runs_219 : decode kB_runs 219 = .ok (.goto (-20), 3) := by decide +kernel
theorem dB_runs_222 : decode kB_runs 222 = .ok (.iconst 1, 1) := by decide +kernel
theorem dB_runs_223 : decode kB_runs 223 = .ok (.ireturn, 1) := by decide +kernel
theorem dB_takes_0 : decode kB_takes 0 = .ok (.aload_n 0, 1) := by decide +kernel
theorem dB_takes_1 : decode kB_takes 1 = .ok (.iload_n 1, 1) := by decide +kernel
theorem dB_takes_2 : decode kB_takes 2 = .ok (.invokevirtual 57, 3) := by decide +kernel
theorem dB_takes_5 : decode kB_takes 5 = .ok (.aload_n 0, 1) := by decide +kernel
theorem dB_takes_6 : decode kB_takes 6 = .ok (.getfield 28, 3) := by decide +kernel
theorem dB_takes_9 : decode kB_takes 9 = .ok (.iload_n 2, 1) := by decide +kernel
theorem dB_takes_10 : decode kB_takes 10 = .ok (.iload_n 3, 1) := by decide +kernel
theorem dB_takes_11 : decode kB_takes 11 = .ok (.iastore, 1) := by decide +kernel
theorem dB_takes_12 : decode kB_takes 12 = .ok (.aload_n 0, 1) := by decide +kernel
theorem dB_takes_13 : decode kB_takes 13 = .ok (.getfield 31, 3) := by decide +kernel
theorem dB_takes_16 : decode kB_takes 16 = .ok (.iload_n 2, 1) := by decide +kernel
theorem dB_takes_17 : decode kB_takes 17 = .ok (.iload 4, 2) := by decide +kernel
theorem dB_takes_19 : decode kB_takes 19 = .ok (.iastore, 1) := by decide +kernel
theorem dB_takes_20 : decode kB_takes 20 = .ok (.aload_n 0, 1) := by decide +kernel
theorem dB_takes_21 : decode kB_takes 21 = .ok (.getfield 34, 3) := by decide +kernel
theorem dB_takes_24 : decode kB_takes 24 = .ok (.iload_n 2, 1) := by decide +kernel
theorem dB_takes_25 : decode kB_takes 25 = .ok (.iload 5, 2) := by decide +kernel
theorem dB_takes_27 : decode kB_takes 27 = .ok (.iastore, 1) := by decide +kernel
theorem dB_takes_28 : decode kB_takes 28 = .ok (.aload_n 0, 1) := by decide +kernel
theorem dB_takes_29 : decode kB_takes 29 = .ok (.invokevirtual 61, 3) := by decide +kernel
theorem dB_takes_32 : decode kB_takes 32 = .ok (.ireturn, 1) := by decide +kernel
theorem dB_place_0 : decode kB_place 0 = .ok (.aload_n 0, 1) := by decide +kernel
theorem dB_place_1 : decode kB_place 1 = .ok (.getfield 19, 3) := by decide +kernel
theorem dB_place_4 : decode kB_place 4 = .ok (.iload_n 1, 1) := by decide +kernel
theorem dB_place_5 : decode kB_place 5 = .ok (.iload_n 2, 1) := by decide +kernel
theorem dB_place_6 : decode kB_place 6 = .ok (.iastore, 1) := by decide +kernel
theorem dB_place_7 : decode kB_place 7 = .ok (.aload_n 0, 1) := by decide +kernel
theorem dB_place_8 : decode kB_place 8 = .ok (.getfield 22, 3) := by decide +kernel
theorem dB_place_11 : decode kB_place 11 = .ok (.iload_n 1, 1) := by decide +kernel
theorem dB_place_12 : decode kB_place 12 = .ok (.iload_n 3, 1) := by decide +kernel
theorem dB_place_13 : decode kB_place 13 = .ok (.iastore, 1) := by decide +kernel
theorem dB_place_14 : decode kB_place 14 = .ok (.aload_n 0, 1) := by decide +kernel
theorem dB_place_15 : decode kB_place 15 = .ok (.getfield 25, 3) := by decide +kernel
theorem dB_place_18 : decode kB_place 18 = .ok (.iload_n 1, 1) := by decide +kernel
theorem dB_place_19 : decode kB_place 19 = .ok (.iload 4, 2) := by decide +kernel
theorem dB_place_21 : decode kB_place 21 = .ok (.iastore, 1) := by decide +kernel
theorem dB_place_22 : decode kB_place 22 = .ok (.iload_n 1, 1) := by decide +kernel
theorem dB_place_23 : decode kB_place 23 = .ok (.ireturn, 1) := by decide +kernel
theorem dB_admit_0 : decode kB_admit 0 = .ok (.aload_n 0, 1) := by decide +kernel
theorem dB_admit_1 : decode kB_admit 1 = .ok (.iload_n 3, 1) := by decide +kernel
theorem dB_admit_2 : decode kB_admit 2 = .ok (.invokevirtual 65, 3) := by decide +kernel
theorem dB_admit_5 : decode kB_admit 5 = .ok (.ifCond .eq 5, 3) := by decide +kernel
theorem dB_admit_8 : decode kB_admit 8 = .ok (.iconst (-1), 1) := by decide +kernel
theorem dB_admit_9 : decode kB_admit 9 = .ok (.ireturn, 1) := by decide +kernel
theorem dB_admit_10 : decode kB_admit 10 = .ok (.iload_n 1, 1) := by decide +kernel
theorem dB_admit_11 : decode kB_admit 11 = .ok (.iconst 1, 1) := by decide +kernel
theorem dB_admit_12 : decode kB_admit 12 = .ok (.if_icmp .lt 23, 3) := by decide +kernel
theorem dB_admit_15 : decode kB_admit 15 = .ok (.iload_n 1, 1) := by decide +kernel
theorem dB_admit_16 : decode kB_admit 16 = .ok (.iload_n 3, 1) := by decide +kernel
theorem dB_admit_17 : decode kB_admit 17 = .ok (.if_icmp .gt 18, 3) := by decide +kernel
theorem dB_admit_20 : decode kB_admit 20 = .ok (.iload_n 2, 1) := by decide +kernel
theorem dB_admit_21 : decode kB_admit 21 = .ok (.iconst 1, 1) := by decide +kernel
theorem dB_admit_22 : decode kB_admit 22 = .ok (.if_icmp .lt 13, 3) := by decide +kernel
theorem dB_admit_25 : decode kB_admit 25 = .ok (.iload_n 2, 1) := by decide +kernel
theorem dB_admit_26 : decode kB_admit 26 = .ok (.iload_n 3, 1) := by decide +kernel
theorem dB_admit_27 : decode kB_admit 27 = .ok (.if_icmp .gt 8, 3) := by decide +kernel
theorem dB_admit_30 : decode kB_admit 30 = .ok (.iload_n 1, 1) := by decide +kernel
theorem dB_admit_31 : decode kB_admit 31 = .ok (.iload_n 2, 1) := by decide +kernel
theorem dB_admit_32 : decode kB_admit 32 = .ok (.if_icmp .le 6, 3) := by decide +kernel
theorem dB_admit_35 : decode kB_admit 35 = .ok (.bipush (-2), 2) := by decide +kernel
theorem dB_admit_37 : decode kB_admit 37 = .ok (.ireturn, 1) := by decide +kernel
theorem dB_admit_38 : decode kB_admit 38 = .ok (.aload_n 0, 1) := by decide +kernel
theorem dB_admit_39 : decode kB_admit 39 = .ok (.invokevirtual 68, 3) := by decide +kernel
theorem dB_admit_42 : decode kB_admit 42 = .ok (.bipush 12, 2) := by decide +kernel
theorem dB_admit_44 : decode kB_admit 44 = .ok (.if_icmp .ne 6, 3) := by decide +kernel
theorem dB_admit_47 : decode kB_admit 47 = .ok (.bipush (-3), 2) := by decide +kernel
theorem dB_admit_49 : decode kB_admit 49 = .ok (.ireturn, 1) := by decide +kernel
theorem dB_admit_50 : decode kB_admit 50 = .ok (.aload_n 0, 1) := by decide +kernel
theorem dB_admit_51 : decode kB_admit 51 = .ok (.invokevirtual 72, 3) := by decide +kernel
theorem dB_admit_54 : decode kB_admit 54 = .ok (.istore 4, 2) := by decide +kernel
theorem dB_admit_56 : decode kB_admit 56 = .ok (.bipush (-4), 2) := by decide +kernel
theorem dB_admit_58 : decode kB_admit 58 = .ok (.istore 5, 2) := by decide +kernel
theorem dB_admit_60 : decode kB_admit 60 = .ok (.iconst 0, 1) := by decide +kernel
theorem dB_admit_61 : decode kB_admit 61 = .ok (.istore 6, 2) := by decide +kernel
theorem dB_admit_63 : decode kB_admit 63 = .ok (.iload 6, 2) := by decide +kernel
theorem dB_admit_65 : decode kB_admit 65 = .ok (.aload_n 0, 1) := by decide +kernel
theorem dB_admit_66 : decode kB_admit 66 = .ok (.getfield 49, 3) := by decide +kernel
theorem dB_admit_69 : decode kB_admit 69 = .ok (.if_icmp .ge 43, 3) := by decide +kernel
theorem dB_admit_72 : decode kB_admit 72 = .ok (.iload 5, 2) := by decide +kernel
theorem dB_admit_74 : decode kB_admit 74 = .ok (.bipush (-4), 2) := by decide +kernel
theorem dB_admit_76 : decode kB_admit 76 = .ok (.if_icmp .ne 30, 3) := by decide +kernel
theorem dB_admit_79 : decode kB_admit 79 = .ok (.aload_n 0, 1) := by decide +kernel
theorem dB_admit_80 : decode kB_admit 80 = .ok (.iload 6, 2) := by decide +kernel
theorem dB_admit_82 : decode kB_admit 82 = .ok (.iload 4, 2) := by decide +kernel
theorem dB_admit_84 : decode kB_admit 84 = .ok (.iload_n 1, 1) := by decide +kernel
theorem dB_admit_85 : decode kB_admit 85 = .ok (.iload_n 2, 1) := by decide +kernel
theorem dB_admit_86 : decode kB_admit 86 = .ok (.iload_n 3, 1) := by decide +kernel
theorem dB_admit_87 : decode kB_admit 87 = .ok (.invokevirtual 75, 3) := by decide +kernel
theorem dB_admit_90 : decode kB_admit 90 = .ok (.ifCond .eq 16, 3) := by decide +kernel
theorem dB_admit_93 : decode kB_admit 93 = .ok (.aload_n 0, 1) := by decide +kernel
theorem dB_admit_94 : decode kB_admit 94 = .ok (.iload 4, 2) := by decide +kernel
theorem dB_admit_96 : decode kB_admit 96 = .ok (.iload_n 1, 1) := by decide +kernel
theorem dB_admit_97 : decode kB_admit 97 = .ok (.iload 6, 2) := by decide +kernel
theorem dB_admit_99 : decode kB_admit 99 = .ok (.bipush (-4), 2) := by decide +kernel
theorem dB_admit_101 : decode kB_admit 101 = .ok (.invokevirtual 79, 3) := by decide +kernel
theorem dB_admit_104 : decode kB_admit 104 = .ok (.istore 5, 2) := by decide +kernel
theorem dB_admit_106 : decode kB_admit 106 = .ok (.iinc 6 1, 3) := by decide +kernel
theorem dB_admit_109 : decode kB_admit 109 = .ok (.goto (-46), 3) := by decide +kernel
theorem dB_admit_112 : decode kB_admit 112 = .ok (.iload_n 1, 1) := by decide +kernel
theorem dB_admit_113 : decode kB_admit 113 = .ok (.iconst 1, 1) := by decide +kernel
theorem dB_admit_114 : decode kB_admit 114 = .ok (.isub, 1) := by decide +kernel
theorem dB_admit_115 : decode kB_admit 115 = .ok (.istore 6, 2) := by decide +kernel
theorem dB_admit_117 : decode kB_admit 117 = .ok (.iload 6, 2) := by decide +kernel
theorem dB_admit_119 : decode kB_admit 119 = .ok (.ifCond .le 95, 3) := by decide +kernel
theorem dB_admit_122 : decode kB_admit 122 = .ok (.iconst 0, 1) := by decide +kernel
theorem dB_admit_123 : decode kB_admit 123 = .ok (.istore 7, 2) := by decide +kernel
theorem dB_admit_125 : decode kB_admit 125 = .ok (.iload 7, 2) := by decide +kernel
theorem dB_admit_127 : decode kB_admit 127 = .ok (.aload_n 0, 1) := by decide +kernel
theorem dB_admit_128 : decode kB_admit 128 = .ok (.getfield 49, 3) := by decide +kernel
theorem dB_admit_131 : decode kB_admit 131 = .ok (.if_icmp .ge 77, 3) := by decide +kernel
theorem dB_admit_134 : decode kB_admit 134 = .ok (.iload 5, 2) := by decide +kernel
theorem dB_admit_136 : decode kB_admit 136 = .ok (.bipush (-4), 2) := by decide +kernel
theorem dB_admit_138 : decode kB_admit 138 = .ok (.if_icmp .ne 64, 3) := by decide +kernel
theorem dB_admit_141 : decode kB_admit 141 = .ok (.aload_n 0, 1) := by decide +kernel
theorem dB_admit_142 : decode kB_admit 142 = .ok (.iload 7, 2) := by decide +kernel
theorem dB_admit_144 : decode kB_admit 144 = .ok (.iload 4, 2) := by decide +kernel
theorem dB_admit_146 : decode kB_admit 146 = .ok (.iload 6, 2) := by decide +kernel
theorem dB_admit_148 : decode kB_admit 148 = .ok (.iload 6, 2) := by decide +kernel
theorem dB_admit_150 : decode kB_admit 150 = .ok (.iload_n 3, 1) := by decide +kernel
theorem dB_admit_151 : decode kB_admit 151 = .ok (.invokevirtual 75, 3) := by decide +kernel
theorem dB_admit_154 : decode kB_admit 154 = .ok (.ifCond .eq 48, 3) := by decide +kernel
theorem dB_admit_157 : decode kB_admit 157 = .ok (.aload_n 0, 1) := by decide +kernel
theorem dB_admit_158 : decode kB_admit 158 = .ok (.iload 7, 2) := by decide +kernel
theorem dB_admit_160 : decode kB_admit 160 = .ok (.iload 4, 2) := by decide +kernel
theorem dB_admit_162 : decode kB_admit 162 = .ok (.iload_n 1, 1) := by decide +kernel
theorem dB_admit_163 : decode kB_admit 163 = .ok (.iload 6, 2) := by decide +kernel
theorem dB_admit_165 : decode kB_admit 165 = .ok (.isub, 1) := by decide +kernel
theorem dB_admit_166 : decode kB_admit 166 = .ok (.iload_n 2, 1) := by decide +kernel
theorem dB_admit_167 : decode kB_admit 167 = .ok (.iload 6, 2) := by decide +kernel
theorem dB_admit_169 : decode kB_admit 169 = .ok (.isub, 1) := by decide +kernel
theorem dB_admit_170 : decode kB_admit 170 = .ok (.iload_n 3, 1) := by decide +kernel
theorem dB_admit_171 : decode kB_admit 171 = .ok (.invokevirtual 83, 3) := by decide +kernel
theorem dB_admit_174 : decode kB_admit 174 = .ok (.istore 8, 2) := by decide +kernel
theorem dB_admit_176 : decode kB_admit 176 = .ok (.iload 8, 2) := by decide +kernel
theorem dB_admit_178 : decode kB_admit 178 = .ok (.bipush (-4), 2) := by decide +kernel
theorem dB_admit_180 : decode kB_admit 180 = .ok (.if_icmp .ne 8, 3) := by decide +kernel
theorem dB_admit_183 : decode kB_admit 183 = .ok (.bipush (-4), 2) := by decide +kernel
theorem dB_admit_185 : decode kB_admit 185 = .ok (.goto 15, 3) := by decide +kernel
theorem dB_admit_188 : decode kB_admit 188 = .ok (.aload_n 0, 1) := by decide +kernel
theorem dB_admit_189 : decode kB_admit 189 = .ok (.iload 4, 2) := by decide +kernel
theorem dB_admit_191 : decode kB_admit 191 = .ok (.iload 6, 2) := by decide +kernel
theorem dB_admit_193 : decode kB_admit 193 = .ok (.iload 7, 2) := by decide +kernel
theorem dB_admit_195 : decode kB_admit 195 = .ok (.iload 8, 2) := by decide +kernel
theorem dB_admit_197 : decode kB_admit 197 = .ok (.invokevirtual 79, 3) := by decide +kernel
theorem dB_admit_200 : decode kB_admit 200 = .ok (.istore 5, 2) := by decide +kernel
theorem dB_admit_202 : decode kB_admit 202 = .ok (.iinc 7 1, 3) := by decide +kernel
theorem dB_admit_205 : decode kB_admit 205 = .ok (.goto (-80), 3) := by decide +kernel
theorem dB_admit_208 : decode kB_admit 208 = .ok (.iinc 6 (-1), 3) := by decide +kernel
theorem dB_admit_211 : decode kB_admit 211 = .ok (.goto (-94), 3) := by decide +kernel
theorem dB_admit_214 : decode kB_admit 214 = .ok (.iload 5, 2) := by decide +kernel
theorem dB_admit_216 : decode kB_admit 216 = .ok (.bipush (-4), 2) := by decide +kernel
theorem dB_admit_218 : decode kB_admit 218 = .ok (.if_icmp .eq 27, 3) := by decide +kernel
theorem dB_admit_221 : decode kB_admit 221 = .ok (.aload_n 0, 1) := by decide +kernel
theorem dB_admit_222 : decode kB_admit 222 = .ok (.getfield 7, 3) := by decide +kernel
theorem dB_admit_225 : decode kB_admit 225 = .ok (.iload 4, 2) := by decide +kernel
theorem dB_admit_227 : decode kB_admit 227 = .ok (.iload_n 3, 1) := by decide +kernel
theorem dB_admit_228 : decode kB_admit 228 = .ok (.iastore, 1) := by decide +kernel
theorem dB_admit_229 : decode kB_admit 229 = .ok (.aload_n 0, 1) := by decide +kernel
theorem dB_admit_230 : decode kB_admit 230 = .ok (.getfield 13, 3) := by decide +kernel
theorem dB_admit_233 : decode kB_admit 233 = .ok (.iload 4, 2) := by decide +kernel
theorem dB_admit_235 : decode kB_admit 235 = .ok (.iload_n 1, 1) := by decide +kernel
theorem dB_admit_236 : decode kB_admit 236 = .ok (.iastore, 1) := by decide +kernel
theorem dB_admit_237 : decode kB_admit 237 = .ok (.aload_n 0, 1) := by decide +kernel
theorem dB_admit_238 : decode kB_admit 238 = .ok (.getfield 16, 3) := by decide +kernel
theorem dB_admit_241 : decode kB_admit 241 = .ok (.iload 4, 2) := by decide +kernel
theorem dB_admit_243 : decode kB_admit 243 = .ok (.iload_n 2, 1) := by decide +kernel
theorem dB_admit_244 : decode kB_admit 244 = .ok (.iastore, 1) := by decide +kernel
theorem dB_admit_245 : decode kB_admit 245 = .ok (.iload 5, 2) := by decide +kernel
theorem dB_admit_247 : decode kB_admit 247 = .ok (.ireturn, 1) := by decide +kernel
theorem dB_second_0 : decode kB_second 0 = .ok (.iconst 0, 1) := by decide +kernel
theorem dB_second_1 : decode kB_second 1 = .ok (.istore 6, 2) := by decide +kernel
theorem dB_second_3 : decode kB_second 3 = .ok (.iload 6, 2) := by decide +kernel
theorem dB_second_5 : decode kB_second 5 = .ok (.aload_n 0, 1) := by decide +kernel
theorem dB_second_6 : decode kB_second 6 = .ok (.getfield 49, 3) := by decide +kernel
theorem dB_second_9 : decode kB_second 9 = .ok (.if_icmp .ge 33, 3) := by decide +kernel
theorem dB_second_12 : decode kB_second 12 = .ok (.iload 6, 2) := by decide +kernel
theorem dB_second_14 : decode kB_second 14 = .ok (.iload_n 1, 1) := by decide +kernel
theorem dB_second_15 : decode kB_second 15 = .ok (.if_icmp .eq 21, 3) := by decide +kernel
theorem dB_second_18 : decode kB_second 18 = .ok (.aload_n 0, 1) := by decide +kernel
theorem dB_second_19 : decode kB_second 19 = .ok (.iload 6, 2) := by decide +kernel
theorem dB_second_21 : decode kB_second 21 = .ok (.iload_n 2, 1) := by decide +kernel
theorem dB_second_22 : decode kB_second 22 = .ok (.iload_n 3, 1) := by decide +kernel
theorem dB_second_23 : decode kB_second 23 = .ok (.iload 4, 2) := by decide +kernel
theorem dB_second_25 : decode kB_second 25 = .ok (.iload 5, 2) := by decide +kernel
theorem dB_second_27 : decode kB_second 27 = .ok (.invokevirtual 75, 3) := by decide +kernel
theorem dB_second_30 : decode kB_second 30 = .ok (.ifCond .eq 6, 3) := by decide +kernel
theorem dB_second_33 : decode kB_second 33 = .ok (.iload 6, 2) := by decide +kernel
theorem dB_second_35 : decode kB_second 35 = .ok (.ireturn, 1) := by decide +kernel
theorem dB_second_36 : decode kB_second 36 = .ok (.iinc 6 1, 3) := by decide +kernel
theorem dB_second_39 : decode kB_second 39 = .ok (.goto (-36), 3) := by decide +kernel
theorem dB_second_42 : decode kB_second 42 = .ok (.bipush (-4), 2) := by decide +kernel
theorem dB_second_44 : decode kB_second 44 = .ok (.ireturn, 1) := by decide +kernel
theorem dB_remove_0 : decode kB_remove 0 = .ok (.aload_n 0, 1) := by decide +kernel
theorem dB_remove_1 : decode kB_remove 1 = .ok (.iload_n 1, 1) := by decide +kernel
theorem dB_remove_2 : decode kB_remove 2 = .ok (.invokevirtual 87, 3) := by decide +kernel
theorem dB_remove_5 : decode kB_remove 5 = .ok (.ifCond .eq 6, 3) := by decide +kernel
theorem dB_remove_8 : decode kB_remove 8 = .ok (.bipush (-5), 2) := by decide +kernel
theorem dB_remove_10 : decode kB_remove 10 = .ok (.ireturn, 1) := by decide +kernel
theorem dB_remove_11 : decode kB_remove 11 = .ok (.aload_n 0, 1) := by decide +kernel
theorem dB_remove_12 : decode kB_remove 12 = .ok (.getfield 7, 3) := by decide +kernel
theorem dB_remove_15 : decode kB_remove 15 = .ok (.iload_n 1, 1) := by decide +kernel
theorem dB_remove_16 : decode kB_remove 16 = .ok (.iconst 0, 1) := by decide +kernel
theorem dB_remove_17 : decode kB_remove 17 = .ok (.iastore, 1) := by decide +kernel
theorem dB_remove_18 : decode kB_remove 18 = .ok (.aload_n 0, 1) := by decide +kernel
theorem dB_remove_19 : decode kB_remove 19 = .ok (.invokevirtual 68, 3) := by decide +kernel
theorem dB_remove_22 : decode kB_remove 22 = .ok (.ireturn, 1) := by decide +kernel
theorem dB_core_0 : decode kB_core 0 = .ok (.aload_n 0, 1) := by decide +kernel
theorem dB_core_1 : decode kB_core 1 = .ok (.iload_n 1, 1) := by decide +kernel
theorem dB_core_2 : decode kB_core 2 = .ok (.invokevirtual 87, 3) := by decide +kernel
theorem dB_core_5 : decode kB_core 5 = .ok (.ifCond .eq 8, 3) := by decide +kernel
theorem dB_core_8 : decode kB_core 8 = .ok (.bipush (-5), 2) := by decide +kernel
theorem dB_core_10 : decode kB_core 10 = .ok (.goto 9, 3) := by decide +kernel
theorem dB_core_13 : decode kB_core 13 = .ok (.aload_n 0, 1) := by decide +kernel
theorem dB_core_14 : decode kB_core 14 = .ok (.getfield 22, 3) := by decide +kernel
theorem dB_core_17 : decode kB_core 17 = .ok (.iload_n 1, 1) := by decide +kernel
theorem dB_core_18 : decode kB_core 18 = .ok (.iaload, 1) := by decide +kernel
theorem dB_core_19 : decode kB_core 19 = .ok (.ireturn, 1) := by decide +kernel
theorem dB_secondCore_0 : decode kB_secondCore 0 = .ok (.aload_n 0, 1) := by decide +kernel
theorem dB_secondCore_1 : decode kB_secondCore 1 = .ok (.iload_n 1, 1) := by decide +kernel
theorem dB_secondCore_2 : decode kB_secondCore 2 = .ok (.invokevirtual 87, 3) := by decide +kernel
theorem dB_secondCore_5 : decode kB_secondCore 5 = .ok (.ifCond .eq 8, 3) := by decide +kernel
theorem dB_secondCore_8 : decode kB_secondCore 8 = .ok (.bipush (-5), 2) := by decide +kernel
theorem dB_secondCore_10 : decode kB_secondCore 10 = .ok (.goto 9, 3) := by decide +kernel
theorem dB_secondCore_13 : decode kB_secondCore 13 = .ok (.aload_n 0, 1) := by decide +kernel
theorem dB_secondCore_14 : decode kB_secondCore 14 = .ok (.getfield 25, 3) := by decide +kernel
theorem dB_secondCore_17 : decode kB_secondCore 17 = .ok (.iload_n 1, 1) := by decide +kernel
theorem dB_secondCore_18 : decode kB_secondCore 18 = .ok (.iaload, 1) := by decide +kernel
theorem dB_secondCore_19 : decode kB_secondCore 19 = .ok (.ireturn, 1) := by decide +kernel
theorem dB_firstCost_0 : decode kB_firstCost 0 = .ok (.aload_n 0, 1) := by decide +kernel
theorem dB_firstCost_1 : decode kB_firstCost 1 = .ok (.iload_n 1, 1) := by decide +kernel
theorem dB_firstCost_2 : decode kB_firstCost 2 = .ok (.invokevirtual 87, 3) := by decide +kernel
theorem dB_firstCost_5 : decode kB_firstCost 5 = .ok (.ifCond .eq 8, 3) := by decide +kernel
theorem dB_firstCost_8 : decode kB_firstCost 8 = .ok (.bipush (-5), 2) := by decide +kernel
theorem dB_firstCost_10 : decode kB_firstCost 10 = .ok (.goto 9, 3) := by decide +kernel
theorem dB_firstCost_13 : decode kB_firstCost 13 = .ok (.aload_n 0, 1) := by decide +kernel
theorem dB_firstCost_14 : decode kB_firstCost 14 = .ok (.getfield 19, 3) := by decide +kernel
theorem dB_firstCost_17 : decode kB_firstCost 17 = .ok (.iload_n 1, 1) := by decide +kernel
theorem dB_firstCost_18 : decode kB_firstCost 18 = .ok (.iaload, 1) := by decide +kernel
theorem dB_firstCost_19 : decode kB_firstCost 19 = .ok (.ireturn, 1) := by decide +kernel
theorem dB_load_0 : decode kB_load 0 = .ok (.aload_n 0, 1) := by decide +kernel
theorem dB_load_1 : decode kB_load 1 = .ok (.iload_n 1, 1) := by decide +kernel
theorem dB_load_2 : decode kB_load 2 = .ok (.invokevirtual 90, 3) := by decide +kernel
theorem dB_load_5 : decode kB_load 5 = .ok (.ifCond .eq 6, 3) := by decide +kernel
theorem dB_load_8 : decode kB_load 8 = .ok (.bipush (-6), 2) := by decide +kernel
theorem dB_load_10 : decode kB_load 10 = .ok (.ireturn, 1) := by decide +kernel
theorem dB_load_11 : decode kB_load 11 = .ok (.aload_n 0, 1) := by decide +kernel
theorem dB_load_12 : decode kB_load 12 = .ok (.iload_n 1, 1) := by decide +kernel
theorem dB_load_13 : decode kB_load 13 = .ok (.invokevirtual 57, 3) := by decide +kernel
theorem dB_load_16 : decode kB_load 16 = .ok (.iconst 0, 1) := by decide +kernel
theorem dB_load_17 : decode kB_load 17 = .ok (.istore_n 2, 1) := by decide +kernel
theorem dB_load_18 : decode kB_load 18 = .ok (.iconst 0, 1) := by decide +kernel
theorem dB_load_19 : decode kB_load 19 = .ok (.istore_n 3, 1) := by decide +kernel
theorem dB_load_20 : decode kB_load 20 = .ok (.iload_n 3, 1) := by decide +kernel
theorem dB_load_21 : decode kB_load 21 = .ok (.bipush 12, 2) := by decide +kernel
theorem dB_load_23 : decode kB_load 23 = .ok (.if_icmp .ge 46, 3) := by decide +kernel
theorem dB_load_26 : decode kB_load 26 = .ok (.aload_n 0, 1) := by decide +kernel
theorem dB_load_27 : decode kB_load 27 = .ok (.getfield 28, 3) := by decide +kernel
theorem dB_load_30 : decode kB_load 30 = .ok (.iload_n 3, 1) := by decide +kernel
theorem dB_load_31 : decode kB_load 31 = .ok (.iaload, 1) := by decide +kernel
theorem dB_load_32 : decode kB_load 32 = .ok (.ifCond .le 31, 3) := by decide +kernel
theorem dB_load_35 : decode kB_load 35 = .ok (.aload_n 0, 1) := by decide +kernel
theorem dB_load_36 : decode kB_load 36 = .ok (.getfield 34, 3) := by decide +kernel
theorem dB_load_39 : decode kB_load 39 = .ok (.iload_n 3, 1) := by decide +kernel
theorem dB_load_40 : decode kB_load 40 = .ok (.iaload, 1) := by decide +kernel
theorem dB_load_41 : decode kB_load 41 = .ok (.ifCond .le 22, 3) := by decide +kernel
theorem dB_load_44 : decode kB_load 44 = .ok (.iload_n 2, 1) := by decide +kernel
theorem dB_load_45 : decode kB_load 45 = .ok (.aload_n 0, 1) := by decide +kernel
theorem dB_load_46 : decode kB_load 46 = .ok (.getfield 28, 3) := by decide +kernel
theorem dB_load_49 : decode kB_load 49 = .ok (.iload_n 3, 1) := by decide +kernel
theorem dB_load_50 : decode kB_load 50 = .ok (.iaload, 1) := by decide +kernel
theorem dB_load_51 : decode kB_load 51 = .ok (.bipush 60, 2) := by decide +kernel
theorem dB_load_53 : decode kB_load 53 = .ok (.aload_n 0, 1) := by decide +kernel
theorem dB_load_54 : decode kB_load 54 = .ok (.getfield 34, 3) := by decide +kernel
theorem dB_load_57 : decode kB_load 57 = .ok (.iload_n 3, 1) := by decide +kernel
theorem dB_load_58 : decode kB_load 58 = .ok (.iaload, 1) := by decide +kernel
theorem dB_load_59 : decode kB_load 59 = .ok (.idiv, 1) := by decide +kernel
theorem dB_load_60 : decode kB_load 60 = .ok (.imul, 1) := by decide +kernel
theorem dB_load_61 : decode kB_load 61 = .ok (.iadd, 1) := by decide +kernel
theorem dB_load_62 : decode kB_load 62 = .ok (.istore_n 2, 1) := by decide +kernel
theorem dB_load_63 : decode kB_load 63 = .ok (.iinc 3 1, 3) := by decide +kernel
theorem dB_load_66 : decode kB_load 66 = .ok (.goto (-46), 3) := by decide +kernel
theorem dB_load_69 : decode kB_load 69 = .ok (.iload_n 2, 1) := by decide +kernel
theorem dB_load_70 : decode kB_load 70 = .ok (.ireturn, 1) := by decide +kernel
theorem dB_running_0 : decode kB_running 0 = .ok (.aload_n 0, 1) := by decide +kernel
theorem dB_running_1 : decode kB_running 1 = .ok (.iload_n 1, 1) := by decide +kernel
theorem dB_running_2 : decode kB_running 2 = .ok (.invokevirtual 90, 3) := by decide +kernel
theorem dB_running_5 : decode kB_running 5 = .ok (.ifCond .eq 6, 3) := by decide +kernel
theorem dB_running_8 : decode kB_running 8 = .ok (.bipush (-6), 2) := by decide +kernel
theorem dB_running_10 : decode kB_running 10 = .ok (.ireturn, 1) := by decide +kernel
theorem dB_running_11 : decode kB_running 11 = .ok (.iload_n 2, 1) := by decide +kernel
theorem dB_running_12 : decode kB_running 12 = .ok (.ifCond .lt 9, 3) := by decide +kernel
theorem dB_running_15 : decode kB_running 15 = .ok (.iload_n 2, 1) := by decide +kernel
theorem dB_running_16 : decode kB_running 16 = .ok (.bipush 59, 2) := by decide +kernel
theorem dB_running_18 : decode kB_running 18 = .ok (.if_icmp .le 6, 3) := by decide +kernel
theorem dB_running_21 : decode kB_running 21 = .ok (.bipush (-7), 2) := by decide +kernel
theorem dB_running_23 : decode kB_running 23 = .ok (.ireturn, 1) := by decide +kernel
theorem dB_running_24 : decode kB_running 24 = .ok (.aload_n 0, 1) := by decide +kernel
theorem dB_running_25 : decode kB_running 25 = .ok (.iload_n 1, 1) := by decide +kernel
theorem dB_running_26 : decode kB_running 26 = .ok (.invokevirtual 57, 3) := by decide +kernel
theorem dB_running_29 : decode kB_running 29 = .ok (.aload_n 0, 1) := by decide +kernel
theorem dB_running_30 : decode kB_running 30 = .ok (.invokevirtual 61, 3) := by decide +kernel
theorem dB_running_33 : decode kB_running 33 = .ok (.pop, 1) := by decide +kernel
theorem dB_running_34 : decode kB_running 34 = .ok (.aload_n 0, 1) := by decide +kernel
theorem dB_running_35 : decode kB_running 35 = .ok (.getfield 43, 3) := by decide +kernel
theorem dB_running_38 : decode kB_running 38 = .ok (.iload_n 2, 1) := by decide +kernel
theorem dB_running_39 : decode kB_running 39 = .ok (.iaload, 1) := by decide +kernel
theorem dB_running_40 : decode kB_running 40 = .ok (.ireturn, 1) := by decide +kernel
theorem dB_response_0 : decode kB_response 0 = .ok (.aload_n 0, 1) := by decide +kernel
theorem dB_response_1 : decode kB_response 1 = .ok (.iload_n 1, 1) := by decide +kernel
theorem dB_response_2 : decode kB_response 2 = .ok (.invokevirtual 90, 3) := by decide +kernel
theorem dB_response_5 : decode kB_response 5 = .ok (.ifCond .eq 6, 3) := by decide +kernel
theorem dB_response_8 : decode kB_response 8 = .ok (.bipush (-6), 2) := by decide +kernel
theorem dB_response_10 : decode kB_response 10 = .ok (.ireturn, 1) := by decide +kernel
theorem dB_response_11 : decode kB_response 11 = .ok (.aload_n 0, 1) := by decide +kernel
theorem dB_response_12 : decode kB_response 12 = .ok (.iload_n 2, 1) := by decide +kernel
theorem dB_response_13 : decode kB_response 13 = .ok (.invokevirtual 87, 3) := by decide +kernel
theorem dB_response_16 : decode kB_response 16 = .ok (.ifCond .eq 6, 3) := by decide +kernel
theorem dB_response_19 : decode kB_response 19 = .ok (.bipush (-5), 2) := by decide +kernel
theorem dB_response_21 : decode kB_response 21 = .ok (.ireturn, 1) := by decide +kernel
theorem dB_response_22 : decode kB_response 22 = .ok (.aload_n 0, 1) := by decide +kernel
theorem dB_response_23 : decode kB_response 23 = .ok (.iload_n 1, 1) := by decide +kernel
theorem dB_response_24 : decode kB_response 24 = .ok (.invokevirtual 57, 3) := by decide +kernel
theorem dB_response_27 : decode kB_response 27 = .ok (.aload_n 0, 1) := by decide +kernel
theorem dB_response_28 : decode kB_response 28 = .ok (.getfield 28, 3) := by decide +kernel
theorem dB_response_31 : decode kB_response 31 = .ok (.iload_n 2, 1) := by decide +kernel
theorem dB_response_32 : decode kB_response 32 = .ok (.iaload, 1) := by decide +kernel
theorem dB_response_33 : decode kB_response 33 = .ok (.ifCond .ne 6, 3) := by decide +kernel
theorem dB_response_36 : decode kB_response 36 = .ok (.bipush (-5), 2) := by decide +kernel
theorem dB_response_38 : decode kB_response 38 = .ok (.ireturn, 1) := by decide +kernel
theorem dB_response_39 : decode kB_response 39 = .ok (.aload_n 0, 1) := by decide +kernel
theorem dB_response_40 : decode kB_response 40 = .ok (.invokevirtual 61, 3) := by decide +kernel
theorem dB_response_43 : decode kB_response 43 = .ok (.pop, 1) := by decide +kernel
theorem dB_response_44 : decode kB_response 44 = .ok (.aload_n 0, 1) := by decide +kernel
theorem dB_response_45 : decode kB_response 45 = .ok (.getfield 46, 3) := by decide +kernel
theorem dB_response_48 : decode kB_response 48 = .ok (.iload_n 2, 1) := by decide +kernel
theorem dB_response_49 : decode kB_response 49 = .ok (.iaload, 1) := by decide +kernel
theorem dB_response_50 : decode kB_response 50 = .ok (.ireturn, 1) := by decide +kernel
theorem dB_spare_0 : decode kB_spare 0 = .ok (.aload_n 0, 1) := by decide +kernel
theorem dB_spare_1 : decode kB_spare 1 = .ok (.iload_n 1, 1) := by decide +kernel
theorem dB_spare_2 : decode kB_spare 2 = .ok (.invokevirtual 90, 3) := by decide +kernel
theorem dB_spare_5 : decode kB_spare 5 = .ok (.ifCond .eq 6, 3) := by decide +kernel
theorem dB_spare_8 : decode kB_spare 8 = .ok (.bipush (-6), 2) := by decide +kernel
theorem dB_spare_10 : decode kB_spare 10 = .ok (.ireturn, 1) := by decide +kernel
theorem dB_spare_11 : decode kB_spare 11 = .ok (.aload_n 0, 1) := by decide +kernel
theorem dB_spare_12 : decode kB_spare 12 = .ok (.iload_n 2, 1) := by decide +kernel
theorem dB_spare_13 : decode kB_spare 13 = .ok (.invokevirtual 65, 3) := by decide +kernel
theorem dB_spare_16 : decode kB_spare 16 = .ok (.ifCond .eq 5, 3) := by decide +kernel
theorem dB_spare_19 : decode kB_spare 19 = .ok (.iconst (-1), 1) := by decide +kernel
theorem dB_spare_20 : decode kB_spare 20 = .ok (.ireturn, 1) := by decide +kernel
theorem dB_spare_21 : decode kB_spare 21 = .ok (.aload_n 0, 1) := by decide +kernel
theorem dB_spare_22 : decode kB_spare 22 = .ok (.invokevirtual 72, 3) := by decide +kernel
theorem dB_spare_25 : decode kB_spare 25 = .ok (.istore_n 3, 1) := by decide +kernel
theorem dB_spare_26 : decode kB_spare 26 = .ok (.iload_n 2, 1) := by decide +kernel
theorem dB_spare_27 : decode kB_spare 27 = .ok (.istore 4, 2) := by decide +kernel
theorem dB_spare_29 : decode kB_spare 29 = .ok (.iload 4, 2) := by decide +kernel
theorem dB_spare_31 : decode kB_spare 31 = .ok (.ifCond .le 25, 3) := by decide +kernel
theorem dB_spare_34 : decode kB_spare 34 = .ok (.aload_n 0, 1) := by decide +kernel
theorem dB_spare_35 : decode kB_spare 35 = .ok (.iload_n 1, 1) := by decide +kernel
theorem dB_spare_36 : decode kB_spare 36 = .ok (.iload_n 3, 1) := by decide +kernel
theorem dB_spare_37 : decode kB_spare 37 = .ok (.iload 4, 2) := by decide +kernel
theorem dB_spare_39 : decode kB_spare 39 = .ok (.iload_n 2, 1) := by decide +kernel
theorem dB_spare_40 : decode kB_spare 40 = .ok (.iload_n 2, 1) := by decide +kernel
theorem dB_spare_41 : decode kB_spare 41 = .ok (.invokevirtual 75, 3) := by decide +kernel
theorem dB_spare_44 : decode kB_spare 44 = .ok (.ifCond .eq 6, 3) := by decide +kernel
theorem dB_spare_47 : decode kB_spare 47 = .ok (.iload 4, 2) := by decide +kernel
theorem dB_spare_49 : decode kB_spare 49 = .ok (.ireturn, 1) := by decide +kernel
theorem dB_spare_50 : decode kB_spare 50 = .ok (.iinc 4 (-1), 3) := by decide +kernel
theorem dB_spare_53 : decode kB_spare 53 = .ok (.goto (-24), 3) := by decide +kernel
theorem dB_spare_56 : decode kB_spare 56 = .ok (.iconst 0, 1) := by decide +kernel
theorem dB_spare_57 : decode kB_spare 57 = .ok (.ireturn, 1) := by decide +kernel
end
section
/-! decode rows, printed by program -/
theorem dL_cell_0 : decode kL_cell 0 = .ok (.iload_n 1, 1) := by decide +kernel
theorem dL_cell_1 : decode kL_cell 1 = .ok (.aload_n 0, 1) := by decide +kernel
theorem dL_cell_2 : decode kL_cell 2 = .ok (.arraylength, 1) := by decide +kernel
theorem dL_cell_3 : decode kL_cell 3 = .ok (.if_icmp .ge 9, 3) := by decide +kernel
theorem dL_cell_6 : decode kL_cell 6 = .ok (.aload_n 0, 1) := by decide +kernel
theorem dL_cell_7 : decode kL_cell 7 = .ok (.iload_n 1, 1) := by decide +kernel
theorem dL_cell_8 : decode kL_cell 8 = .ok (.iaload, 1) := by decide +kernel
theorem dL_cell_9 : decode kL_cell 9 = .ok (.goto 4, 3) := by decide +kernel
theorem dL_cell_12 : decode kL_cell 12 = .ok (.iconst 0, 1) := by decide +kernel
theorem dL_cell_13 : decode kL_cell 13 = .ok (.ireturn, 1) := by decide +kernel
theorem dL_law_0 : decode code 0 = .ok (.new 7, 3) := by decide +kernel
theorem dL_law_3 : decode code 3 = .ok (.dup, 1) := by decide +kernel
theorem dL_law_4 : decode code 4 = .ok (.aload_n 0, 1) := by decide +kernel
theorem dL_law_5 : decode code 5 = .ok (.iconst 0, 1) := by decide +kernel
theorem dL_law_6 : decode code 6 = .ok (.invokestatic 9, 3) := by decide +kernel
theorem dL_law_9 : decode code 9 = .ok (.invokespecial 15, 3) := by decide +kernel
theorem dL_law_12 : decode code 12 = .ok (.astore_n 1, 1) := by decide +kernel
theorem dL_law_13 : decode code 13 = .ok (.new 18, 3) := by decide +kernel
theorem dL_law_16 : decode code 16 = .ok (.dup, 1) := by decide +kernel
theorem dL_law_17 : decode code 17 = .ok (.aload_n 0, 1) := by decide +kernel
theorem dL_law_18 : decode code 18 = .ok (.iconst 0, 1) := by decide +kernel
theorem dL_law_19 : decode code 19 = .ok (.invokestatic 9, 3) := by decide +kernel
theorem dL_law_22 : decode code 22 = .ok (.invokespecial 20, 3) := by decide +kernel
theorem dL_law_25 : decode code 25 = .ok (.astore_n 2, 1) := by decide +kernel
theorem dL_law_26 : decode code 26 = .ok (.iconst 1, 1) := by decide +kernel
theorem dL_law_27 : decode code 27 = .ok (.istore_n 3, 1) := by decide +kernel
theorem dL_law_28 : decode code 28 = .ok (.iload_n 3, 1) := by decide +kernel
theorem dL_law_29 : decode code 29 = .ok (.aload_n 0, 1) := by decide +kernel
theorem dL_law_30 : decode code 30 = .ok (.arraylength, 1) := by decide +kernel
theorem dL_law_31 : decode code 31 = .ok (.iconst 4, 1) := by decide +kernel
theorem dL_law_32 : decode code 32 = .ok (.isub, 1) := by decide +kernel
theorem dL_law_33 : decode code 33 = .ok (.if_icmp .gt 322, 3) := by decide +kernel
theorem dL_law_36 : decode code 36 = .ok (.aload_n 0, 1) := by decide +kernel
theorem dL_law_37 : decode code 37 = .ok (.iload_n 3, 1) := by decide +kernel
theorem dL_law_38 : decode code 38 = .ok (.iaload, 1) := by decide +kernel
theorem dL_law_39 : decode code 39 = .ok (.bipush 15, 2) := by decide +kernel
theorem dL_law_41 : decode code 41 = .ok (.iand, 1) := by decide +kernel
theorem dL_law_42 : decode code 42 = .ok (.tableswitch 307 0 8 #[50, 93, 116, 139, 162, 185, 208, 241, 274], 50) := by decide +kernel
theorem dL_law_92 : decode code 92 = .ok (.aload_n 1, 1) := by decide +kernel
theorem dL_law_93 : decode code 93 = .ok (.aload_n 0, 1) := by decide +kernel
theorem dL_law_94 : decode code 94 = .ok (.iload_n 3, 1) := by decide +kernel
theorem dL_law_95 : decode code 95 = .ok (.iconst 1, 1) := by decide +kernel
theorem dL_law_96 : decode code 96 = .ok (.iadd, 1) := by decide +kernel
theorem dL_law_97 : decode code 97 = .ok (.iaload, 1) := by decide +kernel
theorem dL_law_98 : decode code 98 = .ok (.aload_n 0, 1) := by decide +kernel
theorem dL_law_99 : decode code 99 = .ok (.iload_n 3, 1) := by decide +kernel
theorem dL_law_100 : decode code 100 = .ok (.iconst 2, 1) := by decide +kernel
theorem dL_law_101 : decode code 101 = .ok (.iadd, 1) := by decide +kernel
theorem dL_law_102 : decode code 102 = .ok (.iaload, 1) := by decide +kernel
theorem dL_law_103 : decode code 103 = .ok (.aload_n 0, 1) := by decide +kernel
theorem dL_law_104 : decode code 104 = .ok (.iload_n 3, 1) := by decide +kernel
theorem dL_law_105 : decode code 105 = .ok (.iconst 3, 1) := by decide +kernel
theorem dL_law_106 : decode code 106 = .ok (.iadd, 1) := by decide +kernel
theorem dL_law_107 : decode code 107 = .ok (.iaload, 1) := by decide +kernel
theorem dL_law_108 : decode code 108 = .ok (.invokevirtual 21, 3) := by decide +kernel
theorem dL_law_111 : decode code 111 = .ok (.aload_n 2, 1) := by decide +kernel
theorem dL_law_112 : decode code 112 = .ok (.aload_n 0, 1) := by decide +kernel
theorem dL_law_113 : decode code 113 = .ok (.iload_n 3, 1) := by decide +kernel
theorem dL_law_114 : decode code 114 = .ok (.iconst 1, 1) := by decide +kernel
theorem dL_law_115 : decode code 115 = .ok (.iadd, 1) := by decide +kernel
theorem dL_law_116 : decode code 116 = .ok (.iaload, 1) := by decide +kernel
theorem dL_law_117 : decode code 117 = .ok (.aload_n 0, 1) := by decide +kernel
theorem dL_law_118 : decode code 118 = .ok (.iload_n 3, 1) := by decide +kernel
theorem dL_law_119 : decode code 119 = .ok (.iconst 2, 1) := by decide +kernel
theorem dL_law_120 : decode code 120 = .ok (.iadd, 1) := by decide +kernel
theorem dL_law_121 : decode code 121 = .ok (.iaload, 1) := by decide +kernel
theorem dL_law_122 : decode code 122 = .ok (.aload_n 0, 1) := by decide +kernel
theorem dL_law_123 : decode code 123 = .ok (.iload_n 3, 1) := by decide +kernel
theorem dL_law_124 : decode code 124 = .ok (.iconst 3, 1) := by decide +kernel
theorem dL_law_125 : decode code 125 = .ok (.iadd, 1) := by decide +kernel
theorem dL_law_126 : decode code 126 = .ok (.iaload, 1) := by decide +kernel
theorem dL_law_127 : decode code 127 = .ok (.invokevirtual 25, 3) := by decide +kernel
theorem dL_law_130 : decode code 130 = .ok (.if_icmp .eq 219, 3) := by decide +kernel
theorem dL_law_133 : decode code 133 = .ok (.iconst 0, 1) := by decide +kernel
theorem dL_law_134 : decode code 134 = .ok (.ireturn, 1) := by decide +kernel
theorem dL_law_135 : decode code 135 = .ok (.aload_n 1, 1) := by decide +kernel
theorem dL_law_136 : decode code 136 = .ok (.aload_n 0, 1) := by decide +kernel
theorem dL_law_137 : decode code 137 = .ok (.iload_n 3, 1) := by decide +kernel
theorem dL_law_138 : decode code 138 = .ok (.iconst 1, 1) := by decide +kernel
theorem dL_law_139 : decode code 139 = .ok (.iadd, 1) := by decide +kernel
theorem dL_law_140 : decode code 140 = .ok (.iaload, 1) := by decide +kernel
theorem dL_law_141 : decode code 141 = .ok (.invokevirtual 26, 3) := by decide +kernel
theorem dL_law_144 : decode code 144 = .ok (.aload_n 2, 1) := by decide +kernel
theorem dL_law_145 : decode code 145 = .ok (.aload_n 0, 1) := by decide +kernel
theorem dL_law_146 : decode code 146 = .ok (.iload_n 3, 1) := by decide +kernel
theorem dL_law_147 : decode code 147 = .ok (.iconst 1, 1) := by decide +kernel
theorem dL_law_148 : decode code 148 = .ok (.iadd, 1) := by decide +kernel
theorem dL_law_149 : decode code 149 = .ok (.iaload, 1) := by decide +kernel
theorem dL_law_150 : decode code 150 = .ok (.invokevirtual 30, 3) := by decide +kernel
theorem dL_law_153 : decode code 153 = .ok (.if_icmp .eq 196, 3) := by decide +kernel
theorem dL_law_156 : decode code 156 = .ok (.iconst 0, 1) := by decide +kernel
theorem dL_law_157 : decode code 157 = .ok (.ireturn, 1) := by decide +kernel
theorem dL_law_158 : decode code 158 = .ok (.aload_n 1, 1) := by decide +kernel
theorem dL_law_159 : decode code 159 = .ok (.aload_n 0, 1) := by decide +kernel
theorem dL_law_160 : decode code 160 = .ok (.iload_n 3, 1) := by decide +kernel
theorem dL_law_161 : decode code 161 = .ok (.iconst 1, 1) := by decide +kernel
theorem dL_law_162 : decode code 162 = .ok (.iadd, 1) := by decide +kernel
theorem dL_law_163 : decode code 163 = .ok (.iaload, 1) := by decide +kernel
theorem dL_law_164 : decode code 164 = .ok (.invokevirtual 31, 3) := by decide +kernel
theorem dL_law_167 : decode code 167 = .ok (.aload_n 2, 1) := by decide +kernel
theorem dL_law_168 : decode code 168 = .ok (.aload_n 0, 1) := by decide +kernel
theorem dL_law_169 : decode code 169 = .ok (.iload_n 3, 1) := by decide +kernel
theorem dL_law_170 : decode code 170 = .ok (.iconst 1, 1) := by decide +kernel
theorem dL_law_171 : decode code 171 = .ok (.iadd, 1) := by decide +kernel
theorem dL_law_172 : decode code 172 = .ok (.iaload, 1) := by decide +kernel
theorem dL_law_173 : decode code 173 = .ok (.invokevirtual 34, 3) := by decide +kernel
theorem dL_law_176 : decode code 176 = .ok (.if_icmp .eq 173, 3) := by decide +kernel
theorem dL_law_179 : decode code 179 = .ok (.iconst 0, 1) := by decide +kernel
theorem dL_law_180 : decode code 180 = .ok (.ireturn, 1) := by decide +kernel
theorem dL_law_181 : decode code 181 = .ok (.aload_n 1, 1) := by decide +kernel
theorem dL_law_182 : decode code 182 = .ok (.aload_n 0, 1) := by decide +kernel
theorem dL_law_183 : decode code 183 = .ok (.iload_n 3, 1) := by decide +kernel
theorem dL_law_184 : decode code 184 = .ok (.iconst 1, 1) := by decide +kernel
theorem dL_law_185 : decode code 185 = .ok (.iadd, 1) := by decide +kernel
theorem dL_law_186 : decode code 186 = .ok (.iaload, 1) := by decide +kernel
theorem dL_law_187 : decode code 187 = .ok (.invokevirtual 35, 3) := by decide +kernel
theorem dL_law_190 : decode code 190 = .ok (.aload_n 2, 1) := by decide +kernel
theorem dL_law_191 : decode code 191 = .ok (.aload_n 0, 1) := by decide +kernel
theorem dL_law_192 : decode code 192 = .ok (.iload_n 3, 1) := by decide +kernel
theorem dL_law_193 : decode code 193 = .ok (.iconst 1, 1) := by decide +kernel
theorem dL_law_194 : decode code 194 = .ok (.iadd, 1) := by decide +kernel
theorem dL_law_195 : decode code 195 = .ok (.iaload, 1) := by decide +kernel
theorem dL_law_196 : decode code 196 = .ok (.invokevirtual 38, 3) := by decide +kernel
theorem dL_law_199 : decode code 199 = .ok (.if_icmp .eq 150, 3) := by decide +kernel
theorem dL_law_202 : decode code 202 = .ok (.iconst 0, 1) := by decide +kernel
theorem dL_law_203 : decode code 203 = .ok (.ireturn, 1) := by decide +kernel
theorem dL_law_204 : decode code 204 = .ok (.aload_n 1, 1) := by decide +kernel
theorem dL_law_205 : decode code 205 = .ok (.aload_n 0, 1) := by decide +kernel
theorem dL_law_206 : decode code 206 = .ok (.iload_n 3, 1) := by decide +kernel
theorem dL_law_207 : decode code 207 = .ok (.iconst 1, 1) := by decide +kernel
theorem dL_law_208 : decode code 208 = .ok (.iadd, 1) := by decide +kernel
theorem dL_law_209 : decode code 209 = .ok (.iaload, 1) := by decide +kernel
theorem dL_law_210 : decode code 210 = .ok (.invokevirtual 39, 3) := by decide +kernel
theorem dL_law_213 : decode code 213 = .ok (.aload_n 2, 1) := by decide +kernel
theorem dL_law_214 : decode code 214 = .ok (.aload_n 0, 1) := by decide +kernel
theorem dL_law_215 : decode code 215 = .ok (.iload_n 3, 1) := by decide +kernel
theorem dL_law_216 : decode code 216 = .ok (.iconst 1, 1) := by decide +kernel
theorem dL_law_217 : decode code 217 = .ok (.iadd, 1) := by decide +kernel
theorem dL_law_218 : decode code 218 = .ok (.iaload, 1) := by decide +kernel
theorem dL_law_219 : decode code 219 = .ok (.invokevirtual 42, 3) := by decide +kernel
theorem dL_law_222 : decode code 222 = .ok (.if_icmp .eq 127, 3) := by decide +kernel
theorem dL_law_225 : decode code 225 = .ok (.iconst 0, 1) := by decide +kernel
theorem dL_law_226 : decode code 226 = .ok (.ireturn, 1) := by decide +kernel
theorem dL_law_227 : decode code 227 = .ok (.aload_n 1, 1) := by decide +kernel
theorem dL_law_228 : decode code 228 = .ok (.aload_n 0, 1) := by decide +kernel
theorem dL_law_229 : decode code 229 = .ok (.iload_n 3, 1) := by decide +kernel
theorem dL_law_230 : decode code 230 = .ok (.iconst 1, 1) := by decide +kernel
theorem dL_law_231 : decode code 231 = .ok (.iadd, 1) := by decide +kernel
theorem dL_law_232 : decode code 232 = .ok (.iaload, 1) := by decide +kernel
theorem dL_law_233 : decode code 233 = .ok (.invokevirtual 43, 3) := by decide +kernel
theorem dL_law_236 : decode code 236 = .ok (.aload_n 2, 1) := by decide +kernel
theorem dL_law_237 : decode code 237 = .ok (.aload_n 0, 1) := by decide +kernel
theorem dL_law_238 : decode code 238 = .ok (.iload_n 3, 1) := by decide +kernel
theorem dL_law_239 : decode code 239 = .ok (.iconst 1, 1) := by decide +kernel
theorem dL_law_240 : decode code 240 = .ok (.iadd, 1) := by decide +kernel
theorem dL_law_241 : decode code 241 = .ok (.iaload, 1) := by decide +kernel
theorem dL_law_242 : decode code 242 = .ok (.invokevirtual 46, 3) := by decide +kernel
theorem dL_law_245 : decode code 245 = .ok (.if_icmp .eq 104, 3) := by decide +kernel
theorem dL_law_248 : decode code 248 = .ok (.iconst 0, 1) := by decide +kernel
theorem dL_law_249 : decode code 249 = .ok (.ireturn, 1) := by decide +kernel
theorem dL_law_250 : decode code 250 = .ok (.aload_n 1, 1) := by decide +kernel
theorem dL_law_251 : decode code 251 = .ok (.aload_n 0, 1) := by decide +kernel
theorem dL_law_252 : decode code 252 = .ok (.iload_n 3, 1) := by decide +kernel
theorem dL_law_253 : decode code 253 = .ok (.iconst 1, 1) := by decide +kernel
theorem dL_law_254 : decode code 254 = .ok (.iadd, 1) := by decide +kernel
theorem dL_law_255 : decode code 255 = .ok (.iaload, 1) := by decide +kernel
theorem dL_law_256 : decode code 256 = .ok (.aload_n 0, 1) := by decide +kernel
theorem dL_law_257 : decode code 257 = .ok (.iload_n 3, 1) := by decide +kernel
theorem dL_law_258 : decode code 258 = .ok (.iconst 2, 1) := by decide +kernel
theorem dL_law_259 : decode code 259 = .ok (.iadd, 1) := by decide +kernel
theorem dL_law_260 : decode code 260 = .ok (.iaload, 1) := by decide +kernel
theorem dL_law_261 : decode code 261 = .ok (.invokevirtual 47, 3) := by decide +kernel
theorem dL_law_264 : decode code 264 = .ok (.aload_n 2, 1) := by decide +kernel
theorem dL_law_265 : decode code 265 = .ok (.aload_n 0, 1) := by decide +kernel
theorem dL_law_266 : decode code 266 = .ok (.iload_n 3, 1) := by decide +kernel
theorem dL_law_267 : decode code 267 = .ok (.iconst 1, 1) := by decide +kernel
theorem dL_law_268 : decode code 268 = .ok (.iadd, 1) := by decide +kernel
theorem dL_law_269 : decode code 269 = .ok (.iaload, 1) := by decide +kernel
theorem dL_law_270 : decode code 270 = .ok (.aload_n 0, 1) := by decide +kernel
theorem dL_law_271 : decode code 271 = .ok (.iload_n 3, 1) := by decide +kernel
theorem dL_law_272 : decode code 272 = .ok (.iconst 2, 1) := by decide +kernel
theorem dL_law_273 : decode code 273 = .ok (.iadd, 1) := by decide +kernel
theorem dL_law_274 : decode code 274 = .ok (.iaload, 1) := by decide +kernel
theorem dL_law_275 : decode code 275 = .ok (.invokevirtual 51, 3) := by decide +kernel
theorem dL_law_278 : decode code 278 = .ok (.if_icmp .eq 71, 3) := by decide +kernel
theorem dL_law_281 : decode code 281 = .ok (.iconst 0, 1) := by decide +kernel
theorem dL_law_282 : decode code 282 = .ok (.ireturn, 1) := by decide +kernel
theorem dL_law_283 : decode code 283 = .ok (.aload_n 1, 1) := by decide +kernel
theorem dL_law_284 : decode code 284 = .ok (.aload_n 0, 1) := by decide +kernel
theorem dL_law_285 : decode code 285 = .ok (.iload_n 3, 1) := by decide +kernel
theorem dL_law_286 : decode code 286 = .ok (.iconst 1, 1) := by decide +kernel
theorem dL_law_287 : decode code 287 = .ok (.iadd, 1) := by decide +kernel
theorem dL_law_288 : decode code 288 = .ok (.iaload, 1) := by decide +kernel
theorem dL_law_289 : decode code 289 = .ok (.aload_n 0, 1) := by decide +kernel
theorem dL_law_290 : decode code 290 = .ok (.iload_n 3, 1) := by decide +kernel
theorem dL_law_291 : decode code 291 = .ok (.iconst 2, 1) := by decide +kernel
theorem dL_law_292 : decode code 292 = .ok (.iadd, 1) := by decide +kernel
theorem dL_law_293 : decode code 293 = .ok (.iaload, 1) := by decide +kernel
theorem dL_law_294 : decode code 294 = .ok (.invokevirtual 52, 3) := by decide +kernel
theorem dL_law_297 : decode code 297 = .ok (.aload_n 2, 1) := by decide +kernel
theorem dL_law_298 : decode code 298 = .ok (.aload_n 0, 1) := by decide +kernel
theorem dL_law_299 : decode code 299 = .ok (.iload_n 3, 1) := by decide +kernel
theorem dL_law_300 : decode code 300 = .ok (.iconst 1, 1) := by decide +kernel
theorem dL_law_301 : decode code 301 = .ok (.iadd, 1) := by decide +kernel
theorem dL_law_302 : decode code 302 = .ok (.iaload, 1) := by decide +kernel
theorem dL_law_303 : decode code 303 = .ok (.aload_n 0, 1) := by decide +kernel
theorem dL_law_304 : decode code 304 = .ok (.iload_n 3, 1) := by decide +kernel
theorem dL_law_305 : decode code 305 = .ok (.iconst 2, 1) := by decide +kernel
theorem dL_law_306 : decode code 306 = .ok (.iadd, 1) := by decide +kernel
theorem dL_law_307 : decode code 307 = .ok (.iaload, 1) := by decide +kernel
theorem dL_law_308 : decode code 308 = .ok (.invokevirtual 55, 3) := by decide +kernel
theorem dL_law_311 : decode code 311 = .ok (.if_icmp .eq 38, 3) := by decide +kernel
theorem dL_law_314 : decode code 314 = .ok (.iconst 0, 1) := by decide +kernel
theorem dL_law_315 : decode code 315 = .ok (.ireturn, 1) := by decide +kernel
theorem dL_law_316 : decode code 316 = .ok (.aload_n 1, 1) := by decide +kernel
theorem dL_law_317 : decode code 317 = .ok (.aload_n 0, 1) := by decide +kernel
theorem dL_law_318 : decode code 318 = .ok (.iload_n 3, 1) := by decide +kernel
theorem dL_law_319 : decode code 319 = .ok (.iconst 1, 1) := by decide +kernel
theorem dL_law_320 : decode code 320 = .ok (.iadd, 1) := by decide +kernel
theorem dL_law_321 : decode code 321 = .ok (.iaload, 1) := by decide +kernel
theorem dL_law_322 : decode code 322 = .ok (.aload_n 0, 1) := by decide +kernel
theorem dL_law_323 : decode code 323 = .ok (.iload_n 3, 1) := by decide +kernel
theorem dL_law_324 : decode code 324 = .ok (.iconst 2, 1) := by decide +kernel
theorem dL_law_325 : decode code 325 = .ok (.iadd, 1) := by decide +kernel
theorem dL_law_326 : decode code 326 = .ok (.iaload, 1) := by decide +kernel
theorem dL_law_327 : decode code 327 = .ok (.invokevirtual 56, 3) := by decide +kernel
theorem dL_law_330 : decode code 330 = .ok (.aload_n 2, 1) := by decide +kernel
theorem dL_law_331 : decode code 331 = .ok (.aload_n 0, 1) := by decide +kernel
theorem dL_law_332 : decode code 332 = .ok (.iload_n 3, 1) := by decide +kernel
theorem dL_law_333 : decode code 333 = .ok (.iconst 1, 1) := by decide +kernel
theorem dL_law_334 : decode code 334 = .ok (.iadd, 1) := by decide +kernel
theorem dL_law_335 : decode code 335 = .ok (.iaload, 1) := by decide +kernel
theorem dL_law_336 : decode code 336 = .ok (.aload_n 0, 1) := by decide +kernel
theorem dL_law_337 : decode code 337 = .ok (.iload_n 3, 1) := by decide +kernel
theorem dL_law_338 : decode code 338 = .ok (.iconst 2, 1) := by decide +kernel
theorem dL_law_339 : decode code 339 = .ok (.iadd, 1) := by decide +kernel
theorem dL_law_340 : decode code 340 = .ok (.iaload, 1) := by decide +kernel
theorem dL_law_341 : decode code 341 = .ok (.invokevirtual 59, 3) := by decide +kernel
theorem dL_law_344 : decode code 344 = .ok (.if_icmp .eq 5, 3) := by decide +kernel
theorem dL_law_347 : decode code 347 = .ok (.iconst 0, 1) := by decide +kernel
theorem dL_law_348 : decode code 348 = .ok (.ireturn, 1) := by decide +kernel
theorem dL_law_349 : decode code 349 = .ok (.iinc 3 4, 3) := by decide +kernel
theorem dL_law_352 : decode code 352 = .ok (.goto (-324), 3) := by decide +kernel
theorem dL_law_355 : decode code 355 = .ok (.iconst 1, 1) := by decide +kernel
theorem dL_law_356 : decode code 356 = .ok (.ireturn, 1) := by decide +kernel
end
section
/-! ROWS: ints as iI e; one state S (field -> place -> Int) per object; array rows, field rows, call rows -/
def iI (n : Int) : Int32 := Int32.ofInt n
theorem iI_add (a b : Int) : iI a + iI b = iI (a + b) := (Int32.ofInt_add a b).symm
theorem iI_sub (a b : Int) : iI a - iI b = iI (a - b) := (Int32.ofInt_sub a b).symm
theorem iI_mul (a b : Int) : iI a * iI b = iI (a * b) := (Int32.ofInt_mul a b).symm
theorem iI_toInt {a : Int} (h : -2147483648 ≤ a ∧ a ≤ 2147483647) : (iI a).toInt = a := Int32.toInt_ofInt_of_le (by omega) (by omega)
theorem iI_of (x : Int32) : iI x.toInt = x := Int32.ofInt_toInt x
theorem iI_bd (x : Int32) : -2147483648 ≤ x.toInt ∧ x.toInt ≤ 2147483647 := by
  have h1 := Int32.le_toInt x
  have h2 := Int32.toInt_lt x
  omega
theorem iI_eq {a b : Int} (ha : -2147483648 ≤ a ∧ a ≤ 2147483647) (hb : -2147483648 ≤ b ∧ b ≤ 2147483647) : iI a = iI b ↔ a = b := by
  rw [← Int32.toInt_inj, iI_toInt ha, iI_toInt hb]
theorem iI_lt {a b : Int} (ha : -2147483648 ≤ a ∧ a ≤ 2147483647) (hb : -2147483648 ≤ b ∧ b ≤ 2147483647) : iI a < iI b ↔ a < b := by
  rw [Int32.lt_iff_toInt_lt, iI_toInt ha, iI_toInt hb]
theorem iI_le {a b : Int} (ha : -2147483648 ≤ a ∧ a ≤ 2147483647) (hb : -2147483648 ≤ b ∧ b ≤ 2147483647) : iI a ≤ iI b ↔ a ≤ b := by
  rw [Int32.le_iff_toInt_le, iI_toInt ha, iI_toInt hb]
theorem iI_zero : iI 0 = 0 := rfl
theorem iI_div {a b : Int} (ha : 0 ≤ a ∧ a ≤ 2147483647) (hb : 0 < b ∧ b ≤ 2147483647) : iI a / iI b = iI (a / b) := by
  have e1 := iI_toInt (a := a) (by omega)
  have e2 := iI_toInt (a := b) (by omega)
  have h0 : 0 ≤ a / b := Int.ediv_nonneg ha.1 (by omega)
  have h1 : a / b ≤ a := Int.ediv_le_self b ha.1
  apply Int32.toInt_inj.mp
  rw [Int32.toInt_div_of_ne_right _ _ (fun h => by
    have h2 : (iI b).toInt = (-1 : Int32).toInt := by rw [h]
    rw [e2, show (-1 : Int32).toInt = -1 from rfl] at h2
    omega), e1, e2, Int.tdiv_eq_ediv_of_nonneg ha.1, iI_toInt (by omega)]
theorem iI_rem {a b : Int} (ha : 0 ≤ a ∧ a ≤ 2147483647) (hb : 0 < b ∧ b ≤ 2147483647) : iI a - iI a / iI b * iI b = iI (a % b) := by
  rw [iI_div ha hb, iI_mul, iI_sub, Int.emod_def, Int.mul_comm]
theorem iI_in {k n : Nat} (h : k < n) (hn : n ≤ 2147483647) : vp_in (iI (k : Int)) n := by
  rw [vp_in_iff, iI_toInt (by omega)]
  omega
theorem iI_cl {k : Nat} (h : k ≤ 2147483647) : (iI (k : Int)).toNatClampNeg = k := by
  show (iI (k : Int)).toInt.toNat = k
  rw [iI_toInt (by omega)]
  exact Int.toNat_natCast k
abbrev St_ : Type := Nat → Nat → Int
def up_ (S : St_) (j k : Nat) (v : Int) : St_ := fun j' => if j' = j then (fun k' => if k' = k then v else S j' k') else S j'
theorem up_at (S : St_) (j k : Nat) (v : Int) (j' k' : Nat) : up_ S j k v j' k' = if j' = j ∧ k' = k then v else S j' k' := by
  unfold up_
  by_cases h : j' = j
  · by_cases g : k' = k <;> simp [h, g]
  · simp [h]
theorem up_eq (S : St_) (j k : Nat) (v : Int) : up_ S j k v j k = v := by simp [up_at]
theorem up_ne (S : St_) (j k : Nat) (v : Int) {j' k' : Nat} (h : ¬ (j' = j ∧ k' = k)) : up_ S j k v j' k' = S j' k' := by rw [up_at, if_neg h]
theorem iI_upd (f : Nat → Int) (k : Nat) (v : Int) : upd (fun j => iI (f j)) k (iI v) = fun j => iI (if j = k then v else f j) := by
  funext j
  by_cases h : j = k
  · subst h; rw [pk_us, if_pos rfl]
  · rw [pk_un h, if_neg h]
def rm_ (k : Nat) : Room := { frames := k, cells := 0, slots := 0, locals := 30 * k }
def In_ (D : va_G) (A : Nat → Prop) (H0 H : Heap) (locs : List Loc) (ws : va_W) : Prop := va_P D ecl_ ws H ∧ va_D A ws ∧ va_S A H0 H locs
def Cx_ (p : Program) (s : State) (m : MethodId) (args : Array Value) (c : Code) (cc : ByteArray) (nL : Nat) (own : String) (D : va_G) (tys : List (ClassId × FieldType)) (A : Nat → Prop) : Prop :=
  (p.tables.exec = Jvm.exec ∧ c.code = cc ∧ c.maxLocals = nL ∧ s.vm.findClass own = some m.cls ∧ ∀ w ∈ tb_, w.before args s = true) ∧ va_K D ecl_ tys s ∧ ∀ q, s.heap.size ≤ q → A q
/-- a method's contract: the world w S comes in, w S' goes out -/
def MI_ (l : Launch) (D : va_G) (tys : List (ClassId × FieldType)) (w : St_ → va_W) (y : MethodName) (b : ByteArray) (n : Nat) (r : Option FieldType) (lev : Nat) (S : St_) (av : List Value) (post : Int32 → St_ → Prop) : Prop :=
  ∀ sz : Nat, Met l y (.code y b n r :: tb_) (rm_ lev) (va_Pc av (fun U => U.heap.size = sz ∧ va_P D ecl_ (w S) U.heap ∧ va_K D ecl_ tys U ∧ va_D (fun _ => True) (w S))) (va_Qi post (fun S' t => va_P D ecl_ (w S') t.heap ∧ va_K D ecl_ tys t ∧ va_D (va_A (w S) sz) (w S')) (va_A (w S) sz)) 0 0 (va_A (w S) sz)
def MV_ (l : Launch) (D : va_G) (tys : List (ClassId × FieldType)) (w : St_ → va_W) (y : MethodName) (b : ByteArray) (n : Nat) (lev : Nat) (S : St_) (av : List Value) (post : St_ → Prop) : Prop :=
  ∀ sz : Nat, Met l y (.code y b n none :: tb_) (rm_ lev) (va_Pc av (fun U => U.heap.size = sz ∧ va_P D ecl_ (w S) U.heap ∧ va_K D ecl_ tys U ∧ va_D (fun _ => True) (w S))) (va_Qv post (fun S' t => va_P D ecl_ (w S') t.heap ∧ va_K D ecl_ tys t ∧ va_D (va_A (w S) sz) (w S')) (va_A (w S) sz)) 0 0 (va_A (w S) sz)
section ER
variable {p : Program} {l : Launch} {e : Env} {R : Room} {s : State} {m : MethodId} {args : Array Value} {below : List Frame} {meth : Method} {c : Code} {H H0 : Heap} {locs : List Loc} {cells slots : Nat} {Q : State → Prop}
variable {cc : ByteArray} {pc : Nat} {ls : Array Slot} {rest : List Value} {nL : Nat} {own : String} {D : va_G} {tys : List (ClassId × FieldType)} {A : Nat → Prop} {lv : List (Nat × Value)}
/-! constants, locals -/
theorem rr_iconst (hC : Cx_ p s m args c cc nL own D tys A) {n v : Int} (hdg : decode cc pc = .ok (.iconst n, 1)) (hv : n = v) (k : W p l e R s m args below meth c H locs cells slots Q (F0 m (pc + 1) ls (.int (iI v) :: rest))) : W p l e R s m args below meth c H locs cells slots Q (F0 m pc ls rest) := lv_iconst hC.1.1 hC.1.2.1 hdg (by rw [hv]; rfl) k
theorem rr_bipush (hC : Cx_ p s m args c cc nL own D tys A) {n v : Int} (hdg : decode cc pc = .ok (.bipush n, 2)) (hv : (Int8.ofInt n).toInt32 = iI v) (k : W p l e R s m args below meth c H locs cells slots Q (F0 m (pc + 2) ls (.int (iI v) :: rest))) : W p l e R s m args below meth c H locs cells slots Q (F0 m pc ls rest) := lv_bipush hC.1.1 hC.1.2.1 hdg hv k
theorem rr_iload_n (hC : Cx_ p s m args c cc nL own D tys A) {n : Fin 4} {i : Nat} {x : Int} (hdg : decode cc pc = .ok (.iload_n n, 1)) (hl : lv_has ls nL lv) (hi : (n : Nat) = i) (k : Nat) (hk : lv[k]? = some (i, .int (iI x))) (kk : W p l e R s m args below meth c H locs cells slots Q (F0 m (pc + 1) ls (.int (iI x) :: rest))) : W p l e R s m args below meth c H locs cells slots Q (F0 m pc ls rest) := lv_iload_n hC.1.1 hC.1.2.1 hdg hi (lv_at hl k hk) kk
theorem rr_iload (hC : Cx_ p s m args c cc nL own D tys A) {i : Nat} {x : Int} (hdg : decode cc pc = .ok (.iload i, 2)) (hl : lv_has ls nL lv) (k : Nat) (hk : lv[k]? = some (i, .int (iI x))) (kk : W p l e R s m args below meth c H locs cells slots Q (F0 m (pc + 2) ls (.int (iI x) :: rest))) : W p l e R s m args below meth c H locs cells slots Q (F0 m pc ls rest) := lv_iload hC.1.1 hC.1.2.1 hdg (lv_at hl k hk) kk
theorem rr_aload_n (hC : Cx_ p s m args c cc nL own D tys A) {n : Fin 4} {i : Nat} {x : Nat} (hdg : decode cc pc = .ok (.aload_n n, 1)) (hl : lv_has ls nL lv) (hi : (n : Nat) = i) (k : Nat) (hk : lv[k]? = some (i, .ref x)) (kk : W p l e R s m args below meth c H locs cells slots Q (F0 m (pc + 1) ls (.ref x :: rest))) : W p l e R s m args below meth c H locs cells slots Q (F0 m pc ls rest) := lv_aload_n hC.1.1 hC.1.2.1 hdg hi (lv_at hl k hk) kk
theorem rr_istore_n (hC : Cx_ p s m args c cc nL own D tys A) {n : Fin 4} {i : Nat} {x : Int} {lv' : List (Nat × Value)} (hdg : decode cc pc = .ok (.istore_n n, 1)) (hl : lv_has ls nL lv) (hi : (n : Nat) = i) (hn : i < nL) (hv : (i, Value.int (iI x)) :: lv.filter (fun q => !(q.1 == i) && !(q.1 + 1 == i && q.2.category == 2)) = lv') (kk : ∀ ls' : Array Slot, lv_has ls' nL lv' → W p l e R s m args below meth c H locs cells slots Q (F0 m (pc + 1) ls' rest)) : W p l e R s m args below meth c H locs cells slots Q (F0 m pc ls (.int (iI x) :: rest)) := lv_istore_n hC.1.1 hC.1.2.1 hdg hi hl hn hv kk
theorem rr_istore (hC : Cx_ p s m args c cc nL own D tys A) {i : Nat} {x : Int} {lv' : List (Nat × Value)} (hdg : decode cc pc = .ok (.istore i, 2)) (hl : lv_has ls nL lv) (hn : i < nL) (hv : (i, Value.int (iI x)) :: lv.filter (fun q => !(q.1 == i) && !(q.1 + 1 == i && q.2.category == 2)) = lv') (kk : ∀ ls' : Array Slot, lv_has ls' nL lv' → W p l e R s m args below meth c H locs cells slots Q (F0 m (pc + 2) ls' rest)) : W p l e R s m args below meth c H locs cells slots Q (F0 m pc ls (.int (iI x) :: rest)) := lv_istore hC.1.1 hC.1.2.1 hdg hl hn hv kk
theorem rr_iinc (hC : Cx_ p s m args c cc nL own D tys A) {i : Nat} {n x v : Int} {lv' : List (Nat × Value)} (hdg : decode cc pc = .ok (.iinc i n, 3)) (hl : lv_has ls nL lv) (k : Nat) (hk : lv[k]? = some (i, .int (iI x))) (he : x + n = v) (hn : i < nL) (hv : (i, Value.int (iI v)) :: lv.filter (fun q => !(q.1 == i) && !(q.1 + 1 == i && q.2.category == 2)) = lv') (kk : ∀ ls' : Array Slot, lv_has ls' nL lv' → W p l e R s m args below meth c H locs cells slots Q (F0 m (pc + 3) ls' rest)) : W p l e R s m args below meth c H locs cells slots Q (F0 m pc ls rest) := lv_iinc hC.1.1 hC.1.2.1 hdg hl hk (by rw [← he]; exact iI_add x n) hn hv kk
/-! arithmetic -/
theorem rr_iadd (hC : Cx_ p s m args c cc nL own D tys A) {x y : Int} (hdg : decode cc pc = .ok (.iadd, 1)) (k : W p l e R s m args below meth c H locs cells slots Q (F0 m (pc + 1) ls (.int (iI (x + y)) :: rest))) : W p l e R s m args below meth c H locs cells slots Q (F0 m pc ls (.int (iI y) :: .int (iI x) :: rest)) := lv_iadd hC.1.1 hC.1.2.1 hdg (by rw [iI_add]; exact k)
theorem rr_isub (hC : Cx_ p s m args c cc nL own D tys A) {x y : Int} (hdg : decode cc pc = .ok (.isub, 1)) (k : W p l e R s m args below meth c H locs cells slots Q (F0 m (pc + 1) ls (.int (iI (x - y)) :: rest))) : W p l e R s m args below meth c H locs cells slots Q (F0 m pc ls (.int (iI y) :: .int (iI x) :: rest)) := lv_isub hC.1.1 hC.1.2.1 hdg (by rw [iI_sub]; exact k)
theorem rr_imul (hC : Cx_ p s m args c cc nL own D tys A) {x y : Int} (hdg : decode cc pc = .ok (.imul, 1)) (k : W p l e R s m args below meth c H locs cells slots Q (F0 m (pc + 1) ls (.int (iI (x * y)) :: rest))) : W p l e R s m args below meth c H locs cells slots Q (F0 m pc ls (.int (iI y) :: .int (iI x) :: rest)) := lv_imul hC.1.1 hC.1.2.1 hdg (by rw [iI_mul]; exact k)
theorem iI_ne0 {y : Int} (hy : 0 < y ∧ y ≤ 2147483647) : ¬ iI y = 0 := fun h => by
  have := (iI_eq (a := y) (b := 0) (by omega) (by omega)).mp h
  omega
theorem rr_idiv (hC : Cx_ p s m args c cc nL own D tys A) {x y : Int} (hdg : decode cc pc = .ok (.idiv, 1)) (hx : 0 ≤ x ∧ x ≤ 2147483647) (hy : 0 < y ∧ y ≤ 2147483647) (k : W p l e R s m args below meth c H locs cells slots Q (F0 m (pc + 1) ls (.int (iI (x / y)) :: rest))) : W p l e R s m args below meth c H locs cells slots Q (F0 m pc ls (.int (iI y) :: .int (iI x) :: rest)) := lv_idiv hC.1.1 hC.1.2.1 hdg (iI_ne0 hy) (by rw [iI_div hx hy]; exact k)
theorem rr_irem (hC : Cx_ p s m args c cc nL own D tys A) {x y : Int} (hdg : decode cc pc = .ok (.irem, 1)) (hx : 0 ≤ x ∧ x ≤ 2147483647) (hy : 0 < y ∧ y ≤ 2147483647) (k : W p l e R s m args below meth c H locs cells slots Q (F0 m (pc + 1) ls (.int (iI (x % y)) :: rest))) : W p l e R s m args below meth c H locs cells slots Q (F0 m pc ls (.int (iI y) :: .int (iI x) :: rest)) := lv_irem hC.1.1 hC.1.2.1 hdg (iI_ne0 hy) (by rw [iI_rem hx hy]; exact k)
/-- the top's expression by an equal one -/
theorem rr_top {x y : Int} (h : x = y) (k : W p l e R s m args below meth c H locs cells slots Q (F0 m pc ls (.int (iI y) :: rest))) : W p l e R s m args below meth c H locs cells slots Q (F0 m pc ls (.int (iI x) :: rest)) := h ▸ k
theorem rr_dup (hC : Cx_ p s m args c cc nL own D tys A) {x : Nat} (hdg : decode cc pc = .ok (.dup, 1)) (k : W p l e R s m args below meth c H locs cells slots Q (F0 m (pc + 1) ls (.ref x :: .ref x :: rest))) : W p l e R s m args below meth c H locs cells slots Q (F0 m pc ls (.ref x :: rest)) := lv_dup hC.1.1 hC.1.2.1 hdg rfl k
theorem rr_dup2 (hC : Cx_ p s m args c cc nL own D tys A) {i : Int} {x : Nat} (hdg : decode cc pc = .ok (.dup2, 1)) (k : W p l e R s m args below meth c H locs cells slots Q (F0 m (pc + 1) ls (.int (iI i) :: .ref x :: .int (iI i) :: .ref x :: rest))) : W p l e R s m args below meth c H locs cells slots Q (F0 m pc ls (.int (iI i) :: .ref x :: rest)) := lv_dup2_11 hC.1.1 hC.1.2.1 hdg rfl rfl k
theorem rr_pop (hC : Cx_ p s m args c cc nL own D tys A) {x : Int32} (hdg : decode cc pc = .ok (.pop, 1)) (k : W p l e R s m args below meth c H locs cells slots Q (F0 m (pc + 1) ls rest)) : W p l e R s m args below meth c H locs cells slots Q (F0 m pc ls (.int x :: rest)) := lv_pop hC.1.1 hC.1.2.1 hdg rfl k
theorem rr_goto (hC : Cx_ p s m args c cc nL own D tys A) {off : Int} (tgt : Nat) (hdg : decode cc pc = .ok (.goto off, 3)) (ht : (pc : Int) + off = (tgt : Int)) (k : W p l e R s m args below meth c H locs cells slots Q (F0 m tgt ls rest)) : W p l e R s m args below meth c H locs cells slots Q (F0 m pc ls rest) := lv_goto hC.1.1 hC.1.2.1 hdg ht k
/-! branches -/
theorem rr_icmp_eq (hC : Cx_ p s m args c cc nL own D tys A) {x y : Int} {off : Int} (tgt : Nat) (hdg : decode cc pc = .ok (.if_icmp .eq off, 3)) (ht : (pc : Int) + off = (tgt : Int)) (hx : -2147483648 ≤ x ∧ x ≤ 2147483647) (hy : -2147483648 ≤ y ∧ y ≤ 2147483647) (kt : x = y → W p l e R s m args below meth c H locs cells slots Q (F0 m tgt ls rest)) (kf : ¬ x = y → W p l e R s m args below meth c H locs cells slots Q (F0 m (pc + 3) ls rest)) : W p l e R s m args below meth c H locs cells slots Q (F0 m pc ls (.int (iI y) :: .int (iI x) :: rest)) := lv_icmp_eq hC.1.1 hC.1.2.1 hdg ht (fun h => kt ((iI_eq hx hy).mp h)) (fun h => kf (fun z => h ((iI_eq hx hy).mpr z)))
theorem rr_if_eq (hC : Cx_ p s m args c cc nL own D tys A) {x : Int} {off : Int} (tgt : Nat) (hdg : decode cc pc = .ok (.ifCond .eq off, 3)) (ht : (pc : Int) + off = (tgt : Int)) (hx : -2147483648 ≤ x ∧ x ≤ 2147483647) (kt : x = 0 → W p l e R s m args below meth c H locs cells slots Q (F0 m tgt ls rest)) (kf : ¬ x = 0 → W p l e R s m args below meth c H locs cells slots Q (F0 m (pc + 3) ls rest)) : W p l e R s m args below meth c H locs cells slots Q (F0 m pc ls (.int (iI x) :: rest)) := lv_if_eq hC.1.1 hC.1.2.1 hdg ht (fun h => kt ((iI_eq (b := 0) hx (by omega)).mp h)) (fun h => kf (fun z => h ((iI_eq (b := 0) hx (by omega)).mpr z)))
theorem rr_icmp_ne (hC : Cx_ p s m args c cc nL own D tys A) {x y : Int} {off : Int} (tgt : Nat) (hdg : decode cc pc = .ok (.if_icmp .ne off, 3)) (ht : (pc : Int) + off = (tgt : Int)) (hx : -2147483648 ≤ x ∧ x ≤ 2147483647) (hy : -2147483648 ≤ y ∧ y ≤ 2147483647) (kt : ¬ x = y → W p l e R s m args below meth c H locs cells slots Q (F0 m tgt ls rest)) (kf : x = y → W p l e R s m args below meth c H locs cells slots Q (F0 m (pc + 3) ls rest)) : W p l e R s m args below meth c H locs cells slots Q (F0 m pc ls (.int (iI y) :: .int (iI x) :: rest)) := lv_icmp_ne hC.1.1 hC.1.2.1 hdg ht (fun h => kt (fun z => h ((iI_eq hx hy).mpr z))) (fun h => kf ((iI_eq hx hy).mp h))
theorem rr_if_ne (hC : Cx_ p s m args c cc nL own D tys A) {x : Int} {off : Int} (tgt : Nat) (hdg : decode cc pc = .ok (.ifCond .ne off, 3)) (ht : (pc : Int) + off = (tgt : Int)) (hx : -2147483648 ≤ x ∧ x ≤ 2147483647) (kt : ¬ x = 0 → W p l e R s m args below meth c H locs cells slots Q (F0 m tgt ls rest)) (kf : x = 0 → W p l e R s m args below meth c H locs cells slots Q (F0 m (pc + 3) ls rest)) : W p l e R s m args below meth c H locs cells slots Q (F0 m pc ls (.int (iI x) :: rest)) := lv_if_ne hC.1.1 hC.1.2.1 hdg ht (fun h => kt (fun z => h ((iI_eq (b := 0) hx (by omega)).mpr z))) (fun h => kf ((iI_eq (b := 0) hx (by omega)).mp h))
theorem rr_icmp_lt (hC : Cx_ p s m args c cc nL own D tys A) {x y : Int} {off : Int} (tgt : Nat) (hdg : decode cc pc = .ok (.if_icmp .lt off, 3)) (ht : (pc : Int) + off = (tgt : Int)) (hx : -2147483648 ≤ x ∧ x ≤ 2147483647) (hy : -2147483648 ≤ y ∧ y ≤ 2147483647) (kt : x < y → W p l e R s m args below meth c H locs cells slots Q (F0 m tgt ls rest)) (kf : y ≤ x → W p l e R s m args below meth c H locs cells slots Q (F0 m (pc + 3) ls rest)) : W p l e R s m args below meth c H locs cells slots Q (F0 m pc ls (.int (iI y) :: .int (iI x) :: rest)) := lv_icmp_lt hC.1.1 hC.1.2.1 hdg ht (fun h => kt ((iI_lt hx hy).mp h)) (fun h => kf (by rcases Int.lt_or_le x y with z | z <;> first | exact z | exact absurd ((iI_lt hx hy).mpr z) h))
theorem rr_if_lt (hC : Cx_ p s m args c cc nL own D tys A) {x : Int} {off : Int} (tgt : Nat) (hdg : decode cc pc = .ok (.ifCond .lt off, 3)) (ht : (pc : Int) + off = (tgt : Int)) (hx : -2147483648 ≤ x ∧ x ≤ 2147483647) (kt : x < 0 → W p l e R s m args below meth c H locs cells slots Q (F0 m tgt ls rest)) (kf : 0 ≤ x → W p l e R s m args below meth c H locs cells slots Q (F0 m (pc + 3) ls rest)) : W p l e R s m args below meth c H locs cells slots Q (F0 m pc ls (.int (iI x) :: rest)) := lv_if_lt hC.1.1 hC.1.2.1 hdg ht (fun h => kt ((iI_lt (b := 0) hx (by omega)).mp h)) (fun h => kf (by rcases Int.lt_or_le x 0 with z | z <;> first | exact z | exact absurd ((iI_lt (b := 0) hx (by omega)).mpr z) h))
theorem rr_icmp_ge (hC : Cx_ p s m args c cc nL own D tys A) {x y : Int} {off : Int} (tgt : Nat) (hdg : decode cc pc = .ok (.if_icmp .ge off, 3)) (ht : (pc : Int) + off = (tgt : Int)) (hx : -2147483648 ≤ x ∧ x ≤ 2147483647) (hy : -2147483648 ≤ y ∧ y ≤ 2147483647) (kt : y ≤ x → W p l e R s m args below meth c H locs cells slots Q (F0 m tgt ls rest)) (kf : x < y → W p l e R s m args below meth c H locs cells slots Q (F0 m (pc + 3) ls rest)) : W p l e R s m args below meth c H locs cells slots Q (F0 m pc ls (.int (iI y) :: .int (iI x) :: rest)) := lv_icmp_ge hC.1.1 hC.1.2.1 hdg ht (fun h => kt ((iI_le hy hx).mp h)) (fun h => kf (by rcases Int.lt_or_le x y with z | z <;> first | exact z | exact absurd ((iI_le hy hx).mpr z) h))
theorem rr_if_ge (hC : Cx_ p s m args c cc nL own D tys A) {x : Int} {off : Int} (tgt : Nat) (hdg : decode cc pc = .ok (.ifCond .ge off, 3)) (ht : (pc : Int) + off = (tgt : Int)) (hx : -2147483648 ≤ x ∧ x ≤ 2147483647) (kt : 0 ≤ x → W p l e R s m args below meth c H locs cells slots Q (F0 m tgt ls rest)) (kf : x < 0 → W p l e R s m args below meth c H locs cells slots Q (F0 m (pc + 3) ls rest)) : W p l e R s m args below meth c H locs cells slots Q (F0 m pc ls (.int (iI x) :: rest)) := lv_if_ge hC.1.1 hC.1.2.1 hdg ht (fun h => kt ((iI_le (a := 0) (by omega) hx).mp h)) (fun h => kf (by rcases Int.lt_or_le x 0 with z | z <;> first | exact z | exact absurd ((iI_le (a := 0) (by omega) hx).mpr z) h))
theorem rr_icmp_gt (hC : Cx_ p s m args c cc nL own D tys A) {x y : Int} {off : Int} (tgt : Nat) (hdg : decode cc pc = .ok (.if_icmp .gt off, 3)) (ht : (pc : Int) + off = (tgt : Int)) (hx : -2147483648 ≤ x ∧ x ≤ 2147483647) (hy : -2147483648 ≤ y ∧ y ≤ 2147483647) (kt : y < x → W p l e R s m args below meth c H locs cells slots Q (F0 m tgt ls rest)) (kf : x ≤ y → W p l e R s m args below meth c H locs cells slots Q (F0 m (pc + 3) ls rest)) : W p l e R s m args below meth c H locs cells slots Q (F0 m pc ls (.int (iI y) :: .int (iI x) :: rest)) := lv_icmp_gt hC.1.1 hC.1.2.1 hdg ht (fun h => kt ((iI_lt hy hx).mp h)) (fun h => kf (by rcases Int.lt_or_le y x with z | z <;> first | exact z | exact absurd ((iI_lt hy hx).mpr z) h))
theorem rr_if_gt (hC : Cx_ p s m args c cc nL own D tys A) {x : Int} {off : Int} (tgt : Nat) (hdg : decode cc pc = .ok (.ifCond .gt off, 3)) (ht : (pc : Int) + off = (tgt : Int)) (hx : -2147483648 ≤ x ∧ x ≤ 2147483647) (kt : 0 < x → W p l e R s m args below meth c H locs cells slots Q (F0 m tgt ls rest)) (kf : x ≤ 0 → W p l e R s m args below meth c H locs cells slots Q (F0 m (pc + 3) ls rest)) : W p l e R s m args below meth c H locs cells slots Q (F0 m pc ls (.int (iI x) :: rest)) := lv_if_gt hC.1.1 hC.1.2.1 hdg ht (fun h => kt ((iI_lt (a := 0) (by omega) hx).mp h)) (fun h => kf (by rcases Int.lt_or_le 0 x with z | z <;> first | exact z | exact absurd ((iI_lt (a := 0) (by omega) hx).mpr z) h))
theorem rr_icmp_le (hC : Cx_ p s m args c cc nL own D tys A) {x y : Int} {off : Int} (tgt : Nat) (hdg : decode cc pc = .ok (.if_icmp .le off, 3)) (ht : (pc : Int) + off = (tgt : Int)) (hx : -2147483648 ≤ x ∧ x ≤ 2147483647) (hy : -2147483648 ≤ y ∧ y ≤ 2147483647) (kt : x ≤ y → W p l e R s m args below meth c H locs cells slots Q (F0 m tgt ls rest)) (kf : y < x → W p l e R s m args below meth c H locs cells slots Q (F0 m (pc + 3) ls rest)) : W p l e R s m args below meth c H locs cells slots Q (F0 m pc ls (.int (iI y) :: .int (iI x) :: rest)) := lv_icmp_le hC.1.1 hC.1.2.1 hdg ht (fun h => kt ((iI_le hx hy).mp h)) (fun h => kf (by rcases Int.lt_or_le y x with z | z <;> first | exact z | exact absurd ((iI_le hx hy).mpr z) h))
theorem rr_if_le (hC : Cx_ p s m args c cc nL own D tys A) {x : Int} {off : Int} (tgt : Nat) (hdg : decode cc pc = .ok (.ifCond .le off, 3)) (ht : (pc : Int) + off = (tgt : Int)) (hx : -2147483648 ≤ x ∧ x ≤ 2147483647) (kt : x ≤ 0 → W p l e R s m args below meth c H locs cells slots Q (F0 m tgt ls rest)) (kf : 0 < x → W p l e R s m args below meth c H locs cells slots Q (F0 m (pc + 3) ls rest)) : W p l e R s m args below meth c H locs cells slots Q (F0 m pc ls (.int (iI x) :: rest)) := lv_if_le hC.1.1 hC.1.2.1 hdg ht (fun h => kt ((iI_le (b := 0) hx (by omega)).mp h)) (fun h => kf (by rcases Int.lt_or_le 0 x with z | z <;> first | exact z | exact absurd ((iI_le (b := 0) hx (by omega)).mpr z) h))
end ER
end
section
/-! THE TWO WORLDS: SemiPartEdf (A) and SemiPartEdfModel (B); rows over them -/
abbrev ai_ (cA : ClassId) (n : Nat) (f : Nat → Int) : va_E := .inl (cA, n, .inl (fun k => iI (f k)))
def oA_f (r : Nat → Nat) (S : St_) : List Value := [.int (iI (S 0 0)), .int (iI (S 1 0)), .ref (r 2), .ref (r 3), .ref (r 4), .ref (r 5), .ref (r 6), .int (iI (S 7 0)), .int (iI (S 8 0)), .ref (r 9), .ref (r 10), .ref (r 11), .ref (r 12), .ref (r 13)]
def wA_ (h : Nat) (r : Nat → Nat) (cZ cI : ClassId) (S : St_) : va_W :=
  [(h, .inr (0, oA_f r S)), (r 2, ai_ cZ 13 (S 2)), (r 3, ai_ cI 13 (S 3)), (r 4, ai_ cI 26 (S 4)), (r 5, ai_ cI 26 (S 5)), (r 6, ai_ cI 26 (S 6)), (r 9, ai_ cI 64 (S 9)), (r 10, ai_ cI 64 (S 10)), (r 11, ai_ cI 26 (S 11)), (r 12, ai_ cI 26 (S 12)), (r 13, ai_ cI 26 (S 13))]
def oB_f (r : Nat → Nat) (S : St_) : List Value := [.int (iI (S 0 0)), .ref (r 1), .ref (r 2), .ref (r 3), .ref (r 4), .ref (r 5), .ref (r 6), .ref (r 7), .ref (r 8), .ref (r 9), .ref (r 10), .ref (r 11), .ref (r 12), .ref (r 13)]
def wB_ (h : Nat) (r : Nat → Nat) (cI : ClassId) (S : St_) : va_W :=
  [(h, .inr (1, oB_f r S)), (r 1, ai_ cI 12 (S 1)), (r 2, ai_ cI 12 (S 2)), (r 3, ai_ cI 12 (S 3)), (r 4, ai_ cI 12 (S 4)), (r 5, ai_ cI 12 (S 5)), (r 6, ai_ cI 12 (S 6)), (r 7, ai_ cI 13 (S 7)), (r 8, ai_ cI 13 (S 8)), (r 9, ai_ cI 13 (S 9)), (r 10, ai_ cI 13 (S 10)), (r 11, ai_ cI 13 (S 11)), (r 12, ai_ cI 60 (S 12)), (r 13, ai_ cI 13 (S 13))]
section EW
variable {p : Program} {l : Launch} {e : Env} {R : Room} {s : State} {m : MethodId} {args : Array Value} {below : List Frame} {meth : Method} {c : Code} {H H0 : Heap} {locs : List Loc} {cells slots : Nat} {Q : State → Prop}
variable {cc : ByteArray} {pc : Nat} {ls : Array Slot} {rest : List Value} {nL : Nat} {own : String} {D : va_G} {tys : List (ClassId × FieldType)} {A : Nat → Prop} {lv : List (Nat × Value)}
variable {h : Nat} {r : Nat → Nat} {cZ cI : ClassId} {S : St_}
theorem rA_get (hC : Cx_ p s m args c cc nL nA_ D tys A) (hI : In_ D A H0 H locs (wA_ h r cZ cI S)) (k : Nat) {idx : Nat} {v : Value} (hk : k < 14) (hlink : Cond.fieldLink nA_ idx (fA_ k).1 (fA_ k).2.1 (fA_ k).2.2.1 ∈ tb_) (hv : (oA_f r S)[k]? = some v) (hdg : decode cc pc = .ok (.getfield idx, 3)) (kk : W p l e R s m args below meth c H locs cells slots Q (F0 m (pc + 3) ls (v :: rest))) : W p l e R s m args below meth c H locs cells slots Q (F0 m pc ls (.ref h :: rest)) :=
  va_get hC.1.1 hC.1.2.1 hC.1.2.2.2.2 iA_in hC.1.2.2.2.1 hC.2.1 hI.1 0 (ci := 0) rfl rfl k hk (hC.1.2.2.2.2 _ hlink) (fun _ h9 => h9) hv hdg kk
theorem rB_get (hC : Cx_ p s m args c cc nL nB_ D tys A) (hI : In_ D A H0 H locs (wB_ h r cI S)) (k : Nat) {idx : Nat} {v : Value} (hk : k < 14) (hlink : Cond.fieldLink nB_ idx (fB_ k).1 (fB_ k).2.1 (fB_ k).2.2.1 ∈ tb_) (hv : (oB_f r S)[k]? = some v) (hdg : decode cc pc = .ok (.getfield idx, 3)) (kk : W p l e R s m args below meth c H locs cells slots Q (F0 m (pc + 3) ls (v :: rest))) : W p l e R s m args below meth c H locs cells slots Q (F0 m pc ls (.ref h :: rest)) :=
  va_get hC.1.1 hC.1.2.1 hC.1.2.2.2.2 iB_in hC.1.2.2.2.1 hC.2.1 hI.1 0 (ci := 1) rfl rfl k hk (hC.1.2.2.2.2 _ hlink) (fun _ h9 => h9) hv hdg kk
/-- an int field of A that isn't final: tasks, plannedCore, stretches -/
theorem rA_put (hC : Cx_ p s m args c cc nL nA_ D tys A) (hI : In_ D A H0 H locs (wA_ h r cZ cI S)) (k : Nat) {idx : Nat} {v : Int} (hk : k < 14) (hlink : Cond.fieldLink nA_ idx (fA_ k).1 (fA_ k).2.1 (fA_ k).2.2.1 ∈ tb_) (hfin : (fA_ k).2.2.2 = false) (hd : parseFieldDescriptor (fA_ k).2.2.1 = some .int) (hset : (wA_ h r cZ cI S).set 0 (h, .inr (0, (oA_f r S).set k (.int (iI v)))) = wA_ h r cZ cI (up_ S k 0 v)) (hdg : decode cc pc = .ok (.putfield idx, 3)) (kk : ∀ (H1 : Heap) (locs1 : List Loc), In_ D A H0 H1 locs1 (wA_ h r cZ cI (up_ S k 0 v)) → W p l e R s m args below meth c H1 locs1 cells slots Q (F0 m (pc + 3) ls rest)) : W p l e R s m args below meth c H locs cells slots Q (F0 m pc ls (.int (iI v) :: .ref h :: rest)) :=
  va_put (ty := .int) hC.1.1 hC.1.2.1 hC.1.2.2.2.2 iA_in tA_ tA_ok nA_ne hC.1.2.2.2.1 hC.2.1 hI.1 hI.2.1 hI.2.2 0 (ci := 0) rfl rfl k hk (hC.1.2.2.2.2 _ hlink) (fun _ h9 => h9) hfin hd rfl rfl hk hdg (fun H1 locs1 h1 h2 h3 => kk H1 locs1 ⟨hset ▸ h1, hset ▸ h2, h3⟩)
/-- arrays of ints: read -/
theorem rr_iald (hC : Cx_ p s m args c cc nL own D tys A) {ws : va_W} (hI : In_ D A H0 H locs ws) (q0 t0 : Nat) {a : Nat} {cA : ClassId} {n k : Nat} {f : Nat → Int} (ha : ws[q0]? = some (a, ai_ cA n f)) (ht : tys[t0]? = some (cA, .int)) (hn : n ≤ 64) (hk : k < n) (hdg : decode cc pc = .ok (.iaload, 1)) (kk : W p l e R s m args below meth c H locs cells slots Q (F0 m (pc + 1) ls (.int (iI (f k)) :: rest))) : W p l e R s m args below meth c H locs cells slots Q (F0 m pc ls (.int (iI (k : Int)) :: .ref a :: rest)) :=
  va_iald hC.1.1 hC.1.2.1 hC.2.1 hI.1 q0 t0 ha ht (iI_in hk (by omega)) hdg (by rw [iI_cl (by omega)]; exact kk)
theorem rr_zald (hC : Cx_ p s m args c cc nL own D tys A) {ws : va_W} (hI : In_ D A H0 H locs ws) (q0 t0 : Nat) {a : Nat} {cA : ClassId} {n k : Nat} {f : Nat → Int} (ha : ws[q0]? = some (a, ai_ cA n f)) (ht : tys[t0]? = some (cA, .boolean)) (hn : n ≤ 64) (hk : k < n) (hdg : decode cc pc = .ok (.baload, 1)) (kk : W p l e R s m args below meth c H locs cells slots Q (F0 m (pc + 1) ls (.int (iI (f k)) :: rest))) : W p l e R s m args below meth c H locs cells slots Q (F0 m pc ls (.int (iI (k : Int)) :: .ref a :: rest)) :=
  va_zald hC.1.1 hC.1.2.1 hC.2.1 hI.1 q0 t0 ha ht (iI_in hk (by omega)) hdg (by rw [iI_cl (by omega)]; exact kk)
/-- arrays of ints: write -/
theorem rr_iast (hC : Cx_ p s m args c cc nL own D tys A) (w : St_ → va_W) (hI : In_ D A H0 H locs (w S)) (j q0 t0 : Nat) {a : Nat} {cA : ClassId} {n k : Nat} {v : Int} (ha : (w S)[q0]? = some (a, ai_ cA n (S j))) (ht : tys[t0]? = some (cA, .int)) (hn : n ≤ 64) (hk : k < n) (hset : (w S).set q0 (a, ai_ cA n (up_ S j k v j)) = w (up_ S j k v)) (hdg : decode cc pc = .ok (.iastore, 1)) (kk : ∀ (H1 : Heap) (locs1 : List Loc), In_ D A H0 H1 locs1 (w (up_ S j k v)) → W p l e R s m args below meth c H1 locs1 cells slots Q (F0 m (pc + 1) ls rest)) : W p l e R s m args below meth c H locs cells slots Q (F0 m pc ls (.int (iI v) :: .int (iI (k : Int)) :: .ref a :: rest)) := by
  have he : upd (fun i => iI (S j i)) k (iI v) = fun i => iI (up_ S j k v j i) := by
    rw [iI_upd]; funext i; congr 1; rw [up_at]; by_cases g : i = k <;> simp [g]
  refine va_iast hC.1.1 hC.1.2.1 hC.2.1 hI.1 hI.2.1 hI.2.2 q0 t0 ha ht (iI_in hk (by omega)) hdg (fun H1 locs1 h1 h2 h3 => kk H1 locs1 ?_)
  rw [iI_cl (by omega), he] at h1 h2
  exact ⟨hset ▸ h1, hset ▸ h2, h3⟩
theorem rr_zast (hC : Cx_ p s m args c cc nL own D tys A) (w : St_ → va_W) (hI : In_ D A H0 H locs (w S)) (j q0 t0 : Nat) {a : Nat} {cA : ClassId} {n k : Nat} {v : Int} (ha : (w S)[q0]? = some (a, ai_ cA n (S j))) (ht : tys[t0]? = some (cA, .boolean)) (hn : n ≤ 64) (hk : k < n) (hb : vp_nar .boolean (iI v) = iI v) (hset : (w S).set q0 (a, ai_ cA n (up_ S j k v j)) = w (up_ S j k v)) (hdg : decode cc pc = .ok (.bastore, 1)) (kk : ∀ (H1 : Heap) (locs1 : List Loc), In_ D A H0 H1 locs1 (w (up_ S j k v)) → W p l e R s m args below meth c H1 locs1 cells slots Q (F0 m (pc + 1) ls rest)) : W p l e R s m args below meth c H locs cells slots Q (F0 m pc ls (.int (iI v) :: .int (iI (k : Int)) :: .ref a :: rest)) := by
  have he : upd (fun i => iI (S j i)) k (iI v) = fun i => iI (up_ S j k v j i) := by
    rw [iI_upd]; funext i; congr 1; rw [up_at]; by_cases g : i = k <;> simp [g]
  refine va_zast hC.1.1 hC.1.2.1 hC.2.1 hI.1 hI.2.1 hI.2.2 q0 t0 ha ht (iI_in hk (by omega)) hdg (fun H1 locs1 h1 h2 h3 => kk H1 locs1 ?_)
  rw [iI_cl (by omega), hb, he] at h1 h2
  exact ⟨hset ▸ h1, hset ▸ h2, h3⟩
/-- what a method may change -/
theorem e_free {ws : va_W} (hI : In_ D A H0 H locs ws) (hA : ∀ q, H0.size ≤ q → A q) : ∀ q, va_A ws H.size q → A q := by
  intro q hq
  rcases hq with ⟨k, e', hk⟩ | hq
  · exact hI.2.1.2 k _ hk
  · exact hA q (Nat.le_trans hI.2.2.1 hq)
theorem e_blind {av : List Value} {sz : Nat} {ws : va_W} : FrameBlind (va_Pc av (fun U => U.heap.size = sz ∧ va_P D ecl_ ws U.heap ∧ va_K D ecl_ tys U ∧ va_D (fun _ => True) ws)) :=
  fun a U g mk q => by obtain ⟨q0, q1, qP, qK, qD⟩ := q; exact ⟨q0, q1, qP, va_K.moved (u := U) (U := U.calling g mk a) (Vm.Alike.refl U.vm) qK, qD⟩
/-- a call of a method of the same object: its answer, the new state -/
theorem rr_calli {y : MethodName} {b : ByteArray} {n : Nat} {rt : Option FieldType} {lev na idx ci : Nat} {C : String} {As : List Value} {post : Int32 → St_ → Prop} {fs : List Value} {st0 : List Value} (hC : Cx_ p s m args c cc nL own D tys A) (w : St_ → va_W) (hI : In_ D A s.heap H locs (w S)) (hl : lv_has ls nL lv) (hM : MI_ l D tys w y b n rt lev S (.ref h :: As) post) (hG : GoodIn tb_ (wsV own idx C y (.code y b n rt :: tb_))) (hd : y.cls = C ∧ y.cls ≠ "java/lang/invoke/MethodHandle" ∧ y.cls ≠ "java/lang/invoke/VarHandle" ∧ (parseMethodDescriptor y.desc).map (fun d => d.parameters.length) = some na) (hR : (rm_ lev).frames + 1 ≤ R.frames ∧ 8 + (n + 11) + (rm_ lev).locals ≤ R.locals) (he : (w S)[0]? = some (h, .inr (ci, fs))) (hc : ecl_[ci]?.map (fun q => q.1) = some C) (hn : As.length = na) (hst : st0 = As.reverse ++ .ref h :: rest) (hr : (rest.map fun v => v.category).sum ≤ 8) (hdg : decode cc pc = .ok (.invokevirtual idx, 3)) (kk : ∀ (x : Int32) (S' : St_) (H1 : Heap) (locs1 : List Loc), post x S' → In_ D A s.heap H1 locs1 (w S') → W p l e R s m args below meth c H1 locs1 0 0 Q (F0 m (pc + 3) ls (.int x :: rest))) : W p l e R s m args below meth c H locs 0 0 Q (F0 m pc ls st0) := by
  have hF := e_free hI hC.2.2
  obtain ⟨q, hq, hqC⟩ := Option.map_eq_some_iff.mp hc
  refine va_calli (va_runV (As := As) (rest := rest) (b := h) (C := C) hC.1 (hM H.size) (cwV na hC.1.2.2.2.2 hG rfl rfl rfl hd hR) ⟨e_blind, hqC ▸ va_recv hC.2.1 hI.1 hq he, fun U hU hW => ⟨rfl, by rw [hU], by rw [hU]; exact hI.1, va_K.moved hW.alike hC.2.1, hI.2.1.weaken (fun _ _ _ _ => trivial)⟩⟩ rfl hn hl.1 hst (lv_room hr) hdg ⟨Nat.zero_le _, Nat.zero_le _⟩) hI.2.2 (fun q _ g => hF q g) hF (fun x u t H1 locs1 ht hvm hw hB hz hk1 hS1 => ?_)
  obtain ⟨hP1, hK1, hD1⟩ := hB
  rw [ht] at hP1
  exact kk x u H1 locs1 hw ⟨hP1, hD1.weaken (fun k q _ g => hF q.1 g), hS1⟩
theorem rr_callv {y : MethodName} {b : ByteArray} {n : Nat} {lev na idx ci : Nat} {C : String} {As : List Value} {post : St_ → Prop} {fs : List Value} {st0 : List Value} (hC : Cx_ p s m args c cc nL own D tys A) (w : St_ → va_W) (hI : In_ D A s.heap H locs (w S)) (hl : lv_has ls nL lv) (hM : MV_ l D tys w y b n lev S (.ref h :: As) post) (hG : GoodIn tb_ (wsV own idx C y (.code y b n none :: tb_))) (hd : y.cls = C ∧ y.cls ≠ "java/lang/invoke/MethodHandle" ∧ y.cls ≠ "java/lang/invoke/VarHandle" ∧ (parseMethodDescriptor y.desc).map (fun d => d.parameters.length) = some na) (hR : (rm_ lev).frames + 1 ≤ R.frames ∧ 8 + (n + 11) + (rm_ lev).locals ≤ R.locals) (he : (w S)[0]? = some (h, .inr (ci, fs))) (hc : ecl_[ci]?.map (fun q => q.1) = some C) (hn : As.length = na) (hst : st0 = As.reverse ++ .ref h :: rest) (hr : (rest.map fun v => v.category).sum ≤ 8) (hdg : decode cc pc = .ok (.invokevirtual idx, 3)) (kk : ∀ (S' : St_) (H1 : Heap) (locs1 : List Loc), post S' → In_ D A s.heap H1 locs1 (w S') → W p l e R s m args below meth c H1 locs1 0 0 Q (F0 m (pc + 3) ls rest)) : W p l e R s m args below meth c H locs 0 0 Q (F0 m pc ls st0) := by
  have hF := e_free hI hC.2.2
  obtain ⟨q, hq, hqC⟩ := Option.map_eq_some_iff.mp hc
  refine va_callv (va_runV (As := As) (rest := rest) (b := h) (C := C) hC.1 (hM H.size) (cwV na hC.1.2.2.2.2 hG rfl rfl rfl hd hR) ⟨e_blind, hqC ▸ va_recv hC.2.1 hI.1 hq he, fun U hU hW => ⟨rfl, by rw [hU], by rw [hU]; exact hI.1, va_K.moved hW.alike hC.2.1, hI.2.1.weaken (fun _ _ _ _ => trivial)⟩⟩ rfl hn hl.1 hst (lv_room hr) hdg ⟨Nat.zero_le _, Nat.zero_le _⟩) hI.2.2 (fun q _ g => hF q g) hF (fun u t H1 locs1 ht hvm hw hB hz hk1 hS1 => ?_)
  obtain ⟨hP1, hK1, hD1⟩ := hB
  rw [ht] at hP1
  exact kk u H1 locs1 hw ⟨hP1, hD1.weaken (fun k q _ g => hF q.1 g), hS1⟩
/-- the answers -/
abbrev EQ_ (D : va_G) (tys : List (ClassId × FieldType)) (w : St_ → va_W) (S0 : St_) (s : State) (below : List Frame) (args : Array Value) (A : Nat → Prop) (post : Int32 → St_ → Prop) : State → Prop := MQ below (va_Qi post (fun S' t => va_P D ecl_ (w S') t.heap ∧ va_K D ecl_ tys t ∧ va_D A (w S')) A) args s 0 0 A
abbrev EV_ (D : va_G) (tys : List (ClassId × FieldType)) (w : St_ → va_W) (S0 : St_) (s : State) (below : List Frame) (args : Array Value) (A : Nat → Prop) (post : St_ → Prop) : State → Prop := MQ below (va_Qv post (fun S' t => va_P D ecl_ (w S') t.heap ∧ va_K D ecl_ tys t ∧ va_D A (w S')) A) args s 0 0 A
theorem rr_iret {S0 : St_} {post : Int32 → St_ → Prop} {v : Int32} (hC : Cx_ p s m args c cc nL own D tys A) (w : St_ → va_W) (hI : In_ D A s.heap H locs (w S)) (hr : meth.sig.returnType = some .int) (hlk : meth.locks = false) (hdg : decode cc pc = .ok (.ireturn, 1)) (hp : post v S) : W p l e R s m args below meth c H locs 0 0 (EQ_ D tys w S0 s below args A post) (F0 m pc ls [.int v]) :=
  W.iret (v := v) hC.1.1 hC.1.2.1 hr (fun t ht hW => ⟨⟨v, S, rfl, hp, by rw [ht]; exact hI.1, va_K.moved hW.alike hC.2.1, hI.2.1⟩, hI.2.2.F ht⟩) hI.2.2.2.2 hdg hlk
theorem rr_zret {S0 : St_} {post : Int32 → St_ → Prop} {v : Int32} (hC : Cx_ p s m args c cc nL own D tys A) (w : St_ → va_W) (hI : In_ D A s.heap H locs (w S)) (hr : meth.sig.returnType = some .boolean) (hlk : meth.locks = false) (hn : narrow .boolean (.int v) = .int v) (hdg : decode cc pc = .ok (.ireturn, 1)) (hp : post v S) : W p l e R s m args below meth c H locs 0 0 (EQ_ D tys w S0 s below args A post) (F0 m pc ls [.int v]) :=
  W.zret (v := v) hC.1.1 hC.1.2.1 hr hn (fun t ht hW => ⟨⟨v, S, rfl, hp, by rw [ht]; exact hI.1, va_K.moved hW.alike hC.2.1, hI.2.1⟩, hI.2.2.F ht⟩) hI.2.2.2.2 hdg hlk
theorem rr_vret {S0 : St_} {post : St_ → Prop} (hC : Cx_ p s m args c cc nL own D tys A) (w : St_ → va_W) (hI : In_ D A s.heap H locs (w S)) (hr : meth.sig.returnType = none) (hlk : meth.locks = false) (hdg : decode cc pc = .ok (.return_, 1)) (hp : post S) : W p l e R s m args below meth c H locs 0 0 (EV_ D tys w S0 s below args A post) (F0 m pc ls []) :=
  W.vret hC.1.1 hC.1.2.1 hr (fun t ht hW => ⟨⟨S, rfl, hp, by rw [ht]; exact hI.1, va_K.moved hW.alike hC.2.1, hI.2.1⟩, hI.2.2.F ht⟩) hI.2.2.2.2 hdg hlk
end EW
/-- a contract out of a walk -/
theorem MI_of {l : Launch} {D : va_G} {tys : List (ClassId × FieldType)} {w : St_ → va_W} {y : MethodName} {b : ByteArray} {n : Nat} {rt : Option FieldType} {lev : Nat} {S : St_} {av : List Value} {post : Int32 → St_ → Prop} (hy : plainName y.cls = true) (hn : (lg_sl av).length ≤ n)
    (body : ∀ (p : Program) (e : Env) (s : State) (m : MethodId) (below : List Frame) (meth : Method) (c : Code) (A : Nat → Prop) (ls : Array Slot), Cx_ p s m av.toArray c b n y.cls D tys A → In_ D A s.heap s.heap [] (w S) → meth.sig.returnType = rt → meth.locks = false → lv_has ls n (lv_args 0 av) → W p l e (rm_ lev) s m av.toArray below meth c s.heap [] 0 0 (EQ_ D tys w S s below av.toArray A post) (F0 m 0 ls [])) : MI_ l D tys w y b n rt lev S av post := by
  intro sz
  refine Met.ofW (cc := b) (maxL := n) (ret := rt) hy rfl ?_
  intro p e s m args below meth c s₁ B hml hv
  obtain ⟨rfl, hsz, hP, hK, hD0⟩ := hv
  have hts := atoms_spec (ws := .code y b n rt :: tb_) B.pre
  have hown : s.vm.findClass y.cls = some m.cls := findClass_of_methodNamed B.named
  subst hsz
  have hl := lv_entry av (n := n) hn
  rw [lg_entry_eq]
  exact body p e s m below meth c _ _ ⟨⟨B.exec, B.bytes, hml, hown, fun w hw => hts w (List.mem_cons_of_mem _ hw)⟩, hK, fun q hq => Or.inr hq⟩ ⟨hP, hD0.self, va_S.rf⟩ B.returns B.notSynchronized hl
theorem MV_of {l : Launch} {D : va_G} {tys : List (ClassId × FieldType)} {w : St_ → va_W} {y : MethodName} {b : ByteArray} {n : Nat} {lev : Nat} {S : St_} {av : List Value} {post : St_ → Prop} (hy : plainName y.cls = true) (hn : (lg_sl av).length ≤ n)
    (body : ∀ (p : Program) (e : Env) (s : State) (m : MethodId) (below : List Frame) (meth : Method) (c : Code) (A : Nat → Prop) (ls : Array Slot), Cx_ p s m av.toArray c b n y.cls D tys A → In_ D A s.heap s.heap [] (w S) → meth.sig.returnType = none → meth.locks = false → lv_has ls n (lv_args 0 av) → W p l e (rm_ lev) s m av.toArray below meth c s.heap [] 0 0 (EV_ D tys w S s below av.toArray A post) (F0 m 0 ls [])) : MV_ l D tys w y b n lev S av post := by
  intro sz
  refine Met.ofW (cc := b) (maxL := n) (ret := none) hy rfl ?_
  intro p e s m args below meth c s₁ B hml hv
  obtain ⟨rfl, hsz, hP, hK, hD0⟩ := hv
  have hts := atoms_spec (ws := .code y b n none :: tb_) B.pre
  have hown : s.vm.findClass y.cls = some m.cls := findClass_of_methodNamed B.named
  subst hsz
  have hl := lv_entry av (n := n) hn
  rw [lg_entry_eq]
  exact body p e s m below meth c _ _ ⟨⟨B.exec, B.bytes, hml, hown, fun w hw => hts w (List.mem_cons_of_mem _ hw)⟩, hK, fun q hq => Or.inr hq⟩ ⟨hP, hD0.self, va_S.rf⟩ B.returns B.notSynchronized hl
end
section
/-! PURE, of A's state: the system of a core out of the parts -/
def bo_ (x : Int32) (P : Prop) : Prop := ∃ v : Int, x = iI v ∧ (v = 0 ∨ v = 1) ∧ (v = 1 ↔ P)
def okp_ (p : Int) : Prop := 2 ≤ p ∧ p ≤ 60 ∧ (60 : Int) % p = 0
def vlA_ (S : St_) : Prop := (1 ≤ S 0 0 ∧ S 0 0 ≤ 3) ∧ (∀ i, i < 26 → -1 ≤ S 4 i ∧ S 4 i ≤ 2 ∧ (0 ≤ S 4 i → 1 ≤ S 5 i ∧ S 5 i ≤ S 6 i ∧ S 6 i ≤ S 3 (i / 2) ∧ okp_ (S 3 (i / 2)))) ∧ ∀ i, i < 13 → 0 ≤ S 4 (2 * i) → S 4 (2 * i + 1) ≠ S 4 (2 * i)
def qpA_ (S : St_) (k : Int) (i : Nat) : Nat := if S 4 (2 * i) = k then 2 * i else 2 * i + 1
def cA_ (S : St_) (k : Int) (i : Nat) : Nat := if S 4 (qpA_ S k i) = k then (S 5 (qpA_ S k i)).toNat else 0
def dA_ (S : St_) (k : Int) (i : Nat) : Nat := (S 6 (qpA_ S k i)).toNat
def pA_ (S : St_) (i : Nat) : Nat := (S 3 i).toNat
def schA_ (S : St_) (k : Int) : Prop := ps_sched (cA_ S k) (dA_ S k) (pA_ S)
theorem qpA_lt (S : St_) (k : Int) {i : Nat} (h : i < 13) : qpA_ S k i < 26 ∧ qpA_ S k i / 2 = i := by
  unfold qpA_; split <;> omega
theorem okA_ {S : St_} (hv : vlA_ S) {k : Int} (hk : 0 ≤ k) : ps_ok (cA_ S k) (dA_ S k) (pA_ S) := by
  intro i hi hc
  unfold cA_ at hc ⊢
  unfold dA_ pA_
  obtain ⟨h1, h2⟩ := qpA_lt S k hi
  split at hc
  · rename_i he
    rw [if_pos he]
    obtain ⟨-, -, h3⟩ := hv.2.1 _ h1
    rw [h2] at h3
    obtain ⟨a1, a2, a3, b1, b2, b3⟩ := h3 (by omega)
    refine ⟨by omega, by omega, by omega, by omega, ?_⟩
    have : ((60 % (S 3 i).toNat : Nat) : Int) = 0 := by
      rw [Int.natCast_emod, Int.toNat_of_nonneg (by omega)]
      exact b3
    omega
  · omega
def lA_f (S : St_) (k : Int) (i : Nat) : Nat := if S 4 i = k then (S 5 i).toNat * (60 / (S 3 (i / 2)).toNat) else 0
def xA_f (S : St_) (k : Int) (t i : Nat) : Nat := if S 4 i = k ∧ (S 6 i).toNat ≤ t then ((t - (S 6 i).toNat) / (S 3 (i / 2)).toNat + 1) * (S 5 i).toNat else 0
theorem dem_A {S : St_} (hv : vlA_ S) {k : Int} (hk : 0 ≤ k) (t : Nat) : ps_sum (xA_f S k t) 26 = ps_dem (cA_ S k) (dA_ S k) (pA_ S) t := by
  show ps_sum (xA_f S k t) (2 * 13) = _
  rw [ps_sum_two]
  refine ps_sum_congr 13 (fun i hi => ?_)
  have e1 : 2 * i / 2 = i := by omega
  have e2 : (2 * i + 1) / 2 = i := by omega
  show xA_f S k t (2 * i) + xA_f S k t (2 * i + 1) = ps_N (dA_ S k) (pA_ S) t i * cA_ S k i
  unfold xA_f ps_N cA_ dA_ pA_ qpA_
  rw [e1, e2]
  by_cases h1 : S 4 (2 * i) = k
  · have h2 : ¬ S 4 (2 * i + 1) = k := by
      have := hv.2.2 i hi (by omega)
      omega
    simp only [h1, h2, if_true, true_and, false_and, if_false, Nat.add_zero]
    split
    · rfl
    · rw [Nat.zero_mul]
  · by_cases h2 : S 4 (2 * i + 1) = k
    · simp only [h1, h2, if_true, true_and, false_and, if_false, Nat.zero_add]
      split
      · rfl
      · rw [Nat.zero_mul]
    · simp only [h1, h2, false_and, if_false, Nat.mul_zero]
theorem load_A {S : St_} (hv : vlA_ S) {k : Int} (hk : 0 ≤ k) : ps_sum (lA_f S k) 26 = ps_dem (cA_ S k) (dA_ S k) (pA_ S) 60 := by
  rw [← dem_A hv hk]
  refine ps_sum_congr 26 (fun i hi => ?_)
  unfold lA_f xA_f
  obtain ⟨-, -, h3⟩ := hv.2.1 i hi
  by_cases h1 : S 4 i = k
  · obtain ⟨a1, a2, a3, b1, b2, b3⟩ := h3 (by omega)
    have hz : 60 % (S 3 (i / 2)).toNat = 0 := by
      have : ((60 % (S 3 (i / 2)).toNat : Nat) : Int) = 0 := by
        rw [Int.natCast_emod, Int.toNat_of_nonneg (by omega)]
        exact b3
      omega
    have := ps_N_60 (d := fun _ => (S 6 i).toNat) (p := fun _ => (S 3 (i / 2)).toNat) (i := 0) (by omega) (by omega) (by omega) (by omega) hz
    unfold ps_N at this
    simp only at this
    rw [if_pos (by omega)] at this
    rw [if_pos h1, if_pos ⟨h1, by omega⟩, this, Nat.mul_comm]
  · rw [if_neg h1, if_neg (fun h => h1 h.1)]
theorem ps_sum_bd {f : Nat → Nat} {M : Nat} : ∀ n, (∀ i, i < n → f i ≤ M) → ps_sum f n ≤ n * M
  | 0, _ => Nat.zero_le _
  | n + 1, h => by
    have h1 := ps_sum_bd n (fun i hi => h i (by omega))
    have h2 := h n (by omega)
    show ps_sum f n + f n ≤ (n + 1) * M
    rw [Nat.add_mul, Nat.one_mul]
    omega
theorem ps_dem_bd {c d p : Nat → Nat} (hok : ps_ok c d p) {t : Nat} (ht : t ≤ 60) : ps_dem c d p t ≤ 47580 := by
  refine Nat.le_trans (ps_sum_bd (M := 3660) 13 (fun i hi => ?_)) (by decide)
  rcases Nat.eq_zero_or_pos (c i) with z | z
  · rw [z, Nat.mul_zero]; exact Nat.zero_le _
  · obtain ⟨h1, h2, h3, h4, -⟩ := hok i hi z
    have hN : ps_N d p t i ≤ 61 := by
      unfold ps_N
      split
      · have := Nat.div_le_self (t - d i) (p i)
        omega
      · omega
    exact Nat.le_trans (Nat.mul_le_mul hN (show c i ≤ 60 by omega)) (by decide)
/-- one more part: place id with cost c and deadline d -/
def upN_ (f : Nat → Nat) (j v : Nat) : Nat → Nat := fun i => if i = j then v else f i
def tkA_ (S : St_) (k : Int) (id : Nat) (c d : Int) : Prop := ps_sched (upN_ (cA_ S k) id c.toNat) (upN_ (dA_ S k) id d.toNat) (pA_ S)
def frA_ (S : St_) (id : Nat) : Prop := S 4 (2 * id) = -1 ∧ S 4 (2 * id + 1) = -1
/-- nothing has changed but cost and deadline of id's parts -/
def agA_ (id : Nat) (S S' : St_) : Prop := ∀ j k, ¬ ((j = 5 ∨ j = 6) ∧ (k = 2 * id ∨ k = 2 * id + 1)) → S' j k = S j k
theorem agA_rf (id : Nat) (S : St_) : agA_ id S S := fun _ _ _ => rfl
theorem agA_tr {id : Nat} {S S1 S2 : St_} (h1 : agA_ id S S1) (h2 : agA_ id S1 S2) : agA_ id S S2 := fun j k h => (h2 j k h).trans (h1 j k h)
theorem agA_fr {id : Nat} {S S' : St_} (h : agA_ id S S') (hf : frA_ S id) : frA_ S' id := by
  unfold frA_
  rw [h 4 _ (by omega), h 4 _ (by omega)]
  exact hf
theorem agA_v {id : Nat} {S S' : St_} (h : agA_ id S S') (hf : frA_ S id) (hv : vlA_ S) : vlA_ S' := by
  have h4 : ∀ i, S' 4 i = S 4 i := fun i => h 4 i (by omega)
  have h3 : ∀ i, S' 3 i = S 3 i := fun i => h 3 i (by omega)
  refine ⟨by rw [h 0 0 (by omega)]; exact hv.1, fun i hi => ?_, fun i hi => by rw [h4, h4]; exact hv.2.2 i hi⟩
  rw [h4, h3]
  obtain ⟨a, b, c⟩ := hv.2.1 i hi
  refine ⟨a, b, fun h0 => ?_⟩
  have hne : ¬ (i = 2 * id ∨ i = 2 * id + 1) := by
    rintro (rfl | rfl)
    · rw [hf.1] at h0; omega
    · rw [hf.2] at h0; omega
  rw [h 5 i (by omega), h 6 i (by omega)]
  exact c h0
theorem agA_sys {id : Nat} {S S' : St_} (h : agA_ id S S') (hf : frA_ S id) {k : Int} (hk : 0 ≤ k) (i : Nat) : cA_ S' k i = cA_ S k i ∧ (i ≠ id → dA_ S' k i = dA_ S k i) ∧ pA_ S' i = pA_ S i := by
  have h4 : ∀ i, S' 4 i = S 4 i := fun i => h 4 i (by omega)
  have hq : qpA_ S' k i = qpA_ S k i := by unfold qpA_; rw [h4]
  refine ⟨?_, fun hne => ?_, ?_⟩
  · unfold cA_
    rw [hq, h4]
    split
    · rename_i he
      rw [h 5 _ ?_]
      rintro ⟨-, hz⟩
      rcases hz with hz | hz <;> rw [hz] at he
      · rw [hf.1] at he; omega
      · rw [hf.2] at he; omega
    · rfl
  · unfold dA_
    rw [hq, h 6 _ ?_]
    unfold qpA_
    split <;> omega
  · unfold pA_
    rw [h 3 _ (by omega)]
theorem agA_tk {id : Nat} {S S' : St_} (h : agA_ id S S') (hf : frA_ S id) {k : Int} (hk : 0 ≤ k) (c d : Int) : tkA_ S' k id c d ↔ tkA_ S k id c d := by
  refine ps_same_sched (fun i hi => ?_)
  obtain ⟨h1, h2, h3⟩ := agA_sys h hf hk i
  unfold upN_
  by_cases e : i = id
  · rw [if_pos e, if_pos e, if_pos e, if_pos e]; exact ⟨rfl, fun _ => ⟨rfl, h3⟩⟩
  · rw [if_neg e, if_neg e, if_neg e, if_neg e]; exact ⟨h1, fun _ => ⟨h2 e, h3⟩⟩
theorem agA_sch {id : Nat} {S S' : St_} (h : agA_ id S S') (hf : frA_ S id) {k : Int} (hk : 0 ≤ k) : schA_ S' k ↔ schA_ S k := by
  refine ps_same_sched (fun i hi => ?_)
  obtain ⟨h1, h2, h3⟩ := agA_sys h hf hk i
  refine ⟨h1, fun hc => ⟨h2 (fun e => ?_), h3⟩⟩
  subst e
  rw [h1] at hc
  unfold cA_ qpA_ at hc
  rw [hf.1] at hc
  rw [if_neg (show ¬ ((-1 : Int) = k) by omega), hf.2, if_neg (by omega)] at hc
  omega
/-- one part set -/
def sP_ (S : St_) (i : Nat) (k c d : Int) : St_ := up_ (up_ (up_ S 4 i k) 5 i c) 6 i d
theorem sP_4 (S : St_) (i : Nat) (k c d : Int) (j : Nat) : sP_ S i k c d 4 j = if j = i then k else S 4 j := by
  unfold sP_; simp [up_at]
theorem sP_5 (S : St_) (i : Nat) (k c d : Int) (j : Nat) : sP_ S i k c d 5 j = if j = i then c else S 5 j := by
  unfold sP_; simp [up_at]
theorem sP_6 (S : St_) (i : Nat) (k c d : Int) (j : Nat) : sP_ S i k c d 6 j = if j = i then d else S 6 j := by
  unfold sP_; simp [up_at]
theorem sP_o (S : St_) (i : Nat) (k c d : Int) (f j : Nat) (h : f ≠ 4 ∧ f ≠ 5 ∧ f ≠ 6 ∨ j ≠ i) : sP_ S i k c d f j = S f j := by
  unfold sP_; simp only [up_at]
  rw [if_neg (by omega), if_neg (by omega), if_neg (by omega)]
theorem sP_v {S : St_} (hv : vlA_ S) {id i : Nat} (hid : id < 13) (hi : i = 2 * id ∨ i = 2 * id + 1) (hf : frA_ S id) {k c d : Int} (hk : 0 ≤ k ∧ k ≤ 2) (hc : 1 ≤ c ∧ c ≤ d ∧ d ≤ S 3 id) (hp : okp_ (S 3 id)) : vlA_ (sP_ S i k c d) := by
  refine ⟨by rw [sP_o _ _ _ _ _ _ _ (by omega)]; exact hv.1, fun j hj => ?_, fun j hj => ?_⟩
  · rw [sP_4, sP_5, sP_6, sP_o _ _ _ _ _ _ _ (by omega)]
    by_cases e : j = i
    · rw [if_pos e, if_pos e, if_pos e]
      have : j / 2 = id := by omega
      rw [this]
      exact ⟨by omega, by omega, fun _ => ⟨by omega, by omega, by omega, hp⟩⟩
    · rw [if_neg e, if_neg e, if_neg e]; exact hv.2.1 j hj
  · rw [sP_4, sP_4]
    by_cases e1 : 2 * j = i
    · have : j = id := by omega
      subst this
      rw [if_pos e1, if_neg (by omega), hf.2]
      intro _; omega
    · rw [if_neg e1]
      by_cases e2 : 2 * j + 1 = i
      · have : j = id := by omega
        subst this
        rw [if_pos e2, hf.1]
        intro h0; omega
      · rw [if_neg e2]; exact hv.2.2 j hj
theorem sP_sch {S : St_} {id i : Nat} (hi : i = 2 * id ∨ i = 2 * id + 1) (hf : frA_ S id) {k c d : Int} (hk : 0 ≤ k) : schA_ (sP_ S i k c d) k ↔ tkA_ S k id c d := by
  refine ps_same_sched (fun j hj => ?_)
  have hp : pA_ (sP_ S i k c d) j = pA_ S j := by unfold pA_; rw [sP_o _ _ _ _ _ _ _ (by omega)]
  unfold upN_
  by_cases e : j = id
  · subst e
    rw [if_pos rfl, if_pos rfl]
    have hq : qpA_ (sP_ S i k c d) k j = i := by
      unfold qpA_
      rw [sP_4]
      rcases hi with rfl | rfl
      · rw [if_pos rfl, if_pos rfl]
      · rw [if_neg (show ¬ (2 * j = 2 * j + 1) by omega), hf.1, if_neg (by omega)]
    unfold cA_ dA_
    rw [hq, sP_4, sP_5, sP_6, if_pos rfl, if_pos rfl, if_pos rfl, if_pos rfl]
    exact ⟨rfl, fun _ => ⟨rfl, hp⟩⟩
  · rw [if_neg e, if_neg e]
    have hq : qpA_ (sP_ S i k c d) k j = qpA_ S k j := by
      unfold qpA_
      rw [sP_4, if_neg (show ¬ (2 * j = i) by omega)]
    have hne : qpA_ S k j ≠ i := by unfold qpA_; split <;> omega
    unfold cA_ dA_
    rw [hq, sP_4, sP_5, sP_6, if_neg hne, if_neg hne, if_neg hne]
    exact ⟨rfl, fun _ => ⟨rfl, hp⟩⟩
/-- the part set and taken away again -/
theorem sP_ag {S : St_} {id i : Nat} (hi : i = 2 * id ∨ i = 2 * id + 1) (hf : frA_ S id) (k c d : Int) : agA_ id S (up_ (sP_ S i k c d) 4 i (-1)) := by
  intro f j h
  rw [up_at]
  by_cases e : f = 4 ∧ j = i
  · rw [if_pos e, e.1, e.2]
    rcases hi with rfl | rfl
    · exact hf.1.symm
    · exact hf.2.symm
  · rw [if_neg e]
    unfold sP_
    simp only [up_at]
    rw [if_neg (by omega), if_neg (by omega), if_neg (by omega)]
end
section
/-! static methods that only answer -/
def MS_ (l : Launch) (D : va_G) (tys : List (ClassId × FieldType)) (y : MethodName) (b : ByteArray) (n : Nat) (rt : Option FieldType) (av : List Value) (X : State → Prop) (v : Int32) : Prop :=
  Met l y (.code y b n rt :: tb_) (rm_ 0) (va_Pc av (fun U => va_K D ecl_ tys U ∧ X U)) (QcRead v) 0 0 (fun _ => False)
theorem MS_of {l : Launch} {D : va_G} {tys : List (ClassId × FieldType)} {y : MethodName} {b : ByteArray} {n : Nat} {rt : Option FieldType} {av : List Value} {X : State → Prop} {v : Int32} (hy : plainName y.cls = true) (hn : (lg_sl av).length ≤ n)
    (body : ∀ (p : Program) (e : Env) (s : State) (m : MethodId) (below : List Frame) (meth : Method) (c : Code) (ls : Array Slot), Cx_ p s m av.toArray c b n y.cls D tys (fun _ => True) → X s → meth.sig.returnType = rt → meth.locks = false → lv_has ls n (lv_args 0 av) → W p l e (rm_ 0) s m av.toArray below meth c s.heap [] 0 0 (MQ below (QcRead v) av.toArray s 0 0 (fun _ => False)) (F0 m 0 ls [])) : MS_ l D tys y b n rt av X v := by
  refine Met.ofW (cc := b) (maxL := n) (ret := rt) hy rfl ?_
  intro p e s m args below meth c s₁ B hml hv
  obtain ⟨rfl, hK, hX⟩ := hv
  have hts := atoms_spec (ws := .code y b n rt :: tb_) B.pre
  have hown : s.vm.findClass y.cls = some m.cls := findClass_of_methodNamed B.named
  have hl := lv_entry av (n := n) hn
  rw [lg_entry_eq]
  exact body p e s m below meth c _ ⟨⟨B.exec, B.bytes, hml, hown, fun w hw => hts w (List.mem_cons_of_mem _ hw)⟩, hK, fun q hq => trivial⟩ hX B.returns B.notSynchronized hl
section ES
variable {p : Program} {l : Launch} {e : Env} {R : Room} {s : State} {m : MethodId} {args : Array Value} {below : List Frame} {meth : Method} {c : Code} {H H0 : Heap} {locs : List Loc} {cells slots : Nat} {Q : State → Prop}
variable {cc : ByteArray} {pc : Nat} {ls : Array Slot} {rest : List Value} {nL : Nat} {own : String} {D : va_G} {tys : List (ClassId × FieldType)} {A : Nat → Prop} {lv : List (Nat × Value)}
theorem rr_sret {v : Int32} {rt : FieldType} (hC : Cx_ p s m args c cc nL own D tys A) (hr : meth.sig.returnType = some rt) (hlk : meth.locks = false) (hn : narrow rt (.int v) = .int v) (hdg : decode cc pc = .ok (.ireturn, 1)) : W p l e R s m args below meth c s.heap [] 0 0 (MQ below (QcRead v) args s 0 0 (fun _ => False)) (F0 m pc ls [.int v]) :=
  W.zret (v := v) hC.1.1 hC.1.2.1 hr hn (fun t ht hW => ⟨rfl, ht⟩) (fun q h => by cases h) hdg hlk
theorem rr_calls {y : MethodName} {b : ByteArray} {n : Nat} {rt : Option FieldType} {na idx : Nat} {As : List Value} {X : State → Prop} {v : Int32} {st0 : List Value} (hC : Cx_ p s m args c cc nL own D tys A) (hl : lv_has ls nL lv) (hM : MS_ l D tys y b n rt As X v) (hG : GoodIn tb_ (wsS own idx y (.code y b n rt :: tb_))) (hd : y.cls = own ∧ y.cls ≠ "java/lang/invoke/MethodHandle" ∧ y.cls ≠ "java/lang/invoke/VarHandle" ∧ (parseMethodDescriptor y.desc).map (fun d => d.parameters.length) = some na) (hR : (rm_ 0).frames + 1 ≤ R.frames ∧ 8 + (n + 11) + (rm_ 0).locals ≤ R.locals) (hX1 : ∀ (a : Array Value) (U : State) (g : JFrame) (mk : MethodId), X U → X (U.calling g mk a)) (hX : ∀ U : State, U.heap = H → s.WarmedH U.vm → X U) (hf : cells ≤ R.cells ∧ slots ≤ R.slots) (hn : As.length = na) (hst : st0 = As.reverse ++ rest) (hr : (rest.map fun v => v.category).sum ≤ 8) (hdg : decode cc pc = .ok (.invokestatic idx, 3)) (kk : W p l e R s m args below meth c H locs cells slots Q (F0 m (pc + 3) ls (.int v :: rest))) : W p l e R s m args below meth c H locs cells slots Q (F0 m pc ls st0) := by
  refine W.callR (W.runS (As := As) (rest := rest) hC.1 hM (cwS na hC.1.2.2.2.2 hG rfl rfl rfl hd hR) ⟨fun a U g mk q => ?_, fun U hU hW => ⟨rfl, va_K.moved hW.alike hC.2.1, hX U hU hW⟩⟩ rfl hn hl.1 hst (lv_room hr) hdg hf) kk
  obtain ⟨q0, qK, qX⟩ := q
  exact ⟨q0, va_K.moved (u := U) (U := U.calling g mk a) (Vm.Alike.refl U.vm) qK, hX1 a U g mk qX⟩
end ES
end
section
/-! the sums of A's loops, row by row -/
theorem lA_step {S : St_} (hv : vlA_ S) {k : Int} (hk : 0 ≤ k) {i : Nat} (hi : i < 26) (he : S 4 i = k) : ((ps_sum (lA_f S k) i : Nat) : Int) + S 5 i * (((60 : Nat) : Int) / S 3 (i / 2)) = ((ps_sum (lA_f S k) (i + 1) : Nat) : Int) := by
  obtain ⟨-, -, h3⟩ := hv.2.1 i hi
  obtain ⟨a1, a2, a3, b1, b2, b3⟩ := h3 (by omega)
  show _ = ((ps_sum (lA_f S k) i + lA_f S k i : Nat) : Int)
  unfold lA_f
  rw [if_pos he, Int.natCast_add, Int.natCast_mul, Int.natCast_ediv, Int.toNat_of_nonneg (show 0 ≤ S 5 i by omega), Int.toNat_of_nonneg (show 0 ≤ S 3 (i / 2) by omega)]
theorem lA_skip {S : St_} {k : Int} {i : Nat} (he : ¬ S 4 i = k) : ps_sum (lA_f S k) i = ps_sum (lA_f S k) (i + 1) := by
  show _ = ps_sum (lA_f S k) i + lA_f S k i
  have : lA_f S k i = 0 := by unfold lA_f; rw [if_neg he]
  omega
theorem xA_step {S : St_} (hv : vlA_ S) {k : Int} (hk : 0 ≤ k) {t i : Nat} (hi : i < 26) (he : S 4 i = k) (ht : S 6 i ≤ (t : Int)) : ((ps_sum (xA_f S k t) i : Nat) : Int) + ((((t : Nat) : Int) - S 6 i) / S 3 (i / 2) + ((1 : Nat) : Int)) * S 5 i = ((ps_sum (xA_f S k t) (i + 1) : Nat) : Int) := by
  obtain ⟨-, -, h3⟩ := hv.2.1 i hi
  obtain ⟨a1, a2, a3, b1, b2, b3⟩ := h3 (by omega)
  show _ = ((ps_sum (xA_f S k t) i + xA_f S k t i : Nat) : Int)
  unfold xA_f
  rw [if_pos ⟨he, by omega⟩, Int.natCast_add, Int.natCast_mul, Int.natCast_add, Int.natCast_ediv, Int.natCast_sub (by omega), Int.toNat_of_nonneg (show 0 ≤ S 5 i by omega), Int.toNat_of_nonneg (show 0 ≤ S 6 i by omega), Int.toNat_of_nonneg (show 0 ≤ S 3 (i / 2) by omega)]
theorem xA_skip {S : St_} {k : Int} {t i : Nat} (hp : S 4 i = k → 0 ≤ S 6 i) (he : ¬ (S 4 i = k ∧ S 6 i ≤ (t : Int))) : ps_sum (xA_f S k t) i = ps_sum (xA_f S k t) (i + 1) := by
  show _ = ps_sum (xA_f S k t) i + xA_f S k t i
  have : xA_f S k t i = 0 := by
    unfold xA_f
    rw [if_neg]
    rintro ⟨h1, h2⟩
    have := hp h1
    exact he ⟨h1, by omega⟩
  omega
/-- the last deadline of a part before t -/
theorem bA_last {a p t : Int} (h1 : 0 ≤ a) (h2 : a < t) (h3 : 0 < p) : 0 ≤ a + (t - 1 - a) / p * p ∧ a + (t - 1 - a) / p * p < t := by
  have e1 := Int.ediv_nonneg (show 0 ≤ t - 1 - a by omega) (Int.le_of_lt h3)
  have e2 := Int.ediv_mul_le (t - 1 - a) (show p ≠ 0 by omega)
  have e3 := Int.mul_nonneg e1 (Int.le_of_lt h3)
  omega
/-- what leastDeadline, deadlineBefore say of the system -/
theorem leastA_sys {S : St_} (hv : vlA_ S) {k : Int} (hk : 0 ≤ k) {u : Int} (h : ∀ i, i < 26 → S 4 i = k → u ≤ S 6 i) : ∀ i, i < 13 → 0 < cA_ S k i → u.toNat ≤ dA_ S k i := by
  intro i hi hc
  obtain ⟨h1, h2⟩ := qpA_lt S k hi
  unfold cA_ at hc
  split at hc
  · rename_i he
    have := h _ h1 he
    unfold dA_
    omega
  · omega
theorem beforeA_sys {S : St_} (hv : vlA_ S) {k : Int} (hk : 0 ≤ k) {t u : Nat} (h : ∀ i, i < 26 → S 4 i = k → S 6 i < (t : Int) → S 6 i + ((t : Int) - 1 - S 6 i) / S 3 (i / 2) * S 3 (i / 2) ≤ (u : Int)) : ∀ i, i < 13 → 0 < cA_ S k i → dA_ S k i < t → dA_ S k i + (t - 1 - dA_ S k i) / pA_ S i * pA_ S i ≤ u := by
  intro i hi hc hd
  obtain ⟨h1, h2⟩ := qpA_lt S k hi
  unfold cA_ at hc
  split at hc
  · rename_i he
    obtain ⟨-, -, h3⟩ := hv.2.1 _ h1
    obtain ⟨a1, a2, a3, b1, b2, b3⟩ := h3 (by omega)
    rw [h2] at a3 b1 b2 b3
    unfold dA_ at hd ⊢
    unfold pA_
    have h4 := h _ h1 he (by omega)
    rw [h2] at h4
    have : (((S 6 (qpA_ S k i)).toNat + (t - 1 - (S 6 (qpA_ S k i)).toNat) / (S 3 i).toNat * (S 3 i).toNat : Nat) : Int) ≤ (u : Int) := by
      rw [Int.natCast_add, Int.natCast_mul, Int.natCast_ediv, Int.natCast_sub (by omega), Int.natCast_sub (by omega), Int.toNat_of_nonneg (show 0 ≤ S 6 (qpA_ S k i) by omega), Int.toNat_of_nonneg (show 0 ≤ S 3 i by omega)]
      exact h4
    omega
  · omega
def bpv_ (a : Int) : Int := if 2 ≤ a ∧ a ≤ 60 ∧ (60 : Int) % a = 0 then 0 else 1
theorem bpv_1 {a : Int} (h : ¬ okp_ a) : bpv_ a = 1 := if_neg h
theorem bpv_0 {a : Int} (h : okp_ a) : bpv_ a = 0 := if_pos h
theorem bpv_ok {a : Int} : okp_ a ↔ bpv_ a = 0 := by
  constructor
  · exact bpv_0
  · intro h
    unfold bpv_ at h
    split at h
    · rename_i g; exact g
    · omega
end
section
/-! A: leaves, walked by program -/
set_option maxRecDepth 100000 in
set_option maxHeartbeats 4000000 in
/-- badPeriod -/
theorem cA_badPeriod (l : Launch) (D : va_G) (cZ cI : ClassId) (a : Int) (ha : -2147483648 ≤ a ∧ a ≤ 2147483647) : MS_ l D [(cZ, .boolean), (cI, .int)] yA_badPeriod kA_badPeriod 1 (some .boolean) [.int (iI a)] (fun _ => True) (iI (bpv_ a)) := by
  refine MS_of (by decide) (Nat.le_of_ble_eq_true rfl) ?_
  intro p e s m below meth c ls hC _ hr hlk hl
  have hl : lv_has ls 1 [(0, .int (iI a))] := hl
  refine rr_iload_n hC dA_badPeriod_0 hl rfl 0 rfl ?_
  refine rr_iconst (v := ((2 : Nat) : Int)) hC dA_badPeriod_1 rfl ?_
  refine rr_icmp_lt hC 18 dA_badPeriod_2 (by decide) (by omega) (by omega) (fun c1 => ?_) (fun c1 => ?_)
  · refine rr_iconst (v := ((1 : Nat) : Int)) hC dA_badPeriod_18 rfl ?_
    refine rr_goto hC 23 dA_badPeriod_19 (by decide) ?_
    rw [show bpv_ a = ((1 : Nat) : Int) from bpv_1 (by unfold okp_; omega)]
    exact rr_sret hC hr hlk (by decide +kernel) dA_badPeriod_23
  · refine rr_iload_n hC dA_badPeriod_5 hl rfl 0 rfl ?_
    refine rr_bipush (v := ((60 : Nat) : Int)) hC dA_badPeriod_6 (by decide) ?_
    refine rr_icmp_gt hC 18 dA_badPeriod_8 (by decide) (by omega) (by omega) (fun c2 => ?_) (fun c2 => ?_)
    · refine rr_iconst (v := ((1 : Nat) : Int)) hC dA_badPeriod_18 rfl ?_
      refine rr_goto hC 23 dA_badPeriod_19 (by decide) ?_
      rw [show bpv_ a = ((1 : Nat) : Int) from bpv_1 (by unfold okp_; omega)]
      exact rr_sret hC hr hlk (by decide +kernel) dA_badPeriod_23
    · refine rr_bipush (v := ((60 : Nat) : Int)) hC dA_badPeriod_11 (by decide) ?_
      refine rr_iload_n hC dA_badPeriod_13 hl rfl 0 rfl ?_
      refine rr_irem hC dA_badPeriod_14 (by omega) (by omega) ?_
      refine rr_top (y := (60 : Int) % a) rfl ?_
      have e1 := Int.emod_nonneg 60 (show a ≠ 0 by omega)
      have e2 := Int.emod_lt_of_pos 60 (show 0 < a by omega)
      refine rr_if_eq hC 22 dA_badPeriod_15 (by decide) (by omega) (fun c3 => ?_) (fun c3 => ?_)
      · refine rr_iconst (v := ((0 : Nat) : Int)) hC dA_badPeriod_22 rfl ?_
        rw [show bpv_ a = ((0 : Nat) : Int) from bpv_0 (by unfold okp_; omega)]
        exact rr_sret hC hr hlk (by decide +kernel) dA_badPeriod_23
      · refine rr_iconst (v := ((1 : Nat) : Int)) hC dA_badPeriod_18 rfl ?_
        refine rr_goto hC 23 dA_badPeriod_19 (by decide) ?_
        rw [show bpv_ a = ((1 : Nat) : Int) from bpv_1 (by unfold okp_; omega)]
        exact rr_sret hC hr hlk (by decide +kernel) dA_badPeriod_23
set_option maxRecDepth 100000 in
set_option maxHeartbeats 4000000 in
/-- noTask -/
theorem cA_noTask (l : Launch) (D : va_G) (h : Nat) (r : Nat → Nat) (cZ cI : ClassId) (S : St_) (a : Int) (ha : -2147483648 ≤ a ∧ a ≤ 2147483647) (hu : ∀ i, i < 13 → S 2 i = 0 ∨ S 2 i = 1) : MI_ l D [(cZ, .boolean), (cI, .int)] (wA_ h r cZ cI) yA_noTask kA_noTask 2 (some .boolean) 0 S [.ref h, .int (iI a)] (fun x S' => bo_ x (¬ (0 ≤ a ∧ a < 12 ∧ S 2 a.toNat = 1)) ∧ S' = S) := by
  refine MI_of (by decide) (Nat.le_of_ble_eq_true rfl) ?_
  intro p e s m below meth c A ls hC hI hr hlk hl
  have hl : lv_has ls 2 [(0, .ref h), (1, .int (iI a))] := hl
  refine rr_iload_n hC dA_noTask_0 hl rfl 1 rfl ?_
  refine rr_if_lt hC 19 dA_noTask_1 (by decide) (by omega) (fun c1 => ?_) (fun c1 => ?_)
  · refine rr_iconst (v := ((1 : Nat) : Int)) hC dA_noTask_19 rfl ?_
    refine rr_goto hC 24 dA_noTask_20 (by decide) ?_
    exact rr_zret hC (wA_ h r cZ cI) hI hr hlk (by decide +kernel) dA_noTask_24 (⟨⟨1, rfl, by omega, by omega⟩, rfl⟩)
  · refine rr_iload_n hC dA_noTask_4 hl rfl 1 rfl ?_
    refine rr_bipush (v := ((12 : Nat) : Int)) hC dA_noTask_5 (by decide) ?_
    refine rr_icmp_ge hC 19 dA_noTask_7 (by decide) (by omega) (by omega) (fun c2 => ?_) (fun c2 => ?_)
    · refine rr_iconst (v := ((1 : Nat) : Int)) hC dA_noTask_19 rfl ?_
      refine rr_goto hC 24 dA_noTask_20 (by decide) ?_
      exact rr_zret hC (wA_ h r cZ cI) hI hr hlk (by decide +kernel) dA_noTask_24 (⟨⟨1, rfl, by omega, by omega⟩, rfl⟩)
    · obtain ⟨i, rfl⟩ : ∃ i : Nat, a = (i : Int) := ⟨a.toNat, by omega⟩
      have hu1 := hu i (by omega)
      refine rr_aload_n hC dA_noTask_10 hl rfl 0 rfl ?_
      refine rA_get hC hI 2 (by decide) lA_2 rfl dA_noTask_11 ?_
      refine rr_iload_n hC dA_noTask_14 hl rfl 1 rfl ?_
      refine rr_zald hC hI 1 0 rfl rfl (by decide) (by omega) dA_noTask_15 ?_
      refine rr_if_ne hC 23 dA_noTask_16 (by decide) (by omega) (fun c3 => ?_) (fun c3 => ?_)
      · refine rr_iconst (v := ((0 : Nat) : Int)) hC dA_noTask_23 rfl ?_
        exact rr_zret hC (wA_ h r cZ cI) hI hr hlk (by decide +kernel) dA_noTask_24 (⟨⟨0, rfl, by omega, by rw [Int.toNat_natCast]; omega⟩, rfl⟩)
      · refine rr_iconst (v := ((1 : Nat) : Int)) hC dA_noTask_19 rfl ?_
        refine rr_goto hC 24 dA_noTask_20 (by decide) ?_
        exact rr_zret hC (wA_ h r cZ cI) hI hr hlk (by decide +kernel) dA_noTask_24 (⟨⟨1, rfl, by omega, by rw [Int.toNat_natCast]; omega⟩, rfl⟩)
set_option maxRecDepth 100000 in
set_option maxHeartbeats 4000000 in
/-- badCore -/
theorem cA_badCore (l : Launch) (D : va_G) (h : Nat) (r : Nat → Nat) (cZ cI : ClassId) (S : St_) (a : Int) (ha : -2147483648 ≤ a ∧ a ≤ 2147483647) (hv : 1 ≤ S 0 0 ∧ S 0 0 ≤ 3) : MI_ l D [(cZ, .boolean), (cI, .int)] (wA_ h r cZ cI) yA_badCore kA_badCore 2 (some .boolean) 0 S [.ref h, .int (iI a)] (fun x S' => bo_ x (¬ (0 ≤ a ∧ a < S 0 0)) ∧ S' = S) := by
  refine MI_of (by decide) (Nat.le_of_ble_eq_true rfl) ?_
  intro p e s m below meth c A ls hC hI hr hlk hl
  have hl : lv_has ls 2 [(0, .ref h), (1, .int (iI a))] := hl
  refine rr_iload_n hC dA_badCore_0 hl rfl 1 rfl ?_
  refine rr_if_lt hC 12 dA_badCore_1 (by decide) (by omega) (fun c1 => ?_) (fun c1 => ?_)
  · refine rr_iconst (v := ((1 : Nat) : Int)) hC dA_badCore_12 rfl ?_
    refine rr_goto hC 17 dA_badCore_13 (by decide) ?_
    exact rr_zret hC (wA_ h r cZ cI) hI hr hlk (by decide +kernel) dA_badCore_17 (⟨⟨1, rfl, by omega, by omega⟩, rfl⟩)
  · refine rr_iload_n hC dA_badCore_4 hl rfl 1 rfl ?_
    refine rr_aload_n hC dA_badCore_5 hl rfl 0 rfl ?_
    refine rA_get hC hI 0 (by decide) lA_0 rfl dA_badCore_6 ?_
    refine rr_icmp_lt hC 16 dA_badCore_9 (by decide) (by omega) (by omega) (fun c2 => ?_) (fun c2 => ?_)
    · refine rr_iconst (v := ((0 : Nat) : Int)) hC dA_badCore_16 rfl ?_
      exact rr_zret hC (wA_ h r cZ cI) hI hr hlk (by decide +kernel) dA_badCore_17 (⟨⟨0, rfl, by omega, by omega⟩, rfl⟩)
    · refine rr_iconst (v := ((1 : Nat) : Int)) hC dA_badCore_12 rfl ?_
      refine rr_goto hC 17 dA_badCore_13 (by decide) ?_
      exact rr_zret hC (wA_ h r cZ cI) hI hr hlk (by decide +kernel) dA_badCore_17 (⟨⟨1, rfl, by omega, by omega⟩, rfl⟩)
set_option maxRecDepth 100000 in
set_option maxHeartbeats 4000000 in
/-- loadOf -/
theorem cA_loadOf (l : Launch) (D : va_G) (h : Nat) (r : Nat → Nat) (cZ cI : ClassId) (S : St_) (k : Int) (hk : 0 ≤ k ∧ k ≤ 2) (hv : vlA_ S) : MI_ l D [(cZ, .boolean), (cI, .int)] (wA_ h r cZ cI) yA_loadOf kA_loadOf 4 (some .int) 0 S [.ref h, .int (iI k)] (fun x S' => x = iI ((ps_dem (cA_ S k) (dA_ S k) (pA_ S) 60 : Nat) : Int) ∧ S' = S) := by
  refine MI_of (by decide) (Nat.le_of_ble_eq_true rfl) ?_
  intro p e s m below meth c A ls hC hI hr hlk hl
  have hl : lv_has ls 4 [(0, .ref h), (1, .int (iI k))] := hl
  have loop : ∀ (n : Nat) (i : Nat) , i ≤ 26 → 26 < i + n → ∀ (ls : Array Slot), lv_has ls 4 [(0, .ref h), (1, .int (iI k)), (2, .int (iI ((ps_sum (lA_f S k) i : Nat) : Int))), (3, .int (iI ((i : Nat) : Int)))] → W p l e (rm_ 0) s m [.ref h, .int (iI k)].toArray below meth c s.heap [] 0 0 (EQ_ D [(cZ, .boolean), (cI, .int)] (wA_ h r cZ cI) S s below [.ref h, .int (iI k)].toArray A (fun x S' => x = iI ((ps_dem (cA_ S k) (dA_ S k) (pA_ S) 60 : Nat) : Int) ∧ S' = S)) (F0 m 4 ls []) := by
    intro n
    induction n with
    | zero => intros; omega
    | succ n ih =>
      intro i  hi hn  ls hl
      refine rr_iload_n hC dA_loadOf_4 hl rfl 3 rfl ?_
      refine rr_bipush (v := ((26 : Nat) : Int)) hC dA_loadOf_5 (by decide) ?_
      refine rr_icmp_ge hC 47 dA_loadOf_7 (by decide) (by omega) (by omega) (fun c1 => ?_) (fun c1 => ?_)
      · refine rr_iload_n hC dA_loadOf_47 hl rfl 2 rfl ?_
        exact rr_iret hC (wA_ h r cZ cI) hI hr hlk dA_loadOf_48 (⟨by rw [show i = 26 by omega, load_A hv hk.1], rfl⟩)
      · obtain ⟨v1, v2, v3⟩ := hv.2.1 i (by omega)
        refine rr_aload_n hC dA_loadOf_10 hl rfl 0 rfl ?_
        refine rA_get hC hI 4 (by decide) lA_4 rfl dA_loadOf_11 ?_
        refine rr_iload_n hC dA_loadOf_14 hl rfl 3 rfl ?_
        refine rr_iald hC hI 3 1 rfl rfl (by decide) (by omega) dA_loadOf_15 ?_
        refine rr_iload_n hC dA_loadOf_16 hl rfl 1 rfl ?_
        refine rr_icmp_ne hC 41 dA_loadOf_17 (by decide) (by omega) (by omega) (fun c2 => ?_) (fun c2 => ?_)
        · rw [lA_skip c2] at hl
          refine rr_iinc (v := ((i + 1 : Nat) : Int)) (lv' := [(3, .int (iI ((i + 1 : Nat) : Int))), (0, .ref h), (1, .int (iI k)), (2, .int (iI ((ps_sum (lA_f S k) (i + 1) : Nat) : Int)))]) hC dA_loadOf_41 hl 3 rfl (by omega) (by decide) rfl (fun ls hl => ?_)
          refine rr_goto hC 4 dA_loadOf_44 (by decide) ?_
          exact ih (i + 1) (by omega) (by omega) ls (lv_sub hl [1, 2, 3, 0] rfl)
        · obtain ⟨v4, v5, v6, v7, v8, v9⟩ := v3 (by omega)
          refine rr_iload_n hC dA_loadOf_20 hl rfl 2 rfl ?_
          refine rr_aload_n hC dA_loadOf_21 hl rfl 0 rfl ?_
          refine rA_get hC hI 5 (by decide) lA_5 rfl dA_loadOf_22 ?_
          refine rr_iload_n hC dA_loadOf_25 hl rfl 3 rfl ?_
          refine rr_iald hC hI 4 1 rfl rfl (by decide) (by omega) dA_loadOf_26 ?_
          refine rr_bipush (v := ((60 : Nat) : Int)) hC dA_loadOf_27 (by decide) ?_
          refine rr_aload_n hC dA_loadOf_29 hl rfl 0 rfl ?_
          refine rA_get hC hI 3 (by decide) lA_3 rfl dA_loadOf_30 ?_
          refine rr_iload_n hC dA_loadOf_33 hl rfl 3 rfl ?_
          refine rr_iconst (v := ((2 : Nat) : Int)) hC dA_loadOf_34 rfl ?_
          refine rr_idiv hC dA_loadOf_35 (by omega) (by omega) ?_
          refine rr_top (y := ((i / 2 : Nat) : Int)) (by omega) ?_
          refine rr_iald hC hI 2 1 rfl rfl (by decide) (by omega) dA_loadOf_36 ?_
          refine rr_idiv hC dA_loadOf_37 (by omega) (by omega) ?_
          refine rr_imul hC dA_loadOf_38 ?_
          refine rr_iadd hC dA_loadOf_39 ?_
          refine rr_istore_n (lv' := [(2, .int (iI (((ps_sum (lA_f S k) i : Nat) : Int) + ((S 5 i) * (((60 : Nat) : Int) / (S 3 (i / 2))))))), (0, .ref h), (1, .int (iI k)), (3, .int (iI ((i : Nat) : Int)))]) hC dA_loadOf_40 hl rfl (by decide) rfl (fun ls hl => ?_)
          rw [lA_step hv hk.1 (by omega) (by omega)] at hl
          refine rr_iinc (v := ((i + 1 : Nat) : Int)) (lv' := [(3, .int (iI ((i + 1 : Nat) : Int))), (2, .int (iI ((ps_sum (lA_f S k) (i + 1) : Nat) : Int))), (0, .ref h), (1, .int (iI k))]) hC dA_loadOf_41 hl 3 rfl (by omega) (by decide) rfl (fun ls hl => ?_)
          refine rr_goto hC 4 dA_loadOf_44 (by decide) ?_
          exact ih (i + 1) (by omega) (by omega) ls (lv_sub hl [2, 3, 1, 0] rfl)
  refine rr_iconst (v := ((0 : Nat) : Int)) hC dA_loadOf_0 rfl ?_
  refine rr_istore_n (lv' := [(2, .int (iI ((0 : Nat) : Int))), (0, .ref h), (1, .int (iI k))]) hC dA_loadOf_1 hl rfl (by decide) rfl (fun ls hl => ?_)
  refine rr_iconst (v := ((0 : Nat) : Int)) hC dA_loadOf_2 rfl ?_
  refine rr_istore_n (lv' := [(3, .int (iI ((0 : Nat) : Int))), (2, .int (iI ((0 : Nat) : Int))), (0, .ref h), (1, .int (iI k))]) hC dA_loadOf_3 hl rfl (by decide) rfl (fun ls hl => ?_)
  exact loop 27 0 (by omega) (by omega) ls (lv_sub hl [2, 3, 1, 0] rfl)
set_option maxRecDepth 100000 in
set_option maxHeartbeats 4000000 in
/-- demand -/
theorem cA_demand (l : Launch) (D : va_G) (h : Nat) (r : Nat → Nat) (cZ cI : ClassId) (S : St_) (k : Int) (t : Nat) (hk : 0 ≤ k ∧ k ≤ 2) (ht : t ≤ 60) (hv : vlA_ S) : MI_ l D [(cZ, .boolean), (cI, .int)] (wA_ h r cZ cI) yA_demand kA_demand 5 (some .int) 0 S [.ref h, .int (iI k), .int (iI ((t : Nat) : Int))] (fun x S' => x = iI ((ps_dem (cA_ S k) (dA_ S k) (pA_ S) t : Nat) : Int) ∧ S' = S) := by
  refine MI_of (by decide) (Nat.le_of_ble_eq_true rfl) ?_
  intro p e s m below meth c A ls hC hI hr hlk hl
  have hl : lv_has ls 5 [(0, .ref h), (1, .int (iI k)), (2, .int (iI ((t : Nat) : Int)))] := hl
  have loop : ∀ (n : Nat) (i : Nat) , i ≤ 26 → 26 < i + n → ∀ (ls : Array Slot), lv_has ls 5 [(0, .ref h), (1, .int (iI k)), (2, .int (iI ((t : Nat) : Int))), (3, .int (iI ((ps_sum (xA_f S k t) i : Nat) : Int))), (4, .int (iI ((i : Nat) : Int)))] → W p l e (rm_ 0) s m [.ref h, .int (iI k), .int (iI ((t : Nat) : Int))].toArray below meth c s.heap [] 0 0 (EQ_ D [(cZ, .boolean), (cI, .int)] (wA_ h r cZ cI) S s below [.ref h, .int (iI k), .int (iI ((t : Nat) : Int))].toArray A (fun x S' => x = iI ((ps_dem (cA_ S k) (dA_ S k) (pA_ S) t : Nat) : Int) ∧ S' = S)) (F0 m 5 ls []) := by
    intro n
    induction n with
    | zero => intros; omega
    | succ n ih =>
      intro i  hi hn  ls hl
      refine rr_iload hC dA_demand_5 hl 4 rfl ?_
      refine rr_bipush (v := ((26 : Nat) : Int)) hC dA_demand_7 (by decide) ?_
      refine rr_icmp_ge hC 72 dA_demand_9 (by decide) (by omega) (by omega) (fun c1 => ?_) (fun c1 => ?_)
      · refine rr_iload_n hC dA_demand_72 hl rfl 3 rfl ?_
        exact rr_iret hC (wA_ h r cZ cI) hI hr hlk dA_demand_73 (⟨by rw [show i = 26 by omega, dem_A hv hk.1], rfl⟩)
      · obtain ⟨v1, v2, v3⟩ := hv.2.1 i (by omega)
        refine rr_aload_n hC dA_demand_12 hl rfl 0 rfl ?_
        refine rA_get hC hI 4 (by decide) lA_4 rfl dA_demand_13 ?_
        refine rr_iload hC dA_demand_16 hl 4 rfl ?_
        refine rr_iald hC hI 3 1 rfl rfl (by decide) (by omega) dA_demand_18 ?_
        refine rr_iload_n hC dA_demand_19 hl rfl 1 rfl ?_
        refine rr_icmp_ne hC 66 dA_demand_20 (by decide) (by omega) (by omega) (fun c2 => ?_) (fun c2 => ?_)
        · rw [xA_skip (fun _ => by omega) (fun z => by omega)] at hl
          refine rr_iinc (v := ((i + 1 : Nat) : Int)) (lv' := [(4, .int (iI ((i + 1 : Nat) : Int))), (0, .ref h), (1, .int (iI k)), (2, .int (iI ((t : Nat) : Int))), (3, .int (iI ((ps_sum (xA_f S k t) (i + 1) : Nat) : Int)))]) hC dA_demand_66 hl 4 rfl (by omega) (by decide) rfl (fun ls hl => ?_)
          refine rr_goto hC 5 dA_demand_69 (by decide) ?_
          exact ih (i + 1) (by omega) (by omega) ls (lv_sub hl [1, 2, 3, 4, 0] rfl)
        · obtain ⟨v4, v5, v6, v7, v8, v9⟩ := v3 (by omega)
          refine rr_iload_n hC dA_demand_23 hl rfl 2 rfl ?_
          refine rr_aload_n hC dA_demand_24 hl rfl 0 rfl ?_
          refine rA_get hC hI 6 (by decide) lA_6 rfl dA_demand_25 ?_
          refine rr_iload hC dA_demand_28 hl 4 rfl ?_
          refine rr_iald hC hI 5 1 rfl rfl (by decide) (by omega) dA_demand_30 ?_
          refine rr_icmp_lt hC 66 dA_demand_31 (by decide) (by omega) (by omega) (fun c3 => ?_) (fun c3 => ?_)
          · rw [xA_skip (fun _ => by omega) (fun z => by omega)] at hl
            refine rr_iinc (v := ((i + 1 : Nat) : Int)) (lv' := [(4, .int (iI ((i + 1 : Nat) : Int))), (0, .ref h), (1, .int (iI k)), (2, .int (iI ((t : Nat) : Int))), (3, .int (iI ((ps_sum (xA_f S k t) (i + 1) : Nat) : Int)))]) hC dA_demand_66 hl 4 rfl (by omega) (by decide) rfl (fun ls hl => ?_)
            refine rr_goto hC 5 dA_demand_69 (by decide) ?_
            exact ih (i + 1) (by omega) (by omega) ls (lv_sub hl [1, 2, 3, 4, 0] rfl)
          · refine rr_iload_n hC dA_demand_34 hl rfl 3 rfl ?_
            refine rr_iload_n hC dA_demand_35 hl rfl 2 rfl ?_
            refine rr_aload_n hC dA_demand_36 hl rfl 0 rfl ?_
            refine rA_get hC hI 6 (by decide) lA_6 rfl dA_demand_37 ?_
            refine rr_iload hC dA_demand_40 hl 4 rfl ?_
            refine rr_iald hC hI 5 1 rfl rfl (by decide) (by omega) dA_demand_42 ?_
            refine rr_isub hC dA_demand_43 ?_
            refine rr_aload_n hC dA_demand_44 hl rfl 0 rfl ?_
            refine rA_get hC hI 3 (by decide) lA_3 rfl dA_demand_45 ?_
            refine rr_iload hC dA_demand_48 hl 4 rfl ?_
            refine rr_iconst (v := ((2 : Nat) : Int)) hC dA_demand_50 rfl ?_
            refine rr_idiv hC dA_demand_51 (by omega) (by omega) ?_
            refine rr_top (y := ((i / 2 : Nat) : Int)) (by omega) ?_
            refine rr_iald hC hI 2 1 rfl rfl (by decide) (by omega) dA_demand_52 ?_
            refine rr_idiv hC dA_demand_53 (by omega) (by omega) ?_
            refine rr_iconst (v := ((1 : Nat) : Int)) hC dA_demand_54 rfl ?_
            refine rr_iadd hC dA_demand_55 ?_
            refine rr_aload_n hC dA_demand_56 hl rfl 0 rfl ?_
            refine rA_get hC hI 5 (by decide) lA_5 rfl dA_demand_57 ?_
            refine rr_iload hC dA_demand_60 hl 4 rfl ?_
            refine rr_iald hC hI 4 1 rfl rfl (by decide) (by omega) dA_demand_62 ?_
            refine rr_imul hC dA_demand_63 ?_
            refine rr_iadd hC dA_demand_64 ?_
            refine rr_istore_n (lv' := [(3, .int (iI (((ps_sum (xA_f S k t) i : Nat) : Int) + ((((((t : Nat) : Int) - (S 6 i)) / (S 3 (i / 2))) + ((1 : Nat) : Int)) * (S 5 i))))), (0, .ref h), (1, .int (iI k)), (2, .int (iI ((t : Nat) : Int))), (4, .int (iI ((i : Nat) : Int)))]) hC dA_demand_65 hl rfl (by decide) rfl (fun ls hl => ?_)
            rw [xA_step hv hk.1 (by omega) (by omega) (by omega)] at hl
            refine rr_iinc (v := ((i + 1 : Nat) : Int)) (lv' := [(4, .int (iI ((i + 1 : Nat) : Int))), (3, .int (iI ((ps_sum (xA_f S k t) (i + 1) : Nat) : Int))), (0, .ref h), (1, .int (iI k)), (2, .int (iI ((t : Nat) : Int)))]) hC dA_demand_66 hl 4 rfl (by omega) (by decide) rfl (fun ls hl => ?_)
            refine rr_goto hC 5 dA_demand_69 (by decide) ?_
            exact ih (i + 1) (by omega) (by omega) ls (lv_sub hl [2, 3, 4, 1, 0] rfl)
  refine rr_iconst (v := ((0 : Nat) : Int)) hC dA_demand_0 rfl ?_
  refine rr_istore_n (lv' := [(3, .int (iI ((0 : Nat) : Int))), (0, .ref h), (1, .int (iI k)), (2, .int (iI ((t : Nat) : Int)))]) hC dA_demand_1 hl rfl (by decide) rfl (fun ls hl => ?_)
  refine rr_iconst (v := ((0 : Nat) : Int)) hC dA_demand_2 rfl ?_
  refine rr_istore (lv' := [(4, .int (iI ((0 : Nat) : Int))), (3, .int (iI ((0 : Nat) : Int))), (0, .ref h), (1, .int (iI k)), (2, .int (iI ((t : Nat) : Int)))]) hC dA_demand_3 hl (by decide) rfl (fun ls hl => ?_)
  exact loop 27 0 (by omega) (by omega) ls (lv_sub hl [2, 3, 4, 1, 0] rfl)
set_option maxRecDepth 100000 in
set_option maxHeartbeats 4000000 in
/-- leastDeadline -/
theorem cA_leastDeadline (l : Launch) (D : va_G) (h : Nat) (r : Nat → Nat) (cZ cI : ClassId) (S : St_) (k : Int) (hk : 0 ≤ k ∧ k ≤ 2) (hv : vlA_ S) : MI_ l D [(cZ, .boolean), (cI, .int)] (wA_ h r cZ cI) yA_leastDeadline kA_leastDeadline 4 (some .int) 0 S [.ref h, .int (iI k)] (fun x S' => (∃ u : Int, x = iI u ∧ 0 ≤ u ∧ u ≤ 60 ∧ ∀ i, i < 26 → S 4 i = k → u ≤ S 6 i) ∧ S' = S) := by
  refine MI_of (by decide) (Nat.le_of_ble_eq_true rfl) ?_
  intro p e s m below meth c A ls hC hI hr hlk hl
  have hl : lv_has ls 4 [(0, .ref h), (1, .int (iI k))] := hl
  have loop : ∀ (n : Nat) (i : Nat) (u : Int) , i ≤ 26 → 26 < i + n → 0 ≤ u → u ≤ 60 → (∀ j, j < i → S 4 j = k → u ≤ S 6 j) → ∀ (ls : Array Slot), lv_has ls 4 [(0, .ref h), (1, .int (iI k)), (2, .int (iI u)), (3, .int (iI ((i : Nat) : Int)))] → W p l e (rm_ 0) s m [.ref h, .int (iI k)].toArray below meth c s.heap [] 0 0 (EQ_ D [(cZ, .boolean), (cI, .int)] (wA_ h r cZ cI) S s below [.ref h, .int (iI k)].toArray A (fun x S' => (∃ u : Int, x = iI u ∧ 0 ≤ u ∧ u ≤ 60 ∧ ∀ i, i < 26 → S 4 i = k → u ≤ S 6 i) ∧ S' = S)) (F0 m 5 ls []) := by
    intro n
    induction n with
    | zero => intros; omega
    | succ n ih =>
      intro i u  hi hn hu0 hu1 hu  ls hl
      refine rr_iload_n hC dA_leastDeadline_5 hl rfl 3 rfl ?_
      refine rr_bipush (v := ((26 : Nat) : Int)) hC dA_leastDeadline_6 (by decide) ?_
      refine rr_icmp_ge hC 44 dA_leastDeadline_8 (by decide) (by omega) (by omega) (fun c1 => ?_) (fun c1 => ?_)
      · refine rr_iload_n hC dA_leastDeadline_44 hl rfl 2 rfl ?_
        exact rr_iret hC (wA_ h r cZ cI) hI hr hlk dA_leastDeadline_45 (⟨⟨u, rfl, by omega, by omega, fun j hj => hu j (by omega)⟩, rfl⟩)
      · obtain ⟨v1, v2, v3⟩ := hv.2.1 i (by omega)
        refine rr_aload_n hC dA_leastDeadline_11 hl rfl 0 rfl ?_
        refine rA_get hC hI 4 (by decide) lA_4 rfl dA_leastDeadline_12 ?_
        refine rr_iload_n hC dA_leastDeadline_15 hl rfl 3 rfl ?_
        refine rr_iald hC hI 3 1 rfl rfl (by decide) (by omega) dA_leastDeadline_16 ?_
        refine rr_iload_n hC dA_leastDeadline_17 hl rfl 1 rfl ?_
        refine rr_icmp_ne hC 38 dA_leastDeadline_18 (by decide) (by omega) (by omega) (fun c2 => ?_) (fun c2 => ?_)
        · have hu2 : ∀ j, j < i + 1 → S 4 j = k → u ≤ S 6 j := fun j hj he => by
            by_cases z : j = i
            · subst z; omega
            · have := hu j (by omega) he; omega
          refine rr_iinc (v := ((i + 1 : Nat) : Int)) (lv' := [(3, .int (iI ((i + 1 : Nat) : Int))), (0, .ref h), (1, .int (iI k)), (2, .int (iI u))]) hC dA_leastDeadline_38 hl 3 rfl (by omega) (by decide) rfl (fun ls hl => ?_)
          refine rr_goto hC 5 dA_leastDeadline_41 (by decide) ?_
          exact ih (i + 1) u (by omega) (by omega) (by omega) (by omega) hu2 ls (lv_sub hl [1, 2, 3, 0] rfl)
        · obtain ⟨v4, v5, v6, v7, v8, v9⟩ := v3 (by omega)
          refine rr_aload_n hC dA_leastDeadline_21 hl rfl 0 rfl ?_
          refine rA_get hC hI 6 (by decide) lA_6 rfl dA_leastDeadline_22 ?_
          refine rr_iload_n hC dA_leastDeadline_25 hl rfl 3 rfl ?_
          refine rr_iald hC hI 5 1 rfl rfl (by decide) (by omega) dA_leastDeadline_26 ?_
          refine rr_iload_n hC dA_leastDeadline_27 hl rfl 2 rfl ?_
          refine rr_icmp_ge hC 38 dA_leastDeadline_28 (by decide) (by omega) (by omega) (fun c3 => ?_) (fun c3 => ?_)
          · have hu2 : ∀ j, j < i + 1 → S 4 j = k → u ≤ S 6 j := fun j hj he => by
              by_cases z : j = i
              · subst z; omega
              · have := hu j (by omega) he; omega
            refine rr_iinc (v := ((i + 1 : Nat) : Int)) (lv' := [(3, .int (iI ((i + 1 : Nat) : Int))), (0, .ref h), (1, .int (iI k)), (2, .int (iI u))]) hC dA_leastDeadline_38 hl 3 rfl (by omega) (by decide) rfl (fun ls hl => ?_)
            refine rr_goto hC 5 dA_leastDeadline_41 (by decide) ?_
            exact ih (i + 1) u (by omega) (by omega) (by omega) (by omega) hu2 ls (lv_sub hl [1, 2, 3, 0] rfl)
          · refine rr_aload_n hC dA_leastDeadline_31 hl rfl 0 rfl ?_
            refine rA_get hC hI 6 (by decide) lA_6 rfl dA_leastDeadline_32 ?_
            refine rr_iload_n hC dA_leastDeadline_35 hl rfl 3 rfl ?_
            refine rr_iald hC hI 5 1 rfl rfl (by decide) (by omega) dA_leastDeadline_36 ?_
            refine rr_istore_n (lv' := [(2, .int (iI (S 6 i))), (0, .ref h), (1, .int (iI k)), (3, .int (iI ((i : Nat) : Int)))]) hC dA_leastDeadline_37 hl rfl (by decide) rfl (fun ls hl => ?_)
            have hu2 : ∀ j, j < i + 1 → S 4 j = k → S 6 i ≤ S 6 j := fun j hj he => by
              by_cases z : j = i
              · subst z; omega
              · have := hu j (by omega) he; omega
            refine rr_iinc (v := ((i + 1 : Nat) : Int)) (lv' := [(3, .int (iI ((i + 1 : Nat) : Int))), (2, .int (iI (S 6 i))), (0, .ref h), (1, .int (iI k))]) hC dA_leastDeadline_38 hl 3 rfl (by omega) (by decide) rfl (fun ls hl => ?_)
            refine rr_goto hC 5 dA_leastDeadline_41 (by decide) ?_
            exact ih (i + 1) (S 6 i) (by omega) (by omega) (by omega) (by omega) hu2 ls (lv_sub hl [2, 3, 1, 0] rfl)
  refine rr_bipush (v := ((60 : Nat) : Int)) hC dA_leastDeadline_0 (by decide) ?_
  refine rr_istore_n (lv' := [(2, .int (iI ((60 : Nat) : Int))), (0, .ref h), (1, .int (iI k))]) hC dA_leastDeadline_2 hl rfl (by decide) rfl (fun ls hl => ?_)
  refine rr_iconst (v := ((0 : Nat) : Int)) hC dA_leastDeadline_3 rfl ?_
  refine rr_istore_n (lv' := [(3, .int (iI ((0 : Nat) : Int))), (2, .int (iI ((60 : Nat) : Int))), (0, .ref h), (1, .int (iI k))]) hC dA_leastDeadline_4 hl rfl (by decide) rfl (fun ls hl => ?_)
  exact loop 27 0 60 (by omega) (by omega) (by omega) (by omega) (fun j hj => absurd hj (Nat.not_lt_zero j)) ls (lv_sub hl [2, 3, 1, 0] rfl)
set_option maxRecDepth 100000 in
set_option maxHeartbeats 4000000 in
/-- deadlineBefore -/
theorem cA_deadlineBefore (l : Launch) (D : va_G) (h : Nat) (r : Nat → Nat) (cZ cI : ClassId) (S : St_) (k : Int) (t : Nat) (hk : 0 ≤ k ∧ k ≤ 2) (ht : 1 ≤ t ∧ t ≤ 60) (hv : vlA_ S) : MI_ l D [(cZ, .boolean), (cI, .int)] (wA_ h r cZ cI) yA_deadlineBefore kA_deadlineBefore 6 (some .int) 0 S [.ref h, .int (iI k), .int (iI ((t : Nat) : Int))] (fun x S' => (∃ u : Int, x = iI u ∧ 0 ≤ u ∧ u < (t : Int) ∧ ∀ i, i < 26 → S 4 i = k → S 6 i < (t : Int) → S 6 i + (((t : Nat) : Int) - 1 - S 6 i) / S 3 (i / 2) * S 3 (i / 2) ≤ u) ∧ S' = S) := by
  refine MI_of (by decide) (Nat.le_of_ble_eq_true rfl) ?_
  intro p e s m below meth c A ls hC hI hr hlk hl
  have hl : lv_has ls 6 [(0, .ref h), (1, .int (iI k)), (2, .int (iI ((t : Nat) : Int)))] := hl
  have loop : ∀ (n : Nat) (i : Nat) (u : Int) , i ≤ 26 → 26 < i + n → 0 ≤ u → u < (t : Int) → (∀ j, j < i → S 4 j = k → S 6 j < (t : Int) → S 6 j + (((t : Nat) : Int) - 1 - S 6 j) / S 3 (j / 2) * S 3 (j / 2) ≤ u) → ∀ (ls : Array Slot), lv_has ls 6 [(0, .ref h), (1, .int (iI k)), (2, .int (iI ((t : Nat) : Int))), (3, .int (iI u)), (4, .int (iI ((i : Nat) : Int)))] → W p l e (rm_ 0) s m [.ref h, .int (iI k), .int (iI ((t : Nat) : Int))].toArray below meth c s.heap [] 0 0 (EQ_ D [(cZ, .boolean), (cI, .int)] (wA_ h r cZ cI) S s below [.ref h, .int (iI k), .int (iI ((t : Nat) : Int))].toArray A (fun x S' => (∃ u : Int, x = iI u ∧ 0 ≤ u ∧ u < (t : Int) ∧ ∀ i, i < 26 → S 4 i = k → S 6 i < (t : Int) → S 6 i + (((t : Nat) : Int) - 1 - S 6 i) / S 3 (i / 2) * S 3 (i / 2) ≤ u) ∧ S' = S)) (F0 m 5 ls []) := by
    intro n
    induction n with
    | zero => intros; omega
    | succ n ih =>
      intro i u  hi hn hu0 hu1 hu  ls hl
      refine rr_iload hC dA_deadlineBefore_5 hl 4 rfl ?_
      refine rr_bipush (v := ((26 : Nat) : Int)) hC dA_deadlineBefore_7 (by decide) ?_
      refine rr_icmp_ge hC 90 dA_deadlineBefore_9 (by decide) (by omega) (by omega) (fun c1 => ?_) (fun c1 => ?_)
      · refine rr_iload_n hC dA_deadlineBefore_90 hl rfl 3 rfl ?_
        exact rr_iret hC (wA_ h r cZ cI) hI hr hlk dA_deadlineBefore_91 (⟨⟨u, rfl, by omega, by omega, fun j hj => hu j (by omega)⟩, rfl⟩)
      · obtain ⟨v1, v2, v3⟩ := hv.2.1 i (by omega)
        refine rr_aload_n hC dA_deadlineBefore_12 hl rfl 0 rfl ?_
        refine rA_get hC hI 4 (by decide) lA_4 rfl dA_deadlineBefore_13 ?_
        refine rr_iload hC dA_deadlineBefore_16 hl 4 rfl ?_
        refine rr_iald hC hI 3 1 rfl rfl (by decide) (by omega) dA_deadlineBefore_18 ?_
        refine rr_iload_n hC dA_deadlineBefore_19 hl rfl 1 rfl ?_
        refine rr_icmp_ne hC 84 dA_deadlineBefore_20 (by decide) (by omega) (by omega) (fun c2 => ?_) (fun c2 => ?_)
        · have hu2 : ∀ j, j < i + 1 → S 4 j = k → S 6 j < (t : Int) → S 6 j + (((t : Nat) : Int) - 1 - S 6 j) / S 3 (j / 2) * S 3 (j / 2) ≤ u := fun j hj he hd => by
            by_cases z : j = i
            · subst z; omega
            · have := hu j (by omega) he hd; omega
          refine rr_iinc (v := ((i + 1 : Nat) : Int)) (lv' := [(4, .int (iI ((i + 1 : Nat) : Int))), (0, .ref h), (1, .int (iI k)), (2, .int (iI ((t : Nat) : Int))), (3, .int (iI u))]) hC dA_deadlineBefore_84 hl 4 rfl (by omega) (by decide) rfl (fun ls hl => ?_)
          refine rr_goto hC 5 dA_deadlineBefore_87 (by decide) ?_
          exact ih (i + 1) u (by omega) (by omega) (by omega) (by omega) hu2 ls (lv_sub hl [1, 2, 3, 4, 0] rfl)
        · obtain ⟨v4, v5, v6, v7, v8, v9⟩ := v3 (by omega)
          refine rr_aload_n hC dA_deadlineBefore_23 hl rfl 0 rfl ?_
          refine rA_get hC hI 6 (by decide) lA_6 rfl dA_deadlineBefore_24 ?_
          refine rr_iload hC dA_deadlineBefore_27 hl 4 rfl ?_
          refine rr_iald hC hI 5 1 rfl rfl (by decide) (by omega) dA_deadlineBefore_29 ?_
          refine rr_iload_n hC dA_deadlineBefore_30 hl rfl 2 rfl ?_
          refine rr_icmp_ge hC 84 dA_deadlineBefore_31 (by decide) (by omega) (by omega) (fun c3 => ?_) (fun c3 => ?_)
          · have hu2 : ∀ j, j < i + 1 → S 4 j = k → S 6 j < (t : Int) → S 6 j + (((t : Nat) : Int) - 1 - S 6 j) / S 3 (j / 2) * S 3 (j / 2) ≤ u := fun j hj he hd => by
              by_cases z : j = i
              · subst z; omega
              · have := hu j (by omega) he hd; omega
            refine rr_iinc (v := ((i + 1 : Nat) : Int)) (lv' := [(4, .int (iI ((i + 1 : Nat) : Int))), (0, .ref h), (1, .int (iI k)), (2, .int (iI ((t : Nat) : Int))), (3, .int (iI u))]) hC dA_deadlineBefore_84 hl 4 rfl (by omega) (by decide) rfl (fun ls hl => ?_)
            refine rr_goto hC 5 dA_deadlineBefore_87 (by decide) ?_
            exact ih (i + 1) u (by omega) (by omega) (by omega) (by omega) hu2 ls (lv_sub hl [1, 2, 3, 4, 0] rfl)
          · refine rr_aload_n hC dA_deadlineBefore_34 hl rfl 0 rfl ?_
            refine rA_get hC hI 6 (by decide) lA_6 rfl dA_deadlineBefore_35 ?_
            refine rr_iload hC dA_deadlineBefore_38 hl 4 rfl ?_
            refine rr_iald hC hI 5 1 rfl rfl (by decide) (by omega) dA_deadlineBefore_40 ?_
            refine rr_iload_n hC dA_deadlineBefore_41 hl rfl 2 rfl ?_
            refine rr_iconst (v := ((1 : Nat) : Int)) hC dA_deadlineBefore_42 rfl ?_
            refine rr_isub hC dA_deadlineBefore_43 ?_
            refine rr_aload_n hC dA_deadlineBefore_44 hl rfl 0 rfl ?_
            refine rA_get hC hI 6 (by decide) lA_6 rfl dA_deadlineBefore_45 ?_
            refine rr_iload hC dA_deadlineBefore_48 hl 4 rfl ?_
            refine rr_iald hC hI 5 1 rfl rfl (by decide) (by omega) dA_deadlineBefore_50 ?_
            refine rr_isub hC dA_deadlineBefore_51 ?_
            refine rr_aload_n hC dA_deadlineBefore_52 hl rfl 0 rfl ?_
            refine rA_get hC hI 3 (by decide) lA_3 rfl dA_deadlineBefore_53 ?_
            refine rr_iload hC dA_deadlineBefore_56 hl 4 rfl ?_
            refine rr_iconst (v := ((2 : Nat) : Int)) hC dA_deadlineBefore_58 rfl ?_
            refine rr_idiv hC dA_deadlineBefore_59 (by omega) (by omega) ?_
            refine rr_top (y := ((i / 2 : Nat) : Int)) (by omega) ?_
            refine rr_iald hC hI 2 1 rfl rfl (by decide) (by omega) dA_deadlineBefore_60 ?_
            refine rr_idiv hC dA_deadlineBefore_61 (by omega) (by omega) ?_
            refine rr_aload_n hC dA_deadlineBefore_62 hl rfl 0 rfl ?_
            refine rA_get hC hI 3 (by decide) lA_3 rfl dA_deadlineBefore_63 ?_
            refine rr_iload hC dA_deadlineBefore_66 hl 4 rfl ?_
            refine rr_iconst (v := ((2 : Nat) : Int)) hC dA_deadlineBefore_68 rfl ?_
            refine rr_idiv hC dA_deadlineBefore_69 (by omega) (by omega) ?_
            refine rr_top (y := ((i / 2 : Nat) : Int)) (by omega) ?_
            refine rr_iald hC hI 2 1 rfl rfl (by decide) (by omega) dA_deadlineBefore_70 ?_
            refine rr_imul hC dA_deadlineBefore_71 ?_
            refine rr_iadd hC dA_deadlineBefore_72 ?_
            refine rr_istore (lv' := [(5, .int (iI ((S 6 i) + ((((((t : Nat) : Int) - ((1 : Nat) : Int)) - (S 6 i)) / (S 3 (i / 2))) * (S 3 (i / 2)))))), (0, .ref h), (1, .int (iI k)), (2, .int (iI ((t : Nat) : Int))), (3, .int (iI u)), (4, .int (iI ((i : Nat) : Int)))]) hC dA_deadlineBefore_73 hl (by decide) rfl (fun ls hl => ?_)
            obtain ⟨g1, g2⟩ := bA_last (a := S 6 i) (p := S 3 (i / 2)) (t := ((t : Nat) : Int)) (by omega) (by omega) (by omega)
            have hl : lv_has ls 6 [(5, .int (iI (S 6 i + (((t : Nat) : Int) - 1 - S 6 i) / S 3 (i / 2) * S 3 (i / 2)))), (0, .ref h), (1, .int (iI k)), (2, .int (iI ((t : Nat) : Int))), (3, .int (iI u)), (4, .int (iI ((i : Nat) : Int)))] := hl
            generalize hx5 : S 6 i + (((t : Nat) : Int) - 1 - S 6 i) / S 3 (i / 2) * S 3 (i / 2) = x5 at g1 g2 hl
            refine rr_iload hC dA_deadlineBefore_75 hl 0 rfl ?_
            refine rr_iload_n hC dA_deadlineBefore_77 hl rfl 4 rfl ?_
            refine rr_icmp_le hC 84 dA_deadlineBefore_78 (by decide) (by omega) (by omega) (fun c4 => ?_) (fun c4 => ?_)
            · have hu2 : ∀ j, j < i + 1 → S 4 j = k → S 6 j < (t : Int) → S 6 j + (((t : Nat) : Int) - 1 - S 6 j) / S 3 (j / 2) * S 3 (j / 2) ≤ u := fun j hj he hd => by
                by_cases z : j = i
                · subst z; rw [hx5]; omega
                · have := hu j (by omega) he hd; omega
              refine rr_iinc (v := ((i + 1 : Nat) : Int)) (lv' := [(4, .int (iI ((i + 1 : Nat) : Int))), (5, .int (iI x5)), (0, .ref h), (1, .int (iI k)), (2, .int (iI ((t : Nat) : Int))), (3, .int (iI u))]) hC dA_deadlineBefore_84 hl 5 rfl (by omega) (by decide) rfl (fun ls hl => ?_)
              refine rr_goto hC 5 dA_deadlineBefore_87 (by decide) ?_
              exact ih (i + 1) u (by omega) (by omega) (by omega) (by omega) hu2 ls (lv_sub hl [2, 3, 4, 5, 0] rfl)
            · refine rr_iload hC dA_deadlineBefore_81 hl 0 rfl ?_
              refine rr_istore_n (lv' := [(3, .int (iI x5)), (5, .int (iI x5)), (0, .ref h), (1, .int (iI k)), (2, .int (iI ((t : Nat) : Int))), (4, .int (iI ((i : Nat) : Int)))]) hC dA_deadlineBefore_83 hl rfl (by decide) rfl (fun ls hl => ?_)
              have hu2 : ∀ j, j < i + 1 → S 4 j = k → S 6 j < (t : Int) → S 6 j + (((t : Nat) : Int) - 1 - S 6 j) / S 3 (j / 2) * S 3 (j / 2) ≤ x5 := fun j hj he hd => by
                by_cases z : j = i
                · subst z; rw [hx5]; omega
                · have := hu j (by omega) he hd; omega
              refine rr_iinc (v := ((i + 1 : Nat) : Int)) (lv' := [(4, .int (iI ((i + 1 : Nat) : Int))), (3, .int (iI x5)), (5, .int (iI x5)), (0, .ref h), (1, .int (iI k)), (2, .int (iI ((t : Nat) : Int)))]) hC dA_deadlineBefore_84 hl 5 rfl (by omega) (by decide) rfl (fun ls hl => ?_)
              refine rr_goto hC 5 dA_deadlineBefore_87 (by decide) ?_
              exact ih (i + 1) x5 (by omega) (by omega) (by omega) (by omega) hu2 ls (lv_sub hl [3, 4, 5, 1, 0] rfl)
  refine rr_iconst (v := ((0 : Nat) : Int)) hC dA_deadlineBefore_0 rfl ?_
  refine rr_istore_n (lv' := [(3, .int (iI ((0 : Nat) : Int))), (0, .ref h), (1, .int (iI k)), (2, .int (iI ((t : Nat) : Int)))]) hC dA_deadlineBefore_1 hl rfl (by decide) rfl (fun ls hl => ?_)
  refine rr_iconst (v := ((0 : Nat) : Int)) hC dA_deadlineBefore_2 rfl ?_
  refine rr_istore (lv' := [(4, .int (iI ((0 : Nat) : Int))), (3, .int (iI ((0 : Nat) : Int))), (0, .ref h), (1, .int (iI k)), (2, .int (iI ((t : Nat) : Int)))]) hC dA_deadlineBefore_3 hl (by decide) rfl (fun ls hl => ?_)
  exact loop 27 0 0 (by omega) (by omega) (by omega) (by omega) (fun j hj => absurd hj (Nat.not_lt_zero j)) ls (lv_sub hl [2, 3, 4, 1, 0] rfl)
set_option maxRecDepth 100000 in
set_option maxHeartbeats 4000000 in
/-- freeId -/
theorem cA_freeId (l : Launch) (D : va_G) (h : Nat) (r : Nat → Nat) (cZ cI : ClassId) (S : St_)  (hu : ∀ i, i < 13 → S 2 i = 0 ∨ S 2 i = 1) : MI_ l D [(cZ, .boolean), (cI, .int)] (wA_ h r cZ cI) yA_freeId kA_freeId 2 (some .int) 0 S [.ref h] (fun x S' => (∃ i : Nat, x = iI (i : Int) ∧ i ≤ 12 ∧ (∀ j, j < i → S 2 j = 1) ∧ (i < 12 → S 2 i = 0)) ∧ S' = S) := by
  refine MI_of (by decide) (Nat.le_of_ble_eq_true rfl) ?_
  intro p e s m below meth c A ls hC hI hr hlk hl
  have hl : lv_has ls 2 [(0, .ref h)] := hl
  have loop : ∀ (n : Nat) (i : Nat) , i ≤ 12 → 12 < i + n → (∀ j, j < i → S 2 j = 1) → ∀ (ls : Array Slot), lv_has ls 2 [(0, .ref h), (1, .int (iI ((i : Nat) : Int)))] → W p l e (rm_ 0) s m [.ref h].toArray below meth c s.heap [] 0 0 (EQ_ D [(cZ, .boolean), (cI, .int)] (wA_ h r cZ cI) S s below [.ref h].toArray A (fun x S' => (∃ i : Nat, x = iI (i : Int) ∧ i ≤ 12 ∧ (∀ j, j < i → S 2 j = 1) ∧ (i < 12 → S 2 i = 0)) ∧ S' = S)) (F0 m 2 ls []) := by
    intro n
    induction n with
    | zero => intros; omega
    | succ n ih =>
      intro i  hi hn hf  ls hl
      refine rr_iload_n hC dA_freeId_2 hl rfl 1 rfl ?_
      refine rr_bipush (v := ((12 : Nat) : Int)) hC dA_freeId_3 (by decide) ?_
      refine rr_icmp_ge hC 23 dA_freeId_5 (by decide) (by omega) (by omega) (fun c1 => ?_) (fun c1 => ?_)
      · refine rr_iload_n hC dA_freeId_23 hl rfl 1 rfl ?_
        exact rr_iret hC (wA_ h r cZ cI) hI hr hlk dA_freeId_24 (⟨⟨i, rfl, by omega, hf, fun _ => by omega⟩, rfl⟩)
      · have hu1 := hu i (by omega)
        refine rr_aload_n hC dA_freeId_8 hl rfl 0 rfl ?_
        refine rA_get hC hI 2 (by decide) lA_2 rfl dA_freeId_9 ?_
        refine rr_iload_n hC dA_freeId_12 hl rfl 1 rfl ?_
        refine rr_zald hC hI 1 0 rfl rfl (by decide) (by omega) dA_freeId_13 ?_
        refine rr_if_eq hC 23 dA_freeId_14 (by decide) (by omega) (fun c2 => ?_) (fun c2 => ?_)
        · refine rr_iload_n hC dA_freeId_23 hl rfl 1 rfl ?_
          exact rr_iret hC (wA_ h r cZ cI) hI hr hlk dA_freeId_24 (⟨⟨i, rfl, by omega, hf, fun _ => by omega⟩, rfl⟩)
        · refine rr_iinc (v := ((i + 1 : Nat) : Int)) (lv' := [(1, .int (iI ((i + 1 : Nat) : Int))), (0, .ref h)]) hC dA_freeId_17 hl 1 rfl (by omega) (by decide) rfl (fun ls hl => ?_)
          refine rr_goto hC 2 dA_freeId_20 (by decide) ?_
          exact ih (i + 1) (by omega) (by omega) (fun j hj => by by_cases z : j = i; (subst z; omega); exact hf j (by omega)) ls (lv_sub hl [1, 0] rfl)
  refine rr_iconst (v := ((0 : Nat) : Int)) hC dA_freeId_0 rfl ?_
  refine rr_istore_n (lv' := [(1, .int (iI ((0 : Nat) : Int))), (0, .ref h)]) hC dA_freeId_1 hl rfl (by decide) rfl (fun ls hl => ?_)
  exact loop 13 0 (by omega) (by omega) (fun j hj => absurd hj (Nat.not_lt_zero j)) ls (lv_sub hl [1, 0] rfl)
set_option maxRecDepth 100000 in
set_option maxHeartbeats 4000000 in
/-- setPart -/
theorem cA_setPart (l : Launch) (D : va_G) (h : Nat) (r : Nat → Nat) (cZ cI : ClassId) (S : St_) (i : Nat) (k a d : Int) (hi : i < 26) : MV_ l D [(cZ, .boolean), (cI, .int)] (wA_ h r cZ cI) yA_setPart kA_setPart 5 0 S [.ref h, .int (iI ((i : Nat) : Int)), .int (iI k), .int (iI a), .int (iI d)] (fun S' => S' = sP_ S i k a d) := by
  refine MV_of (by decide) (Nat.le_of_ble_eq_true rfl) ?_
  intro p e s m below meth c A ls hC hI hr hlk hl
  have hl : lv_has ls 5 [(0, .ref h), (1, .int (iI ((i : Nat) : Int))), (2, .int (iI k)), (3, .int (iI a)), (4, .int (iI d))] := hl
  refine rr_aload_n hC dA_setPart_0 hl rfl 0 rfl ?_
  refine rA_get hC hI 4 (by decide) lA_4 rfl dA_setPart_1 ?_
  refine rr_iload_n hC dA_setPart_4 hl rfl 1 rfl ?_
  refine rr_iload_n hC dA_setPart_5 hl rfl 2 rfl ?_
  refine rr_iast hC (wA_ h r cZ cI) hI 4 3 1 rfl rfl (by decide) (by omega) rfl dA_setPart_6 (fun H locs hI => ?_)
  refine rr_aload_n hC dA_setPart_7 hl rfl 0 rfl ?_
  refine rA_get hC hI 5 (by decide) lA_5 rfl dA_setPart_8 ?_
  refine rr_iload_n hC dA_setPart_11 hl rfl 1 rfl ?_
  refine rr_iload_n hC dA_setPart_12 hl rfl 3 rfl ?_
  refine rr_iast hC (wA_ h r cZ cI) hI 5 4 1 rfl rfl (by decide) (by omega) rfl dA_setPart_13 (fun H locs hI => ?_)
  refine rr_aload_n hC dA_setPart_14 hl rfl 0 rfl ?_
  refine rA_get hC hI 6 (by decide) lA_6 rfl dA_setPart_15 ?_
  refine rr_iload_n hC dA_setPart_18 hl rfl 1 rfl ?_
  refine rr_iload hC dA_setPart_19 hl 4 rfl ?_
  refine rr_iast hC (wA_ h r cZ cI) hI 6 5 1 rfl rfl (by decide) (by omega) rfl dA_setPart_21 (fun H locs hI => ?_)
  exact rr_vret hC (wA_ h r cZ cI) hI hr hlk dA_setPart_22 (rfl)
end
section
/-! PURE: placing a task: whole on the first core that takes it, else split with the greatest first part -/
def Gd_ (tk : Int → Int → Int → Prop) (n c d x i : Int) : Prop := tk i x x ∧ ∃ j : Int, 0 ≤ j ∧ j < n ∧ j ≠ i ∧ tk j (c - x) (d - x)
def nW_ (tk : Int → Int → Int → Prop) (n c d : Int) : Prop := ∀ i : Int, 0 ≤ i → i < n → ¬ tk i c d
def nX_ (tk : Int → Int → Int → Prop) (n c d lo : Int) : Prop := ∀ x : Int, lo < x → x < c → ∀ i : Int, 0 ≤ i → i < n → ¬ Gd_ tk n c d x i
def sp_ (tk : Int → Int → Int → Prop) (n c d x i j : Int) : Prop := 0 ≤ i ∧ i < n ∧ 0 ≤ j ∧ j < n ∧ j ≠ i ∧ tk i x x ∧ tk j (c - x) (d - x) ∧ (∀ j' : Int, 0 ≤ j' → j' < j → j' ≠ i → ¬ tk j' (c - x) (d - x)) ∧ ∀ i' : Int, 0 ≤ i' → i' < i → ¬ Gd_ tk n c d x i'
def PL_ (tk : Int → Int → Int → Prop) (n c d x i j : Int) : Prop :=
  (x = c ∧ j = -1 ∧ 0 ≤ i ∧ i < n ∧ tk i c d ∧ ∀ i' : Int, 0 ≤ i' → i' < i → ¬ tk i' c d) ∨
  (nW_ tk n c d ∧ 1 ≤ x ∧ x < c ∧ nX_ tk n c d x ∧ sp_ tk n c d x i j)
def NP_ (tk : Int → Int → Int → Prop) (n c d : Int) : Prop := nW_ tk n c d ∧ nX_ tk n c d 0
theorem sp_gd {tk : Int → Int → Int → Prop} {n c d x i j : Int} (h : sp_ tk n c d x i j) : Gd_ tk n c d x i := ⟨h.2.2.2.2.2.1, j, h.2.2.1, h.2.2.2.1, h.2.2.2.2.1, h.2.2.2.2.2.2.1⟩
theorem PL_NP {tk : Int → Int → Int → Prop} {n c d x i j : Int} (h : PL_ tk n c d x i j) (g : NP_ tk n c d) : False := by
  rcases h with ⟨rfl, -, h1, h2, h3, -⟩ | ⟨-, h1, h2, -, h3⟩
  · exact g.1 i h1 h2 h3
  · exact g.2 x (by omega) h2 i h3.1 h3.2.1 (sp_gd h3)
theorem PL_uniq {tk : Int → Int → Int → Prop} {n c d x i j x' i' j' : Int} (h : PL_ tk n c d x i j) (g : PL_ tk n c d x' i' j') : x = x' ∧ i = i' ∧ j = j' := by
  rcases h with ⟨rfl, rfl, h1, h2, h3, h4⟩ | ⟨h0, h1, h2, h3, h4⟩
  · rcases g with ⟨rfl, rfl, g1, g2, g3, g4⟩ | ⟨g0, -⟩
    · refine ⟨rfl, ?_, rfl⟩
      rcases Int.lt_trichotomy i i' with z | z | z
      · exact absurd h3 (g4 i h1 z)
      · exact z
      · exact absurd g3 (h4 i' g1 z)
    · exact absurd h3 (g0 i h1 h2)
  · rcases g with ⟨rfl, rfl, g1, g2, g3, g4⟩ | ⟨g0, g1, g2, g3, g4⟩
    · exact absurd g3 (h0 i' g1 g2)
    · have ex : x = x' := by
        rcases Int.lt_trichotomy x x' with z | z | z
        · exact absurd (sp_gd g4) (h3 x' z g2 i' g4.1 g4.2.1)
        · exact z
        · exact absurd (sp_gd h4) (g3 x z h2 i h4.1 h4.2.1)
      subst ex
      obtain ⟨a1, a2, a3, a4, a5, a6, a7, a8, a9⟩ := id h4
      obtain ⟨b1, b2, b3, b4, b5, b6, b7, b8, b9⟩ := id g4
      have ei : i = i' := by
        rcases Int.lt_trichotomy i i' with z | z | z
        · exact absurd (sp_gd h4) (b9 i a1 z)
        · exact z
        · exact absurd (sp_gd g4) (a9 i' b1 z)
      subst ei
      refine ⟨rfl, rfl, ?_⟩
      rcases Int.lt_trichotomy j j' with z | z | z
      · exact absurd a7 (b8 j a3 z a5)
      · exact z
      · exact absurd b7 (a8 j' b3 z b5)
theorem Gd_congr {tk tk' : Int → Int → Int → Prop} {n c d : Int} (h : ∀ k a b : Int, 0 ≤ k → k < n → (tk k a b ↔ tk' k a b)) {x i : Int} (h0 : 0 ≤ i) (h1 : i < n) : Gd_ tk n c d x i ↔ Gd_ tk' n c d x i := by
  unfold Gd_
  constructor
  · rintro ⟨a, j, j0, j1, j2, b⟩; exact ⟨(h _ _ _ h0 h1).mp a, j, j0, j1, j2, (h _ _ _ j0 j1).mp b⟩
  · rintro ⟨a, j, j0, j1, j2, b⟩; exact ⟨(h _ _ _ h0 h1).mpr a, j, j0, j1, j2, (h _ _ _ j0 j1).mpr b⟩
theorem nW_congr {tk tk' : Int → Int → Int → Prop} {n c d : Int} (h : ∀ k a b : Int, 0 ≤ k → k < n → (tk k a b ↔ tk' k a b)) (g : nW_ tk n c d) : nW_ tk' n c d := fun i h0 h1 a => g i h0 h1 ((h _ _ _ h0 h1).mpr a)
theorem nX_congr {tk tk' : Int → Int → Int → Prop} {n c d lo : Int} (h : ∀ k a b : Int, 0 ≤ k → k < n → (tk k a b ↔ tk' k a b)) (g : nX_ tk n c d lo) : nX_ tk' n c d lo := fun x hx hc i h0 h1 a => g x hx hc i h0 h1 ((Gd_congr h h0 h1).mpr a)
theorem sp_congr {tk tk' : Int → Int → Int → Prop} {n c d x i j : Int} (h : ∀ k a b : Int, 0 ≤ k → k < n → (tk k a b ↔ tk' k a b)) (g : sp_ tk n c d x i j) : sp_ tk' n c d x i j := by
  obtain ⟨a1, a2, a3, a4, a5, a6, a7, a8, a9⟩ := g
  exact ⟨a1, a2, a3, a4, a5, (h _ _ _ a1 a2).mp a6, (h _ _ _ a3 a4).mp a7, fun j' z0 z1 z2 z3 => a8 j' z0 z1 z2 ((h _ _ _ z0 (by omega)).mpr z3), fun i' z0 z1 z2 => a9 i' z0 z1 ((Gd_congr h z0 (by omega)).mpr z2)⟩
theorem PL_congr {tk tk' : Int → Int → Int → Prop} {n c d x i j : Int} (h : ∀ k a b : Int, 0 ≤ k → k < n → (tk k a b ↔ tk' k a b)) (g : PL_ tk n c d x i j) : PL_ tk' n c d x i j := by
  rcases g with ⟨h1, h2, h3, h4, h5, h6⟩ | ⟨h0, h1, h2, h3, h4⟩
  · exact Or.inl ⟨h1, h2, h3, h4, (h _ _ _ h3 h4).mp h5, fun i' z0 z1 z2 => h6 i' z0 z1 ((h _ _ _ z0 (by omega)).mpr z2)⟩
  · exact Or.inr ⟨nW_congr h h0, h1, h2, nX_congr h h3, sp_congr h h4⟩
theorem NP_congr {tk tk' : Int → Int → Int → Prop} {n c d : Int} (h : ∀ k a b : Int, 0 ≤ k → k < n → (tk k a b ↔ tk' k a b)) (g : NP_ tk n c d) : NP_ tk' n c d := ⟨nW_congr h g.1, nX_congr h g.2⟩
/-- the parts of id may have changed, nothing else -/
def agP_ (id : Nat) (S S' : St_) : Prop := ∀ j k, ¬ ((j = 4 ∨ j = 5 ∨ j = 6) ∧ (k = 2 * id ∨ k = 2 * id + 1)) → S' j k = S j k
theorem agP_of {id : Nat} {S S1 : St_} (h : agA_ id S S1) {i : Nat} (hi : i = 2 * id ∨ i = 2 * id + 1) (k c d : Int) : agP_ id S (sP_ S1 i k c d) := by
  intro j q hj
  rw [sP_o _ _ _ _ _ _ _ (by omega)]
  exact h j q (by omega)
theorem agP_of2 {id : Nat} {S S1 : St_} (h : agP_ id S S1) {i : Nat} (hi : i = 2 * id ∨ i = 2 * id + 1) (k c d : Int) : agP_ id S (sP_ S1 i k c d) := by
  intro j q hj
  rw [sP_o _ _ _ _ _ _ _ (by omega)]
  exact h j q (by omega)
/-- less cost passes too -/
theorem tkA_mono {S : St_} {k : Int} {id : Nat} {x y d : Int} (h : x ≤ y) (g : tkA_ S k id y d) : tkA_ S k id x d := by
  refine ps_sched_mono (fun i hi => ?_) g
  unfold upN_
  split <;> omega
/-- the state between the calls -/
def cnA_ (S : St_) : Nat := ps_sum (fun i => (S 2 i).toNat) 12
def nvA_ (S : St_) : Prop := vlA_ S ∧ (∀ i, i < 13 → S 2 i = 0 ∨ S 2 i = 1) ∧ S 2 12 = 0 ∧ (∀ i, i < 13 → S 2 i = 0 → frA_ S i) ∧ S 1 0 = (cnA_ S : Int)
theorem cnA_le (S : St_) (h : ∀ i, i < 13 → S 2 i = 0 ∨ S 2 i = 1) : cnA_ S ≤ 12 := by
  refine Nat.le_trans (ps_sum_bd (M := 1) 12 (fun i hi => ?_)) (by decide)
  have := h i (by omega)
  omega
theorem cnA_full {S : St_} (h : ∀ j, j < 12 → S 2 j = 1) : cnA_ S = 12 := by
  have : cnA_ S = ps_sum (fun _ => 1) 12 := ps_sum_congr 12 (fun i hi => by simp [h i hi])
  rw [this]
  decide
/-- a free place gets a period -/
theorem up3_v {S : St_} (hv : vlA_ S) {id : Nat} (hf : frA_ S id) (p : Int) : vlA_ (up_ S 3 id p) := by
  have h4 : ∀ i, up_ S 3 id p 4 i = S 4 i := fun i => up_ne _ _ _ _ (by omega)
  have h5 : ∀ i, up_ S 3 id p 5 i = S 5 i := fun i => up_ne _ _ _ _ (by omega)
  have h6 : ∀ i, up_ S 3 id p 6 i = S 6 i := fun i => up_ne _ _ _ _ (by omega)
  refine ⟨by rw [up_ne _ _ _ _ (by omega)]; exact hv.1, fun i hi => ?_, fun i hi => by rw [h4, h4]; exact hv.2.2 i hi⟩
  rw [h4, h5, h6]
  obtain ⟨a, b, c⟩ := hv.2.1 i hi
  refine ⟨a, b, fun h0 => ?_⟩
  have hne : ¬ i / 2 = id := by
    intro e
    have : i = 2 * id ∨ i = 2 * id + 1 := by omega
    rcases this with rfl | rfl
    · rw [hf.1] at h0; omega
    · rw [hf.2] at h0; omega
  rw [up_ne _ _ _ _ (by omega)]
  exact c h0
theorem up3_fr {S : St_} {id : Nat} (hf : frA_ S id) (p : Int) : frA_ (up_ S 3 id p) id := by
  unfold frA_
  rw [up_ne _ _ _ _ (by omega), up_ne _ _ _ _ (by omega)]
  exact hf
end
section
/-! A: the test, placing, walked by program -/
set_option maxRecDepth 100000 in
set_option maxHeartbeats 4000000 in
/-- passes: no more demand than time up to 60 -/
theorem cA_passes (l : Launch) (D : va_G) (h : Nat) (r : Nat → Nat) (cZ cI : ClassId) (S : St_) (k : Int) (hk : 0 ≤ k ∧ k ≤ 2) (hv : vlA_ S) : MI_ l D [(cZ, .boolean), (cI, .int)] (wA_ h r cZ cI) yA_passes kA_passes 7 (some .boolean) 1 S [.ref h, .int (iI k)] (fun x S' => bo_ x (schA_ S k) ∧ S' = S) := by
  refine MI_of (by decide) (Nat.le_of_ble_eq_true rfl) ?_
  intro p e s m below meth c A ls hC hI hr hlk hl
  have hl : lv_has ls 7 [(0, .ref h), (1, .int (iI k))] := hl
  have hok := okA_ hv hk.1
  have hm : ∀ s t, s ≤ t → ps_dem (cA_ S k) (dA_ S k) (pA_ S) s ≤ ps_dem (cA_ S k) (dA_ S k) (pA_ S) t := fun s t hst => ps_dem_mono _ _ _ hst
  refine rr_aload_n hC dA_passes_0 hl rfl 0 rfl ?_
  refine rr_iload_n hC dA_passes_1 hl rfl 1 rfl ?_
  refine rr_calli (na := 1) hC (wA_ h r cZ cI) hI hl (cA_loadOf l D h r cZ cI S k hk hv) gA_A_loadOf (by decide +kernel) ⟨by decide, by decide⟩ rfl rfl rfl rfl (by decide) dA_passes_2 (fun x1 T2 H locs hp hI => ?_)
  obtain ⟨e1, e2⟩ := hp
  subst e1
  rw [e2] at hI
  have hbd := ps_dem_bd hok (Nat.le_refl 60)
  refine rr_istore_n (lv' := [(2, .int (iI ((ps_dem (cA_ S k) (dA_ S k) (pA_ S) 60 : Nat) : Int))), (0, .ref h), (1, .int (iI k))]) hC dA_passes_5 hl rfl (by decide) rfl (fun ls hl => ?_)
  refine rr_iload_n hC dA_passes_6 hl rfl 0 rfl ?_
  refine rr_bipush (v := ((60 : Nat) : Int)) hC dA_passes_7 (by decide) ?_
  refine rr_icmp_le hC 14 dA_passes_9 (by decide) (by omega) (by omega) (fun c3 => ?_) (fun c3 => ?_)
  · refine rr_aload_n hC dA_passes_14 hl rfl 1 rfl ?_
    refine rr_iload_n hC dA_passes_15 hl rfl 2 rfl ?_
    refine rr_calli (na := 1) hC (wA_ h r cZ cI) hI hl (cA_leastDeadline l D h r cZ cI S k hk hv) gA_A_leastDeadline (by decide +kernel) ⟨by decide, by decide⟩ rfl rfl rfl rfl (by decide) dA_passes_16 (fun x T H locs hp hI => ?_)
    obtain ⟨⟨u, e1, hu0, hu1, hu⟩, e2⟩ := hp
    subst e1
    rw [e2] at hI
    refine rr_istore_n (lv' := [(3, .int (iI u)), (2, .int (iI ((ps_dem (cA_ S k) (dA_ S k) (pA_ S) 60 : Nat) : Int))), (0, .ref h), (1, .int (iI k))]) hC dA_passes_19 hl rfl (by decide) rfl (fun ls hl => ?_)
    refine rr_bipush (v := ((60 : Nat) : Int)) hC dA_passes_20 (by decide) ?_
    refine rr_istore (lv' := [(4, .int (iI ((60 : Nat) : Int))), (3, .int (iI u)), (2, .int (iI ((ps_dem (cA_ S k) (dA_ S k) (pA_ S) 60 : Nat) : Int))), (0, .ref h), (1, .int (iI k))]) hC dA_passes_22 hl (by decide) rfl (fun ls hl => ?_)
    refine rr_aload_n hC dA_passes_24 hl rfl 3 rfl ?_
    refine rr_iload_n hC dA_passes_25 hl rfl 4 rfl ?_
    refine rr_iload hC dA_passes_26 hl 0 rfl ?_
    refine rr_calli (na := 2) hC (wA_ h r cZ cI) hI hl (cA_demand l D h r cZ cI S k 60 hk (by omega) hv) gA_A_demand (by decide +kernel) ⟨by decide, by decide⟩ rfl rfl rfl rfl (by decide) dA_passes_28 (fun x4 T5 H locs hp hI => ?_)
    obtain ⟨e1, e2⟩ := hp
    subst e1
    rw [e2] at hI
    refine rr_istore (lv' := [(5, .int (iI ((ps_dem (cA_ S k) (dA_ S k) (pA_ S) 60 : Nat) : Int))), (4, .int (iI ((60 : Nat) : Int))), (3, .int (iI u)), (2, .int (iI ((ps_dem (cA_ S k) (dA_ S k) (pA_ S) 60 : Nat) : Int))), (0, .ref h), (1, .int (iI k))]) hC dA_passes_31 hl (by decide) rfl (fun ls hl => ?_)
    refine rr_iconst (v := ((0 : Nat) : Int)) hC dA_passes_33 rfl ?_
    refine rr_istore (lv' := [(6, .int (iI ((0 : Nat) : Int))), (5, .int (iI ((ps_dem (cA_ S k) (dA_ S k) (pA_ S) 60 : Nat) : Int))), (4, .int (iI ((60 : Nat) : Int))), (3, .int (iI u)), (2, .int (iI ((ps_dem (cA_ S k) (dA_ S k) (pA_ S) 60 : Nat) : Int))), (0, .ref h), (1, .int (iI k))]) hC dA_passes_34 hl (by decide) rfl (fun ls hl => ?_)
    have loop : ∀ (n : Nat) (t i : Nat) (H : Heap) (locs : List Loc), t < n → t ≤ 60 → i + t ≤ 60 → ps_ql (ps_dem (cA_ S k) (dA_ S k) (pA_ S)) t → In_ D A s.heap H locs (wA_ h r cZ cI S) → ∀ (ls : Array Slot), lv_has ls 7 [(0, .ref h), (1, .int (iI k)), (3, .int (iI u)), (4, .int (iI ((t : Nat) : Int))), (5, .int (iI ((ps_dem (cA_ S k) (dA_ S k) (pA_ S) t : Nat) : Int))), (6, .int (iI ((i : Nat) : Int)))] → W p l e (rm_ 1) s m [.ref h, .int (iI k)].toArray below meth c H locs 0 0 (EQ_ D [(cZ, .boolean), (cI, .int)] (wA_ h r cZ cI) S s below [.ref h, .int (iI k)].toArray A (fun x S' => bo_ x (schA_ S k) ∧ S' = S)) (F0 m 36 ls []) := by
      intro n
      induction n with
      | zero => intros; omega
      | succ n ih =>
        intro t i H locs hn ht hi hq hI ls hl
        refine rr_iload hC dA_passes_36 hl 5 rfl ?_
        have hbd2 := ps_dem_bd hok (show t ≤ 60 by omega)
        refine rr_bipush (v := ((62 : Nat) : Int)) hC dA_passes_38 (by decide) ?_
        refine rr_icmp_ge hC 92 dA_passes_40 (by decide) (by omega) (by omega) (fun c6 => ?_) (fun c6 => ?_)
        · refine rr_iload hC dA_passes_92 hl 4 rfl ?_
          refine rr_iload hC dA_passes_94 hl 3 rfl ?_
          refine rr_icmp_gt hC 109 dA_passes_96 (by decide) (by omega) (by omega) (fun c7 => ?_) (fun c7 => ?_)
          · refine rr_iconst (v := ((0 : Nat) : Int)) hC dA_passes_109 rfl ?_
            exact rr_zret hC (wA_ h r cZ cI) hI hr hlk (by decide +kernel) dA_passes_110 (⟨⟨0, rfl, by omega, by exfalso; omega⟩, rfl⟩)
          · refine rr_iload hC dA_passes_99 hl 4 rfl ?_
            refine rr_iload_n hC dA_passes_101 hl rfl 2 rfl ?_
            refine rr_icmp_gt hC 109 dA_passes_102 (by decide) (by omega) (by omega) (fun c8 => ?_) (fun c8 => ?_)
            · refine rr_iconst (v := ((0 : Nat) : Int)) hC dA_passes_109 rfl ?_
              exact rr_zret hC (wA_ h r cZ cI) hI hr hlk (by decide +kernel) dA_passes_110 (⟨⟨0, rfl, by omega, by exfalso; omega⟩, rfl⟩)
            · refine rr_iconst (v := ((1 : Nat) : Int)) hC dA_passes_105 rfl ?_
              refine rr_goto hC 110 dA_passes_106 (by decide) ?_
              exact rr_zret hC (wA_ h r cZ cI) hI hr hlk (by decide +kernel) dA_passes_110 (⟨⟨1, rfl, by omega, by exfalso; omega⟩, rfl⟩)
        · refine rr_iload hC dA_passes_43 hl 4 rfl ?_
          refine rr_iload hC dA_passes_45 hl 3 rfl ?_
          refine rr_icmp_gt hC 92 dA_passes_47 (by decide) (by omega) (by omega) (fun c9 => ?_) (fun c9 => ?_)
          · refine rr_iload hC dA_passes_92 hl 4 rfl ?_
            refine rr_iload hC dA_passes_94 hl 3 rfl ?_
            refine rr_icmp_gt hC 109 dA_passes_96 (by decide) (by omega) (by omega) (fun c10 => ?_) (fun c10 => ?_)
            · refine rr_iconst (v := ((0 : Nat) : Int)) hC dA_passes_109 rfl ?_
              exact rr_zret hC (wA_ h r cZ cI) hI hr hlk (by decide +kernel) dA_passes_110 (⟨⟨0, rfl, by omega, ⟨fun z => by omega, fun z => by have := z t (by omega); unfold schA_ at *; omega⟩⟩, rfl⟩)
            · refine rr_iload hC dA_passes_99 hl 4 rfl ?_
              refine rr_iload_n hC dA_passes_101 hl rfl 2 rfl ?_
              refine rr_icmp_gt hC 109 dA_passes_102 (by decide) (by omega) (by omega) (fun c11 => ?_) (fun c11 => ?_)
              · refine rr_iconst (v := ((0 : Nat) : Int)) hC dA_passes_109 rfl ?_
                exact rr_zret hC (wA_ h r cZ cI) hI hr hlk (by decide +kernel) dA_passes_110 (⟨⟨0, rfl, by omega, ⟨fun z => by omega, fun z => by have := z t (by omega); unfold schA_ at *; omega⟩⟩, rfl⟩)
              · refine rr_iconst (v := ((1 : Nat) : Int)) hC dA_passes_105 rfl ?_
                refine rr_goto hC 110 dA_passes_106 (by decide) ?_
                exact rr_zret hC (wA_ h r cZ cI) hI hr hlk (by decide +kernel) dA_passes_110 (⟨⟨1, rfl, by omega, ⟨fun _ => ps_ql_true hm hq (by omega) (by omega) (fun s hs => ps_dem_least (leastA_sys hv hk.1 hu) hs), fun _ => rfl⟩⟩, rfl⟩)
          · refine rr_iload hC dA_passes_50 hl 4 rfl ?_
            refine rr_iload_n hC dA_passes_52 hl rfl 2 rfl ?_
            refine rr_icmp_le hC 92 dA_passes_53 (by decide) (by omega) (by omega) (fun c12 => ?_) (fun c12 => ?_)
            · refine rr_iload hC dA_passes_92 hl 4 rfl ?_
              refine rr_iload hC dA_passes_94 hl 3 rfl ?_
              refine rr_icmp_gt hC 109 dA_passes_96 (by decide) (by omega) (by omega) (fun c13 => ?_) (fun c13 => ?_)
              · refine rr_iconst (v := ((0 : Nat) : Int)) hC dA_passes_109 rfl ?_
                exact rr_zret hC (wA_ h r cZ cI) hI hr hlk (by decide +kernel) dA_passes_110 (⟨⟨0, rfl, by omega, by exfalso; omega⟩, rfl⟩)
              · refine rr_iload hC dA_passes_99 hl 4 rfl ?_
                refine rr_iload_n hC dA_passes_101 hl rfl 2 rfl ?_
                refine rr_icmp_gt hC 109 dA_passes_102 (by decide) (by omega) (by omega) (fun c14 => ?_) (fun c14 => ?_)
                · refine rr_iconst (v := ((0 : Nat) : Int)) hC dA_passes_109 rfl ?_
                  exact rr_zret hC (wA_ h r cZ cI) hI hr hlk (by decide +kernel) dA_passes_110 (⟨⟨0, rfl, by omega, by exfalso; omega⟩, rfl⟩)
                · refine rr_iconst (v := ((1 : Nat) : Int)) hC dA_passes_105 rfl ?_
                  refine rr_goto hC 110 dA_passes_106 (by decide) ?_
                  exact rr_zret hC (wA_ h r cZ cI) hI hr hlk (by decide +kernel) dA_passes_110 (⟨⟨1, rfl, by omega, ⟨fun _ => ps_ql_true hm hq (by omega) (by omega) (fun s hs => ps_dem_least (leastA_sys hv hk.1 hu) hs), fun _ => rfl⟩⟩, rfl⟩)
            · refine rr_iload hC dA_passes_56 hl 4 rfl ?_
              refine rr_iload hC dA_passes_58 hl 3 rfl ?_
              refine rr_icmp_ge hC 68 dA_passes_60 (by decide) (by omega) (by omega) (fun c15 => ?_) (fun c15 => ?_)
              · refine rr_aload_n hC dA_passes_68 hl rfl 0 rfl ?_
                refine rr_iload_n hC dA_passes_69 hl rfl 1 rfl ?_
                refine rr_iload hC dA_passes_70 hl 3 rfl ?_
                refine rr_calli (na := 2) hC (wA_ h r cZ cI) hI hl (cA_deadlineBefore l D h r cZ cI S k t hk (by omega) hv) gA_A_deadlineBefore (by decide +kernel) ⟨by decide, by decide⟩ rfl rfl rfl rfl (by decide) dA_passes_72 (fun x T H locs hp hI => ?_)
                obtain ⟨⟨u2, e1, hb0, hb1, hb⟩, e2⟩ := hp
                subst e1
                rw [e2] at hI
                obtain ⟨b, rfl⟩ : ∃ b : Nat, u2 = (b : Int) := ⟨u2.toNat, by omega⟩
                refine rr_istore (lv' := [(4, .int (iI ((b : Nat) : Int))), (0, .ref h), (1, .int (iI k)), (3, .int (iI u)), (5, .int (iI ((ps_dem (cA_ S k) (dA_ S k) (pA_ S) t : Nat) : Int))), (6, .int (iI ((i : Nat) : Int)))]) hC dA_passes_75 hl (by decide) rfl (fun ls hl => ?_)
                refine rr_aload_n hC dA_passes_77 hl rfl 1 rfl ?_
                refine rr_iload_n hC dA_passes_78 hl rfl 2 rfl ?_
                refine rr_iload hC dA_passes_79 hl 0 rfl ?_
                refine rr_calli (na := 2) hC (wA_ h r cZ cI) hI hl (cA_demand l D h r cZ cI S k b hk (by omega) hv) gA_A_demand (by decide +kernel) ⟨by decide, by decide⟩ rfl rfl rfl rfl (by decide) dA_passes_81 (fun x16 T17 H locs hp hI => ?_)
                obtain ⟨e1, e2⟩ := hp
                subst e1
                rw [e2] at hI
                refine rr_istore (lv' := [(5, .int (iI ((ps_dem (cA_ S k) (dA_ S k) (pA_ S) b : Nat) : Int))), (4, .int (iI ((b : Nat) : Int))), (0, .ref h), (1, .int (iI k)), (3, .int (iI u)), (6, .int (iI ((i : Nat) : Int)))]) hC dA_passes_84 hl (by decide) rfl (fun ls hl => ?_)
                refine rr_iinc (v := ((i + 1 : Nat) : Int)) (lv' := [(6, .int (iI ((i + 1 : Nat) : Int))), (5, .int (iI ((ps_dem (cA_ S k) (dA_ S k) (pA_ S) b : Nat) : Int))), (4, .int (iI ((b : Nat) : Int))), (0, .ref h), (1, .int (iI k)), (3, .int (iI u))]) hC dA_passes_86 hl 5 rfl (by omega) (by decide) rfl (fun ls hl => ?_)
                refine rr_goto hC 36 dA_passes_89 (by decide) ?_
                exact ih b (i + 1) H locs (by omega) (by omega) (by omega) (ps_ql_before hq (by omega) (fun s h1 h2 => ps_dem_still hok (beforeA_sys hv hk.1 hb) h1 h2)) hI ls (lv_sub hl [3, 4, 5, 2, 1, 0] rfl)
              · refine rr_iload hC dA_passes_63 hl 4 rfl ?_
                refine rr_goto hC 75 dA_passes_65 (by decide) ?_
                refine rr_istore (lv' := [(4, .int (iI ((ps_dem (cA_ S k) (dA_ S k) (pA_ S) t : Nat) : Int))), (0, .ref h), (1, .int (iI k)), (3, .int (iI u)), (5, .int (iI ((ps_dem (cA_ S k) (dA_ S k) (pA_ S) t : Nat) : Int))), (6, .int (iI ((i : Nat) : Int)))]) hC dA_passes_75 hl (by decide) rfl (fun ls hl => ?_)
                refine rr_aload_n hC dA_passes_77 hl rfl 1 rfl ?_
                refine rr_iload_n hC dA_passes_78 hl rfl 2 rfl ?_
                refine rr_iload hC dA_passes_79 hl 0 rfl ?_
                refine rr_calli (na := 2) hC (wA_ h r cZ cI) hI hl (cA_demand l D h r cZ cI S k (ps_dem (cA_ S k) (dA_ S k) (pA_ S) t) hk (by omega) hv) gA_A_demand (by decide +kernel) ⟨by decide, by decide⟩ rfl rfl rfl rfl (by decide) dA_passes_81 (fun x18 T19 H locs hp hI => ?_)
                obtain ⟨e1, e2⟩ := hp
                subst e1
                rw [e2] at hI
                refine rr_istore (lv' := [(5, .int (iI ((ps_dem (cA_ S k) (dA_ S k) (pA_ S) (ps_dem (cA_ S k) (dA_ S k) (pA_ S) t) : Nat) : Int))), (4, .int (iI ((ps_dem (cA_ S k) (dA_ S k) (pA_ S) t : Nat) : Int))), (0, .ref h), (1, .int (iI k)), (3, .int (iI u)), (6, .int (iI ((i : Nat) : Int)))]) hC dA_passes_84 hl (by decide) rfl (fun ls hl => ?_)
                refine rr_iinc (v := ((i + 1 : Nat) : Int)) (lv' := [(6, .int (iI ((i + 1 : Nat) : Int))), (5, .int (iI ((ps_dem (cA_ S k) (dA_ S k) (pA_ S) (ps_dem (cA_ S k) (dA_ S k) (pA_ S) t) : Nat) : Int))), (4, .int (iI ((ps_dem (cA_ S k) (dA_ S k) (pA_ S) t : Nat) : Int))), (0, .ref h), (1, .int (iI k)), (3, .int (iI u))]) hC dA_passes_86 hl 5 rfl (by omega) (by decide) rfl (fun ls hl => ?_)
                refine rr_goto hC 36 dA_passes_89 (by decide) ?_
                exact ih (ps_dem (cA_ S k) (dA_ S k) (pA_ S) t) (i + 1) H locs (by omega) (by omega) (by omega) (ps_ql_need hm hq (by omega)) hI ls (lv_sub hl [3, 4, 5, 2, 1, 0] rfl)
    exact loop 61 60 0 _ _ (by omega) (by omega) (by omega) (ps_ql_top _) hI ls (lv_sub hl [5, 6, 3, 2, 1, 0] rfl)
  · refine rr_iconst (v := ((0 : Nat) : Int)) hC dA_passes_12 rfl ?_
    exact rr_zret hC (wA_ h r cZ cI) hI hr hlk (by decide +kernel) dA_passes_13 (⟨⟨0, rfl, by omega, ⟨fun z => by omega, fun z => by have := z 60 (by omega); omega⟩⟩, rfl⟩)
set_option maxRecDepth 100000 in
set_option maxHeartbeats 4000000 in
/-- passesWith -/
theorem cA_passesWith (l : Launch) (D : va_G) (h : Nat) (r : Nat → Nat) (cZ cI : ClassId) (S : St_) (k : Int) (id i : Nat) (a d : Int) (hk : 0 ≤ k ∧ k ≤ 2) (hid : id < 13) (hi : i = 2 * id ∨ i = 2 * id + 1) (hv : vlA_ S) (hf : frA_ S id) (hc : 1 ≤ a ∧ a ≤ d ∧ d ≤ S 3 id) (hp : okp_ (S 3 id)) : MI_ l D [(cZ, .boolean), (cI, .int)] (wA_ h r cZ cI) yA_passesWith kA_passesWith 6 (some .boolean) 2 S [.ref h, .int (iI k), .int (iI ((i : Nat) : Int)), .int (iI a), .int (iI d)] (fun x S' => bo_ x (tkA_ S k id a d) ∧ agA_ id S S') := by
  refine MI_of (by decide) (Nat.le_of_ble_eq_true rfl) ?_
  intro p e s m below meth c A ls hC hI hr hlk hl
  have hl : lv_has ls 6 [(0, .ref h), (1, .int (iI k)), (2, .int (iI ((i : Nat) : Int))), (3, .int (iI a)), (4, .int (iI d))] := hl
  have hpv := hp
  refine rr_aload_n hC dA_passesWith_0 hl rfl 0 rfl ?_
  refine rr_iload_n hC dA_passesWith_1 hl rfl 2 rfl ?_
  refine rr_iload_n hC dA_passesWith_2 hl rfl 1 rfl ?_
  refine rr_iload_n hC dA_passesWith_3 hl rfl 3 rfl ?_
  refine rr_iload hC dA_passesWith_4 hl 4 rfl ?_
  refine rr_callv (na := 4) hC (wA_ h r cZ cI) hI hl (cA_setPart l D h r cZ cI S i k a d (by omega)) gA_A_setPart (by decide +kernel) ⟨by decide, by decide⟩ rfl rfl rfl rfl (by decide) dA_passesWith_6 (fun T1 H locs hp hI => ?_)
  subst hp
  refine rr_aload_n hC dA_passesWith_9 hl rfl 0 rfl ?_
  refine rr_iload_n hC dA_passesWith_10 hl rfl 1 rfl ?_
  refine rr_calli (na := 1) hC (wA_ h r cZ cI) hI hl (cA_passes l D h r cZ cI (sP_ S i k a d) k hk (sP_v hv hid hi hf hk hc hpv)) gA_A_passes (by decide +kernel) ⟨by decide, by decide⟩ rfl rfl rfl rfl (by decide) dA_passesWith_11 (fun x T2 H locs hp hI => ?_)
  obtain ⟨⟨v, e1, hv01, hvp⟩, e2⟩ := hp
  subst e1
  rw [e2] at hI
  refine rr_istore (lv' := [(5, .int (iI v)), (0, .ref h), (1, .int (iI k)), (2, .int (iI ((i : Nat) : Int))), (3, .int (iI a)), (4, .int (iI d))]) hC dA_passesWith_14 hl (by decide) rfl (fun ls hl => ?_)
  refine rr_aload_n hC dA_passesWith_16 hl rfl 1 rfl ?_
  refine rA_get hC hI 4 (by decide) lA_4 rfl dA_passesWith_17 ?_
  refine rr_iload_n hC dA_passesWith_20 hl rfl 3 rfl ?_
  refine rr_iconst (v := (-1 : Int)) hC dA_passesWith_21 rfl ?_
  refine rr_iast hC (wA_ h r cZ cI) hI 4 3 1 rfl rfl (by decide) (by omega) rfl dA_passesWith_22 (fun H locs hI => ?_)
  refine rr_iload hC dA_passesWith_23 hl 0 rfl ?_
  exact rr_zret hC (wA_ h r cZ cI) hI hr hlk (by rcases hv01 with rfl | rfl <;> decide +kernel) dA_passesWith_25 (⟨⟨v, rfl, hv01, hvp.trans (sP_sch hi hf hk.1)⟩, sP_ag hi hf k a d⟩)
set_option maxRecDepth 100000 in
set_option maxHeartbeats 4000000 in
/-- coreForRest -/
theorem cA_coreForRest (l : Launch) (D : va_G) (h : Nat) (r : Nat → Nat) (cZ cI : ClassId) (S : St_) (id : Nat) (o a d : Int) (hid : id < 13) (hv : vlA_ S) (hf : frA_ S id) (hp : okp_ (S 3 id)) (ho : 0 ≤ o ∧ o ≤ 2) (hc : 1 ≤ a ∧ a ≤ d ∧ d ≤ S 3 id) : MI_ l D [(cZ, .boolean), (cI, .int)] (wA_ h r cZ cI) yA_coreForRest kA_coreForRest 7 (some .int) 3 S [.ref h, .int (iI ((id : Nat) : Int)), .int (iI o), .int (iI a), .int (iI d)] (fun x S' => (∃ v : Int, x = iI v ∧ ((0 ≤ v ∧ v < S 0 0 ∧ v ≠ o ∧ tkA_ S v id a d ∧ ∀ j : Int, 0 ≤ j → j < v → j ≠ o → ¬ tkA_ S j id a d) ∨ (v = -1 ∧ ∀ j : Int, 0 ≤ j → j < S 0 0 → j ≠ o → ¬ tkA_ S j id a d))) ∧ agA_ id S S') := by
  refine MI_of (by decide) (Nat.le_of_ble_eq_true rfl) ?_
  intro p e s m below meth c A ls hC hI hr hlk hl
  have hl : lv_has ls 7 [(0, .ref h), (1, .int (iI ((id : Nat) : Int))), (2, .int (iI o)), (3, .int (iI a)), (4, .int (iI d))] := hl
  have hcr := hv.1
  have hpb := hp.2.1
  have loop : ∀ (n : Nat) (i : Nat) (S1 : St_) (H : Heap) (locs : List Loc), (i : Int) ≤ S 0 0 → S 0 0 < (i : Int) + n → agA_ id S S1 → (∀ j : Int, 0 ≤ j → j < (i : Int) → j ≠ o → ¬ tkA_ S j id a d) → In_ D A s.heap H locs (wA_ h r cZ cI S1) → ∀ (ls : Array Slot), lv_has ls 7 [(0, .ref h), (1, .int (iI ((id : Nat) : Int))), (2, .int (iI o)), (3, .int (iI a)), (4, .int (iI d)), (5, .int (iI ((i : Nat) : Int)))] → W p l e (rm_ 3) s m [.ref h, .int (iI ((id : Nat) : Int)), .int (iI o), .int (iI a), .int (iI d)].toArray below meth c H locs 0 0 (EQ_ D [(cZ, .boolean), (cI, .int)] (wA_ h r cZ cI) S s below [.ref h, .int (iI ((id : Nat) : Int)), .int (iI o), .int (iI a), .int (iI d)].toArray A (fun x S' => (∃ v : Int, x = iI v ∧ ((0 ≤ v ∧ v < S 0 0 ∧ v ≠ o ∧ tkA_ S v id a d ∧ ∀ j : Int, 0 ≤ j → j < v → j ≠ o → ¬ tkA_ S j id a d) ∨ (v = -1 ∧ ∀ j : Int, 0 ≤ j → j < S 0 0 → j ≠ o → ¬ tkA_ S j id a d))) ∧ agA_ id S S')) (F0 m 3 ls []) := by
    intro n
    induction n with
    | zero => intros; omega
    | succ n ih =>
      intro i S1 H locs hi hn hag hno hI ls hl
      refine rr_iload hC dA_coreForRest_3 hl 5 rfl ?_
      have hn0 := hag 0 0 (by omega)
      refine rr_aload_n hC dA_coreForRest_5 hl rfl 0 rfl ?_
      refine rA_get hC hI 0 (by decide) lA_0 rfl dA_coreForRest_6 ?_
      refine rr_icmp_ge hC 48 dA_coreForRest_9 (by decide) (by omega) (by omega) (fun c1 => ?_) (fun c1 => ?_)
      · refine rr_iconst (v := (-1 : Int)) hC dA_coreForRest_48 rfl ?_
        exact rr_iret hC (wA_ h r cZ cI) hI hr hlk dA_coreForRest_49 (⟨⟨-1, rfl, Or.inr ⟨rfl, fun j h0 h1 h2 => hno j h0 (by omega) h2⟩⟩, hag⟩)
      · refine rr_iload hC dA_coreForRest_12 hl 5 rfl ?_
        refine rr_iload_n hC dA_coreForRest_14 hl rfl 2 rfl ?_
        refine rr_icmp_eq hC 42 dA_coreForRest_15 (by decide) (by omega) (by omega) (fun c2 => ?_) (fun c2 => ?_)
        · refine rr_iinc (v := ((i + 1 : Nat) : Int)) (lv' := [(5, .int (iI ((i + 1 : Nat) : Int))), (0, .ref h), (1, .int (iI ((id : Nat) : Int))), (2, .int (iI o)), (3, .int (iI a)), (4, .int (iI d))]) hC dA_coreForRest_42 hl 5 rfl (by omega) (by decide) rfl (fun ls hl => ?_)
          refine rr_goto hC 3 dA_coreForRest_45 (by decide) ?_
          exact ih (i + 1) S1 H locs (by omega) (by omega) hag (fun j h0 h1 h2 => by
              by_cases z : j = (i : Int)
              · subst z; exfalso; omega
              · exact hno j h0 (by omega) h2) hI ls (lv_sub hl [1, 2, 3, 4, 5, 0] rfl)
        · refine rr_aload_n hC dA_coreForRest_18 hl rfl 0 rfl ?_
          refine rr_iload hC dA_coreForRest_19 hl 5 rfl ?_
          refine rr_iconst (v := ((2 : Nat) : Int)) hC dA_coreForRest_21 rfl ?_
          refine rr_iload_n hC dA_coreForRest_22 hl rfl 1 rfl ?_
          refine rr_imul hC dA_coreForRest_23 ?_
          refine rr_top (y := ((2 * id : Nat) : Int)) (by omega) ?_
          refine rr_iconst (v := ((1 : Nat) : Int)) hC dA_coreForRest_24 rfl ?_
          refine rr_iadd hC dA_coreForRest_25 ?_
          refine rr_top (y := (((2 * id) + 1 : Nat) : Int)) (by omega) ?_
          refine rr_iload_n hC dA_coreForRest_26 hl rfl 3 rfl ?_
          refine rr_iload hC dA_coreForRest_27 hl 4 rfl ?_
          have h3 := hag 3 id (by omega)
          refine rr_calli (na := 4) hC (wA_ h r cZ cI) hI hl (cA_passesWith l D h r cZ cI S1 ((i : Nat) : Int) id ((2 * id) + 1) a d (by omega) hid (by omega) (agA_v hag hf hv) (agA_fr hag hf) (by rw [h3]; omega) (by rw [h3]; exact hp)) gA_A_passesWith (by decide +kernel) ⟨by decide, by decide⟩ rfl rfl rfl rfl (by decide) dA_coreForRest_29 (fun x3 T4 H locs hp2 hI => ?_)
          obtain ⟨⟨v5, e1, hv01, hvp⟩, hag2⟩ := hp2
          subst e1
          rw [agA_tk hag hf (by omega)] at hvp
          replace hag := agA_tr hag hag2
          refine rr_istore (lv' := [(6, .int (iI v5)), (0, .ref h), (1, .int (iI ((id : Nat) : Int))), (2, .int (iI o)), (3, .int (iI a)), (4, .int (iI d)), (5, .int (iI ((i : Nat) : Int)))]) hC dA_coreForRest_32 hl (by decide) rfl (fun ls hl => ?_)
          refine rr_iload hC dA_coreForRest_34 hl 0 rfl ?_
          refine rr_if_eq hC 42 dA_coreForRest_36 (by decide) (by omega) (fun c6 => ?_) (fun c6 => ?_)
          · refine rr_iinc (v := ((i + 1 : Nat) : Int)) (lv' := [(5, .int (iI ((i + 1 : Nat) : Int))), (6, .int (iI v5)), (0, .ref h), (1, .int (iI ((id : Nat) : Int))), (2, .int (iI o)), (3, .int (iI a)), (4, .int (iI d))]) hC dA_coreForRest_42 hl 6 rfl (by omega) (by decide) rfl (fun ls hl => ?_)
            refine rr_goto hC 3 dA_coreForRest_45 (by decide) ?_
            exact ih (i + 1) T4 H locs (by omega) (by omega) hag (fun j h0 h1 h2 => by
                by_cases z : j = (i : Int)
                · subst z; exact fun y => by have := hvp.mpr y; omega
                · exact hno j h0 (by omega) h2) hI ls (lv_sub hl [2, 3, 4, 5, 6, 0] rfl)
          · refine rr_iload hC dA_coreForRest_39 hl 6 rfl ?_
            exact rr_iret hC (wA_ h r cZ cI) hI hr hlk dA_coreForRest_41 (⟨⟨(i : Int), rfl, Or.inl ⟨by omega, by omega, by omega, hvp.mp (by omega), hno⟩⟩, hag⟩)
  refine rr_iconst (v := ((0 : Nat) : Int)) hC dA_coreForRest_0 rfl ?_
  refine rr_istore (lv' := [(5, .int (iI ((0 : Nat) : Int))), (0, .ref h), (1, .int (iI ((id : Nat) : Int))), (2, .int (iI o)), (3, .int (iI a)), (4, .int (iI d))]) hC dA_coreForRest_1 hl (by decide) rfl (fun ls hl => ?_)
  exact loop 4 0 S _ _ (by omega) (by omega) (agA_rf id S) (fun j h0 h1 => by omega) hI ls (lv_sub hl [1, 2, 3, 4, 5, 0] rfl)
set_option maxRecDepth 100000 in
set_option maxHeartbeats 4000000 in
/-- placeWhole -/
theorem cA_placeWhole (l : Launch) (D : va_G) (h : Nat) (r : Nat → Nat) (cZ cI : ClassId) (S : St_) (id : Nat) (a d : Int) (hid : id < 13) (hv : vlA_ S) (hf : frA_ S id) (hp : okp_ (S 3 id)) (hc : 1 ≤ a ∧ a ≤ d ∧ d ≤ S 3 id) : MI_ l D [(cZ, .boolean), (cI, .int)] (wA_ h r cZ cI) yA_placeWhole kA_placeWhole 6 (some .boolean) 3 S [.ref h, .int (iI ((id : Nat) : Int)), .int (iI a), .int (iI d)] (fun x S' => (x = iI 0 ∧ nW_ (fun k x y => tkA_ S k id x y) (S 0 0) a d ∧ agA_ id S S') ∨ (x = iI 1 ∧ ∃ k : Int, 0 ≤ k ∧ k < S 0 0 ∧ tkA_ S k id a d ∧ (∀ j : Int, 0 ≤ j → j < k → ¬ tkA_ S j id a d) ∧ agP_ id S S' ∧ S' 4 (2 * id) = k ∧ S' 5 (2 * id) = a ∧ S' 6 (2 * id) = d ∧ S' 4 (2 * id + 1) = -1)) := by
  refine MI_of (by decide) (Nat.le_of_ble_eq_true rfl) ?_
  intro p e s m below meth c A ls hC hI hr hlk hl
  have hl : lv_has ls 6 [(0, .ref h), (1, .int (iI ((id : Nat) : Int))), (2, .int (iI a)), (3, .int (iI d))] := hl
  have hcr := hv.1
  have hpb := hp.2.1
  have loop : ∀ (n : Nat) (i : Nat) (S1 : St_) (H : Heap) (locs : List Loc), (i : Int) ≤ S 0 0 → S 0 0 < (i : Int) + n → agA_ id S S1 → (∀ j : Int, 0 ≤ j → j < (i : Int) → ¬ tkA_ S j id a d) → In_ D A s.heap H locs (wA_ h r cZ cI S1) → ∀ (ls : Array Slot), lv_has ls 6 [(0, .ref h), (1, .int (iI ((id : Nat) : Int))), (2, .int (iI a)), (3, .int (iI d)), (4, .int (iI ((i : Nat) : Int)))] → W p l e (rm_ 3) s m [.ref h, .int (iI ((id : Nat) : Int)), .int (iI a), .int (iI d)].toArray below meth c H locs 0 0 (EQ_ D [(cZ, .boolean), (cI, .int)] (wA_ h r cZ cI) S s below [.ref h, .int (iI ((id : Nat) : Int)), .int (iI a), .int (iI d)].toArray A (fun x S' => (x = iI 0 ∧ nW_ (fun k x y => tkA_ S k id x y) (S 0 0) a d ∧ agA_ id S S') ∨ (x = iI 1 ∧ ∃ k : Int, 0 ≤ k ∧ k < S 0 0 ∧ tkA_ S k id a d ∧ (∀ j : Int, 0 ≤ j → j < k → ¬ tkA_ S j id a d) ∧ agP_ id S S' ∧ S' 4 (2 * id) = k ∧ S' 5 (2 * id) = a ∧ S' 6 (2 * id) = d ∧ S' 4 (2 * id + 1) = -1))) (F0 m 3 ls []) := by
    intro n
    induction n with
    | zero => intros; omega
    | succ n ih =>
      intro i S1 H locs hi hn hag hno hI ls hl
      refine rr_iload hC dA_placeWhole_3 hl 4 rfl ?_
      have hn0 := hag 0 0 (by omega)
      refine rr_aload_n hC dA_placeWhole_5 hl rfl 0 rfl ?_
      refine rA_get hC hI 0 (by decide) lA_0 rfl dA_placeWhole_6 ?_
      refine rr_icmp_ge hC 49 dA_placeWhole_9 (by decide) (by omega) (by omega) (fun c1 => ?_) (fun c1 => ?_)
      · refine rr_iconst (v := ((0 : Nat) : Int)) hC dA_placeWhole_49 rfl ?_
        exact rr_zret hC (wA_ h r cZ cI) hI hr hlk (by decide +kernel) dA_placeWhole_50 (Or.inl ⟨rfl, fun j h0 h1 => hno j h0 (by omega), hag⟩)
      · refine rr_aload_n hC dA_placeWhole_12 hl rfl 0 rfl ?_
        refine rr_iload hC dA_placeWhole_13 hl 4 rfl ?_
        refine rr_iconst (v := ((2 : Nat) : Int)) hC dA_placeWhole_15 rfl ?_
        refine rr_iload_n hC dA_placeWhole_16 hl rfl 1 rfl ?_
        refine rr_imul hC dA_placeWhole_17 ?_
        refine rr_top (y := ((2 * id : Nat) : Int)) (by omega) ?_
        refine rr_iload_n hC dA_placeWhole_18 hl rfl 2 rfl ?_
        refine rr_iload_n hC dA_placeWhole_19 hl rfl 3 rfl ?_
        have h3 := hag 3 id (by omega)
        refine rr_calli (na := 4) hC (wA_ h r cZ cI) hI hl (cA_passesWith l D h r cZ cI S1 ((i : Nat) : Int) id (2 * id) a d (by omega) hid (by omega) (agA_v hag hf hv) (agA_fr hag hf) (by rw [h3]; omega) (by rw [h3]; exact hp)) gA_A_passesWith (by decide +kernel) ⟨by decide, by decide⟩ rfl rfl rfl rfl (by decide) dA_placeWhole_20 (fun x2 T3 H locs hp2 hI => ?_)
        obtain ⟨⟨v4, e1, hv01, hvp⟩, hag2⟩ := hp2
        subst e1
        rw [agA_tk hag hf (by omega)] at hvp
        replace hag := agA_tr hag hag2
        refine rr_istore (lv' := [(5, .int (iI v4)), (0, .ref h), (1, .int (iI ((id : Nat) : Int))), (2, .int (iI a)), (3, .int (iI d)), (4, .int (iI ((i : Nat) : Int)))]) hC dA_placeWhole_23 hl (by decide) rfl (fun ls hl => ?_)
        refine rr_iload hC dA_placeWhole_25 hl 0 rfl ?_
        refine rr_if_eq hC 43 dA_placeWhole_27 (by decide) (by omega) (fun c5 => ?_) (fun c5 => ?_)
        · refine rr_iinc (v := ((i + 1 : Nat) : Int)) (lv' := [(4, .int (iI ((i + 1 : Nat) : Int))), (5, .int (iI v4)), (0, .ref h), (1, .int (iI ((id : Nat) : Int))), (2, .int (iI a)), (3, .int (iI d))]) hC dA_placeWhole_43 hl 5 rfl (by omega) (by decide) rfl (fun ls hl => ?_)
          refine rr_goto hC 3 dA_placeWhole_46 (by decide) ?_
          exact ih (i + 1) T3 H locs (by omega) (by omega) hag (fun j h0 h1 => by
              by_cases z : j = (i : Int)
              · subst z; exact fun y => by have := hvp.mpr y; omega
              · exact hno j h0 (by omega)) hI ls (lv_sub hl [2, 3, 4, 5, 0] rfl)
        · refine rr_aload_n hC dA_placeWhole_30 hl rfl 1 rfl ?_
          refine rr_iconst (v := ((2 : Nat) : Int)) hC dA_placeWhole_31 rfl ?_
          refine rr_iload_n hC dA_placeWhole_32 hl rfl 2 rfl ?_
          refine rr_imul hC dA_placeWhole_33 ?_
          refine rr_top (y := ((2 * id : Nat) : Int)) (by omega) ?_
          refine rr_iload hC dA_placeWhole_34 hl 5 rfl ?_
          refine rr_iload_n hC dA_placeWhole_36 hl rfl 3 rfl ?_
          refine rr_iload_n hC dA_placeWhole_37 hl rfl 4 rfl ?_
          refine rr_callv (na := 4) hC (wA_ h r cZ cI) hI hl (cA_setPart l D h r cZ cI T3 (2 * id) ((i : Nat) : Int) a d (by omega)) gA_A_setPart (by decide +kernel) ⟨by decide, by decide⟩ rfl rfl rfl rfl (by decide) dA_placeWhole_38 (fun T9 H locs hp2 hI => ?_)
          subst hp2
          refine rr_iconst (v := ((1 : Nat) : Int)) hC dA_placeWhole_41 rfl ?_
          exact rr_zret hC (wA_ h r cZ cI) hI hr hlk (by decide +kernel) dA_placeWhole_42 (Or.inr ⟨rfl, (i : Int), by omega, by omega, hvp.mp (by omega), hno, agP_of hag (by omega) _ _ _, by rw [sP_4, if_pos rfl], by rw [sP_5, if_pos rfl], by rw [sP_6, if_pos rfl], by rw [sP_4, if_neg (by omega)]; exact (agA_fr hag hf).2⟩)
  refine rr_iconst (v := ((0 : Nat) : Int)) hC dA_placeWhole_0 rfl ?_
  refine rr_istore (lv' := [(4, .int (iI ((0 : Nat) : Int))), (0, .ref h), (1, .int (iI ((id : Nat) : Int))), (2, .int (iI a)), (3, .int (iI d))]) hC dA_placeWhole_1 hl (by decide) rfl (fun ls hl => ?_)
  exact loop 4 0 S _ _ (by omega) (by omega) (agA_rf id S) (fun j h0 h1 => by omega) hI ls (lv_sub hl [1, 2, 3, 4, 0] rfl)
set_option maxRecDepth 100000 in
set_option maxHeartbeats 4000000 in
/-- placeSplit -/
theorem cA_placeSplit (l : Launch) (D : va_G) (h : Nat) (r : Nat → Nat) (cZ cI : ClassId) (S : St_) (id : Nat) (x a d : Int) (hid : id < 13) (hv : vlA_ S) (hf : frA_ S id) (hp : okp_ (S 3 id)) (hx : 1 ≤ x ∧ x < a) (hc : 1 ≤ a ∧ a ≤ d ∧ d ≤ S 3 id) : MI_ l D [(cZ, .boolean), (cI, .int)] (wA_ h r cZ cI) yA_placeSplit kA_placeSplit 9 (some .boolean) 4 S [.ref h, .int (iI ((id : Nat) : Int)), .int (iI x), .int (iI a), .int (iI d)] (fun y S' => (y = iI 0 ∧ (∀ i : Int, 0 ≤ i → i < S 0 0 → ¬ Gd_ (fun k x y => tkA_ S k id x y) (S 0 0) a d x i) ∧ agA_ id S S') ∨ (y = iI 1 ∧ ∃ i j : Int, sp_ (fun k x y => tkA_ S k id x y) (S 0 0) a d x i j ∧ agP_ id S S' ∧ S' 4 (2 * id) = i ∧ S' 5 (2 * id) = x ∧ S' 6 (2 * id) = x ∧ S' 4 (2 * id + 1) = j ∧ S' 5 (2 * id + 1) = a - x ∧ S' 6 (2 * id + 1) = d - x)) := by
  refine MI_of (by decide) (Nat.le_of_ble_eq_true rfl) ?_
  intro p e s m below meth c A ls hC hI hr hlk hl
  have hl : lv_has ls 9 [(0, .ref h), (1, .int (iI ((id : Nat) : Int))), (2, .int (iI x)), (3, .int (iI a)), (4, .int (iI d))] := hl
  have hcr := hv.1
  have hpb := hp.2.1
  have loop : ∀ (n : Nat) (i : Nat) (sv : Int) (S1 : St_) (H : Heap) (locs : List Loc), (i : Int) ≤ S 0 0 → S 0 0 < (i : Int) + n → -1 ≤ sv ∧ sv ≤ 2 → agA_ id S S1 → (∀ q : Int, 0 ≤ q → q < (i : Int) → ¬ Gd_ (fun k x y => tkA_ S k id x y) (S 0 0) a d x q) → In_ D A s.heap H locs (wA_ h r cZ cI S1) → ∀ (ls : Array Slot), lv_has ls 9 [(0, .ref h), (1, .int (iI ((id : Nat) : Int))), (2, .int (iI x)), (3, .int (iI a)), (4, .int (iI d)), (5, .int (iI sv)), (6, .int (iI (-1 : Int))), (7, .int (iI ((i : Nat) : Int)))] → W p l e (rm_ 4) s m [.ref h, .int (iI ((id : Nat) : Int)), .int (iI x), .int (iI a), .int (iI d)].toArray below meth c H locs 0 0 (EQ_ D [(cZ, .boolean), (cI, .int)] (wA_ h r cZ cI) S s below [.ref h, .int (iI ((id : Nat) : Int)), .int (iI x), .int (iI a), .int (iI d)].toArray A (fun y S' => (y = iI 0 ∧ (∀ i : Int, 0 ≤ i → i < S 0 0 → ¬ Gd_ (fun k x y => tkA_ S k id x y) (S 0 0) a d x i) ∧ agA_ id S S') ∨ (y = iI 1 ∧ ∃ i j : Int, sp_ (fun k x y => tkA_ S k id x y) (S 0 0) a d x i j ∧ agP_ id S S' ∧ S' 4 (2 * id) = i ∧ S' 5 (2 * id) = x ∧ S' 6 (2 * id) = x ∧ S' 4 (2 * id + 1) = j ∧ S' 5 (2 * id + 1) = a - x ∧ S' 6 (2 * id + 1) = d - x))) (F0 m 9 ls []) := by
    intro n
    induction n with
    | zero => intros; omega
    | succ n ih =>
      intro i sv S1 H locs hi hn hsv hag hno hI ls hl
      refine rr_iload hC dA_placeSplit_9 hl 7 rfl ?_
      have hn0 := hag 0 0 (by omega)
      refine rr_aload_n hC dA_placeSplit_11 hl rfl 0 rfl ?_
      refine rA_get hC hI 0 (by decide) lA_0 rfl dA_placeSplit_12 ?_
      refine rr_icmp_ge hC 72 dA_placeSplit_15 (by decide) (by omega) (by omega) (fun c1 => ?_) (fun c1 => ?_)
      · refine rr_iload hC dA_placeSplit_72 hl 6 rfl ?_
        refine rr_if_ge hC 79 dA_placeSplit_74 (by decide) (by omega) (fun c2 => ?_) (fun c2 => ?_)
        · exfalso; omega
        · refine rr_iconst (v := ((0 : Nat) : Int)) hC dA_placeSplit_77 rfl ?_
          exact rr_zret hC (wA_ h r cZ cI) hI hr hlk (by decide +kernel) dA_placeSplit_78 (Or.inl ⟨rfl, fun q h0 h1 => hno q h0 (by omega), hag⟩)
      · refine rr_iload hC dA_placeSplit_18 hl 6 rfl ?_
        refine rr_if_ge hC 72 dA_placeSplit_20 (by decide) (by omega) (fun c3 => ?_) (fun c3 => ?_)
        · refine rr_iload hC dA_placeSplit_72 hl 6 rfl ?_
          refine rr_if_ge hC 79 dA_placeSplit_74 (by decide) (by omega) (fun c4 => ?_) (fun c4 => ?_)
          · exfalso; omega
          · refine rr_iconst (v := ((0 : Nat) : Int)) hC dA_placeSplit_77 rfl ?_
            exact rr_zret hC (wA_ h r cZ cI) hI hr hlk (by decide +kernel) dA_placeSplit_78 (Or.inl ⟨rfl, fun q h0 h1 => hno q h0 (by omega), hag⟩)
        · refine rr_aload_n hC dA_placeSplit_23 hl rfl 0 rfl ?_
          refine rr_iload hC dA_placeSplit_24 hl 7 rfl ?_
          refine rr_iconst (v := ((2 : Nat) : Int)) hC dA_placeSplit_26 rfl ?_
          refine rr_iload_n hC dA_placeSplit_27 hl rfl 1 rfl ?_
          refine rr_imul hC dA_placeSplit_28 ?_
          refine rr_top (y := ((2 * id : Nat) : Int)) (by omega) ?_
          refine rr_iload_n hC dA_placeSplit_29 hl rfl 2 rfl ?_
          refine rr_iload_n hC dA_placeSplit_30 hl rfl 2 rfl ?_
          have h3 := hag 3 id (by omega)
          refine rr_calli (na := 4) hC (wA_ h r cZ cI) hI hl (cA_passesWith l D h r cZ cI S1 ((i : Nat) : Int) id (2 * id) x x (by omega) hid (by omega) (agA_v hag hf hv) (agA_fr hag hf) (by rw [h3]; omega) (by rw [h3]; exact hp)) gA_A_passesWith (by decide +kernel) ⟨by decide, by decide⟩ rfl rfl rfl rfl (by decide) dA_placeSplit_31 (fun x5 T6 H locs hp2 hI => ?_)
          obtain ⟨⟨v7, e1, hv01, hvp⟩, hag2⟩ := hp2
          subst e1
          rw [agA_tk hag hf (by omega)] at hvp
          replace hag := agA_tr hag hag2
          refine rr_istore (lv' := [(8, .int (iI v7)), (0, .ref h), (1, .int (iI ((id : Nat) : Int))), (2, .int (iI x)), (3, .int (iI a)), (4, .int (iI d)), (5, .int (iI sv)), (6, .int (iI (-1 : Int))), (7, .int (iI ((i : Nat) : Int)))]) hC dA_placeSplit_34 hl (by decide) rfl (fun ls hl => ?_)
          refine rr_iload hC dA_placeSplit_36 hl 0 rfl ?_
          refine rr_if_eq hC 66 dA_placeSplit_38 (by decide) (by omega) (fun c8 => ?_) (fun c8 => ?_)
          · refine rr_iinc (v := ((i + 1 : Nat) : Int)) (lv' := [(7, .int (iI ((i + 1 : Nat) : Int))), (8, .int (iI v7)), (0, .ref h), (1, .int (iI ((id : Nat) : Int))), (2, .int (iI x)), (3, .int (iI a)), (4, .int (iI d)), (5, .int (iI sv)), (6, .int (iI (-1 : Int)))]) hC dA_placeSplit_66 hl 8 rfl (by omega) (by decide) rfl (fun ls hl => ?_)
            refine rr_goto hC 9 dA_placeSplit_69 (by decide) ?_
            exact ih (i + 1) sv T6 H locs (by omega) (by omega) (by omega) hag (fun q h0 h1 => by
                by_cases z : q = (i : Int)
                · subst z; exact fun y => by have := hvp.mpr y.1; omega
                · exact hno q h0 (by omega)) hI ls (lv_sub hl [2, 3, 4, 5, 6, 7, 8, 0] rfl)
          · refine rr_aload_n hC dA_placeSplit_41 hl rfl 1 rfl ?_
            refine rr_iload_n hC dA_placeSplit_42 hl rfl 2 rfl ?_
            refine rr_iload hC dA_placeSplit_43 hl 8 rfl ?_
            refine rr_iload_n hC dA_placeSplit_45 hl rfl 4 rfl ?_
            refine rr_iload_n hC dA_placeSplit_46 hl rfl 3 rfl ?_
            refine rr_isub hC dA_placeSplit_47 ?_
            refine rr_iload hC dA_placeSplit_48 hl 5 rfl ?_
            refine rr_iload_n hC dA_placeSplit_50 hl rfl 3 rfl ?_
            refine rr_isub hC dA_placeSplit_51 ?_
            have h3 := hag 3 id (by omega)
            refine rr_calli (na := 4) hC (wA_ h r cZ cI) hI hl (cA_coreForRest l D h r cZ cI T6 id ((i : Nat) : Int) (a - x) (d - x) hid (agA_v hag hf hv) (agA_fr hag hf) (by rw [h3]; exact hp) (by omega) (by rw [h3]; omega)) gA_A_coreForRest (by decide +kernel) ⟨by decide, by decide⟩ rfl rfl rfl rfl (by decide) dA_placeSplit_52 (fun x7 T9 H locs hp2 hI => ?_)
            obtain ⟨⟨cv, e1, hcv⟩, hag2⟩ := hp2
            subst e1
            rw [hag 0 0 (by omega)] at hcv
            have hcv0 : -1 ≤ cv ∧ cv ≤ 2 := by rcases hcv with hcv | hcv <;> omega
            refine rr_istore (lv' := [(5, .int (iI cv)), (8, .int (iI v7)), (0, .ref h), (1, .int (iI ((id : Nat) : Int))), (2, .int (iI x)), (3, .int (iI a)), (4, .int (iI d)), (6, .int (iI (-1 : Int))), (7, .int (iI ((i : Nat) : Int)))]) hC dA_placeSplit_55 hl (by decide) rfl (fun ls hl => ?_)
            refine rr_iload hC dA_placeSplit_57 hl 0 rfl ?_
            refine rr_if_lt hC 66 dA_placeSplit_59 (by decide) (by omega) (fun c10 => ?_) (fun c10 => ?_)
            · replace hcv : ∀ j : Int, 0 ≤ j → j < S 0 0 → j ≠ (i : Int) → ¬ tkA_ S j id (a - x) (d - x) := by
                rcases hcv with hcv | hcv
                · omega
                · exact fun j j0 j1 j2 j3 => hcv.2 j j0 j1 j2 ((agA_tk hag hf (by omega) _ _).mpr j3)
              replace hag := agA_tr hag hag2
              refine rr_iinc (v := ((i + 1 : Nat) : Int)) (lv' := [(7, .int (iI ((i + 1 : Nat) : Int))), (5, .int (iI cv)), (8, .int (iI v7)), (0, .ref h), (1, .int (iI ((id : Nat) : Int))), (2, .int (iI x)), (3, .int (iI a)), (4, .int (iI d)), (6, .int (iI (-1 : Int)))]) hC dA_placeSplit_66 hl 8 rfl (by omega) (by decide) rfl (fun ls hl => ?_)
              refine rr_goto hC 9 dA_placeSplit_69 (by decide) ?_
              exact ih (i + 1) cv T9 H locs (by omega) (by omega) (by omega) hag (fun q h0 h1 => by
                  by_cases z : q = (i : Int)
                  · subst z; exact fun y => by obtain ⟨-, j, j0, j1, j2, j3⟩ := y; exact hcv j j0 j1 j2 j3
                  · exact hno q h0 (by omega)) hI ls (lv_sub hl [3, 4, 5, 6, 7, 1, 8, 0] rfl)
            · have hcv : 0 ≤ cv ∧ cv < S 0 0 ∧ cv ≠ (i : Int) ∧ tkA_ S cv id (a - x) (d - x) ∧ ∀ j : Int, 0 ≤ j → j < cv → j ≠ (i : Int) → ¬ tkA_ S j id (a - x) (d - x) := by
                rcases hcv with hcv | hcv
                · obtain ⟨q1, q2, q3, q4, q5⟩ := hcv
                  exact ⟨q1, q2, q3, (agA_tk hag hf (by omega) _ _).mp q4, fun j j0 j1 j2 j3 => q5 j j0 j1 j2 ((agA_tk hag hf (by omega) _ _).mpr j3)⟩
                · omega
              replace hag := agA_tr hag hag2
              have hn0 := hag 0 0 (by omega)
              refine rr_iload hC dA_placeSplit_62 hl 8 rfl ?_
              refine rr_istore (lv' := [(6, .int (iI ((i : Nat) : Int))), (5, .int (iI cv)), (8, .int (iI v7)), (0, .ref h), (1, .int (iI ((id : Nat) : Int))), (2, .int (iI x)), (3, .int (iI a)), (4, .int (iI d)), (7, .int (iI ((i : Nat) : Int)))]) hC dA_placeSplit_64 hl (by decide) rfl (fun ls hl => ?_)
              refine rr_iinc (v := ((i + 1 : Nat) : Int)) (lv' := [(7, .int (iI ((i + 1 : Nat) : Int))), (6, .int (iI ((i : Nat) : Int))), (5, .int (iI cv)), (8, .int (iI v7)), (0, .ref h), (1, .int (iI ((id : Nat) : Int))), (2, .int (iI x)), (3, .int (iI a)), (4, .int (iI d))]) hC dA_placeSplit_66 hl 8 rfl (by omega) (by decide) rfl (fun ls hl => ?_)
              refine rr_goto hC 9 dA_placeSplit_69 (by decide) ?_
              refine rr_iload hC dA_placeSplit_9 hl 0 rfl ?_
              have hn0 := hag 0 0 (by omega)
              refine rr_aload_n hC dA_placeSplit_11 hl rfl 4 rfl ?_
              refine rA_get hC hI 0 (by decide) lA_0 rfl dA_placeSplit_12 ?_
              refine rr_icmp_ge hC 72 dA_placeSplit_15 (by decide) (by omega) (by omega) (fun c11 => ?_) (fun c11 => ?_)
              · refine rr_iload hC dA_placeSplit_72 hl 1 rfl ?_
                refine rr_if_ge hC 79 dA_placeSplit_74 (by decide) (by omega) (fun c12 => ?_) (fun c12 => ?_)
                · refine rr_aload_n hC dA_placeSplit_79 hl rfl 4 rfl ?_
                  refine rr_iconst (v := ((2 : Nat) : Int)) hC dA_placeSplit_80 rfl ?_
                  refine rr_iload_n hC dA_placeSplit_81 hl rfl 5 rfl ?_
                  refine rr_imul hC dA_placeSplit_82 ?_
                  refine rr_top (y := ((2 * id : Nat) : Int)) (by omega) ?_
                  refine rr_iload hC dA_placeSplit_83 hl 1 rfl ?_
                  refine rr_iload_n hC dA_placeSplit_85 hl rfl 6 rfl ?_
                  refine rr_iload_n hC dA_placeSplit_86 hl rfl 6 rfl ?_
                  refine rr_callv (na := 4) hC (wA_ h r cZ cI) hI hl (cA_setPart l D h r cZ cI T9 (2 * id) ((i : Nat) : Int) x x (by omega)) gA_A_setPart (by decide +kernel) ⟨by decide, by decide⟩ rfl rfl rfl rfl (by decide) dA_placeSplit_87 (fun T9 H locs hp2 hI => ?_)
                  subst hp2
                  refine rr_aload_n hC dA_placeSplit_90 hl rfl 4 rfl ?_
                  refine rr_iconst (v := ((2 : Nat) : Int)) hC dA_placeSplit_91 rfl ?_
                  refine rr_iload_n hC dA_placeSplit_92 hl rfl 5 rfl ?_
                  refine rr_imul hC dA_placeSplit_93 ?_
                  refine rr_top (y := ((2 * id : Nat) : Int)) (by omega) ?_
                  refine rr_iconst (v := ((1 : Nat) : Int)) hC dA_placeSplit_94 rfl ?_
                  refine rr_iadd hC dA_placeSplit_95 ?_
                  refine rr_top (y := (((2 * id) + 1 : Nat) : Int)) (by omega) ?_
                  refine rr_iload hC dA_placeSplit_96 hl 2 rfl ?_
                  refine rr_iload_n hC dA_placeSplit_98 hl rfl 7 rfl ?_
                  refine rr_iload_n hC dA_placeSplit_99 hl rfl 6 rfl ?_
                  refine rr_isub hC dA_placeSplit_100 ?_
                  refine rr_iload hC dA_placeSplit_101 hl 8 rfl ?_
                  refine rr_iload_n hC dA_placeSplit_103 hl rfl 6 rfl ?_
                  refine rr_isub hC dA_placeSplit_104 ?_
                  refine rr_callv (na := 4) hC (wA_ h r cZ cI) hI hl (cA_setPart l D h r cZ cI (sP_ T9 (2 * id) ((i : Nat) : Int) x x) ((2 * id) + 1) cv (a - x) (d - x) (by omega)) gA_A_setPart (by decide +kernel) ⟨by decide, by decide⟩ rfl rfl rfl rfl (by decide) dA_placeSplit_105 (fun T9 H locs hp2 hI => ?_)
                  subst hp2
                  refine rr_iconst (v := ((1 : Nat) : Int)) hC dA_placeSplit_108 rfl ?_
                  exact rr_zret hC (wA_ h r cZ cI) hI hr hlk (by decide +kernel) dA_placeSplit_109 (Or.inr ⟨rfl, (i : Int), cv, ⟨by omega, by omega, hcv.1, hcv.2.1, hcv.2.2.1, hvp.mp (by omega), hcv.2.2.2.1, hcv.2.2.2.2, hno⟩, agP_of2 (agP_of hag (by omega) _ _ _) (by omega) _ _ _, by rw [sP_4, if_neg (by omega), sP_4, if_pos rfl], by rw [sP_5, if_neg (by omega), sP_5, if_pos rfl], by rw [sP_6, if_neg (by omega), sP_6, if_pos rfl], by rw [sP_4, if_pos rfl], by rw [sP_5, if_pos rfl], by rw [sP_6, if_pos rfl]⟩)
                · refine rr_iconst (v := ((0 : Nat) : Int)) hC dA_placeSplit_77 rfl ?_
                  exact rr_zret hC (wA_ h r cZ cI) hI hr hlk (by decide +kernel) dA_placeSplit_78 ((by exfalso; omega))
              · refine rr_iload hC dA_placeSplit_18 hl 1 rfl ?_
                refine rr_if_ge hC 72 dA_placeSplit_20 (by decide) (by omega) (fun c13 => ?_) (fun c13 => ?_)
                · refine rr_iload hC dA_placeSplit_72 hl 1 rfl ?_
                  refine rr_if_ge hC 79 dA_placeSplit_74 (by decide) (by omega) (fun c14 => ?_) (fun c14 => ?_)
                  · refine rr_aload_n hC dA_placeSplit_79 hl rfl 4 rfl ?_
                    refine rr_iconst (v := ((2 : Nat) : Int)) hC dA_placeSplit_80 rfl ?_
                    refine rr_iload_n hC dA_placeSplit_81 hl rfl 5 rfl ?_
                    refine rr_imul hC dA_placeSplit_82 ?_
                    refine rr_top (y := ((2 * id : Nat) : Int)) (by omega) ?_
                    refine rr_iload hC dA_placeSplit_83 hl 1 rfl ?_
                    refine rr_iload_n hC dA_placeSplit_85 hl rfl 6 rfl ?_
                    refine rr_iload_n hC dA_placeSplit_86 hl rfl 6 rfl ?_
                    refine rr_callv (na := 4) hC (wA_ h r cZ cI) hI hl (cA_setPart l D h r cZ cI T9 (2 * id) ((i : Nat) : Int) x x (by omega)) gA_A_setPart (by decide +kernel) ⟨by decide, by decide⟩ rfl rfl rfl rfl (by decide) dA_placeSplit_87 (fun T9 H locs hp2 hI => ?_)
                    subst hp2
                    refine rr_aload_n hC dA_placeSplit_90 hl rfl 4 rfl ?_
                    refine rr_iconst (v := ((2 : Nat) : Int)) hC dA_placeSplit_91 rfl ?_
                    refine rr_iload_n hC dA_placeSplit_92 hl rfl 5 rfl ?_
                    refine rr_imul hC dA_placeSplit_93 ?_
                    refine rr_top (y := ((2 * id : Nat) : Int)) (by omega) ?_
                    refine rr_iconst (v := ((1 : Nat) : Int)) hC dA_placeSplit_94 rfl ?_
                    refine rr_iadd hC dA_placeSplit_95 ?_
                    refine rr_top (y := (((2 * id) + 1 : Nat) : Int)) (by omega) ?_
                    refine rr_iload hC dA_placeSplit_96 hl 2 rfl ?_
                    refine rr_iload_n hC dA_placeSplit_98 hl rfl 7 rfl ?_
                    refine rr_iload_n hC dA_placeSplit_99 hl rfl 6 rfl ?_
                    refine rr_isub hC dA_placeSplit_100 ?_
                    refine rr_iload hC dA_placeSplit_101 hl 8 rfl ?_
                    refine rr_iload_n hC dA_placeSplit_103 hl rfl 6 rfl ?_
                    refine rr_isub hC dA_placeSplit_104 ?_
                    refine rr_callv (na := 4) hC (wA_ h r cZ cI) hI hl (cA_setPart l D h r cZ cI (sP_ T9 (2 * id) ((i : Nat) : Int) x x) ((2 * id) + 1) cv (a - x) (d - x) (by omega)) gA_A_setPart (by decide +kernel) ⟨by decide, by decide⟩ rfl rfl rfl rfl (by decide) dA_placeSplit_105 (fun T9 H locs hp2 hI => ?_)
                    subst hp2
                    refine rr_iconst (v := ((1 : Nat) : Int)) hC dA_placeSplit_108 rfl ?_
                    exact rr_zret hC (wA_ h r cZ cI) hI hr hlk (by decide +kernel) dA_placeSplit_109 (Or.inr ⟨rfl, (i : Int), cv, ⟨by omega, by omega, hcv.1, hcv.2.1, hcv.2.2.1, hvp.mp (by omega), hcv.2.2.2.1, hcv.2.2.2.2, hno⟩, agP_of2 (agP_of hag (by omega) _ _ _) (by omega) _ _ _, by rw [sP_4, if_neg (by omega), sP_4, if_pos rfl], by rw [sP_5, if_neg (by omega), sP_5, if_pos rfl], by rw [sP_6, if_neg (by omega), sP_6, if_pos rfl], by rw [sP_4, if_pos rfl], by rw [sP_5, if_pos rfl], by rw [sP_6, if_pos rfl]⟩)
                  · refine rr_iconst (v := ((0 : Nat) : Int)) hC dA_placeSplit_77 rfl ?_
                    exact rr_zret hC (wA_ h r cZ cI) hI hr hlk (by decide +kernel) dA_placeSplit_78 ((by exfalso; omega))
                · exfalso; omega
  refine rr_iconst (v := (-1 : Int)) hC dA_placeSplit_0 rfl ?_
  refine rr_istore (lv' := [(5, .int (iI (-1 : Int))), (0, .ref h), (1, .int (iI ((id : Nat) : Int))), (2, .int (iI x)), (3, .int (iI a)), (4, .int (iI d))]) hC dA_placeSplit_1 hl (by decide) rfl (fun ls hl => ?_)
  refine rr_iconst (v := (-1 : Int)) hC dA_placeSplit_3 rfl ?_
  refine rr_istore (lv' := [(6, .int (iI (-1 : Int))), (5, .int (iI (-1 : Int))), (0, .ref h), (1, .int (iI ((id : Nat) : Int))), (2, .int (iI x)), (3, .int (iI a)), (4, .int (iI d))]) hC dA_placeSplit_4 hl (by decide) rfl (fun ls hl => ?_)
  refine rr_iconst (v := ((0 : Nat) : Int)) hC dA_placeSplit_6 rfl ?_
  refine rr_istore (lv' := [(7, .int (iI ((0 : Nat) : Int))), (6, .int (iI (-1 : Int))), (5, .int (iI (-1 : Int))), (0, .ref h), (1, .int (iI ((id : Nat) : Int))), (2, .int (iI x)), (3, .int (iI a)), (4, .int (iI d))]) hC dA_placeSplit_7 hl (by decide) rfl (fun ls hl => ?_)
  exact loop 4 0 (-1) S _ _ (by omega) (by omega) (by omega) (agA_rf id S) (fun j h0 h1 => by omega) hI ls (lv_sub hl [3, 4, 5, 6, 7, 2, 1, 0] rfl)
end
section
/-! PURE: placing, put together -/
theorem bpv_01 (a : Int) : bpv_ a = 0 ∨ bpv_ a = 1 := by unfold bpv_; split <;> omega
def plc_ (U : St_) (id : Nat) (c d y i j : Int) (S1 : St_) : Prop := agP_ id U S1 ∧ S1 4 (2 * id) = i ∧ S1 5 (2 * id) = y ∧ S1 6 (2 * id) = (if j = -1 then d else y) ∧ S1 4 (2 * id + 1) = j ∧ (j ≠ -1 → S1 5 (2 * id + 1) = c - y ∧ S1 6 (2 * id + 1) = d - y)
abbrev tkf_ (U : St_) (id : Nat) : Int → Int → Int → Prop := fun k x y => tkA_ U k id x y
def pst_ (U : St_) (id : Nat) (c d v xv : Int) (S1 : St_) : Prop :=
  (v = 0 ∧ 0 ≤ xv ∧ nW_ (tkf_ U id) (U 0 0) c d ∧ nX_ (tkf_ U id) (U 0 0) c d xv ∧ agA_ id U S1) ∨ (v = 1 ∧ ∃ y i j : Int, PL_ (tkf_ U id) (U 0 0) c d y i j ∧ plc_ U id c d y i j S1)
theorem pst_whole {U : St_} {id : Nat} {c d : Int} (hc : 1 ≤ c) {x : Int32} {T : St_}
    (h : (x = iI 0 ∧ nW_ (fun k x y => tkA_ U k id x y) (U 0 0) c d ∧ agA_ id U T) ∨ (x = iI 1 ∧ ∃ k : Int, 0 ≤ k ∧ k < U 0 0 ∧ tkA_ U k id c d ∧ (∀ j : Int, 0 ≤ j → j < k → ¬ tkA_ U j id c d) ∧ agP_ id U T ∧ T 4 (2 * id) = k ∧ T 5 (2 * id) = c ∧ T 6 (2 * id) = d ∧ T 4 (2 * id + 1) = -1)) :
    ∃ v : Int, x = iI v ∧ pst_ U id c d v (c - 1) T := by
  rcases h with ⟨h1, h2, h3⟩ | ⟨h1, k, k0, k1, k2, k3, h2, a, b, e, f⟩
  · exact ⟨0, h1, Or.inl ⟨rfl, by omega, h2, fun x h4 h5 => by omega, h3⟩⟩
  · exact ⟨1, h1, Or.inr ⟨rfl, c, k, -1, Or.inl ⟨rfl, rfl, k0, k1, k2, k3⟩, h2, a, b, by rw [if_pos rfl]; exact e, f, fun z => absurd rfl z⟩⟩
theorem agP_trA {id : Nat} {U S1 T : St_} (h : agA_ id U S1) (g : agP_ id S1 T) : agP_ id U T := fun j k hj => (g j k hj).trans (h j k (by omega))
theorem pst_split {U : St_} {id : Nat} (hf : frA_ U id) {c d xv : Int} (hx : 1 ≤ xv ∧ xv < c) {S1 : St_} (h0 : nW_ (tkf_ U id) (U 0 0) c d) (hX : nX_ (tkf_ U id) (U 0 0) c d xv) (hag : agA_ id U S1) {x : Int32} {T : St_}
    (h : (x = iI 0 ∧ (∀ i : Int, 0 ≤ i → i < S1 0 0 → ¬ Gd_ (fun k x y => tkA_ S1 k id x y) (S1 0 0) c d xv i) ∧ agA_ id S1 T) ∨ (x = iI 1 ∧ ∃ i j : Int, sp_ (fun k x y => tkA_ S1 k id x y) (S1 0 0) c d xv i j ∧ agP_ id S1 T ∧ T 4 (2 * id) = i ∧ T 5 (2 * id) = xv ∧ T 6 (2 * id) = xv ∧ T 4 (2 * id + 1) = j ∧ T 5 (2 * id + 1) = c - xv ∧ T 6 (2 * id + 1) = d - xv)) :
    ∃ v : Int, x = iI v ∧ pst_ U id c d v (xv - 1) T := by
  have e0 : S1 0 0 = U 0 0 := hag 0 0 (by omega)
  rw [e0] at h
  have hcg : ∀ k a b : Int, 0 ≤ k → k < U 0 0 → ((fun k x y => tkA_ S1 k id x y) k a b ↔ tkf_ U id k a b) := fun k a b k0 _ => agA_tk hag hf k0 a b
  rcases h with ⟨h1, h2, h3⟩ | ⟨h1, i, j, h2, h3, a, b, e, f, g1, g2⟩
  · refine ⟨0, h1, Or.inl ⟨rfl, by omega, h0, fun x z1 z2 i i0 i1 => ?_, agA_tr hag h3⟩⟩
    by_cases z : x = xv
    · subst z
      exact fun y => h2 i i0 i1 ((Gd_congr hcg i0 i1).mpr y)
    · exact hX x (by omega) z2 i i0 i1
  · have hj : ¬ j = -1 := by have := h2.2.2.1; omega
    exact ⟨1, h1, Or.inr ⟨rfl, xv, i, j, Or.inr ⟨h0, hx.1, hx.2, hX, sp_congr hcg h2⟩, agP_trA hag h3, a, b, by rw [if_neg hj]; exact e, f, fun _ => ⟨g1, g2⟩⟩⟩
/-- what a new task leaves behind -/
def finA_ (S : St_) (id : Nat) (c d p y i j : Int) (S' : St_) : Prop :=
  (∀ f k, ¬ ((f = 4 ∨ f = 5 ∨ f = 6) ∧ (k = 2 * id ∨ k = 2 * id + 1)) → ¬ (f = 3 ∧ k = id) → ¬ (f = 2 ∧ k = id) → ¬ (f = 1 ∧ k = 0) → ¬ (f = 7 ∧ k = 0) → S' f k = S f k) ∧ S' 3 id = p ∧ S' 2 id = 1 ∧ S' 1 0 = S 1 0 + 1 ∧ S' 7 0 = -1 ∧
  S' 4 (2 * id) = i ∧ S' 5 (2 * id) = y ∧ S' 6 (2 * id) = (if j = -1 then d else y) ∧ S' 4 (2 * id + 1) = j ∧ (j ≠ -1 → S' 5 (2 * id + 1) = c - y ∧ S' 6 (2 * id + 1) = d - y)
theorem fin_of {S : St_} {id : Nat} {c d p y i j : Int} {T : St_} (h : plc_ (up_ S 3 id p) id c d y i j T) : finA_ S id c d p y i j (up_ (up_ (up_ T 2 id 1) 1 0 (T 1 0 + 1)) 7 0 (-1)) := by
  obtain ⟨h1, h2, h3, h4, h5, h6⟩ := h
  unfold finA_
  refine ⟨fun f k a1 a2 a3 a4 a5 => ?_, ?_, ?_, ?_, ?_, ?_, ?_, ?_, ?_, ?_⟩
  · rw [up_ne _ _ _ _ a5, up_ne _ _ _ _ a4, up_ne _ _ _ _ a3, h1 f k a1, up_ne _ _ _ _ a2]
  · rw [up_ne _ _ _ _ (by omega), up_ne _ _ _ _ (by omega), up_ne _ _ _ _ (by omega), h1 3 id (by omega), up_eq]
  · rw [up_ne _ _ _ _ (by omega), up_ne _ _ _ _ (by omega), up_eq]
  · rw [up_ne _ _ _ _ (by omega), up_eq, h1 1 0 (by omega), up_ne _ _ _ _ (by omega)]
  · rw [up_eq]
  · rw [up_ne _ _ _ _ (by omega), up_ne _ _ _ _ (by omega), up_ne _ _ _ _ (by omega)]; exact h2
  · rw [up_ne _ _ _ _ (by omega), up_ne _ _ _ _ (by omega), up_ne _ _ _ _ (by omega)]; exact h3
  · rw [up_ne _ _ _ _ (by omega), up_ne _ _ _ _ (by omega), up_ne _ _ _ _ (by omega)]; exact h4
  · rw [up_ne _ _ _ _ (by omega), up_ne _ _ _ _ (by omega), up_ne _ _ _ _ (by omega)]; exact h5
  · rw [up_ne _ _ _ _ (by omega), up_ne _ _ _ _ (by omega), up_ne _ _ _ _ (by omega), up_ne _ _ _ _ (by omega), up_ne _ _ _ _ (by omega), up_ne _ _ _ _ (by omega)]; exact h6
/-- the first free place -/
def ffA_ (S : St_) (id : Nat) : Prop := (∀ j, j < id → S 2 j = 1) ∧ (id < 12 → S 2 id = 0)
def okc_ (c d p : Int) : Prop := 1 ≤ c ∧ c ≤ d ∧ d ≤ p
def admA_ (S : St_) (c d p : Int) (x : Int32) (S' : St_) : Prop :=
  (¬ okp_ p ∧ x = iI (-1) ∧ S' = S) ∨ (okp_ p ∧ ¬ okc_ c d p ∧ x = iI (-2) ∧ S' = S) ∨ (okp_ p ∧ okc_ c d p ∧ 12 ≤ S 1 0 ∧ x = iI (-3) ∧ S' = S) ∨
  (okp_ p ∧ okc_ c d p ∧ S 1 0 < 12 ∧ ∃ id : Nat, id < 12 ∧ ffA_ S id ∧ ((x = iI (-4) ∧ NP_ (tkf_ (up_ S 3 id p) id) (S 0 0) c d ∧ agA_ id (up_ S 3 id p) S') ∨ (x = iI (id : Int) ∧ ∃ y i j : Int, PL_ (tkf_ (up_ S 3 id p) id) (S 0 0) c d y i j ∧ finA_ S id c d p y i j S')))
def sprA_ (S : St_) (k p : Int) (x : Int32) (S' : St_) : Prop :=
  (¬ (0 ≤ k ∧ k < S 0 0) ∧ x = iI (-6) ∧ S' = S) ∨ ((0 ≤ k ∧ k < S 0 0) ∧ ¬ okp_ p ∧ x = iI (-1) ∧ S' = S) ∨
  ((0 ≤ k ∧ k < S 0 0) ∧ okp_ p ∧ ∃ id : Nat, id ≤ 12 ∧ ffA_ S id ∧ agA_ id (up_ S 3 id p) S' ∧ ∃ v : Int, x = iI v ∧ 0 ≤ v ∧ v ≤ p ∧ (v = 0 ∨ tkA_ (up_ S 3 id p) k id v p) ∧ ∀ z : Int, v < z → z ≤ p → ¬ tkA_ (up_ S 3 id p) k id z p)
def remA_ (S : St_) (i : Nat) : St_ := up_ (up_ (up_ (up_ (up_ S 2 i 0) 4 (2 * i) (-1)) 4 (2 * i + 1) (-1)) 1 0 (S 1 0 - 1)) 7 0 (-1)
def usA_ (S : St_) (a : Int) : Prop := 0 ≤ a ∧ a < 12 ∧ S 2 a.toNat = 1
theorem ffA_lt {S : St_} (hn : nvA_ S) {id : Nat} (h12 : id ≤ 12) (hf : ∀ j, j < id → S 2 j = 1) (ht : S 1 0 < 12) : id < 12 := by
  rcases Nat.lt_or_ge id 12 with z | z
  · exact z
  · have : id = 12 := by omega
    subst this
    have := cnA_full hf
    have := hn.2.2.2.2
    omega
theorem ffA_fr {S : St_} (hn : nvA_ S) {id : Nat} (h12 : id ≤ 12) (hf : id < 12 → S 2 id = 0) : frA_ S id := by
  refine hn.2.2.2.1 id (by omega) ?_
  rcases Nat.lt_or_ge id 12 with z | z
  · exact hf z
  · have : id = 12 := by omega
    subst this
    exact hn.2.2.1
end
section
/-! A: the public methods but running and response, walked by program -/
theorem pst_zero {U : St_} {id : Nat} {c d v xv : Int} {S1 : St_} (h : pst_ U id c d v xv S1) (h0 : v = 0) : 0 ≤ xv ∧ nW_ (tkf_ U id) (U 0 0) c d ∧ nX_ (tkf_ U id) (U 0 0) c d xv ∧ agA_ id U S1 := by
  rcases h with ⟨-, h⟩ | ⟨h1, -⟩
  · exact h
  · omega
set_option maxRecDepth 100000 in
set_option maxHeartbeats 4000000 in
/-- a new task -/
theorem cA_admit (l : Launch) (D : va_G) (h : Nat) (r : Nat → Nat) (cZ cI : ClassId) (S : St_) (ca da pa : Int) (hca : -2147483648 ≤ ca ∧ ca ≤ 2147483647) (hda : -2147483648 ≤ da ∧ da ≤ 2147483647) (hpa : -2147483648 ≤ pa ∧ pa ≤ 2147483647) (hn : nvA_ S) : MI_ l D [(cZ, .boolean), (cI, .int)] (wA_ h r cZ cI) yA_admit kA_admit 7 (some .int) 5 S [.ref h, .int (iI ca), .int (iI da), .int (iI pa)] (fun x S' => admA_ S ca da pa x S') := by
  refine MI_of (by decide) (Nat.le_of_ble_eq_true rfl) ?_
  intro p e s m below meth c A ls hC hI hr hlk hl
  have hl : lv_has ls 7 [(0, .ref h), (1, .int (iI ca)), (2, .int (iI da)), (3, .int (iI pa))] := hl
  have hb1 := bpv_01 pa
  have hcn := cnA_le S hn.2.1
  have hts := hn.2.2.2.2
  have hcr := hn.1.1
  refine rr_iload_n hC dA_admit_0 hl rfl 3 rfl ?_
  refine rr_calls (na := 1) hC hl (cA_badPeriod l D cZ cI pa (by omega)) gA_A_badPeriod (by decide +kernel) ⟨by decide, by decide⟩ (fun _ _ _ _ q => q) (fun _ _ _ => trivial) ⟨Nat.zero_le _, Nat.zero_le _⟩ rfl rfl (by decide) dA_admit_1 ?_
  refine rr_if_eq hC 9 dA_admit_4 (by decide) (by omega) (fun c1 => ?_) (fun c1 => ?_)
  · have hokp : okp_ pa := bpv_ok.mpr (by omega)
    obtain ⟨q1, q2, q3⟩ := id hokp
    refine rr_iload_n hC dA_admit_9 hl rfl 1 rfl ?_
    refine rr_iconst (v := ((1 : Nat) : Int)) hC dA_admit_10 rfl ?_
    refine rr_icmp_lt hC 34 dA_admit_11 (by decide) (by omega) (by omega) (fun c2 => ?_) (fun c2 => ?_)
    · refine rr_bipush (v := (-2 : Int)) hC dA_admit_34 (by decide) ?_
      exact rr_iret hC (wA_ h r cZ cI) hI hr hlk dA_admit_36 (Or.inr (Or.inl ⟨hokp, fun z => by obtain ⟨z1, z2, z3⟩ := z; omega, rfl, rfl⟩))
    · refine rr_iload_n hC dA_admit_14 hl rfl 1 rfl ?_
      refine rr_iload_n hC dA_admit_15 hl rfl 3 rfl ?_
      refine rr_icmp_gt hC 34 dA_admit_16 (by decide) (by omega) (by omega) (fun c3 => ?_) (fun c3 => ?_)
      · refine rr_bipush (v := (-2 : Int)) hC dA_admit_34 (by decide) ?_
        exact rr_iret hC (wA_ h r cZ cI) hI hr hlk dA_admit_36 (Or.inr (Or.inl ⟨hokp, fun z => by obtain ⟨z1, z2, z3⟩ := z; omega, rfl, rfl⟩))
      · refine rr_iload_n hC dA_admit_19 hl rfl 2 rfl ?_
        refine rr_iconst (v := ((1 : Nat) : Int)) hC dA_admit_20 rfl ?_
        refine rr_icmp_lt hC 34 dA_admit_21 (by decide) (by omega) (by omega) (fun c4 => ?_) (fun c4 => ?_)
        · refine rr_bipush (v := (-2 : Int)) hC dA_admit_34 (by decide) ?_
          exact rr_iret hC (wA_ h r cZ cI) hI hr hlk dA_admit_36 (Or.inr (Or.inl ⟨hokp, fun z => by obtain ⟨z1, z2, z3⟩ := z; omega, rfl, rfl⟩))
        · refine rr_iload_n hC dA_admit_24 hl rfl 2 rfl ?_
          refine rr_iload_n hC dA_admit_25 hl rfl 3 rfl ?_
          refine rr_icmp_gt hC 34 dA_admit_26 (by decide) (by omega) (by omega) (fun c5 => ?_) (fun c5 => ?_)
          · refine rr_bipush (v := (-2 : Int)) hC dA_admit_34 (by decide) ?_
            exact rr_iret hC (wA_ h r cZ cI) hI hr hlk dA_admit_36 (Or.inr (Or.inl ⟨hokp, fun z => by obtain ⟨z1, z2, z3⟩ := z; omega, rfl, rfl⟩))
          · refine rr_iload_n hC dA_admit_29 hl rfl 1 rfl ?_
            refine rr_iload_n hC dA_admit_30 hl rfl 2 rfl ?_
            refine rr_icmp_le hC 37 dA_admit_31 (by decide) (by omega) (by omega) (fun c6 => ?_) (fun c6 => ?_)
            · refine rr_aload_n hC dA_admit_37 hl rfl 0 rfl ?_
              refine rA_get hC hI 1 (by decide) lA_1 rfl dA_admit_38 ?_
              refine rr_bipush (v := ((12 : Nat) : Int)) hC dA_admit_41 (by decide) ?_
              refine rr_icmp_lt hC 49 dA_admit_43 (by decide) (by omega) (by omega) (fun c7 => ?_) (fun c7 => ?_)
              · refine rr_aload_n hC dA_admit_49 hl rfl 0 rfl ?_
                refine rr_calli (na := 0) hC (wA_ h r cZ cI) hI hl (cA_freeId l D h r cZ cI S hn.2.1) gA_A_freeId (by decide +kernel) ⟨by decide, by decide⟩ rfl rfl rfl rfl (by decide) dA_admit_50 (fun x T H locs hp hI => ?_)
                obtain ⟨⟨id, e1, hid, hff, hf0⟩, e2⟩ := hp
                subst e1
                rw [e2] at hI
                have hfr := ffA_fr hn hid hf0
                refine rr_istore (lv' := [(4, .int (iI ((id : Nat) : Int))), (0, .ref h), (1, .int (iI ca)), (2, .int (iI da)), (3, .int (iI pa))]) hC dA_admit_53 hl (by decide) rfl (fun ls hl => ?_)
                replace hid : id < 12 := ffA_lt hn hid hff (by omega)
                have hv1 := up3_v hn.1 hfr pa
                have hf1 := up3_fr hfr pa
                have e3 : up_ S 3 id pa 3 id = pa := up_eq _ _ _ _
                have e0 : up_ S 3 id pa 0 0 = S 0 0 := up_ne _ _ _ _ (by omega)
                refine rr_aload_n hC dA_admit_55 hl rfl 1 rfl ?_
                refine rA_get hC hI 3 (by decide) lA_3 rfl dA_admit_56 ?_
                refine rr_iload hC dA_admit_59 hl 0 rfl ?_
                refine rr_iload_n hC dA_admit_61 hl rfl 4 rfl ?_
                refine rr_iast hC (wA_ h r cZ cI) hI 3 2 1 rfl rfl (by decide) (by omega) rfl dA_admit_62 (fun H locs hI => ?_)
                refine rr_aload_n hC dA_admit_63 hl rfl 1 rfl ?_
                refine rr_iload hC dA_admit_64 hl 0 rfl ?_
                refine rr_iload_n hC dA_admit_66 hl rfl 2 rfl ?_
                refine rr_iload_n hC dA_admit_67 hl rfl 3 rfl ?_
                refine rr_calli (na := 3) hC (wA_ h r cZ cI) hI hl (cA_placeWhole l D h r cZ cI (up_ S 3 id pa) id ca da (by omega) hv1 hf1 (by rw [e3]; exact hokp) (by rw [e3]; omega)) gA_A_placeWhole (by decide +kernel) ⟨by decide, by decide⟩ rfl rfl rfl rfl (by decide) dA_admit_68 (fun x8 T8 H locs hp hI => ?_)
                obtain ⟨v, e1, hps⟩ := pst_whole (by omega) hp
                subst e1
                refine rr_istore (lv' := [(5, .int (iI v)), (4, .int (iI ((id : Nat) : Int))), (0, .ref h), (1, .int (iI ca)), (2, .int (iI da)), (3, .int (iI pa))]) hC dA_admit_71 hl (by decide) rfl (fun ls hl => ?_)
                refine rr_iload_n hC dA_admit_73 hl rfl 3 rfl ?_
                refine rr_iconst (v := ((1 : Nat) : Int)) hC dA_admit_74 rfl ?_
                refine rr_isub hC dA_admit_75 ?_
                refine rr_istore (lv' := [(6, .int (iI (ca - ((1 : Nat) : Int)))), (5, .int (iI v)), (4, .int (iI ((id : Nat) : Int))), (0, .ref h), (1, .int (iI ca)), (2, .int (iI da)), (3, .int (iI pa))]) hC dA_admit_76 hl (by decide) rfl (fun ls hl => ?_)
                have loop : ∀ (n : Nat) (v xv : Int) (S1 : St_) (H : Heap) (locs : List Loc), xv + 1 < (n : Int) → -1 ≤ xv ∧ xv < ca → pst_ (up_ S 3 id pa) id ca da v xv S1 → In_ D A s.heap H locs (wA_ h r cZ cI S1) → ∀ (ls : Array Slot), lv_has ls 7 [(0, .ref h), (1, .int (iI ca)), (2, .int (iI da)), (3, .int (iI pa)), (4, .int (iI ((id : Nat) : Int))), (5, .int (iI v)), (6, .int (iI xv))] → W p l e (rm_ 5) s m [.ref h, .int (iI ca), .int (iI da), .int (iI pa)].toArray below meth c H locs 0 0 (EQ_ D [(cZ, .boolean), (cI, .int)] (wA_ h r cZ cI) S s below [.ref h, .int (iI ca), .int (iI da), .int (iI pa)].toArray A (fun x S' => admA_ S ca da pa x S')) (F0 m 78 ls []) := by
                  intro n
                  induction n with
                  | zero => intros; omega
                  | succ n ih =>
                    intro v xv S1 H locs hfu hxv hps hI ls hl
                    refine rr_iload hC dA_admit_78 hl 6 rfl ?_
                    have hv01 : v = 0 ∨ v = 1 := by rcases hps with hps | hps <;> omega
                    refine rr_iconst (v := ((1 : Nat) : Int)) hC dA_admit_80 rfl ?_
                    refine rr_icmp_lt hC 107 dA_admit_81 (by decide) (by omega) (by omega) (fun c8 => ?_) (fun c8 => ?_)
                    · refine rr_iload hC dA_admit_107 hl 5 rfl ?_
                      refine rr_if_ne hC 115 dA_admit_109 (by decide) (by omega) (fun c9 => ?_) (fun c9 => ?_)
                      · obtain ⟨y1, -⟩ | ⟨y1, yy, yi, yj, hpl, hpc⟩ := hps
                        · exfalso; omega
                        refine rr_aload_n hC dA_admit_115 hl rfl 0 rfl ?_
                        refine rA_get hC hI 2 (by decide) lA_2 rfl dA_admit_116 ?_
                        refine rr_iload hC dA_admit_119 hl 4 rfl ?_
                        refine rr_iconst (v := ((1 : Nat) : Int)) hC dA_admit_121 rfl ?_
                        refine rr_zast hC (wA_ h r cZ cI) hI 2 1 0 rfl rfl (by decide) (by omega) (by decide +kernel) rfl dA_admit_122 (fun H locs hI => ?_)
                        refine rr_aload_n hC dA_admit_123 hl rfl 0 rfl ?_
                        refine rr_dup hC dA_admit_124 ?_
                        refine rA_get hC hI 1 (by decide) lA_1 rfl dA_admit_125 ?_
                        refine rr_top (y := S1 1 0) rfl ?_
                        refine rr_iconst (v := ((1 : Nat) : Int)) hC dA_admit_128 rfl ?_
                        refine rr_iadd hC dA_admit_129 ?_
                        refine rA_put hC hI 1 (by decide) lA_1 rfl (by decide +kernel) rfl dA_admit_130 (fun H locs hI => ?_)
                        refine rr_aload_n hC dA_admit_133 hl rfl 0 rfl ?_
                        refine rr_iconst (v := (-1 : Int)) hC dA_admit_134 rfl ?_
                        refine rA_put hC hI 7 (by decide) lA_7 rfl (by decide +kernel) rfl dA_admit_135 (fun H locs hI => ?_)
                        refine rr_iload hC dA_admit_138 hl 4 rfl ?_
                        exact rr_iret hC (wA_ h r cZ cI) hI hr hlk dA_admit_140 (Or.inr (Or.inr (Or.inr ⟨hokp, ⟨by omega, by omega, by omega⟩, by omega, id, hid, ⟨hff, fun _ => hf0 hid⟩, Or.inr ⟨rfl, yy, yi, yj, by rw [← e0]; exact hpl, fin_of hpc⟩⟩)))
                      · refine rr_bipush (v := (-4 : Int)) hC dA_admit_112 (by decide) ?_
                        exact rr_iret hC (wA_ h r cZ cI) hI hr hlk dA_admit_114 (by
                          obtain ⟨y1, y2, y3, y4, y5⟩ | ⟨y1, -⟩ := hps
                          · have y6 : xv = 0 := by omega
                            rw [y6] at y4
                            rw [e0] at y3 y4
                            exact Or.inr (Or.inr (Or.inr ⟨hokp, ⟨by omega, by omega, by omega⟩, by omega, id, hid, ⟨hff, fun _ => hf0 hid⟩, Or.inl ⟨rfl, ⟨y3, y4⟩, y5⟩⟩))
                          · exfalso; omega)
                    · refine rr_iload hC dA_admit_84 hl 5 rfl ?_
                      refine rr_if_ne hC 107 dA_admit_86 (by decide) (by omega) (fun c10 => ?_) (fun c10 => ?_)
                      · refine rr_iload hC dA_admit_107 hl 5 rfl ?_
                        refine rr_if_ne hC 115 dA_admit_109 (by decide) (by omega) (fun c11 => ?_) (fun c11 => ?_)
                        · obtain ⟨y1, -⟩ | ⟨y1, yy, yi, yj, hpl, hpc⟩ := hps
                          · exfalso; omega
                          refine rr_aload_n hC dA_admit_115 hl rfl 0 rfl ?_
                          refine rA_get hC hI 2 (by decide) lA_2 rfl dA_admit_116 ?_
                          refine rr_iload hC dA_admit_119 hl 4 rfl ?_
                          refine rr_iconst (v := ((1 : Nat) : Int)) hC dA_admit_121 rfl ?_
                          refine rr_zast hC (wA_ h r cZ cI) hI 2 1 0 rfl rfl (by decide) (by omega) (by decide +kernel) rfl dA_admit_122 (fun H locs hI => ?_)
                          refine rr_aload_n hC dA_admit_123 hl rfl 0 rfl ?_
                          refine rr_dup hC dA_admit_124 ?_
                          refine rA_get hC hI 1 (by decide) lA_1 rfl dA_admit_125 ?_
                          refine rr_top (y := S1 1 0) rfl ?_
                          refine rr_iconst (v := ((1 : Nat) : Int)) hC dA_admit_128 rfl ?_
                          refine rr_iadd hC dA_admit_129 ?_
                          refine rA_put hC hI 1 (by decide) lA_1 rfl (by decide +kernel) rfl dA_admit_130 (fun H locs hI => ?_)
                          refine rr_aload_n hC dA_admit_133 hl rfl 0 rfl ?_
                          refine rr_iconst (v := (-1 : Int)) hC dA_admit_134 rfl ?_
                          refine rA_put hC hI 7 (by decide) lA_7 rfl (by decide +kernel) rfl dA_admit_135 (fun H locs hI => ?_)
                          refine rr_iload hC dA_admit_138 hl 4 rfl ?_
                          exact rr_iret hC (wA_ h r cZ cI) hI hr hlk dA_admit_140 (Or.inr (Or.inr (Or.inr ⟨hokp, ⟨by omega, by omega, by omega⟩, by omega, id, hid, ⟨hff, fun _ => hf0 hid⟩, Or.inr ⟨rfl, yy, yi, yj, by rw [← e0]; exact hpl, fin_of hpc⟩⟩)))
                        · refine rr_bipush (v := (-4 : Int)) hC dA_admit_112 (by decide) ?_
                          exact rr_iret hC (wA_ h r cZ cI) hI hr hlk dA_admit_114 (by
                            obtain ⟨y1, y2, y3, y4, y5⟩ | ⟨y1, -⟩ := hps
                            · have y6 : xv = 0 := by omega
                              rw [y6] at y4
                              rw [e0] at y3 y4
                              exact Or.inr (Or.inr (Or.inr ⟨hokp, ⟨by omega, by omega, by omega⟩, by omega, id, hid, ⟨hff, fun _ => hf0 hid⟩, Or.inl ⟨rfl, ⟨y3, y4⟩, y5⟩⟩))
                            · exfalso; omega)
                      · obtain ⟨y2, y3, y4, y5⟩ := pst_zero hps (by omega)
                        have h3 := y5 3 id (by omega)
                        rw [e3] at h3
                        refine rr_aload_n hC dA_admit_89 hl rfl 0 rfl ?_
                        refine rr_iload hC dA_admit_90 hl 4 rfl ?_
                        refine rr_iload hC dA_admit_92 hl 6 rfl ?_
                        refine rr_iload_n hC dA_admit_94 hl rfl 1 rfl ?_
                        refine rr_iload_n hC dA_admit_95 hl rfl 2 rfl ?_
                        refine rr_calli (na := 4) hC (wA_ h r cZ cI) hI hl (cA_placeSplit l D h r cZ cI S1 id xv ca da (by omega) (agA_v y5 hf1 hv1) (agA_fr y5 hf1) (by rw [h3]; exact hokp) (by omega) (by rw [h3]; omega)) gA_A_placeSplit (by decide +kernel) ⟨by decide, by decide⟩ rfl rfl rfl rfl (by decide) dA_admit_96 (fun x9 T9 H locs hp hI => ?_)
                        obtain ⟨v2, e1, hps2⟩ := pst_split hf1 (by omega) y3 y4 y5 hp
                        subst e1
                        refine rr_istore (lv' := [(5, .int (iI v2)), (0, .ref h), (1, .int (iI ca)), (2, .int (iI da)), (3, .int (iI pa)), (4, .int (iI ((id : Nat) : Int))), (6, .int (iI xv))]) hC dA_admit_99 hl (by decide) rfl (fun ls hl => ?_)
                        refine rr_iinc (v := xv - 1) (lv' := [(6, .int (iI (xv - 1))), (5, .int (iI v2)), (0, .ref h), (1, .int (iI ca)), (2, .int (iI da)), (3, .int (iI pa)), (4, .int (iI ((id : Nat) : Int)))]) hC dA_admit_101 hl 6 rfl (by omega) (by decide) rfl (fun ls hl => ?_)
                        refine rr_goto hC 78 dA_admit_104 (by decide) ?_
                        exact ih v2 (xv - 1) T9 H locs (by omega) (by omega) hps2 hI ls (lv_sub hl [2, 3, 4, 5, 6, 1, 0] rfl)
                exact loop 62 v (ca - 1) T8 _ _ (by omega) (by omega) hps hI ls (lv_sub hl [3, 4, 5, 6, 2, 1, 0] rfl)
              · refine rr_bipush (v := (-3 : Int)) hC dA_admit_46 (by decide) ?_
                exact rr_iret hC (wA_ h r cZ cI) hI hr hlk dA_admit_48 (Or.inr (Or.inr (Or.inl ⟨hokp, ⟨by omega, by omega, by omega⟩, by omega, rfl, rfl⟩)))
            · refine rr_bipush (v := (-2 : Int)) hC dA_admit_34 (by decide) ?_
              exact rr_iret hC (wA_ h r cZ cI) hI hr hlk dA_admit_36 (Or.inr (Or.inl ⟨hokp, fun z => by obtain ⟨z1, z2, z3⟩ := z; omega, rfl, rfl⟩))
  · refine rr_iconst (v := (-1 : Int)) hC dA_admit_7 rfl ?_
    exact rr_iret hC (wA_ h r cZ cI) hI hr hlk dA_admit_8 (Or.inl ⟨fun z => by have := bpv_ok.mp z; omega, rfl, rfl⟩)
set_option maxRecDepth 100000 in
set_option maxHeartbeats 4000000 in
/-- remove -/
theorem cA_remove (l : Launch) (D : va_G) (h : Nat) (r : Nat → Nat) (cZ cI : ClassId) (S : St_) (a : Int) (ha : -2147483648 ≤ a ∧ a ≤ 2147483647) (hn : nvA_ S) : MI_ l D [(cZ, .boolean), (cI, .int)] (wA_ h r cZ cI) yA_remove kA_remove 2 (some .int) 1 S [.ref h, .int (iI a)] (fun x S' => (¬ usA_ S a ∧ x = iI (-5) ∧ S' = S) ∨ (usA_ S a ∧ x = iI (S 1 0 - 1) ∧ S' = remA_ S a.toNat)) := by
  refine MI_of (by decide) (Nat.le_of_ble_eq_true rfl) ?_
  intro p e s m below meth c A ls hC hI hr hlk hl
  have hl : lv_has ls 2 [(0, .ref h), (1, .int (iI a))] := hl
  refine rr_aload_n hC dA_remove_0 hl rfl 0 rfl ?_
  refine rr_iload_n hC dA_remove_1 hl rfl 1 rfl ?_
  refine rr_calli (na := 1) hC (wA_ h r cZ cI) hI hl (cA_noTask l D h r cZ cI S a (by omega) hn.2.1) gA_A_noTask (by decide +kernel) ⟨by decide, by decide⟩ rfl rfl rfl rfl (by decide) dA_remove_2 (fun x1 T2 H locs hp hI => ?_)
  obtain ⟨⟨b3, e1, b3_01, b3_p⟩, e2⟩ := hp
  subst e1
  rw [e2] at hI
  refine rr_if_eq hC 11 dA_remove_5 (by decide) (by omega) (fun c4 => ?_) (fun c4 => ?_)
  · have hus : usA_ S a := by
      unfold usA_
      omega
    obtain ⟨i, rfl⟩ : ∃ i : Nat, a = (i : Int) := ⟨a.toNat, by have := hus.1; omega⟩
    have hi12 := hus.2.1
    refine rr_aload_n hC dA_remove_11 hl rfl 0 rfl ?_
    refine rA_get hC hI 2 (by decide) lA_2 rfl dA_remove_12 ?_
    refine rr_iload_n hC dA_remove_15 hl rfl 1 rfl ?_
    refine rr_iconst (v := ((0 : Nat) : Int)) hC dA_remove_16 rfl ?_
    refine rr_zast hC (wA_ h r cZ cI) hI 2 1 0 rfl rfl (by decide) (by omega) (by decide +kernel) rfl dA_remove_17 (fun H locs hI => ?_)
    refine rr_aload_n hC dA_remove_18 hl rfl 0 rfl ?_
    refine rA_get hC hI 4 (by decide) lA_4 rfl dA_remove_19 ?_
    refine rr_iconst (v := ((2 : Nat) : Int)) hC dA_remove_22 rfl ?_
    refine rr_iload_n hC dA_remove_23 hl rfl 1 rfl ?_
    refine rr_imul hC dA_remove_24 ?_
    refine rr_top (y := ((2 * i : Nat) : Int)) (by omega) ?_
    refine rr_iconst (v := (-1 : Int)) hC dA_remove_25 rfl ?_
    refine rr_iast hC (wA_ h r cZ cI) hI 4 3 1 rfl rfl (by decide) (by omega) rfl dA_remove_26 (fun H locs hI => ?_)
    refine rr_aload_n hC dA_remove_27 hl rfl 0 rfl ?_
    refine rA_get hC hI 4 (by decide) lA_4 rfl dA_remove_28 ?_
    refine rr_iconst (v := ((2 : Nat) : Int)) hC dA_remove_31 rfl ?_
    refine rr_iload_n hC dA_remove_32 hl rfl 1 rfl ?_
    refine rr_imul hC dA_remove_33 ?_
    refine rr_top (y := ((2 * i : Nat) : Int)) (by omega) ?_
    refine rr_iconst (v := ((1 : Nat) : Int)) hC dA_remove_34 rfl ?_
    refine rr_iadd hC dA_remove_35 ?_
    refine rr_top (y := (((2 * i) + 1 : Nat) : Int)) (by omega) ?_
    refine rr_iconst (v := (-1 : Int)) hC dA_remove_36 rfl ?_
    refine rr_iast hC (wA_ h r cZ cI) hI 4 3 1 rfl rfl (by decide) (by omega) rfl dA_remove_37 (fun H locs hI => ?_)
    refine rr_aload_n hC dA_remove_38 hl rfl 0 rfl ?_
    refine rr_dup hC dA_remove_39 ?_
    refine rA_get hC hI 1 (by decide) lA_1 rfl dA_remove_40 ?_
    refine rr_top (y := S 1 0) rfl ?_
    refine rr_iconst (v := ((1 : Nat) : Int)) hC dA_remove_43 rfl ?_
    refine rr_isub hC dA_remove_44 ?_
    refine rA_put hC hI 1 (by decide) lA_1 rfl (by decide +kernel) rfl dA_remove_45 (fun H locs hI => ?_)
    refine rr_aload_n hC dA_remove_48 hl rfl 0 rfl ?_
    refine rr_iconst (v := (-1 : Int)) hC dA_remove_49 rfl ?_
    refine rA_put hC hI 7 (by decide) lA_7 rfl (by decide +kernel) rfl dA_remove_50 (fun H locs hI => ?_)
    refine rr_aload_n hC dA_remove_53 hl rfl 0 rfl ?_
    refine rA_get hC hI 1 (by decide) lA_1 rfl dA_remove_54 ?_
    refine rr_top (y := (S 1 0) - ((1 : Nat) : Int)) (show up_ (up_ (up_ (up_ S 2 i ((0 : Nat) : Int)) 4 (2 * i) (-1 : Int)) 4 ((2 * i) + 1) (-1 : Int)) 1 0 ((S 1 0) - ((1 : Nat) : Int)) 1 0 = (S 1 0) - ((1 : Nat) : Int) from up_eq _ _ _ _) ?_
    exact rr_iret hC (wA_ h r cZ cI) hI hr hlk dA_remove_57 (Or.inr ⟨hus, by simp [up_at], by rw [Int.toNat_natCast]; simp [remA_, up_at]⟩)
  · refine rr_bipush (v := (-5 : Int)) hC dA_remove_8 (by decide) ?_
    exact rr_iret hC (wA_ h r cZ cI) hI hr hlk dA_remove_10 (Or.inl ⟨by unfold usA_; omega, rfl, rfl⟩)
set_option maxRecDepth 100000 in
set_option maxHeartbeats 4000000 in
/-- core -/
theorem cA_core (l : Launch) (D : va_G) (h : Nat) (r : Nat → Nat) (cZ cI : ClassId) (S : St_) (a : Int) (ha : -2147483648 ≤ a ∧ a ≤ 2147483647) (hn : nvA_ S) : MI_ l D [(cZ, .boolean), (cI, .int)] (wA_ h r cZ cI) yA_core kA_core 2 (some .int) 1 S [.ref h, .int (iI a)] (fun x S' => ((¬ usA_ S a ∧ x = iI (-5)) ∨ (usA_ S a ∧ x = iI (S 4 (2 * a.toNat)))) ∧ S' = S) := by
  refine MI_of (by decide) (Nat.le_of_ble_eq_true rfl) ?_
  intro p e s m below meth c A ls hC hI hr hlk hl
  have hl : lv_has ls 2 [(0, .ref h), (1, .int (iI a))] := hl
  refine rr_aload_n hC dA_core_0 hl rfl 0 rfl ?_
  refine rr_iload_n hC dA_core_1 hl rfl 1 rfl ?_
  refine rr_calli (na := 1) hC (wA_ h r cZ cI) hI hl (cA_noTask l D h r cZ cI S a (by omega) hn.2.1) gA_A_noTask (by decide +kernel) ⟨by decide, by decide⟩ rfl rfl rfl rfl (by decide) dA_core_2 (fun x1 T2 H locs hp hI => ?_)
  obtain ⟨⟨b3, e1, b3_01, b3_p⟩, e2⟩ := hp
  subst e1
  rw [e2] at hI
  refine rr_if_eq hC 13 dA_core_5 (by decide) (by omega) (fun c4 => ?_) (fun c4 => ?_)
  · have hus : usA_ S a := by
      unfold usA_
      omega
    obtain ⟨i, rfl⟩ : ∃ i : Nat, a = (i : Int) := ⟨a.toNat, by have := hus.1; omega⟩
    have hi12 := hus.2.1
    refine rr_aload_n hC dA_core_13 hl rfl 0 rfl ?_
    refine rA_get hC hI 4 (by decide) lA_4 rfl dA_core_14 ?_
    refine rr_iconst (v := ((2 : Nat) : Int)) hC dA_core_17 rfl ?_
    refine rr_iload_n hC dA_core_18 hl rfl 1 rfl ?_
    refine rr_imul hC dA_core_19 ?_
    refine rr_top (y := ((2 * i : Nat) : Int)) (by omega) ?_
    refine rr_iald hC hI 3 1 rfl rfl (by decide) (by omega) dA_core_20 ?_
    exact rr_iret hC (wA_ h r cZ cI) hI hr hlk dA_core_21 (⟨Or.inr ⟨hus, by rw [Int.toNat_natCast]⟩, rfl⟩)
  · refine rr_bipush (v := (-5 : Int)) hC dA_core_8 (by decide) ?_
    refine rr_goto hC 21 dA_core_10 (by decide) ?_
    exact rr_iret hC (wA_ h r cZ cI) hI hr hlk dA_core_21 (⟨Or.inl ⟨by unfold usA_; omega, rfl⟩, rfl⟩)
set_option maxRecDepth 100000 in
set_option maxHeartbeats 4000000 in
/-- firstCost -/
theorem cA_firstCost (l : Launch) (D : va_G) (h : Nat) (r : Nat → Nat) (cZ cI : ClassId) (S : St_) (a : Int) (ha : -2147483648 ≤ a ∧ a ≤ 2147483647) (hn : nvA_ S) : MI_ l D [(cZ, .boolean), (cI, .int)] (wA_ h r cZ cI) yA_firstCost kA_firstCost 2 (some .int) 1 S [.ref h, .int (iI a)] (fun x S' => ((¬ usA_ S a ∧ x = iI (-5)) ∨ (usA_ S a ∧ x = iI (S 5 (2 * a.toNat)))) ∧ S' = S) := by
  refine MI_of (by decide) (Nat.le_of_ble_eq_true rfl) ?_
  intro p e s m below meth c A ls hC hI hr hlk hl
  have hl : lv_has ls 2 [(0, .ref h), (1, .int (iI a))] := hl
  refine rr_aload_n hC dA_firstCost_0 hl rfl 0 rfl ?_
  refine rr_iload_n hC dA_firstCost_1 hl rfl 1 rfl ?_
  refine rr_calli (na := 1) hC (wA_ h r cZ cI) hI hl (cA_noTask l D h r cZ cI S a (by omega) hn.2.1) gA_A_noTask (by decide +kernel) ⟨by decide, by decide⟩ rfl rfl rfl rfl (by decide) dA_firstCost_2 (fun x1 T2 H locs hp hI => ?_)
  obtain ⟨⟨b3, e1, b3_01, b3_p⟩, e2⟩ := hp
  subst e1
  rw [e2] at hI
  refine rr_if_eq hC 13 dA_firstCost_5 (by decide) (by omega) (fun c4 => ?_) (fun c4 => ?_)
  · have hus : usA_ S a := by
      unfold usA_
      omega
    obtain ⟨i, rfl⟩ : ∃ i : Nat, a = (i : Int) := ⟨a.toNat, by have := hus.1; omega⟩
    have hi12 := hus.2.1
    refine rr_aload_n hC dA_firstCost_13 hl rfl 0 rfl ?_
    refine rA_get hC hI 5 (by decide) lA_5 rfl dA_firstCost_14 ?_
    refine rr_iconst (v := ((2 : Nat) : Int)) hC dA_firstCost_17 rfl ?_
    refine rr_iload_n hC dA_firstCost_18 hl rfl 1 rfl ?_
    refine rr_imul hC dA_firstCost_19 ?_
    refine rr_top (y := ((2 * i : Nat) : Int)) (by omega) ?_
    refine rr_iald hC hI 4 1 rfl rfl (by decide) (by omega) dA_firstCost_20 ?_
    exact rr_iret hC (wA_ h r cZ cI) hI hr hlk dA_firstCost_21 (⟨Or.inr ⟨hus, by rw [Int.toNat_natCast]⟩, rfl⟩)
  · refine rr_bipush (v := (-5 : Int)) hC dA_firstCost_8 (by decide) ?_
    refine rr_goto hC 21 dA_firstCost_10 (by decide) ?_
    exact rr_iret hC (wA_ h r cZ cI) hI hr hlk dA_firstCost_21 (⟨Or.inl ⟨by unfold usA_; omega, rfl⟩, rfl⟩)
set_option maxRecDepth 100000 in
set_option maxHeartbeats 4000000 in
/-- secondCore -/
theorem cA_secondCore (l : Launch) (D : va_G) (h : Nat) (r : Nat → Nat) (cZ cI : ClassId) (S : St_) (a : Int) (ha : -2147483648 ≤ a ∧ a ≤ 2147483647) (hn : nvA_ S) : MI_ l D [(cZ, .boolean), (cI, .int)] (wA_ h r cZ cI) yA_secondCore kA_secondCore 2 (some .int) 1 S [.ref h, .int (iI a)] (fun x S' => ((¬ usA_ S a ∧ x = iI (-5)) ∨ (usA_ S a ∧ x = iI (if S 4 (2 * a.toNat + 1) < 0 then -4 else S 4 (2 * a.toNat + 1)))) ∧ S' = S) := by
  refine MI_of (by decide) (Nat.le_of_ble_eq_true rfl) ?_
  intro p e s m below meth c A ls hC hI hr hlk hl
  have hl : lv_has ls 2 [(0, .ref h), (1, .int (iI a))] := hl
  refine rr_aload_n hC dA_secondCore_0 hl rfl 0 rfl ?_
  refine rr_iload_n hC dA_secondCore_1 hl rfl 1 rfl ?_
  refine rr_calli (na := 1) hC (wA_ h r cZ cI) hI hl (cA_noTask l D h r cZ cI S a (by omega) hn.2.1) gA_A_noTask (by decide +kernel) ⟨by decide, by decide⟩ rfl rfl rfl rfl (by decide) dA_secondCore_2 (fun x1 T2 H locs hp hI => ?_)
  obtain ⟨⟨b3, e1, b3_01, b3_p⟩, e2⟩ := hp
  subst e1
  rw [e2] at hI
  refine rr_if_eq hC 11 dA_secondCore_5 (by decide) (by omega) (fun c4 => ?_) (fun c4 => ?_)
  · have hus : usA_ S a := by
      unfold usA_
      omega
    obtain ⟨i, rfl⟩ : ∃ i : Nat, a = (i : Int) := ⟨a.toNat, by have := hus.1; omega⟩
    have hi12 := hus.2.1
    obtain ⟨w1, w2, w3⟩ := hn.1.2.1 (2 * i + 1) (by omega)
    refine rr_aload_n hC dA_secondCore_11 hl rfl 0 rfl ?_
    refine rA_get hC hI 4 (by decide) lA_4 rfl dA_secondCore_12 ?_
    refine rr_iconst (v := ((2 : Nat) : Int)) hC dA_secondCore_15 rfl ?_
    refine rr_iload_n hC dA_secondCore_16 hl rfl 1 rfl ?_
    refine rr_imul hC dA_secondCore_17 ?_
    refine rr_top (y := ((2 * i : Nat) : Int)) (by omega) ?_
    refine rr_iconst (v := ((1 : Nat) : Int)) hC dA_secondCore_18 rfl ?_
    refine rr_iadd hC dA_secondCore_19 ?_
    refine rr_top (y := (((2 * i) + 1 : Nat) : Int)) (by omega) ?_
    refine rr_iald hC hI 3 1 rfl rfl (by decide) (by omega) dA_secondCore_20 ?_
    refine rr_if_ge hC 29 dA_secondCore_21 (by decide) (by omega) (fun c5 => ?_) (fun c5 => ?_)
    · refine rr_aload_n hC dA_secondCore_29 hl rfl 0 rfl ?_
      refine rA_get hC hI 4 (by decide) lA_4 rfl dA_secondCore_30 ?_
      refine rr_iconst (v := ((2 : Nat) : Int)) hC dA_secondCore_33 rfl ?_
      refine rr_iload_n hC dA_secondCore_34 hl rfl 1 rfl ?_
      refine rr_imul hC dA_secondCore_35 ?_
      refine rr_top (y := ((2 * i : Nat) : Int)) (by omega) ?_
      refine rr_iconst (v := ((1 : Nat) : Int)) hC dA_secondCore_36 rfl ?_
      refine rr_iadd hC dA_secondCore_37 ?_
      refine rr_top (y := (((2 * i) + 1 : Nat) : Int)) (by omega) ?_
      refine rr_iald hC hI 3 1 rfl rfl (by decide) (by omega) dA_secondCore_38 ?_
      exact rr_iret hC (wA_ h r cZ cI) hI hr hlk dA_secondCore_39 (⟨Or.inr ⟨hus, by rw [Int.toNat_natCast, if_neg (by omega)]⟩, rfl⟩)
    · refine rr_bipush (v := (-4 : Int)) hC dA_secondCore_24 (by decide) ?_
      refine rr_goto hC 39 dA_secondCore_26 (by decide) ?_
      exact rr_iret hC (wA_ h r cZ cI) hI hr hlk dA_secondCore_39 (⟨Or.inr ⟨hus, by rw [Int.toNat_natCast, if_pos (by omega)]⟩, rfl⟩)
  · refine rr_bipush (v := (-5 : Int)) hC dA_secondCore_8 (by decide) ?_
    exact rr_iret hC (wA_ h r cZ cI) hI hr hlk dA_secondCore_10 (⟨Or.inl ⟨by unfold usA_; omega, rfl⟩, rfl⟩)
set_option maxRecDepth 100000 in
set_option maxHeartbeats 4000000 in
/-- load -/
theorem cA_load (l : Launch) (D : va_G) (h : Nat) (r : Nat → Nat) (cZ cI : ClassId) (S : St_) (a : Int) (ha : -2147483648 ≤ a ∧ a ≤ 2147483647) (hn : nvA_ S) : MI_ l D [(cZ, .boolean), (cI, .int)] (wA_ h r cZ cI) yA_load kA_load 2 (some .int) 1 S [.ref h, .int (iI a)] (fun x S' => ((¬ (0 ≤ a ∧ a < S 0 0) ∧ x = iI (-6)) ∨ ((0 ≤ a ∧ a < S 0 0) ∧ x = iI ((ps_dem (cA_ S a) (dA_ S a) (pA_ S) 60 : Nat) : Int))) ∧ S' = S) := by
  refine MI_of (by decide) (Nat.le_of_ble_eq_true rfl) ?_
  intro p e s m below meth c A ls hC hI hr hlk hl
  have hl : lv_has ls 2 [(0, .ref h), (1, .int (iI a))] := hl
  refine rr_aload_n hC dA_load_0 hl rfl 0 rfl ?_
  refine rr_iload_n hC dA_load_1 hl rfl 1 rfl ?_
  refine rr_calli (na := 1) hC (wA_ h r cZ cI) hI hl (cA_badCore l D h r cZ cI S a (by omega) hn.1.1) gA_A_badCore (by decide +kernel) ⟨by decide, by decide⟩ rfl rfl rfl rfl (by decide) dA_load_2 (fun x1 T2 H locs hp hI => ?_)
  obtain ⟨⟨b3, e1, b3_01, b3_p⟩, e2⟩ := hp
  subst e1
  rw [e2] at hI
  refine rr_if_eq hC 11 dA_load_5 (by decide) (by omega) (fun c4 => ?_) (fun c4 => ?_)
  · refine rr_aload_n hC dA_load_11 hl rfl 0 rfl ?_
    refine rr_iload_n hC dA_load_12 hl rfl 1 rfl ?_
    have hcr := hn.1.1
    refine rr_calli (na := 1) hC (wA_ h r cZ cI) hI hl (cA_loadOf l D h r cZ cI S a (by omega) hn.1) gA_A_loadOf (by decide +kernel) ⟨by decide, by decide⟩ rfl rfl rfl rfl (by decide) dA_load_13 (fun x5 T5 H locs hp hI => ?_)
    obtain ⟨e1, e2⟩ := hp
    subst e1
    rw [e2] at hI
    exact rr_iret hC (wA_ h r cZ cI) hI hr hlk dA_load_16 (⟨Or.inr ⟨by omega, rfl⟩, rfl⟩)
  · refine rr_bipush (v := (-6 : Int)) hC dA_load_8 (by decide) ?_
    exact rr_iret hC (wA_ h r cZ cI) hI hr hlk dA_load_10 (⟨Or.inl ⟨by omega, rfl⟩, rfl⟩)
set_option maxRecDepth 100000 in
set_option maxHeartbeats 4000000 in
/-- spare: the greatest cost by halving -/
theorem cA_spare (l : Launch) (D : va_G) (h : Nat) (r : Nat → Nat) (cZ cI : ClassId) (S : St_) (k pa : Int) (hk : -2147483648 ≤ k ∧ k ≤ 2147483647) (hpa : -2147483648 ≤ pa ∧ pa ≤ 2147483647) (hn : nvA_ S) : MI_ l D [(cZ, .boolean), (cI, .int)] (wA_ h r cZ cI) yA_spare kA_spare 8 (some .int) 3 S [.ref h, .int (iI k), .int (iI pa)] (fun x S' => sprA_ S k pa x S') := by
  refine MI_of (by decide) (Nat.le_of_ble_eq_true rfl) ?_
  intro p e s m below meth c A ls hC hI hr hlk hl
  have hl : lv_has ls 8 [(0, .ref h), (1, .int (iI k)), (2, .int (iI pa))] := hl
  have hb1 := bpv_01 pa
  have hcr := hn.1.1
  refine rr_aload_n hC dA_spare_0 hl rfl 0 rfl ?_
  refine rr_iload_n hC dA_spare_1 hl rfl 1 rfl ?_
  refine rr_calli (na := 1) hC (wA_ h r cZ cI) hI hl (cA_badCore l D h r cZ cI S k (by omega) hn.1.1) gA_A_badCore (by decide +kernel) ⟨by decide, by decide⟩ rfl rfl rfl rfl (by decide) dA_spare_2 (fun x1 T2 H locs hp hI => ?_)
  obtain ⟨⟨b3, e1, b3_01, b3_p⟩, e2⟩ := hp
  subst e1
  rw [e2] at hI
  refine rr_if_eq hC 11 dA_spare_5 (by decide) (by omega) (fun c4 => ?_) (fun c4 => ?_)
  · refine rr_iload_n hC dA_spare_11 hl rfl 2 rfl ?_
    refine rr_calls (na := 1) hC hl (cA_badPeriod l D cZ cI pa (by omega)) gA_A_badPeriod (by decide +kernel) ⟨by decide, by decide⟩ (fun _ _ _ _ q => q) (fun _ _ _ => trivial) ⟨Nat.zero_le _, Nat.zero_le _⟩ rfl rfl (by decide) dA_spare_12 ?_
    refine rr_if_eq hC 20 dA_spare_15 (by decide) (by omega) (fun c5 => ?_) (fun c5 => ?_)
    · have hokp : okp_ pa := bpv_ok.mpr (by omega)
      obtain ⟨q1, q2, q3⟩ := id hokp
      have hk : 0 ≤ k ∧ k < S 0 0 := by omega
      refine rr_aload_n hC dA_spare_20 hl rfl 0 rfl ?_
      refine rr_calli (na := 0) hC (wA_ h r cZ cI) hI hl (cA_freeId l D h r cZ cI S hn.2.1) gA_A_freeId (by decide +kernel) ⟨by decide, by decide⟩ rfl rfl rfl rfl (by decide) dA_spare_21 (fun x T H locs hp hI => ?_)
      obtain ⟨⟨id, e1, hid, hff, hf0⟩, e2⟩ := hp
      subst e1
      rw [e2] at hI
      have hfr := ffA_fr hn hid hf0
      refine rr_istore_n (lv' := [(3, .int (iI ((id : Nat) : Int))), (0, .ref h), (1, .int (iI k)), (2, .int (iI pa))]) hC dA_spare_24 hl rfl (by decide) rfl (fun ls hl => ?_)
      have hv1 := up3_v hn.1 hfr pa
      have hf1 := up3_fr hfr pa
      have e3 : up_ S 3 id pa 3 id = pa := up_eq _ _ _ _
      refine rr_aload_n hC dA_spare_25 hl rfl 1 rfl ?_
      refine rA_get hC hI 3 (by decide) lA_3 rfl dA_spare_26 ?_
      refine rr_iload_n hC dA_spare_29 hl rfl 0 rfl ?_
      refine rr_iload_n hC dA_spare_30 hl rfl 3 rfl ?_
      refine rr_iast hC (wA_ h r cZ cI) hI 3 2 1 rfl rfl (by decide) (by omega) rfl dA_spare_31 (fun H locs hI => ?_)
      refine rr_iconst (v := ((0 : Nat) : Int)) hC dA_spare_32 rfl ?_
      refine rr_istore (lv' := [(4, .int (iI ((0 : Nat) : Int))), (3, .int (iI ((id : Nat) : Int))), (0, .ref h), (1, .int (iI k)), (2, .int (iI pa))]) hC dA_spare_33 hl (by decide) rfl (fun ls hl => ?_)
      refine rr_iload_n hC dA_spare_35 hl rfl 4 rfl ?_
      refine rr_iconst (v := ((1 : Nat) : Int)) hC dA_spare_36 rfl ?_
      refine rr_iadd hC dA_spare_37 ?_
      refine rr_istore (lv' := [(5, .int (iI (pa + ((1 : Nat) : Int)))), (4, .int (iI ((0 : Nat) : Int))), (3, .int (iI ((id : Nat) : Int))), (0, .ref h), (1, .int (iI k)), (2, .int (iI pa))]) hC dA_spare_38 hl (by decide) rfl (fun ls hl => ?_)
      have loop : ∀ (n : Nat) (lo up : Int) (S1 : St_) (H : Heap) (locs : List Loc), up - lo ≤ (n : Int) → 0 ≤ lo → lo < up → up ≤ pa + 1 → (lo = 0 ∨ tkA_ (up_ S 3 id pa) k id lo pa) → (∀ z : Int, up ≤ z → z ≤ pa → ¬ tkA_ (up_ S 3 id pa) k id z pa) → agA_ id (up_ S 3 id pa) S1 → In_ D A s.heap H locs (wA_ h r cZ cI S1) → ∀ (ls : Array Slot), lv_has ls 8 [(0, .ref h), (1, .int (iI k)), (2, .int (iI pa)), (3, .int (iI ((id : Nat) : Int))), (4, .int (iI lo)), (5, .int (iI up))] → W p l e (rm_ 3) s m [.ref h, .int (iI k), .int (iI pa)].toArray below meth c H locs 0 0 (EQ_ D [(cZ, .boolean), (cI, .int)] (wA_ h r cZ cI) S s below [.ref h, .int (iI k), .int (iI pa)].toArray A (fun x S' => sprA_ S k pa x S')) (F0 m 40 ls []) := by
        intro n
        induction n with
        | zero => intros; omega
        | succ n ih =>
          intro lo up S1 H locs hfu hl0 hl1 hup0 hlo hup hag hI ls hl
          refine rr_iload hC dA_spare_40 hl 5 rfl ?_
          refine rr_iload hC dA_spare_42 hl 4 rfl ?_
          refine rr_isub hC dA_spare_44 ?_
          refine rr_iconst (v := ((1 : Nat) : Int)) hC dA_spare_45 rfl ?_
          refine rr_icmp_le hC 90 dA_spare_46 (by decide) (by omega) (by omega) (fun c6 => ?_) (fun c6 => ?_)
          · refine rr_iload hC dA_spare_90 hl 4 rfl ?_
            exact rr_iret hC (wA_ h r cZ cI) hI hr hlk dA_spare_92 (Or.inr (Or.inr ⟨hk, hokp, id, hid, ⟨hff, hf0⟩, hag, lo, rfl, by omega, by omega, hlo, fun z z1 z2 => hup z (by omega) z2⟩))
          · refine rr_iload hC dA_spare_49 hl 4 rfl ?_
            refine rr_iload hC dA_spare_51 hl 5 rfl ?_
            refine rr_iadd hC dA_spare_53 ?_
            refine rr_iconst (v := ((2 : Nat) : Int)) hC dA_spare_54 rfl ?_
            refine rr_idiv hC dA_spare_55 (by omega) (by omega) ?_
            refine rr_istore (lv' := [(6, .int (iI ((lo + up) / ((2 : Nat) : Int)))), (0, .ref h), (1, .int (iI k)), (2, .int (iI pa)), (3, .int (iI ((id : Nat) : Int))), (4, .int (iI lo)), (5, .int (iI up))]) hC dA_spare_56 hl (by decide) rfl (fun ls hl => ?_)
            obtain ⟨mid, hmid⟩ : ∃ mid : Int, mid = (lo + up) / ((2 : Nat) : Int) := ⟨_, rfl⟩
            rw [← hmid] at hl
            have hm1 : lo < mid ∧ mid < up := by omega
            refine rr_aload_n hC dA_spare_58 hl rfl 1 rfl ?_
            refine rr_iload_n hC dA_spare_59 hl rfl 2 rfl ?_
            refine rr_iconst (v := ((2 : Nat) : Int)) hC dA_spare_60 rfl ?_
            refine rr_iload_n hC dA_spare_61 hl rfl 4 rfl ?_
            refine rr_imul hC dA_spare_62 ?_
            refine rr_top (y := ((2 * id : Nat) : Int)) (by omega) ?_
            refine rr_iload hC dA_spare_63 hl 0 rfl ?_
            refine rr_iload_n hC dA_spare_65 hl rfl 3 rfl ?_
            have h3 := hag 3 id (by omega)
            rw [e3] at h3
            refine rr_calli (na := 4) hC (wA_ h r cZ cI) hI hl (cA_passesWith l D h r cZ cI S1 k id (2 * id) mid pa (by omega) (by omega) (by omega) (agA_v hag hf1 hv1) (agA_fr hag hf1) (by rw [h3]; omega) (by rw [h3]; exact hokp)) gA_A_passesWith (by decide +kernel) ⟨by decide, by decide⟩ rfl rfl rfl rfl (by decide) dA_spare_66 (fun x6 T6 H locs hp hI => ?_)
            obtain ⟨⟨v, e1, hv01, hvp⟩, hag2⟩ := hp
            subst e1
            rw [agA_tk hag hf1 hk.1] at hvp
            replace hag := agA_tr hag hag2
            refine rr_istore (lv' := [(7, .int (iI v)), (6, .int (iI mid)), (0, .ref h), (1, .int (iI k)), (2, .int (iI pa)), (3, .int (iI ((id : Nat) : Int))), (4, .int (iI lo)), (5, .int (iI up))]) hC dA_spare_69 hl (by decide) rfl (fun ls hl => ?_)
            refine rr_iload hC dA_spare_71 hl 0 rfl ?_
            refine rr_if_eq hC 83 dA_spare_73 (by decide) (by omega) (fun c7 => ?_) (fun c7 => ?_)
            · refine rr_iload hC dA_spare_83 hl 1 rfl ?_
              refine rr_istore (lv' := [(5, .int (iI mid)), (7, .int (iI v)), (6, .int (iI mid)), (0, .ref h), (1, .int (iI k)), (2, .int (iI pa)), (3, .int (iI ((id : Nat) : Int))), (4, .int (iI lo))]) hC dA_spare_85 hl (by decide) rfl (fun ls hl => ?_)
              refine rr_goto hC 40 dA_spare_87 (by decide) ?_
              exact ih lo mid T6 H locs (by omega) (by omega) (by omega) (by omega) hlo (fun z z1 z2 z3 => by have := hvp.mpr (tkA_mono z1 z3); omega) hag hI ls (lv_sub hl [3, 4, 5, 6, 7, 0] rfl)
            · refine rr_iload hC dA_spare_76 hl 1 rfl ?_
              refine rr_istore (lv' := [(4, .int (iI mid)), (7, .int (iI v)), (6, .int (iI mid)), (0, .ref h), (1, .int (iI k)), (2, .int (iI pa)), (3, .int (iI ((id : Nat) : Int))), (5, .int (iI up))]) hC dA_spare_78 hl (by decide) rfl (fun ls hl => ?_)
              refine rr_goto hC 87 dA_spare_80 (by decide) ?_
              refine rr_goto hC 40 dA_spare_87 (by decide) ?_
              exact ih mid up T6 H locs (by omega) (by omega) (by omega) (by omega) (Or.inr (hvp.mp (by omega))) hup hag hI ls (lv_sub hl [3, 4, 5, 6, 0, 7] rfl)
      exact loop 61 0 (pa + 1) (up_ S 3 id pa) _ _ (by omega) (by omega) (by omega) (by omega) (Or.inl rfl) (fun z z1 z2 => by omega) (agA_rf _ _) hI ls (lv_sub hl [3, 4, 5, 2, 1, 0] rfl)
    · refine rr_iconst (v := (-1 : Int)) hC dA_spare_18 rfl ?_
      exact rr_iret hC (wA_ h r cZ cI) hI hr hlk dA_spare_19 (Or.inr (Or.inl ⟨by omega, fun z => by have := bpv_ok.mp z; omega, rfl, rfl⟩))
  · refine rr_bipush (v := (-6 : Int)) hC dA_spare_8 (by decide) ?_
    exact rr_iret hC (wA_ h r cZ cI) hI hr hlk dA_spare_10 (Or.inl ⟨by omega, rfl, rfl⟩)
end
section
/-! PURE: the plan of a core by jumps, against the simulation slot by slot -/
/-- arrays 0 .. 6 stand -/
def agL_ (S S' : St_) : Prop := ∀ j, j < 7 → S' j = S j
theorem agL_sys {S S' : St_} (h : agL_ S S') (k : Int) : cA_ S' k = cA_ S k ∧ dA_ S' k = dA_ S k ∧ pA_ S' = pA_ S := by
  have h3 := h 3 (by omega)
  have h4 := h 4 (by omega)
  have h5 := h 5 (by omega)
  have h6 := h 6 (by omega)
  refine ⟨?_, ?_, ?_⟩
  · unfold cA_ qpA_; rw [h4, h5]
  · unfold dA_ qpA_; rw [h4, h6]
  · unfold pA_; rw [h3]
theorem agL_v {S S' : St_} (h : agL_ S S') (hv : vlA_ S) : vlA_ S' := by
  unfold vlA_
  rw [h 0 (by omega), h 3 (by omega), h 4 (by omega), h 5 (by omega), h 6 (by omega)]
  exact hv
theorem agL_rf (S : St_) : agL_ S S := fun _ _ => rfl
theorem agL_tr {S S1 S2 : St_} (h : agL_ S S1) (g : agL_ S1 S2) : agL_ S S2 := fun j hj => (g j hj).trans (h j hj)
theorem agL_up {S S1 : St_} (h : agL_ S S1) (j k : Nat) (v : Int) (hj : 7 ≤ j) : agL_ S (up_ S1 j k v) := fun q hq => by
  have : up_ S1 j k v q = S1 q := by unfold up_; rw [if_neg (by omega)]
  rw [this]
  exact h q hq
/-- a part at the start of a stretch -/
def lvp_ (S : St_) (c d p : Nat → Nat) (now i : Nat) : Prop :=
  (0 < ps_lft c d p now (i / 2) ∧ S 11 i = (ps_lft c d p now (i / 2) : Int) ∧ S 12 i = ((now / p (i / 2) * p (i / 2) : Nat) : Int)) ∨
  (ps_lft c d p now (i / 2) = 0 ∧ S 12 i = ((now / p (i / 2) * p (i / 2) + p (i / 2) : Nat) : Int) ∧ S 11 i = (if now / p (i / 2) * p (i / 2) + p (i / 2) < 60 then S 5 i else 0))
/-- the stretches so far -/
def rec_ (S : St_) (c d p : Nat → Nat) (now : Nat) : Prop := ∃ n : Nat, S 8 0 = (n : Int) ∧ n ≤ now ∧ (n = 0 → now = 0) ∧ (0 < n → S 9 (n - 1) = (now : Int)) ∧
  ∀ q, q < n → (0 ≤ S 9 q ∧ S 9 q ≤ 60) ∧ ∀ t : Nat, (q = 0 ∨ S 9 (q - 1) ≤ (t : Int)) → (t : Int) < S 9 q → S 10 q = ps_run c d p t
def PLI_ (S : St_) (k : Int) (now : Nat) : Prop := (∀ i, i < 26 → S 4 i = k → S 13 i = (ps_rsp (cA_ S k) (dA_ S k) (pA_ S) now (i / 2) : Int) ∧ (now < 60 → lvp_ S (cA_ S k) (dA_ S k) (pA_ S) now i)) ∧ rec_ S (cA_ S k) (dA_ S k) (pA_ S) now
/-- a part of the core and its place in the system -/
theorem prt_A {S : St_} (hv : vlA_ S) {k : Int} (hk : 0 ≤ k) {i : Nat} (hi : i < 26) (he : S 4 i = k) : qpA_ S k (i / 2) = i ∧ cA_ S k (i / 2) = (S 5 i).toNat ∧ dA_ S k (i / 2) = (S 6 i).toNat ∧ (1 ≤ S 5 i ∧ S 5 i ≤ S 6 i ∧ S 6 i ≤ S 3 (i / 2) ∧ okp_ (S 3 (i / 2))) ∧ 0 < cA_ S k (i / 2) := by
  obtain ⟨-, -, h3⟩ := hv.2.1 i hi
  have h3 := h3 (by omega)
  have hq : qpA_ S k (i / 2) = i := by
    unfold qpA_
    have : i = 2 * (i / 2) ∨ i = 2 * (i / 2) + 1 := by omega
    rcases this with e | e
    · rw [← e, if_pos he]
    · have hne : ¬ S 4 (2 * (i / 2)) = k := by
        intro z
        have := hv.2.2 (i / 2) (by omega) (by omega)
        rw [← e] at this
        omega
      rw [if_neg hne]
      omega
  refine ⟨hq, ?_, ?_, h3, ?_⟩
  · unfold cA_; rw [hq, if_pos he]
  · unfold dA_; rw [hq]
  · unfold cA_; rw [hq, if_pos he]; omega
/-- the most urgent part is the most urgent place -/
def Lp_ (S : St_) (k : Int) (L : Nat → Nat) (i : Nat) : Nat := if S 4 i = k then L (i / 2) else 0
theorem bst_A {S : St_} (hv : vlA_ S) {k : Int} (hk : 0 ≤ k) {L u : Nat → Nat} (hL : ∀ i, L i ≤ cA_ S k i) {b : Int} (h : ps_isB (Lp_ S k L) (fun i => u (i / 2)) 26 b) :
    (b = -1 ∧ ps_isB L u 13 (-1)) ∨ ∃ j : Nat, b = (j : Int) ∧ j < 26 ∧ S 4 j = k ∧ 0 < L (j / 2) ∧ ps_isB L u 13 ((j / 2 : Nat) : Int) := by
  have key : ∀ i, i < 13 → 0 < L i → qpA_ S k i < 26 ∧ qpA_ S k i / 2 = i ∧ 0 < Lp_ S k L (qpA_ S k i) := fun i hi h0 => by
    obtain ⟨h1, h2⟩ := qpA_lt S k hi
    refine ⟨h1, h2, ?_⟩
    have h3 := hL i
    unfold cA_ at h3
    split at h3
    · rename_i he
      unfold Lp_
      rw [if_pos he, h2]
      exact h0
    · omega
  rcases h with ⟨rfl, h0⟩ | ⟨j, rfl, hj, hLj, hmin, hfst⟩
  · refine Or.inl ⟨rfl, Or.inl ⟨rfl, fun i hi => ?_⟩⟩
    rcases Nat.eq_zero_or_pos (L i) with z | z
    · exact z
    · obtain ⟨h1, h2, h3⟩ := key i hi z
      have := h0 _ h1
      omega
  · have hjk : S 4 j = k ∧ 0 < L (j / 2) := by
      unfold Lp_ at hLj
      split at hLj
      · exact ⟨by assumption, hLj⟩
      · omega
    refine Or.inr ⟨j, rfl, hj, hjk.1, hjk.2, Or.inr ⟨j / 2, rfl, by omega, hjk.2, fun i hi h0 => ?_, fun i hi h0 => ?_⟩⟩
    · obtain ⟨h1, h2, h3⟩ := key i hi h0
      have := hmin _ h1 h3
      simp only [h2] at this
      exact this
    · obtain ⟨h1, h2, h3⟩ := key i (by omega) h0
      have := hfst (qpA_ S k i) (by omega) h3
      simp only [h2] at this
      exact this
/-- what advance does to part i -/
def adv2_ (S : St_) (i now e : Nat) (S' : St_) : Prop :=
  (0 < S 11 i - ((e : Int) - now) → S' 11 i = S 11 i - ((e : Int) - now) ∧ S' 12 i = S 12 i ∧ S' 13 i = S 13 i) ∧
  (S 11 i - ((e : Int) - now) ≤ 0 → S' 12 i = S 12 i + S 3 (i / 2) ∧ S' 13 i = (if S 13 i < (e : Int) - S 12 i then (e : Int) - S 12 i else S 13 i) ∧ S' 11 i = (if S 12 i + S 3 (i / 2) < 60 then S 5 i else 0))
def adv_ (S : St_) (i now e : Nat) (S' : St_) : Prop := (∀ j q, ¬ ((j = 11 ∨ j = 12 ∨ j = 13) ∧ q = i) → S' j q = S j q) ∧ adv2_ S i now e S'
/-- a part behind a stretch -/
theorem prt_step {c d p : Nat → Nat} (hok : ps_ok c d p) (hnm : ps_noMiss c d p) {now e : Nat} (he : now < e) (he60 : e ≤ 60) (hn : ∀ i, i < 13 → 0 < c i → e ≤ now / p i * p i + p i) (hb : ∀ j : Nat, ps_b c d p now = (j : Int) → e - now ≤ ps_lft c d p now j) {S S' : St_} {i : Nat} (hi : i < 26) (hc : 0 < c (i / 2)) (h5 : S 5 i = (c (i / 2) : Int)) (h3 : S 3 (i / 2) = (p (i / 2) : Int)) (h5' : S' 5 i = S 5 i)
    (hl : lvp_ S c d p now i) (hr : S 13 i = (ps_rsp c d p now (i / 2) : Int))
    (ho : ¬ ps_b c d p now = ((i / 2 : Nat) : Int) → S' 11 i = S 11 i ∧ S' 12 i = S 12 i ∧ S' 13 i = S 13 i) (ha : ps_b c d p now = ((i / 2 : Nat) : Int) → adv2_ S i now e S') :
    S' 13 i = (ps_rsp c d p e (i / 2) : Int) ∧ (e < 60 → lvp_ S' c d p e i) := by
  have hi2 : i / 2 < 13 := by omega
  generalize hid : i / 2 = id at *
  obtain ⟨o1, o2, o3, o4, o5⟩ := hok id hi2 hc
  have q1 := ps_lo (p := p id) now
  have q2 := ps_hi (p := p id) (by omega) now
  have hne := hn id hi2 hc
  have hend := ps_stretch_end hok he hn hb id hi2
  have hrsp := ps_stretch_rsp hok he hn hb id hi2 hc
  obtain ⟨t, rfl⟩ : ∃ t, e = t + 1 := ⟨e - 1, by omega⟩
  rw [Nat.add_sub_cancel] at hend
  have hdt : t / p id = now / p id := ps_dv (by omega) (by omega) (by omega)
  have hlft := ps_lft_succ c d p t id
  unfold lvp_ at hl ⊢
  rw [hid] at hl ⊢
  generalize hq : now / p id * p id = q at *
  -- the job that is done at its period's end
  have hmiss : t + 1 = q + p id → ps_a c d p t id = 0 := fun z => by
    rcases Nat.eq_zero_or_pos (ps_a c d p t id) with y | y
    · exact y
    · have := hnm t (by omega) id hi2 y
      unfold ps_due at this
      rw [hdt, hq] at this
      omega
  have hdm : (t + 1 = q + p id ∧ (t + 1) % p id = 0 ∧ (t + 1) / p id * p id = t + 1) ∨ (t + 1 < q + p id ∧ ¬ (t + 1) % p id = 0 ∧ (t + 1) / p id * p id = q) := by
    rcases ps_dm (show 0 < p id by omega) t with ⟨g1, g2, g3⟩ | ⟨g1, g2⟩
    · rw [hdt] at g2 g3
      rw [hq] at g3
      refine Or.inl ⟨g3, g1, ?_⟩
      rw [g2, Nat.add_mul, hq, Nat.one_mul]
      omega
    · refine Or.inr ⟨?_, g1, by rw [g2, hdt, hq]⟩
      rcases Nat.lt_or_ge (t + 1) (q + p id) with z | z
      · exact z
      · exfalso
        have e1 : t + 1 = (now / p id + 1) * p id := by rw [Nat.add_mul, hq, Nat.one_mul]; omega
        rw [e1] at g1
        exact g1 (Nat.mul_mod_left _ _)
  by_cases hbb : ps_b c d p now = (id : Int)
  · obtain ⟨a2, a3⟩ := ha hbb
    have hb1 := hb id hbb
    rw [if_pos hbb] at hend
    simp only [hbb, true_and] at hrsp
    have hl1 : 0 < ps_lft c d p now id ∧ S 11 i = (ps_lft c d p now id : Int) ∧ S 12 i = (q : Int) := by
      rcases hl with hl | ⟨l1, -⟩
      · exact hl
      · omega
    obtain ⟨l1, l2, l3⟩ := hl1
    rw [hid, l2, l3, hr, h3] at a3
    rw [l2, l3, hr] at a2
    rw [hlft]
    by_cases hdone : ps_lft c d p now id = t + 1 - now
    · obtain ⟨x1, x2, x3⟩ := a3 (by omega)
      refine ⟨?_, fun hlt => ?_⟩
      · rw [x2, hrsp]
        by_cases z : ps_rsp c d p now id < t + 1 - q
        · rw [if_pos (by omega), if_pos ⟨hdone, z⟩]; omega
        · rw [if_neg (by omega), if_neg (fun y => z y.2)]
      · rw [x1, x3]
        rcases hdm with ⟨m1, m2, m3⟩ | ⟨m1, m2, m3⟩
        · rw [if_pos m2]
          refine Or.inl ⟨hc, ?_, ?_⟩
          · rw [if_pos (by omega), h5]
          · rw [m3]; omega
        · rw [if_neg m2, hend, m3]
          refine Or.inr ⟨by omega, by omega, ?_⟩
          rw [h5']
          by_cases z : q + p id < 60
          · rw [if_pos (by omega), if_pos z]
          · rw [if_neg (by omega), if_neg z]
    · obtain ⟨x1, x2, x3⟩ := a2 (by omega)
      refine ⟨?_, fun hlt => ?_⟩
      · rw [x3, hrsp, if_neg (fun y => hdone y.1)]
      · rw [x1, x2]
        rcases hdm with ⟨m1, m2, m3⟩ | ⟨m1, m2, m3⟩
        · have h0 := hmiss m1
          omega
        · rw [if_neg m2, hend, m3]
          exact Or.inl ⟨by omega, by omega, rfl⟩
  · obtain ⟨b1, b2, b3⟩ := ho hbb
    rw [if_neg hbb] at hend
    simp only [hbb, false_and, if_false] at hrsp
    refine ⟨by rw [b3, hrsp]; exact hr, fun hlt => ?_⟩
    rw [hlft, b1, b2, h5']
    rcases hdm with ⟨m1, m2, m3⟩ | ⟨m1, m2, m3⟩
    · have h0 := hmiss m1
      rw [if_pos m2]
      rcases hl with ⟨l1, l2, l3⟩ | ⟨l1, l2, l3⟩
      · omega
      · refine Or.inl ⟨hc, ?_, ?_⟩
        · rw [l3, if_pos (by omega), h5]
        · rw [l2, m3]; omega
    · rw [if_neg m2, hend, m3]
      exact hl
/-- the plan behind a stretch -/
theorem PLI_step {S S2 S' : St_} (hv : vlA_ S) {k : Int} (hk : 0 ≤ k) (hs : schA_ S k) {now e n : Nat} (hP : PLI_ S k now) (h60 : now < 60) (he : now < e) (he60 : e ≤ 60)
    (hn : ∀ i, i < 26 → S 4 i = k → e ≤ now / pA_ S (i / 2) * pA_ S (i / 2) + pA_ S (i / 2)) {b : Int}
    (hb : (b = -1 ∧ ps_b (cA_ S k) (dA_ S k) (pA_ S) now = -1 ∧ S' = S2) ∨ ∃ j : Nat, b = (j : Int) ∧ j < 26 ∧ S 4 j = k ∧ ps_b (cA_ S k) (dA_ S k) (pA_ S) now = ((j / 2 : Nat) : Int) ∧ e - now ≤ ps_lft (cA_ S k) (dA_ S k) (pA_ S) now (j / 2) ∧ adv_ S2 j now e S')
    (h8 : S 8 0 = (n : Int)) (h2 : S2 = up_ (up_ (up_ S 9 n (e : Int)) 10 n (ps_run (cA_ S k) (dA_ S k) (pA_ S) now)) 8 0 ((n : Int) + 1)) : PLI_ S' k e ∧ agL_ S S' ∧ S' 7 = S 7 := by
  have hok := okA_ hv hk
  have hnm := ps_edf1 hok hs
  have h2o : ∀ j q, j ≠ 8 → j ≠ 9 → j ≠ 10 → S2 j q = S j q := fun j q a1 a2 a3 => by
    rw [h2, up_ne _ _ _ _ (by omega), up_ne _ _ _ _ (by omega), up_ne _ _ _ _ (by omega)]
  have hSo : ∀ j q, j ≠ 8 → j ≠ 9 → j ≠ 10 → j ≠ 11 → j ≠ 12 → j ≠ 13 → S' j q = S j q := fun j q a1 a2 a3 a4 a5 a6 => by
    rcases hb with ⟨-, -, rfl⟩ | ⟨i, -, -, -, -, -, hadv⟩
    · exact h2o j q a1 a2 a3
    · rw [hadv.1 j q (by omega)]; exact h2o j q a1 a2 a3
  have hSr : ∀ j q, j = 8 ∨ j = 9 ∨ j = 10 → S' j q = S2 j q := fun j q a => by
    rcases hb with ⟨-, -, rfl⟩ | ⟨i, -, -, -, -, -, hadv⟩
    · rfl
    · exact hadv.1 j q (by omega)
  have hag : agL_ S S' := fun j hj => funext fun q => hSo j q (by omega) (by omega) (by omega) (by omega) (by omega) (by omega)
  refine ⟨?_, hag, funext fun q => hSo 7 q (by omega) (by omega) (by omega) (by omega) (by omega) (by omega)⟩
  obtain ⟨g1, g2, g3⟩ := agL_sys hag k
  unfold PLI_
  rw [g1, g2, g3]
  have hn13 : ∀ i, i < 13 → 0 < cA_ S k i → e ≤ now / pA_ S i * pA_ S i + pA_ S i := fun i hi hc => by
    obtain ⟨z1, z2⟩ := qpA_lt S k hi
    have z3 : S 4 (qpA_ S k i) = k := by
      unfold cA_ at hc
      split at hc
      · assumption
      · omega
    have := hn _ z1 z3
    rw [z2] at this
    exact this
  have hbk : ∀ j : Nat, ps_b (cA_ S k) (dA_ S k) (pA_ S) now = (j : Int) → e - now ≤ ps_lft (cA_ S k) (dA_ S k) (pA_ S) now j := fun j hj => by
    rcases hb with ⟨-, y, -⟩ | ⟨i, -, -, -, y, z, -⟩
    · omega
    · rw [hj] at y
      have : j = i / 2 := by omega
      rw [this]; exact z
  obtain ⟨hA, hR⟩ := hP
  refine ⟨fun i hi h4 => ?_, ?_⟩
  · rw [hSo 4 i (by omega) (by omega) (by omega) (by omega) (by omega) (by omega)] at h4
    obtain ⟨p1, p2, p3, p4, p5⟩ := prt_A hv hk hi h4
    obtain ⟨r1, r2⟩ := hA i hi h4
    refine prt_step hok hnm he he60 hn13 hbk (S := S) hi p5 (by rw [p2]; omega) (by unfold pA_; have := p4.2.2.2.1; omega) (hSo 5 i (by omega) (by omega) (by omega) (by omega) (by omega) (by omega)) (r2 h60) r1 (fun hne => ?_) (fun heq => ?_)
    · rcases hb with ⟨-, -, rfl⟩ | ⟨j, -, hj, hj4, y, -, hadv⟩
      · exact ⟨h2o _ _ (by omega) (by omega) (by omega), h2o _ _ (by omega) (by omega) (by omega), h2o _ _ (by omega) (by omega) (by omega)⟩
      · have hij : ¬ i = j := fun z => hne (by rw [y, z])
        rw [hadv.1 11 i (by omega), hadv.1 12 i (by omega), hadv.1 13 i (by omega)]
        exact ⟨h2o _ _ (by omega) (by omega) (by omega), h2o _ _ (by omega) (by omega) (by omega), h2o _ _ (by omega) (by omega) (by omega)⟩
    · rcases hb with ⟨-, y, -⟩ | ⟨j, -, hj, hj4, y, -, hadv⟩
      · omega
      · have hij : i = j := by
          have e1 : i / 2 = j / 2 := by omega
          obtain ⟨z1, -⟩ := prt_A hv hk hj hj4
          rw [← e1, p1] at z1
          exact z1
        subst hij
        obtain ⟨a1, a2, a3⟩ := hadv
        rw [h2o 11 i (by omega) (by omega) (by omega), h2o 12 i (by omega) (by omega) (by omega), h2o 13 i (by omega) (by omega) (by omega)] at a2
        rw [h2o 11 i (by omega) (by omega) (by omega), h2o 12 i (by omega) (by omega) (by omega), h2o 13 i (by omega) (by omega) (by omega), h2o 3 _ (by omega) (by omega) (by omega), h2o 5 _ (by omega) (by omega) (by omega)] at a3
        exact ⟨a2, a3⟩
  · obtain ⟨n1, w1, w2, w3, w4, w5⟩ := hR
    have hnn : n1 = n := by omega
    subst hnn
    have s8 : S' 8 0 = (n1 : Int) + 1 := by rw [hSr 8 0 (by omega), h2, up_eq]
    have s9 : ∀ q, S' 9 q = if q = n1 then (e : Int) else S 9 q := fun q => by
      rw [hSr 9 q (by omega), h2, up_ne _ _ _ _ (by omega), up_ne _ _ _ _ (by omega), up_at]
      by_cases z : q = n1 <;> simp [z]
    have s10 : ∀ q, S' 10 q = if q = n1 then ps_run (cA_ S k) (dA_ S k) (pA_ S) now else S 10 q := fun q => by
      rw [hSr 10 q (by omega), h2, up_ne _ _ _ _ (by omega), up_at]
      by_cases z : q = n1
      · simp [z]
      · simp [z]; rw [up_ne _ _ _ _ (by omega)]
    refine ⟨n1 + 1, by rw [s8]; omega, by omega, fun z => by omega, fun _ => by rw [Nat.add_sub_cancel, s9, if_pos rfl], fun q hq => ?_⟩
    rw [s9, s10]
    by_cases z : q = n1
    · subst z
      rw [if_pos rfl, if_pos rfl]
      refine ⟨by omega, fun t h1 h2 => ?_⟩
      have hnt : now ≤ t := by
        rcases h1 with h1 | h1
        · have := w3 h1; omega
        · rcases Nat.eq_zero_or_pos q with y | y
          · have := w3 y; omega
          · rw [s9, if_neg (by omega), w4 y] at h1
            omega
      obtain ⟨j1, -, -⟩ := ps_stretch hok hn13 hbk (t - now) (by omega)
      rw [show now + (t - now) = t by omega] at j1
      unfold ps_run
      rw [j1]
    · rw [if_neg z, if_neg z]
      obtain ⟨v1, v2⟩ := w5 q (by omega)
      refine ⟨v1, fun t h1 h2 => v2 t ?_ h2⟩
      rcases h1 with h1 | h1
      · exact Or.inl h1
      · rcases Nat.eq_zero_or_pos q with y | y
        · exact Or.inl y
        · rw [s9, if_neg (by omega)] at h1
          exact Or.inr h1
end
section
theorem rsp_le (c d p : Nat → Nat) : ∀ t i, ps_rsp c d p t i ≤ t
  | 0, i => Nat.le_refl _
  | t + 1, i => by
    have := rsp_le c d p t i
    rw [ps_rsp_succ]
    split <;> omega
/-! A: the plan, walked by program -/
set_option maxRecDepth 100000 in
set_option maxHeartbeats 4000000 in
/-- advance -/
theorem cA_advance (l : Launch) (D : va_G) (h : Nat) (r : Nat → Nat) (cZ cI : ClassId) (S : St_) (i now e0 : Nat) (hi : i < 26) (hw : now ≤ 60 ∧ e0 ≤ 60) (h11 : 0 ≤ S 11 i ∧ S 11 i ≤ 60) (h12 : 0 ≤ S 12 i ∧ S 12 i ≤ 120) (h13 : 0 ≤ S 13 i ∧ S 13 i ≤ 120) (h3 : 0 ≤ S 3 (i / 2) ∧ S 3 (i / 2) ≤ 60) : MV_ l D [(cZ, .boolean), (cI, .int)] (wA_ h r cZ cI) yA_advance kA_advance 5 0 S [.ref h, .int (iI ((i : Nat) : Int)), .int (iI ((now : Nat) : Int)), .int (iI ((e0 : Nat) : Int))] (fun S' => adv_ S i now e0 S') := by
  refine MV_of (by decide) (Nat.le_of_ble_eq_true rfl) ?_
  intro p e s m below meth c A ls hC hI hr hlk hl
  have hl : lv_has ls 5 [(0, .ref h), (1, .int (iI ((i : Nat) : Int))), (2, .int (iI ((now : Nat) : Int))), (3, .int (iI ((e0 : Nat) : Int)))] := hl
  refine rr_aload_n hC dA_advance_0 hl rfl 0 rfl ?_
  refine rA_get hC hI 11 (by decide) lA_11 rfl dA_advance_1 ?_
  refine rr_iload_n hC dA_advance_4 hl rfl 1 rfl ?_
  refine rr_dup2 hC dA_advance_5 ?_
  refine rr_iald hC hI 8 1 rfl rfl (by decide) (by omega) dA_advance_6 ?_
  refine rr_iload_n hC dA_advance_7 hl rfl 3 rfl ?_
  refine rr_iload_n hC dA_advance_8 hl rfl 2 rfl ?_
  refine rr_isub hC dA_advance_9 ?_
  refine rr_isub hC dA_advance_10 ?_
  refine rr_iast hC (wA_ h r cZ cI) hI 11 8 1 rfl rfl (by decide) (by omega) rfl dA_advance_11 (fun H locs hI => ?_)
  refine rr_aload_n hC dA_advance_12 hl rfl 0 rfl ?_
  refine rA_get hC hI 11 (by decide) lA_11 rfl dA_advance_13 ?_
  refine rr_iload_n hC dA_advance_16 hl rfl 1 rfl ?_
  refine rr_iald hC hI 8 1 rfl rfl (by decide) (by omega) dA_advance_17 ?_
  refine rr_top (y := (S 11 i) - (((e0 : Nat) : Int) - ((now : Nat) : Int))) (show up_ S 11 i ((S 11 i) - (((e0 : Nat) : Int) - ((now : Nat) : Int))) 11 i = (S 11 i) - (((e0 : Nat) : Int) - ((now : Nat) : Int)) from up_eq _ _ _ _) ?_
  refine rr_if_le hC 22 dA_advance_18 (by decide) (by omega) (fun c1 => ?_) (fun c1 => ?_)
  · refine rr_iload_n hC dA_advance_22 hl rfl 3 rfl ?_
    refine rr_aload_n hC dA_advance_23 hl rfl 0 rfl ?_
    refine rA_get hC hI 12 (by decide) lA_12 rfl dA_advance_24 ?_
    refine rr_iload_n hC dA_advance_27 hl rfl 1 rfl ?_
    refine rr_iald hC hI 9 1 rfl rfl (by decide) (by omega) dA_advance_28 ?_
    refine rr_top (y := S 12 i) rfl ?_
    refine rr_isub hC dA_advance_29 ?_
    refine rr_istore (lv' := [(4, .int (iI (((e0 : Nat) : Int) - (S 12 i)))), (0, .ref h), (1, .int (iI ((i : Nat) : Int))), (2, .int (iI ((now : Nat) : Int))), (3, .int (iI ((e0 : Nat) : Int)))]) hC dA_advance_30 hl (by decide) rfl (fun ls hl => ?_)
    refine rr_iload hC dA_advance_32 hl 0 rfl ?_
    refine rr_aload_n hC dA_advance_34 hl rfl 1 rfl ?_
    refine rA_get hC hI 13 (by decide) lA_13 rfl dA_advance_35 ?_
    refine rr_iload_n hC dA_advance_38 hl rfl 2 rfl ?_
    refine rr_iald hC hI 10 1 rfl rfl (by decide) (by omega) dA_advance_39 ?_
    refine rr_top (y := S 13 i) rfl ?_
    refine rr_icmp_le hC 51 dA_advance_40 (by decide) (by omega) (by omega) (fun c2 => ?_) (fun c2 => ?_)
    · refine rr_aload_n hC dA_advance_51 hl rfl 1 rfl ?_
      refine rA_get hC hI 12 (by decide) lA_12 rfl dA_advance_52 ?_
      refine rr_iload_n hC dA_advance_55 hl rfl 2 rfl ?_
      refine rr_dup2 hC dA_advance_56 ?_
      refine rr_iald hC hI 9 1 rfl rfl (by decide) (by omega) dA_advance_57 ?_
      refine rr_top (y := S 12 i) rfl ?_
      refine rr_aload_n hC dA_advance_58 hl rfl 1 rfl ?_
      refine rA_get hC hI 3 (by decide) lA_3 rfl dA_advance_59 ?_
      refine rr_iload_n hC dA_advance_62 hl rfl 2 rfl ?_
      refine rr_iconst (v := ((2 : Nat) : Int)) hC dA_advance_63 rfl ?_
      refine rr_idiv hC dA_advance_64 (by omega) (by omega) ?_
      refine rr_top (y := ((i / 2 : Nat) : Int)) (by omega) ?_
      refine rr_iald hC hI 2 1 rfl rfl (by decide) (by omega) dA_advance_65 ?_
      refine rr_top (y := S 3 (i / 2)) rfl ?_
      refine rr_iadd hC dA_advance_66 ?_
      refine rr_iast hC (wA_ h r cZ cI) hI 12 9 1 rfl rfl (by decide) (by omega) rfl dA_advance_67 (fun H locs hI => ?_)
      refine rr_aload_n hC dA_advance_68 hl rfl 1 rfl ?_
      refine rA_get hC hI 12 (by decide) lA_12 rfl dA_advance_69 ?_
      refine rr_iload_n hC dA_advance_72 hl rfl 2 rfl ?_
      refine rr_iald hC hI 9 1 rfl rfl (by decide) (by omega) dA_advance_73 ?_
      refine rr_top (y := (S 12 i) + (S 3 (i / 2))) (show up_ (up_ S 11 i ((S 11 i) - (((e0 : Nat) : Int) - ((now : Nat) : Int)))) 12 i ((S 12 i) + (S 3 (i / 2))) 12 i = (S 12 i) + (S 3 (i / 2)) from up_eq _ _ _ _) ?_
      refine rr_bipush (v := ((60 : Nat) : Int)) hC dA_advance_74 (by decide) ?_
      refine rr_icmp_ge hC 94 dA_advance_76 (by decide) (by omega) (by omega) (fun c3 => ?_) (fun c3 => ?_)
      · refine rr_aload_n hC dA_advance_94 hl rfl 1 rfl ?_
        refine rA_get hC hI 11 (by decide) lA_11 rfl dA_advance_95 ?_
        refine rr_iload_n hC dA_advance_98 hl rfl 2 rfl ?_
        refine rr_iconst (v := ((0 : Nat) : Int)) hC dA_advance_99 rfl ?_
        refine rr_iast hC (wA_ h r cZ cI) hI 11 8 1 rfl rfl (by decide) (by omega) rfl dA_advance_100 (fun H locs hI => ?_)
        exact rr_vret hC (wA_ h r cZ cI) hI hr hlk dA_advance_101 (⟨fun j q hjq => by simp only [up_at]; repeat rw [if_neg (by omega)], fun z => by omega, fun _ => ⟨by simp [up_at], by rw [if_neg (by omega)]; simp [up_at], by rw [if_neg (by omega)]; simp [up_at]⟩⟩)
      · refine rr_aload_n hC dA_advance_79 hl rfl 1 rfl ?_
        refine rA_get hC hI 11 (by decide) lA_11 rfl dA_advance_80 ?_
        refine rr_iload_n hC dA_advance_83 hl rfl 2 rfl ?_
        refine rr_aload_n hC dA_advance_84 hl rfl 1 rfl ?_
        refine rA_get hC hI 5 (by decide) lA_5 rfl dA_advance_85 ?_
        refine rr_iload_n hC dA_advance_88 hl rfl 2 rfl ?_
        refine rr_iald hC hI 4 1 rfl rfl (by decide) (by omega) dA_advance_89 ?_
        refine rr_top (y := S 5 i) rfl ?_
        refine rr_iast hC (wA_ h r cZ cI) hI 11 8 1 rfl rfl (by decide) (by omega) rfl dA_advance_90 (fun H locs hI => ?_)
        refine rr_goto hC 101 dA_advance_91 (by decide) ?_
        exact rr_vret hC (wA_ h r cZ cI) hI hr hlk dA_advance_101 (⟨fun j q hjq => by simp only [up_at]; repeat rw [if_neg (by omega)], fun z => by omega, fun _ => ⟨by simp [up_at], by rw [if_neg (by omega)]; simp [up_at], by rw [if_pos (by omega)]; simp [up_at]⟩⟩)
    · refine rr_aload_n hC dA_advance_43 hl rfl 1 rfl ?_
      refine rA_get hC hI 13 (by decide) lA_13 rfl dA_advance_44 ?_
      refine rr_iload_n hC dA_advance_47 hl rfl 2 rfl ?_
      refine rr_iload hC dA_advance_48 hl 0 rfl ?_
      refine rr_iast hC (wA_ h r cZ cI) hI 13 10 1 rfl rfl (by decide) (by omega) rfl dA_advance_50 (fun H locs hI => ?_)
      refine rr_aload_n hC dA_advance_51 hl rfl 1 rfl ?_
      refine rA_get hC hI 12 (by decide) lA_12 rfl dA_advance_52 ?_
      refine rr_iload_n hC dA_advance_55 hl rfl 2 rfl ?_
      refine rr_dup2 hC dA_advance_56 ?_
      refine rr_iald hC hI 9 1 rfl rfl (by decide) (by omega) dA_advance_57 ?_
      refine rr_top (y := S 12 i) rfl ?_
      refine rr_aload_n hC dA_advance_58 hl rfl 1 rfl ?_
      refine rA_get hC hI 3 (by decide) lA_3 rfl dA_advance_59 ?_
      refine rr_iload_n hC dA_advance_62 hl rfl 2 rfl ?_
      refine rr_iconst (v := ((2 : Nat) : Int)) hC dA_advance_63 rfl ?_
      refine rr_idiv hC dA_advance_64 (by omega) (by omega) ?_
      refine rr_top (y := ((i / 2 : Nat) : Int)) (by omega) ?_
      refine rr_iald hC hI 2 1 rfl rfl (by decide) (by omega) dA_advance_65 ?_
      refine rr_top (y := S 3 (i / 2)) rfl ?_
      refine rr_iadd hC dA_advance_66 ?_
      refine rr_iast hC (wA_ h r cZ cI) hI 12 9 1 rfl rfl (by decide) (by omega) rfl dA_advance_67 (fun H locs hI => ?_)
      refine rr_aload_n hC dA_advance_68 hl rfl 1 rfl ?_
      refine rA_get hC hI 12 (by decide) lA_12 rfl dA_advance_69 ?_
      refine rr_iload_n hC dA_advance_72 hl rfl 2 rfl ?_
      refine rr_iald hC hI 9 1 rfl rfl (by decide) (by omega) dA_advance_73 ?_
      refine rr_top (y := (S 12 i) + (S 3 (i / 2))) (show up_ (up_ (up_ S 11 i ((S 11 i) - (((e0 : Nat) : Int) - ((now : Nat) : Int)))) 13 i (((e0 : Nat) : Int) - (S 12 i))) 12 i ((S 12 i) + (S 3 (i / 2))) 12 i = (S 12 i) + (S 3 (i / 2)) from up_eq _ _ _ _) ?_
      refine rr_bipush (v := ((60 : Nat) : Int)) hC dA_advance_74 (by decide) ?_
      refine rr_icmp_ge hC 94 dA_advance_76 (by decide) (by omega) (by omega) (fun c4 => ?_) (fun c4 => ?_)
      · refine rr_aload_n hC dA_advance_94 hl rfl 1 rfl ?_
        refine rA_get hC hI 11 (by decide) lA_11 rfl dA_advance_95 ?_
        refine rr_iload_n hC dA_advance_98 hl rfl 2 rfl ?_
        refine rr_iconst (v := ((0 : Nat) : Int)) hC dA_advance_99 rfl ?_
        refine rr_iast hC (wA_ h r cZ cI) hI 11 8 1 rfl rfl (by decide) (by omega) rfl dA_advance_100 (fun H locs hI => ?_)
        exact rr_vret hC (wA_ h r cZ cI) hI hr hlk dA_advance_101 (⟨fun j q hjq => by simp only [up_at]; repeat rw [if_neg (by omega)], fun z => by omega, fun _ => ⟨by simp [up_at], by rw [if_pos (by omega)]; simp [up_at], by rw [if_neg (by omega)]; simp [up_at]⟩⟩)
      · refine rr_aload_n hC dA_advance_79 hl rfl 1 rfl ?_
        refine rA_get hC hI 11 (by decide) lA_11 rfl dA_advance_80 ?_
        refine rr_iload_n hC dA_advance_83 hl rfl 2 rfl ?_
        refine rr_aload_n hC dA_advance_84 hl rfl 1 rfl ?_
        refine rA_get hC hI 5 (by decide) lA_5 rfl dA_advance_85 ?_
        refine rr_iload_n hC dA_advance_88 hl rfl 2 rfl ?_
        refine rr_iald hC hI 4 1 rfl rfl (by decide) (by omega) dA_advance_89 ?_
        refine rr_top (y := S 5 i) rfl ?_
        refine rr_iast hC (wA_ h r cZ cI) hI 11 8 1 rfl rfl (by decide) (by omega) rfl dA_advance_90 (fun H locs hI => ?_)
        refine rr_goto hC 101 dA_advance_91 (by decide) ?_
        exact rr_vret hC (wA_ h r cZ cI) hI hr hlk dA_advance_101 (⟨fun j q hjq => by simp only [up_at]; repeat rw [if_neg (by omega)], fun z => by omega, fun _ => ⟨by simp [up_at], by rw [if_pos (by omega)]; simp [up_at], by rw [if_pos (by omega)]; simp [up_at]⟩⟩)
  · exact rr_vret hC (wA_ h r cZ cI) hI hr hlk dA_advance_21 (⟨fun j q hjq => by simp only [up_at]; repeat rw [if_neg (by omega)], fun _ => ⟨by simp [up_at], by simp [up_at], by simp [up_at]⟩, fun z => by omega⟩)
set_option maxRecDepth 100000 in
set_option maxHeartbeats 4000000 in
/-- stretch -/
theorem cA_stretch (l : Launch) (D : va_G) (h : Nat) (r : Nat → Nat) (cZ cI : ClassId) (S : St_) (k : Int) (now : Nat) (hk : 0 ≤ k ∧ k ≤ 2) (hv : vlA_ S) (hs : schA_ S k) (h60 : now < 60) (hP : PLI_ S k now) : MI_ l D [(cZ, .boolean), (cI, .int)] (wA_ h r cZ cI) yA_stretch kA_stretch 7 (some .int) 1 S [.ref h, .int (iI k), .int (iI ((now : Nat) : Int))] (fun x S' => ∃ e : Nat, x = iI (e : Int) ∧ now < e ∧ e ≤ 60 ∧ PLI_ S' k e ∧ agL_ S S' ∧ S' 7 = S 7) := by
  refine MI_of (by decide) (Nat.le_of_ble_eq_true rfl) ?_
  intro p e s m below meth c A ls hC hI hr hlk hl
  have hl : lv_has ls 7 [(0, .ref h), (1, .int (iI k)), (2, .int (iI ((now : Nat) : Int)))] := hl
  have hok := okA_ hv hk.1
  have loop : ∀ (n : Nat) (i : Nat) (b : Int) (nx : Nat) , i ≤ 26 → 26 < i + n → now < nx ∧ nx ≤ 60 → (∀ q, q < i → S 4 q = k → nx ≤ now / pA_ S (q / 2) * pA_ S (q / 2) + pA_ S (q / 2)) → ps_isB (Lp_ S k (ps_lft (cA_ S k) (dA_ S k) (pA_ S) now)) (fun j => ps_due (dA_ S k) (pA_ S) now (j / 2)) i b → ∀ (ls : Array Slot), lv_has ls 7 [(0, .ref h), (1, .int (iI k)), (2, .int (iI ((now : Nat) : Int))), (3, .int (iI b)), (4, .int (iI ((nx : Nat) : Int))), (5, .int (iI ((i : Nat) : Int)))] → W p l e (rm_ 1) s m [.ref h, .int (iI k), .int (iI ((now : Nat) : Int))].toArray below meth c s.heap [] 0 0 (EQ_ D [(cZ, .boolean), (cI, .int)] (wA_ h r cZ cI) S s below [.ref h, .int (iI k), .int (iI ((now : Nat) : Int))].toArray A (fun x S' => ∃ e : Nat, x = iI (e : Int) ∧ now < e ∧ e ≤ 60 ∧ PLI_ S' k e ∧ agL_ S S' ∧ S' 7 = S 7)) (F0 m 9 ls []) := by
    intro n
    induction n with
    | zero => intros; omega
    | succ n ih =>
      intro i b nx  hi hfu hnx0 hnx hB  ls hl
      refine rr_iload hC dA_stretch_9 hl 5 rfl ?_
      refine rr_bipush (v := ((26 : Nat) : Int)) hC dA_stretch_11 (by decide) ?_
      refine rr_icmp_ge hC 156 dA_stretch_13 (by decide) (by omega) (by omega) (fun c1 => ?_) (fun c1 => ?_)
      · refine rr_iload hC dA_stretch_156 hl 4 rfl ?_
        have hi26 : i = 26 := by omega
        subst hi26
        obtain ⟨n, w1, w2, w3, w4, w5⟩ := id hP.2
        rcases bst_A hv hk.1 (fun q => ps_lft_le (cA_ S k) (dA_ S k) (pA_ S) now q) hB with ⟨rfl, hb0⟩ | ⟨j, rfl, hj, hjk, hjl, hb0⟩
        · have hbb : ps_b (cA_ S k) (dA_ S k) (pA_ S) now = -1 := ps_isB_uniq (ps_b_is (cA_ S k) (dA_ S k) (pA_ S) now) hb0
          have hrun : ps_run (cA_ S k) (dA_ S k) (pA_ S) now = -5 := by unfold ps_run; rw [hbb]; rfl
          have hl : lv_has ls 7 [(0, .ref h), (1, .int (iI k)), (2, .int (iI ((now : Nat) : Int))), (3, .int (iI (-1 : Int))), (4, .int (iI ((nx : Nat) : Int))), (5, .int (iI ((26 : Nat) : Int)))] := hl
          refine rr_istore (lv' := [(5, .int (iI ((nx : Nat) : Int))), (0, .ref h), (1, .int (iI k)), (2, .int (iI ((now : Nat) : Int))), (3, .int (iI (-1 : Int))), (4, .int (iI ((nx : Nat) : Int)))]) hC dA_stretch_158 hl (by decide) rfl (fun ls hl => ?_)
          refine rr_iload_n hC dA_stretch_160 hl rfl 4 rfl ?_
          refine rr_if_lt hC 187 dA_stretch_161 (by decide) (by omega) (fun c2 => ?_) (fun c2 => ?_)
          · refine rr_aload_n hC dA_stretch_187 hl rfl 1 rfl ?_
            refine rA_get hC hI 9 (by decide) lA_9 rfl dA_stretch_188 ?_
            refine rr_aload_n hC dA_stretch_191 hl rfl 1 rfl ?_
            refine rA_get hC hI 8 (by decide) lA_8 rfl dA_stretch_192 ?_
            refine rr_top (y := ((n : Nat) : Int)) w1 ?_
            refine rr_iload hC dA_stretch_195 hl 0 rfl ?_
            refine rr_iast hC (wA_ h r cZ cI) hI 9 6 1 rfl rfl (by decide) (by omega) rfl dA_stretch_197 (fun H locs hI => ?_)
            refine rr_aload_n hC dA_stretch_198 hl rfl 1 rfl ?_
            refine rA_get hC hI 10 (by decide) lA_10 rfl dA_stretch_199 ?_
            refine rr_aload_n hC dA_stretch_202 hl rfl 1 rfl ?_
            refine rA_get hC hI 8 (by decide) lA_8 rfl dA_stretch_203 ?_
            refine rr_top (y := S 8 0) rfl ?_
            refine rr_top (y := ((n : Nat) : Int)) w1 ?_
            refine rr_iload_n hC dA_stretch_206 hl rfl 4 rfl ?_
            refine rr_if_ge hC 215 dA_stretch_207 (by decide) (by omega) (fun c3 => ?_) (fun c3 => ?_)
            · exfalso; omega
            · refine rr_bipush (v := (-5 : Int)) hC dA_stretch_210 (by decide) ?_
              refine rr_goto hC 218 dA_stretch_212 (by decide) ?_
              refine rr_iast hC (wA_ h r cZ cI) hI 10 7 1 rfl rfl (by decide) (by omega) rfl dA_stretch_218 (fun H locs hI => ?_)
              refine rr_aload_n hC dA_stretch_219 hl rfl 1 rfl ?_
              refine rr_dup hC dA_stretch_220 ?_
              refine rA_get hC hI 8 (by decide) lA_8 rfl dA_stretch_221 ?_
              refine rr_top (y := S 8 0) rfl ?_
              refine rr_top (y := ((n : Nat) : Int)) w1 ?_
              refine rr_iconst (v := ((1 : Nat) : Int)) hC dA_stretch_224 rfl ?_
              refine rr_iadd hC dA_stretch_225 ?_
              refine rr_top (y := ((n + 1 : Nat) : Int)) (by omega) ?_
              refine rA_put hC hI 8 (by decide) lA_8 rfl (by decide +kernel) rfl dA_stretch_226 (fun H locs hI => ?_)
              refine rr_iload_n hC dA_stretch_229 hl rfl 4 rfl ?_
              refine rr_if_lt hC 241 dA_stretch_230 (by decide) (by omega) (fun c4 => ?_) (fun c4 => ?_)
              · refine rr_iload hC dA_stretch_241 hl 0 rfl ?_
                exact rr_iret hC (wA_ h r cZ cI) hI hr hlk dA_stretch_243 (⟨nx, rfl, by omega, by omega, PLI_step hv hk.1 hs hP h60 (e := nx) (n := n) (by omega) (by omega) (fun q hq h4 => by have := hnx q hq h4; omega) (Or.inl ⟨rfl, hbb, rfl⟩) w1 (by rw [hrun]; rfl)⟩)
              · exfalso; omega
          · exfalso; omega
        · have hbb : ps_b (cA_ S k) (dA_ S k) (pA_ S) now = ((j / 2 : Nat) : Int) := ps_isB_uniq (ps_b_is (cA_ S k) (dA_ S k) (pA_ S) now) hb0
          have hrun : ps_run (cA_ S k) (dA_ S k) (pA_ S) now = ((j / 2 : Nat) : Int) := by unfold ps_run; rw [hbb, if_neg (by omega)]
          obtain ⟨p1j, p2j, p3j, ⟨p4j, p5j, p6j, p7j, p8j, p9j⟩, p10j⟩ := prt_A hv hk.1 (show j < 26 by omega) hjk
          obtain ⟨r1j, r2j⟩ := hP.1 j (by omega) hjk
          replace r2j := r2j h60
          have pcj : S 3 (j / 2) = ((pA_ S (j / 2) : Nat) : Int) := by unfold pA_; omega
          have dcj : S 6 j = ((dA_ S k (j / 2) : Nat) : Int) := by rw [p3j]; omega
          have pzj : 2 ≤ pA_ S (j / 2) ∧ pA_ S (j / 2) ≤ 60 := by unfold pA_; omega
          have q1j := ps_lo (p := pA_ S (j / 2)) now
          have q2j := ps_hi (p := pA_ S (j / 2)) (by omega) now
          have lbj := ps_lft_le (cA_ S k) (dA_ S k) (pA_ S) now (j / 2)
          have dbj : dA_ S k (j / 2) ≤ pA_ S (j / 2) := by omega
          have lj : S 11 j = ((ps_lft (cA_ S k) (dA_ S k) (pA_ S) now (j / 2) : Nat) : Int) ∧ S 12 j = ((now / pA_ S (j / 2) * pA_ S (j / 2) : Nat) : Int) := by
            rcases r2j with ⟨-, y1, y2⟩ | ⟨y, -⟩
            · exact ⟨y1, y2⟩
            · omega
          have hl : lv_has ls 7 [(0, .ref h), (1, .int (iI k)), (2, .int (iI ((now : Nat) : Int))), (3, .int (iI ((j : Nat) : Int))), (4, .int (iI ((nx : Nat) : Int))), (5, .int (iI ((26 : Nat) : Int)))] := hl
          have rb : 0 ≤ S 13 j ∧ S 13 j ≤ 60 := by rw [r1j]; have := rsp_le (cA_ S k) (dA_ S k) (pA_ S) now (j / 2); omega
          refine rr_istore (lv' := [(5, .int (iI ((nx : Nat) : Int))), (0, .ref h), (1, .int (iI k)), (2, .int (iI ((now : Nat) : Int))), (3, .int (iI ((j : Nat) : Int))), (4, .int (iI ((nx : Nat) : Int)))]) hC dA_stretch_158 hl (by decide) rfl (fun ls hl => ?_)
          refine rr_iload_n hC dA_stretch_160 hl rfl 4 rfl ?_
          refine rr_if_lt hC 187 dA_stretch_161 (by decide) (by omega) (fun c5 => ?_) (fun c5 => ?_)
          · exfalso; omega
          · refine rr_iload_n hC dA_stretch_164 hl rfl 3 rfl ?_
            refine rr_aload_n hC dA_stretch_165 hl rfl 1 rfl ?_
            refine rA_get hC hI 11 (by decide) lA_11 rfl dA_stretch_166 ?_
            refine rr_iload_n hC dA_stretch_169 hl rfl 4 rfl ?_
            refine rr_iald hC hI 8 1 rfl rfl (by decide) (by omega) dA_stretch_170 ?_
            refine rr_iadd hC dA_stretch_171 ?_
            refine rr_iload hC dA_stretch_172 hl 0 rfl ?_
            refine rr_icmp_ge hC 187 dA_stretch_174 (by decide) (by omega) (by omega) (fun c6 => ?_) (fun c6 => ?_)
            · refine rr_aload_n hC dA_stretch_187 hl rfl 1 rfl ?_
              refine rA_get hC hI 9 (by decide) lA_9 rfl dA_stretch_188 ?_
              refine rr_aload_n hC dA_stretch_191 hl rfl 1 rfl ?_
              refine rA_get hC hI 8 (by decide) lA_8 rfl dA_stretch_192 ?_
              refine rr_top (y := ((n : Nat) : Int)) w1 ?_
              refine rr_iload hC dA_stretch_195 hl 0 rfl ?_
              refine rr_iast hC (wA_ h r cZ cI) hI 9 6 1 rfl rfl (by decide) (by omega) rfl dA_stretch_197 (fun H locs hI => ?_)
              refine rr_aload_n hC dA_stretch_198 hl rfl 1 rfl ?_
              refine rA_get hC hI 10 (by decide) lA_10 rfl dA_stretch_199 ?_
              refine rr_aload_n hC dA_stretch_202 hl rfl 1 rfl ?_
              refine rA_get hC hI 8 (by decide) lA_8 rfl dA_stretch_203 ?_
              refine rr_top (y := S 8 0) rfl ?_
              refine rr_top (y := ((n : Nat) : Int)) w1 ?_
              refine rr_iload_n hC dA_stretch_206 hl rfl 4 rfl ?_
              refine rr_if_ge hC 215 dA_stretch_207 (by decide) (by omega) (fun c7 => ?_) (fun c7 => ?_)
              · refine rr_iload_n hC dA_stretch_215 hl rfl 4 rfl ?_
                refine rr_iconst (v := ((2 : Nat) : Int)) hC dA_stretch_216 rfl ?_
                refine rr_idiv hC dA_stretch_217 (by omega) (by omega) ?_
                refine rr_top (y := ((j / 2 : Nat) : Int)) (by omega) ?_
                refine rr_iast hC (wA_ h r cZ cI) hI 10 7 1 rfl rfl (by decide) (by omega) rfl dA_stretch_218 (fun H locs hI => ?_)
                refine rr_aload_n hC dA_stretch_219 hl rfl 1 rfl ?_
                refine rr_dup hC dA_stretch_220 ?_
                refine rA_get hC hI 8 (by decide) lA_8 rfl dA_stretch_221 ?_
                refine rr_top (y := S 8 0) rfl ?_
                refine rr_top (y := ((n : Nat) : Int)) w1 ?_
                refine rr_iconst (v := ((1 : Nat) : Int)) hC dA_stretch_224 rfl ?_
                refine rr_iadd hC dA_stretch_225 ?_
                refine rr_top (y := ((n + 1 : Nat) : Int)) (by omega) ?_
                refine rA_put hC hI 8 (by decide) lA_8 rfl (by decide +kernel) rfl dA_stretch_226 (fun H locs hI => ?_)
                refine rr_iload_n hC dA_stretch_229 hl rfl 4 rfl ?_
                refine rr_if_lt hC 241 dA_stretch_230 (by decide) (by omega) (fun c8 => ?_) (fun c8 => ?_)
                · exfalso; omega
                · refine rr_aload_n hC dA_stretch_233 hl rfl 1 rfl ?_
                  refine rr_iload_n hC dA_stretch_234 hl rfl 4 rfl ?_
                  refine rr_iload_n hC dA_stretch_235 hl rfl 3 rfl ?_
                  refine rr_iload hC dA_stretch_236 hl 0 rfl ?_
                  refine rr_callv (na := 3) hC (wA_ h r cZ cI) hI hl (cA_advance l D h r cZ cI (up_ (up_ (up_ S 9 n ((nx : Nat) : Int)) 10 n ((j / 2 : Nat) : Int)) 8 0 ((n + 1 : Nat) : Int)) j now nx (by omega) (by omega) (show 0 ≤ S 11 j ∧ S 11 j ≤ 60 by omega) (show 0 ≤ S 12 j ∧ S 12 j ≤ 120 by omega) (show 0 ≤ S 13 j ∧ S 13 j ≤ 120 by omega) (show 0 ≤ S 3 (j / 2) ∧ S 3 (j / 2) ≤ 60 by omega)) gA_A_advance (by decide +kernel) ⟨by decide, by decide⟩ rfl rfl rfl rfl (by decide) dA_stretch_238 (fun T5 H locs hp hI => ?_)
                  refine rr_iload hC dA_stretch_241 hl 0 rfl ?_
                  exact rr_iret hC (wA_ h r cZ cI) hI hr hlk dA_stretch_243 (⟨nx, rfl, by omega, by omega, PLI_step hv hk.1 hs hP h60 (e := nx) (n := n) (by omega) (by omega) (fun q hq h4 => by have := hnx q hq h4; omega) (Or.inr ⟨j, rfl, hj, hjk, hbb, by omega, hp⟩) w1 (by rw [hrun]; rfl)⟩)
              · exfalso; omega
            · refine rr_iload_n hC dA_stretch_177 hl rfl 3 rfl ?_
              refine rr_aload_n hC dA_stretch_178 hl rfl 1 rfl ?_
              refine rA_get hC hI 11 (by decide) lA_11 rfl dA_stretch_179 ?_
              refine rr_iload_n hC dA_stretch_182 hl rfl 4 rfl ?_
              refine rr_iald hC hI 8 1 rfl rfl (by decide) (by omega) dA_stretch_183 ?_
              refine rr_iadd hC dA_stretch_184 ?_
              refine rr_istore (lv' := [(5, .int (iI (((now : Nat) : Int) + (S 11 j)))), (0, .ref h), (1, .int (iI k)), (2, .int (iI ((now : Nat) : Int))), (3, .int (iI ((j : Nat) : Int))), (4, .int (iI ((nx : Nat) : Int)))]) hC dA_stretch_185 hl (by decide) rfl (fun ls hl => ?_)
              rw [show ((now : Nat) : Int) + (S 11 j) = ((now + ps_lft (cA_ S k) (dA_ S k) (pA_ S) now (j / 2) : Nat) : Int) by omega] at hl
              refine rr_aload_n hC dA_stretch_187 hl rfl 1 rfl ?_
              refine rA_get hC hI 9 (by decide) lA_9 rfl dA_stretch_188 ?_
              refine rr_aload_n hC dA_stretch_191 hl rfl 1 rfl ?_
              refine rA_get hC hI 8 (by decide) lA_8 rfl dA_stretch_192 ?_
              refine rr_top (y := ((n : Nat) : Int)) w1 ?_
              refine rr_iload hC dA_stretch_195 hl 0 rfl ?_
              refine rr_iast hC (wA_ h r cZ cI) hI 9 6 1 rfl rfl (by decide) (by omega) rfl dA_stretch_197 (fun H locs hI => ?_)
              refine rr_aload_n hC dA_stretch_198 hl rfl 1 rfl ?_
              refine rA_get hC hI 10 (by decide) lA_10 rfl dA_stretch_199 ?_
              refine rr_aload_n hC dA_stretch_202 hl rfl 1 rfl ?_
              refine rA_get hC hI 8 (by decide) lA_8 rfl dA_stretch_203 ?_
              refine rr_top (y := S 8 0) rfl ?_
              refine rr_top (y := ((n : Nat) : Int)) w1 ?_
              refine rr_iload_n hC dA_stretch_206 hl rfl 4 rfl ?_
              refine rr_if_ge hC 215 dA_stretch_207 (by decide) (by omega) (fun c9 => ?_) (fun c9 => ?_)
              · refine rr_iload_n hC dA_stretch_215 hl rfl 4 rfl ?_
                refine rr_iconst (v := ((2 : Nat) : Int)) hC dA_stretch_216 rfl ?_
                refine rr_idiv hC dA_stretch_217 (by omega) (by omega) ?_
                refine rr_top (y := ((j / 2 : Nat) : Int)) (by omega) ?_
                refine rr_iast hC (wA_ h r cZ cI) hI 10 7 1 rfl rfl (by decide) (by omega) rfl dA_stretch_218 (fun H locs hI => ?_)
                refine rr_aload_n hC dA_stretch_219 hl rfl 1 rfl ?_
                refine rr_dup hC dA_stretch_220 ?_
                refine rA_get hC hI 8 (by decide) lA_8 rfl dA_stretch_221 ?_
                refine rr_top (y := S 8 0) rfl ?_
                refine rr_top (y := ((n : Nat) : Int)) w1 ?_
                refine rr_iconst (v := ((1 : Nat) : Int)) hC dA_stretch_224 rfl ?_
                refine rr_iadd hC dA_stretch_225 ?_
                refine rr_top (y := ((n + 1 : Nat) : Int)) (by omega) ?_
                refine rA_put hC hI 8 (by decide) lA_8 rfl (by decide +kernel) rfl dA_stretch_226 (fun H locs hI => ?_)
                refine rr_iload_n hC dA_stretch_229 hl rfl 4 rfl ?_
                refine rr_if_lt hC 241 dA_stretch_230 (by decide) (by omega) (fun c10 => ?_) (fun c10 => ?_)
                · exfalso; omega
                · refine rr_aload_n hC dA_stretch_233 hl rfl 1 rfl ?_
                  refine rr_iload_n hC dA_stretch_234 hl rfl 4 rfl ?_
                  refine rr_iload_n hC dA_stretch_235 hl rfl 3 rfl ?_
                  refine rr_iload hC dA_stretch_236 hl 0 rfl ?_
                  refine rr_callv (na := 3) hC (wA_ h r cZ cI) hI hl (cA_advance l D h r cZ cI (up_ (up_ (up_ S 9 n ((now + ps_lft (cA_ S k) (dA_ S k) (pA_ S) now (j / 2) : Nat) : Int)) 10 n ((j / 2 : Nat) : Int)) 8 0 ((n + 1 : Nat) : Int)) j now (now + ps_lft (cA_ S k) (dA_ S k) (pA_ S) now (j / 2)) (by omega) (by omega) (show 0 ≤ S 11 j ∧ S 11 j ≤ 60 by omega) (show 0 ≤ S 12 j ∧ S 12 j ≤ 120 by omega) (show 0 ≤ S 13 j ∧ S 13 j ≤ 120 by omega) (show 0 ≤ S 3 (j / 2) ∧ S 3 (j / 2) ≤ 60 by omega)) gA_A_advance (by decide +kernel) ⟨by decide, by decide⟩ rfl rfl rfl rfl (by decide) dA_stretch_238 (fun T5 H locs hp hI => ?_)
                  refine rr_iload hC dA_stretch_241 hl 0 rfl ?_
                  exact rr_iret hC (wA_ h r cZ cI) hI hr hlk dA_stretch_243 (⟨(now + ps_lft (cA_ S k) (dA_ S k) (pA_ S) now (j / 2)), rfl, by omega, by omega, PLI_step hv hk.1 hs hP h60 (e := (now + ps_lft (cA_ S k) (dA_ S k) (pA_ S) now (j / 2))) (n := n) (by omega) (by omega) (fun q hq h4 => by have := hnx q hq h4; omega) (Or.inr ⟨j, rfl, hj, hjk, hbb, by omega, hp⟩) w1 (by rw [hrun]; rfl)⟩)
              · exfalso; omega
      · obtain ⟨v1, v2, -⟩ := hv.2.1 i (by omega)
        have hbr := ps_isB_range hB
        refine rr_aload_n hC dA_stretch_16 hl rfl 0 rfl ?_
        refine rA_get hC hI 4 (by decide) lA_4 rfl dA_stretch_17 ?_
        refine rr_iload hC dA_stretch_20 hl 5 rfl ?_
        refine rr_iald hC hI 3 1 rfl rfl (by decide) (by omega) dA_stretch_22 ?_
        refine rr_iload_n hC dA_stretch_23 hl rfl 1 rfl ?_
        refine rr_icmp_eq hC 30 dA_stretch_24 (by decide) (by omega) (by omega) (fun c11 => ?_) (fun c11 => ?_)
        · have hik : S 4 i = k := c11
          obtain ⟨p1, p2, p3, ⟨p4, p5, p6, p7, p8, p9⟩, p10⟩ := prt_A hv hk.1 (show i < 26 by omega) hik
          obtain ⟨r1, r2⟩ := hP.1 i (by omega) hik
          replace r2 := r2 h60
          have pc : S 3 (i / 2) = ((pA_ S (i / 2) : Nat) : Int) := by unfold pA_; omega
          have dc : S 6 i = ((dA_ S k (i / 2) : Nat) : Int) := by rw [p3]; omega
          have pz : 2 ≤ pA_ S (i / 2) ∧ pA_ S (i / 2) ≤ 60 := by unfold pA_; omega
          have q1 := ps_lo (p := pA_ S (i / 2)) now
          have q2 := ps_hi (p := pA_ S (i / 2)) (by omega) now
          have lb := ps_lft_le (cA_ S k) (dA_ S k) (pA_ S) now (i / 2)
          have db : dA_ S k (i / 2) ≤ pA_ S (i / 2) := by omega
          rcases r2 with ⟨l1, l2, l3⟩ | ⟨l1, l2, l3⟩
          · have ar : S 11 i > 0 ∧ S 12 i ≤ (now : Int) := by omega
            refine rr_aload_n hC dA_stretch_30 hl rfl 0 rfl ?_
            refine rA_get hC hI 11 (by decide) lA_11 rfl dA_stretch_31 ?_
            refine rr_iload hC dA_stretch_34 hl 5 rfl ?_
            refine rr_iald hC hI 8 1 rfl rfl (by decide) (by omega) dA_stretch_36 ?_
            refine rr_if_le hC 61 dA_stretch_37 (by decide) (by omega) (fun c12 => ?_) (fun c12 => ?_)
            · exfalso; omega
            · refine rr_aload_n hC dA_stretch_40 hl rfl 0 rfl ?_
              refine rA_get hC hI 12 (by decide) lA_12 rfl dA_stretch_41 ?_
              refine rr_iload hC dA_stretch_44 hl 5 rfl ?_
              refine rr_iald hC hI 9 1 rfl rfl (by decide) (by omega) dA_stretch_46 ?_
              refine rr_iload_n hC dA_stretch_47 hl rfl 2 rfl ?_
              refine rr_icmp_le hC 61 dA_stretch_48 (by decide) (by omega) (by omega) (fun c13 => ?_) (fun c13 => ?_)
              · refine rr_aload_n hC dA_stretch_61 hl rfl 0 rfl ?_
                refine rA_get hC hI 12 (by decide) lA_12 rfl dA_stretch_62 ?_
                refine rr_iload hC dA_stretch_65 hl 5 rfl ?_
                refine rr_iald hC hI 9 1 rfl rfl (by decide) (by omega) dA_stretch_67 ?_
                refine rr_aload_n hC dA_stretch_68 hl rfl 0 rfl ?_
                refine rA_get hC hI 3 (by decide) lA_3 rfl dA_stretch_69 ?_
                refine rr_iload hC dA_stretch_72 hl 5 rfl ?_
                refine rr_iconst (v := ((2 : Nat) : Int)) hC dA_stretch_74 rfl ?_
                refine rr_idiv hC dA_stretch_75 (by omega) (by omega) ?_
                refine rr_top (y := ((i / 2 : Nat) : Int)) (by omega) ?_
                refine rr_iald hC hI 2 1 rfl rfl (by decide) (by omega) dA_stretch_76 ?_
                refine rr_iadd hC dA_stretch_77 ?_
                refine rr_top (y := ((now / pA_ S (i / 2) * pA_ S (i / 2) + pA_ S (i / 2) : Nat) : Int)) (by omega) ?_
                refine rr_istore (lv' := [(6, .int (iI ((now / pA_ S (i / 2) * pA_ S (i / 2) + pA_ S (i / 2) : Nat) : Int))), (0, .ref h), (1, .int (iI k)), (2, .int (iI ((now : Nat) : Int))), (3, .int (iI b)), (4, .int (iI ((nx : Nat) : Int))), (5, .int (iI ((i : Nat) : Int)))]) hC dA_stretch_78 hl (by decide) rfl (fun ls hl => ?_)
                refine rr_iload hC dA_stretch_80 hl 0 rfl ?_
                refine rr_iload hC dA_stretch_82 hl 5 rfl ?_
                refine rr_icmp_ge hC 91 dA_stretch_84 (by decide) (by omega) (by omega) (fun c14 => ?_) (fun c14 => ?_)
                · refine rr_aload_n hC dA_stretch_91 hl rfl 1 rfl ?_
                  refine rA_get hC hI 11 (by decide) lA_11 rfl dA_stretch_92 ?_
                  refine rr_iload hC dA_stretch_95 hl 6 rfl ?_
                  refine rr_iald hC hI 8 1 rfl rfl (by decide) (by omega) dA_stretch_97 ?_
                  refine rr_if_le hC 150 dA_stretch_98 (by decide) (by omega) (fun c15 => ?_) (fun c15 => ?_)
                  · exfalso; omega
                  · refine rr_aload_n hC dA_stretch_101 hl rfl 1 rfl ?_
                    refine rA_get hC hI 12 (by decide) lA_12 rfl dA_stretch_102 ?_
                    refine rr_iload hC dA_stretch_105 hl 6 rfl ?_
                    refine rr_iald hC hI 9 1 rfl rfl (by decide) (by omega) dA_stretch_107 ?_
                    refine rr_iload_n hC dA_stretch_108 hl rfl 3 rfl ?_
                    refine rr_icmp_gt hC 150 dA_stretch_109 (by decide) (by omega) (by omega) (fun c16 => ?_) (fun c16 => ?_)
                    · exfalso; omega
                    · refine rr_iload_n hC dA_stretch_112 hl rfl 4 rfl ?_
                      refine rr_if_lt hC 147 dA_stretch_113 (by decide) (by omega) (fun c17 => ?_) (fun c17 => ?_)
                      · refine rr_iload hC dA_stretch_147 hl 6 rfl ?_
                        refine rr_istore_n (lv' := [(3, .int (iI ((i : Nat) : Int))), (6, .int (iI ((now / pA_ S (i / 2) * pA_ S (i / 2) + pA_ S (i / 2) : Nat) : Int))), (0, .ref h), (1, .int (iI k)), (2, .int (iI ((now : Nat) : Int))), (4, .int (iI ((nx : Nat) : Int))), (5, .int (iI ((i : Nat) : Int)))]) hC dA_stretch_149 hl rfl (by decide) rfl (fun ls hl => ?_)
                        refine rr_iinc (v := ((i + 1 : Nat) : Int)) (lv' := [(5, .int (iI ((i + 1 : Nat) : Int))), (3, .int (iI ((i : Nat) : Int))), (6, .int (iI ((now / pA_ S (i / 2) * pA_ S (i / 2) + pA_ S (i / 2) : Nat) : Int))), (0, .ref h), (1, .int (iI k)), (2, .int (iI ((now : Nat) : Int))), (4, .int (iI ((nx : Nat) : Int)))]) hC dA_stretch_150 hl 6 rfl (by omega) (by decide) rfl (fun ls hl => ?_)
                        refine rr_goto hC 9 dA_stretch_153 (by decide) ?_
                        exact ih (i + 1) ((i : Nat) : Int) nx (by omega) (by omega) (by omega) (fun q hq h4 => by
                            by_cases z : q = i
                            · subst z; omega
                            · have := hnx q (by omega) h4; omega) (ps_isB_new hB (by unfold Lp_; rw [if_pos hik]; exact l1) (Or.inl (by omega))) ls (lv_sub hl [3, 4, 5, 1, 6, 0] rfl)
                      · obtain ⟨j, rfl, hji, hjk, hjl⟩ : ∃ j : Nat, b = (j : Int) ∧ j < i ∧ S 4 j = k ∧ 0 < ps_lft (cA_ S k) (dA_ S k) (pA_ S) now (j / 2) := by
                          rcases id hB with ⟨y, -⟩ | ⟨j, y, y1, y2, -⟩
                          · omega
                          · unfold Lp_ at y2
                            split at y2
                            · exact ⟨j, y, y1, by assumption, y2⟩
                            · omega
                        obtain ⟨p1j, p2j, p3j, ⟨p4j, p5j, p6j, p7j, p8j, p9j⟩, p10j⟩ := prt_A hv hk.1 (show j < 26 by omega) hjk
                        obtain ⟨r1j, r2j⟩ := hP.1 j (by omega) hjk
                        replace r2j := r2j h60
                        have pcj : S 3 (j / 2) = ((pA_ S (j / 2) : Nat) : Int) := by unfold pA_; omega
                        have dcj : S 6 j = ((dA_ S k (j / 2) : Nat) : Int) := by rw [p3j]; omega
                        have pzj : 2 ≤ pA_ S (j / 2) ∧ pA_ S (j / 2) ≤ 60 := by unfold pA_; omega
                        have q1j := ps_lo (p := pA_ S (j / 2)) now
                        have q2j := ps_hi (p := pA_ S (j / 2)) (by omega) now
                        have lbj := ps_lft_le (cA_ S k) (dA_ S k) (pA_ S) now (j / 2)
                        have dbj : dA_ S k (j / 2) ≤ pA_ S (j / 2) := by omega
                        have lj : S 11 j = ((ps_lft (cA_ S k) (dA_ S k) (pA_ S) now (j / 2) : Nat) : Int) ∧ S 12 j = ((now / pA_ S (j / 2) * pA_ S (j / 2) : Nat) : Int) := by
                          rcases r2j with ⟨-, y1, y2⟩ | ⟨y, -⟩
                          · exact ⟨y1, y2⟩
                          · omega
                        refine rr_aload_n hC dA_stretch_116 hl rfl 1 rfl ?_
                        refine rA_get hC hI 12 (by decide) lA_12 rfl dA_stretch_117 ?_
                        refine rr_iload hC dA_stretch_120 hl 6 rfl ?_
                        refine rr_iald hC hI 9 1 rfl rfl (by decide) (by omega) dA_stretch_122 ?_
                        refine rr_aload_n hC dA_stretch_123 hl rfl 1 rfl ?_
                        refine rA_get hC hI 6 (by decide) lA_6 rfl dA_stretch_124 ?_
                        refine rr_iload hC dA_stretch_127 hl 6 rfl ?_
                        refine rr_iald hC hI 5 1 rfl rfl (by decide) (by omega) dA_stretch_129 ?_
                        refine rr_iadd hC dA_stretch_130 ?_
                        refine rr_top (y := ((ps_due (dA_ S k) (pA_ S) now (i / 2) : Nat) : Int)) (by unfold ps_due; omega) ?_
                        have du1 : ps_due (dA_ S k) (pA_ S) now (i / 2) ≤ 180 := by unfold ps_due; omega
                        refine rr_aload_n hC dA_stretch_131 hl rfl 1 rfl ?_
                        refine rA_get hC hI 12 (by decide) lA_12 rfl dA_stretch_132 ?_
                        refine rr_iload_n hC dA_stretch_135 hl rfl 4 rfl ?_
                        refine rr_iald hC hI 9 1 rfl rfl (by decide) (by omega) dA_stretch_136 ?_
                        refine rr_aload_n hC dA_stretch_137 hl rfl 1 rfl ?_
                        refine rA_get hC hI 6 (by decide) lA_6 rfl dA_stretch_138 ?_
                        refine rr_iload_n hC dA_stretch_141 hl rfl 4 rfl ?_
                        refine rr_iald hC hI 5 1 rfl rfl (by decide) (by omega) dA_stretch_142 ?_
                        refine rr_iadd hC dA_stretch_143 ?_
                        refine rr_top (y := ((ps_due (dA_ S k) (pA_ S) now (j / 2) : Nat) : Int)) (by unfold ps_due; omega) ?_
                        have du2 : ps_due (dA_ S k) (pA_ S) now (j / 2) ≤ 180 := by unfold ps_due; omega
                        refine rr_icmp_ge hC 150 dA_stretch_144 (by decide) (by omega) (by omega) (fun c18 => ?_) (fun c18 => ?_)
                        · refine rr_iinc (v := ((i + 1 : Nat) : Int)) (lv' := [(5, .int (iI ((i + 1 : Nat) : Int))), (6, .int (iI ((now / pA_ S (i / 2) * pA_ S (i / 2) + pA_ S (i / 2) : Nat) : Int))), (0, .ref h), (1, .int (iI k)), (2, .int (iI ((now : Nat) : Int))), (3, .int (iI ((j : Nat) : Int))), (4, .int (iI ((nx : Nat) : Int)))]) hC dA_stretch_150 hl 6 rfl (by omega) (by decide) rfl (fun ls hl => ?_)
                          refine rr_goto hC 9 dA_stretch_153 (by decide) ?_
                          exact ih (i + 1) ((j : Nat) : Int) nx (by omega) (by omega) (by omega) (fun q hq h4 => by
                              by_cases z : q = i
                              · subst z; omega
                              · have := hnx q (by omega) h4; omega) (ps_isB_old hB (fun y => by have y2 := y.2; rw [Int.toNat_natCast] at y2; change (j : Int) < 0 ∨ ps_due (dA_ S k) (pA_ S) now (i / 2) < ps_due (dA_ S k) (pA_ S) now (j / 2) at y2; omega)) ls (lv_sub hl [2, 3, 4, 5, 6, 0] rfl)
                        · refine rr_iload hC dA_stretch_147 hl 6 rfl ?_
                          refine rr_istore_n (lv' := [(3, .int (iI ((i : Nat) : Int))), (6, .int (iI ((now / pA_ S (i / 2) * pA_ S (i / 2) + pA_ S (i / 2) : Nat) : Int))), (0, .ref h), (1, .int (iI k)), (2, .int (iI ((now : Nat) : Int))), (4, .int (iI ((nx : Nat) : Int))), (5, .int (iI ((i : Nat) : Int)))]) hC dA_stretch_149 hl rfl (by decide) rfl (fun ls hl => ?_)
                          refine rr_iinc (v := ((i + 1 : Nat) : Int)) (lv' := [(5, .int (iI ((i + 1 : Nat) : Int))), (3, .int (iI ((i : Nat) : Int))), (6, .int (iI ((now / pA_ S (i / 2) * pA_ S (i / 2) + pA_ S (i / 2) : Nat) : Int))), (0, .ref h), (1, .int (iI k)), (2, .int (iI ((now : Nat) : Int))), (4, .int (iI ((nx : Nat) : Int)))]) hC dA_stretch_150 hl 6 rfl (by omega) (by decide) rfl (fun ls hl => ?_)
                          refine rr_goto hC 9 dA_stretch_153 (by decide) ?_
                          exact ih (i + 1) ((i : Nat) : Int) nx (by omega) (by omega) (by omega) (fun q hq h4 => by
                              by_cases z : q = i
                              · subst z; omega
                              · have := hnx q (by omega) h4; omega) (ps_isB_new hB (by unfold Lp_; rw [if_pos hik]; exact l1) (Or.inr (by rw [Int.toNat_natCast]; show ps_due (dA_ S k) (pA_ S) now (i / 2) < ps_due (dA_ S k) (pA_ S) now (j / 2); omega))) ls (lv_sub hl [3, 4, 5, 1, 6, 0] rfl)
                · refine rr_iload hC dA_stretch_87 hl 0 rfl ?_
                  refine rr_istore (lv' := [(4, .int (iI ((now / pA_ S (i / 2) * pA_ S (i / 2) + pA_ S (i / 2) : Nat) : Int))), (6, .int (iI ((now / pA_ S (i / 2) * pA_ S (i / 2) + pA_ S (i / 2) : Nat) : Int))), (0, .ref h), (1, .int (iI k)), (2, .int (iI ((now : Nat) : Int))), (3, .int (iI b)), (5, .int (iI ((i : Nat) : Int)))]) hC dA_stretch_89 hl (by decide) rfl (fun ls hl => ?_)
                  refine rr_aload_n hC dA_stretch_91 hl rfl 2 rfl ?_
                  refine rA_get hC hI 11 (by decide) lA_11 rfl dA_stretch_92 ?_
                  refine rr_iload hC dA_stretch_95 hl 6 rfl ?_
                  refine rr_iald hC hI 8 1 rfl rfl (by decide) (by omega) dA_stretch_97 ?_
                  refine rr_if_le hC 150 dA_stretch_98 (by decide) (by omega) (fun c19 => ?_) (fun c19 => ?_)
                  · exfalso; omega
                  · refine rr_aload_n hC dA_stretch_101 hl rfl 2 rfl ?_
                    refine rA_get hC hI 12 (by decide) lA_12 rfl dA_stretch_102 ?_
                    refine rr_iload hC dA_stretch_105 hl 6 rfl ?_
                    refine rr_iald hC hI 9 1 rfl rfl (by decide) (by omega) dA_stretch_107 ?_
                    refine rr_iload_n hC dA_stretch_108 hl rfl 4 rfl ?_
                    refine rr_icmp_gt hC 150 dA_stretch_109 (by decide) (by omega) (by omega) (fun c20 => ?_) (fun c20 => ?_)
                    · exfalso; omega
                    · refine rr_iload_n hC dA_stretch_112 hl rfl 5 rfl ?_
                      refine rr_if_lt hC 147 dA_stretch_113 (by decide) (by omega) (fun c21 => ?_) (fun c21 => ?_)
                      · refine rr_iload hC dA_stretch_147 hl 6 rfl ?_
                        refine rr_istore_n (lv' := [(3, .int (iI ((i : Nat) : Int))), (4, .int (iI ((now / pA_ S (i / 2) * pA_ S (i / 2) + pA_ S (i / 2) : Nat) : Int))), (6, .int (iI ((now / pA_ S (i / 2) * pA_ S (i / 2) + pA_ S (i / 2) : Nat) : Int))), (0, .ref h), (1, .int (iI k)), (2, .int (iI ((now : Nat) : Int))), (5, .int (iI ((i : Nat) : Int)))]) hC dA_stretch_149 hl rfl (by decide) rfl (fun ls hl => ?_)
                        refine rr_iinc (v := ((i + 1 : Nat) : Int)) (lv' := [(5, .int (iI ((i + 1 : Nat) : Int))), (3, .int (iI ((i : Nat) : Int))), (4, .int (iI ((now / pA_ S (i / 2) * pA_ S (i / 2) + pA_ S (i / 2) : Nat) : Int))), (6, .int (iI ((now / pA_ S (i / 2) * pA_ S (i / 2) + pA_ S (i / 2) : Nat) : Int))), (0, .ref h), (1, .int (iI k)), (2, .int (iI ((now : Nat) : Int)))]) hC dA_stretch_150 hl 6 rfl (by omega) (by decide) rfl (fun ls hl => ?_)
                        refine rr_goto hC 9 dA_stretch_153 (by decide) ?_
                        exact ih (i + 1) ((i : Nat) : Int) (now / pA_ S (i / 2) * pA_ S (i / 2) + pA_ S (i / 2)) (by omega) (by omega) (by omega) (fun q hq h4 => by
                            by_cases z : q = i
                            · subst z; omega
                            · have := hnx q (by omega) h4; omega) (ps_isB_new hB (by unfold Lp_; rw [if_pos hik]; exact l1) (Or.inl (by omega))) ls (lv_sub hl [4, 5, 6, 1, 2, 0] rfl)
                      · obtain ⟨j, rfl, hji, hjk, hjl⟩ : ∃ j : Nat, b = (j : Int) ∧ j < i ∧ S 4 j = k ∧ 0 < ps_lft (cA_ S k) (dA_ S k) (pA_ S) now (j / 2) := by
                          rcases id hB with ⟨y, -⟩ | ⟨j, y, y1, y2, -⟩
                          · omega
                          · unfold Lp_ at y2
                            split at y2
                            · exact ⟨j, y, y1, by assumption, y2⟩
                            · omega
                        obtain ⟨p1j, p2j, p3j, ⟨p4j, p5j, p6j, p7j, p8j, p9j⟩, p10j⟩ := prt_A hv hk.1 (show j < 26 by omega) hjk
                        obtain ⟨r1j, r2j⟩ := hP.1 j (by omega) hjk
                        replace r2j := r2j h60
                        have pcj : S 3 (j / 2) = ((pA_ S (j / 2) : Nat) : Int) := by unfold pA_; omega
                        have dcj : S 6 j = ((dA_ S k (j / 2) : Nat) : Int) := by rw [p3j]; omega
                        have pzj : 2 ≤ pA_ S (j / 2) ∧ pA_ S (j / 2) ≤ 60 := by unfold pA_; omega
                        have q1j := ps_lo (p := pA_ S (j / 2)) now
                        have q2j := ps_hi (p := pA_ S (j / 2)) (by omega) now
                        have lbj := ps_lft_le (cA_ S k) (dA_ S k) (pA_ S) now (j / 2)
                        have dbj : dA_ S k (j / 2) ≤ pA_ S (j / 2) := by omega
                        have lj : S 11 j = ((ps_lft (cA_ S k) (dA_ S k) (pA_ S) now (j / 2) : Nat) : Int) ∧ S 12 j = ((now / pA_ S (j / 2) * pA_ S (j / 2) : Nat) : Int) := by
                          rcases r2j with ⟨-, y1, y2⟩ | ⟨y, -⟩
                          · exact ⟨y1, y2⟩
                          · omega
                        refine rr_aload_n hC dA_stretch_116 hl rfl 2 rfl ?_
                        refine rA_get hC hI 12 (by decide) lA_12 rfl dA_stretch_117 ?_
                        refine rr_iload hC dA_stretch_120 hl 6 rfl ?_
                        refine rr_iald hC hI 9 1 rfl rfl (by decide) (by omega) dA_stretch_122 ?_
                        refine rr_aload_n hC dA_stretch_123 hl rfl 2 rfl ?_
                        refine rA_get hC hI 6 (by decide) lA_6 rfl dA_stretch_124 ?_
                        refine rr_iload hC dA_stretch_127 hl 6 rfl ?_
                        refine rr_iald hC hI 5 1 rfl rfl (by decide) (by omega) dA_stretch_129 ?_
                        refine rr_iadd hC dA_stretch_130 ?_
                        refine rr_top (y := ((ps_due (dA_ S k) (pA_ S) now (i / 2) : Nat) : Int)) (by unfold ps_due; omega) ?_
                        have du1 : ps_due (dA_ S k) (pA_ S) now (i / 2) ≤ 180 := by unfold ps_due; omega
                        refine rr_aload_n hC dA_stretch_131 hl rfl 2 rfl ?_
                        refine rA_get hC hI 12 (by decide) lA_12 rfl dA_stretch_132 ?_
                        refine rr_iload_n hC dA_stretch_135 hl rfl 5 rfl ?_
                        refine rr_iald hC hI 9 1 rfl rfl (by decide) (by omega) dA_stretch_136 ?_
                        refine rr_aload_n hC dA_stretch_137 hl rfl 2 rfl ?_
                        refine rA_get hC hI 6 (by decide) lA_6 rfl dA_stretch_138 ?_
                        refine rr_iload_n hC dA_stretch_141 hl rfl 5 rfl ?_
                        refine rr_iald hC hI 5 1 rfl rfl (by decide) (by omega) dA_stretch_142 ?_
                        refine rr_iadd hC dA_stretch_143 ?_
                        refine rr_top (y := ((ps_due (dA_ S k) (pA_ S) now (j / 2) : Nat) : Int)) (by unfold ps_due; omega) ?_
                        have du2 : ps_due (dA_ S k) (pA_ S) now (j / 2) ≤ 180 := by unfold ps_due; omega
                        refine rr_icmp_ge hC 150 dA_stretch_144 (by decide) (by omega) (by omega) (fun c22 => ?_) (fun c22 => ?_)
                        · refine rr_iinc (v := ((i + 1 : Nat) : Int)) (lv' := [(5, .int (iI ((i + 1 : Nat) : Int))), (4, .int (iI ((now / pA_ S (i / 2) * pA_ S (i / 2) + pA_ S (i / 2) : Nat) : Int))), (6, .int (iI ((now / pA_ S (i / 2) * pA_ S (i / 2) + pA_ S (i / 2) : Nat) : Int))), (0, .ref h), (1, .int (iI k)), (2, .int (iI ((now : Nat) : Int))), (3, .int (iI ((j : Nat) : Int)))]) hC dA_stretch_150 hl 6 rfl (by omega) (by decide) rfl (fun ls hl => ?_)
                          refine rr_goto hC 9 dA_stretch_153 (by decide) ?_
                          exact ih (i + 1) ((j : Nat) : Int) (now / pA_ S (i / 2) * pA_ S (i / 2) + pA_ S (i / 2)) (by omega) (by omega) (by omega) (fun q hq h4 => by
                              by_cases z : q = i
                              · subst z; omega
                              · have := hnx q (by omega) h4; omega) (ps_isB_old hB (fun y => by have y2 := y.2; rw [Int.toNat_natCast] at y2; change (j : Int) < 0 ∨ ps_due (dA_ S k) (pA_ S) now (i / 2) < ps_due (dA_ S k) (pA_ S) now (j / 2) at y2; omega)) ls (lv_sub hl [3, 4, 5, 6, 1, 0] rfl)
                        · refine rr_iload hC dA_stretch_147 hl 6 rfl ?_
                          refine rr_istore_n (lv' := [(3, .int (iI ((i : Nat) : Int))), (4, .int (iI ((now / pA_ S (i / 2) * pA_ S (i / 2) + pA_ S (i / 2) : Nat) : Int))), (6, .int (iI ((now / pA_ S (i / 2) * pA_ S (i / 2) + pA_ S (i / 2) : Nat) : Int))), (0, .ref h), (1, .int (iI k)), (2, .int (iI ((now : Nat) : Int))), (5, .int (iI ((i : Nat) : Int)))]) hC dA_stretch_149 hl rfl (by decide) rfl (fun ls hl => ?_)
                          refine rr_iinc (v := ((i + 1 : Nat) : Int)) (lv' := [(5, .int (iI ((i + 1 : Nat) : Int))), (3, .int (iI ((i : Nat) : Int))), (4, .int (iI ((now / pA_ S (i / 2) * pA_ S (i / 2) + pA_ S (i / 2) : Nat) : Int))), (6, .int (iI ((now / pA_ S (i / 2) * pA_ S (i / 2) + pA_ S (i / 2) : Nat) : Int))), (0, .ref h), (1, .int (iI k)), (2, .int (iI ((now : Nat) : Int)))]) hC dA_stretch_150 hl 6 rfl (by omega) (by decide) rfl (fun ls hl => ?_)
                          refine rr_goto hC 9 dA_stretch_153 (by decide) ?_
                          exact ih (i + 1) ((i : Nat) : Int) (now / pA_ S (i / 2) * pA_ S (i / 2) + pA_ S (i / 2)) (by omega) (by omega) (by omega) (fun q hq h4 => by
                              by_cases z : q = i
                              · subst z; omega
                              · have := hnx q (by omega) h4; omega) (ps_isB_new hB (by unfold Lp_; rw [if_pos hik]; exact l1) (Or.inr (by rw [Int.toNat_natCast]; show ps_due (dA_ S k) (pA_ S) now (i / 2) < ps_due (dA_ S k) (pA_ S) now (j / 2); omega))) ls (lv_sub hl [4, 5, 6, 1, 2, 0] rfl)
              · exfalso; omega
          · by_cases z60 : now / pA_ S (i / 2) * pA_ S (i / 2) + pA_ S (i / 2) < 60
            · rw [if_pos z60] at l3
              refine rr_aload_n hC dA_stretch_30 hl rfl 0 rfl ?_
              refine rA_get hC hI 11 (by decide) lA_11 rfl dA_stretch_31 ?_
              refine rr_iload hC dA_stretch_34 hl 5 rfl ?_
              refine rr_iald hC hI 8 1 rfl rfl (by decide) (by omega) dA_stretch_36 ?_
              refine rr_if_le hC 61 dA_stretch_37 (by decide) (by omega) (fun c23 => ?_) (fun c23 => ?_)
              · exfalso; omega
              · refine rr_aload_n hC dA_stretch_40 hl rfl 0 rfl ?_
                refine rA_get hC hI 12 (by decide) lA_12 rfl dA_stretch_41 ?_
                refine rr_iload hC dA_stretch_44 hl 5 rfl ?_
                refine rr_iald hC hI 9 1 rfl rfl (by decide) (by omega) dA_stretch_46 ?_
                refine rr_iload_n hC dA_stretch_47 hl rfl 2 rfl ?_
                refine rr_icmp_le hC 61 dA_stretch_48 (by decide) (by omega) (by omega) (fun c24 => ?_) (fun c24 => ?_)
                · exfalso; omega
                · refine rr_aload_n hC dA_stretch_51 hl rfl 0 rfl ?_
                  refine rA_get hC hI 12 (by decide) lA_12 rfl dA_stretch_52 ?_
                  refine rr_iload hC dA_stretch_55 hl 5 rfl ?_
                  refine rr_iald hC hI 9 1 rfl rfl (by decide) (by omega) dA_stretch_57 ?_
                  refine rr_goto hC 78 dA_stretch_58 (by decide) ?_
                  refine rr_top (y := ((now / pA_ S (i / 2) * pA_ S (i / 2) + pA_ S (i / 2) : Nat) : Int)) (by omega) ?_
                  refine rr_istore (lv' := [(6, .int (iI ((now / pA_ S (i / 2) * pA_ S (i / 2) + pA_ S (i / 2) : Nat) : Int))), (0, .ref h), (1, .int (iI k)), (2, .int (iI ((now : Nat) : Int))), (3, .int (iI b)), (4, .int (iI ((nx : Nat) : Int))), (5, .int (iI ((i : Nat) : Int)))]) hC dA_stretch_78 hl (by decide) rfl (fun ls hl => ?_)
                  refine rr_iload hC dA_stretch_80 hl 0 rfl ?_
                  refine rr_iload hC dA_stretch_82 hl 5 rfl ?_
                  refine rr_icmp_ge hC 91 dA_stretch_84 (by decide) (by omega) (by omega) (fun c25 => ?_) (fun c25 => ?_)
                  · refine rr_aload_n hC dA_stretch_91 hl rfl 1 rfl ?_
                    refine rA_get hC hI 11 (by decide) lA_11 rfl dA_stretch_92 ?_
                    refine rr_iload hC dA_stretch_95 hl 6 rfl ?_
                    refine rr_iald hC hI 8 1 rfl rfl (by decide) (by omega) dA_stretch_97 ?_
                    refine rr_if_le hC 150 dA_stretch_98 (by decide) (by omega) (fun c26 => ?_) (fun c26 => ?_)
                    · exfalso; omega
                    · refine rr_aload_n hC dA_stretch_101 hl rfl 1 rfl ?_
                      refine rA_get hC hI 12 (by decide) lA_12 rfl dA_stretch_102 ?_
                      refine rr_iload hC dA_stretch_105 hl 6 rfl ?_
                      refine rr_iald hC hI 9 1 rfl rfl (by decide) (by omega) dA_stretch_107 ?_
                      refine rr_iload_n hC dA_stretch_108 hl rfl 3 rfl ?_
                      refine rr_icmp_gt hC 150 dA_stretch_109 (by decide) (by omega) (by omega) (fun c27 => ?_) (fun c27 => ?_)
                      · refine rr_iinc (v := ((i + 1 : Nat) : Int)) (lv' := [(5, .int (iI ((i + 1 : Nat) : Int))), (6, .int (iI ((now / pA_ S (i / 2) * pA_ S (i / 2) + pA_ S (i / 2) : Nat) : Int))), (0, .ref h), (1, .int (iI k)), (2, .int (iI ((now : Nat) : Int))), (3, .int (iI b)), (4, .int (iI ((nx : Nat) : Int)))]) hC dA_stretch_150 hl 6 rfl (by omega) (by decide) rfl (fun ls hl => ?_)
                        refine rr_goto hC 9 dA_stretch_153 (by decide) ?_
                        exact ih (i + 1) b nx (by omega) (by omega) (by omega) (fun q hq h4 => by
                            by_cases z : q = i
                            · subst z; omega
                            · have := hnx q (by omega) h4; omega) (ps_isB_old hB (fun y => by have y1 := y.1; unfold Lp_ at y1; rw [if_pos hik] at y1; omega)) ls (lv_sub hl [2, 3, 4, 5, 6, 0] rfl)
                      · exfalso; omega
                  · refine rr_iload hC dA_stretch_87 hl 0 rfl ?_
                    refine rr_istore (lv' := [(4, .int (iI ((now / pA_ S (i / 2) * pA_ S (i / 2) + pA_ S (i / 2) : Nat) : Int))), (6, .int (iI ((now / pA_ S (i / 2) * pA_ S (i / 2) + pA_ S (i / 2) : Nat) : Int))), (0, .ref h), (1, .int (iI k)), (2, .int (iI ((now : Nat) : Int))), (3, .int (iI b)), (5, .int (iI ((i : Nat) : Int)))]) hC dA_stretch_89 hl (by decide) rfl (fun ls hl => ?_)
                    refine rr_aload_n hC dA_stretch_91 hl rfl 2 rfl ?_
                    refine rA_get hC hI 11 (by decide) lA_11 rfl dA_stretch_92 ?_
                    refine rr_iload hC dA_stretch_95 hl 6 rfl ?_
                    refine rr_iald hC hI 8 1 rfl rfl (by decide) (by omega) dA_stretch_97 ?_
                    refine rr_if_le hC 150 dA_stretch_98 (by decide) (by omega) (fun c28 => ?_) (fun c28 => ?_)
                    · exfalso; omega
                    · refine rr_aload_n hC dA_stretch_101 hl rfl 2 rfl ?_
                      refine rA_get hC hI 12 (by decide) lA_12 rfl dA_stretch_102 ?_
                      refine rr_iload hC dA_stretch_105 hl 6 rfl ?_
                      refine rr_iald hC hI 9 1 rfl rfl (by decide) (by omega) dA_stretch_107 ?_
                      refine rr_iload_n hC dA_stretch_108 hl rfl 4 rfl ?_
                      refine rr_icmp_gt hC 150 dA_stretch_109 (by decide) (by omega) (by omega) (fun c29 => ?_) (fun c29 => ?_)
                      · refine rr_iinc (v := ((i + 1 : Nat) : Int)) (lv' := [(5, .int (iI ((i + 1 : Nat) : Int))), (4, .int (iI ((now / pA_ S (i / 2) * pA_ S (i / 2) + pA_ S (i / 2) : Nat) : Int))), (6, .int (iI ((now / pA_ S (i / 2) * pA_ S (i / 2) + pA_ S (i / 2) : Nat) : Int))), (0, .ref h), (1, .int (iI k)), (2, .int (iI ((now : Nat) : Int))), (3, .int (iI b))]) hC dA_stretch_150 hl 6 rfl (by omega) (by decide) rfl (fun ls hl => ?_)
                        refine rr_goto hC 9 dA_stretch_153 (by decide) ?_
                        exact ih (i + 1) b (now / pA_ S (i / 2) * pA_ S (i / 2) + pA_ S (i / 2)) (by omega) (by omega) (by omega) (fun q hq h4 => by
                            by_cases z : q = i
                            · subst z; omega
                            · have := hnx q (by omega) h4; omega) (ps_isB_old hB (fun y => by have y1 := y.1; unfold Lp_ at y1; rw [if_pos hik] at y1; omega)) ls (lv_sub hl [3, 4, 5, 6, 1, 0] rfl)
                      · exfalso; omega
            · rw [if_neg z60] at l3
              refine rr_aload_n hC dA_stretch_30 hl rfl 0 rfl ?_
              refine rA_get hC hI 11 (by decide) lA_11 rfl dA_stretch_31 ?_
              refine rr_iload hC dA_stretch_34 hl 5 rfl ?_
              refine rr_iald hC hI 8 1 rfl rfl (by decide) (by omega) dA_stretch_36 ?_
              refine rr_if_le hC 61 dA_stretch_37 (by decide) (by omega) (fun c30 => ?_) (fun c30 => ?_)
              · refine rr_aload_n hC dA_stretch_61 hl rfl 0 rfl ?_
                refine rA_get hC hI 12 (by decide) lA_12 rfl dA_stretch_62 ?_
                refine rr_iload hC dA_stretch_65 hl 5 rfl ?_
                refine rr_iald hC hI 9 1 rfl rfl (by decide) (by omega) dA_stretch_67 ?_
                refine rr_aload_n hC dA_stretch_68 hl rfl 0 rfl ?_
                refine rA_get hC hI 3 (by decide) lA_3 rfl dA_stretch_69 ?_
                refine rr_iload hC dA_stretch_72 hl 5 rfl ?_
                refine rr_iconst (v := ((2 : Nat) : Int)) hC dA_stretch_74 rfl ?_
                refine rr_idiv hC dA_stretch_75 (by omega) (by omega) ?_
                refine rr_top (y := ((i / 2 : Nat) : Int)) (by omega) ?_
                refine rr_iald hC hI 2 1 rfl rfl (by decide) (by omega) dA_stretch_76 ?_
                refine rr_iadd hC dA_stretch_77 ?_
                refine rr_top (y := ((now / pA_ S (i / 2) * pA_ S (i / 2) + pA_ S (i / 2) + pA_ S (i / 2) : Nat) : Int)) (by omega) ?_
                refine rr_istore (lv' := [(6, .int (iI ((now / pA_ S (i / 2) * pA_ S (i / 2) + pA_ S (i / 2) + pA_ S (i / 2) : Nat) : Int))), (0, .ref h), (1, .int (iI k)), (2, .int (iI ((now : Nat) : Int))), (3, .int (iI b)), (4, .int (iI ((nx : Nat) : Int))), (5, .int (iI ((i : Nat) : Int)))]) hC dA_stretch_78 hl (by decide) rfl (fun ls hl => ?_)
                refine rr_iload hC dA_stretch_80 hl 0 rfl ?_
                refine rr_iload hC dA_stretch_82 hl 5 rfl ?_
                refine rr_icmp_ge hC 91 dA_stretch_84 (by decide) (by omega) (by omega) (fun c31 => ?_) (fun c31 => ?_)
                · refine rr_aload_n hC dA_stretch_91 hl rfl 1 rfl ?_
                  refine rA_get hC hI 11 (by decide) lA_11 rfl dA_stretch_92 ?_
                  refine rr_iload hC dA_stretch_95 hl 6 rfl ?_
                  refine rr_iald hC hI 8 1 rfl rfl (by decide) (by omega) dA_stretch_97 ?_
                  refine rr_if_le hC 150 dA_stretch_98 (by decide) (by omega) (fun c32 => ?_) (fun c32 => ?_)
                  · refine rr_iinc (v := ((i + 1 : Nat) : Int)) (lv' := [(5, .int (iI ((i + 1 : Nat) : Int))), (6, .int (iI ((now / pA_ S (i / 2) * pA_ S (i / 2) + pA_ S (i / 2) + pA_ S (i / 2) : Nat) : Int))), (0, .ref h), (1, .int (iI k)), (2, .int (iI ((now : Nat) : Int))), (3, .int (iI b)), (4, .int (iI ((nx : Nat) : Int)))]) hC dA_stretch_150 hl 6 rfl (by omega) (by decide) rfl (fun ls hl => ?_)
                    refine rr_goto hC 9 dA_stretch_153 (by decide) ?_
                    exact ih (i + 1) b nx (by omega) (by omega) (by omega) (fun q hq h4 => by
                        by_cases z : q = i
                        · subst z; omega
                        · have := hnx q (by omega) h4; omega) (ps_isB_old hB (fun y => by have y1 := y.1; unfold Lp_ at y1; rw [if_pos hik] at y1; omega)) ls (lv_sub hl [2, 3, 4, 5, 6, 0] rfl)
                  · exfalso; omega
                · exfalso; omega
              · exfalso; omega
        · have hik : ¬ S 4 i = k := c11
          refine rr_goto hC 150 dA_stretch_27 (by decide) ?_
          refine rr_iinc (v := ((i + 1 : Nat) : Int)) (lv' := [(5, .int (iI ((i + 1 : Nat) : Int))), (0, .ref h), (1, .int (iI k)), (2, .int (iI ((now : Nat) : Int))), (3, .int (iI b)), (4, .int (iI ((nx : Nat) : Int)))]) hC dA_stretch_150 hl 5 rfl (by omega) (by decide) rfl (fun ls hl => ?_)
          refine rr_goto hC 9 dA_stretch_153 (by decide) ?_
          exact ih (i + 1) b nx (by omega) (by omega) (by omega) (fun q hq h4 => by
              by_cases z : q = i
              · subst z; exact absurd h4 hik
              · exact hnx q (by omega) h4) (ps_isB_old hB (fun y => by have y1 := y.1; unfold Lp_ at y1; rw [if_neg hik] at y1; omega)) ls (lv_sub hl [1, 2, 3, 4, 5, 0] rfl)
  refine rr_iconst (v := (-1 : Int)) hC dA_stretch_0 rfl ?_
  refine rr_istore_n (lv' := [(3, .int (iI (-1 : Int))), (0, .ref h), (1, .int (iI k)), (2, .int (iI ((now : Nat) : Int)))]) hC dA_stretch_1 hl rfl (by decide) rfl (fun ls hl => ?_)
  refine rr_bipush (v := ((60 : Nat) : Int)) hC dA_stretch_2 (by decide) ?_
  refine rr_istore (lv' := [(4, .int (iI ((60 : Nat) : Int))), (3, .int (iI (-1 : Int))), (0, .ref h), (1, .int (iI k)), (2, .int (iI ((now : Nat) : Int)))]) hC dA_stretch_4 hl (by decide) rfl (fun ls hl => ?_)
  refine rr_iconst (v := ((0 : Nat) : Int)) hC dA_stretch_6 rfl ?_
  refine rr_istore (lv' := [(5, .int (iI ((0 : Nat) : Int))), (4, .int (iI ((60 : Nat) : Int))), (3, .int (iI (-1 : Int))), (0, .ref h), (1, .int (iI k)), (2, .int (iI ((now : Nat) : Int)))]) hC dA_stretch_7 hl (by decide) rfl (fun ls hl => ?_)
  exact loop 27 0 (-1) 60 (by omega) (by omega) (by omega) (fun q hq => absurd hq (Nat.not_lt_zero q)) (ps_isB_0 _ _) ls (lv_sub hl [3, 4, 5, 2, 1, 0] rfl)
end
section
/-! A: plan, running, response, walked by program -/
theorem PLI_zero {S : St_} (hv : vlA_ S) {k : Int} (hk : 0 ≤ k) (h8 : S 8 0 = 0) (hz : ∀ j, j < 26 → S 11 j = (if S 4 j = k then S 5 j else 0) ∧ S 12 j = 0 ∧ S 13 j = 0) : PLI_ S k 0 := by
  refine ⟨fun i hi h4 => ?_, 0, h8, Nat.le_refl _, fun _ => rfl, fun z => by omega, fun q hq => absurd hq (Nat.not_lt_zero q)⟩
  obtain ⟨z1, z2, z3⟩ := hz i hi
  obtain ⟨p1, p2, p3, p4, p5⟩ := prt_A hv hk hi h4
  rw [if_pos h4] at z1
  refine ⟨by rw [z3]; rfl, fun _ => Or.inl ⟨p5, ?_, ?_⟩⟩
  · show S 11 i = ((cA_ S k (i / 2) : Nat) : Int)
    rw [z1, p2]; omega
  · rw [z2, Nat.zero_div, Nat.zero_mul]; rfl
theorem plz_step {S S1 : St_} {k v : Int} {i : Nat} (hz : ∀ j, j < i → S1 11 j = (if S 4 j = k then S 5 j else 0) ∧ S1 12 j = 0 ∧ S1 13 j = 0) (hv : v = (if S 4 i = k then S 5 i else 0)) : ∀ j, j < i + 1 → up_ (up_ (up_ S1 11 i v) 12 i ((0 : Nat) : Int)) 13 i ((0 : Nat) : Int) 11 j = (if S 4 j = k then S 5 j else 0) ∧ up_ (up_ (up_ S1 11 i v) 12 i ((0 : Nat) : Int)) 13 i ((0 : Nat) : Int) 12 j = 0 ∧ up_ (up_ (up_ S1 11 i v) 12 i ((0 : Nat) : Int)) 13 i ((0 : Nat) : Int) 13 j = 0 := by
  intro j hj
  by_cases z : j = i
  · subst z
    refine ⟨?_, ?_, ?_⟩
    · rw [up_ne _ _ _ _ (by omega), up_ne _ _ _ _ (by omega), up_eq]; exact hv
    · rw [up_ne _ _ _ _ (by omega), up_eq]; rfl
    · rw [up_eq]; rfl
  · obtain ⟨a, b, c⟩ := hz j (by omega)
    refine ⟨?_, ?_, ?_⟩
    · rw [up_ne _ _ _ _ (by omega), up_ne _ _ _ _ (by omega), up_ne _ _ _ _ (by omega)]; exact a
    · rw [up_ne _ _ _ _ (by omega), up_ne _ _ _ _ (by omega), up_ne _ _ _ _ (by omega)]; exact b
    · rw [up_ne _ _ _ _ (by omega), up_ne _ _ _ _ (by omega), up_ne _ _ _ _ (by omega)]; exact c
theorem agL_sch {S S' : St_} (h : agL_ S S') (k : Int) : schA_ S' k ↔ schA_ S k := by
  obtain ⟨h1, h2, h3⟩ := agL_sys h k
  unfold schA_; rw [h1, h2, h3]
/-- every core passes; what is planned is so -/
def sdA_ (S : St_) : Prop := ∀ k : Int, 0 ≤ k → k < S 0 0 → schA_ S k
def pcA_ (S : St_) : Prop := S 7 0 = -1 ∨ (0 ≤ S 7 0 ∧ S 7 0 < S 0 0 ∧ PLI_ S (S 7 0) 60)
def plnA_ (S : St_) (k : Int) (S' : St_) : Prop := PLI_ S' k 60 ∧ agL_ S S' ∧ S' 7 0 = k
set_option maxRecDepth 100000 in
set_option maxHeartbeats 4000000 in
/-- plan -/
theorem cA_plan (l : Launch) (D : va_G) (h : Nat) (r : Nat → Nat) (cZ cI : ClassId) (S : St_) (k : Int) (hk : 0 ≤ k ∧ k ≤ 2) (hv : vlA_ S) (hs : schA_ S k) (h7 : -1 ≤ S 7 0 ∧ S 7 0 ≤ 2) (hc : S 7 0 = k → PLI_ S k 60) : MV_ l D [(cZ, .boolean), (cI, .int)] (wA_ h r cZ cI) yA_plan kA_plan 4 2 S [.ref h, .int (iI k)] (fun S' => plnA_ S k S') := by
  refine MV_of (by decide) (Nat.le_of_ble_eq_true rfl) ?_
  intro p e s m below meth c A ls hC hI hr hlk hl
  have hl : lv_has ls 4 [(0, .ref h), (1, .int (iI k))] := hl
  refine rr_aload_n hC dA_plan_0 hl rfl 0 rfl ?_
  refine rA_get hC hI 7 (by decide) lA_7 rfl dA_plan_1 ?_
  refine rr_iload_n hC dA_plan_4 hl rfl 1 rfl ?_
  refine rr_icmp_ne hC 9 dA_plan_5 (by decide) (by omega) (by omega) (fun c1 => ?_) (fun c1 => ?_)
  · refine rr_aload_n hC dA_plan_9 hl rfl 0 rfl ?_
    refine rr_iload_n hC dA_plan_10 hl rfl 1 rfl ?_
    refine rA_put hC hI 7 (by decide) lA_7 rfl (by decide +kernel) rfl dA_plan_11 (fun H locs hI => ?_)
    refine rr_aload_n hC dA_plan_14 hl rfl 0 rfl ?_
    refine rr_iconst (v := ((0 : Nat) : Int)) hC dA_plan_15 rfl ?_
    refine rA_put hC hI 8 (by decide) lA_8 rfl (by decide +kernel) rfl dA_plan_16 (fun H locs hI => ?_)
    refine rr_iconst (v := ((0 : Nat) : Int)) hC dA_plan_19 rfl ?_
    refine rr_istore_n (lv' := [(2, .int (iI ((0 : Nat) : Int))), (0, .ref h), (1, .int (iI k))]) hC dA_plan_20 hl rfl (by decide) rfl (fun ls hl => ?_)
    have loop2 : ∀ (n : Nat) (i now : Nat) (S1 : St_) (H : Heap) (locs : List Loc), 60 < i + n → i ≤ now → now ≤ 60 → PLI_ S1 k now → agL_ S S1 → S1 7 0 = k → In_ D A s.heap H locs (wA_ h r cZ cI S1) → ∀ (ls : Array Slot), lv_has ls 4 [(0, .ref h), (1, .int (iI k)), (2, .int (iI ((now : Nat) : Int))), (3, .int (iI ((i : Nat) : Int)))] → W p l e (rm_ 2) s m [.ref h, .int (iI k)].toArray below meth c H locs 0 0 (EV_ D [(cZ, .boolean), (cI, .int)] (wA_ h r cZ cI) S s below [.ref h, .int (iI k)].toArray A (fun S' => plnA_ S k S')) (F0 m 77 ls []) := by
      intro n
      induction n with
      | zero => intros; omega
      | succ n ih2 =>
        intro i now S1 H locs hfu hin hn60 hP hag h71 hI ls hl
        refine rr_iload_n hC dA_plan_77 hl rfl 3 rfl ?_
        refine rr_bipush (v := ((60 : Nat) : Int)) hC dA_plan_78 (by decide) ?_
        refine rr_icmp_ge hC 102 dA_plan_80 (by decide) (by omega) (by omega) (fun c2 => ?_) (fun c2 => ?_)
        · exact rr_vret hC (wA_ h r cZ cI) hI hr hlk dA_plan_102 (⟨by rw [show (60 : Nat) = now by omega]; exact hP, hag, h71⟩)
        · refine rr_iload_n hC dA_plan_83 hl rfl 2 rfl ?_
          refine rr_bipush (v := ((60 : Nat) : Int)) hC dA_plan_84 (by decide) ?_
          refine rr_icmp_ge hC 102 dA_plan_86 (by decide) (by omega) (by omega) (fun c3 => ?_) (fun c3 => ?_)
          · exact rr_vret hC (wA_ h r cZ cI) hI hr hlk dA_plan_102 (⟨by rw [show (60 : Nat) = now by omega]; exact hP, hag, h71⟩)
          · refine rr_aload_n hC dA_plan_89 hl rfl 0 rfl ?_
            refine rr_iload_n hC dA_plan_90 hl rfl 1 rfl ?_
            refine rr_iload_n hC dA_plan_91 hl rfl 2 rfl ?_
            refine rr_calli (na := 2) hC (wA_ h r cZ cI) hI hl (cA_stretch l D h r cZ cI S1 k now hk (agL_v hag hv) ((agL_sch hag k).mpr hs) (by omega) hP) gA_A_stretch (by decide +kernel) ⟨by decide, by decide⟩ rfl rfl rfl rfl (by decide) dA_plan_92 (fun x5 T5 H locs hp hI => ?_)
            obtain ⟨e2, e1, he1, he2, hP2, hag2, h72⟩ := hp
            subst e1
            refine rr_istore_n (lv' := [(2, .int (iI ((e2 : Nat) : Int))), (0, .ref h), (1, .int (iI k)), (3, .int (iI ((i : Nat) : Int)))]) hC dA_plan_95 hl rfl (by decide) rfl (fun ls hl => ?_)
            refine rr_iinc (v := ((i + 1 : Nat) : Int)) (lv' := [(3, .int (iI ((i + 1 : Nat) : Int))), (2, .int (iI ((e2 : Nat) : Int))), (0, .ref h), (1, .int (iI k))]) hC dA_plan_96 hl 3 rfl (by omega) (by decide) rfl (fun ls hl => ?_)
            refine rr_goto hC 77 dA_plan_99 (by decide) ?_
            exact ih2 (i + 1) e2 T5 H locs (by omega) (by omega) (by omega) hP2 (agL_tr hag hag2) (by rw [h72]; exact h71) hI ls (lv_sub hl [2, 3, 1, 0] rfl)
    have loop : ∀ (n : Nat) (i : Nat) (S1 : St_) (H : Heap) (locs : List Loc), i ≤ 26 → 26 < i + n → agL_ S S1 → S1 7 0 = k → S1 8 0 = 0 → (∀ j, j < i → S1 11 j = (if S 4 j = k then S 5 j else 0) ∧ S1 12 j = 0 ∧ S1 13 j = 0) → In_ D A s.heap H locs (wA_ h r cZ cI S1) → ∀ (ls : Array Slot), lv_has ls 4 [(0, .ref h), (1, .int (iI k)), (2, .int (iI ((i : Nat) : Int)))] → W p l e (rm_ 2) s m [.ref h, .int (iI k)].toArray below meth c H locs 0 0 (EV_ D [(cZ, .boolean), (cI, .int)] (wA_ h r cZ cI) S s below [.ref h, .int (iI k)].toArray A (fun S' => plnA_ S k S')) (F0 m 21 ls []) := by
      intro n
      induction n with
      | zero => intros; omega
      | succ n ih =>
        intro i S1 H locs hi hfu hag h71 h81 hz hI ls hl
        refine rr_iload_n hC dA_plan_21 hl rfl 2 rfl ?_
        refine rr_bipush (v := ((26 : Nat) : Int)) hC dA_plan_22 (by decide) ?_
        refine rr_icmp_ge hC 73 dA_plan_24 (by decide) (by omega) (by omega) (fun c4 => ?_) (fun c4 => ?_)
        · refine rr_iconst (v := ((0 : Nat) : Int)) hC dA_plan_73 rfl ?_
          refine rr_istore_n (lv' := [(2, .int (iI ((0 : Nat) : Int))), (0, .ref h), (1, .int (iI k))]) hC dA_plan_74 hl rfl (by decide) rfl (fun ls hl => ?_)
          refine rr_iconst (v := ((0 : Nat) : Int)) hC dA_plan_75 rfl ?_
          refine rr_istore_n (lv' := [(3, .int (iI ((0 : Nat) : Int))), (2, .int (iI ((0 : Nat) : Int))), (0, .ref h), (1, .int (iI k))]) hC dA_plan_76 hl rfl (by decide) rfl (fun ls hl => ?_)
          exact loop2 61 0 0 S1 H locs (by omega) (by omega) (by omega) (PLI_zero (agL_v hag hv) hk.1 h81 (fun j hj => by rw [hag 4 (by omega), hag 5 (by omega)]; exact hz j (by omega))) hag h71 hI ls (lv_sub hl [2, 3, 1, 0] rfl)
        · obtain ⟨v1, v2, v3⟩ := hv.2.1 i (by omega)
          have h4i : S1 4 i = S 4 i := by rw [hag 4 (by omega)]
          have h5i : S1 5 i = S 5 i := by rw [hag 5 (by omega)]
          refine rr_aload_n hC dA_plan_27 hl rfl 0 rfl ?_
          refine rA_get hC hI 11 (by decide) lA_11 rfl dA_plan_28 ?_
          refine rr_iload_n hC dA_plan_31 hl rfl 2 rfl ?_
          refine rr_aload_n hC dA_plan_32 hl rfl 0 rfl ?_
          refine rA_get hC hI 4 (by decide) lA_4 rfl dA_plan_33 ?_
          refine rr_iload_n hC dA_plan_36 hl rfl 2 rfl ?_
          refine rr_iald hC hI 3 1 rfl rfl (by decide) (by omega) dA_plan_37 ?_
          refine rr_iload_n hC dA_plan_38 hl rfl 1 rfl ?_
          refine rr_icmp_ne hC 51 dA_plan_39 (by decide) (by omega) (by omega) (fun c5 => ?_) (fun c5 => ?_)
          · refine rr_iconst (v := ((0 : Nat) : Int)) hC dA_plan_51 rfl ?_
            refine rr_iast hC (wA_ h r cZ cI) hI 11 8 1 rfl rfl (by decide) (by omega) rfl dA_plan_52 (fun H locs hI => ?_)
            refine rr_aload_n hC dA_plan_53 hl rfl 0 rfl ?_
            refine rA_get hC hI 12 (by decide) lA_12 rfl dA_plan_54 ?_
            refine rr_iload_n hC dA_plan_57 hl rfl 2 rfl ?_
            refine rr_iconst (v := ((0 : Nat) : Int)) hC dA_plan_58 rfl ?_
            refine rr_iast hC (wA_ h r cZ cI) hI 12 9 1 rfl rfl (by decide) (by omega) rfl dA_plan_59 (fun H locs hI => ?_)
            refine rr_aload_n hC dA_plan_60 hl rfl 0 rfl ?_
            refine rA_get hC hI 13 (by decide) lA_13 rfl dA_plan_61 ?_
            refine rr_iload_n hC dA_plan_64 hl rfl 2 rfl ?_
            refine rr_iconst (v := ((0 : Nat) : Int)) hC dA_plan_65 rfl ?_
            refine rr_iast hC (wA_ h r cZ cI) hI 13 10 1 rfl rfl (by decide) (by omega) rfl dA_plan_66 (fun H locs hI => ?_)
            refine rr_iinc (v := ((i + 1 : Nat) : Int)) (lv' := [(2, .int (iI ((i + 1 : Nat) : Int))), (0, .ref h), (1, .int (iI k))]) hC dA_plan_67 hl 2 rfl (by omega) (by decide) rfl (fun ls hl => ?_)
            refine rr_goto hC 21 dA_plan_70 (by decide) ?_
            exact ih (i + 1) (up_ (up_ (up_ S1 11 i ((0 : Nat) : Int)) 12 i ((0 : Nat) : Int)) 13 i ((0 : Nat) : Int)) H locs (by omega) (by omega) (agL_up (agL_up (agL_up hag _ _ _ (by omega)) _ _ _ (by omega)) _ _ _ (by omega)) h71 h81 (plz_step hz (by rw [if_neg (by omega)]; rfl)) hI ls (lv_sub hl [1, 2, 0] rfl)
          · refine rr_aload_n hC dA_plan_42 hl rfl 0 rfl ?_
            refine rA_get hC hI 5 (by decide) lA_5 rfl dA_plan_43 ?_
            refine rr_iload_n hC dA_plan_46 hl rfl 2 rfl ?_
            refine rr_iald hC hI 4 1 rfl rfl (by decide) (by omega) dA_plan_47 ?_
            refine rr_goto hC 52 dA_plan_48 (by decide) ?_
            refine rr_iast hC (wA_ h r cZ cI) hI 11 8 1 rfl rfl (by decide) (by omega) rfl dA_plan_52 (fun H locs hI => ?_)
            refine rr_aload_n hC dA_plan_53 hl rfl 0 rfl ?_
            refine rA_get hC hI 12 (by decide) lA_12 rfl dA_plan_54 ?_
            refine rr_iload_n hC dA_plan_57 hl rfl 2 rfl ?_
            refine rr_iconst (v := ((0 : Nat) : Int)) hC dA_plan_58 rfl ?_
            refine rr_iast hC (wA_ h r cZ cI) hI 12 9 1 rfl rfl (by decide) (by omega) rfl dA_plan_59 (fun H locs hI => ?_)
            refine rr_aload_n hC dA_plan_60 hl rfl 0 rfl ?_
            refine rA_get hC hI 13 (by decide) lA_13 rfl dA_plan_61 ?_
            refine rr_iload_n hC dA_plan_64 hl rfl 2 rfl ?_
            refine rr_iconst (v := ((0 : Nat) : Int)) hC dA_plan_65 rfl ?_
            refine rr_iast hC (wA_ h r cZ cI) hI 13 10 1 rfl rfl (by decide) (by omega) rfl dA_plan_66 (fun H locs hI => ?_)
            refine rr_iinc (v := ((i + 1 : Nat) : Int)) (lv' := [(2, .int (iI ((i + 1 : Nat) : Int))), (0, .ref h), (1, .int (iI k))]) hC dA_plan_67 hl 2 rfl (by omega) (by decide) rfl (fun ls hl => ?_)
            refine rr_goto hC 21 dA_plan_70 (by decide) ?_
            exact ih (i + 1) (up_ (up_ (up_ S1 11 i (S1 5 i)) 12 i ((0 : Nat) : Int)) 13 i ((0 : Nat) : Int)) H locs (by omega) (by omega) (agL_up (agL_up (agL_up hag _ _ _ (by omega)) _ _ _ (by omega)) _ _ _ (by omega)) h71 h81 (plz_step hz (by rw [if_pos (by omega)]; exact h5i)) hI ls (lv_sub hl [1, 2, 0] rfl)
    exact loop 27 0 (up_ (up_ S 7 0 k) 8 0 ((0 : Nat) : Int)) _ _ (by omega) (by omega) (agL_up (agL_up (agL_rf S) _ _ _ (by omega)) _ _ _ (by omega)) (up_eq S 7 0 k) (up_eq _ 8 0 _) (fun j hj => absurd hj (Nat.not_lt_zero j)) hI ls (lv_sub hl [1, 2, 0] rfl)
  · exact rr_vret hC (wA_ h r cZ cI) hI hr hlk dA_plan_8 (⟨hc c1, agL_rf S, c1⟩)
set_option maxRecDepth 100000 in
set_option maxHeartbeats 4000000 in
/-- running -/
theorem cA_running (l : Launch) (D : va_G) (h : Nat) (r : Nat → Nat) (cZ cI : ClassId) (S : St_) (k a : Int) (hk : -2147483648 ≤ k ∧ k ≤ 2147483647) (ha : -2147483648 ≤ a ∧ a ≤ 2147483647) (hn : nvA_ S) (hsd : sdA_ S) (hpc : pcA_ S) : MI_ l D [(cZ, .boolean), (cI, .int)] (wA_ h r cZ cI) yA_running kA_running 4 (some .int) 3 S [.ref h, .int (iI k), .int (iI a)] (fun x S' => (¬ (0 ≤ k ∧ k < S 0 0) ∧ x = iI (-6) ∧ S' = S) ∨ ((0 ≤ k ∧ k < S 0 0) ∧ ¬ (0 ≤ a ∧ a < 60) ∧ x = iI (-7) ∧ S' = S) ∨ ((0 ≤ k ∧ k < S 0 0) ∧ (0 ≤ a ∧ a < 60) ∧ x = iI (ps_run (cA_ S k) (dA_ S k) (pA_ S) a.toNat) ∧ plnA_ S k S')) := by
  refine MI_of (by decide) (Nat.le_of_ble_eq_true rfl) ?_
  intro p e s m below meth c A ls hC hI hr hlk hl
  have hl : lv_has ls 4 [(0, .ref h), (1, .int (iI k)), (2, .int (iI a))] := hl
  refine rr_aload_n hC dA_running_0 hl rfl 0 rfl ?_
  refine rr_iload_n hC dA_running_1 hl rfl 1 rfl ?_
  refine rr_calli (na := 1) hC (wA_ h r cZ cI) hI hl (cA_badCore l D h r cZ cI S k (by omega) hn.1.1) gA_A_badCore (by decide +kernel) ⟨by decide, by decide⟩ rfl rfl rfl rfl (by decide) dA_running_2 (fun x1 T2 H locs hp hI => ?_)
  obtain ⟨⟨b3, e1, b3_01, b3_p⟩, e2⟩ := hp
  subst e1
  rw [e2] at hI
  refine rr_if_eq hC 11 dA_running_5 (by decide) (by omega) (fun c4 => ?_) (fun c4 => ?_)
  · refine rr_iload_n hC dA_running_11 hl rfl 2 rfl ?_
    refine rr_if_lt hC 21 dA_running_12 (by decide) (by omega) (fun c5 => ?_) (fun c5 => ?_)
    · refine rr_bipush (v := (-7 : Int)) hC dA_running_21 (by decide) ?_
      exact rr_iret hC (wA_ h r cZ cI) hI hr hlk dA_running_23 (Or.inr (Or.inl ⟨by omega, by omega, rfl, rfl⟩))
    · refine rr_iload_n hC dA_running_15 hl rfl 2 rfl ?_
      refine rr_bipush (v := ((60 : Nat) : Int)) hC dA_running_16 (by decide) ?_
      refine rr_icmp_lt hC 24 dA_running_18 (by decide) (by omega) (by omega) (fun c6 => ?_) (fun c6 => ?_)
      · refine rr_aload_n hC dA_running_24 hl rfl 0 rfl ?_
        refine rr_iload_n hC dA_running_25 hl rfl 1 rfl ?_
        have hcr := hn.1.1
        have hk : 0 ≤ k ∧ k < S 0 0 := by omega
        refine rr_callv (na := 1) hC (wA_ h r cZ cI) hI hl (cA_plan l D h r cZ cI S k (by omega) hn.1 (hsd k hk.1 hk.2) (by rcases hpc with z | z <;> omega) (fun z => by rcases hpc with y | ⟨-, -, y⟩; (exfalso; omega); rw [z] at y; exact y)) gA_A_plan (by decide +kernel) ⟨by decide, by decide⟩ rfl rfl rfl rfl (by decide) dA_running_26 (fun T7 H locs hp hI => ?_)
        obtain ⟨hP, hag, h71⟩ := id hp
        obtain ⟨g1, g2, g3⟩ := agL_sys hag k
        obtain ⟨n0, w1, w2, w3, w4, w5⟩ := id hP.2
        obtain ⟨t, rfl⟩ : ∃ t : Nat, a = (t : Int) := ⟨a.toNat, by omega⟩
        refine rr_iconst (v := ((0 : Nat) : Int)) hC dA_running_29 rfl ?_
        refine rr_istore_n (lv' := [(3, .int (iI ((0 : Nat) : Int))), (0, .ref h), (1, .int (iI k)), (2, .int (iI ((t : Nat) : Int)))]) hC dA_running_30 hl rfl (by decide) rfl (fun ls hl => ?_)
        have loop : ∀ (n : Nat) (q : Nat), q < n0 → n0 < q + n → (q = 0 ∨ T7 9 (q - 1) ≤ (t : Int)) → ∀ (ls : Array Slot), lv_has ls 4 [(0, .ref h), (1, .int (iI k)), (2, .int (iI ((t : Nat) : Int))), (3, .int (iI ((q : Nat) : Int)))] → W p l e (rm_ 3) s m [.ref h, .int (iI k), .int (iI ((t : Nat) : Int))].toArray below meth c H locs 0 0 (EQ_ D [(cZ, .boolean), (cI, .int)] (wA_ h r cZ cI) S s below [.ref h, .int (iI k), .int (iI ((t : Nat) : Int))].toArray A (fun x S' => (¬ (0 ≤ k ∧ k < S 0 0) ∧ x = iI (-6) ∧ S' = S) ∨ ((0 ≤ k ∧ k < S 0 0) ∧ ¬ (0 ≤ ((t : Nat) : Int) ∧ ((t : Nat) : Int) < 60) ∧ x = iI (-7) ∧ S' = S) ∨ ((0 ≤ k ∧ k < S 0 0) ∧ (0 ≤ ((t : Nat) : Int) ∧ ((t : Nat) : Int) < 60) ∧ x = iI (ps_run (cA_ S k) (dA_ S k) (pA_ S) ((t : Nat) : Int).toNat) ∧ plnA_ S k S'))) (F0 m 31 ls []) := by
          intro n
          induction n with
          | zero => intros; omega
          | succ n ih =>
            intro q hq1 hfu hq2 ls hl
            refine rr_iload_n hC dA_running_31 hl rfl 3 rfl ?_
            refine rr_aload_n hC dA_running_32 hl rfl 0 rfl ?_
            refine rA_get hC hI 8 (by decide) lA_8 rfl dA_running_33 ?_
            refine rr_top (y := ((n0 : Nat) : Int)) w1 ?_
            refine rr_iconst (v := ((1 : Nat) : Int)) hC dA_running_36 rfl ?_
            refine rr_isub hC dA_running_37 ?_
            refine rr_icmp_ge hC 57 dA_running_38 (by decide) (by omega) (by omega) (fun c7 => ?_) (fun c7 => ?_)
            · refine rr_aload_n hC dA_running_57 hl rfl 0 rfl ?_
              refine rA_get hC hI 10 (by decide) lA_10 rfl dA_running_58 ?_
              refine rr_iload_n hC dA_running_61 hl rfl 3 rfl ?_
              refine rr_iald hC hI 7 1 rfl rfl (by decide) (by omega) dA_running_62 ?_
              exact rr_iret hC (wA_ h r cZ cI) hI hr hlk dA_running_63 (Or.inr (Or.inr ⟨hk, by omega, by rw [Int.toNat_natCast, (w5 q (by omega)).2 t hq2 (by rw [show q = n0 - 1 by omega, w4 (by omega)]; omega), g1, g2, g3], hp⟩))
            · have w6 := w5 q (by omega)
              refine rr_aload_n hC dA_running_41 hl rfl 0 rfl ?_
              refine rA_get hC hI 9 (by decide) lA_9 rfl dA_running_42 ?_
              refine rr_iload_n hC dA_running_45 hl rfl 3 rfl ?_
              refine rr_iald hC hI 6 1 rfl rfl (by decide) (by omega) dA_running_46 ?_
              refine rr_iload_n hC dA_running_47 hl rfl 2 rfl ?_
              refine rr_icmp_gt hC 57 dA_running_48 (by decide) (by omega) (by omega) (fun c8 => ?_) (fun c8 => ?_)
              · refine rr_aload_n hC dA_running_57 hl rfl 0 rfl ?_
                refine rA_get hC hI 10 (by decide) lA_10 rfl dA_running_58 ?_
                refine rr_iload_n hC dA_running_61 hl rfl 3 rfl ?_
                refine rr_iald hC hI 7 1 rfl rfl (by decide) (by omega) dA_running_62 ?_
                exact rr_iret hC (wA_ h r cZ cI) hI hr hlk dA_running_63 (Or.inr (Or.inr ⟨hk, by omega, by rw [Int.toNat_natCast, (w5 q (by omega)).2 t hq2 (by omega), g1, g2, g3], hp⟩))
              · refine rr_iinc (v := ((q + 1 : Nat) : Int)) (lv' := [(3, .int (iI ((q + 1 : Nat) : Int))), (0, .ref h), (1, .int (iI k)), (2, .int (iI ((t : Nat) : Int)))]) hC dA_running_51 hl 3 rfl (by omega) (by decide) rfl (fun ls hl => ?_)
                refine rr_goto hC 31 dA_running_54 (by decide) ?_
                exact ih (q + 1) (by omega) (by omega) (Or.inr (by rw [Nat.add_sub_cancel]; omega)) ls (lv_sub hl [1, 2, 3, 0] rfl)
        exact loop (n0 + 1) 0 (by rcases Nat.eq_zero_or_pos n0 with z | z; (have := w3 z; omega); exact z) (by omega) (Or.inl rfl) ls (lv_sub hl [1, 2, 3, 0] rfl)
      · refine rr_bipush (v := (-7 : Int)) hC dA_running_21 (by decide) ?_
        exact rr_iret hC (wA_ h r cZ cI) hI hr hlk dA_running_23 (Or.inr (Or.inl ⟨by omega, by omega, rfl, rfl⟩))
  · refine rr_bipush (v := (-6 : Int)) hC dA_running_8 (by decide) ?_
    exact rr_iret hC (wA_ h r cZ cI) hI hr hlk dA_running_10 (Or.inl ⟨by omega, rfl, rfl⟩)
set_option maxRecDepth 100000 in
set_option maxHeartbeats 4000000 in
/-- response -/
theorem cA_response (l : Launch) (D : va_G) (h : Nat) (r : Nat → Nat) (cZ cI : ClassId) (S : St_) (k a : Int) (hk : -2147483648 ≤ k ∧ k ≤ 2147483647) (ha : -2147483648 ≤ a ∧ a ≤ 2147483647) (hn : nvA_ S) (hsd : sdA_ S) (hpc : pcA_ S) : MI_ l D [(cZ, .boolean), (cI, .int)] (wA_ h r cZ cI) yA_response kA_response 3 (some .int) 3 S [.ref h, .int (iI k), .int (iI a)] (fun x S' => (¬ (0 ≤ k ∧ k < S 0 0) ∧ x = iI (-6) ∧ S' = S) ∨ ((0 ≤ k ∧ k < S 0 0) ∧ ¬ usA_ S a ∧ x = iI (-5) ∧ S' = S) ∨ ((0 ≤ k ∧ k < S 0 0) ∧ usA_ S a ∧ x = iI (if S 4 (2 * a.toNat) = k ∨ S 4 (2 * a.toNat + 1) = k then ((ps_rsp (cA_ S k) (dA_ S k) (pA_ S) 60 a.toNat : Nat) : Int) else -5) ∧ plnA_ S k S')) := by
  refine MI_of (by decide) (Nat.le_of_ble_eq_true rfl) ?_
  intro p e s m below meth c A ls hC hI hr hlk hl
  have hl : lv_has ls 3 [(0, .ref h), (1, .int (iI k)), (2, .int (iI a))] := hl
  refine rr_aload_n hC dA_response_0 hl rfl 0 rfl ?_
  refine rr_iload_n hC dA_response_1 hl rfl 1 rfl ?_
  refine rr_calli (na := 1) hC (wA_ h r cZ cI) hI hl (cA_badCore l D h r cZ cI S k (by omega) hn.1.1) gA_A_badCore (by decide +kernel) ⟨by decide, by decide⟩ rfl rfl rfl rfl (by decide) dA_response_2 (fun x1 T2 H locs hp hI => ?_)
  obtain ⟨⟨b3, e1, b3_01, b3_p⟩, e2⟩ := hp
  subst e1
  rw [e2] at hI
  refine rr_if_eq hC 11 dA_response_5 (by decide) (by omega) (fun c4 => ?_) (fun c4 => ?_)
  · refine rr_aload_n hC dA_response_11 hl rfl 0 rfl ?_
    refine rr_iload_n hC dA_response_12 hl rfl 2 rfl ?_
    refine rr_calli (na := 1) hC (wA_ h r cZ cI) hI hl (cA_noTask l D h r cZ cI S a (by omega) hn.2.1) gA_A_noTask (by decide +kernel) ⟨by decide, by decide⟩ rfl rfl rfl rfl (by decide) dA_response_13 (fun x5 T6 H locs hp hI => ?_)
    obtain ⟨⟨b7, e1, b7_01, b7_p⟩, e2⟩ := hp
    subst e1
    rw [e2] at hI
    refine rr_if_eq hC 22 dA_response_16 (by decide) (by omega) (fun c8 => ?_) (fun c8 => ?_)
    · have hus : usA_ S a := by
        unfold usA_
        omega
      have ha12 := hus.1
      have hb12 := hus.2.1
      refine rr_aload_n hC dA_response_22 hl rfl 0 rfl ?_
      refine rr_iload_n hC dA_response_23 hl rfl 1 rfl ?_
      have hcr := hn.1.1
      have hk : 0 ≤ k ∧ k < S 0 0 := by omega
      refine rr_callv (na := 1) hC (wA_ h r cZ cI) hI hl (cA_plan l D h r cZ cI S k (by omega) hn.1 (hsd k hk.1 hk.2) (by rcases hpc with z | z <;> omega) (fun z => by rcases hpc with y | ⟨-, -, y⟩; (exfalso; omega); rw [z] at y; exact y)) gA_A_plan (by decide +kernel) ⟨by decide, by decide⟩ rfl rfl rfl rfl (by decide) dA_response_24 (fun T7 H locs hp hI => ?_)
      obtain ⟨hP, hag, h71⟩ := id hp
      obtain ⟨g1, g2, g3⟩ := agL_sys hag k
      obtain ⟨i, rfl⟩ : ∃ i : Nat, a = (i : Int) := ⟨a.toNat, by omega⟩
      have f4 : ∀ q, T7 4 q = S 4 q := fun q => by rw [hag 4 (by omega)]
      obtain ⟨u1, u2, -⟩ := hn.1.2.1 (2 * i) (by omega)
      obtain ⟨u3, u4, -⟩ := hn.1.2.1 (2 * i + 1) (by omega)
      have u5 := f4 (2 * i)
      have u6 := f4 (2 * i + 1)
      refine rr_aload_n hC dA_response_27 hl rfl 0 rfl ?_
      refine rA_get hC hI 4 (by decide) lA_4 rfl dA_response_28 ?_
      refine rr_iconst (v := ((2 : Nat) : Int)) hC dA_response_31 rfl ?_
      refine rr_iload_n hC dA_response_32 hl rfl 2 rfl ?_
      refine rr_imul hC dA_response_33 ?_
      refine rr_top (y := ((2 * i : Nat) : Int)) (by omega) ?_
      refine rr_iald hC hI 3 1 rfl rfl (by decide) (by omega) dA_response_34 ?_
      refine rr_iload_n hC dA_response_35 hl rfl 1 rfl ?_
      refine rr_icmp_ne hC 48 dA_response_36 (by decide) (by omega) (by omega) (fun c9 => ?_) (fun c9 => ?_)
      · refine rr_aload_n hC dA_response_48 hl rfl 0 rfl ?_
        refine rA_get hC hI 4 (by decide) lA_4 rfl dA_response_49 ?_
        refine rr_iconst (v := ((2 : Nat) : Int)) hC dA_response_52 rfl ?_
        refine rr_iload_n hC dA_response_53 hl rfl 2 rfl ?_
        refine rr_imul hC dA_response_54 ?_
        refine rr_top (y := ((2 * i : Nat) : Int)) (by omega) ?_
        refine rr_iconst (v := ((1 : Nat) : Int)) hC dA_response_55 rfl ?_
        refine rr_iadd hC dA_response_56 ?_
        refine rr_top (y := (((2 * i) + 1 : Nat) : Int)) (by omega) ?_
        refine rr_iald hC hI 3 1 rfl rfl (by decide) (by omega) dA_response_57 ?_
        refine rr_iload_n hC dA_response_58 hl rfl 1 rfl ?_
        refine rr_icmp_ne hC 73 dA_response_59 (by decide) (by omega) (by omega) (fun c10 => ?_) (fun c10 => ?_)
        · refine rr_bipush (v := (-5 : Int)) hC dA_response_73 (by decide) ?_
          exact rr_iret hC (wA_ h r cZ cI) hI hr hlk dA_response_75 (Or.inr (Or.inr ⟨hk, hus, by rw [Int.toNat_natCast, if_neg (by omega)], hp⟩))
        · refine rr_aload_n hC dA_response_62 hl rfl 0 rfl ?_
          refine rA_get hC hI 13 (by decide) lA_13 rfl dA_response_63 ?_
          refine rr_iconst (v := ((2 : Nat) : Int)) hC dA_response_66 rfl ?_
          refine rr_iload_n hC dA_response_67 hl rfl 2 rfl ?_
          refine rr_imul hC dA_response_68 ?_
          refine rr_top (y := ((2 * i : Nat) : Int)) (by omega) ?_
          refine rr_iconst (v := ((1 : Nat) : Int)) hC dA_response_69 rfl ?_
          refine rr_iadd hC dA_response_70 ?_
          refine rr_top (y := (((2 * i) + 1 : Nat) : Int)) (by omega) ?_
          refine rr_iald hC hI 10 1 rfl rfl (by decide) (by omega) dA_response_71 ?_
          exact rr_iret hC (wA_ h r cZ cI) hI hr hlk dA_response_72 (Or.inr (Or.inr ⟨hk, hus, by rw [Int.toNat_natCast, if_pos (by omega), (hP.1 (2 * i + 1) (by omega) (by omega)).1, g1, g2, g3, show (2 * i + 1) / 2 = i by omega], hp⟩))
      · refine rr_aload_n hC dA_response_39 hl rfl 0 rfl ?_
        refine rA_get hC hI 13 (by decide) lA_13 rfl dA_response_40 ?_
        refine rr_iconst (v := ((2 : Nat) : Int)) hC dA_response_43 rfl ?_
        refine rr_iload_n hC dA_response_44 hl rfl 2 rfl ?_
        refine rr_imul hC dA_response_45 ?_
        refine rr_top (y := ((2 * i : Nat) : Int)) (by omega) ?_
        refine rr_iald hC hI 10 1 rfl rfl (by decide) (by omega) dA_response_46 ?_
        exact rr_iret hC (wA_ h r cZ cI) hI hr hlk dA_response_47 (Or.inr (Or.inr ⟨hk, hus, by rw [Int.toNat_natCast, if_pos (by omega), (hP.1 (2 * i) (by omega) (by omega)).1, g1, g2, g3, show 2 * i / 2 = i by omega], hp⟩))
    · refine rr_bipush (v := (-5 : Int)) hC dA_response_19 (by decide) ?_
      exact rr_iret hC (wA_ h r cZ cI) hI hr hlk dA_response_21 (Or.inr (Or.inl ⟨by omega, by unfold usA_; omega, rfl, rfl⟩))
  · refine rr_bipush (v := (-6 : Int)) hC dA_response_8 (by decide) ?_
    exact rr_iret hC (wA_ h r cZ cI) hI hr hlk dA_response_10 (Or.inl ⟨by omega, rfl, rfl⟩)
end
section
/-! PURE, of B's state: the system of a core, and of the listed parts -/
def rwB_ (S : St_) (i : Nat) : Prop := okp_ (S 1 i) ∧ 1 ≤ S 2 i ∧ S 2 i ≤ S 3 i ∧ S 3 i ≤ S 1 i ∧ (0 ≤ S 5 i ∧ S 5 i ≤ 2) ∧ ((S 6 i = -4 ∧ S 4 i = S 2 i) ∨ (0 ≤ S 6 i ∧ S 6 i ≤ 2 ∧ S 6 i ≠ S 5 i ∧ 1 ≤ S 4 i ∧ S 4 i < S 2 i))
def vlB_ (S : St_) : Prop := (1 ≤ S 0 0 ∧ S 0 0 ≤ 3) ∧ ∀ i, i < 12 → (-4 ≤ S 6 i ∧ S 6 i ≤ 2) ∧ (0 ≤ S 1 i ∧ S 1 i ≤ 60) ∧ (S 1 i ≠ 0 → rwB_ S i)
def cB_ (S : St_) (k : Int) (i : Nat) : Nat := if i < 12 ∧ S 1 i ≠ 0 ∧ S 6 i = k then (S 2 i - S 4 i).toNat else if i < 12 ∧ S 1 i ≠ 0 ∧ S 5 i = k then (S 4 i).toNat else 0
def dB_ (S : St_) (k : Int) (i : Nat) : Nat := if S 6 i = k then (S 3 i - S 4 i).toNat else if S 6 i = -4 then (S 3 i).toNat else (S 4 i).toNat
def pB_ (S : St_) (i : Nat) : Nat := (S 1 i).toNat
def schB_ (S : St_) (k : Int) : Prop := ps_sched (cB_ S k) (dB_ S k) (pB_ S)
theorem okp_nat {p : Int} (h : okp_ p) : 60 % p.toNat = 0 := by
  have : ((60 % p.toNat : Nat) : Int) = 0 := by
    rw [Int.natCast_emod, Int.toNat_of_nonneg (by have := h.1; omega)]
    exact h.2.2
  omega
theorem okB_ {S : St_} (hv : vlB_ S) {k : Int} (hk : 0 ≤ k) : ps_ok (cB_ S k) (dB_ S k) (pB_ S) := by
  intro i hi hc
  unfold cB_ at hc ⊢
  unfold dB_ pB_
  by_cases h1 : i < 12 ∧ S 1 i ≠ 0 ∧ S 6 i = k
  · rw [if_pos h1] at hc ⊢
    rw [if_pos h1.2.2]
    obtain ⟨-, -, h3⟩ := hv.2 i h1.1
    obtain ⟨a1, a2, a3, a4, a5, a6⟩ := h3 h1.2.1
    have := okp_nat a1
    have b1 := a1.1
    have b2 := a1.2.1
    exact ⟨by omega, by omega, by omega, by omega, this⟩
  · rw [if_neg h1] at hc ⊢
    split at hc
    · rename_i h2
      rw [if_pos h2]
      obtain ⟨-, -, h3⟩ := hv.2 i h2.1
      obtain ⟨a1, a2, a3, a4, a5, a6⟩ := h3 h2.2.1
      have h4 : ¬ S 6 i = k := fun z => h1 ⟨h2.1, h2.2.1, z⟩
      rw [if_neg h4]
      have := okp_nat a1
      have b1 := a1.1
      have b2 := a1.2.1
      split
      · exact ⟨by omega, by omega, by omega, by omega, this⟩
      · exact ⟨by omega, by omega, by omega, by omega, this⟩
    · omega
/-- arrays 0 .. 6 stand -/
def agM_ (S S' : St_) : Prop := ∀ j, j < 7 → S' j = S j
theorem agM_rf (S : St_) : agM_ S S := fun _ _ => rfl
theorem agM_tr {S S1 S2 : St_} (h : agM_ S S1) (g : agM_ S1 S2) : agM_ S S2 := fun j hj => (g j hj).trans (h j hj)
theorem agM_up {S S1 : St_} (h : agM_ S S1) (j k : Nat) (v : Int) (hj : 7 ≤ j) : agM_ S (up_ S1 j k v) := fun q hq => by
  have : up_ S1 j k v q = S1 q := by unfold up_; rw [if_neg (by omega)]
  rw [this]
  exact h q hq
theorem agM_v {S S' : St_} (h : agM_ S S') (hv : vlB_ S) : vlB_ S' := by
  unfold vlB_ rwB_
  rw [h 0 (by omega), h 1 (by omega), h 2 (by omega), h 3 (by omega), h 4 (by omega), h 5 (by omega), h 6 (by omega)]
  exact hv
theorem agM_sys {S S' : St_} (h : agM_ S S') (k : Int) : cB_ S' k = cB_ S k ∧ dB_ S' k = dB_ S k ∧ pB_ S' = pB_ S := by
  have h1 := h 1 (by omega)
  have h2 := h 2 (by omega)
  have h3 := h 3 (by omega)
  have h4 := h 4 (by omega)
  have h5 := h 5 (by omega)
  have h6 := h 6 (by omega)
  refine ⟨?_, ?_, ?_⟩
  · unfold cB_; rw [h1, h2, h4, h5, h6]
  · unfold dB_; rw [h3, h4, h6]
  · unfold pB_; rw [h1]
/-- what parts lists -/
def prtB_ (S : St_) (k : Int) (n : Nat) (S' : St_) : Prop := (∀ j, j ≠ 7 → j ≠ 8 → j ≠ 9 → S' j = S j) ∧ S' 7 12 = 0 ∧ ∀ i, i < n → S' 7 i = (cB_ S k i : Int) ∧ S' 9 i = S 1 i ∧ (0 < cB_ S k i → S' 8 i = (dB_ S k i : Int))
/-- the listed parts as a system -/
def cR_ (S : St_) (i : Nat) : Nat := (S 7 i).toNat
def dR_ (S : St_) (i : Nat) : Nat := (S 8 i).toNat
def pR_ (S : St_) (i : Nat) : Nat := (S 9 i).toNat
def okR_ (S : St_) : Prop := ∀ i, i < 13 → 0 ≤ S 7 i ∧ S 7 i ≤ 60 ∧ (0 < S 7 i → S 7 i ≤ S 8 i ∧ S 8 i ≤ S 9 i ∧ okp_ (S 9 i))
theorem okR_ok {S : St_} (h : okR_ S) : ps_ok (cR_ S) (dR_ S) (pR_ S) := by
  intro i hi hc
  obtain ⟨h1, h2, h3⟩ := h i hi
  unfold cR_ at hc
  obtain ⟨a1, a2, a3⟩ := h3 (by omega)
  have := okp_nat a3
  have b1 := a3.1
  have b2 := a3.2.1
  unfold cR_ dR_ pR_
  exact ⟨by omega, by omega, by omega, by omega, this⟩
/-- nothing but left, due, ran, responses -/
def agR_ (S S' : St_) : Prop := ∀ j, j < 10 → S' j = S j
theorem agR_rf (S : St_) : agR_ S S := fun _ _ => rfl
theorem agR_tr {S S1 S2 : St_} (h : agR_ S S1) (g : agR_ S1 S2) : agR_ S S2 := fun j hj => (g j hj).trans (h j hj)
theorem agR_up {S S1 : St_} (h : agR_ S S1) (j k : Nat) (v : Int) (hj : 10 ≤ j) : agR_ S (up_ S1 j k v) := fun q hq => by
  have : up_ S1 j k v q = S1 q := by unfold up_; rw [if_neg (by omega)]
  rw [this]
  exact h q hq
theorem agR_sys {S S' : St_} (h : agR_ S S') : cR_ S' = cR_ S ∧ dR_ S' = dR_ S ∧ pR_ S' = pR_ S := by
  refine ⟨?_, ?_, ?_⟩
  · unfold cR_; rw [h 7 (by omega)]
  · unfold dR_; rw [h 8 (by omega)]
  · unfold pR_; rw [h 9 (by omega)]
theorem agR_ok {S S' : St_} (h : agR_ S S') (g : okR_ S) : okR_ S' := by
  unfold okR_
  rw [h 7 (by omega), h 8 (by omega), h 9 (by omega)]
  exact g
/-- left and due of place i before the release of slot t, and behind it -/
def preB_ (S : St_) (c d p : Nat → Nat) (t i : Nat) : Prop := S 10 i = ((if t = 0 then 0 else ps_a c d p (t - 1) i : Nat) : Int) ∧ (0 < c i → 0 < t → S 11 i = (ps_due d p (t - 1) i : Int))
def posB_ (S : St_) (c d p : Nat → Nat) (t i : Nat) : Prop := S 10 i = (ps_lft c d p t i : Int) ∧ (0 < c i → S 11 i = (ps_due d p t i : Int))
theorem relB_skip {S : St_} {c d p : Nat → Nat} {t i : Nat} (hp : 0 < c i → 0 < p i) (h : preB_ S c d p t i) (hs : ¬ (0 < c i ∧ t % p i = 0)) : posB_ S c d p t i := by
  obtain ⟨h1, h2⟩ := h
  cases t with
  | zero =>
    rcases Nat.eq_zero_or_pos (c i) with z | z
    · refine ⟨?_, fun y => by omega⟩
      rw [h1, if_pos rfl]
      show ((0 : Nat) : Int) = ((c i : Nat) : Int)
      rw [z]
    · exact absurd ⟨z, Nat.zero_mod _⟩ hs
  | succ t =>
    rw [if_neg (by omega), Nat.add_sub_cancel] at h1
    rw [Nat.add_sub_cancel] at h2
    rcases Nat.eq_zero_or_pos (c i) with z | z
    · have a1 := ps_lft_le c d p (t + 1) i
      have a2 := Nat.le_trans (ps_a_le c d p t i) (ps_lft_le c d p t i)
      exact ⟨by omega, fun y => by omega⟩
    · have hm : ¬ (t + 1) % p i = 0 := fun y => hs ⟨z, y⟩
      refine ⟨by rw [ps_lft_succ, if_neg hm]; exact h1, fun _ => ?_⟩
      rw [h2 z (by omega)]
      rcases ps_dm (hp z) t with ⟨g1, -⟩ | ⟨-, g2⟩
      · exact absurd g1 hm
      · unfold ps_due; rw [g2]
theorem relB_take {c d p : Nat → Nat} {t i : Nat} (hp : 0 < p i) (h : t % p i = 0) : ps_lft c d p t i = c i ∧ ps_due d p t i = t + d i := by
  have e : t / p i * p i = t := by
    have := Nat.div_add_mod t (p i)
    rw [h, Nat.mul_comm] at this
    omega
  refine ⟨?_, by unfold ps_due; rw [e]⟩
  cases t with
  | zero => rfl
  | succ t => rw [ps_lft_succ, if_pos h]
/-- no miss up to time t -/
def nmB_ (c d p : Nat → Nat) (t : Nat) : Prop := ∀ s, s < t → ∀ i, i < 13 → 0 < ps_a c d p s i → s + 1 < ps_due d p s i
theorem nmB_step {c d p : Nat → Nat} (hok : ps_ok c d p) {t : Nat} (h : nmB_ c d p (t - 1)) (h1 : 0 < t → ∀ i, i < 13 → 0 < c i → t % p i = 0 → ps_a c d p (t - 1) i = 0) (h2 : ∀ i, i < 13 → 0 < ps_lft c d p t i → t < ps_due d p t i) : nmB_ c d p t := by
  intro s hs i hi ha
  by_cases e : s = t - 1
  · subst e
    obtain ⟨u, rfl⟩ : ∃ u, t = u + 1 := ⟨t - 1, by omega⟩
    rw [Nat.add_sub_cancel] at ha ⊢
    have hc : 0 < c i := Nat.lt_of_lt_of_le ha (Nat.le_trans (ps_a_le c d p u i) (ps_lft_le c d p u i))
    obtain ⟨-, -, hp, -, -⟩ := hok i hi hc
    rcases ps_dm (show 0 < p i by omega) u with ⟨g1, -⟩ | ⟨g1, g2⟩
    · have := h1 (by omega) i hi hc g1
      rw [Nat.add_sub_cancel] at this
      omega
    · have h3 := h2 i hi (by rw [ps_lft_succ, if_neg g1]; exact ha)
      unfold ps_due at h3 ⊢
      rw [g2] at h3
      exact h3
  · exact h s (by omega) i hi ha
theorem nmB_all {c d p : Nat → Nat} (h : nmB_ c d p 60) : ps_noMiss c d p := fun t ht i hi ha => h t ht i hi ha
theorem nmB_last {c d p : Nat → Nat} (h : nmB_ c d p 59) (h0 : ∀ i, i < 13 → ps_a c d p 59 i = 0) : ps_noMiss c d p := by
  refine nmB_all (fun s hs i hi ha => ?_)
  by_cases e : s = 59
  · subst e; have := h0 i hi; omega
  · exact h s (by omega) i hi ha
theorem miss_rel {c d p : Nat → Nat} (hok : ps_ok c d p) {t i : Nat} (ht : t ≤ 60) (h0 : 0 < t) (hi : i < 13) (hc : 0 < c i) (hm : t % p i = 0) (ha : 0 < ps_a c d p (t - 1) i) : ¬ ps_noMiss c d p := by
  intro h
  obtain ⟨u, rfl⟩ : ∃ u, t = u + 1 := ⟨t - 1, by omega⟩
  rw [Nat.add_sub_cancel] at ha
  obtain ⟨-, hdp, hp, -, -⟩ := hok i hi hc
  have h1 := h u (by omega) i hi ha
  rcases ps_dm (show 0 < p i by omega) u with ⟨g1, g2, g3⟩ | ⟨g1, g2⟩
  · unfold ps_due at h1
    omega
  · exact g1 hm
theorem miss_due {c d p : Nat → Nat} (hok : ps_ok c d p) {t i : Nat} (ht : t < 60) (hi : i < 13) (hL : 0 < ps_lft c d p t i) (hd : ps_due d p t i ≤ t) : ¬ ps_noMiss c d p := by
  intro h
  have := ps_seen hok h ht hi hL
  omega
theorem miss_end {c d p : Nat → Nat} (hok : ps_ok c d p) {i : Nat} (hi : i < 13) (ha : 0 < ps_a c d p 59 i) : ¬ ps_noMiss c d p := by
  have hc : 0 < c i := Nat.lt_of_lt_of_le ha (Nat.le_trans (ps_a_le c d p 59 i) (ps_lft_le c d p 59 i))
  obtain ⟨-, -, -, -, h60⟩ := hok i hi hc
  exact miss_rel hok (t := 60) (by omega) (by omega) hi hc h60 ha
end
section
/-! PURE: what parts lists, row by row; one more part -/
theorem cB_0 {S : St_} {k : Int} {i : Nat} (h : S 1 i = 0) : cB_ S k i = 0 := by
  unfold cB_; rw [if_neg (fun z => z.2.1 h), if_neg (fun z => z.2.1 h)]
theorem cB_n {S : St_} {k : Int} {i : Nat} (h5 : ¬ S 5 i = k) (h6 : ¬ S 6 i = k) : cB_ S k i = 0 := by
  unfold cB_; rw [if_neg (fun z => h6 z.2.2), if_neg (fun z => h5 z.2.2)]
theorem cB_1 {S : St_} {k : Int} {i : Nat} (hi : i < 12) (h1 : ¬ S 1 i = 0) (h5 : S 5 i = k) (h6 : ¬ S 6 i = k) : cB_ S k i = (S 4 i).toNat ∧ dB_ S k i = if S 6 i = -4 then (S 3 i).toNat else (S 4 i).toNat := by
  unfold cB_ dB_; rw [if_neg (fun z => h6 z.2.2), if_pos ⟨hi, h1, h5⟩, if_neg h6]; exact ⟨rfl, rfl⟩
theorem cB_2 {S : St_} {k : Int} {i : Nat} (hi : i < 12) (h1 : ¬ S 1 i = 0) (h6 : S 6 i = k) : cB_ S k i = (S 2 i - S 4 i).toNat ∧ dB_ S k i = (S 3 i - S 4 i).toNat := by
  unfold cB_ dB_; rw [if_pos ⟨hi, h1, h6⟩, if_pos h6]; exact ⟨rfl, rfl⟩
theorem prtB_0 (S : St_) (k : Int) : prtB_ S k 0 (up_ S 7 12 ((0 : Nat) : Int)) := by
  refine ⟨fun j h7 _ _ => ?_, up_eq _ _ _ _, fun i hi => absurd hi (Nat.not_lt_zero i)⟩
  unfold up_; rw [if_neg h7]
theorem prtB_step {S S1 S2 : St_} {k : Int} {i : Nat} (hi : i < 12) (h : prtB_ S k i S1) (h1 : ∀ j, j ≠ 7 → j ≠ 8 → j ≠ 9 → S2 j = S1 j) (h2 : ∀ j q, j = 7 ∨ j = 8 ∨ j = 9 → q ≠ i → S2 j q = S1 j q) (h7 : S2 7 i = (cB_ S k i : Int)) (h9 : S2 9 i = S 1 i) (h8 : 0 < cB_ S k i → S2 8 i = (dB_ S k i : Int)) : prtB_ S k (i + 1) S2 := by
  obtain ⟨a, b, c⟩ := h
  refine ⟨fun j z7 z8 z9 => (h1 j z7 z8 z9).trans (a j z7 z8 z9), by rw [h2 7 12 (by omega) (by omega)]; exact b, fun q hq => ?_⟩
  by_cases e : q = i
  · subst e; exact ⟨h7, h9, h8⟩
  · rw [h2 7 q (by omega) e, h2 8 q (by omega) e, h2 9 q (by omega) e]
    exact c q (by omega)
def tkB_ (S : St_) (k : Int) (id : Nat) (c d p : Int) : Prop := ps_sched (upN_ (cB_ S k) id c.toNat) (upN_ (dB_ S k) id d.toNat) (upN_ (pB_ S) id p.toNat)
def putB_ (T : St_) (id : Nat) (c d p : Int) : St_ := up_ (up_ (up_ T 7 id c) 8 id d) 9 id p
theorem putB_at (T : St_) (id : Nat) (c d p : Int) (i : Nat) : putB_ T id c d p 7 i = (if i = id then c else T 7 i) ∧ putB_ T id c d p 8 i = (if i = id then d else T 8 i) ∧ putB_ T id c d p 9 i = (if i = id then p else T 9 i) := by
  unfold putB_; simp [up_at]
theorem prtB_R {S T : St_} (hv : vlB_ S) {k : Int} (hk : 0 ≤ k) (h : prtB_ S k 12 T) : okR_ T ∧ ps_same (cR_ T) (dR_ T) (pR_ T) (cB_ S k) (dB_ S k) (pB_ S) := by
  obtain ⟨-, h2, h3⟩ := h
  have hok := okB_ hv hk
  have hc12 : cB_ S k 12 = 0 := by unfold cB_; rw [if_neg (by omega), if_neg (by omega)]
  refine ⟨fun i hi => ?_, fun i hi => ?_⟩
  · by_cases e : i = 12
    · subst e; rw [h2]; exact ⟨by omega, by omega, fun z => by omega⟩
    · obtain ⟨a, b, c⟩ := h3 i (by omega)
      refine ⟨by omega, ?_, fun z => ?_⟩
      · rcases Nat.eq_zero_or_pos (cB_ S k i) with y | y
        · omega
        · have := hok i hi y; omega
      · have y : 0 < cB_ S k i := by omega
        obtain ⟨q1, q2, q3, q4, q5⟩ := hok i hi y
        rw [a, b, c y]
        have hp : S 1 i ≠ 0 := fun z => by rw [cB_0 z] at y; omega
        obtain ⟨-, h6, h7⟩ := hv.2 i (by omega)
        unfold pB_ at q2
        exact ⟨by omega, by omega, (h7 hp).1⟩
  · unfold cR_ dR_ pR_ pB_
    by_cases e : i = 12
    · subst e; rw [h2, hc12]; exact ⟨rfl, fun z => absurd z (by decide)⟩
    · obtain ⟨a, b, c⟩ := h3 i (by omega)
      rw [a, b, Int.toNat_natCast]
      refine ⟨rfl, fun z => ⟨?_, rfl⟩⟩
      rw [c z, Int.toNat_natCast]
theorem putB_R {S T : St_} (hv : vlB_ S) {k : Int} (hk : 0 ≤ k) (h : prtB_ S k 12 T) {id : Nat} {c d p : Int} (hc : 1 ≤ c ∧ c ≤ d ∧ d ≤ p) (hp : okp_ p) :
    okR_ (putB_ T id c d p) ∧ ps_same (cR_ (putB_ T id c d p)) (dR_ (putB_ T id c d p)) (pR_ (putB_ T id c d p)) (upN_ (cB_ S k) id c.toNat) (upN_ (dB_ S k) id d.toNat) (upN_ (pB_ S) id p.toNat) := by
  obtain ⟨r1, r2⟩ := prtB_R hv hk h
  have hp2 := hp.2.1
  refine ⟨fun i hi => ?_, fun i hi => ?_⟩
  · obtain ⟨e7, e8, e9⟩ := putB_at T id c d p i
    rw [e7, e8, e9]
    by_cases e : i = id
    · rw [if_pos e, if_pos e, if_pos e]; exact ⟨by omega, by omega, fun _ => ⟨by omega, by omega, hp⟩⟩
    · rw [if_neg e, if_neg e, if_neg e]; exact r1 i hi
  · obtain ⟨e7, e8, e9⟩ := putB_at T id c d p i
    unfold cR_ dR_ pR_ upN_
    rw [e7, e8, e9]
    by_cases e : i = id
    · rw [if_pos e, if_pos e, if_pos e, if_pos e, if_pos e, if_pos e]; exact ⟨rfl, fun _ => ⟨rfl, rfl⟩⟩
    · rw [if_neg e, if_neg e, if_neg e, if_neg e, if_neg e, if_neg e]; exact r2 i hi
/-- the release so far -/
def agQ_ (S S' : St_) : Prop := ∀ j, j ≠ 10 → j ≠ 11 → S' j = S j
theorem agQ_up {S S1 : St_} (h : agQ_ S S1) (j k : Nat) (v : Int) (hj : j = 10 ∨ j = 11) : agQ_ S (up_ S1 j k v) := fun q h0 h1 => by
  have : up_ S1 j k v q = S1 q := by unfold up_; rw [if_neg (by omega)]
  rw [this]
  exact h q h0 h1
theorem agQ_R {S S' : St_} (h : agQ_ S S') : agR_ S S' := fun j hj => h j (by omega) (by omega)
def rlB_ (S1 : St_) (c d p : Nat → Nat) (t i : Nat) : Prop := (∀ j, j < i → posB_ S1 c d p t j) ∧ (∀ j, i ≤ j → j < 13 → preB_ S1 c d p t j) ∧ ∀ j, j < i → 0 < t → 0 < c j → t % p j = 0 → ps_a c d p (t - 1) j = 0
theorem rlB_skip {S1 : St_} {c d p : Nat → Nat} {t i : Nat} (hi : i < 13) (h : rlB_ S1 c d p t i) (hp : 0 < c i → 0 < p i) (hs : ¬ (0 < c i ∧ t % p i = 0)) : rlB_ S1 c d p t (i + 1) := by
  obtain ⟨a, b, e⟩ := h
  refine ⟨fun j hj => ?_, fun j h1 h2 => b j (by omega) h2, fun j hj h0 hc hm => ?_⟩
  · by_cases z : j = i
    · subst z; exact relB_skip hp (b j (Nat.le_refl _) hi) hs
    · exact a j (by omega)
  · by_cases z : j = i
    · subst z; exact absurd ⟨hc, hm⟩ hs
    · exact e j (by omega) h0 hc hm
theorem rlB_take {S1 : St_} {c d p : Nat → Nat} {t i : Nat} (hi : i < 13) (h : rlB_ S1 c d p t i) (hp : 0 < p i) (hm : t % p i = 0) (hl : S1 10 i ≤ 0) {vc vd : Int} (hc : vc = (c i : Int)) (hd : vd = ((t + d i : Nat) : Int)) : rlB_ (up_ (up_ S1 10 i vc) 11 i vd) c d p t (i + 1) := by
  obtain ⟨a, b, e⟩ := h
  have o : ∀ j, j ≠ i → up_ (up_ S1 10 i vc) 11 i vd 10 j = S1 10 j ∧ up_ (up_ S1 10 i vc) 11 i vd 11 j = S1 11 j := fun j hj => by
    rw [up_ne _ _ _ _ (by omega), up_ne _ _ _ _ (by omega), up_ne _ _ _ _ (by omega), up_ne _ _ _ _ (by omega)]; exact ⟨rfl, rfl⟩
  refine ⟨fun j hj => ?_, fun j h1 h2 => ?_, fun j hj h0 hcj hmj => ?_⟩
  · by_cases z : j = i
    · subst z
      obtain ⟨e1, e2⟩ := relB_take (c := c) (d := d) hp hm
      unfold posB_
      rw [e1, e2, up_ne _ _ _ _ (by omega), up_eq, up_eq]
      exact ⟨hc, fun _ => hd⟩
    · unfold posB_
      rw [(o j z).1, (o j z).2]
      exact a j (by omega)
  · unfold preB_
    rw [(o j (by omega)).1, (o j (by omega)).2]
    exact b j (by omega) h2
  · by_cases z : j = i
    · subst z
      have := (b j (Nat.le_refl _) hi).1
      rw [if_neg (by omega)] at this
      omega
    · exact e j (by omega) h0 hcj hmj
/-- the run so far -/
def rnB_ (c d p : Nat → Nat) (t : Nat) (S1 : St_) : Prop := (∀ i, i < 13 → preB_ S1 c d p t i) ∧ nmB_ c d p (t - 1) ∧ (∀ s, s < t → S1 12 s = ps_run c d p s) ∧ ∀ i, i < 13 → 0 < c i → S1 13 i = (ps_rsp c d p t i : Int)
/-- behind a slot in which nobody runs -/
theorem rnB_idle {c d p : Nat → Nat} {t : Nat} {S2 : St_} (hb : ps_b c d p t = -1) (hp : ∀ i, i < 13 → posB_ S2 c d p t i) (hn : nmB_ c d p t) (hr : ∀ s, s < t → S2 12 s = ps_run c d p s) (hs : ∀ i, i < 13 → 0 < c i → S2 13 i = (ps_rsp c d p t i : Int)) : rnB_ c d p (t + 1) (up_ S2 12 t (-5)) := by
  refine ⟨fun i hi => ?_, hn, fun s hs2 => ?_, fun i hi hc => ?_⟩
  · obtain ⟨a, b⟩ := hp i hi
    unfold preB_
    rw [if_neg (by omega), Nat.add_sub_cancel, up_ne _ _ _ _ (by omega), up_ne _ _ _ _ (by omega)]
    refine ⟨?_, fun h0 _ => b h0⟩
    rw [a]
    unfold ps_a ps_aft
    rw [if_neg (by rw [hb]; omega)]
  · rw [up_at]
    by_cases z : s = t
    · subst z
      rw [if_pos ⟨rfl, rfl⟩]
      unfold ps_run
      rw [hb]
      rfl
    · rw [if_neg (by omega)]; exact hr s (by omega)
  · rw [up_ne _ _ _ _ (by omega), hs i hi hc, ps_rsp_succ, if_neg (by rw [hb]; omega)]
/-- behind a slot in which place j runs; w: whether its response is put -/
theorem rnB_run {c d p : Nat → Nat} {t j : Nat} {S2 S3 : St_} (hj : j < 13) (hb : ps_b c d p t = (j : Int)) (hp : ∀ i, i < 13 → posB_ S2 c d p t i) (hn : nmB_ c d p t) (hr : ∀ s, s < t → S2 12 s = ps_run c d p s) (hs : ∀ i, i < 13 → 0 < c i → S2 13 i = (ps_rsp c d p t i : Int))
    (hL : 0 < ps_lft c d p t j)
    (h10 : ∀ i, S3 10 i = if i = j then S2 10 i - 1 else S2 10 i) (h11 : S3 11 = S2 11) (h12 : ∀ s, S3 12 s = if s = t then (j : Int) else S2 12 s)
    (h13 : ∀ i, S3 13 i = if i = j ∧ ps_lft c d p t j = 1 ∧ ps_rsp c d p t j < t + 1 - t / p j * p j then ((t + 1 - t / p j * p j : Nat) : Int) else S2 13 i) : rnB_ c d p (t + 1) S3 := by
  refine ⟨fun i hi => ?_, hn, fun s hs2 => ?_, fun i hi hc => ?_⟩
  · obtain ⟨a, b⟩ := hp i hi
    unfold preB_
    rw [if_neg (by omega), Nat.add_sub_cancel, h10, h11]
    refine ⟨?_, fun h0 _ => b h0⟩
    rw [a]
    unfold ps_a ps_aft
    rw [hb]
    by_cases z : i = j
    · subst z; rw [if_pos rfl, if_pos rfl]; omega
    · rw [if_neg z, if_neg (by omega)]
  · rw [h12]
    by_cases z : s = t
    · subst z
      rw [if_pos rfl]
      unfold ps_run
      rw [hb, if_neg (by omega)]
    · rw [if_neg z]; exact hr s (by omega)
  · rw [h13, ps_rsp_succ, hb]
    by_cases z : i = j
    · subst z
      simp only [true_and]
      split
      · rfl
      · exact hs i hi hc
    · rw [if_neg (fun y => z y.1), if_neg (fun y => z (by omega))]
      exact hs i hi hc
def cnB_ (S : St_) : Nat := ps_sum (fun i => if S 1 i = 0 then 0 else 1) 12
def usB_ (S : St_) (a : Int) : Prop := 0 ≤ a ∧ a < 12 ∧ S 1 a.toNat ≠ 0
def ffB_ (S : St_) (id : Nat) : Prop := (∀ j, j < id → S 1 j ≠ 0) ∧ (id < 12 → S 1 id = 0)
end
section
/-! B: small methods, parts, release, runs, takes, place, walked by program -/
set_option maxRecDepth 100000 in
set_option maxHeartbeats 4000000 in
/-- badPeriod -/
theorem cB_badPeriod (l : Launch) (D : va_G) (h : Nat) (r : Nat → Nat) (cZ cI : ClassId) (S : St_) (a : Int) (ha : -2147483648 ≤ a ∧ a ≤ 2147483647) : MI_ l D [(cZ, .boolean), (cI, .int)] (wB_ h r cI) yB_badPeriod kB_badPeriod 2 (some .boolean) 0 S [.ref h, .int (iI a)] (fun x S' => bo_ x (¬ okp_ a) ∧ S' = S) := by
  refine MI_of (by decide) (Nat.le_of_ble_eq_true rfl) ?_
  intro p e s m below meth c A ls hC hI hr hlk hl
  have hl : lv_has ls 2 [(0, .ref h), (1, .int (iI a))] := hl
  refine rr_iload_n hC dB_badPeriod_0 hl rfl 1 rfl ?_
  refine rr_iconst (v := ((2 : Nat) : Int)) hC dB_badPeriod_1 rfl ?_
  refine rr_icmp_lt hC 11 dB_badPeriod_2 (by decide) (by omega) (by omega) (fun c1 => ?_) (fun c1 => ?_)
  · refine rr_iconst (v := ((1 : Nat) : Int)) hC dB_badPeriod_11 rfl ?_
    exact rr_zret hC (wB_ h r cI) hI hr hlk (by decide +kernel) dB_badPeriod_12 (⟨⟨1, rfl, by omega, by unfold okp_; omega⟩, rfl⟩)
  · refine rr_iload_n hC dB_badPeriod_5 hl rfl 1 rfl ?_
    refine rr_bipush (v := ((60 : Nat) : Int)) hC dB_badPeriod_6 (by decide) ?_
    refine rr_icmp_le hC 13 dB_badPeriod_8 (by decide) (by omega) (by omega) (fun c2 => ?_) (fun c2 => ?_)
    · refine rr_bipush (v := ((60 : Nat) : Int)) hC dB_badPeriod_13 (by decide) ?_
      refine rr_iload_n hC dB_badPeriod_15 hl rfl 1 rfl ?_
      refine rr_irem hC dB_badPeriod_16 (by omega) (by omega) ?_
      refine rr_top (y := (60 : Int) % a) rfl ?_
      have e1 := Int.emod_nonneg 60 (show a ≠ 0 by omega)
      have e2 := Int.emod_lt_of_pos 60 (show 0 < a by omega)
      refine rr_if_eq hC 24 dB_badPeriod_17 (by decide) (by omega) (fun c3 => ?_) (fun c3 => ?_)
      · refine rr_iconst (v := ((0 : Nat) : Int)) hC dB_badPeriod_24 rfl ?_
        exact rr_zret hC (wB_ h r cI) hI hr hlk (by decide +kernel) dB_badPeriod_25 (⟨⟨0, rfl, by omega, by unfold okp_; omega⟩, rfl⟩)
      · refine rr_iconst (v := ((1 : Nat) : Int)) hC dB_badPeriod_20 rfl ?_
        refine rr_goto hC 25 dB_badPeriod_21 (by decide) ?_
        exact rr_zret hC (wB_ h r cI) hI hr hlk (by decide +kernel) dB_badPeriod_25 (⟨⟨1, rfl, by omega, by unfold okp_; omega⟩, rfl⟩)
    · refine rr_iconst (v := ((1 : Nat) : Int)) hC dB_badPeriod_11 rfl ?_
      exact rr_zret hC (wB_ h r cI) hI hr hlk (by decide +kernel) dB_badPeriod_12 (⟨⟨1, rfl, by omega, by unfold okp_; omega⟩, rfl⟩)
set_option maxRecDepth 100000 in
set_option maxHeartbeats 4000000 in
/-- none -/
theorem cB_none (l : Launch) (D : va_G) (h : Nat) (r : Nat → Nat) (cZ cI : ClassId) (S : St_) (a : Int) (ha : -2147483648 ≤ a ∧ a ≤ 2147483647) (hv : vlB_ S) : MI_ l D [(cZ, .boolean), (cI, .int)] (wB_ h r cI) yB_none kB_none 2 (some .boolean) 0 S [.ref h, .int (iI a)] (fun x S' => bo_ x (¬ usB_ S a) ∧ S' = S) := by
  refine MI_of (by decide) (Nat.le_of_ble_eq_true rfl) ?_
  intro p e s m below meth c A ls hC hI hr hlk hl
  have hl : lv_has ls 2 [(0, .ref h), (1, .int (iI a))] := hl
  refine rr_iload_n hC dB_none_0 hl rfl 1 rfl ?_
  refine rr_if_lt hC 19 dB_none_1 (by decide) (by omega) (fun c1 => ?_) (fun c1 => ?_)
  · refine rr_iconst (v := ((1 : Nat) : Int)) hC dB_none_19 rfl ?_
    refine rr_goto hC 24 dB_none_20 (by decide) ?_
    exact rr_zret hC (wB_ h r cI) hI hr hlk (by decide +kernel) dB_none_24 (⟨⟨1, rfl, by omega, by unfold usB_; omega⟩, rfl⟩)
  · refine rr_iload_n hC dB_none_4 hl rfl 1 rfl ?_
    refine rr_bipush (v := ((11 : Nat) : Int)) hC dB_none_5 (by decide) ?_
    refine rr_icmp_gt hC 19 dB_none_7 (by decide) (by omega) (by omega) (fun c2 => ?_) (fun c2 => ?_)
    · refine rr_iconst (v := ((1 : Nat) : Int)) hC dB_none_19 rfl ?_
      refine rr_goto hC 24 dB_none_20 (by decide) ?_
      exact rr_zret hC (wB_ h r cI) hI hr hlk (by decide +kernel) dB_none_24 (⟨⟨1, rfl, by omega, by unfold usB_; omega⟩, rfl⟩)
    · obtain ⟨i, rfl⟩ : ∃ i : Nat, a = (i : Int) := ⟨a.toNat, by omega⟩
      obtain ⟨-, u2, -⟩ := hv.2 i (by omega)
      refine rr_aload_n hC dB_none_10 hl rfl 0 rfl ?_
      refine rB_get hC hI 1 (by decide) lB_1 rfl dB_none_11 ?_
      refine rr_iload_n hC dB_none_14 hl rfl 1 rfl ?_
      refine rr_iald hC hI 1 1 rfl rfl (by decide) (by omega) dB_none_15 ?_
      refine rr_if_ne hC 23 dB_none_16 (by decide) (by omega) (fun c3 => ?_) (fun c3 => ?_)
      · refine rr_iconst (v := ((0 : Nat) : Int)) hC dB_none_23 rfl ?_
        exact rr_zret hC (wB_ h r cI) hI hr hlk (by decide +kernel) dB_none_24 (⟨⟨0, rfl, by omega, by unfold usB_; rw [Int.toNat_natCast]; omega⟩, rfl⟩)
      · refine rr_iconst (v := ((1 : Nat) : Int)) hC dB_none_19 rfl ?_
        refine rr_goto hC 24 dB_none_20 (by decide) ?_
        exact rr_zret hC (wB_ h r cI) hI hr hlk (by decide +kernel) dB_none_24 (⟨⟨1, rfl, by omega, by unfold usB_; rw [Int.toNat_natCast]; omega⟩, rfl⟩)
set_option maxRecDepth 100000 in
set_option maxHeartbeats 4000000 in
/-- badCore -/
theorem cB_badCore (l : Launch) (D : va_G) (h : Nat) (r : Nat → Nat) (cZ cI : ClassId) (S : St_) (a : Int) (ha : -2147483648 ≤ a ∧ a ≤ 2147483647) (hv : 1 ≤ S 0 0 ∧ S 0 0 ≤ 3) : MI_ l D [(cZ, .boolean), (cI, .int)] (wB_ h r cI) yB_badCore kB_badCore 2 (some .boolean) 0 S [.ref h, .int (iI a)] (fun x S' => bo_ x (¬ (0 ≤ a ∧ a < S 0 0)) ∧ S' = S) := by
  refine MI_of (by decide) (Nat.le_of_ble_eq_true rfl) ?_
  intro p e s m below meth c A ls hC hI hr hlk hl
  have hl : lv_has ls 2 [(0, .ref h), (1, .int (iI a))] := hl
  refine rr_iload_n hC dB_badCore_0 hl rfl 1 rfl ?_
  refine rr_if_lt hC 12 dB_badCore_1 (by decide) (by omega) (fun c1 => ?_) (fun c1 => ?_)
  · refine rr_iconst (v := ((1 : Nat) : Int)) hC dB_badCore_12 rfl ?_
    refine rr_goto hC 17 dB_badCore_13 (by decide) ?_
    exact rr_zret hC (wB_ h r cI) hI hr hlk (by decide +kernel) dB_badCore_17 (⟨⟨1, rfl, by omega, by omega⟩, rfl⟩)
  · refine rr_iload_n hC dB_badCore_4 hl rfl 1 rfl ?_
    refine rr_aload_n hC dB_badCore_5 hl rfl 0 rfl ?_
    refine rB_get hC hI 0 (by decide) lB_0 rfl dB_badCore_6 ?_
    refine rr_icmp_lt hC 16 dB_badCore_9 (by decide) (by omega) (by omega) (fun c2 => ?_) (fun c2 => ?_)
    · refine rr_iconst (v := ((0 : Nat) : Int)) hC dB_badCore_16 rfl ?_
      exact rr_zret hC (wB_ h r cI) hI hr hlk (by decide +kernel) dB_badCore_17 (⟨⟨0, rfl, by omega, by omega⟩, rfl⟩)
    · refine rr_iconst (v := ((1 : Nat) : Int)) hC dB_badCore_12 rfl ?_
      refine rr_goto hC 17 dB_badCore_13 (by decide) ?_
      exact rr_zret hC (wB_ h r cI) hI hr hlk (by decide +kernel) dB_badCore_17 (⟨⟨1, rfl, by omega, by omega⟩, rfl⟩)
set_option maxRecDepth 100000 in
set_option maxHeartbeats 4000000 in
/-- count -/
theorem cB_count (l : Launch) (D : va_G) (h : Nat) (r : Nat → Nat) (cZ cI : ClassId) (S : St_)  (hv : vlB_ S) : MI_ l D [(cZ, .boolean), (cI, .int)] (wB_ h r cI) yB_count kB_count 3 (some .int) 0 S [.ref h] (fun x S' => x = iI ((cnB_ S : Nat) : Int) ∧ S' = S) := by
  refine MI_of (by decide) (Nat.le_of_ble_eq_true rfl) ?_
  intro p e s m below meth c A ls hC hI hr hlk hl
  have hl : lv_has ls 3 [(0, .ref h)] := hl
  have loop : ∀ (n : Nat) (i : Nat) , i ≤ 12 → 12 < i + n → ∀ (ls : Array Slot), lv_has ls 3 [(0, .ref h), (1, .int (iI ((ps_sum (fun i => if S 1 i = 0 then 0 else 1) i : Nat) : Int))), (2, .int (iI ((i : Nat) : Int)))] → W p l e (rm_ 0) s m [.ref h].toArray below meth c s.heap [] 0 0 (EQ_ D [(cZ, .boolean), (cI, .int)] (wB_ h r cI) S s below [.ref h].toArray A (fun x S' => x = iI ((cnB_ S : Nat) : Int) ∧ S' = S)) (F0 m 4 ls []) := by
    intro n
    induction n with
    | zero => intros; omega
    | succ n ih =>
      intro i  hi hn  ls hl
      refine rr_iload_n hC dB_count_4 hl rfl 2 rfl ?_
      refine rr_bipush (v := ((12 : Nat) : Int)) hC dB_count_5 (by decide) ?_
      refine rr_icmp_ge hC 28 dB_count_7 (by decide) (by omega) (by omega) (fun c1 => ?_) (fun c1 => ?_)
      · refine rr_iload_n hC dB_count_28 hl rfl 1 rfl ?_
        exact rr_iret hC (wB_ h r cI) hI hr hlk dB_count_29 (⟨by rw [show i = 12 by omega]; rfl, rfl⟩)
      · obtain ⟨-, u2, -⟩ := hv.2 i (by omega)
        refine rr_aload_n hC dB_count_10 hl rfl 0 rfl ?_
        refine rB_get hC hI 1 (by decide) lB_1 rfl dB_count_11 ?_
        refine rr_iload_n hC dB_count_14 hl rfl 2 rfl ?_
        refine rr_iald hC hI 1 1 rfl rfl (by decide) (by omega) dB_count_15 ?_
        refine rr_if_eq hC 22 dB_count_16 (by decide) (by omega) (fun c2 => ?_) (fun c2 => ?_)
        · rw [show ps_sum (fun i => if S 1 i = 0 then 0 else 1) i = ps_sum (fun i => if S 1 i = 0 then 0 else 1) (i + 1) from (by show _ = ps_sum (fun i => if S 1 i = 0 then 0 else 1) i + (if S 1 i = 0 then 0 else 1); rw [if_pos (by omega)]; rfl)] at hl
          refine rr_iinc (v := ((i + 1 : Nat) : Int)) (lv' := [(2, .int (iI ((i + 1 : Nat) : Int))), (0, .ref h), (1, .int (iI ((ps_sum (fun i => if S 1 i = 0 then 0 else 1) (i + 1) : Nat) : Int)))]) hC dB_count_22 hl 2 rfl (by omega) (by decide) rfl (fun ls hl => ?_)
          refine rr_goto hC 4 dB_count_25 (by decide) ?_
          exact ih (i + 1) (by omega) (by omega) ls (lv_sub hl [1, 2, 0] rfl)
        · refine rr_iinc (v := ((ps_sum (fun i => if S 1 i = 0 then 0 else 1) i + 1 : Nat) : Int)) (lv' := [(1, .int (iI ((ps_sum (fun i => if S 1 i = 0 then 0 else 1) i + 1 : Nat) : Int))), (0, .ref h), (2, .int (iI ((i : Nat) : Int)))]) hC dB_count_19 hl 1 rfl (by omega) (by decide) rfl (fun ls hl => ?_)
          rw [show ps_sum (fun i => if S 1 i = 0 then 0 else 1) i + 1 = ps_sum (fun i => if S 1 i = 0 then 0 else 1) (i + 1) from (by show _ = ps_sum (fun i => if S 1 i = 0 then 0 else 1) i + (if S 1 i = 0 then 0 else 1); rw [if_neg (by omega)])] at hl
          refine rr_iinc (v := ((i + 1 : Nat) : Int)) (lv' := [(2, .int (iI ((i + 1 : Nat) : Int))), (1, .int (iI ((ps_sum (fun i => if S 1 i = 0 then 0 else 1) (i + 1) : Nat) : Int))), (0, .ref h)]) hC dB_count_22 hl 2 rfl (by omega) (by decide) rfl (fun ls hl => ?_)
          refine rr_goto hC 4 dB_count_25 (by decide) ?_
          exact ih (i + 1) (by omega) (by omega) ls (lv_sub hl [2, 1, 0] rfl)
  refine rr_iconst (v := ((0 : Nat) : Int)) hC dB_count_0 rfl ?_
  refine rr_istore_n (lv' := [(1, .int (iI ((0 : Nat) : Int))), (0, .ref h)]) hC dB_count_1 hl rfl (by decide) rfl (fun ls hl => ?_)
  refine rr_iconst (v := ((0 : Nat) : Int)) hC dB_count_2 rfl ?_
  refine rr_istore_n (lv' := [(2, .int (iI ((0 : Nat) : Int))), (1, .int (iI ((0 : Nat) : Int))), (0, .ref h)]) hC dB_count_3 hl rfl (by decide) rfl (fun ls hl => ?_)
  exact loop 13 0 (by omega) (by omega) ls (lv_sub hl [2, 1, 0] rfl)
set_option maxRecDepth 100000 in
set_option maxHeartbeats 4000000 in
/-- freeId -/
theorem cB_freeId (l : Launch) (D : va_G) (h : Nat) (r : Nat → Nat) (cZ cI : ClassId) (S : St_)  (hv : vlB_ S) : MI_ l D [(cZ, .boolean), (cI, .int)] (wB_ h r cI) yB_freeId kB_freeId 2 (some .int) 0 S [.ref h] (fun x S' => (∃ i : Nat, x = iI (i : Int) ∧ i ≤ 12 ∧ ffB_ S i) ∧ S' = S) := by
  refine MI_of (by decide) (Nat.le_of_ble_eq_true rfl) ?_
  intro p e s m below meth c A ls hC hI hr hlk hl
  have hl : lv_has ls 2 [(0, .ref h)] := hl
  have loop : ∀ (n : Nat) (i : Nat) , i ≤ 12 → 12 < i + n → (∀ j, j < i → S 1 j ≠ 0) → ∀ (ls : Array Slot), lv_has ls 2 [(0, .ref h), (1, .int (iI ((i : Nat) : Int)))] → W p l e (rm_ 0) s m [.ref h].toArray below meth c s.heap [] 0 0 (EQ_ D [(cZ, .boolean), (cI, .int)] (wB_ h r cI) S s below [.ref h].toArray A (fun x S' => (∃ i : Nat, x = iI (i : Int) ∧ i ≤ 12 ∧ ffB_ S i) ∧ S' = S)) (F0 m 2 ls []) := by
    intro n
    induction n with
    | zero => intros; omega
    | succ n ih =>
      intro i  hi hn hf  ls hl
      refine rr_iload_n hC dB_freeId_2 hl rfl 1 rfl ?_
      refine rr_bipush (v := ((12 : Nat) : Int)) hC dB_freeId_3 (by decide) ?_
      refine rr_icmp_ge hC 25 dB_freeId_5 (by decide) (by omega) (by omega) (fun c1 => ?_) (fun c1 => ?_)
      · refine rr_bipush (v := ((12 : Nat) : Int)) hC dB_freeId_25 (by decide) ?_
        exact rr_iret hC (wB_ h r cI) hI hr hlk dB_freeId_27 (⟨⟨12, rfl, by omega, fun j hj => hf j (by omega), fun z => by omega⟩, rfl⟩)
      · obtain ⟨-, u2, -⟩ := hv.2 i (by omega)
        refine rr_aload_n hC dB_freeId_8 hl rfl 0 rfl ?_
        refine rB_get hC hI 1 (by decide) lB_1 rfl dB_freeId_9 ?_
        refine rr_iload_n hC dB_freeId_12 hl rfl 1 rfl ?_
        refine rr_iald hC hI 1 1 rfl rfl (by decide) (by omega) dB_freeId_13 ?_
        refine rr_if_ne hC 19 dB_freeId_14 (by decide) (by omega) (fun c2 => ?_) (fun c2 => ?_)
        · refine rr_iinc (v := ((i + 1 : Nat) : Int)) (lv' := [(1, .int (iI ((i + 1 : Nat) : Int))), (0, .ref h)]) hC dB_freeId_19 hl 1 rfl (by omega) (by decide) rfl (fun ls hl => ?_)
          refine rr_goto hC 2 dB_freeId_22 (by decide) ?_
          exact ih (i + 1) (by omega) (by omega) (fun j hj => by by_cases z : j = i; (subst z; omega); exact hf j (by omega)) ls (lv_sub hl [1, 0] rfl)
        · refine rr_iload_n hC dB_freeId_17 hl rfl 1 rfl ?_
          exact rr_iret hC (wB_ h r cI) hI hr hlk dB_freeId_18 (⟨⟨i, rfl, by omega, hf, fun _ => by omega⟩, rfl⟩)
  refine rr_iconst (v := ((0 : Nat) : Int)) hC dB_freeId_0 rfl ?_
  refine rr_istore_n (lv' := [(1, .int (iI ((0 : Nat) : Int))), (0, .ref h)]) hC dB_freeId_1 hl rfl (by decide) rfl (fun ls hl => ?_)
  exact loop 13 0 (by omega) (by omega) (fun j hj => absurd hj (Nat.not_lt_zero j)) ls (lv_sub hl [1, 0] rfl)
set_option maxRecDepth 100000 in
set_option maxHeartbeats 4000000 in
/-- parts -/
theorem cB_parts (l : Launch) (D : va_G) (h : Nat) (r : Nat → Nat) (cZ cI : ClassId) (S : St_) (k : Int) (hk : 0 ≤ k ∧ k ≤ 2) (hv : vlB_ S) : MV_ l D [(cZ, .boolean), (cI, .int)] (wB_ h r cI) yB_parts kB_parts 4 0 S [.ref h, .int (iI k)] (fun S' => prtB_ S k 12 S') := by
  refine MV_of (by decide) (Nat.le_of_ble_eq_true rfl) ?_
  intro p e s m below meth c A ls hC hI hr hlk hl
  have hl : lv_has ls 4 [(0, .ref h), (1, .int (iI k))] := hl
  have loop : ∀ (n : Nat) (i : Nat) (S1 : St_) (H : Heap) (locs : List Loc), i ≤ 12 → 12 < i + n → prtB_ S k i S1 → In_ D A s.heap H locs (wB_ h r cI S1) → ∀ (ls : Array Slot), lv_has ls 4 [(0, .ref h), (1, .int (iI k)), (2, .int (iI ((i : Nat) : Int)))] → W p l e (rm_ 0) s m [.ref h, .int (iI k)].toArray below meth c H locs 0 0 (EV_ D [(cZ, .boolean), (cI, .int)] (wB_ h r cI) S s below [.ref h, .int (iI k)].toArray A (fun S' => prtB_ S k 12 S')) (F0 m 10 ls []) := by
    intro n
    induction n with
    | zero => intros; omega
    | succ n ih =>
      intro i S1 H locs hi hfu hpr hI ls hl
      refine rr_iload_n hC dB_parts_10 hl rfl 2 rfl ?_
      refine rr_bipush (v := ((12 : Nat) : Int)) hC dB_parts_11 (by decide) ?_
      refine rr_icmp_ge hC 171 dB_parts_13 (by decide) (by omega) (by omega) (fun c1 => ?_) (fun c1 => ?_)
      · exact rr_vret hC (wB_ h r cI) hI hr hlk dB_parts_171 (by rw [show (12 : Nat) = i by omega]; exact hpr)
      · have f1 : S1 1 i = S 1 i := by rw [hpr.1 1 (by decide) (by decide) (by decide)]
        have f2 : S1 2 i = S 2 i := by rw [hpr.1 2 (by decide) (by decide) (by decide)]
        have f3 : S1 3 i = S 3 i := by rw [hpr.1 3 (by decide) (by decide) (by decide)]
        have f4 : S1 4 i = S 4 i := by rw [hpr.1 4 (by decide) (by decide) (by decide)]
        have f5 : S1 5 i = S 5 i := by rw [hpr.1 5 (by decide) (by decide) (by decide)]
        have f6 : S1 6 i = S 6 i := by rw [hpr.1 6 (by decide) (by decide) (by decide)]
        obtain ⟨u1, u2, u3⟩ := hv.2 i (by omega)
        refine rr_aload_n hC dB_parts_16 hl rfl 0 rfl ?_
        refine rB_get hC hI 7 (by decide) lB_7 rfl dB_parts_17 ?_
        refine rr_iload_n hC dB_parts_20 hl rfl 2 rfl ?_
        refine rr_iconst (v := ((0 : Nat) : Int)) hC dB_parts_21 rfl ?_
        refine rr_iast hC (wB_ h r cI) hI 7 7 1 rfl rfl (by decide) (by omega) rfl dB_parts_22 (fun H locs hI => ?_)
        refine rr_aload_n hC dB_parts_23 hl rfl 0 rfl ?_
        refine rB_get hC hI 9 (by decide) lB_9 rfl dB_parts_24 ?_
        refine rr_iload_n hC dB_parts_27 hl rfl 2 rfl ?_
        refine rr_aload_n hC dB_parts_28 hl rfl 0 rfl ?_
        refine rB_get hC hI 1 (by decide) lB_1 rfl dB_parts_29 ?_
        refine rr_iload_n hC dB_parts_32 hl rfl 2 rfl ?_
        refine rr_iald hC hI 1 1 rfl rfl (by decide) (by omega) dB_parts_33 ?_
        refine rr_top (y := S1 1 i) rfl ?_
        refine rr_iast hC (wB_ h r cI) hI 9 9 1 rfl rfl (by decide) (by omega) rfl dB_parts_34 (fun H locs hI => ?_)
        refine rr_aload_n hC dB_parts_35 hl rfl 0 rfl ?_
        refine rB_get hC hI 6 (by decide) lB_6 rfl dB_parts_36 ?_
        refine rr_iload_n hC dB_parts_39 hl rfl 2 rfl ?_
        refine rr_iald hC hI 6 1 rfl rfl (by decide) (by omega) dB_parts_40 ?_
        refine rr_top (y := S1 6 i) rfl ?_
        refine rr_bipush (v := (-4 : Int)) hC dB_parts_41 (by decide) ?_
        refine rr_icmp_eq hC 50 dB_parts_43 (by decide) (by omega) (by omega) (fun c2 => ?_) (fun c2 => ?_)
        · refine rr_iconst (v := ((0 : Nat) : Int)) hC dB_parts_50 rfl ?_
          refine rr_istore_n (lv' := [(3, .int (iI ((0 : Nat) : Int))), (0, .ref h), (1, .int (iI k)), (2, .int (iI ((i : Nat) : Int)))]) hC dB_parts_51 hl rfl (by decide) rfl (fun ls hl => ?_)
          refine rr_aload_n hC dB_parts_52 hl rfl 1 rfl ?_
          refine rB_get hC hI 1 (by decide) lB_1 rfl dB_parts_53 ?_
          refine rr_iload_n hC dB_parts_56 hl rfl 3 rfl ?_
          refine rr_iald hC hI 1 1 rfl rfl (by decide) (by omega) dB_parts_57 ?_
          refine rr_top (y := S1 1 i) rfl ?_
          refine rr_if_eq hC 108 dB_parts_58 (by decide) (by omega) (fun c3 => ?_) (fun c3 => ?_)
          · refine rr_aload_n hC dB_parts_108 hl rfl 1 rfl ?_
            refine rB_get hC hI 1 (by decide) lB_1 rfl dB_parts_109 ?_
            refine rr_iload_n hC dB_parts_112 hl rfl 3 rfl ?_
            refine rr_iald hC hI 1 1 rfl rfl (by decide) (by omega) dB_parts_113 ?_
            refine rr_top (y := S1 1 i) rfl ?_
            refine rr_if_eq hC 165 dB_parts_114 (by decide) (by omega) (fun c4 => ?_) (fun c4 => ?_)
            · refine rr_iinc (v := ((i + 1 : Nat) : Int)) (lv' := [(2, .int (iI ((i + 1 : Nat) : Int))), (3, .int (iI ((0 : Nat) : Int))), (0, .ref h), (1, .int (iI k))]) hC dB_parts_165 hl 3 rfl (by omega) (by decide) rfl (fun ls hl => ?_)
              refine rr_goto hC 10 dB_parts_168 (by decide) ?_
              exact ih (i + 1) (up_ (up_ S1 7 i ((0 : Nat) : Int)) 9 i (S1 1 i)) H locs (by omega) (by omega) (prtB_step (by omega) hpr (fun j z7 z8 z9 => by simp only [up_, if_neg z7, if_neg z8, if_neg z9]) (fun j q _ hq => by simp only [up_at]; repeat rw [if_neg (by omega)]) (by rw [cB_0 (by omega)]; simp [up_at]) (by simp [up_at]; exact f1) (fun z => by rw [cB_0 (by omega)] at z; omega)) hI ls (lv_sub hl [2, 3, 0] rfl)
            · exfalso; omega
          · obtain ⟨⟨a1, a2, a3⟩, a4, a5, a6, a7, a8⟩ := u3 (by omega)
            refine rr_aload_n hC dB_parts_61 hl rfl 1 rfl ?_
            refine rB_get hC hI 5 (by decide) lB_5 rfl dB_parts_62 ?_
            refine rr_iload_n hC dB_parts_65 hl rfl 3 rfl ?_
            refine rr_iald hC hI 5 1 rfl rfl (by decide) (by omega) dB_parts_66 ?_
            refine rr_top (y := S1 5 i) rfl ?_
            refine rr_iload_n hC dB_parts_67 hl rfl 2 rfl ?_
            refine rr_icmp_ne hC 108 dB_parts_68 (by decide) (by omega) (by omega) (fun c5 => ?_) (fun c5 => ?_)
            · refine rr_aload_n hC dB_parts_108 hl rfl 1 rfl ?_
              refine rB_get hC hI 1 (by decide) lB_1 rfl dB_parts_109 ?_
              refine rr_iload_n hC dB_parts_112 hl rfl 3 rfl ?_
              refine rr_iald hC hI 1 1 rfl rfl (by decide) (by omega) dB_parts_113 ?_
              refine rr_top (y := S1 1 i) rfl ?_
              refine rr_if_eq hC 165 dB_parts_114 (by decide) (by omega) (fun c6 => ?_) (fun c6 => ?_)
              · exfalso; omega
              · refine rr_aload_n hC dB_parts_117 hl rfl 1 rfl ?_
                refine rB_get hC hI 6 (by decide) lB_6 rfl dB_parts_118 ?_
                refine rr_iload_n hC dB_parts_121 hl rfl 3 rfl ?_
                refine rr_iald hC hI 6 1 rfl rfl (by decide) (by omega) dB_parts_122 ?_
                refine rr_top (y := S1 6 i) rfl ?_
                refine rr_iload_n hC dB_parts_123 hl rfl 2 rfl ?_
                refine rr_icmp_ne hC 165 dB_parts_124 (by decide) (by omega) (by omega) (fun c7 => ?_) (fun c7 => ?_)
                · refine rr_iinc (v := ((i + 1 : Nat) : Int)) (lv' := [(2, .int (iI ((i + 1 : Nat) : Int))), (3, .int (iI ((0 : Nat) : Int))), (0, .ref h), (1, .int (iI k))]) hC dB_parts_165 hl 3 rfl (by omega) (by decide) rfl (fun ls hl => ?_)
                  refine rr_goto hC 10 dB_parts_168 (by decide) ?_
                  exact ih (i + 1) (up_ (up_ S1 7 i ((0 : Nat) : Int)) 9 i (S1 1 i)) H locs (by omega) (by omega) (prtB_step (by omega) hpr (fun j z7 z8 z9 => by simp only [up_, if_neg z7, if_neg z8, if_neg z9]) (fun j q _ hq => by simp only [up_at]; repeat rw [if_neg (by omega)]) (by rw [cB_n (by omega) (by omega)]; simp [up_at]) (by simp [up_at]; exact f1) (fun z => by rw [cB_n (by omega) (by omega)] at z; omega)) hI ls (lv_sub hl [2, 3, 0] rfl)
                · exfalso; omega
            · refine rr_aload_n hC dB_parts_71 hl rfl 1 rfl ?_
              refine rB_get hC hI 7 (by decide) lB_7 rfl dB_parts_72 ?_
              refine rr_iload_n hC dB_parts_75 hl rfl 3 rfl ?_
              refine rr_aload_n hC dB_parts_76 hl rfl 1 rfl ?_
              refine rB_get hC hI 4 (by decide) lB_4 rfl dB_parts_77 ?_
              refine rr_iload_n hC dB_parts_80 hl rfl 3 rfl ?_
              refine rr_iald hC hI 4 1 rfl rfl (by decide) (by omega) dB_parts_81 ?_
              refine rr_top (y := S1 4 i) rfl ?_
              refine rr_iast hC (wB_ h r cI) hI 7 7 1 rfl rfl (by decide) (by omega) rfl dB_parts_82 (fun H locs hI => ?_)
              refine rr_aload_n hC dB_parts_83 hl rfl 1 rfl ?_
              refine rB_get hC hI 8 (by decide) lB_8 rfl dB_parts_84 ?_
              refine rr_iload_n hC dB_parts_87 hl rfl 3 rfl ?_
              refine rr_iload_n hC dB_parts_88 hl rfl 0 rfl ?_
              refine rr_if_eq hC 101 dB_parts_89 (by decide) (by omega) (fun c8 => ?_) (fun c8 => ?_)
              · refine rr_aload_n hC dB_parts_101 hl rfl 1 rfl ?_
                refine rB_get hC hI 3 (by decide) lB_3 rfl dB_parts_102 ?_
                refine rr_iload_n hC dB_parts_105 hl rfl 3 rfl ?_
                refine rr_iald hC hI 3 1 rfl rfl (by decide) (by omega) dB_parts_106 ?_
                refine rr_top (y := S1 3 i) rfl ?_
                refine rr_iast hC (wB_ h r cI) hI 8 8 1 rfl rfl (by decide) (by omega) rfl dB_parts_107 (fun H locs hI => ?_)
                refine rr_aload_n hC dB_parts_108 hl rfl 1 rfl ?_
                refine rB_get hC hI 1 (by decide) lB_1 rfl dB_parts_109 ?_
                refine rr_iload_n hC dB_parts_112 hl rfl 3 rfl ?_
                refine rr_iald hC hI 1 1 rfl rfl (by decide) (by omega) dB_parts_113 ?_
                refine rr_top (y := S1 1 i) rfl ?_
                refine rr_if_eq hC 165 dB_parts_114 (by decide) (by omega) (fun c9 => ?_) (fun c9 => ?_)
                · exfalso; omega
                · refine rr_aload_n hC dB_parts_117 hl rfl 1 rfl ?_
                  refine rB_get hC hI 6 (by decide) lB_6 rfl dB_parts_118 ?_
                  refine rr_iload_n hC dB_parts_121 hl rfl 3 rfl ?_
                  refine rr_iald hC hI 6 1 rfl rfl (by decide) (by omega) dB_parts_122 ?_
                  refine rr_top (y := S1 6 i) rfl ?_
                  refine rr_iload_n hC dB_parts_123 hl rfl 2 rfl ?_
                  refine rr_icmp_ne hC 165 dB_parts_124 (by decide) (by omega) (by omega) (fun c10 => ?_) (fun c10 => ?_)
                  · refine rr_iinc (v := ((i + 1 : Nat) : Int)) (lv' := [(2, .int (iI ((i + 1 : Nat) : Int))), (3, .int (iI ((0 : Nat) : Int))), (0, .ref h), (1, .int (iI k))]) hC dB_parts_165 hl 3 rfl (by omega) (by decide) rfl (fun ls hl => ?_)
                    refine rr_goto hC 10 dB_parts_168 (by decide) ?_
                    exact ih (i + 1) (up_ (up_ (up_ (up_ S1 7 i ((0 : Nat) : Int)) 9 i (S1 1 i)) 7 i (S1 4 i)) 8 i (S1 3 i)) H locs (by omega) (by omega) (prtB_step (by omega) hpr (fun j z7 z8 z9 => by simp only [up_, if_neg z7, if_neg z8, if_neg z9]) (fun j q _ hq => by simp only [up_at]; repeat rw [if_neg (by omega)]) (by rw [(cB_1 (by omega) (by omega) (by omega) (by omega)).1]; simp [up_at]; omega) (by simp [up_at]; exact f1) (fun z => by rw [(cB_1 (by omega) (by omega) (by omega) (by omega)).2, if_pos (by omega)]; simp [up_at]; omega)) hI ls (lv_sub hl [2, 3, 0] rfl)
                  · exfalso; omega
              · exfalso; omega
        · refine rr_iconst (v := ((1 : Nat) : Int)) hC dB_parts_46 rfl ?_
          refine rr_goto hC 51 dB_parts_47 (by decide) ?_
          refine rr_istore_n (lv' := [(3, .int (iI ((1 : Nat) : Int))), (0, .ref h), (1, .int (iI k)), (2, .int (iI ((i : Nat) : Int)))]) hC dB_parts_51 hl rfl (by decide) rfl (fun ls hl => ?_)
          refine rr_aload_n hC dB_parts_52 hl rfl 1 rfl ?_
          refine rB_get hC hI 1 (by decide) lB_1 rfl dB_parts_53 ?_
          refine rr_iload_n hC dB_parts_56 hl rfl 3 rfl ?_
          refine rr_iald hC hI 1 1 rfl rfl (by decide) (by omega) dB_parts_57 ?_
          refine rr_top (y := S1 1 i) rfl ?_
          refine rr_if_eq hC 108 dB_parts_58 (by decide) (by omega) (fun c11 => ?_) (fun c11 => ?_)
          · refine rr_aload_n hC dB_parts_108 hl rfl 1 rfl ?_
            refine rB_get hC hI 1 (by decide) lB_1 rfl dB_parts_109 ?_
            refine rr_iload_n hC dB_parts_112 hl rfl 3 rfl ?_
            refine rr_iald hC hI 1 1 rfl rfl (by decide) (by omega) dB_parts_113 ?_
            refine rr_top (y := S1 1 i) rfl ?_
            refine rr_if_eq hC 165 dB_parts_114 (by decide) (by omega) (fun c12 => ?_) (fun c12 => ?_)
            · refine rr_iinc (v := ((i + 1 : Nat) : Int)) (lv' := [(2, .int (iI ((i + 1 : Nat) : Int))), (3, .int (iI ((1 : Nat) : Int))), (0, .ref h), (1, .int (iI k))]) hC dB_parts_165 hl 3 rfl (by omega) (by decide) rfl (fun ls hl => ?_)
              refine rr_goto hC 10 dB_parts_168 (by decide) ?_
              exact ih (i + 1) (up_ (up_ S1 7 i ((0 : Nat) : Int)) 9 i (S1 1 i)) H locs (by omega) (by omega) (prtB_step (by omega) hpr (fun j z7 z8 z9 => by simp only [up_, if_neg z7, if_neg z8, if_neg z9]) (fun j q _ hq => by simp only [up_at]; repeat rw [if_neg (by omega)]) (by rw [cB_0 (by omega)]; simp [up_at]) (by simp [up_at]; exact f1) (fun z => by rw [cB_0 (by omega)] at z; omega)) hI ls (lv_sub hl [2, 3, 0] rfl)
            · exfalso; omega
          · obtain ⟨⟨a1, a2, a3⟩, a4, a5, a6, a7, a8⟩ := u3 (by omega)
            refine rr_aload_n hC dB_parts_61 hl rfl 1 rfl ?_
            refine rB_get hC hI 5 (by decide) lB_5 rfl dB_parts_62 ?_
            refine rr_iload_n hC dB_parts_65 hl rfl 3 rfl ?_
            refine rr_iald hC hI 5 1 rfl rfl (by decide) (by omega) dB_parts_66 ?_
            refine rr_top (y := S1 5 i) rfl ?_
            refine rr_iload_n hC dB_parts_67 hl rfl 2 rfl ?_
            refine rr_icmp_ne hC 108 dB_parts_68 (by decide) (by omega) (by omega) (fun c13 => ?_) (fun c13 => ?_)
            · refine rr_aload_n hC dB_parts_108 hl rfl 1 rfl ?_
              refine rB_get hC hI 1 (by decide) lB_1 rfl dB_parts_109 ?_
              refine rr_iload_n hC dB_parts_112 hl rfl 3 rfl ?_
              refine rr_iald hC hI 1 1 rfl rfl (by decide) (by omega) dB_parts_113 ?_
              refine rr_top (y := S1 1 i) rfl ?_
              refine rr_if_eq hC 165 dB_parts_114 (by decide) (by omega) (fun c14 => ?_) (fun c14 => ?_)
              · exfalso; omega
              · refine rr_aload_n hC dB_parts_117 hl rfl 1 rfl ?_
                refine rB_get hC hI 6 (by decide) lB_6 rfl dB_parts_118 ?_
                refine rr_iload_n hC dB_parts_121 hl rfl 3 rfl ?_
                refine rr_iald hC hI 6 1 rfl rfl (by decide) (by omega) dB_parts_122 ?_
                refine rr_top (y := S1 6 i) rfl ?_
                refine rr_iload_n hC dB_parts_123 hl rfl 2 rfl ?_
                refine rr_icmp_ne hC 165 dB_parts_124 (by decide) (by omega) (by omega) (fun c15 => ?_) (fun c15 => ?_)
                · refine rr_iinc (v := ((i + 1 : Nat) : Int)) (lv' := [(2, .int (iI ((i + 1 : Nat) : Int))), (3, .int (iI ((1 : Nat) : Int))), (0, .ref h), (1, .int (iI k))]) hC dB_parts_165 hl 3 rfl (by omega) (by decide) rfl (fun ls hl => ?_)
                  refine rr_goto hC 10 dB_parts_168 (by decide) ?_
                  exact ih (i + 1) (up_ (up_ S1 7 i ((0 : Nat) : Int)) 9 i (S1 1 i)) H locs (by omega) (by omega) (prtB_step (by omega) hpr (fun j z7 z8 z9 => by simp only [up_, if_neg z7, if_neg z8, if_neg z9]) (fun j q _ hq => by simp only [up_at]; repeat rw [if_neg (by omega)]) (by rw [cB_n (by omega) (by omega)]; simp [up_at]) (by simp [up_at]; exact f1) (fun z => by rw [cB_n (by omega) (by omega)] at z; omega)) hI ls (lv_sub hl [2, 3, 0] rfl)
                · refine rr_aload_n hC dB_parts_127 hl rfl 1 rfl ?_
                  refine rB_get hC hI 7 (by decide) lB_7 rfl dB_parts_128 ?_
                  refine rr_iload_n hC dB_parts_131 hl rfl 3 rfl ?_
                  refine rr_aload_n hC dB_parts_132 hl rfl 1 rfl ?_
                  refine rB_get hC hI 2 (by decide) lB_2 rfl dB_parts_133 ?_
                  refine rr_iload_n hC dB_parts_136 hl rfl 3 rfl ?_
                  refine rr_iald hC hI 2 1 rfl rfl (by decide) (by omega) dB_parts_137 ?_
                  refine rr_top (y := S1 2 i) rfl ?_
                  refine rr_aload_n hC dB_parts_138 hl rfl 1 rfl ?_
                  refine rB_get hC hI 4 (by decide) lB_4 rfl dB_parts_139 ?_
                  refine rr_iload_n hC dB_parts_142 hl rfl 3 rfl ?_
                  refine rr_iald hC hI 4 1 rfl rfl (by decide) (by omega) dB_parts_143 ?_
                  refine rr_top (y := S1 4 i) rfl ?_
                  refine rr_isub hC dB_parts_144 ?_
                  refine rr_iast hC (wB_ h r cI) hI 7 7 1 rfl rfl (by decide) (by omega) rfl dB_parts_145 (fun H locs hI => ?_)
                  refine rr_aload_n hC dB_parts_146 hl rfl 1 rfl ?_
                  refine rB_get hC hI 8 (by decide) lB_8 rfl dB_parts_147 ?_
                  refine rr_iload_n hC dB_parts_150 hl rfl 3 rfl ?_
                  refine rr_aload_n hC dB_parts_151 hl rfl 1 rfl ?_
                  refine rB_get hC hI 3 (by decide) lB_3 rfl dB_parts_152 ?_
                  refine rr_iload_n hC dB_parts_155 hl rfl 3 rfl ?_
                  refine rr_iald hC hI 3 1 rfl rfl (by decide) (by omega) dB_parts_156 ?_
                  refine rr_top (y := S1 3 i) rfl ?_
                  refine rr_aload_n hC dB_parts_157 hl rfl 1 rfl ?_
                  refine rB_get hC hI 4 (by decide) lB_4 rfl dB_parts_158 ?_
                  refine rr_iload_n hC dB_parts_161 hl rfl 3 rfl ?_
                  refine rr_iald hC hI 4 1 rfl rfl (by decide) (by omega) dB_parts_162 ?_
                  refine rr_top (y := S1 4 i) rfl ?_
                  refine rr_isub hC dB_parts_163 ?_
                  refine rr_iast hC (wB_ h r cI) hI 8 8 1 rfl rfl (by decide) (by omega) rfl dB_parts_164 (fun H locs hI => ?_)
                  refine rr_iinc (v := ((i + 1 : Nat) : Int)) (lv' := [(2, .int (iI ((i + 1 : Nat) : Int))), (3, .int (iI ((1 : Nat) : Int))), (0, .ref h), (1, .int (iI k))]) hC dB_parts_165 hl 3 rfl (by omega) (by decide) rfl (fun ls hl => ?_)
                  refine rr_goto hC 10 dB_parts_168 (by decide) ?_
                  exact ih (i + 1) (up_ (up_ (up_ (up_ S1 7 i ((0 : Nat) : Int)) 9 i (S1 1 i)) 7 i ((S1 2 i) - (S1 4 i))) 8 i ((S1 3 i) - (S1 4 i))) H locs (by omega) (by omega) (prtB_step (by omega) hpr (fun j z7 z8 z9 => by simp only [up_, if_neg z7, if_neg z8, if_neg z9]) (fun j q _ hq => by simp only [up_at]; repeat rw [if_neg (by omega)]) (by rw [(cB_2 (by omega) (by omega) (by omega)).1]; simp [up_at]; omega) (by simp [up_at]; exact f1) (fun z => by rw [(cB_2 (by omega) (by omega) (by omega)).2]; simp [up_at]; omega)) hI ls (lv_sub hl [2, 3, 0] rfl)
            · refine rr_aload_n hC dB_parts_71 hl rfl 1 rfl ?_
              refine rB_get hC hI 7 (by decide) lB_7 rfl dB_parts_72 ?_
              refine rr_iload_n hC dB_parts_75 hl rfl 3 rfl ?_
              refine rr_aload_n hC dB_parts_76 hl rfl 1 rfl ?_
              refine rB_get hC hI 4 (by decide) lB_4 rfl dB_parts_77 ?_
              refine rr_iload_n hC dB_parts_80 hl rfl 3 rfl ?_
              refine rr_iald hC hI 4 1 rfl rfl (by decide) (by omega) dB_parts_81 ?_
              refine rr_top (y := S1 4 i) rfl ?_
              refine rr_iast hC (wB_ h r cI) hI 7 7 1 rfl rfl (by decide) (by omega) rfl dB_parts_82 (fun H locs hI => ?_)
              refine rr_aload_n hC dB_parts_83 hl rfl 1 rfl ?_
              refine rB_get hC hI 8 (by decide) lB_8 rfl dB_parts_84 ?_
              refine rr_iload_n hC dB_parts_87 hl rfl 3 rfl ?_
              refine rr_iload_n hC dB_parts_88 hl rfl 0 rfl ?_
              refine rr_if_eq hC 101 dB_parts_89 (by decide) (by omega) (fun c16 => ?_) (fun c16 => ?_)
              · exfalso; omega
              · refine rr_aload_n hC dB_parts_92 hl rfl 1 rfl ?_
                refine rB_get hC hI 4 (by decide) lB_4 rfl dB_parts_93 ?_
                refine rr_iload_n hC dB_parts_96 hl rfl 3 rfl ?_
                refine rr_iald hC hI 4 1 rfl rfl (by decide) (by omega) dB_parts_97 ?_
                refine rr_top (y := S1 4 i) rfl ?_
                refine rr_goto hC 107 dB_parts_98 (by decide) ?_
                refine rr_iast hC (wB_ h r cI) hI 8 8 1 rfl rfl (by decide) (by omega) rfl dB_parts_107 (fun H locs hI => ?_)
                refine rr_aload_n hC dB_parts_108 hl rfl 1 rfl ?_
                refine rB_get hC hI 1 (by decide) lB_1 rfl dB_parts_109 ?_
                refine rr_iload_n hC dB_parts_112 hl rfl 3 rfl ?_
                refine rr_iald hC hI 1 1 rfl rfl (by decide) (by omega) dB_parts_113 ?_
                refine rr_top (y := S1 1 i) rfl ?_
                refine rr_if_eq hC 165 dB_parts_114 (by decide) (by omega) (fun c17 => ?_) (fun c17 => ?_)
                · exfalso; omega
                · refine rr_aload_n hC dB_parts_117 hl rfl 1 rfl ?_
                  refine rB_get hC hI 6 (by decide) lB_6 rfl dB_parts_118 ?_
                  refine rr_iload_n hC dB_parts_121 hl rfl 3 rfl ?_
                  refine rr_iald hC hI 6 1 rfl rfl (by decide) (by omega) dB_parts_122 ?_
                  refine rr_top (y := S1 6 i) rfl ?_
                  refine rr_iload_n hC dB_parts_123 hl rfl 2 rfl ?_
                  refine rr_icmp_ne hC 165 dB_parts_124 (by decide) (by omega) (by omega) (fun c18 => ?_) (fun c18 => ?_)
                  · refine rr_iinc (v := ((i + 1 : Nat) : Int)) (lv' := [(2, .int (iI ((i + 1 : Nat) : Int))), (3, .int (iI ((1 : Nat) : Int))), (0, .ref h), (1, .int (iI k))]) hC dB_parts_165 hl 3 rfl (by omega) (by decide) rfl (fun ls hl => ?_)
                    refine rr_goto hC 10 dB_parts_168 (by decide) ?_
                    exact ih (i + 1) (up_ (up_ (up_ (up_ S1 7 i ((0 : Nat) : Int)) 9 i (S1 1 i)) 7 i (S1 4 i)) 8 i (S1 4 i)) H locs (by omega) (by omega) (prtB_step (by omega) hpr (fun j z7 z8 z9 => by simp only [up_, if_neg z7, if_neg z8, if_neg z9]) (fun j q _ hq => by simp only [up_at]; repeat rw [if_neg (by omega)]) (by rw [(cB_1 (by omega) (by omega) (by omega) (by omega)).1]; simp [up_at]; omega) (by simp [up_at]; exact f1) (fun z => by rw [(cB_1 (by omega) (by omega) (by omega) (by omega)).2, if_neg (by omega)]; simp [up_at]; omega)) hI ls (lv_sub hl [2, 3, 0] rfl)
                  · exfalso; omega
  refine rr_aload_n hC dB_parts_0 hl rfl 0 rfl ?_
  refine rB_get hC hI 7 (by decide) lB_7 rfl dB_parts_1 ?_
  refine rr_bipush (v := ((12 : Nat) : Int)) hC dB_parts_4 (by decide) ?_
  refine rr_iconst (v := ((0 : Nat) : Int)) hC dB_parts_6 rfl ?_
  refine rr_iast hC (wB_ h r cI) hI 7 7 1 rfl rfl (by decide) (by omega) rfl dB_parts_7 (fun H locs hI => ?_)
  refine rr_iconst (v := ((0 : Nat) : Int)) hC dB_parts_8 rfl ?_
  refine rr_istore_n (lv' := [(2, .int (iI ((0 : Nat) : Int))), (0, .ref h), (1, .int (iI k))]) hC dB_parts_9 hl rfl (by decide) rfl (fun ls hl => ?_)
  exact loop 13 0 (up_ S 7 12 ((0 : Nat) : Int)) _ _ (by omega) (by omega) (prtB_0 S k) hI ls (lv_sub hl [1, 2, 0] rfl)
set_option maxRecDepth 100000 in
set_option maxHeartbeats 4000000 in
/-- release -/
theorem cB_release (l : Launch) (D : va_G) (h : Nat) (r : Nat → Nat) (cZ cI : ClassId) (S : St_) (t : Nat) (ht : t < 60) (hR : okR_ S) (hpre : ∀ i, i < 13 → preB_ S (cR_ S) (dR_ S) (pR_ S) t i) : MI_ l D [(cZ, .boolean), (cI, .int)] (wB_ h r cI) yB_release kB_release 3 (some .boolean) 0 S [.ref h, .int (iI ((t : Nat) : Int))] (fun x S' => (∃ v : Int, x = iI v ∧ ((v = 0 ∧ ¬ ps_noMiss (cR_ S) (dR_ S) (pR_ S)) ∨ (v = 1 ∧ rlB_ S' (cR_ S) (dR_ S) (pR_ S) t 13))) ∧ agQ_ S S') := by
  refine MI_of (by decide) (Nat.le_of_ble_eq_true rfl) ?_
  intro p e s m below meth c A ls hC hI hr hlk hl
  have hl : lv_has ls 3 [(0, .ref h), (1, .int (iI ((t : Nat) : Int)))] := hl
  have hok := okR_ok hR
  have loop : ∀ (n : Nat) (i : Nat) (S1 : St_) (H : Heap) (locs : List Loc), i ≤ 13 → 13 < i + n → rlB_ S1 (cR_ S) (dR_ S) (pR_ S) t i → agQ_ S S1 → In_ D A s.heap H locs (wB_ h r cI S1) → ∀ (ls : Array Slot), lv_has ls 3 [(0, .ref h), (1, .int (iI ((t : Nat) : Int))), (2, .int (iI ((i : Nat) : Int)))] → W p l e (rm_ 0) s m [.ref h, .int (iI ((t : Nat) : Int))].toArray below meth c H locs 0 0 (EQ_ D [(cZ, .boolean), (cI, .int)] (wB_ h r cI) S s below [.ref h, .int (iI ((t : Nat) : Int))].toArray A (fun x S' => (∃ v : Int, x = iI v ∧ ((v = 0 ∧ ¬ ps_noMiss (cR_ S) (dR_ S) (pR_ S)) ∨ (v = 1 ∧ rlB_ S' (cR_ S) (dR_ S) (pR_ S) t 13))) ∧ agQ_ S S')) (F0 m 2 ls []) := by
    intro n
    induction n with
    | zero => intros; omega
    | succ n ih =>
      intro i S1 H locs hi hfu hrl hag hI ls hl
      refine rr_iload_n hC dB_release_2 hl rfl 2 rfl ?_
      refine rr_bipush (v := ((13 : Nat) : Int)) hC dB_release_3 (by decide) ?_
      refine rr_icmp_ge hC 80 dB_release_5 (by decide) (by omega) (by omega) (fun c1 => ?_) (fun c1 => ?_)
      · refine rr_iconst (v := ((1 : Nat) : Int)) hC dB_release_80 rfl ?_
        exact rr_zret hC (wB_ h r cI) hI hr hlk (by decide +kernel) dB_release_81 (⟨⟨1, rfl, Or.inr ⟨rfl, by rw [show (13 : Nat) = i by omega]; exact hrl⟩⟩, hag⟩)
      · have f7 : S1 7 i = S 7 i := by rw [hag 7 (by decide) (by decide)]
        have f8 : S1 8 i = S 8 i := by rw [hag 8 (by decide) (by decide)]
        have f9 : S1 9 i = S 9 i := by rw [hag 9 (by decide) (by decide)]
        obtain ⟨u1, u2, u3⟩ := hR i (by omega)
        have hci : S 7 i = ((cR_ S i : Nat) : Int) := by unfold cR_; omega
        have hl10 := (hrl.2.1 i (Nat.le_refl _) (by omega)).1
        have hb10 : (if t = 0 then 0 else ps_a (cR_ S) (dR_ S) (pR_ S) (t - 1) i) ≤ 60 := by
          split
          · omega
          · have := Nat.le_trans (ps_a_le (cR_ S) (dR_ S) (pR_ S) (t - 1) i) (ps_lft_le (cR_ S) (dR_ S) (pR_ S) (t - 1) i); omega
        refine rr_aload_n hC dB_release_8 hl rfl 0 rfl ?_
        refine rB_get hC hI 7 (by decide) lB_7 rfl dB_release_9 ?_
        refine rr_iload_n hC dB_release_12 hl rfl 2 rfl ?_
        refine rr_iald hC hI 7 1 rfl rfl (by decide) (by omega) dB_release_13 ?_
        refine rr_if_le hC 74 dB_release_14 (by decide) (by omega) (fun c2 => ?_) (fun c2 => ?_)
        · refine rr_iinc (v := ((i + 1 : Nat) : Int)) (lv' := [(2, .int (iI ((i + 1 : Nat) : Int))), (0, .ref h), (1, .int (iI ((t : Nat) : Int)))]) hC dB_release_74 hl 2 rfl (by omega) (by decide) rfl (fun ls hl => ?_)
          refine rr_goto hC 2 dB_release_77 (by decide) ?_
          exact ih (i + 1) S1 H locs (by omega) (by omega) (rlB_skip (by omega) hrl (fun z => by omega) (fun z => by omega)) hag hI ls (lv_sub hl [1, 2, 0] rfl)
        · obtain ⟨a1, a2, a3, a4, a5⟩ := u3 (by omega)
          have hdi : S 8 i = ((dR_ S i : Nat) : Int) := by unfold dR_; omega
          have hpi : S 9 i = ((pR_ S i : Nat) : Int) := by unfold pR_; omega
          refine rr_aload_n hC dB_release_17 hl rfl 0 rfl ?_
          refine rB_get hC hI 9 (by decide) lB_9 rfl dB_release_18 ?_
          refine rr_iload_n hC dB_release_21 hl rfl 2 rfl ?_
          refine rr_iald hC hI 9 1 rfl rfl (by decide) (by omega) dB_release_22 ?_
          refine rr_if_le hC 74 dB_release_23 (by decide) (by omega) (fun c3 => ?_) (fun c3 => ?_)
          · exfalso; omega
          · refine rr_iload_n hC dB_release_26 hl rfl 1 rfl ?_
            refine rr_aload_n hC dB_release_27 hl rfl 0 rfl ?_
            refine rB_get hC hI 9 (by decide) lB_9 rfl dB_release_28 ?_
            refine rr_iload_n hC dB_release_31 hl rfl 2 rfl ?_
            refine rr_iald hC hI 9 1 rfl rfl (by decide) (by omega) dB_release_32 ?_
            refine rr_irem hC dB_release_33 (by omega) (by omega) ?_
            refine rr_top (y := ((t % pR_ S i : Nat) : Int)) (by rw [f9, hpi, Int.natCast_emod]) ?_
            have hmb := Nat.mod_lt t (show 0 < pR_ S i by omega)
            refine rr_if_ne hC 74 dB_release_34 (by decide) (by omega) (fun c4 => ?_) (fun c4 => ?_)
            · refine rr_iinc (v := ((i + 1 : Nat) : Int)) (lv' := [(2, .int (iI ((i + 1 : Nat) : Int))), (0, .ref h), (1, .int (iI ((t : Nat) : Int)))]) hC dB_release_74 hl 2 rfl (by omega) (by decide) rfl (fun ls hl => ?_)
              refine rr_goto hC 2 dB_release_77 (by decide) ?_
              exact ih (i + 1) S1 H locs (by omega) (by omega) (rlB_skip (by omega) hrl (fun z => by omega) (fun z => by omega)) hag hI ls (lv_sub hl [1, 2, 0] rfl)
            · refine rr_aload_n hC dB_release_37 hl rfl 0 rfl ?_
              refine rB_get hC hI 10 (by decide) lB_10 rfl dB_release_38 ?_
              refine rr_iload_n hC dB_release_41 hl rfl 2 rfl ?_
              refine rr_iald hC hI 10 1 rfl rfl (by decide) (by omega) dB_release_42 ?_
              refine rr_if_le hC 48 dB_release_43 (by decide) (by omega) (fun c5 => ?_) (fun c5 => ?_)
              · refine rr_aload_n hC dB_release_48 hl rfl 0 rfl ?_
                refine rB_get hC hI 10 (by decide) lB_10 rfl dB_release_49 ?_
                refine rr_iload_n hC dB_release_52 hl rfl 2 rfl ?_
                refine rr_aload_n hC dB_release_53 hl rfl 0 rfl ?_
                refine rB_get hC hI 7 (by decide) lB_7 rfl dB_release_54 ?_
                refine rr_iload_n hC dB_release_57 hl rfl 2 rfl ?_
                refine rr_iald hC hI 7 1 rfl rfl (by decide) (by omega) dB_release_58 ?_
                refine rr_iast hC (wB_ h r cI) hI 10 10 1 rfl rfl (by decide) (by omega) rfl dB_release_59 (fun H locs hI => ?_)
                refine rr_aload_n hC dB_release_60 hl rfl 0 rfl ?_
                refine rB_get hC hI 11 (by decide) lB_11 rfl dB_release_61 ?_
                refine rr_iload_n hC dB_release_64 hl rfl 2 rfl ?_
                refine rr_iload_n hC dB_release_65 hl rfl 1 rfl ?_
                refine rr_aload_n hC dB_release_66 hl rfl 0 rfl ?_
                refine rB_get hC hI 8 (by decide) lB_8 rfl dB_release_67 ?_
                refine rr_iload_n hC dB_release_70 hl rfl 2 rfl ?_
                refine rr_iald hC hI 8 1 rfl rfl (by decide) (by omega) dB_release_71 ?_
                refine rr_top (y := S1 8 i) rfl ?_
                refine rr_iadd hC dB_release_72 ?_
                refine rr_iast hC (wB_ h r cI) hI 11 11 1 rfl rfl (by decide) (by omega) rfl dB_release_73 (fun H locs hI => ?_)
                refine rr_iinc (v := ((i + 1 : Nat) : Int)) (lv' := [(2, .int (iI ((i + 1 : Nat) : Int))), (0, .ref h), (1, .int (iI ((t : Nat) : Int)))]) hC dB_release_74 hl 2 rfl (by omega) (by decide) rfl (fun ls hl => ?_)
                refine rr_goto hC 2 dB_release_77 (by decide) ?_
                exact ih (i + 1) (up_ (up_ S1 10 i (S1 7 i)) 11 i (((t : Nat) : Int) + (S1 8 i))) H locs (by omega) (by omega) (rlB_take (by omega) hrl (by omega) (by omega) (by omega) (by omega) (by omega)) (agQ_up (agQ_up hag _ _ _ (by omega)) _ _ _ (by omega)) hI ls (lv_sub hl [1, 2, 0] rfl)
              · refine rr_iconst (v := ((0 : Nat) : Int)) hC dB_release_46 rfl ?_
                exact rr_zret hC (wB_ h r cI) hI hr hlk (by decide +kernel) dB_release_47 (⟨⟨0, rfl, Or.inl ⟨rfl, by
                  rcases Nat.eq_zero_or_pos t with z | z
                  · rw [if_pos z] at hl10; omega
                  · rw [if_neg (by omega)] at hl10; exact miss_rel (i := i) hok (by omega) z (by omega) (by omega) (by omega) (by omega)⟩⟩, hag⟩)
  refine rr_iconst (v := ((0 : Nat) : Int)) hC dB_release_0 rfl ?_
  refine rr_istore_n (lv' := [(2, .int (iI ((0 : Nat) : Int))), (0, .ref h), (1, .int (iI ((t : Nat) : Int)))]) hC dB_release_1 hl rfl (by decide) rfl (fun ls hl => ?_)
  exact loop 14 0 S _ _ (by omega) (by omega) ⟨fun j hj => absurd hj (Nat.not_lt_zero j), fun j _ hj => hpre j hj, fun j hj => absurd hj (Nat.not_lt_zero j)⟩ (fun _ _ _ => rfl) hI ls (lv_sub hl [1, 2, 0] rfl)
set_option maxRecDepth 100000 in
set_option maxHeartbeats 4000000 in
/-- runs: the slots one by one -/
theorem cB_runs (l : Launch) (D : va_G) (h : Nat) (r : Nat → Nat) (cZ cI : ClassId) (S : St_)  (hR : okR_ S) : MI_ l D [(cZ, .boolean), (cI, .int)] (wB_ h r cI) yB_runs kB_runs 4 (some .boolean) 1 S [.ref h] (fun x S' => bo_ x (ps_noMiss (cR_ S) (dR_ S) (pR_ S)) ∧ agR_ S S' ∧ (ps_noMiss (cR_ S) (dR_ S) (pR_ S) → (∀ t, t < 60 → S' 12 t = ps_run (cR_ S) (dR_ S) (pR_ S) t) ∧ ∀ i, i < 13 → 0 < cR_ S i → S' 13 i = (ps_rsp (cR_ S) (dR_ S) (pR_ S) 60 i : Int))) := by
  refine MI_of (by decide) (Nat.le_of_ble_eq_true rfl) ?_
  intro p e s m below meth c A ls hC hI hr hlk hl
  have hl : lv_has ls 4 [(0, .ref h)] := hl
  have hok := okR_ok hR
  have loop3 : ∀ (n : Nat) (i : Nat) (S1 : St_) (H : Heap) (locs : List Loc), i ≤ 13 → 13 < i + n → (∀ j, j < i → ps_a (cR_ S) (dR_ S) (pR_ S) 59 j = 0) → rnB_ (cR_ S) (dR_ S) (pR_ S) 60 S1 → agR_ S S1 → In_ D A s.heap H locs (wB_ h r cI S1) → ∀ (ls : Array Slot), lv_has ls 4 [(0, .ref h), (1, .int (iI ((i : Nat) : Int)))] → W p l e (rm_ 1) s m [.ref h].toArray below meth c H locs 0 0 (EQ_ D [(cZ, .boolean), (cI, .int)] (wB_ h r cI) S s below [.ref h].toArray A (fun x S' => bo_ x (ps_noMiss (cR_ S) (dR_ S) (pR_ S)) ∧ agR_ S S' ∧ (ps_noMiss (cR_ S) (dR_ S) (pR_ S) → (∀ t, t < 60 → S' 12 t = ps_run (cR_ S) (dR_ S) (pR_ S) t) ∧ ∀ i, i < 13 → 0 < cR_ S i → S' 13 i = (ps_rsp (cR_ S) (dR_ S) (pR_ S) 60 i : Int)))) (F0 m 199 ls []) := by
    intro n
    induction n with
    | zero => intros; omega
    | succ n ih =>
      intro i S1 H locs hi hfu hz hrn hag hI ls hl
      refine rr_iload_n hC dB_runs_199 hl rfl 1 rfl ?_
      refine rr_bipush (v := ((13 : Nat) : Int)) hC dB_runs_200 (by decide) ?_
      refine rr_icmp_ge hC 222 dB_runs_202 (by decide) (by omega) (by omega) (fun c1 => ?_) (fun c1 => ?_)
      · refine rr_iconst (v := ((1 : Nat) : Int)) hC dB_runs_222 rfl ?_
        exact rr_zret hC (wB_ h r cI) hI hr hlk (by decide +kernel) dB_runs_223 (⟨⟨1, rfl, by omega, ⟨fun _ => nmB_last hrn.2.1 (fun j hj => hz j (by omega)), fun _ => rfl⟩⟩, hag, fun _ => ⟨hrn.2.2.1, hrn.2.2.2⟩⟩)
      · have a1 := (hrn.1 i (by omega)).1
        rw [if_neg (by omega)] at a1
        change S1 10 i = ((ps_a (cR_ S) (dR_ S) (pR_ S) 59 i : Nat) : Int) at a1
        have a2 := Nat.le_trans (ps_a_le (cR_ S) (dR_ S) (pR_ S) 59 i) (ps_lft_le (cR_ S) (dR_ S) (pR_ S) 59 i)
        have a3 := hR i (by omega)
        have a4 : cR_ S i ≤ 60 := by unfold cR_; omega
        refine rr_aload_n hC dB_runs_205 hl rfl 0 rfl ?_
        refine rB_get hC hI 10 (by decide) lB_10 rfl dB_runs_206 ?_
        refine rr_iload_n hC dB_runs_209 hl rfl 1 rfl ?_
        refine rr_iald hC hI 10 1 rfl rfl (by decide) (by omega) dB_runs_210 ?_
        refine rr_if_le hC 216 dB_runs_211 (by decide) (by omega) (fun c2 => ?_) (fun c2 => ?_)
        · refine rr_iinc (v := ((i + 1 : Nat) : Int)) (lv' := [(1, .int (iI ((i + 1 : Nat) : Int))), (0, .ref h)]) hC dB_runs_216 hl 1 rfl (by omega) (by decide) rfl (fun ls hl => ?_)
          refine rr_goto hC 199 dB_runs_219 (by decide) ?_
          exact ih (i + 1) S1 H locs (by omega) (by omega) (fun j hj => by by_cases z : j = i; (subst z; omega); exact hz j (by omega)) hrn hag hI ls (lv_sub hl [1, 0] rfl)
        · refine rr_iconst (v := ((0 : Nat) : Int)) hC dB_runs_214 rfl ?_
          exact rr_zret hC (wB_ h r cI) hI hr hlk (by decide +kernel) dB_runs_215 (⟨⟨0, rfl, by omega, ⟨fun z => by omega, fun z => absurd z (miss_end hok (show i < 13 by omega) (by omega))⟩⟩, hag, fun z => absurd z (miss_end hok (show i < 13 by omega) (by omega))⟩)
  have loop2 : ∀ (n : Nat) (t : Nat) (S1 : St_) (H : Heap) (locs : List Loc), t ≤ 60 → 60 < t + n → rnB_ (cR_ S) (dR_ S) (pR_ S) t S1 → agR_ S S1 → In_ D A s.heap H locs (wB_ h r cI S1) → ∀ (ls : Array Slot), lv_has ls 4 [(0, .ref h), (1, .int (iI ((t : Nat) : Int)))] → W p l e (rm_ 1) s m [.ref h].toArray below meth c H locs 0 0 (EQ_ D [(cZ, .boolean), (cI, .int)] (wB_ h r cI) S s below [.ref h].toArray A (fun x S' => bo_ x (ps_noMiss (cR_ S) (dR_ S) (pR_ S)) ∧ agR_ S S' ∧ (ps_noMiss (cR_ S) (dR_ S) (pR_ S) → (∀ t, t < 60 → S' 12 t = ps_run (cR_ S) (dR_ S) (pR_ S) t) ∧ ∀ i, i < 13 → 0 < cR_ S i → S' 13 i = (ps_rsp (cR_ S) (dR_ S) (pR_ S) 60 i : Int)))) (F0 m 30 ls []) := by
    intro n
    induction n with
    | zero => intros; omega
    | succ n ih0 =>
      intro t S1 H locs ht hfu hrn hag hI ls hl
      refine rr_iload_n hC dB_runs_30 hl rfl 1 rfl ?_
      refine rr_bipush (v := ((60 : Nat) : Int)) hC dB_runs_31 (by decide) ?_
      refine rr_icmp_ge hC 197 dB_runs_33 (by decide) (by omega) (by omega) (fun c3 => ?_) (fun c3 => ?_)
      · refine rr_iconst (v := ((0 : Nat) : Int)) hC dB_runs_197 rfl ?_
        refine rr_istore_n (lv' := [(1, .int (iI ((0 : Nat) : Int))), (0, .ref h)]) hC dB_runs_198 hl rfl (by decide) rfl (fun ls hl => ?_)
        have hrn : rnB_ (cR_ S) (dR_ S) (pR_ S) 60 S1 := (show t = 60 by omega) ▸ hrn
        exact loop3 14 0 S1 H locs (by omega) (by omega) (fun j hj => absurd hj (Nat.not_lt_zero j)) hrn hag hI ls (lv_sub hl [1, 0] rfl)
      · refine rr_aload_n hC dB_runs_36 hl rfl 0 rfl ?_
        refine rr_iload_n hC dB_runs_37 hl rfl 1 rfl ?_
        obtain ⟨s1, s2, s3⟩ := agR_sys hag
        refine rr_calli (na := 1) hC (wB_ h r cI) hI hl (cB_release l D h r cZ cI S1 t (by omega) (agR_ok hag hR) (by rw [s1, s2, s3]; exact hrn.1)) gB_B_release (by decide +kernel) ⟨by decide, by decide⟩ rfl rfl rfl rfl (by decide) dB_runs_38 (fun x4 T4 H locs hp hI => ?_)
        obtain ⟨⟨v, e1, hv⟩, hq⟩ := hp
        subst e1
        have hv01 : v = 0 ∨ v = 1 := by rcases hv with hv | hv <;> omega
        refine rr_if_ne hC 46 dB_runs_41 (by decide) (by omega) (fun c4 => ?_) (fun c4 => ?_)
        · replace hv : rlB_ T4 (cR_ S) (dR_ S) (pR_ S) t 13 := by
            rcases hv with hv | hv
            · omega
            · rw [s1, s2, s3] at hv; exact hv.2
          obtain ⟨hpos, -, hrel⟩ := hv
          have hag2 : agR_ S T4 := agR_tr hag (agQ_R hq)
          have hL : ∀ j, j < 13 → T4 10 j = ((ps_lft (cR_ S) (dR_ S) (pR_ S) t j : Nat) : Int) ∧ ps_lft (cR_ S) (dR_ S) (pR_ S) t j ≤ 60 := fun j hj => ⟨(hpos j hj).1, by
              have := ps_lft_le (cR_ S) (dR_ S) (pR_ S) t j
              have := hR j hj
              unfold cR_ at *; omega⟩
          have hU : ∀ j, j < 13 → 0 < ps_lft (cR_ S) (dR_ S) (pR_ S) t j → T4 11 j = ((ps_due (dR_ S) (pR_ S) t j : Nat) : Int) ∧ ps_due (dR_ S) (pR_ S) t j ≤ 180 ∧ t / pR_ S j * pR_ S j ≤ t ∧ ps_due (dR_ S) (pR_ S) t j = t / pR_ S j * pR_ S j + dR_ S j ∧ S 8 j = ((dR_ S j : Nat) : Int) := fun j hj hl0 => by
            have hc := Nat.lt_of_lt_of_le hl0 (ps_lft_le (cR_ S) (dR_ S) (pR_ S) t j)
            have h1 := hok j hj hc
            have h2 := ps_lo (p := pR_ S j) t
            have h3 := hR j hj
            refine ⟨(hpos j hj).2 hc, ?_, h2, rfl, ?_⟩
            · unfold ps_due; omega
            · unfold cR_ at hc; unfold dR_; omega
          refine rr_iconst (v := (-1 : Int)) hC dB_runs_46 rfl ?_
          refine rr_istore_n (lv' := [(2, .int (iI (-1 : Int))), (0, .ref h), (1, .int (iI ((t : Nat) : Int)))]) hC dB_runs_47 hl rfl (by decide) rfl (fun ls hl => ?_)
          refine rr_iconst (v := ((0 : Nat) : Int)) hC dB_runs_48 rfl ?_
          refine rr_istore_n (lv' := [(3, .int (iI ((0 : Nat) : Int))), (2, .int (iI (-1 : Int))), (0, .ref h), (1, .int (iI ((t : Nat) : Int)))]) hC dB_runs_49 hl rfl (by decide) rfl (fun ls hl => ?_)
          have scan : ∀ (n : Nat) (i : Nat) (b : Int), i ≤ 13 → 13 < i + n → ps_isB (ps_lft (cR_ S) (dR_ S) (pR_ S) t) (ps_due (dR_ S) (pR_ S) t) i b → (∀ q, q < i → 0 < ps_lft (cR_ S) (dR_ S) (pR_ S) t q → t < ps_due (dR_ S) (pR_ S) t q) → ∀ (ls : Array Slot), lv_has ls 4 [(0, .ref h), (1, .int (iI ((t : Nat) : Int))), (2, .int (iI b)), (3, .int (iI ((i : Nat) : Int)))] → W p l e (rm_ 1) s m [.ref h].toArray below meth c H locs 0 0 (EQ_ D [(cZ, .boolean), (cI, .int)] (wB_ h r cI) S s below [.ref h].toArray A (fun x S' => bo_ x (ps_noMiss (cR_ S) (dR_ S) (pR_ S)) ∧ agR_ S S' ∧ (ps_noMiss (cR_ S) (dR_ S) (pR_ S) → (∀ t, t < 60 → S' 12 t = ps_run (cR_ S) (dR_ S) (pR_ S) t) ∧ ∀ i, i < 13 → 0 < cR_ S i → S' 13 i = (ps_rsp (cR_ S) (dR_ S) (pR_ S) 60 i : Int)))) (F0 m 50 ls []) := by
            intro n
            induction n with
            | zero => intros; omega
            | succ n ih =>
              intro i b hi hfu hB hchk ls hl
              refine rr_iload_n hC dB_runs_50 hl rfl 3 rfl ?_
              refine rr_bipush (v := ((13 : Nat) : Int)) hC dB_runs_51 (by decide) ?_
              refine rr_icmp_ge hC 113 dB_runs_53 (by decide) (by omega) (by omega) (fun c5 => ?_) (fun c5 => ?_)
              · have hi13 : i = 13 := by omega
                subst hi13
                have hnm : nmB_ (cR_ S) (dR_ S) (pR_ S) t := nmB_step hok hrn.2.1 (fun h0 j hj hc hm => hrel j hj h0 hc hm) hchk
                have hr12 : ∀ q, q < t → T4 12 q = ps_run (cR_ S) (dR_ S) (pR_ S) q := fun q hq2 => by rw [hq 12 (by decide) (by decide)]; exact hrn.2.2.1 q hq2
                have hr13 : ∀ q, q < 13 → 0 < cR_ S q → T4 13 q = (ps_rsp (cR_ S) (dR_ S) (pR_ S) t q : Int) := fun q hq2 hc => by rw [hq 13 (by decide) (by decide)]; exact hrn.2.2.2 q hq2 hc
                have hbb := ps_isB_uniq (ps_b_is (cR_ S) (dR_ S) (pR_ S) t) hB
                rcases id hB with ⟨rfl, -⟩ | ⟨j, rfl, hj, hjl, -⟩
                · have hl : lv_has ls 4 [(0, .ref h), (1, .int (iI ((t : Nat) : Int))), (2, .int (iI (-1 : Int))), (3, .int (iI ((13 : Nat) : Int)))] := hl
                  refine rr_aload_n hC dB_runs_113 hl rfl 0 rfl ?_
                  refine rB_get hC hI 12 (by decide) lB_12 rfl dB_runs_114 ?_
                  refine rr_iload_n hC dB_runs_117 hl rfl 1 rfl ?_
                  refine rr_iload_n hC dB_runs_118 hl rfl 2 rfl ?_
                  refine rr_if_ge hC 127 dB_runs_119 (by decide) (by omega) (fun c6 => ?_) (fun c6 => ?_)
                  · exfalso; omega
                  · refine rr_bipush (v := (-5 : Int)) hC dB_runs_122 (by decide) ?_
                    refine rr_goto hC 128 dB_runs_124 (by decide) ?_
                    refine rr_iast hC (wB_ h r cI) hI 12 12 1 rfl rfl (by decide) (by omega) rfl dB_runs_128 (fun H locs hI => ?_)
                    refine rr_iload_n hC dB_runs_129 hl rfl 2 rfl ?_
                    refine rr_if_lt hC 191 dB_runs_130 (by decide) (by omega) (fun c7 => ?_) (fun c7 => ?_)
                    · refine rr_iinc (v := ((t + 1 : Nat) : Int)) (lv' := [(1, .int (iI ((t + 1 : Nat) : Int))), (0, .ref h), (2, .int (iI (-1 : Int))), (3, .int (iI ((13 : Nat) : Int)))]) hC dB_runs_191 hl 1 rfl (by omega) (by decide) rfl (fun ls hl => ?_)
                      refine rr_goto hC 30 dB_runs_194 (by decide) ?_
                      exact ih0 (t + 1) (up_ T4 12 t (-5 : Int)) H locs (by omega) (by omega) (rnB_idle hbb hpos hnm hr12 hr13) (agR_up hag2 _ _ _ (by omega)) hI ls (lv_sub hl [1, 0] rfl)
                    · exfalso; omega
                · have hl : lv_has ls 4 [(0, .ref h), (1, .int (iI ((t : Nat) : Int))), (2, .int (iI ((j : Nat) : Int))), (3, .int (iI ((13 : Nat) : Int)))] := hl
                  obtain ⟨l1, l2⟩ := hL j hj
                  have l3 := hU j hj hjl
                  have hcj := Nat.lt_of_lt_of_le hjl (ps_lft_le (cR_ S) (dR_ S) (pR_ S) t j)
                  have l4 := hr13 j hj hcj
                  have l5 := rsp_le (cR_ S) (dR_ S) (pR_ S) t j
                  have l6 : T4 8 j = S 8 j := by rw [hag2 8 (by decide)]
                  refine rr_aload_n hC dB_runs_113 hl rfl 0 rfl ?_
                  refine rB_get hC hI 12 (by decide) lB_12 rfl dB_runs_114 ?_
                  refine rr_iload_n hC dB_runs_117 hl rfl 1 rfl ?_
                  refine rr_iload_n hC dB_runs_118 hl rfl 2 rfl ?_
                  refine rr_if_ge hC 127 dB_runs_119 (by decide) (by omega) (fun c8 => ?_) (fun c8 => ?_)
                  · refine rr_iload_n hC dB_runs_127 hl rfl 2 rfl ?_
                    refine rr_iast hC (wB_ h r cI) hI 12 12 1 rfl rfl (by decide) (by omega) rfl dB_runs_128 (fun H locs hI => ?_)
                    refine rr_iload_n hC dB_runs_129 hl rfl 2 rfl ?_
                    refine rr_if_lt hC 191 dB_runs_130 (by decide) (by omega) (fun c9 => ?_) (fun c9 => ?_)
                    · exfalso; omega
                    · refine rr_aload_n hC dB_runs_133 hl rfl 0 rfl ?_
                      refine rB_get hC hI 10 (by decide) lB_10 rfl dB_runs_134 ?_
                      refine rr_iload_n hC dB_runs_137 hl rfl 2 rfl ?_
                      refine rr_aload_n hC dB_runs_138 hl rfl 0 rfl ?_
                      refine rB_get hC hI 10 (by decide) lB_10 rfl dB_runs_139 ?_
                      refine rr_iload_n hC dB_runs_142 hl rfl 2 rfl ?_
                      refine rr_iald hC hI 10 1 rfl rfl (by decide) (by omega) dB_runs_143 ?_
                      refine rr_top (y := T4 10 j) rfl ?_
                      refine rr_iconst (v := ((1 : Nat) : Int)) hC dB_runs_144 rfl ?_
                      refine rr_isub hC dB_runs_145 ?_
                      refine rr_iast hC (wB_ h r cI) hI 10 10 1 rfl rfl (by decide) (by omega) rfl dB_runs_146 (fun H locs hI => ?_)
                      refine rr_iload_n hC dB_runs_147 hl rfl 1 rfl ?_
                      refine rr_iconst (v := ((1 : Nat) : Int)) hC dB_runs_148 rfl ?_
                      refine rr_iadd hC dB_runs_149 ?_
                      refine rr_top (y := ((t + 1 : Nat) : Int)) (by omega) ?_
                      refine rr_aload_n hC dB_runs_150 hl rfl 0 rfl ?_
                      refine rB_get hC hI 11 (by decide) lB_11 rfl dB_runs_151 ?_
                      refine rr_iload_n hC dB_runs_154 hl rfl 2 rfl ?_
                      refine rr_iald hC hI 11 1 rfl rfl (by decide) (by omega) dB_runs_155 ?_
                      refine rr_top (y := T4 11 j) rfl ?_
                      refine rr_aload_n hC dB_runs_156 hl rfl 0 rfl ?_
                      refine rB_get hC hI 8 (by decide) lB_8 rfl dB_runs_157 ?_
                      refine rr_iload_n hC dB_runs_160 hl rfl 2 rfl ?_
                      refine rr_iald hC hI 8 1 rfl rfl (by decide) (by omega) dB_runs_161 ?_
                      refine rr_top (y := T4 8 j) rfl ?_
                      refine rr_isub hC dB_runs_162 ?_
                      refine rr_isub hC dB_runs_163 ?_
                      refine rr_istore_n (lv' := [(3, .int (iI (((t + 1 : Nat) : Int) - ((T4 11 j) - (T4 8 j))))), (0, .ref h), (1, .int (iI ((t : Nat) : Int))), (2, .int (iI ((j : Nat) : Int)))]) hC dB_runs_164 hl rfl (by decide) rfl (fun ls hl => ?_)
                      rw [show ((t + 1 : Nat) : Int) - ((T4 11 j) - (T4 8 j)) = ((t + 1 - t / pR_ S j * pR_ S j : Nat) : Int) by omega] at hl
                      refine rr_aload_n hC dB_runs_165 hl rfl 1 rfl ?_
                      refine rB_get hC hI 10 (by decide) lB_10 rfl dB_runs_166 ?_
                      refine rr_iload_n hC dB_runs_169 hl rfl 3 rfl ?_
                      refine rr_iald hC hI 10 1 rfl rfl (by decide) (by omega) dB_runs_170 ?_
                      refine rr_top (y := (T4 10 j) - ((1 : Nat) : Int)) (show up_ (up_ T4 12 t ((j : Nat) : Int)) 10 j ((T4 10 j) - ((1 : Nat) : Int)) 10 j = (T4 10 j) - ((1 : Nat) : Int) from up_eq _ _ _ _) ?_
                      refine rr_if_ne hC 191 dB_runs_171 (by decide) (by omega) (fun c10 => ?_) (fun c10 => ?_)
                      · refine rr_iinc (v := ((t + 1 : Nat) : Int)) (lv' := [(1, .int (iI ((t + 1 : Nat) : Int))), (3, .int (iI ((t + 1 - t / pR_ S j * pR_ S j : Nat) : Int))), (0, .ref h), (2, .int (iI ((j : Nat) : Int)))]) hC dB_runs_191 hl 2 rfl (by omega) (by decide) rfl (fun ls hl => ?_)
                        refine rr_goto hC 30 dB_runs_194 (by decide) ?_
                        exact ih0 (t + 1) (up_ (up_ T4 12 t ((j : Nat) : Int)) 10 j ((T4 10 j) - ((1 : Nat) : Int))) H locs (by omega) (by omega) (rnB_run hj hbb hpos hnm hr12 hr13 hjl (fun q => by simp only [up_at]; by_cases z : q = j <;> simp [z]) rfl (fun q => by simp only [up_at]; by_cases z : q = t <;> simp [z]) (fun q => by rw [if_neg (by omega)]; rfl)) (agR_up (agR_up hag2 _ _ _ (by omega)) _ _ _ (by omega)) hI ls (lv_sub hl [2, 0] rfl)
                      · refine rr_iload_n hC dB_runs_174 hl rfl 0 rfl ?_
                        refine rr_aload_n hC dB_runs_175 hl rfl 1 rfl ?_
                        refine rB_get hC hI 13 (by decide) lB_13 rfl dB_runs_176 ?_
                        refine rr_iload_n hC dB_runs_179 hl rfl 3 rfl ?_
                        refine rr_iald hC hI 13 1 rfl rfl (by decide) (by omega) dB_runs_180 ?_
                        refine rr_top (y := T4 13 j) rfl ?_
                        refine rr_icmp_le hC 191 dB_runs_181 (by decide) (by omega) (by omega) (fun c11 => ?_) (fun c11 => ?_)
                        · refine rr_iinc (v := ((t + 1 : Nat) : Int)) (lv' := [(1, .int (iI ((t + 1 : Nat) : Int))), (3, .int (iI ((t + 1 - t / pR_ S j * pR_ S j : Nat) : Int))), (0, .ref h), (2, .int (iI ((j : Nat) : Int)))]) hC dB_runs_191 hl 2 rfl (by omega) (by decide) rfl (fun ls hl => ?_)
                          refine rr_goto hC 30 dB_runs_194 (by decide) ?_
                          exact ih0 (t + 1) (up_ (up_ T4 12 t ((j : Nat) : Int)) 10 j ((T4 10 j) - ((1 : Nat) : Int))) H locs (by omega) (by omega) (rnB_run hj hbb hpos hnm hr12 hr13 hjl (fun q => by simp only [up_at]; by_cases z : q = j <;> simp [z]) rfl (fun q => by simp only [up_at]; by_cases z : q = t <;> simp [z]) (fun q => by rw [if_neg (by omega)]; rfl)) (agR_up (agR_up hag2 _ _ _ (by omega)) _ _ _ (by omega)) hI ls (lv_sub hl [2, 0] rfl)
                        · refine rr_aload_n hC dB_runs_184 hl rfl 1 rfl ?_
                          refine rB_get hC hI 13 (by decide) lB_13 rfl dB_runs_185 ?_
                          refine rr_iload_n hC dB_runs_188 hl rfl 3 rfl ?_
                          refine rr_iload_n hC dB_runs_189 hl rfl 0 rfl ?_
                          refine rr_iast hC (wB_ h r cI) hI 13 13 1 rfl rfl (by decide) (by omega) rfl dB_runs_190 (fun H locs hI => ?_)
                          refine rr_iinc (v := ((t + 1 : Nat) : Int)) (lv' := [(1, .int (iI ((t + 1 : Nat) : Int))), (3, .int (iI ((t + 1 - t / pR_ S j * pR_ S j : Nat) : Int))), (0, .ref h), (2, .int (iI ((j : Nat) : Int)))]) hC dB_runs_191 hl 2 rfl (by omega) (by decide) rfl (fun ls hl => ?_)
                          refine rr_goto hC 30 dB_runs_194 (by decide) ?_
                          exact ih0 (t + 1) (up_ (up_ (up_ T4 12 t ((j : Nat) : Int)) 10 j ((T4 10 j) - ((1 : Nat) : Int))) 13 j ((t + 1 - t / pR_ S j * pR_ S j : Nat) : Int)) H locs (by omega) (by omega) (rnB_run hj hbb hpos hnm hr12 hr13 hjl (fun q => by simp only [up_at]; by_cases z : q = j <;> simp [z]) rfl (fun q => by simp only [up_at]; by_cases z : q = t <;> simp [z]) (fun q => by rw [up_at]; by_cases z : q = j; (subst z; rw [if_pos ⟨rfl, rfl⟩, if_pos ⟨rfl, by omega, by omega⟩]); (rw [if_neg (by omega), if_neg (by omega)]; rfl))) (agR_up (agR_up (agR_up hag2 _ _ _ (by omega)) _ _ _ (by omega)) _ _ _ (by omega)) hI ls (lv_sub hl [2, 0] rfl)
                  · exfalso; omega
              · obtain ⟨l1, l2⟩ := hL i (by omega)
                have hbr := ps_isB_range hB
                refine rr_aload_n hC dB_runs_56 hl rfl 0 rfl ?_
                refine rB_get hC hI 10 (by decide) lB_10 rfl dB_runs_57 ?_
                refine rr_iload_n hC dB_runs_60 hl rfl 3 rfl ?_
                refine rr_iald hC hI 10 1 rfl rfl (by decide) (by omega) dB_runs_61 ?_
                refine rr_if_le hC 77 dB_runs_62 (by decide) (by omega) (fun c12 => ?_) (fun c12 => ?_)
                · refine rr_aload_n hC dB_runs_77 hl rfl 0 rfl ?_
                  refine rB_get hC hI 10 (by decide) lB_10 rfl dB_runs_78 ?_
                  refine rr_iload_n hC dB_runs_81 hl rfl 3 rfl ?_
                  refine rr_iald hC hI 10 1 rfl rfl (by decide) (by omega) dB_runs_82 ?_
                  refine rr_if_le hC 107 dB_runs_83 (by decide) (by omega) (fun c13 => ?_) (fun c13 => ?_)
                  · refine rr_iinc (v := ((i + 1 : Nat) : Int)) (lv' := [(3, .int (iI ((i + 1 : Nat) : Int))), (0, .ref h), (1, .int (iI ((t : Nat) : Int))), (2, .int (iI b))]) hC dB_runs_107 hl 3 rfl (by omega) (by decide) rfl (fun ls hl => ?_)
                    refine rr_goto hC 50 dB_runs_110 (by decide) ?_
                    exact ih (i + 1) b (by omega) (by omega) (ps_isB_old hB (fun y => by have := y.1; omega)) (fun q hq2 hl0 => by by_cases z : q = i; (subst z; omega); exact hchk q (by omega) hl0) ls (lv_sub hl [1, 2, 3, 0] rfl)
                  · exfalso; omega
                · have l3 := hU i (by omega) (by omega)
                  refine rr_aload_n hC dB_runs_65 hl rfl 0 rfl ?_
                  refine rB_get hC hI 11 (by decide) lB_11 rfl dB_runs_66 ?_
                  refine rr_iload_n hC dB_runs_69 hl rfl 3 rfl ?_
                  refine rr_iald hC hI 11 1 rfl rfl (by decide) (by omega) dB_runs_70 ?_
                  refine rr_iload_n hC dB_runs_71 hl rfl 1 rfl ?_
                  refine rr_icmp_gt hC 77 dB_runs_72 (by decide) (by omega) (by omega) (fun c14 => ?_) (fun c14 => ?_)
                  · refine rr_aload_n hC dB_runs_77 hl rfl 0 rfl ?_
                    refine rB_get hC hI 10 (by decide) lB_10 rfl dB_runs_78 ?_
                    refine rr_iload_n hC dB_runs_81 hl rfl 3 rfl ?_
                    refine rr_iald hC hI 10 1 rfl rfl (by decide) (by omega) dB_runs_82 ?_
                    refine rr_if_le hC 107 dB_runs_83 (by decide) (by omega) (fun c15 => ?_) (fun c15 => ?_)
                    · exfalso; omega
                    · refine rr_iload_n hC dB_runs_86 hl rfl 2 rfl ?_
                      refine rr_if_lt hC 105 dB_runs_87 (by decide) (by omega) (fun c16 => ?_) (fun c16 => ?_)
                      · refine rr_iload_n hC dB_runs_105 hl rfl 3 rfl ?_
                        refine rr_istore_n (lv' := [(2, .int (iI ((i : Nat) : Int))), (0, .ref h), (1, .int (iI ((t : Nat) : Int))), (3, .int (iI ((i : Nat) : Int)))]) hC dB_runs_106 hl rfl (by decide) rfl (fun ls hl => ?_)
                        refine rr_iinc (v := ((i + 1 : Nat) : Int)) (lv' := [(3, .int (iI ((i + 1 : Nat) : Int))), (2, .int (iI ((i : Nat) : Int))), (0, .ref h), (1, .int (iI ((t : Nat) : Int)))]) hC dB_runs_107 hl 3 rfl (by omega) (by decide) rfl (fun ls hl => ?_)
                        refine rr_goto hC 50 dB_runs_110 (by decide) ?_
                        exact ih (i + 1) ((i : Nat) : Int) (by omega) (by omega) (ps_isB_new hB (by omega) (Or.inl (by omega))) (fun q hq2 hl0 => by by_cases z : q = i; (subst z; omega); exact hchk q (by omega) hl0) ls (lv_sub hl [2, 3, 1, 0] rfl)
                      · obtain ⟨j, rfl, hji, hjl⟩ : ∃ j : Nat, b = (j : Int) ∧ j < i ∧ 0 < ps_lft (cR_ S) (dR_ S) (pR_ S) t j := by
                          rcases id hB with ⟨y, -⟩ | ⟨j, y, y1, y2, -⟩
                          · omega
                          · exact ⟨j, y, y1, y2⟩
                        have l4 := hU j (by omega) hjl
                        refine rr_aload_n hC dB_runs_90 hl rfl 0 rfl ?_
                        refine rB_get hC hI 11 (by decide) lB_11 rfl dB_runs_91 ?_
                        refine rr_iload_n hC dB_runs_94 hl rfl 3 rfl ?_
                        refine rr_iald hC hI 11 1 rfl rfl (by decide) (by omega) dB_runs_95 ?_
                        refine rr_aload_n hC dB_runs_96 hl rfl 0 rfl ?_
                        refine rB_get hC hI 11 (by decide) lB_11 rfl dB_runs_97 ?_
                        refine rr_iload_n hC dB_runs_100 hl rfl 2 rfl ?_
                        refine rr_iald hC hI 11 1 rfl rfl (by decide) (by omega) dB_runs_101 ?_
                        refine rr_icmp_ge hC 107 dB_runs_102 (by decide) (by omega) (by omega) (fun c17 => ?_) (fun c17 => ?_)
                        · refine rr_iinc (v := ((i + 1 : Nat) : Int)) (lv' := [(3, .int (iI ((i + 1 : Nat) : Int))), (0, .ref h), (1, .int (iI ((t : Nat) : Int))), (2, .int (iI ((j : Nat) : Int)))]) hC dB_runs_107 hl 3 rfl (by omega) (by decide) rfl (fun ls hl => ?_)
                          refine rr_goto hC 50 dB_runs_110 (by decide) ?_
                          exact ih (i + 1) ((j : Nat) : Int) (by omega) (by omega) (ps_isB_old hB (fun y => by have y2 := y.2; rw [Int.toNat_natCast] at y2; omega)) (fun q hq2 hl0 => by by_cases z : q = i; (subst z; omega); exact hchk q (by omega) hl0) ls (lv_sub hl [1, 2, 3, 0] rfl)
                        · refine rr_iload_n hC dB_runs_105 hl rfl 3 rfl ?_
                          refine rr_istore_n (lv' := [(2, .int (iI ((i : Nat) : Int))), (0, .ref h), (1, .int (iI ((t : Nat) : Int))), (3, .int (iI ((i : Nat) : Int)))]) hC dB_runs_106 hl rfl (by decide) rfl (fun ls hl => ?_)
                          refine rr_iinc (v := ((i + 1 : Nat) : Int)) (lv' := [(3, .int (iI ((i + 1 : Nat) : Int))), (2, .int (iI ((i : Nat) : Int))), (0, .ref h), (1, .int (iI ((t : Nat) : Int)))]) hC dB_runs_107 hl 3 rfl (by omega) (by decide) rfl (fun ls hl => ?_)
                          refine rr_goto hC 50 dB_runs_110 (by decide) ?_
                          exact ih (i + 1) ((i : Nat) : Int) (by omega) (by omega) (ps_isB_new hB (by omega) (Or.inr (by rw [Int.toNat_natCast]; omega))) (fun q hq2 hl0 => by by_cases z : q = i; (subst z; omega); exact hchk q (by omega) hl0) ls (lv_sub hl [2, 3, 1, 0] rfl)
                  · refine rr_iconst (v := ((0 : Nat) : Int)) hC dB_runs_75 rfl ?_
                    exact rr_zret hC (wB_ h r cI) hI hr hlk (by decide +kernel) dB_runs_76 (⟨⟨0, rfl, by omega, ⟨fun z => by omega, fun z => absurd z (miss_due (t := t) (i := i) hok (by omega) (show i < 13 by omega) (by omega) (by omega))⟩⟩, hag2, fun z => absurd z (miss_due (t := t) (i := i) hok (by omega) (show i < 13 by omega) (by omega) (by omega))⟩)
          exact scan 14 0 (-1) (by omega) (by omega) (ps_isB_0 _ _) (fun q hq2 => absurd hq2 (Nat.not_lt_zero q)) ls (lv_sub hl [2, 3, 1, 0] rfl)
        · refine rr_iconst (v := ((0 : Nat) : Int)) hC dB_runs_44 rfl ?_
          exact rr_zret hC (wB_ h r cI) hI hr hlk (by decide +kernel) dB_runs_45 (⟨⟨0, rfl, by omega, ⟨fun z => by omega, fun z => absurd z (by rcases hv with hv | hv; (rw [s1, s2, s3] at hv; exact hv.2); omega)⟩⟩, (agR_tr hag (agQ_R hq)), fun z => absurd z (by rcases hv with hv | hv; (rw [s1, s2, s3] at hv; exact hv.2); omega)⟩)
  have loop : ∀ (n : Nat) (i : Nat) (S1 : St_) (H : Heap) (locs : List Loc), i ≤ 13 → 13 < i + n → (∀ j, j < i → S1 10 j = 0 ∧ S1 13 j = 0) → agR_ S S1 → In_ D A s.heap H locs (wB_ h r cI S1) → ∀ (ls : Array Slot), lv_has ls 4 [(0, .ref h), (1, .int (iI ((i : Nat) : Int)))] → W p l e (rm_ 1) s m [.ref h].toArray below meth c H locs 0 0 (EQ_ D [(cZ, .boolean), (cI, .int)] (wB_ h r cI) S s below [.ref h].toArray A (fun x S' => bo_ x (ps_noMiss (cR_ S) (dR_ S) (pR_ S)) ∧ agR_ S S' ∧ (ps_noMiss (cR_ S) (dR_ S) (pR_ S) → (∀ t, t < 60 → S' 12 t = ps_run (cR_ S) (dR_ S) (pR_ S) t) ∧ ∀ i, i < 13 → 0 < cR_ S i → S' 13 i = (ps_rsp (cR_ S) (dR_ S) (pR_ S) 60 i : Int)))) (F0 m 2 ls []) := by
    intro n
    induction n with
    | zero => intros; omega
    | succ n ih =>
      intro i S1 H locs hi hfu hz hag hI ls hl
      refine rr_iload_n hC dB_runs_2 hl rfl 1 rfl ?_
      refine rr_bipush (v := ((13 : Nat) : Int)) hC dB_runs_3 (by decide) ?_
      refine rr_icmp_ge hC 28 dB_runs_5 (by decide) (by omega) (by omega) (fun c18 => ?_) (fun c18 => ?_)
      · refine rr_iconst (v := ((0 : Nat) : Int)) hC dB_runs_28 rfl ?_
        refine rr_istore_n (lv' := [(1, .int (iI ((0 : Nat) : Int))), (0, .ref h)]) hC dB_runs_29 hl rfl (by decide) rfl (fun ls hl => ?_)
        exact loop2 61 0 S1 H locs (by omega) (by omega) ⟨fun j hj => ⟨by rw [if_pos rfl]; exact (hz j (by omega)).1, fun _ z => by omega⟩, fun q hq => absurd hq (Nat.not_lt_zero q), fun q hq => absurd hq (Nat.not_lt_zero q), fun j hj _ => (hz j (by omega)).2⟩ hag hI ls (lv_sub hl [1, 0] rfl)
      · refine rr_aload_n hC dB_runs_8 hl rfl 0 rfl ?_
        refine rB_get hC hI 10 (by decide) lB_10 rfl dB_runs_9 ?_
        refine rr_iload_n hC dB_runs_12 hl rfl 1 rfl ?_
        refine rr_iconst (v := ((0 : Nat) : Int)) hC dB_runs_13 rfl ?_
        refine rr_iast hC (wB_ h r cI) hI 10 10 1 rfl rfl (by decide) (by omega) rfl dB_runs_14 (fun H locs hI => ?_)
        refine rr_aload_n hC dB_runs_15 hl rfl 0 rfl ?_
        refine rB_get hC hI 13 (by decide) lB_13 rfl dB_runs_16 ?_
        refine rr_iload_n hC dB_runs_19 hl rfl 1 rfl ?_
        refine rr_iconst (v := ((0 : Nat) : Int)) hC dB_runs_20 rfl ?_
        refine rr_iast hC (wB_ h r cI) hI 13 13 1 rfl rfl (by decide) (by omega) rfl dB_runs_21 (fun H locs hI => ?_)
        refine rr_iinc (v := ((i + 1 : Nat) : Int)) (lv' := [(1, .int (iI ((i + 1 : Nat) : Int))), (0, .ref h)]) hC dB_runs_22 hl 1 rfl (by omega) (by decide) rfl (fun ls hl => ?_)
        refine rr_goto hC 2 dB_runs_25 (by decide) ?_
        exact ih (i + 1) (up_ (up_ S1 10 i ((0 : Nat) : Int)) 13 i ((0 : Nat) : Int)) H locs (by omega) (by omega) (fun j hj => by simp only [up_at]; by_cases z : j = i; (subst z; simp); rw [if_neg (by omega), if_neg (by omega), if_neg (by omega), if_neg (by omega)]; exact hz j (by omega)) (agR_up (agR_up hag _ _ _ (by omega)) _ _ _ (by omega)) hI ls (lv_sub hl [1, 0] rfl)
  refine rr_iconst (v := ((0 : Nat) : Int)) hC dB_runs_0 rfl ?_
  refine rr_istore_n (lv' := [(1, .int (iI ((0 : Nat) : Int))), (0, .ref h)]) hC dB_runs_1 hl rfl (by decide) rfl (fun ls hl => ?_)
  exact loop 14 0 S _ _ (by omega) (by omega) (fun j hj => absurd hj (Nat.not_lt_zero j)) (agR_rf S) hI ls (lv_sub hl [1, 0] rfl)
set_option maxRecDepth 100000 in
set_option maxHeartbeats 4000000 in
/-- takes -/
theorem cB_takes (l : Launch) (D : va_G) (h : Nat) (r : Nat → Nat) (cZ cI : ClassId) (S : St_) (k : Int) (id : Nat) (a d pe : Int) (hk : 0 ≤ k ∧ k ≤ 2) (hid : id < 13) (hv : vlB_ S) (hc : 1 ≤ a ∧ a ≤ d ∧ d ≤ pe) (hp : okp_ pe) : MI_ l D [(cZ, .boolean), (cI, .int)] (wB_ h r cI) yB_takes kB_takes 6 (some .boolean) 2 S [.ref h, .int (iI k), .int (iI ((id : Nat) : Int)), .int (iI a), .int (iI d), .int (iI pe)] (fun x S' => bo_ x (tkB_ S k id a d pe) ∧ agM_ S S') := by
  refine MI_of (by decide) (Nat.le_of_ble_eq_true rfl) ?_
  intro p e s m below meth c A ls hC hI hr hlk hl
  have hl : lv_has ls 6 [(0, .ref h), (1, .int (iI k)), (2, .int (iI ((id : Nat) : Int))), (3, .int (iI a)), (4, .int (iI d)), (5, .int (iI pe))] := hl
  have hpe := hp
  refine rr_aload_n hC dB_takes_0 hl rfl 0 rfl ?_
  refine rr_iload_n hC dB_takes_1 hl rfl 1 rfl ?_
  refine rr_callv (na := 1) hC (wB_ h r cI) hI hl (cB_parts l D h r cZ cI S k hk hv) gB_B_parts (by decide +kernel) ⟨by decide, by decide⟩ rfl rfl rfl rfl (by decide) dB_takes_2 (fun T1 H locs hp hI => ?_)
  have hpr : prtB_ S k 12 T1 := hp
  refine rr_aload_n hC dB_takes_5 hl rfl 0 rfl ?_
  refine rB_get hC hI 7 (by decide) lB_7 rfl dB_takes_6 ?_
  refine rr_iload_n hC dB_takes_9 hl rfl 2 rfl ?_
  refine rr_iload_n hC dB_takes_10 hl rfl 3 rfl ?_
  refine rr_iast hC (wB_ h r cI) hI 7 7 1 rfl rfl (by decide) (by omega) rfl dB_takes_11 (fun H locs hI => ?_)
  refine rr_aload_n hC dB_takes_12 hl rfl 0 rfl ?_
  refine rB_get hC hI 8 (by decide) lB_8 rfl dB_takes_13 ?_
  refine rr_iload_n hC dB_takes_16 hl rfl 2 rfl ?_
  refine rr_iload hC dB_takes_17 hl 4 rfl ?_
  refine rr_iast hC (wB_ h r cI) hI 8 8 1 rfl rfl (by decide) (by omega) rfl dB_takes_19 (fun H locs hI => ?_)
  refine rr_aload_n hC dB_takes_20 hl rfl 0 rfl ?_
  refine rB_get hC hI 9 (by decide) lB_9 rfl dB_takes_21 ?_
  refine rr_iload_n hC dB_takes_24 hl rfl 2 rfl ?_
  refine rr_iload hC dB_takes_25 hl 5 rfl ?_
  refine rr_iast hC (wB_ h r cI) hI 9 9 1 rfl rfl (by decide) (by omega) rfl dB_takes_27 (fun H locs hI => ?_)
  refine rr_aload_n hC dB_takes_28 hl rfl 0 rfl ?_
  obtain ⟨hR, hsm⟩ := putB_R (id := id) hv hk.1 hpr hc hpe
  refine rr_calli (na := 0) hC (wB_ h r cI) hI hl (cB_runs l D h r cZ cI (putB_ T1 id a d pe) hR) gB_B_runs (by decide +kernel) ⟨by decide, by decide⟩ rfl rfl rfl rfl (by decide) dB_takes_29 (fun x2 T2 H locs hp hI => ?_)
  obtain ⟨⟨v, e1, hv01, hvp⟩, hag, -⟩ := hp
  subst e1
  exact rr_zret hC (wB_ h r cI) hI hr hlk (by rcases hv01 with rfl | rfl <;> decide +kernel) dB_takes_32 (⟨⟨v, rfl, hv01, hvp.trans ((ps_edf (okR_ok hR)).trans (ps_same_sched hsm))⟩, fun j hj => by rw [hag j (by omega), ← hpr.1 j (by omega) (by omega) (by omega)]; show putB_ T1 id a d pe j = T1 j; unfold putB_ up_; rw [if_neg (by omega), if_neg (by omega), if_neg (by omega)]⟩)
set_option maxRecDepth 100000 in
set_option maxHeartbeats 4000000 in
/-- place -/
theorem cB_place (l : Launch) (D : va_G) (h : Nat) (r : Nat → Nat) (cZ cI : ClassId) (S : St_) (id : Nat) (a i j : Int) (hid : id < 12) : MI_ l D [(cZ, .boolean), (cI, .int)] (wB_ h r cI) yB_place kB_place 5 (some .int) 0 S [.ref h, .int (iI ((id : Nat) : Int)), .int (iI a), .int (iI i), .int (iI j)] (fun x S' => x = iI (id : Int) ∧ S' = up_ (up_ (up_ S 4 id a) 5 id i) 6 id j) := by
  refine MI_of (by decide) (Nat.le_of_ble_eq_true rfl) ?_
  intro p e s m below meth c A ls hC hI hr hlk hl
  have hl : lv_has ls 5 [(0, .ref h), (1, .int (iI ((id : Nat) : Int))), (2, .int (iI a)), (3, .int (iI i)), (4, .int (iI j))] := hl
  refine rr_aload_n hC dB_place_0 hl rfl 0 rfl ?_
  refine rB_get hC hI 4 (by decide) lB_4 rfl dB_place_1 ?_
  refine rr_iload_n hC dB_place_4 hl rfl 1 rfl ?_
  refine rr_iload_n hC dB_place_5 hl rfl 2 rfl ?_
  refine rr_iast hC (wB_ h r cI) hI 4 4 1 rfl rfl (by decide) (by omega) rfl dB_place_6 (fun H locs hI => ?_)
  refine rr_aload_n hC dB_place_7 hl rfl 0 rfl ?_
  refine rB_get hC hI 5 (by decide) lB_5 rfl dB_place_8 ?_
  refine rr_iload_n hC dB_place_11 hl rfl 1 rfl ?_
  refine rr_iload_n hC dB_place_12 hl rfl 3 rfl ?_
  refine rr_iast hC (wB_ h r cI) hI 5 5 1 rfl rfl (by decide) (by omega) rfl dB_place_13 (fun H locs hI => ?_)
  refine rr_aload_n hC dB_place_14 hl rfl 0 rfl ?_
  refine rB_get hC hI 6 (by decide) lB_6 rfl dB_place_15 ?_
  refine rr_iload_n hC dB_place_18 hl rfl 1 rfl ?_
  refine rr_iload hC dB_place_19 hl 4 rfl ?_
  refine rr_iast hC (wB_ h r cI) hI 6 6 1 rfl rfl (by decide) (by omega) rfl dB_place_21 (fun H locs hI => ?_)
  refine rr_iload_n hC dB_place_22 hl rfl 1 rfl ?_
  exact rr_iret hC (wB_ h r cI) hI hr hlk dB_place_23 (⟨rfl, rfl⟩)
end
section
/-! PURE: placing in B -/
abbrev tkfB_ (S : St_) (id : Nat) (pe : Int) : Int → Int → Int → Prop := fun k x y => tkB_ S k id x y pe
theorem agM_tk {S S' : St_} (h : agM_ S S') (k : Int) (id : Nat) (c d p : Int) : tkB_ S' k id c d p ↔ tkB_ S k id c d p := by
  obtain ⟨h1, h2, h3⟩ := agM_sys h k
  unfold tkB_; rw [h1, h2, h3]
def plB_ (S : St_) (id : Nat) (y i j : Int) (S1 : St_) : Prop := (∀ f, f < 7 → ∀ q, ¬ ((f = 4 ∨ f = 5 ∨ f = 6) ∧ q = id) → S1 f q = S f q) ∧ S1 4 id = y ∧ S1 5 id = i ∧ S1 6 id = (if j = -1 then -4 else j)
theorem plB_of {S S1 : St_} (h : agM_ S S1) (id : Nat) (y i j j2 : Int) (hj : j2 = (if j = -1 then -4 else j)) : plB_ S id y i j (up_ (up_ (up_ S1 4 id y) 5 id i) 6 id j2) := by
  refine ⟨fun f hf q hq => ?_, ?_, ?_, ?_⟩
  · rw [up_ne _ _ _ _ (by omega), up_ne _ _ _ _ (by omega), up_ne _ _ _ _ (by omega), h f hf]
  · rw [up_ne _ _ _ _ (by omega), up_ne _ _ _ _ (by omega), up_eq]
  · rw [up_ne _ _ _ _ (by omega), up_eq]
  · rw [up_eq]; exact hj
def dnB_ (S : St_) (id : Nat) (c d pe : Int) (S1 : St_) : Prop := ∃ y i j : Int, PL_ (tkfB_ S id pe) (S 0 0) c d y i j ∧ plB_ S id y i j S1
def dsB_ (S : St_) (id : Nat) (c d pe : Int) (P : Prop) (v : Int) (S1 : St_) : Prop := (v = -4 ∧ P ∧ agM_ S S1) ∨ (v = (id : Int) ∧ dnB_ S id c d pe S1)
theorem dsB_4 {S : St_} {id : Nat} {c d pe v : Int} {P : Prop} {S1 : St_} (h : dsB_ S id c d pe P v S1) (hv : v = -4) : P ∧ agM_ S S1 := by
  rcases h with ⟨-, h⟩ | ⟨h, -⟩
  · exact h
  · omega
theorem dsB_n {S : St_} {id : Nat} {c d pe v : Int} {P : Prop} {S1 : St_} (h : dsB_ S id c d pe P v S1) (hv : ¬ v = -4) (P' : Prop) : dsB_ S id c d pe P' v S1 := by
  rcases h with ⟨h, -⟩ | h
  · exact absurd h hv
  · exact Or.inr h
theorem dsB_w {S : St_} {id : Nat} {c d pe v : Int} {P P' : Prop} {S1 : St_} (h : dsB_ S id c d pe P v S1) (hp : P → P') : dsB_ S id c d pe P' v S1 := by
  rcases h with ⟨h, h2, h3⟩ | h
  · exact Or.inl ⟨h, hp h2, h3⟩
  · exact Or.inr h
theorem dsB_r {S : St_} {id : Nat} {c d pe v : Int} {P : Prop} {S1 : St_} (h : dsB_ S id c d pe P v S1) : v = -4 ∨ v = (id : Int) := by
  rcases h with h | h
  · exact Or.inl h.1
  · exact Or.inr h.1
theorem dsB_0 {S : St_} {id : Nat} {c d pe v : Int} {P : Prop} {S1 : St_} (h : dsB_ S id c d pe P v S1) : S1 0 0 = S 0 0 := by
  rcases h with ⟨-, -, h⟩ | ⟨-, y, i, j, -, h⟩
  · rw [h 0 (by omega)]
  · exact h.1 0 (by omega) 0 (by omega)
def finB_ (S : St_) (id : Nat) (c d p y i j : Int) (S' : St_) : Prop := (∀ q, S' 0 q = S 0 q) ∧ (∀ f, f < 7 → ∀ q, q ≠ id → S' f q = S f q) ∧ S' 1 id = p ∧ S' 2 id = c ∧ S' 3 id = d ∧ S' 4 id = y ∧ S' 5 id = i ∧ S' 6 id = (if j = -1 then -4 else j)
theorem finB_of {S S1 : St_} {id : Nat} {c d p y i j : Int} (h : plB_ S id y i j S1) : finB_ S id c d p y i j (up_ (up_ (up_ S1 1 id p) 2 id c) 3 id d) := by
  obtain ⟨h1, h2, h3, h4⟩ := h
  refine ⟨fun q => ?_, fun f hf q hq => ?_, ?_, ?_, ?_, ?_, ?_, ?_⟩
  · rw [up_ne _ _ _ _ (by omega), up_ne _ _ _ _ (by omega), up_ne _ _ _ _ (by omega)]; exact h1 0 (by omega) q (by omega)
  · rw [up_ne _ _ _ _ (by omega), up_ne _ _ _ _ (by omega), up_ne _ _ _ _ (by omega)]; exact h1 f hf q (by omega)
  · rw [up_ne _ _ _ _ (by omega), up_ne _ _ _ _ (by omega), up_eq]
  · rw [up_ne _ _ _ _ (by omega), up_eq]
  · rw [up_eq]
  · rw [up_ne _ _ _ _ (by omega), up_ne _ _ _ _ (by omega), up_ne _ _ _ _ (by omega)]; exact h2
  · rw [up_ne _ _ _ _ (by omega), up_ne _ _ _ _ (by omega), up_ne _ _ _ _ (by omega)]; exact h3
  · rw [up_ne _ _ _ _ (by omega), up_ne _ _ _ _ (by omega), up_ne _ _ _ _ (by omega)]; exact h4
def admB_ (S : St_) (c d p : Int) (x : Int32) (S' : St_) : Prop :=
  (¬ okp_ p ∧ x = iI (-1) ∧ S' = S) ∨ (okp_ p ∧ ¬ okc_ c d p ∧ x = iI (-2) ∧ S' = S) ∨ (okp_ p ∧ okc_ c d p ∧ cnB_ S = 12 ∧ x = iI (-3) ∧ S' = S) ∨
  (okp_ p ∧ okc_ c d p ∧ cnB_ S ≠ 12 ∧ ∃ id : Nat, id < 12 ∧ ffB_ S id ∧ ((x = iI (-4) ∧ NP_ (tkfB_ S id p) (S 0 0) c d ∧ agM_ S S') ∨ (x = iI (id : Int) ∧ ∃ y i j : Int, PL_ (tkfB_ S id p) (S 0 0) c d y i j ∧ finB_ S id c d p y i j S')))
theorem cnB_full {S : St_} (h : ∀ j, j < 12 → S 1 j ≠ 0) : cnB_ S = 12 := by
  have : cnB_ S = ps_sum (fun _ => 1) 12 := ps_sum_congr 12 (fun i hi => by simp [h i hi])
  rw [this]
  decide
theorem cnB_le (S : St_) : cnB_ S ≤ 12 := Nat.le_trans (ps_sum_bd (M := 1) 12 (fun i hi => by split <;> omega)) (by decide)
theorem ffB_lt {S : St_} {id : Nat} (h12 : id ≤ 12) (hf : ffB_ S id) (hc : cnB_ S ≠ 12) : id < 12 := by
  rcases Nat.lt_or_ge id 12 with z | z
  · exact z
  · have : id = 12 := by omega
    subst this
    exact absurd (cnB_full hf.1) hc
def sprB_ (S : St_) (k p : Int) (x : Int32) (S' : St_) : Prop :=
  (¬ (0 ≤ k ∧ k < S 0 0) ∧ x = iI (-6) ∧ S' = S) ∨ ((0 ≤ k ∧ k < S 0 0) ∧ ¬ okp_ p ∧ x = iI (-1) ∧ S' = S) ∨
  ((0 ≤ k ∧ k < S 0 0) ∧ okp_ p ∧ ∃ id : Nat, id ≤ 12 ∧ ffB_ S id ∧ agM_ S S' ∧ ∃ v : Int, x = iI v ∧ 0 ≤ v ∧ v ≤ p ∧ (v = 0 ∨ tkB_ S k id v p p) ∧ ∀ z : Int, v < z → z ≤ p → ¬ tkB_ S k id z p p)
def sdB_ (S : St_) : Prop := ∀ k : Int, 0 ≤ k → k < S 0 0 → schB_ S k
def lB_f (S : St_) (k : Int) (i : Nat) : Nat := cB_ S k i * (60 / pB_ S i)
theorem load_B {S : St_} (hv : vlB_ S) {k : Int} (hk : 0 ≤ k) : ps_sum (lB_f S k) 12 = ps_dem (cB_ S k) (dB_ S k) (pB_ S) 60 := by
  have hok := okB_ hv hk
  show _ = ps_sum (fun i => ps_N (dB_ S k) (pB_ S) 60 i * cB_ S k i) 12 + ps_N (dB_ S k) (pB_ S) 60 12 * cB_ S k 12
  have h12 : cB_ S k 12 = 0 := by unfold cB_; rw [if_neg (by omega), if_neg (by omega)]
  rw [h12, Nat.mul_zero, Nat.add_zero]
  refine ps_sum_congr 12 (fun i hi => ?_)
  show cB_ S k i * (60 / pB_ S i) = ps_N (dB_ S k) (pB_ S) 60 i * cB_ S k i
  rcases Nat.eq_zero_or_pos (cB_ S k i) with z | z
  · rw [z, Nat.zero_mul, Nat.mul_zero]
  · obtain ⟨a1, a2, a3, a4, a5⟩ := hok i (by omega) z
    rw [ps_N_60 (by omega) a2 a3 a4 a5, Nat.mul_comm]
theorem lB_step {S T : St_} {k : Int} {i : Nat} (h : T 7 i = (cB_ S k i : Int)) (h9 : T 9 i = (pB_ S i : Int)) : ((ps_sum (lB_f S k) i : Nat) : Int) + T 7 i * (((60 : Nat) : Int) / T 9 i) = ((ps_sum (lB_f S k) (i + 1) : Nat) : Int) := by
  show _ = ((ps_sum (lB_f S k) i + cB_ S k i * (60 / pB_ S i) : Nat) : Int)
  rw [h, h9, Int.natCast_add, Int.natCast_mul, Int.natCast_ediv]
theorem lB_skip {S : St_} {k : Int} {i : Nat} (h : cB_ S k i = 0) : ps_sum (lB_f S k) i = ps_sum (lB_f S k) (i + 1) := by
  show _ = ps_sum (lB_f S k) i + cB_ S k i * (60 / pB_ S i)
  rw [h, Nat.zero_mul, Nat.add_zero]
end
section
theorem up1_v {S : St_} (hv : vlB_ S) (i : Nat) : vlB_ (up_ S 1 i ((0 : Nat) : Int)) := by
  refine ⟨hv.1, fun j hj => ?_⟩
  obtain ⟨a, b, c⟩ := hv.2 j hj
  unfold rwB_
  refine ⟨a, ?_, fun h => ?_⟩
  · rw [up_at]; split <;> omega
  · have hne : ¬ ((1 : Nat) = 1 ∧ j = i) := fun z => by rw [up_at, if_pos z] at h; omega
    rw [up_ne _ _ _ _ hne] at h ⊢
    exact c h
/-! B: the public methods, walked by program -/
set_option maxRecDepth 100000 in
set_option maxHeartbeats 4000000 in
/-- second -/
theorem cB_second (l : Launch) (D : va_G) (h : Nat) (r : Nat → Nat) (cZ cI : ClassId) (S : St_) (o : Int) (id : Nat) (a d pe : Int) (hid : id < 13) (hv : vlB_ S) (ho : 0 ≤ o ∧ o ≤ 2) (hc : 1 ≤ a ∧ a ≤ d ∧ d ≤ pe) (hokp : okp_ pe) : MI_ l D [(cZ, .boolean), (cI, .int)] (wB_ h r cI) yB_second kB_second 7 (some .int) 3 S [.ref h, .int (iI o), .int (iI ((id : Nat) : Int)), .int (iI a), .int (iI d), .int (iI pe)] (fun x S' => (∃ v : Int, x = iI v ∧ ((0 ≤ v ∧ v < S 0 0 ∧ v ≠ o ∧ tkB_ S v id a d pe ∧ ∀ j : Int, 0 ≤ j → j < v → j ≠ o → ¬ tkB_ S j id a d pe) ∨ (v = -4 ∧ ∀ j : Int, 0 ≤ j → j < S 0 0 → j ≠ o → ¬ tkB_ S j id a d pe))) ∧ agM_ S S') := by
  refine MI_of (by decide) (Nat.le_of_ble_eq_true rfl) ?_
  intro p e s m below meth c A ls hC hI hr hlk hl
  have hl : lv_has ls 7 [(0, .ref h), (1, .int (iI o)), (2, .int (iI ((id : Nat) : Int))), (3, .int (iI a)), (4, .int (iI d)), (5, .int (iI pe))] := hl
  have hcr := hv.1
  have hpb := hokp.2.1
  have loop : ∀ (n : Nat) (i : Nat) (S1 : St_) (H : Heap) (locs : List Loc), (i : Int) ≤ S 0 0 → S 0 0 < (i : Int) + n → agM_ S S1 → (∀ j : Int, 0 ≤ j → j < (i : Int) → j ≠ o → ¬ tkB_ S j id a d pe) → In_ D A s.heap H locs (wB_ h r cI S1) → ∀ (ls : Array Slot), lv_has ls 7 [(0, .ref h), (1, .int (iI o)), (2, .int (iI ((id : Nat) : Int))), (3, .int (iI a)), (4, .int (iI d)), (5, .int (iI pe)), (6, .int (iI ((i : Nat) : Int)))] → W p l e (rm_ 3) s m [.ref h, .int (iI o), .int (iI ((id : Nat) : Int)), .int (iI a), .int (iI d), .int (iI pe)].toArray below meth c H locs 0 0 (EQ_ D [(cZ, .boolean), (cI, .int)] (wB_ h r cI) S s below [.ref h, .int (iI o), .int (iI ((id : Nat) : Int)), .int (iI a), .int (iI d), .int (iI pe)].toArray A (fun x S' => (∃ v : Int, x = iI v ∧ ((0 ≤ v ∧ v < S 0 0 ∧ v ≠ o ∧ tkB_ S v id a d pe ∧ ∀ j : Int, 0 ≤ j → j < v → j ≠ o → ¬ tkB_ S j id a d pe) ∨ (v = -4 ∧ ∀ j : Int, 0 ≤ j → j < S 0 0 → j ≠ o → ¬ tkB_ S j id a d pe))) ∧ agM_ S S')) (F0 m 3 ls []) := by
    intro n
    induction n with
    | zero => intros; omega
    | succ n ih =>
      intro i S1 H locs hi hn hag hno hI ls hl
      refine rr_iload hC dB_second_3 hl 6 rfl ?_
      have hn0 : S1 0 0 = S 0 0 := by rw [hag 0 (by omega)]
      refine rr_aload_n hC dB_second_5 hl rfl 0 rfl ?_
      refine rB_get hC hI 0 (by decide) lB_0 rfl dB_second_6 ?_
      refine rr_icmp_ge hC 42 dB_second_9 (by decide) (by omega) (by omega) (fun c1 => ?_) (fun c1 => ?_)
      · refine rr_bipush (v := (-4 : Int)) hC dB_second_42 (by decide) ?_
        exact rr_iret hC (wB_ h r cI) hI hr hlk dB_second_44 (⟨⟨-4, rfl, Or.inr ⟨rfl, fun j h0 h1 h2 => hno j h0 (by omega) h2⟩⟩, hag⟩)
      · refine rr_iload hC dB_second_12 hl 6 rfl ?_
        refine rr_iload_n hC dB_second_14 hl rfl 1 rfl ?_
        refine rr_icmp_eq hC 36 dB_second_15 (by decide) (by omega) (by omega) (fun c2 => ?_) (fun c2 => ?_)
        · refine rr_iinc (v := ((i + 1 : Nat) : Int)) (lv' := [(6, .int (iI ((i + 1 : Nat) : Int))), (0, .ref h), (1, .int (iI o)), (2, .int (iI ((id : Nat) : Int))), (3, .int (iI a)), (4, .int (iI d)), (5, .int (iI pe))]) hC dB_second_36 hl 6 rfl (by omega) (by decide) rfl (fun ls hl => ?_)
          refine rr_goto hC 3 dB_second_39 (by decide) ?_
          exact ih (i + 1) S1 H locs (by omega) (by omega) hag (fun j h0 h1 h2 => by
              by_cases z : j = (i : Int)
              · subst z; exfalso; omega
              · exact hno j h0 (by omega) h2) hI ls (lv_sub hl [1, 2, 3, 4, 5, 6, 0] rfl)
        · refine rr_aload_n hC dB_second_18 hl rfl 0 rfl ?_
          refine rr_iload hC dB_second_19 hl 6 rfl ?_
          refine rr_iload_n hC dB_second_21 hl rfl 2 rfl ?_
          refine rr_iload_n hC dB_second_22 hl rfl 3 rfl ?_
          refine rr_iload hC dB_second_23 hl 4 rfl ?_
          refine rr_iload hC dB_second_25 hl 5 rfl ?_
          refine rr_calli (na := 5) hC (wB_ h r cI) hI hl (cB_takes l D h r cZ cI S1 ((i : Nat) : Int) id a d pe (by omega) (by omega) (agM_v hag hv) (by omega) hokp) gB_B_takes (by decide +kernel) ⟨by decide, by decide⟩ rfl rfl rfl rfl (by decide) dB_second_27 (fun x3 T4 H locs hp hI => ?_)
          obtain ⟨⟨v5, e1, hv01, hvp⟩, hag2⟩ := hp
          subst e1
          rw [agM_tk hag] at hvp
          replace hag := agM_tr hag hag2
          refine rr_if_eq hC 36 dB_second_30 (by decide) (by omega) (fun c6 => ?_) (fun c6 => ?_)
          · refine rr_iinc (v := ((i + 1 : Nat) : Int)) (lv' := [(6, .int (iI ((i + 1 : Nat) : Int))), (0, .ref h), (1, .int (iI o)), (2, .int (iI ((id : Nat) : Int))), (3, .int (iI a)), (4, .int (iI d)), (5, .int (iI pe))]) hC dB_second_36 hl 6 rfl (by omega) (by decide) rfl (fun ls hl => ?_)
            refine rr_goto hC 3 dB_second_39 (by decide) ?_
            exact ih (i + 1) T4 H locs (by omega) (by omega) hag (fun j h0 h1 h2 => by
                by_cases z : j = (i : Int)
                · subst z; exact fun y => by have := hvp.mpr y; omega
                · exact hno j h0 (by omega) h2) hI ls (lv_sub hl [1, 2, 3, 4, 5, 6, 0] rfl)
          · refine rr_iload hC dB_second_33 hl 6 rfl ?_
            exact rr_iret hC (wB_ h r cI) hI hr hlk dB_second_35 (⟨⟨(i : Int), rfl, Or.inl ⟨by omega, by omega, by omega, hvp.mp (by omega), hno⟩⟩, hag⟩)
  refine rr_iconst (v := ((0 : Nat) : Int)) hC dB_second_0 rfl ?_
  refine rr_istore (lv' := [(6, .int (iI ((0 : Nat) : Int))), (0, .ref h), (1, .int (iI o)), (2, .int (iI ((id : Nat) : Int))), (3, .int (iI a)), (4, .int (iI d)), (5, .int (iI pe))]) hC dB_second_1 hl (by decide) rfl (fun ls hl => ?_)
  exact loop 4 0 S _ _ (by omega) (by omega) (agM_rf S) (fun j h0 h1 => by omega) hI ls (lv_sub hl [1, 2, 3, 4, 5, 6, 0] rfl)
set_option maxRecDepth 100000 in
set_option maxHeartbeats 4000000 in
/-- a new task -/
theorem cB_admit (l : Launch) (D : va_G) (h : Nat) (r : Nat → Nat) (cZ cI : ClassId) (S : St_) (ca da pa : Int) (hca : -2147483648 ≤ ca ∧ ca ≤ 2147483647) (hda : -2147483648 ≤ da ∧ da ≤ 2147483647) (hpa : -2147483648 ≤ pa ∧ pa ≤ 2147483647) (hv : vlB_ S) : MI_ l D [(cZ, .boolean), (cI, .int)] (wB_ h r cI) yB_admit kB_admit 9 (some .int) 4 S [.ref h, .int (iI ca), .int (iI da), .int (iI pa)] (fun x S' => admB_ S ca da pa x S') := by
  refine MI_of (by decide) (Nat.le_of_ble_eq_true rfl) ?_
  intro p e s m below meth c A ls hC hI hr hlk hl
  have hl : lv_has ls 9 [(0, .ref h), (1, .int (iI ca)), (2, .int (iI da)), (3, .int (iI pa))] := hl
  have hcr := hv.1
  have hcn := cnB_le S
  refine rr_aload_n hC dB_admit_0 hl rfl 0 rfl ?_
  refine rr_iload_n hC dB_admit_1 hl rfl 3 rfl ?_
  refine rr_calli (na := 1) hC (wB_ h r cI) hI hl (cB_badPeriod l D h r cZ cI S pa (by omega)) gB_B_badPeriod (by decide +kernel) ⟨by decide, by decide⟩ rfl rfl rfl rfl (by decide) dB_admit_2 (fun x1 T2 H locs hp hI => ?_)
  obtain ⟨⟨b3, e1, b3_01, b3_p⟩, e2⟩ := hp
  subst e1
  rw [e2] at hI
  refine rr_if_eq hC 10 dB_admit_5 (by decide) (by omega) (fun c4 => ?_) (fun c4 => ?_)
  · have hokp : okp_ pa := Classical.byContradiction (fun z => by have := b3_p.mpr z; omega)
    obtain ⟨q1, q2, q3⟩ := id hokp
    refine rr_iload_n hC dB_admit_10 hl rfl 1 rfl ?_
    refine rr_iconst (v := ((1 : Nat) : Int)) hC dB_admit_11 rfl ?_
    refine rr_icmp_lt hC 35 dB_admit_12 (by decide) (by omega) (by omega) (fun c5 => ?_) (fun c5 => ?_)
    · refine rr_bipush (v := (-2 : Int)) hC dB_admit_35 (by decide) ?_
      exact rr_iret hC (wB_ h r cI) hI hr hlk dB_admit_37 (Or.inr (Or.inl ⟨hokp, fun z => by obtain ⟨z1, z2, z3⟩ := z; omega, rfl, rfl⟩))
    · refine rr_iload_n hC dB_admit_15 hl rfl 1 rfl ?_
      refine rr_iload_n hC dB_admit_16 hl rfl 3 rfl ?_
      refine rr_icmp_gt hC 35 dB_admit_17 (by decide) (by omega) (by omega) (fun c6 => ?_) (fun c6 => ?_)
      · refine rr_bipush (v := (-2 : Int)) hC dB_admit_35 (by decide) ?_
        exact rr_iret hC (wB_ h r cI) hI hr hlk dB_admit_37 (Or.inr (Or.inl ⟨hokp, fun z => by obtain ⟨z1, z2, z3⟩ := z; omega, rfl, rfl⟩))
      · refine rr_iload_n hC dB_admit_20 hl rfl 2 rfl ?_
        refine rr_iconst (v := ((1 : Nat) : Int)) hC dB_admit_21 rfl ?_
        refine rr_icmp_lt hC 35 dB_admit_22 (by decide) (by omega) (by omega) (fun c7 => ?_) (fun c7 => ?_)
        · refine rr_bipush (v := (-2 : Int)) hC dB_admit_35 (by decide) ?_
          exact rr_iret hC (wB_ h r cI) hI hr hlk dB_admit_37 (Or.inr (Or.inl ⟨hokp, fun z => by obtain ⟨z1, z2, z3⟩ := z; omega, rfl, rfl⟩))
        · refine rr_iload_n hC dB_admit_25 hl rfl 2 rfl ?_
          refine rr_iload_n hC dB_admit_26 hl rfl 3 rfl ?_
          refine rr_icmp_gt hC 35 dB_admit_27 (by decide) (by omega) (by omega) (fun c8 => ?_) (fun c8 => ?_)
          · refine rr_bipush (v := (-2 : Int)) hC dB_admit_35 (by decide) ?_
            exact rr_iret hC (wB_ h r cI) hI hr hlk dB_admit_37 (Or.inr (Or.inl ⟨hokp, fun z => by obtain ⟨z1, z2, z3⟩ := z; omega, rfl, rfl⟩))
          · refine rr_iload_n hC dB_admit_30 hl rfl 1 rfl ?_
            refine rr_iload_n hC dB_admit_31 hl rfl 2 rfl ?_
            refine rr_icmp_le hC 38 dB_admit_32 (by decide) (by omega) (by omega) (fun c9 => ?_) (fun c9 => ?_)
            · refine rr_aload_n hC dB_admit_38 hl rfl 0 rfl ?_
              refine rr_calli (na := 0) hC (wB_ h r cI) hI hl (cB_count l D h r cZ cI S hv) gB_B_count (by decide +kernel) ⟨by decide, by decide⟩ rfl rfl rfl rfl (by decide) dB_admit_39 (fun x1 T1 H locs hp hI => ?_)
              obtain ⟨e1, e2⟩ := hp
              subst e1
              rw [e2] at hI
              refine rr_bipush (v := ((12 : Nat) : Int)) hC dB_admit_42 (by decide) ?_
              refine rr_icmp_ne hC 50 dB_admit_44 (by decide) (by omega) (by omega) (fun c10 => ?_) (fun c10 => ?_)
              · refine rr_aload_n hC dB_admit_50 hl rfl 0 rfl ?_
                refine rr_calli (na := 0) hC (wB_ h r cI) hI hl (cB_freeId l D h r cZ cI S hv) gB_B_freeId (by decide +kernel) ⟨by decide, by decide⟩ rfl rfl rfl rfl (by decide) dB_admit_51 (fun x2 T2 H locs hp hI => ?_)
                obtain ⟨⟨id, e1, hid, hff⟩, e2⟩ := hp
                subst e1
                rw [e2] at hI
                refine rr_istore (lv' := [(4, .int (iI ((id : Nat) : Int))), (0, .ref h), (1, .int (iI ca)), (2, .int (iI da)), (3, .int (iI pa))]) hC dB_admit_54 hl (by decide) rfl (fun ls hl => ?_)
                replace hid : id < 12 := ffB_lt hid hff (by omega)
                refine rr_bipush (v := (-4 : Int)) hC dB_admit_56 (by decide) ?_
                refine rr_istore (lv' := [(5, .int (iI (-4 : Int))), (4, .int (iI ((id : Nat) : Int))), (0, .ref h), (1, .int (iI ca)), (2, .int (iI da)), (3, .int (iI pa))]) hC dB_admit_58 hl (by decide) rfl (fun ls hl => ?_)
                refine rr_iconst (v := ((0 : Nat) : Int)) hC dB_admit_60 rfl ?_
                refine rr_istore (lv' := [(6, .int (iI ((0 : Nat) : Int))), (5, .int (iI (-4 : Int))), (4, .int (iI ((id : Nat) : Int))), (0, .ref h), (1, .int (iI ca)), (2, .int (iI da)), (3, .int (iI pa))]) hC dB_admit_61 hl (by decide) rfl (fun ls hl => ?_)
                have outer : ∀ (n : Nat) (v xv : Int) (S1 : St_) (H : Heap) (locs : List Loc), xv < (n : Int) → 0 ≤ xv ∧ xv < ca → dsB_ S id ca da pa (nW_ (tkfB_ S id pa) (S 0 0) ca da ∧ nX_ (tkfB_ S id pa) (S 0 0) ca da xv) v S1 → In_ D A s.heap H locs (wB_ h r cI S1) → ∀ (ls : Array Slot), lv_has ls 9 [(0, .ref h), (1, .int (iI ca)), (2, .int (iI da)), (3, .int (iI pa)), (4, .int (iI ((id : Nat) : Int))), (5, .int (iI v)), (6, .int (iI xv))] → W p l e (rm_ 4) s m [.ref h, .int (iI ca), .int (iI da), .int (iI pa)].toArray below meth c H locs 0 0 (EQ_ D [(cZ, .boolean), (cI, .int)] (wB_ h r cI) S s below [.ref h, .int (iI ca), .int (iI da), .int (iI pa)].toArray A (fun x S' => admB_ S ca da pa x S')) (F0 m 117 ls []) := by
                  intro n
                  induction n with
                  | zero => intros; omega
                  | succ n ih0 =>
                    intro v xv S1 H locs hfu hxv hds hI ls hl
                    refine rr_iload hC dB_admit_117 hl 6 rfl ?_
                    refine rr_if_le hC 214 dB_admit_119 (by decide) (by omega) (fun c11 => ?_) (fun c11 => ?_)
                    · have hvr := dsB_r hds
                      refine rr_iload hC dB_admit_214 hl 5 rfl ?_
                      refine rr_bipush (v := (-4 : Int)) hC dB_admit_216 (by decide) ?_
                      refine rr_icmp_eq hC 245 dB_admit_218 (by decide) (by omega) (by omega) (fun c12 => ?_) (fun c12 => ?_)
                      · refine rr_iload hC dB_admit_245 hl 5 rfl ?_
                        exact rr_iret hC (wB_ h r cI) hI hr hlk dB_admit_247 (by
                          obtain ⟨⟨y1, y2⟩, y3⟩ := dsB_4 hds (by omega)
                          refine Or.inr (Or.inr (Or.inr ⟨hokp, ⟨by omega, by omega, by omega⟩, by omega, id, hid, hff, Or.inl ⟨by rw [show v = -4 by omega], ⟨y1, ?_⟩, y3⟩⟩))
                          rw [show (0 : Int) = xv by omega]
                          exact y2)
                      · refine rr_aload_n hC dB_admit_221 hl rfl 0 rfl ?_
                        refine rB_get hC hI 1 (by decide) lB_1 rfl dB_admit_222 ?_
                        refine rr_iload hC dB_admit_225 hl 4 rfl ?_
                        refine rr_iload_n hC dB_admit_227 hl rfl 3 rfl ?_
                        refine rr_iast hC (wB_ h r cI) hI 1 1 1 rfl rfl (by decide) (by omega) rfl dB_admit_228 (fun H locs hI => ?_)
                        refine rr_aload_n hC dB_admit_229 hl rfl 0 rfl ?_
                        refine rB_get hC hI 2 (by decide) lB_2 rfl dB_admit_230 ?_
                        refine rr_iload hC dB_admit_233 hl 4 rfl ?_
                        refine rr_iload_n hC dB_admit_235 hl rfl 1 rfl ?_
                        refine rr_iast hC (wB_ h r cI) hI 2 2 1 rfl rfl (by decide) (by omega) rfl dB_admit_236 (fun H locs hI => ?_)
                        refine rr_aload_n hC dB_admit_237 hl rfl 0 rfl ?_
                        refine rB_get hC hI 3 (by decide) lB_3 rfl dB_admit_238 ?_
                        refine rr_iload hC dB_admit_241 hl 4 rfl ?_
                        refine rr_iload_n hC dB_admit_243 hl rfl 2 rfl ?_
                        refine rr_iast hC (wB_ h r cI) hI 3 3 1 rfl rfl (by decide) (by omega) rfl dB_admit_244 (fun H locs hI => ?_)
                        refine rr_iload hC dB_admit_245 hl 5 rfl ?_
                        exact rr_iret hC (wB_ h r cI) hI hr hlk dB_admit_247 (by
                          rcases hds with hds | ⟨h1, y, i, j, h2, h3⟩
                          · omega
                          · exact Or.inr (Or.inr (Or.inr ⟨hokp, ⟨by omega, by omega, by omega⟩, by omega, id, hid, hff, Or.inr ⟨by rw [h1], y, i, j, h2, finB_of h3⟩⟩)))
                    · refine rr_iconst (v := ((0 : Nat) : Int)) hC dB_admit_122 rfl ?_
                      refine rr_istore (lv' := [(7, .int (iI ((0 : Nat) : Int))), (0, .ref h), (1, .int (iI ca)), (2, .int (iI da)), (3, .int (iI pa)), (4, .int (iI ((id : Nat) : Int))), (5, .int (iI v)), (6, .int (iI xv))]) hC dB_admit_123 hl (by decide) rfl (fun ls hl => ?_)
                      have inner : ∀ (n : Nat) (i : Nat) (v : Int) (S1 : St_) (H : Heap) (locs : List Loc), (i : Int) ≤ S 0 0 → S 0 0 < (i : Int) + n → dsB_ S id ca da pa ((nW_ (tkfB_ S id pa) (S 0 0) ca da ∧ nX_ (tkfB_ S id pa) (S 0 0) ca da xv) ∧ ∀ q : Int, 0 ≤ q → q < (i : Int) → ¬ Gd_ (tkfB_ S id pa) (S 0 0) ca da xv q) v S1 → In_ D A s.heap H locs (wB_ h r cI S1) → ∀ (ls : Array Slot), lv_has ls 9 [(0, .ref h), (1, .int (iI ca)), (2, .int (iI da)), (3, .int (iI pa)), (4, .int (iI ((id : Nat) : Int))), (5, .int (iI v)), (6, .int (iI xv)), (7, .int (iI ((i : Nat) : Int)))] → W p l e (rm_ 4) s m [.ref h, .int (iI ca), .int (iI da), .int (iI pa)].toArray below meth c H locs 0 0 (EQ_ D [(cZ, .boolean), (cI, .int)] (wB_ h r cI) S s below [.ref h, .int (iI ca), .int (iI da), .int (iI pa)].toArray A (fun x S' => admB_ S ca da pa x S')) (F0 m 125 ls []) := by
                        intro n
                        induction n with
                        | zero => intros; omega
                        | succ n ih =>
                          intro i v S1 H locs hi hn hds hI ls hl
                          refine rr_iload hC dB_admit_125 hl 7 rfl ?_
                          have hn0 := dsB_0 hds
                          have hvr := dsB_r hds
                          refine rr_aload_n hC dB_admit_127 hl rfl 0 rfl ?_
                          refine rB_get hC hI 0 (by decide) lB_0 rfl dB_admit_128 ?_
                          refine rr_icmp_ge hC 208 dB_admit_131 (by decide) (by omega) (by omega) (fun c13 => ?_) (fun c13 => ?_)
                          · refine rr_iinc (v := xv - 1) (lv' := [(6, .int (iI (xv - 1))), (0, .ref h), (1, .int (iI ca)), (2, .int (iI da)), (3, .int (iI pa)), (4, .int (iI ((id : Nat) : Int))), (5, .int (iI v)), (7, .int (iI ((i : Nat) : Int)))]) hC dB_admit_208 hl 6 rfl (by omega) (by decide) rfl (fun ls hl => ?_)
                            refine rr_goto hC 117 dB_admit_211 (by decide) ?_
                            exact ih0 v (xv - 1) S1 H locs (by omega) (by omega) (dsB_w hds (fun z => ⟨z.1.1, fun x z1 z2 q q0 q1 => by
                                by_cases e : x = xv
                                · subst e; exact z.2 q q0 (by omega)
                                · exact z.1.2 x (by omega) z2 q q0 q1⟩)) hI ls (lv_sub hl [1, 2, 3, 4, 5, 6, 0] rfl)
                          · refine rr_iload hC dB_admit_134 hl 5 rfl ?_
                            refine rr_bipush (v := (-4 : Int)) hC dB_admit_136 (by decide) ?_
                            refine rr_icmp_ne hC 202 dB_admit_138 (by decide) (by omega) (by omega) (fun c14 => ?_) (fun c14 => ?_)
                            · refine rr_iinc (v := ((i + 1 : Nat) : Int)) (lv' := [(7, .int (iI ((i + 1 : Nat) : Int))), (0, .ref h), (1, .int (iI ca)), (2, .int (iI da)), (3, .int (iI pa)), (4, .int (iI ((id : Nat) : Int))), (5, .int (iI v)), (6, .int (iI xv))]) hC dB_admit_202 hl 7 rfl (by omega) (by decide) rfl (fun ls hl => ?_)
                              refine rr_goto hC 125 dB_admit_205 (by decide) ?_
                              exact ih (i + 1) v S1 H locs (by omega) (by omega) (dsB_n hds (by omega) _) hI ls (lv_sub hl [1, 2, 3, 4, 5, 6, 7, 0] rfl)
                            · obtain ⟨⟨⟨y1, y2⟩, y3⟩, hag⟩ := dsB_4 hds (by omega)
                              refine rr_aload_n hC dB_admit_141 hl rfl 0 rfl ?_
                              refine rr_iload hC dB_admit_142 hl 7 rfl ?_
                              refine rr_iload hC dB_admit_144 hl 4 rfl ?_
                              refine rr_iload hC dB_admit_146 hl 6 rfl ?_
                              refine rr_iload hC dB_admit_148 hl 6 rfl ?_
                              refine rr_iload_n hC dB_admit_150 hl rfl 3 rfl ?_
                              refine rr_calli (na := 5) hC (wB_ h r cI) hI hl (cB_takes l D h r cZ cI S1 ((i : Nat) : Int) id xv xv pa (by omega) (by omega) (agM_v hag hv) (by omega) hokp) gB_B_takes (by decide +kernel) ⟨by decide, by decide⟩ rfl rfl rfl rfl (by decide) dB_admit_151 (fun x15 T16 H locs hp hI => ?_)
                              obtain ⟨⟨v17, e1, hv01, hvp⟩, hag2⟩ := hp
                              subst e1
                              rw [agM_tk hag] at hvp
                              replace hag := agM_tr hag hag2
                              refine rr_if_eq hC 202 dB_admit_154 (by decide) (by omega) (fun c18 => ?_) (fun c18 => ?_)
                              · refine rr_iinc (v := ((i + 1 : Nat) : Int)) (lv' := [(7, .int (iI ((i + 1 : Nat) : Int))), (0, .ref h), (1, .int (iI ca)), (2, .int (iI da)), (3, .int (iI pa)), (4, .int (iI ((id : Nat) : Int))), (5, .int (iI v)), (6, .int (iI xv))]) hC dB_admit_202 hl 7 rfl (by omega) (by decide) rfl (fun ls hl => ?_)
                                refine rr_goto hC 125 dB_admit_205 (by decide) ?_
                                exact ih (i + 1) v T16 H locs (by omega) (by omega) (Or.inl ⟨by omega, ⟨⟨y1, y2⟩, fun q h0 h1 => by
                                    by_cases z : q = (i : Int)
                                    · subst z; exact fun y => by have := hvp.mpr y.1; omega
                                    · exact y3 q h0 (by omega)⟩, hag⟩) hI ls (lv_sub hl [1, 2, 3, 4, 5, 6, 7, 0] rfl)
                              · refine rr_aload_n hC dB_admit_157 hl rfl 0 rfl ?_
                                refine rr_iload hC dB_admit_158 hl 7 rfl ?_
                                refine rr_iload hC dB_admit_160 hl 4 rfl ?_
                                refine rr_iload_n hC dB_admit_162 hl rfl 1 rfl ?_
                                refine rr_iload hC dB_admit_163 hl 6 rfl ?_
                                refine rr_isub hC dB_admit_165 ?_
                                refine rr_iload_n hC dB_admit_166 hl rfl 2 rfl ?_
                                refine rr_iload hC dB_admit_167 hl 6 rfl ?_
                                refine rr_isub hC dB_admit_169 ?_
                                refine rr_iload_n hC dB_admit_170 hl rfl 3 rfl ?_
                                refine rr_calli (na := 5) hC (wB_ h r cI) hI hl (cB_second l D h r cZ cI T16 ((i : Nat) : Int) id (ca - xv) (da - xv) pa (by omega) (agM_v hag hv) (by omega) (by omega) hokp) gB_B_second (by decide +kernel) ⟨by decide, by decide⟩ rfl rfl rfl rfl (by decide) dB_admit_171 (fun x20 T19 H locs hp hI => ?_)
                                obtain ⟨⟨cv, e1, hcv⟩, hag2⟩ := hp
                                subst e1
                                have e0 : T16 0 0 = S 0 0 := by rw [hag 0 (by omega)]
                                rw [e0] at hcv
                                simp only [agM_tk hag] at hcv
                                replace hag := agM_tr hag hag2
                                have hcv0 : -4 ≤ cv ∧ cv ≤ 2 := by rcases hcv with hcv | hcv <;> omega
                                refine rr_istore (lv' := [(8, .int (iI cv)), (0, .ref h), (1, .int (iI ca)), (2, .int (iI da)), (3, .int (iI pa)), (4, .int (iI ((id : Nat) : Int))), (5, .int (iI v)), (6, .int (iI xv)), (7, .int (iI ((i : Nat) : Int)))]) hC dB_admit_174 hl (by decide) rfl (fun ls hl => ?_)
                                refine rr_iload hC dB_admit_176 hl 0 rfl ?_
                                refine rr_bipush (v := (-4 : Int)) hC dB_admit_178 (by decide) ?_
                                refine rr_icmp_ne hC 188 dB_admit_180 (by decide) (by omega) (by omega) (fun c21 => ?_) (fun c21 => ?_)
                                · refine rr_aload_n hC dB_admit_188 hl rfl 1 rfl ?_
                                  refine rr_iload hC dB_admit_189 hl 5 rfl ?_
                                  refine rr_iload hC dB_admit_191 hl 7 rfl ?_
                                  refine rr_iload hC dB_admit_193 hl 8 rfl ?_
                                  refine rr_iload hC dB_admit_195 hl 0 rfl ?_
                                  refine rr_calli (na := 4) hC (wB_ h r cI) hI hl (cB_place l D h r cZ cI T19 id xv ((i : Nat) : Int) cv hid) gB_B_place (by decide +kernel) ⟨by decide, by decide⟩ rfl rfl rfl rfl (by decide) dB_admit_197 (fun x23 T22 H locs hp hI => ?_)
                                  obtain ⟨e1, e2⟩ := hp
                                  subst e1
                                  refine rr_istore (lv' := [(5, .int (iI ((id : Nat) : Int))), (8, .int (iI cv)), (0, .ref h), (1, .int (iI ca)), (2, .int (iI da)), (3, .int (iI pa)), (4, .int (iI ((id : Nat) : Int))), (6, .int (iI xv)), (7, .int (iI ((i : Nat) : Int)))]) hC dB_admit_200 hl (by decide) rfl (fun ls hl => ?_)
                                  refine rr_iinc (v := ((i + 1 : Nat) : Int)) (lv' := [(7, .int (iI ((i + 1 : Nat) : Int))), (5, .int (iI ((id : Nat) : Int))), (8, .int (iI cv)), (0, .ref h), (1, .int (iI ca)), (2, .int (iI da)), (3, .int (iI pa)), (4, .int (iI ((id : Nat) : Int))), (6, .int (iI xv))]) hC dB_admit_202 hl 8 rfl (by omega) (by decide) rfl (fun ls hl => ?_)
                                  refine rr_goto hC 125 dB_admit_205 (by decide) ?_
                                  exact ih (i + 1) ((id : Nat) : Int) T22 H locs (by omega) (by omega) (Or.inr ⟨rfl, xv, (i : Int), cv, Or.inr ⟨y1, by omega, by omega, y2, by
                                      rcases hcv with hcv | hcv
                                      · exact ⟨by omega, by omega, hcv.1, hcv.2.1, hcv.2.2.1, hvp.mp (by omega), hcv.2.2.2.1, hcv.2.2.2.2, y3⟩
                                      · omega⟩, by rw [e2]; exact plB_of hag id _ _ cv _ (by rw [if_neg (by omega)])⟩) hI ls (lv_sub hl [3, 4, 5, 6, 7, 1, 8, 0] rfl)
                                · refine rr_bipush (v := (-4 : Int)) hC dB_admit_183 (by decide) ?_
                                  refine rr_goto hC 200 dB_admit_185 (by decide) ?_
                                  refine rr_istore (lv' := [(5, .int (iI (-4 : Int))), (8, .int (iI cv)), (0, .ref h), (1, .int (iI ca)), (2, .int (iI da)), (3, .int (iI pa)), (4, .int (iI ((id : Nat) : Int))), (6, .int (iI xv)), (7, .int (iI ((i : Nat) : Int)))]) hC dB_admit_200 hl (by decide) rfl (fun ls hl => ?_)
                                  refine rr_iinc (v := ((i + 1 : Nat) : Int)) (lv' := [(7, .int (iI ((i + 1 : Nat) : Int))), (5, .int (iI (-4 : Int))), (8, .int (iI cv)), (0, .ref h), (1, .int (iI ca)), (2, .int (iI da)), (3, .int (iI pa)), (4, .int (iI ((id : Nat) : Int))), (6, .int (iI xv))]) hC dB_admit_202 hl 8 rfl (by omega) (by decide) rfl (fun ls hl => ?_)
                                  refine rr_goto hC 125 dB_admit_205 (by decide) ?_
                                  exact ih (i + 1) (-4 : Int) T19 H locs (by omega) (by omega) (Or.inl ⟨by omega, ⟨⟨y1, y2⟩, fun q h0 h1 => by
                                      by_cases z : q = (i : Int)
                                      · subst z; exact fun y => by
                                          obtain ⟨-, j, j0, j1, j2, j3⟩ := y
                                          rcases hcv with hcv | hcv
                                          · omega
                                          · exact hcv.2 j j0 j1 j2 j3
                                      · exact y3 q h0 (by omega)⟩, hag⟩) hI ls (lv_sub hl [3, 4, 5, 6, 7, 1, 8, 0] rfl)
                      exact inner 4 0 v S1 H locs (by omega) (by omega) (dsB_w hds (fun z => ⟨z, fun q h0 h1 => by omega⟩)) hI ls (lv_sub hl [1, 2, 3, 4, 5, 6, 7, 0] rfl)
                have loop : ∀ (n : Nat) (i : Nat) (v : Int) (S1 : St_) (H : Heap) (locs : List Loc), (i : Int) ≤ S 0 0 → S 0 0 < (i : Int) + n → dsB_ S id ca da pa (∀ q : Int, 0 ≤ q → q < (i : Int) → ¬ tkB_ S q id ca da pa) v S1 → In_ D A s.heap H locs (wB_ h r cI S1) → ∀ (ls : Array Slot), lv_has ls 9 [(0, .ref h), (1, .int (iI ca)), (2, .int (iI da)), (3, .int (iI pa)), (4, .int (iI ((id : Nat) : Int))), (5, .int (iI v)), (6, .int (iI ((i : Nat) : Int)))] → W p l e (rm_ 4) s m [.ref h, .int (iI ca), .int (iI da), .int (iI pa)].toArray below meth c H locs 0 0 (EQ_ D [(cZ, .boolean), (cI, .int)] (wB_ h r cI) S s below [.ref h, .int (iI ca), .int (iI da), .int (iI pa)].toArray A (fun x S' => admB_ S ca da pa x S')) (F0 m 63 ls []) := by
                  intro n
                  induction n with
                  | zero => intros; omega
                  | succ n ih =>
                    intro i v S1 H locs hi hn hds hI ls hl
                    refine rr_iload hC dB_admit_63 hl 6 rfl ?_
                    have hn0 := dsB_0 hds
                    have hvr := dsB_r hds
                    refine rr_aload_n hC dB_admit_65 hl rfl 0 rfl ?_
                    refine rB_get hC hI 0 (by decide) lB_0 rfl dB_admit_66 ?_
                    refine rr_icmp_ge hC 112 dB_admit_69 (by decide) (by omega) (by omega) (fun c24 => ?_) (fun c24 => ?_)
                    · refine rr_iload_n hC dB_admit_112 hl rfl 1 rfl ?_
                      refine rr_iconst (v := ((1 : Nat) : Int)) hC dB_admit_113 rfl ?_
                      refine rr_isub hC dB_admit_114 ?_
                      refine rr_istore (lv' := [(6, .int (iI (ca - ((1 : Nat) : Int)))), (0, .ref h), (1, .int (iI ca)), (2, .int (iI da)), (3, .int (iI pa)), (4, .int (iI ((id : Nat) : Int))), (5, .int (iI v))]) hC dB_admit_115 hl (by decide) rfl (fun ls hl => ?_)
                      exact outer 60 v (ca - 1) S1 H locs (by omega) (by omega) (dsB_w hds (fun z => ⟨fun q h0 h1 => z q h0 (by omega), fun x z1 z2 => by omega⟩)) hI ls (lv_sub hl [1, 2, 3, 4, 5, 6, 0] rfl)
                    · refine rr_iload hC dB_admit_72 hl 5 rfl ?_
                      refine rr_bipush (v := (-4 : Int)) hC dB_admit_74 (by decide) ?_
                      refine rr_icmp_ne hC 106 dB_admit_76 (by decide) (by omega) (by omega) (fun c25 => ?_) (fun c25 => ?_)
                      · refine rr_iinc (v := ((i + 1 : Nat) : Int)) (lv' := [(6, .int (iI ((i + 1 : Nat) : Int))), (0, .ref h), (1, .int (iI ca)), (2, .int (iI da)), (3, .int (iI pa)), (4, .int (iI ((id : Nat) : Int))), (5, .int (iI v))]) hC dB_admit_106 hl 6 rfl (by omega) (by decide) rfl (fun ls hl => ?_)
                        refine rr_goto hC 63 dB_admit_109 (by decide) ?_
                        exact ih (i + 1) v S1 H locs (by omega) (by omega) (dsB_n hds (by omega) _) hI ls (lv_sub hl [1, 2, 3, 4, 5, 6, 0] rfl)
                      · obtain ⟨y1, hag⟩ := dsB_4 hds (by omega)
                        refine rr_aload_n hC dB_admit_79 hl rfl 0 rfl ?_
                        refine rr_iload hC dB_admit_80 hl 6 rfl ?_
                        refine rr_iload hC dB_admit_82 hl 4 rfl ?_
                        refine rr_iload_n hC dB_admit_84 hl rfl 1 rfl ?_
                        refine rr_iload_n hC dB_admit_85 hl rfl 2 rfl ?_
                        refine rr_iload_n hC dB_admit_86 hl rfl 3 rfl ?_
                        refine rr_calli (na := 5) hC (wB_ h r cI) hI hl (cB_takes l D h r cZ cI S1 ((i : Nat) : Int) id ca da pa (by omega) (by omega) (agM_v hag hv) (by omega) hokp) gB_B_takes (by decide +kernel) ⟨by decide, by decide⟩ rfl rfl rfl rfl (by decide) dB_admit_87 (fun x26 T27 H locs hp hI => ?_)
                        obtain ⟨⟨v28, e1, hv01, hvp⟩, hag2⟩ := hp
                        subst e1
                        rw [agM_tk hag] at hvp
                        replace hag := agM_tr hag hag2
                        refine rr_if_eq hC 106 dB_admit_90 (by decide) (by omega) (fun c29 => ?_) (fun c29 => ?_)
                        · refine rr_iinc (v := ((i + 1 : Nat) : Int)) (lv' := [(6, .int (iI ((i + 1 : Nat) : Int))), (0, .ref h), (1, .int (iI ca)), (2, .int (iI da)), (3, .int (iI pa)), (4, .int (iI ((id : Nat) : Int))), (5, .int (iI v))]) hC dB_admit_106 hl 6 rfl (by omega) (by decide) rfl (fun ls hl => ?_)
                          refine rr_goto hC 63 dB_admit_109 (by decide) ?_
                          exact ih (i + 1) v T27 H locs (by omega) (by omega) (Or.inl ⟨by omega, fun q h0 h1 => by
                              by_cases z : q = (i : Int)
                              · subst z; exact fun y => by have := hvp.mpr y; omega
                              · exact y1 q h0 (by omega), hag⟩) hI ls (lv_sub hl [1, 2, 3, 4, 5, 6, 0] rfl)
                        · refine rr_aload_n hC dB_admit_93 hl rfl 0 rfl ?_
                          refine rr_iload hC dB_admit_94 hl 4 rfl ?_
                          refine rr_iload_n hC dB_admit_96 hl rfl 1 rfl ?_
                          refine rr_iload hC dB_admit_97 hl 6 rfl ?_
                          refine rr_bipush (v := (-4 : Int)) hC dB_admit_99 (by decide) ?_
                          refine rr_calli (na := 4) hC (wB_ h r cI) hI hl (cB_place l D h r cZ cI T27 id ca ((i : Nat) : Int) (-4 : Int) hid) gB_B_place (by decide +kernel) ⟨by decide, by decide⟩ rfl rfl rfl rfl (by decide) dB_admit_101 (fun x31 T30 H locs hp hI => ?_)
                          obtain ⟨e1, e2⟩ := hp
                          subst e1
                          refine rr_istore (lv' := [(5, .int (iI ((id : Nat) : Int))), (0, .ref h), (1, .int (iI ca)), (2, .int (iI da)), (3, .int (iI pa)), (4, .int (iI ((id : Nat) : Int))), (6, .int (iI ((i : Nat) : Int)))]) hC dB_admit_104 hl (by decide) rfl (fun ls hl => ?_)
                          refine rr_iinc (v := ((i + 1 : Nat) : Int)) (lv' := [(6, .int (iI ((i + 1 : Nat) : Int))), (5, .int (iI ((id : Nat) : Int))), (0, .ref h), (1, .int (iI ca)), (2, .int (iI da)), (3, .int (iI pa)), (4, .int (iI ((id : Nat) : Int)))]) hC dB_admit_106 hl 6 rfl (by omega) (by decide) rfl (fun ls hl => ?_)
                          refine rr_goto hC 63 dB_admit_109 (by decide) ?_
                          exact ih (i + 1) ((id : Nat) : Int) T30 H locs (by omega) (by omega) (Or.inr ⟨rfl, ca, (i : Int), -1, Or.inl ⟨rfl, rfl, by omega, by omega, hvp.mp (by omega), y1⟩, by rw [e2]; exact plB_of hag id _ _ (-1) _ (by rw [if_pos rfl])⟩) hI ls (lv_sub hl [2, 3, 4, 5, 6, 1, 0] rfl)
                exact loop 4 0 (-4) S _ _ (by omega) (by omega) (Or.inl ⟨rfl, fun q h0 h1 => by omega, agM_rf S⟩) hI ls (lv_sub hl [3, 4, 5, 6, 2, 1, 0] rfl)
              · refine rr_bipush (v := (-3 : Int)) hC dB_admit_47 (by decide) ?_
                exact rr_iret hC (wB_ h r cI) hI hr hlk dB_admit_49 (Or.inr (Or.inr (Or.inl ⟨hokp, ⟨by omega, by omega, by omega⟩, by omega, rfl, rfl⟩)))
            · refine rr_bipush (v := (-2 : Int)) hC dB_admit_35 (by decide) ?_
              exact rr_iret hC (wB_ h r cI) hI hr hlk dB_admit_37 (Or.inr (Or.inl ⟨hokp, fun z => by obtain ⟨z1, z2, z3⟩ := z; omega, rfl, rfl⟩))
  · refine rr_iconst (v := (-1 : Int)) hC dB_admit_8 rfl ?_
    exact rr_iret hC (wB_ h r cI) hI hr hlk dB_admit_9 (Or.inl ⟨b3_p.mp (by omega), rfl, rfl⟩)
set_option maxRecDepth 100000 in
set_option maxHeartbeats 4000000 in
/-- remove -/
theorem cB_remove (l : Launch) (D : va_G) (h : Nat) (r : Nat → Nat) (cZ cI : ClassId) (S : St_) (a : Int) (ha : -2147483648 ≤ a ∧ a ≤ 2147483647) (hv : vlB_ S) : MI_ l D [(cZ, .boolean), (cI, .int)] (wB_ h r cI) yB_remove kB_remove 2 (some .int) 1 S [.ref h, .int (iI a)] (fun x S' => (¬ usB_ S a ∧ x = iI (-5) ∧ S' = S) ∨ (usB_ S a ∧ S' = up_ S 1 a.toNat 0 ∧ x = iI ((cnB_ S' : Nat) : Int))) := by
  refine MI_of (by decide) (Nat.le_of_ble_eq_true rfl) ?_
  intro p e s m below meth c A ls hC hI hr hlk hl
  have hl : lv_has ls 2 [(0, .ref h), (1, .int (iI a))] := hl
  refine rr_aload_n hC dB_remove_0 hl rfl 0 rfl ?_
  refine rr_iload_n hC dB_remove_1 hl rfl 1 rfl ?_
  refine rr_calli (na := 1) hC (wB_ h r cI) hI hl (cB_none l D h r cZ cI S a (by omega) hv) gB_B_none (by decide +kernel) ⟨by decide, by decide⟩ rfl rfl rfl rfl (by decide) dB_remove_2 (fun x1 T2 H locs hp hI => ?_)
  obtain ⟨⟨b3, e1, b3_01, b3_p⟩, e2⟩ := hp
  subst e1
  rw [e2] at hI
  refine rr_if_eq hC 11 dB_remove_5 (by decide) (by omega) (fun c4 => ?_) (fun c4 => ?_)
  · have hus : usB_ S a := Classical.byContradiction (fun z => by have := b3_p.mpr z; omega)
    obtain ⟨i, rfl⟩ : ∃ i : Nat, a = (i : Int) := ⟨a.toNat, by have := hus.1; omega⟩
    have hi12 := hus.2.1
    refine rr_aload_n hC dB_remove_11 hl rfl 0 rfl ?_
    refine rB_get hC hI 1 (by decide) lB_1 rfl dB_remove_12 ?_
    refine rr_iload_n hC dB_remove_15 hl rfl 1 rfl ?_
    refine rr_iconst (v := ((0 : Nat) : Int)) hC dB_remove_16 rfl ?_
    refine rr_iast hC (wB_ h r cI) hI 1 1 1 rfl rfl (by decide) (by omega) rfl dB_remove_17 (fun H locs hI => ?_)
    refine rr_aload_n hC dB_remove_18 hl rfl 0 rfl ?_
    refine rr_calli (na := 0) hC (wB_ h r cI) hI hl (cB_count l D h r cZ cI (up_ S 1 i ((0 : Nat) : Int)) (up1_v hv i)) gB_B_count (by decide +kernel) ⟨by decide, by decide⟩ rfl rfl rfl rfl (by decide) dB_remove_19 (fun x1 T1 H locs hp hI => ?_)
    obtain ⟨e1, e2⟩ := hp
    subst e1
    rw [e2] at hI
    exact rr_iret hC (wB_ h r cI) hI hr hlk dB_remove_22 (Or.inr ⟨hus, by rw [Int.toNat_natCast]; rfl, rfl⟩)
  · refine rr_bipush (v := (-5 : Int)) hC dB_remove_8 (by decide) ?_
    exact rr_iret hC (wB_ h r cI) hI hr hlk dB_remove_10 (Or.inl ⟨b3_p.mp (by omega), rfl, rfl⟩)
set_option maxRecDepth 100000 in
set_option maxHeartbeats 4000000 in
/-- core -/
theorem cB_core (l : Launch) (D : va_G) (h : Nat) (r : Nat → Nat) (cZ cI : ClassId) (S : St_) (a : Int) (ha : -2147483648 ≤ a ∧ a ≤ 2147483647) (hv : vlB_ S) : MI_ l D [(cZ, .boolean), (cI, .int)] (wB_ h r cI) yB_core kB_core 2 (some .int) 1 S [.ref h, .int (iI a)] (fun x S' => ((¬ usB_ S a ∧ x = iI (-5)) ∨ (usB_ S a ∧ x = iI (S 5 a.toNat))) ∧ S' = S) := by
  refine MI_of (by decide) (Nat.le_of_ble_eq_true rfl) ?_
  intro p e s m below meth c A ls hC hI hr hlk hl
  have hl : lv_has ls 2 [(0, .ref h), (1, .int (iI a))] := hl
  refine rr_aload_n hC dB_core_0 hl rfl 0 rfl ?_
  refine rr_iload_n hC dB_core_1 hl rfl 1 rfl ?_
  refine rr_calli (na := 1) hC (wB_ h r cI) hI hl (cB_none l D h r cZ cI S a (by omega) hv) gB_B_none (by decide +kernel) ⟨by decide, by decide⟩ rfl rfl rfl rfl (by decide) dB_core_2 (fun x1 T2 H locs hp hI => ?_)
  obtain ⟨⟨b3, e1, b3_01, b3_p⟩, e2⟩ := hp
  subst e1
  rw [e2] at hI
  refine rr_if_eq hC 13 dB_core_5 (by decide) (by omega) (fun c4 => ?_) (fun c4 => ?_)
  · have hus : usB_ S a := Classical.byContradiction (fun z => by have := b3_p.mpr z; omega)
    obtain ⟨i, rfl⟩ : ∃ i : Nat, a = (i : Int) := ⟨a.toNat, by have := hus.1; omega⟩
    have hi12 := hus.2.1
    refine rr_aload_n hC dB_core_13 hl rfl 0 rfl ?_
    refine rB_get hC hI 5 (by decide) lB_5 rfl dB_core_14 ?_
    refine rr_iload_n hC dB_core_17 hl rfl 1 rfl ?_
    refine rr_iald hC hI 5 1 rfl rfl (by decide) (by omega) dB_core_18 ?_
    exact rr_iret hC (wB_ h r cI) hI hr hlk dB_core_19 (⟨Or.inr ⟨hus, by rw [Int.toNat_natCast]⟩, rfl⟩)
  · refine rr_bipush (v := (-5 : Int)) hC dB_core_8 (by decide) ?_
    refine rr_goto hC 19 dB_core_10 (by decide) ?_
    exact rr_iret hC (wB_ h r cI) hI hr hlk dB_core_19 (⟨Or.inl ⟨b3_p.mp (by omega), rfl⟩, rfl⟩)
set_option maxRecDepth 100000 in
set_option maxHeartbeats 4000000 in
/-- secondCore -/
theorem cB_secondCore (l : Launch) (D : va_G) (h : Nat) (r : Nat → Nat) (cZ cI : ClassId) (S : St_) (a : Int) (ha : -2147483648 ≤ a ∧ a ≤ 2147483647) (hv : vlB_ S) : MI_ l D [(cZ, .boolean), (cI, .int)] (wB_ h r cI) yB_secondCore kB_secondCore 2 (some .int) 1 S [.ref h, .int (iI a)] (fun x S' => ((¬ usB_ S a ∧ x = iI (-5)) ∨ (usB_ S a ∧ x = iI (S 6 a.toNat))) ∧ S' = S) := by
  refine MI_of (by decide) (Nat.le_of_ble_eq_true rfl) ?_
  intro p e s m below meth c A ls hC hI hr hlk hl
  have hl : lv_has ls 2 [(0, .ref h), (1, .int (iI a))] := hl
  refine rr_aload_n hC dB_secondCore_0 hl rfl 0 rfl ?_
  refine rr_iload_n hC dB_secondCore_1 hl rfl 1 rfl ?_
  refine rr_calli (na := 1) hC (wB_ h r cI) hI hl (cB_none l D h r cZ cI S a (by omega) hv) gB_B_none (by decide +kernel) ⟨by decide, by decide⟩ rfl rfl rfl rfl (by decide) dB_secondCore_2 (fun x1 T2 H locs hp hI => ?_)
  obtain ⟨⟨b3, e1, b3_01, b3_p⟩, e2⟩ := hp
  subst e1
  rw [e2] at hI
  refine rr_if_eq hC 13 dB_secondCore_5 (by decide) (by omega) (fun c4 => ?_) (fun c4 => ?_)
  · have hus : usB_ S a := Classical.byContradiction (fun z => by have := b3_p.mpr z; omega)
    obtain ⟨i, rfl⟩ : ∃ i : Nat, a = (i : Int) := ⟨a.toNat, by have := hus.1; omega⟩
    have hi12 := hus.2.1
    refine rr_aload_n hC dB_secondCore_13 hl rfl 0 rfl ?_
    refine rB_get hC hI 6 (by decide) lB_6 rfl dB_secondCore_14 ?_
    refine rr_iload_n hC dB_secondCore_17 hl rfl 1 rfl ?_
    refine rr_iald hC hI 6 1 rfl rfl (by decide) (by omega) dB_secondCore_18 ?_
    exact rr_iret hC (wB_ h r cI) hI hr hlk dB_secondCore_19 (⟨Or.inr ⟨hus, by rw [Int.toNat_natCast]⟩, rfl⟩)
  · refine rr_bipush (v := (-5 : Int)) hC dB_secondCore_8 (by decide) ?_
    refine rr_goto hC 19 dB_secondCore_10 (by decide) ?_
    exact rr_iret hC (wB_ h r cI) hI hr hlk dB_secondCore_19 (⟨Or.inl ⟨b3_p.mp (by omega), rfl⟩, rfl⟩)
set_option maxRecDepth 100000 in
set_option maxHeartbeats 4000000 in
/-- firstCost -/
theorem cB_firstCost (l : Launch) (D : va_G) (h : Nat) (r : Nat → Nat) (cZ cI : ClassId) (S : St_) (a : Int) (ha : -2147483648 ≤ a ∧ a ≤ 2147483647) (hv : vlB_ S) : MI_ l D [(cZ, .boolean), (cI, .int)] (wB_ h r cI) yB_firstCost kB_firstCost 2 (some .int) 1 S [.ref h, .int (iI a)] (fun x S' => ((¬ usB_ S a ∧ x = iI (-5)) ∨ (usB_ S a ∧ x = iI (S 4 a.toNat))) ∧ S' = S) := by
  refine MI_of (by decide) (Nat.le_of_ble_eq_true rfl) ?_
  intro p e s m below meth c A ls hC hI hr hlk hl
  have hl : lv_has ls 2 [(0, .ref h), (1, .int (iI a))] := hl
  refine rr_aload_n hC dB_firstCost_0 hl rfl 0 rfl ?_
  refine rr_iload_n hC dB_firstCost_1 hl rfl 1 rfl ?_
  refine rr_calli (na := 1) hC (wB_ h r cI) hI hl (cB_none l D h r cZ cI S a (by omega) hv) gB_B_none (by decide +kernel) ⟨by decide, by decide⟩ rfl rfl rfl rfl (by decide) dB_firstCost_2 (fun x1 T2 H locs hp hI => ?_)
  obtain ⟨⟨b3, e1, b3_01, b3_p⟩, e2⟩ := hp
  subst e1
  rw [e2] at hI
  refine rr_if_eq hC 13 dB_firstCost_5 (by decide) (by omega) (fun c4 => ?_) (fun c4 => ?_)
  · have hus : usB_ S a := Classical.byContradiction (fun z => by have := b3_p.mpr z; omega)
    obtain ⟨i, rfl⟩ : ∃ i : Nat, a = (i : Int) := ⟨a.toNat, by have := hus.1; omega⟩
    have hi12 := hus.2.1
    refine rr_aload_n hC dB_firstCost_13 hl rfl 0 rfl ?_
    refine rB_get hC hI 4 (by decide) lB_4 rfl dB_firstCost_14 ?_
    refine rr_iload_n hC dB_firstCost_17 hl rfl 1 rfl ?_
    refine rr_iald hC hI 4 1 rfl rfl (by decide) (by omega) dB_firstCost_18 ?_
    exact rr_iret hC (wB_ h r cI) hI hr hlk dB_firstCost_19 (⟨Or.inr ⟨hus, by rw [Int.toNat_natCast]⟩, rfl⟩)
  · refine rr_bipush (v := (-5 : Int)) hC dB_firstCost_8 (by decide) ?_
    refine rr_goto hC 19 dB_firstCost_10 (by decide) ?_
    exact rr_iret hC (wB_ h r cI) hI hr hlk dB_firstCost_19 (⟨Or.inl ⟨b3_p.mp (by omega), rfl⟩, rfl⟩)
set_option maxRecDepth 100000 in
set_option maxHeartbeats 4000000 in
/-- load -/
theorem cB_load (l : Launch) (D : va_G) (h : Nat) (r : Nat → Nat) (cZ cI : ClassId) (S : St_) (k : Int) (hk : -2147483648 ≤ k ∧ k ≤ 2147483647) (hv : vlB_ S) : MI_ l D [(cZ, .boolean), (cI, .int)] (wB_ h r cI) yB_load kB_load 4 (some .int) 1 S [.ref h, .int (iI k)] (fun x S' => (¬ (0 ≤ k ∧ k < S 0 0) ∧ x = iI (-6) ∧ S' = S) ∨ ((0 ≤ k ∧ k < S 0 0) ∧ x = iI ((ps_dem (cB_ S k) (dB_ S k) (pB_ S) 60 : Nat) : Int) ∧ agM_ S S')) := by
  refine MI_of (by decide) (Nat.le_of_ble_eq_true rfl) ?_
  intro p e s m below meth c A ls hC hI hr hlk hl
  have hl : lv_has ls 4 [(0, .ref h), (1, .int (iI k))] := hl
  refine rr_aload_n hC dB_load_0 hl rfl 0 rfl ?_
  refine rr_iload_n hC dB_load_1 hl rfl 1 rfl ?_
  refine rr_calli (na := 1) hC (wB_ h r cI) hI hl (cB_badCore l D h r cZ cI S k (by omega) hv.1) gB_B_badCore (by decide +kernel) ⟨by decide, by decide⟩ rfl rfl rfl rfl (by decide) dB_load_2 (fun x1 T2 H locs hp hI => ?_)
  obtain ⟨⟨b3, e1, b3_01, b3_p⟩, e2⟩ := hp
  subst e1
  rw [e2] at hI
  refine rr_if_eq hC 11 dB_load_5 (by decide) (by omega) (fun c4 => ?_) (fun c4 => ?_)
  · refine rr_aload_n hC dB_load_11 hl rfl 0 rfl ?_
    refine rr_iload_n hC dB_load_12 hl rfl 1 rfl ?_
    have hcr := hv.1
    have hk : 0 ≤ k ∧ k < S 0 0 := by omega
    refine rr_callv (na := 1) hC (wB_ h r cI) hI hl (cB_parts l D h r cZ cI S k (by omega) hv) gB_B_parts (by decide +kernel) ⟨by decide, by decide⟩ rfl rfl rfl rfl (by decide) dB_load_13 (fun T1 H locs hp hI => ?_)
    have hpr : prtB_ S k 12 T1 := hp
    have hag : agM_ S T1 := fun j hj => hpr.1 j (by omega) (by omega) (by omega)
    refine rr_iconst (v := ((0 : Nat) : Int)) hC dB_load_16 rfl ?_
    refine rr_istore_n (lv' := [(2, .int (iI ((0 : Nat) : Int))), (0, .ref h), (1, .int (iI k))]) hC dB_load_17 hl rfl (by decide) rfl (fun ls hl => ?_)
    refine rr_iconst (v := ((0 : Nat) : Int)) hC dB_load_18 rfl ?_
    refine rr_istore_n (lv' := [(3, .int (iI ((0 : Nat) : Int))), (2, .int (iI ((0 : Nat) : Int))), (0, .ref h), (1, .int (iI k))]) hC dB_load_19 hl rfl (by decide) rfl (fun ls hl => ?_)
    have loop : ∀ (n i : Nat), i ≤ 12 → 12 < i + n → ∀ (ls : Array Slot), lv_has ls 4 [(0, .ref h), (1, .int (iI k)), (2, .int (iI ((ps_sum (lB_f S k) i : Nat) : Int))), (3, .int (iI ((i : Nat) : Int)))] → W p l e (rm_ 1) s m [.ref h, .int (iI k)].toArray below meth c H locs 0 0 (EQ_ D [(cZ, .boolean), (cI, .int)] (wB_ h r cI) S s below [.ref h, .int (iI k)].toArray A (fun x S' => (¬ (0 ≤ k ∧ k < S 0 0) ∧ x = iI (-6) ∧ S' = S) ∨ ((0 ≤ k ∧ k < S 0 0) ∧ x = iI ((ps_dem (cB_ S k) (dB_ S k) (pB_ S) 60 : Nat) : Int) ∧ agM_ S S'))) (F0 m 20 ls []) := by
      intro n
      induction n with
      | zero => intros; omega
      | succ n ih =>
        intro i hi hfu ls hl
        refine rr_iload_n hC dB_load_20 hl rfl 3 rfl ?_
        refine rr_bipush (v := ((12 : Nat) : Int)) hC dB_load_21 (by decide) ?_
        refine rr_icmp_ge hC 69 dB_load_23 (by decide) (by omega) (by omega) (fun c5 => ?_) (fun c5 => ?_)
        · refine rr_iload_n hC dB_load_69 hl rfl 2 rfl ?_
          exact rr_iret hC (wB_ h r cI) hI hr hlk dB_load_70 (Or.inr ⟨hk, by rw [show i = 12 by omega, load_B hv hk.1], hag⟩)
        · obtain ⟨r1, r2, r3⟩ := hpr.2.2 i (by omega)
          have hok := okB_ hv hk.1 i (by omega)
          obtain ⟨-, u2, u3⟩ := hv.2 i (by omega)
          have r4 : T1 9 i = ((pB_ S i : Nat) : Int) := by rw [r2]; unfold pB_; omega
          have hcb : cB_ S k i ≤ 60 := by
            rcases Nat.eq_zero_or_pos (cB_ S k i) with z | z
            · omega
            · have := hok z; omega
          refine rr_aload_n hC dB_load_26 hl rfl 0 rfl ?_
          refine rB_get hC hI 7 (by decide) lB_7 rfl dB_load_27 ?_
          refine rr_iload_n hC dB_load_30 hl rfl 3 rfl ?_
          refine rr_iald hC hI 7 1 rfl rfl (by decide) (by omega) dB_load_31 ?_
          refine rr_if_le hC 63 dB_load_32 (by decide) (by omega) (fun c6 => ?_) (fun c6 => ?_)
          · rw [lB_skip (S := S) (k := k) (i := i) (by omega)] at hl
            refine rr_iinc (v := ((i + 1 : Nat) : Int)) (lv' := [(3, .int (iI ((i + 1 : Nat) : Int))), (0, .ref h), (1, .int (iI k)), (2, .int (iI ((ps_sum (lB_f S k) (i + 1) : Nat) : Int)))]) hC dB_load_63 hl 3 rfl (by omega) (by decide) rfl (fun ls hl => ?_)
            refine rr_goto hC 20 dB_load_66 (by decide) ?_
            exact ih (i + 1) (by omega) (by omega) ls (lv_sub hl [1, 2, 3, 0] rfl)
          · replace hok := hok (by omega)
            refine rr_aload_n hC dB_load_35 hl rfl 0 rfl ?_
            refine rB_get hC hI 9 (by decide) lB_9 rfl dB_load_36 ?_
            refine rr_iload_n hC dB_load_39 hl rfl 3 rfl ?_
            refine rr_iald hC hI 9 1 rfl rfl (by decide) (by omega) dB_load_40 ?_
            refine rr_if_le hC 63 dB_load_41 (by decide) (by omega) (fun c7 => ?_) (fun c7 => ?_)
            · exfalso; omega
            · refine rr_iload_n hC dB_load_44 hl rfl 2 rfl ?_
              refine rr_aload_n hC dB_load_45 hl rfl 0 rfl ?_
              refine rB_get hC hI 7 (by decide) lB_7 rfl dB_load_46 ?_
              refine rr_iload_n hC dB_load_49 hl rfl 3 rfl ?_
              refine rr_iald hC hI 7 1 rfl rfl (by decide) (by omega) dB_load_50 ?_
              refine rr_bipush (v := ((60 : Nat) : Int)) hC dB_load_51 (by decide) ?_
              refine rr_aload_n hC dB_load_53 hl rfl 0 rfl ?_
              refine rB_get hC hI 9 (by decide) lB_9 rfl dB_load_54 ?_
              refine rr_iload_n hC dB_load_57 hl rfl 3 rfl ?_
              refine rr_iald hC hI 9 1 rfl rfl (by decide) (by omega) dB_load_58 ?_
              refine rr_idiv hC dB_load_59 (by omega) (by omega) ?_
              refine rr_imul hC dB_load_60 ?_
              refine rr_iadd hC dB_load_61 ?_
              refine rr_istore_n (lv' := [(2, .int (iI (((ps_sum (lB_f S k) i : Nat) : Int) + ((T1 7 i) * (((60 : Nat) : Int) / (T1 9 i)))))), (0, .ref h), (1, .int (iI k)), (3, .int (iI ((i : Nat) : Int)))]) hC dB_load_62 hl rfl (by decide) rfl (fun ls hl => ?_)
              rw [lB_step r1 r4] at hl
              refine rr_iinc (v := ((i + 1 : Nat) : Int)) (lv' := [(3, .int (iI ((i + 1 : Nat) : Int))), (2, .int (iI ((ps_sum (lB_f S k) (i + 1) : Nat) : Int))), (0, .ref h), (1, .int (iI k))]) hC dB_load_63 hl 3 rfl (by omega) (by decide) rfl (fun ls hl => ?_)
              refine rr_goto hC 20 dB_load_66 (by decide) ?_
              exact ih (i + 1) (by omega) (by omega) ls (lv_sub hl [2, 3, 1, 0] rfl)
    exact loop 13 0 (by omega) (by omega) ls (lv_sub hl [2, 3, 1, 0] rfl)
  · refine rr_bipush (v := (-6 : Int)) hC dB_load_8 (by decide) ?_
    exact rr_iret hC (wB_ h r cI) hI hr hlk dB_load_10 (Or.inl ⟨by omega, rfl, rfl⟩)
set_option maxRecDepth 100000 in
set_option maxHeartbeats 4000000 in
/-- running -/
theorem cB_running (l : Launch) (D : va_G) (h : Nat) (r : Nat → Nat) (cZ cI : ClassId) (S : St_) (k a : Int) (hk : -2147483648 ≤ k ∧ k ≤ 2147483647) (ha : -2147483648 ≤ a ∧ a ≤ 2147483647) (hv : vlB_ S) (hsd : sdB_ S) : MI_ l D [(cZ, .boolean), (cI, .int)] (wB_ h r cI) yB_running kB_running 3 (some .int) 2 S [.ref h, .int (iI k), .int (iI a)] (fun x S' => (¬ (0 ≤ k ∧ k < S 0 0) ∧ x = iI (-6) ∧ S' = S) ∨ ((0 ≤ k ∧ k < S 0 0) ∧ ¬ (0 ≤ a ∧ a < 60) ∧ x = iI (-7) ∧ S' = S) ∨ ((0 ≤ k ∧ k < S 0 0) ∧ (0 ≤ a ∧ a < 60) ∧ x = iI (ps_run (cB_ S k) (dB_ S k) (pB_ S) a.toNat) ∧ agM_ S S')) := by
  refine MI_of (by decide) (Nat.le_of_ble_eq_true rfl) ?_
  intro p e s m below meth c A ls hC hI hr hlk hl
  have hl : lv_has ls 3 [(0, .ref h), (1, .int (iI k)), (2, .int (iI a))] := hl
  refine rr_aload_n hC dB_running_0 hl rfl 0 rfl ?_
  refine rr_iload_n hC dB_running_1 hl rfl 1 rfl ?_
  refine rr_calli (na := 1) hC (wB_ h r cI) hI hl (cB_badCore l D h r cZ cI S k (by omega) hv.1) gB_B_badCore (by decide +kernel) ⟨by decide, by decide⟩ rfl rfl rfl rfl (by decide) dB_running_2 (fun x1 T2 H locs hp hI => ?_)
  obtain ⟨⟨b3, e1, b3_01, b3_p⟩, e2⟩ := hp
  subst e1
  rw [e2] at hI
  refine rr_if_eq hC 11 dB_running_5 (by decide) (by omega) (fun c4 => ?_) (fun c4 => ?_)
  · refine rr_iload_n hC dB_running_11 hl rfl 2 rfl ?_
    refine rr_if_lt hC 21 dB_running_12 (by decide) (by omega) (fun c5 => ?_) (fun c5 => ?_)
    · refine rr_bipush (v := (-7 : Int)) hC dB_running_21 (by decide) ?_
      exact rr_iret hC (wB_ h r cI) hI hr hlk dB_running_23 (Or.inr (Or.inl ⟨by omega, by omega, rfl, rfl⟩))
    · refine rr_iload_n hC dB_running_15 hl rfl 2 rfl ?_
      refine rr_bipush (v := ((59 : Nat) : Int)) hC dB_running_16 (by decide) ?_
      refine rr_icmp_le hC 24 dB_running_18 (by decide) (by omega) (by omega) (fun c6 => ?_) (fun c6 => ?_)
      · refine rr_aload_n hC dB_running_24 hl rfl 0 rfl ?_
        refine rr_iload_n hC dB_running_25 hl rfl 1 rfl ?_
        have hcr := hv.1
        have hk : 0 ≤ k ∧ k < S 0 0 := by omega
        refine rr_callv (na := 1) hC (wB_ h r cI) hI hl (cB_parts l D h r cZ cI S k (by omega) hv) gB_B_parts (by decide +kernel) ⟨by decide, by decide⟩ rfl rfl rfl rfl (by decide) dB_running_26 (fun T1 H locs hp hI => ?_)
        have hpr : prtB_ S k 12 T1 := hp
        have hag : agM_ S T1 := fun j hj => hpr.1 j (by omega) (by omega) (by omega)
        refine rr_aload_n hC dB_running_29 hl rfl 0 rfl ?_
        obtain ⟨hR, hsm⟩ := prtB_R hv hk.1 hpr
        refine rr_calli (na := 0) hC (wB_ h r cI) hI hl (cB_runs l D h r cZ cI T1 hR) gB_B_runs (by decide +kernel) ⟨by decide, by decide⟩ rfl rfl rfl rfl (by decide) dB_running_30 (fun x2 T2 H locs hp hI => ?_)
        obtain ⟨-, hagr, hrr⟩ := hp
        obtain ⟨hr12, hr13⟩ := hrr (ps_edf1 (okR_ok hR) ((ps_same_sched hsm).mpr (hsd k hk.1 hk.2)))
        have hag2 : agM_ S T2 := fun j hj => (hagr j (by omega)).trans (hag j hj)
        refine rr_pop hC dB_running_33 ?_
        obtain ⟨t, rfl⟩ : ∃ t : Nat, a = (t : Int) := ⟨a.toNat, by omega⟩
        refine rr_aload_n hC dB_running_34 hl rfl 0 rfl ?_
        refine rB_get hC hI 12 (by decide) lB_12 rfl dB_running_35 ?_
        refine rr_iload_n hC dB_running_38 hl rfl 2 rfl ?_
        refine rr_iald hC hI 12 1 rfl rfl (by decide) (by omega) dB_running_39 ?_
        exact rr_iret hC (wB_ h r cI) hI hr hlk dB_running_40 (Or.inr (Or.inr ⟨hk, by omega, by rw [Int.toNat_natCast, hr12 t (by omega), ps_same_run hsm], hag2⟩))
      · refine rr_bipush (v := (-7 : Int)) hC dB_running_21 (by decide) ?_
        exact rr_iret hC (wB_ h r cI) hI hr hlk dB_running_23 (Or.inr (Or.inl ⟨by omega, by omega, rfl, rfl⟩))
  · refine rr_bipush (v := (-6 : Int)) hC dB_running_8 (by decide) ?_
    exact rr_iret hC (wB_ h r cI) hI hr hlk dB_running_10 (Or.inl ⟨by omega, rfl, rfl⟩)
set_option maxRecDepth 100000 in
set_option maxHeartbeats 4000000 in
/-- response -/
theorem cB_response (l : Launch) (D : va_G) (h : Nat) (r : Nat → Nat) (cZ cI : ClassId) (S : St_) (k a : Int) (hk : -2147483648 ≤ k ∧ k ≤ 2147483647) (ha : -2147483648 ≤ a ∧ a ≤ 2147483647) (hv : vlB_ S) (hsd : sdB_ S) : MI_ l D [(cZ, .boolean), (cI, .int)] (wB_ h r cI) yB_response kB_response 3 (some .int) 2 S [.ref h, .int (iI k), .int (iI a)] (fun x S' => (¬ (0 ≤ k ∧ k < S 0 0) ∧ x = iI (-6) ∧ S' = S) ∨ ((0 ≤ k ∧ k < S 0 0) ∧ ¬ usB_ S a ∧ x = iI (-5) ∧ S' = S) ∨ ((0 ≤ k ∧ k < S 0 0) ∧ usB_ S a ∧ x = iI (if cB_ S k a.toNat = 0 then -5 else ((ps_rsp (cB_ S k) (dB_ S k) (pB_ S) 60 a.toNat : Nat) : Int)) ∧ agM_ S S')) := by
  refine MI_of (by decide) (Nat.le_of_ble_eq_true rfl) ?_
  intro p e s m below meth c A ls hC hI hr hlk hl
  have hl : lv_has ls 3 [(0, .ref h), (1, .int (iI k)), (2, .int (iI a))] := hl
  refine rr_aload_n hC dB_response_0 hl rfl 0 rfl ?_
  refine rr_iload_n hC dB_response_1 hl rfl 1 rfl ?_
  refine rr_calli (na := 1) hC (wB_ h r cI) hI hl (cB_badCore l D h r cZ cI S k (by omega) hv.1) gB_B_badCore (by decide +kernel) ⟨by decide, by decide⟩ rfl rfl rfl rfl (by decide) dB_response_2 (fun x1 T2 H locs hp hI => ?_)
  obtain ⟨⟨b3, e1, b3_01, b3_p⟩, e2⟩ := hp
  subst e1
  rw [e2] at hI
  refine rr_if_eq hC 11 dB_response_5 (by decide) (by omega) (fun c4 => ?_) (fun c4 => ?_)
  · refine rr_aload_n hC dB_response_11 hl rfl 0 rfl ?_
    refine rr_iload_n hC dB_response_12 hl rfl 2 rfl ?_
    refine rr_calli (na := 1) hC (wB_ h r cI) hI hl (cB_none l D h r cZ cI S a (by omega) hv) gB_B_none (by decide +kernel) ⟨by decide, by decide⟩ rfl rfl rfl rfl (by decide) dB_response_13 (fun x5 T6 H locs hp hI => ?_)
    obtain ⟨⟨b7, e1, b7_01, b7_p⟩, e2⟩ := hp
    subst e1
    rw [e2] at hI
    refine rr_if_eq hC 22 dB_response_16 (by decide) (by omega) (fun c8 => ?_) (fun c8 => ?_)
    · have hus : usB_ S a := Classical.byContradiction (fun z => by have := b7_p.mpr z; omega)
      obtain ⟨i, rfl⟩ : ∃ i : Nat, a = (i : Int) := ⟨a.toNat, by have := hus.1; omega⟩
      have hi12 := hus.2.1
      refine rr_aload_n hC dB_response_22 hl rfl 0 rfl ?_
      refine rr_iload_n hC dB_response_23 hl rfl 1 rfl ?_
      have hcr := hv.1
      have hk : 0 ≤ k ∧ k < S 0 0 := by omega
      refine rr_callv (na := 1) hC (wB_ h r cI) hI hl (cB_parts l D h r cZ cI S k (by omega) hv) gB_B_parts (by decide +kernel) ⟨by decide, by decide⟩ rfl rfl rfl rfl (by decide) dB_response_24 (fun T1 H locs hp hI => ?_)
      have hpr : prtB_ S k 12 T1 := hp
      have hag : agM_ S T1 := fun j hj => hpr.1 j (by omega) (by omega) (by omega)
      obtain ⟨r1, r2, r3⟩ := hpr.2.2 i (by omega)
      have hok := okB_ hv hk.1 i (by omega)
      have hcb : cB_ S k i ≤ 60 := by
        rcases Nat.eq_zero_or_pos (cB_ S k i) with z | z
        · omega
        · have := hok z; omega
      refine rr_aload_n hC dB_response_27 hl rfl 0 rfl ?_
      refine rB_get hC hI 7 (by decide) lB_7 rfl dB_response_28 ?_
      refine rr_iload_n hC dB_response_31 hl rfl 2 rfl ?_
      refine rr_iald hC hI 7 1 rfl rfl (by decide) (by omega) dB_response_32 ?_
      refine rr_if_ne hC 39 dB_response_33 (by decide) (by omega) (fun c9 => ?_) (fun c9 => ?_)
      · refine rr_aload_n hC dB_response_39 hl rfl 0 rfl ?_
        obtain ⟨hR, hsm⟩ := prtB_R hv hk.1 hpr
        refine rr_calli (na := 0) hC (wB_ h r cI) hI hl (cB_runs l D h r cZ cI T1 hR) gB_B_runs (by decide +kernel) ⟨by decide, by decide⟩ rfl rfl rfl rfl (by decide) dB_response_40 (fun x2 T2 H locs hp hI => ?_)
        obtain ⟨-, hagr, hrr⟩ := hp
        obtain ⟨hr12, hr13⟩ := hrr (ps_edf1 (okR_ok hR) ((ps_same_sched hsm).mpr (hsd k hk.1 hk.2)))
        have hag2 : agM_ S T2 := fun j hj => (hagr j (by omega)).trans (hag j hj)
        refine rr_pop hC dB_response_43 ?_
        refine rr_aload_n hC dB_response_44 hl rfl 0 rfl ?_
        refine rB_get hC hI 13 (by decide) lB_13 rfl dB_response_45 ?_
        refine rr_iload_n hC dB_response_48 hl rfl 2 rfl ?_
        refine rr_iald hC hI 13 1 rfl rfl (by decide) (by omega) dB_response_49 ?_
        exact rr_iret hC (wB_ h r cI) hI hr hlk dB_response_50 (Or.inr (Or.inr ⟨hk, hus, by rw [Int.toNat_natCast, if_neg (by omega), hr13 i (by omega) (by unfold cR_; omega), ps_same_rsp hsm 60 i (by omega) (by unfold cR_; omega)], hag2⟩))
      · refine rr_bipush (v := (-5 : Int)) hC dB_response_36 (by decide) ?_
        exact rr_iret hC (wB_ h r cI) hI hr hlk dB_response_38 (Or.inr (Or.inr ⟨hk, hus, by rw [Int.toNat_natCast, if_pos (by omega)], hag⟩))
    · refine rr_bipush (v := (-5 : Int)) hC dB_response_19 (by decide) ?_
      exact rr_iret hC (wB_ h r cI) hI hr hlk dB_response_21 (Or.inr (Or.inl ⟨by omega, b7_p.mp (by omega), rfl, rfl⟩))
  · refine rr_bipush (v := (-6 : Int)) hC dB_response_8 (by decide) ?_
    exact rr_iret hC (wB_ h r cI) hI hr hlk dB_response_10 (Or.inl ⟨by omega, rfl, rfl⟩)
set_option maxRecDepth 100000 in
set_option maxHeartbeats 4000000 in
/-- spare: the greatest cost, tried one by one -/
theorem cB_spare (l : Launch) (D : va_G) (h : Nat) (r : Nat → Nat) (cZ cI : ClassId) (S : St_) (k pa : Int) (hk : -2147483648 ≤ k ∧ k ≤ 2147483647) (hpa : -2147483648 ≤ pa ∧ pa ≤ 2147483647) (hv : vlB_ S) : MI_ l D [(cZ, .boolean), (cI, .int)] (wB_ h r cI) yB_spare kB_spare 5 (some .int) 3 S [.ref h, .int (iI k), .int (iI pa)] (fun x S' => sprB_ S k pa x S') := by
  refine MI_of (by decide) (Nat.le_of_ble_eq_true rfl) ?_
  intro p e s m below meth c A ls hC hI hr hlk hl
  have hl : lv_has ls 5 [(0, .ref h), (1, .int (iI k)), (2, .int (iI pa))] := hl
  have hcr := hv.1
  refine rr_aload_n hC dB_spare_0 hl rfl 0 rfl ?_
  refine rr_iload_n hC dB_spare_1 hl rfl 1 rfl ?_
  refine rr_calli (na := 1) hC (wB_ h r cI) hI hl (cB_badCore l D h r cZ cI S k (by omega) hv.1) gB_B_badCore (by decide +kernel) ⟨by decide, by decide⟩ rfl rfl rfl rfl (by decide) dB_spare_2 (fun x1 T2 H locs hp hI => ?_)
  obtain ⟨⟨b3, e1, b3_01, b3_p⟩, e2⟩ := hp
  subst e1
  rw [e2] at hI
  refine rr_if_eq hC 11 dB_spare_5 (by decide) (by omega) (fun c4 => ?_) (fun c4 => ?_)
  · refine rr_aload_n hC dB_spare_11 hl rfl 0 rfl ?_
    refine rr_iload_n hC dB_spare_12 hl rfl 2 rfl ?_
    refine rr_calli (na := 1) hC (wB_ h r cI) hI hl (cB_badPeriod l D h r cZ cI S pa (by omega)) gB_B_badPeriod (by decide +kernel) ⟨by decide, by decide⟩ rfl rfl rfl rfl (by decide) dB_spare_13 (fun x5 T6 H locs hp hI => ?_)
    obtain ⟨⟨b7, e1, b7_01, b7_p⟩, e2⟩ := hp
    subst e1
    rw [e2] at hI
    refine rr_if_eq hC 21 dB_spare_16 (by decide) (by omega) (fun c8 => ?_) (fun c8 => ?_)
    · have hokp : okp_ pa := Classical.byContradiction (fun z => by have := b7_p.mpr z; omega)
      obtain ⟨q1, q2, q3⟩ := id hokp
      have hk : 0 ≤ k ∧ k < S 0 0 := by omega
      refine rr_aload_n hC dB_spare_21 hl rfl 0 rfl ?_
      refine rr_calli (na := 0) hC (wB_ h r cI) hI hl (cB_freeId l D h r cZ cI S hv) gB_B_freeId (by decide +kernel) ⟨by decide, by decide⟩ rfl rfl rfl rfl (by decide) dB_spare_22 (fun x2 T2 H locs hp hI => ?_)
      obtain ⟨⟨id, e1, hid, hff⟩, e2⟩ := hp
      subst e1
      rw [e2] at hI
      refine rr_istore_n (lv' := [(3, .int (iI ((id : Nat) : Int))), (0, .ref h), (1, .int (iI k)), (2, .int (iI pa))]) hC dB_spare_25 hl rfl (by decide) rfl (fun ls hl => ?_)
      refine rr_iload_n hC dB_spare_26 hl rfl 3 rfl ?_
      refine rr_istore (lv' := [(4, .int (iI pa)), (3, .int (iI ((id : Nat) : Int))), (0, .ref h), (1, .int (iI k)), (2, .int (iI pa))]) hC dB_spare_27 hl (by decide) rfl (fun ls hl => ?_)
      have loop : ∀ (n : Nat) (xv : Int) (S1 : St_) (H : Heap) (locs : List Loc), xv < (n : Int) → 0 ≤ xv ∧ xv ≤ pa → agM_ S S1 → (∀ z : Int, xv < z → z ≤ pa → ¬ tkB_ S k id z pa pa) → In_ D A s.heap H locs (wB_ h r cI S1) → ∀ (ls : Array Slot), lv_has ls 5 [(0, .ref h), (1, .int (iI k)), (2, .int (iI pa)), (3, .int (iI ((id : Nat) : Int))), (4, .int (iI xv))] → W p l e (rm_ 3) s m [.ref h, .int (iI k), .int (iI pa)].toArray below meth c H locs 0 0 (EQ_ D [(cZ, .boolean), (cI, .int)] (wB_ h r cI) S s below [.ref h, .int (iI k), .int (iI pa)].toArray A (fun x S' => sprB_ S k pa x S')) (F0 m 29 ls []) := by
        intro n
        induction n with
        | zero => intros; omega
        | succ n ih =>
          intro xv S1 H locs hfu hxv hag hno hI ls hl
          refine rr_iload hC dB_spare_29 hl 4 rfl ?_
          refine rr_if_le hC 56 dB_spare_31 (by decide) (by omega) (fun c9 => ?_) (fun c9 => ?_)
          · refine rr_iconst (v := ((0 : Nat) : Int)) hC dB_spare_56 rfl ?_
            exact rr_iret hC (wB_ h r cI) hI hr hlk dB_spare_57 (Or.inr (Or.inr ⟨hk, hokp, id, hid, hff, hag, 0, rfl, by omega, by omega, Or.inl rfl, fun z z1 z2 => hno z (by omega) z2⟩))
          · refine rr_aload_n hC dB_spare_34 hl rfl 0 rfl ?_
            refine rr_iload_n hC dB_spare_35 hl rfl 1 rfl ?_
            refine rr_iload_n hC dB_spare_36 hl rfl 3 rfl ?_
            refine rr_iload hC dB_spare_37 hl 4 rfl ?_
            refine rr_iload_n hC dB_spare_39 hl rfl 2 rfl ?_
            refine rr_iload_n hC dB_spare_40 hl rfl 2 rfl ?_
            refine rr_calli (na := 5) hC (wB_ h r cI) hI hl (cB_takes l D h r cZ cI S1 k id xv pa pa (by omega) (by omega) (agM_v hag hv) (by omega) hokp) gB_B_takes (by decide +kernel) ⟨by decide, by decide⟩ rfl rfl rfl rfl (by decide) dB_spare_41 (fun x10 T11 H locs hp hI => ?_)
            obtain ⟨⟨v12, e1, hv01, hvp⟩, hag2⟩ := hp
            subst e1
            rw [agM_tk hag] at hvp
            replace hag := agM_tr hag hag2
            refine rr_if_eq hC 50 dB_spare_44 (by decide) (by omega) (fun c13 => ?_) (fun c13 => ?_)
            · refine rr_iinc (v := xv - 1) (lv' := [(4, .int (iI (xv - 1))), (0, .ref h), (1, .int (iI k)), (2, .int (iI pa)), (3, .int (iI ((id : Nat) : Int)))]) hC dB_spare_50 hl 4 rfl (by omega) (by decide) rfl (fun ls hl => ?_)
              refine rr_goto hC 29 dB_spare_53 (by decide) ?_
              exact ih (xv - 1) T11 H locs (by omega) (by omega) hag (fun z z1 z2 => by
                  by_cases e : z = xv
                  · subst e; exact fun y => by have := hvp.mpr y; omega
                  · exact hno z (by omega) z2) hI ls (lv_sub hl [1, 2, 3, 4, 0] rfl)
            · refine rr_iload hC dB_spare_47 hl 4 rfl ?_
              exact rr_iret hC (wB_ h r cI) hI hr hlk dB_spare_49 (Or.inr (Or.inr ⟨hk, hokp, id, hid, hff, hag, xv, rfl, by omega, by omega, Or.inr (hvp.mp (by omega)), hno⟩))
      exact loop 61 pa S _ _ (by omega) (by omega) (agM_rf S) (fun z z1 z2 => by omega) hI ls (lv_sub hl [2, 3, 4, 1, 0] rfl)
    · refine rr_iconst (v := (-1 : Int)) hC dB_spare_19 rfl ?_
      exact rr_iret hC (wB_ h r cI) hI hr hlk dB_spare_20 (Or.inr (Or.inl ⟨by omega, b7_p.mp (by omega), rfl, rfl⟩))
  · refine rr_bipush (v := (-6 : Int)) hC dB_spare_8 (by decide) ?_
    exact rr_iret hC (wB_ h r cI) hI hr hlk dB_spare_10 (Or.inl ⟨by omega, rfl, rfl⟩)
end
section
/-! ROWS for the constructors and for the law -/
section EI
variable {p : Program} {l : Launch} {e : Env} {R : Room} {s : State} {m : MethodId} {args : Array Value} {below : List Frame} {meth : Method} {c : Code} {H H0 : Heap} {locs : List Loc} {cells slots : Nat} {Q : State → Prop}
variable {cc : ByteArray} {pc : Nat} {ls : Array Slot} {rest : List Value} {nL : Nat} {own : String} {D : va_G} {A : Nat → Prop} {lv : List (Nat × Value)} {cZ cI : ClassId} {ws : va_W}
theorem rr_newI (hC : Cx_ p s m args c cc nL own D [(cZ, .boolean), (cI, .int)] A) (hI : In_ D A s.heap H locs ws) {n : Nat} (hn : n ≤ 64) (hcells : cells + 1 ≤ R.cells) (hslots : slots + n ≤ R.slots) (hdg : decode cc pc = .ok (.newarray .int, 2)) (kk : ∀ (q : Nat) (H1 : Heap), In_ D A s.heap H1 locs (ws ++ [(q, ai_ cI n (fun _ => 0))]) → W p l e R s m args below meth c H1 locs (cells + 1) (slots + n) Q (F0 m (pc + 2) ls (.ref q :: rest))) : W p l e R s m args below meth c H locs cells slots Q (F0 m pc ls (.int (iI (n : Int)) :: rest)) := by
  refine va_newa (atype := .int) (ty := .int) (a0 := (n, .inl (fun _ => iI 0))) hC.1.1 hC.1.2.1 (hC.1.2.2.2.2 _ e_arrI) rfl hC.2.1 hI.1 hI.2.1 hI.2.2 hC.2.2 (fun _ => rfl) (fun z => ?_) (iI_cl (by omega)) (by show n * 4 ≤ _; omega) hcells hslots hdg (fun q cA H1 hK hP hD hS => ?_)
  · have := (iI_lt (a := (n : Int)) (b := 0) (by omega) (by omega)).mp z
    omega
  · have h1 : s.vm.findClass ("[" ++ (FieldType.int).toString) = some cA := (hK.2 2 (cA, .int) rfl).2
    have h2 : s.vm.findClass ("[" ++ (FieldType.int).toString) = some cI := (hC.2.1.2 1 (cI, .int) rfl).2
    have h3 : cA = cI := Option.some.inj (h1.symm.trans h2)
    subst h3
    exact kk q H1 ⟨hP, hD, hS⟩
theorem rr_newZ (hC : Cx_ p s m args c cc nL own D [(cZ, .boolean), (cI, .int)] A) (hI : In_ D A s.heap H locs ws) {n : Nat} (hn : n ≤ 64) (hcells : cells + 1 ≤ R.cells) (hslots : slots + n ≤ R.slots) (hdg : decode cc pc = .ok (.newarray .boolean, 2)) (kk : ∀ (q : Nat) (H1 : Heap), In_ D A s.heap H1 locs (ws ++ [(q, ai_ cZ n (fun _ => 0))]) → W p l e R s m args below meth c H1 locs (cells + 1) (slots + n) Q (F0 m (pc + 2) ls (.ref q :: rest))) : W p l e R s m args below meth c H locs cells slots Q (F0 m pc ls (.int (iI (n : Int)) :: rest)) := by
  refine va_newa (atype := .boolean) (ty := .boolean) (a0 := (n, .inl (fun _ => iI 0))) hC.1.1 hC.1.2.1 (hC.1.2.2.2.2 _ e_arrZ) rfl hC.2.1 hI.1 hI.2.1 hI.2.2 hC.2.2 (fun _ => rfl) (fun z => ?_) (iI_cl (by omega)) (by show n * 1 ≤ _; omega) hcells hslots hdg (fun q cA H1 hK hP hD hS => ?_)
  · have := (iI_lt (a := (n : Int)) (b := 0) (by omega) (by omega)).mp z
    omega
  · have h1 : s.vm.findClass ("[" ++ (FieldType.boolean).toString) = some cA := (hK.2 2 (cA, .boolean) rfl).2
    have h2 : s.vm.findClass ("[" ++ (FieldType.boolean).toString) = some cZ := (hC.2.1.2 0 (cZ, .boolean) rfl).2
    have h3 : cA = cZ := Option.some.inj (h1.symm.trans h2)
    subst h3
    exact kk q H1 ⟨hP, hD, hS⟩
theorem rA_putF {tys : List (ClassId × FieldType)} (hC : Cx_ p s m args c cc nL nA_ D tys A) (hin : meth.name = "<init>") (hI : In_ D A H0 H locs ws) {h : Nat} {fs : List Value} (he : ws[0]? = some (h, .inr (0, fs))) (k : Nat) {idx : Nat} {v : Value} (ty : FieldType) (hk : k < 14) (hlink : Cond.fieldLink nA_ idx (fA_ k).1 (fA_ k).2.1 (fA_ k).2.2.1 ∈ tb_) (hfin : (fA_ k).2.2.2 = true) (hdec : (fA_ k).1 = nA_) (hd : parseFieldDescriptor (fA_ k).2.2.1 = some ty) (hn : narrow ty v = v) (hfit : fits ty v = true) (hl : k < fs.length) (hdg : decode cc pc = .ok (.putfield idx, 3)) (kk : ∀ (H1 : Heap) (locs1 : List Loc), In_ D A H0 H1 locs1 (ws.set 0 (h, .inr (0, fs.set k v))) → W p l e R s m args below meth c H1 locs1 cells slots Q (F0 m (pc + 3) ls rest)) : W p l e R s m args below meth c H locs cells slots Q (F0 m pc ls (v :: .ref h :: rest)) :=
  va_putF (ty := ty) hC.1.1 hC.1.2.1 hC.1.2.2.2.2 iA_in tA_ tA_ok nA_ne hC.1.2.2.2.1 hC.2.1 hI.1 hI.2.1 hI.2.2 0 (ci := 0) he rfl k hk (hC.1.2.2.2.2 _ hlink) (fun _ h9 => h9) hfin hin hdec hd hn hfit hl hdg (fun H1 locs1 h1 h2 h3 => kk H1 locs1 ⟨h1, h2, h3⟩)
theorem rB_putF {tys : List (ClassId × FieldType)} (hC : Cx_ p s m args c cc nL nB_ D tys A) (hin : meth.name = "<init>") (hI : In_ D A H0 H locs ws) {h : Nat} {fs : List Value} (he : ws[0]? = some (h, .inr (1, fs))) (k : Nat) {idx : Nat} {v : Value} (ty : FieldType) (hk : k < 14) (hlink : Cond.fieldLink nB_ idx (fB_ k).1 (fB_ k).2.1 (fB_ k).2.2.1 ∈ tb_) (hfin : (fB_ k).2.2.2 = true) (hdec : (fB_ k).1 = nB_) (hd : parseFieldDescriptor (fB_ k).2.2.1 = some ty) (hn : narrow ty v = v) (hfit : fits ty v = true) (hl : k < fs.length) (hdg : decode cc pc = .ok (.putfield idx, 3)) (kk : ∀ (H1 : Heap) (locs1 : List Loc), In_ D A H0 H1 locs1 (ws.set 0 (h, .inr (1, fs.set k v))) → W p l e R s m args below meth c H1 locs1 cells slots Q (F0 m (pc + 3) ls rest)) : W p l e R s m args below meth c H locs cells slots Q (F0 m pc ls (v :: .ref h :: rest)) :=
  va_putF (ty := ty) hC.1.1 hC.1.2.1 hC.1.2.2.2.2 iB_in tB_ tB_ok nB_ne hC.1.2.2.2.1 hC.2.1 hI.1 hI.2.1 hI.2.2 0 (ci := 1) he rfl k hk (hC.1.2.2.2.2 _ hlink) (fun _ h9 => h9) hfin hin hdec hd hn hfit hl hdg (fun H1 locs1 h1 h2 h3 => kk H1 locs1 ⟨h1, h2, h3⟩)
theorem rr_objI {tys : List (ClassId × FieldType)} (hC : Cx_ p s m args c cc nL own D tys A) (hl : lv_has ls nL lv) {a idx : Nat} (ho : Cond.methodLink own idx objectInit ∈ tb_) (hd : decode cc pc = .ok (.invokespecial idx, 3)) (hf : 1 ≤ R.frames) (hlo : 2 * (F0 m pc ls ([] : List Value)).monitorRoom + (([] : List Value).map fun v => v.category).sum + 12 ≤ R.locals) (kk : W p l e R s m args below meth c H locs cells slots Q (F0 m (pc + 3) ls [])) : W p l e R s m args below meth c H locs cells slots Q (F0 m pc ls [.ref a]) :=
  W.objInit hC.1.1 hC.1.2.1 hC.1.2.2.2.1 (hC.1.2.2.2.2 _ ho) (hC.1.2.2.2.2 _ oO_i) (hC.1.2.2.2.2 _ oO_c) rfl (by rw [hC.1.2.2.1]; exact hl.1) rfl hd hf hlo kk
end EI
/-- a constructor's contract: the blank object comes in, the world goes out -/
def MC_ (l : Launch) (D : va_G) (tys : List (ClassId × FieldType)) (w : (Nat → Nat) → St_ → va_W) (h : Nat) (bl : va_E) (y : MethodName) (b : ByteArray) (n : Nat) (mc ms : Nat) (av : List Value) (post : St_ → Prop) : Prop :=
  ∀ sz : Nat, Met l y (.code y b n none :: tb_) { frames := 1, cells := mc, slots := ms, locals := 30 } (va_Pc av (fun U => U.heap.size = sz ∧ va_P D ecl_ [(h, bl)] U.heap ∧ va_K D ecl_ tys U ∧ va_D (fun _ => True) [(h, bl)])) (va_Qv (fun u : (Nat → Nat) × St_ => post u.2) (fun u t => va_P D ecl_ (w u.1 u.2) t.heap ∧ va_K D ecl_ tys t ∧ va_D (va_A [(h, bl)] sz) (w u.1 u.2)) (va_A [(h, bl)] sz)) mc ms (va_A [(h, bl)] sz)
abbrev EC_ (D : va_G) (tys : List (ClassId × FieldType)) (w : (Nat → Nat) → St_ → va_W) (s : State) (below : List Frame) (args : Array Value) (A : Nat → Prop) (mc ms : Nat) (post : St_ → Prop) : State → Prop := MQ below (va_Qv (fun u : (Nat → Nat) × St_ => post u.2) (fun u t => va_P D ecl_ (w u.1 u.2) t.heap ∧ va_K D ecl_ tys t ∧ va_D A (w u.1 u.2)) A) args s mc ms A
theorem MC_of {l : Launch} {D : va_G} {tys : List (ClassId × FieldType)} {w : (Nat → Nat) → St_ → va_W} {h : Nat} {bl : va_E} {y : MethodName} {b : ByteArray} {n mc ms : Nat} {av : List Value} {post : St_ → Prop} (hy : plainName y.cls = true) (hyn : y.name = "<init>") (hn : (lg_sl av).length ≤ n)
    (body : ∀ (p : Program) (e : Env) (s : State) (m : MethodId) (below : List Frame) (meth : Method) (c : Code) (A : Nat → Prop) (ls : Array Slot), Cx_ p s m av.toArray c b n y.cls D tys A → meth.name = "<init>" → In_ D A s.heap s.heap [] [(h, bl)] → meth.sig.returnType = none → meth.locks = false → lv_has ls n (lv_args 0 av) → W p l e { frames := 1, cells := mc, slots := ms, locals := 30 } s m av.toArray below meth c s.heap [] 0 0 (EC_ D tys w s below av.toArray A mc ms post) (F0 m 0 ls [])) : MC_ l D tys w h bl y b n mc ms av post := by
  intro sz
  refine Met.ofW (cc := b) (maxL := n) (ret := none) hy rfl ?_
  intro p e s m args below meth c s₁ B hml hv
  obtain ⟨rfl, hsz, hP, hK, hD0⟩ := hv
  have hts := atoms_spec (ws := .code y b n none :: tb_) B.pre
  have hown : s.vm.findClass y.cls = some m.cls := findClass_of_methodNamed B.named
  have hin : meth.name = "<init>" := hyn ▸ (name_of_methodNamed B.named B.method).1
  subst hsz
  have hl := lv_entry av (n := n) hn
  rw [lg_entry_eq]
  exact body p e s m below meth c _ _ ⟨⟨B.exec, B.bytes, hml, hown, fun w hw => hts w (List.mem_cons_of_mem _ hw)⟩, hK, fun q hq => Or.inr hq⟩ hin ⟨hP, hD0.self, va_S.rf⟩ B.returns B.notSynchronized hl
theorem rr_cret {p : Program} {l : Launch} {e : Env} {R : Room} {s : State} {m : MethodId} {args : Array Value} {below : List Frame} {meth : Method} {c : Code} {H : Heap} {locs : List Loc} {cc : ByteArray} {pc : Nat} {ls : Array Slot} {nL : Nat} {own : String} {D : va_G} {tys : List (ClassId × FieldType)} {A : Nat → Prop} {mc ms : Nat} {post : St_ → Prop} {S : St_} (r : Nat → Nat) (hC : Cx_ p s m args c cc nL own D tys A) (w : (Nat → Nat) → St_ → va_W) (hI : In_ D A s.heap H locs (w r S)) (hr : meth.sig.returnType = none) (hlk : meth.locks = false) (hdg : decode cc pc = .ok (.return_, 1)) (hp : post S) : W p l e R s m args below meth c H locs mc ms (EC_ D tys w s below args A mc ms post) (F0 m pc ls []) :=
  W.vret hC.1.1 hC.1.2.1 hr (fun t ht hW => ⟨⟨(r, S), rfl, hp, by rw [ht]; exact hI.1, va_K.moved hW.alike hC.2.1, hI.2.1⟩, hI.2.2.F ht⟩) hI.2.2.2.2 hdg hlk
end
section
/-! the constructors, and the law's cell, walked by program -/
def clp_ (a : Int) : Int := if a < 1 then 1 else if 3 < a then 3 else a
def blA_ : va_E := .inr (0, [.int 0, .int 0, .null, .null, .null, .null, .null, .int 0, .int 0, .null, .null, .null, .null, .null])
def blB_ : va_E := .inr (1, [.int 0, .null, .null, .null, .null, .null, .null, .null, .null, .null, .null, .null, .null, .null])
def iniA_ (a : Int) (S : St_) : Prop := S 0 0 = clp_ a ∧ (∀ i, i < 26 → S 4 i = -1) ∧ S 7 0 = -1 ∧ ∀ j k, j ≠ 0 → j ≠ 4 → j ≠ 7 → S j k = 0
def iniB_ (a : Int) (S : St_) : Prop := S 0 0 = clp_ a ∧ ∀ j k, j ≠ 0 → S j k = 0
set_option maxRecDepth 100000 in
set_option maxHeartbeats 4000000 in
/-- the constructor -/
theorem cA_init (l : Launch) (D : va_G) (h : Nat) (cZ cI : ClassId) (a : Int) (ha : -2147483648 ≤ a ∧ a ≤ 2147483647) : MC_ l D [(cZ, .boolean), (cI, .int)] (fun r S => wA_ h r cZ cI S) h blA_ yA_init kA_init 4 10 310 [.ref h, .int (iI a)] (iniA_ a) := by
  refine MC_of (by decide) rfl (Nat.le_of_ble_eq_true rfl) ?_
  intro p e s m below meth c A ls hC hin hI hr hlk hl
  have hl : lv_has ls 4 [(0, .ref h), (1, .int (iI a))] := hl
  refine rr_aload_n hC dA_init_0 hl rfl 0 rfl ?_
  refine rr_objI hC hl oA_ dA_init_1 (by decide) (Nat.le_of_ble_eq_true rfl) ?_
  refine rr_aload_n hC dA_init_4 hl rfl 0 rfl ?_
  refine rr_bipush (v := ((13 : Nat) : Int)) hC dA_init_5 (by decide) ?_
  refine rr_newZ hC hI (by decide) (by decide) (by decide) dA_init_7 (fun q2 H hI => ?_)
  have hI : In_ D A s.heap H _ [(h, .inr (0, [.int 0, .int 0, .null, .null, .null, .null, .null, .int 0, .int 0, .null, .null, .null, .null, .null])), (q2, ai_ cZ 13 (fun _ => 0))] := hI
  refine rA_putF hC hin hI rfl 2 (.array .boolean) (by decide) lA_2 rfl rfl (by decide +kernel) rfl rfl (Nat.le_of_ble_eq_true rfl) dA_init_9 (fun H locs hI => ?_)
  have hI : In_ D A s.heap H locs [(h, .inr (0, [.int 0, .int 0, .ref q2, .null, .null, .null, .null, .int 0, .int 0, .null, .null, .null, .null, .null])), (q2, ai_ cZ 13 (fun _ => 0))] := hI
  refine rr_aload_n hC dA_init_12 hl rfl 0 rfl ?_
  refine rr_bipush (v := ((13 : Nat) : Int)) hC dA_init_13 (by decide) ?_
  refine rr_newI hC hI (by decide) (by decide) (by decide) dA_init_15 (fun q3 H hI => ?_)
  have hI : In_ D A s.heap H _ [(h, .inr (0, [.int 0, .int 0, .ref q2, .null, .null, .null, .null, .int 0, .int 0, .null, .null, .null, .null, .null])), (q2, ai_ cZ 13 (fun _ => 0)), (q3, ai_ cI 13 (fun _ => 0))] := hI
  refine rA_putF hC hin hI rfl 3 (.array .int) (by decide) lA_3 rfl rfl (by decide +kernel) rfl rfl (Nat.le_of_ble_eq_true rfl) dA_init_17 (fun H locs hI => ?_)
  have hI : In_ D A s.heap H locs [(h, .inr (0, [.int 0, .int 0, .ref q2, .ref q3, .null, .null, .null, .int 0, .int 0, .null, .null, .null, .null, .null])), (q2, ai_ cZ 13 (fun _ => 0)), (q3, ai_ cI 13 (fun _ => 0))] := hI
  refine rr_aload_n hC dA_init_20 hl rfl 0 rfl ?_
  refine rr_bipush (v := ((26 : Nat) : Int)) hC dA_init_21 (by decide) ?_
  refine rr_newI hC hI (by decide) (by decide) (by decide) dA_init_23 (fun q4 H hI => ?_)
  have hI : In_ D A s.heap H _ [(h, .inr (0, [.int 0, .int 0, .ref q2, .ref q3, .null, .null, .null, .int 0, .int 0, .null, .null, .null, .null, .null])), (q2, ai_ cZ 13 (fun _ => 0)), (q3, ai_ cI 13 (fun _ => 0)), (q4, ai_ cI 26 (fun _ => 0))] := hI
  refine rA_putF hC hin hI rfl 4 (.array .int) (by decide) lA_4 rfl rfl (by decide +kernel) rfl rfl (Nat.le_of_ble_eq_true rfl) dA_init_25 (fun H locs hI => ?_)
  have hI : In_ D A s.heap H locs [(h, .inr (0, [.int 0, .int 0, .ref q2, .ref q3, .ref q4, .null, .null, .int 0, .int 0, .null, .null, .null, .null, .null])), (q2, ai_ cZ 13 (fun _ => 0)), (q3, ai_ cI 13 (fun _ => 0)), (q4, ai_ cI 26 (fun _ => 0))] := hI
  refine rr_aload_n hC dA_init_28 hl rfl 0 rfl ?_
  refine rr_bipush (v := ((26 : Nat) : Int)) hC dA_init_29 (by decide) ?_
  refine rr_newI hC hI (by decide) (by decide) (by decide) dA_init_31 (fun q5 H hI => ?_)
  have hI : In_ D A s.heap H _ [(h, .inr (0, [.int 0, .int 0, .ref q2, .ref q3, .ref q4, .null, .null, .int 0, .int 0, .null, .null, .null, .null, .null])), (q2, ai_ cZ 13 (fun _ => 0)), (q3, ai_ cI 13 (fun _ => 0)), (q4, ai_ cI 26 (fun _ => 0)), (q5, ai_ cI 26 (fun _ => 0))] := hI
  refine rA_putF hC hin hI rfl 5 (.array .int) (by decide) lA_5 rfl rfl (by decide +kernel) rfl rfl (Nat.le_of_ble_eq_true rfl) dA_init_33 (fun H locs hI => ?_)
  have hI : In_ D A s.heap H locs [(h, .inr (0, [.int 0, .int 0, .ref q2, .ref q3, .ref q4, .ref q5, .null, .int 0, .int 0, .null, .null, .null, .null, .null])), (q2, ai_ cZ 13 (fun _ => 0)), (q3, ai_ cI 13 (fun _ => 0)), (q4, ai_ cI 26 (fun _ => 0)), (q5, ai_ cI 26 (fun _ => 0))] := hI
  refine rr_aload_n hC dA_init_36 hl rfl 0 rfl ?_
  refine rr_bipush (v := ((26 : Nat) : Int)) hC dA_init_37 (by decide) ?_
  refine rr_newI hC hI (by decide) (by decide) (by decide) dA_init_39 (fun q6 H hI => ?_)
  have hI : In_ D A s.heap H _ [(h, .inr (0, [.int 0, .int 0, .ref q2, .ref q3, .ref q4, .ref q5, .null, .int 0, .int 0, .null, .null, .null, .null, .null])), (q2, ai_ cZ 13 (fun _ => 0)), (q3, ai_ cI 13 (fun _ => 0)), (q4, ai_ cI 26 (fun _ => 0)), (q5, ai_ cI 26 (fun _ => 0)), (q6, ai_ cI 26 (fun _ => 0))] := hI
  refine rA_putF hC hin hI rfl 6 (.array .int) (by decide) lA_6 rfl rfl (by decide +kernel) rfl rfl (Nat.le_of_ble_eq_true rfl) dA_init_41 (fun H locs hI => ?_)
  have hI : In_ D A s.heap H locs [(h, .inr (0, [.int 0, .int 0, .ref q2, .ref q3, .ref q4, .ref q5, .ref q6, .int 0, .int 0, .null, .null, .null, .null, .null])), (q2, ai_ cZ 13 (fun _ => 0)), (q3, ai_ cI 13 (fun _ => 0)), (q4, ai_ cI 26 (fun _ => 0)), (q5, ai_ cI 26 (fun _ => 0)), (q6, ai_ cI 26 (fun _ => 0))] := hI
  refine rr_aload_n hC dA_init_44 hl rfl 0 rfl ?_
  refine rr_bipush (v := ((64 : Nat) : Int)) hC dA_init_45 (by decide) ?_
  refine rr_newI hC hI (by decide) (by decide) (by decide) dA_init_47 (fun q9 H hI => ?_)
  have hI : In_ D A s.heap H _ [(h, .inr (0, [.int 0, .int 0, .ref q2, .ref q3, .ref q4, .ref q5, .ref q6, .int 0, .int 0, .null, .null, .null, .null, .null])), (q2, ai_ cZ 13 (fun _ => 0)), (q3, ai_ cI 13 (fun _ => 0)), (q4, ai_ cI 26 (fun _ => 0)), (q5, ai_ cI 26 (fun _ => 0)), (q6, ai_ cI 26 (fun _ => 0)), (q9, ai_ cI 64 (fun _ => 0))] := hI
  refine rA_putF hC hin hI rfl 9 (.array .int) (by decide) lA_9 rfl rfl (by decide +kernel) rfl rfl (Nat.le_of_ble_eq_true rfl) dA_init_49 (fun H locs hI => ?_)
  have hI : In_ D A s.heap H locs [(h, .inr (0, [.int 0, .int 0, .ref q2, .ref q3, .ref q4, .ref q5, .ref q6, .int 0, .int 0, .ref q9, .null, .null, .null, .null])), (q2, ai_ cZ 13 (fun _ => 0)), (q3, ai_ cI 13 (fun _ => 0)), (q4, ai_ cI 26 (fun _ => 0)), (q5, ai_ cI 26 (fun _ => 0)), (q6, ai_ cI 26 (fun _ => 0)), (q9, ai_ cI 64 (fun _ => 0))] := hI
  refine rr_aload_n hC dA_init_52 hl rfl 0 rfl ?_
  refine rr_bipush (v := ((64 : Nat) : Int)) hC dA_init_53 (by decide) ?_
  refine rr_newI hC hI (by decide) (by decide) (by decide) dA_init_55 (fun q10 H hI => ?_)
  have hI : In_ D A s.heap H _ [(h, .inr (0, [.int 0, .int 0, .ref q2, .ref q3, .ref q4, .ref q5, .ref q6, .int 0, .int 0, .ref q9, .null, .null, .null, .null])), (q2, ai_ cZ 13 (fun _ => 0)), (q3, ai_ cI 13 (fun _ => 0)), (q4, ai_ cI 26 (fun _ => 0)), (q5, ai_ cI 26 (fun _ => 0)), (q6, ai_ cI 26 (fun _ => 0)), (q9, ai_ cI 64 (fun _ => 0)), (q10, ai_ cI 64 (fun _ => 0))] := hI
  refine rA_putF hC hin hI rfl 10 (.array .int) (by decide) lA_10 rfl rfl (by decide +kernel) rfl rfl (Nat.le_of_ble_eq_true rfl) dA_init_57 (fun H locs hI => ?_)
  have hI : In_ D A s.heap H locs [(h, .inr (0, [.int 0, .int 0, .ref q2, .ref q3, .ref q4, .ref q5, .ref q6, .int 0, .int 0, .ref q9, .ref q10, .null, .null, .null])), (q2, ai_ cZ 13 (fun _ => 0)), (q3, ai_ cI 13 (fun _ => 0)), (q4, ai_ cI 26 (fun _ => 0)), (q5, ai_ cI 26 (fun _ => 0)), (q6, ai_ cI 26 (fun _ => 0)), (q9, ai_ cI 64 (fun _ => 0)), (q10, ai_ cI 64 (fun _ => 0))] := hI
  refine rr_aload_n hC dA_init_60 hl rfl 0 rfl ?_
  refine rr_bipush (v := ((26 : Nat) : Int)) hC dA_init_61 (by decide) ?_
  refine rr_newI hC hI (by decide) (by decide) (by decide) dA_init_63 (fun q11 H hI => ?_)
  have hI : In_ D A s.heap H _ [(h, .inr (0, [.int 0, .int 0, .ref q2, .ref q3, .ref q4, .ref q5, .ref q6, .int 0, .int 0, .ref q9, .ref q10, .null, .null, .null])), (q2, ai_ cZ 13 (fun _ => 0)), (q3, ai_ cI 13 (fun _ => 0)), (q4, ai_ cI 26 (fun _ => 0)), (q5, ai_ cI 26 (fun _ => 0)), (q6, ai_ cI 26 (fun _ => 0)), (q9, ai_ cI 64 (fun _ => 0)), (q10, ai_ cI 64 (fun _ => 0)), (q11, ai_ cI 26 (fun _ => 0))] := hI
  refine rA_putF hC hin hI rfl 11 (.array .int) (by decide) lA_11 rfl rfl (by decide +kernel) rfl rfl (Nat.le_of_ble_eq_true rfl) dA_init_65 (fun H locs hI => ?_)
  have hI : In_ D A s.heap H locs [(h, .inr (0, [.int 0, .int 0, .ref q2, .ref q3, .ref q4, .ref q5, .ref q6, .int 0, .int 0, .ref q9, .ref q10, .ref q11, .null, .null])), (q2, ai_ cZ 13 (fun _ => 0)), (q3, ai_ cI 13 (fun _ => 0)), (q4, ai_ cI 26 (fun _ => 0)), (q5, ai_ cI 26 (fun _ => 0)), (q6, ai_ cI 26 (fun _ => 0)), (q9, ai_ cI 64 (fun _ => 0)), (q10, ai_ cI 64 (fun _ => 0)), (q11, ai_ cI 26 (fun _ => 0))] := hI
  refine rr_aload_n hC dA_init_68 hl rfl 0 rfl ?_
  refine rr_bipush (v := ((26 : Nat) : Int)) hC dA_init_69 (by decide) ?_
  refine rr_newI hC hI (by decide) (by decide) (by decide) dA_init_71 (fun q12 H hI => ?_)
  have hI : In_ D A s.heap H _ [(h, .inr (0, [.int 0, .int 0, .ref q2, .ref q3, .ref q4, .ref q5, .ref q6, .int 0, .int 0, .ref q9, .ref q10, .ref q11, .null, .null])), (q2, ai_ cZ 13 (fun _ => 0)), (q3, ai_ cI 13 (fun _ => 0)), (q4, ai_ cI 26 (fun _ => 0)), (q5, ai_ cI 26 (fun _ => 0)), (q6, ai_ cI 26 (fun _ => 0)), (q9, ai_ cI 64 (fun _ => 0)), (q10, ai_ cI 64 (fun _ => 0)), (q11, ai_ cI 26 (fun _ => 0)), (q12, ai_ cI 26 (fun _ => 0))] := hI
  refine rA_putF hC hin hI rfl 12 (.array .int) (by decide) lA_12 rfl rfl (by decide +kernel) rfl rfl (Nat.le_of_ble_eq_true rfl) dA_init_73 (fun H locs hI => ?_)
  have hI : In_ D A s.heap H locs [(h, .inr (0, [.int 0, .int 0, .ref q2, .ref q3, .ref q4, .ref q5, .ref q6, .int 0, .int 0, .ref q9, .ref q10, .ref q11, .ref q12, .null])), (q2, ai_ cZ 13 (fun _ => 0)), (q3, ai_ cI 13 (fun _ => 0)), (q4, ai_ cI 26 (fun _ => 0)), (q5, ai_ cI 26 (fun _ => 0)), (q6, ai_ cI 26 (fun _ => 0)), (q9, ai_ cI 64 (fun _ => 0)), (q10, ai_ cI 64 (fun _ => 0)), (q11, ai_ cI 26 (fun _ => 0)), (q12, ai_ cI 26 (fun _ => 0))] := hI
  refine rr_aload_n hC dA_init_76 hl rfl 0 rfl ?_
  refine rr_bipush (v := ((26 : Nat) : Int)) hC dA_init_77 (by decide) ?_
  refine rr_newI hC hI (by decide) (by decide) (by decide) dA_init_79 (fun q13 H hI => ?_)
  have hI : In_ D A s.heap H _ [(h, .inr (0, [.int 0, .int 0, .ref q2, .ref q3, .ref q4, .ref q5, .ref q6, .int 0, .int 0, .ref q9, .ref q10, .ref q11, .ref q12, .null])), (q2, ai_ cZ 13 (fun _ => 0)), (q3, ai_ cI 13 (fun _ => 0)), (q4, ai_ cI 26 (fun _ => 0)), (q5, ai_ cI 26 (fun _ => 0)), (q6, ai_ cI 26 (fun _ => 0)), (q9, ai_ cI 64 (fun _ => 0)), (q10, ai_ cI 64 (fun _ => 0)), (q11, ai_ cI 26 (fun _ => 0)), (q12, ai_ cI 26 (fun _ => 0)), (q13, ai_ cI 26 (fun _ => 0))] := hI
  refine rA_putF hC hin hI rfl 13 (.array .int) (by decide) lA_13 rfl rfl (by decide +kernel) rfl rfl (Nat.le_of_ble_eq_true rfl) dA_init_81 (fun H locs hI => ?_)
  have hI : In_ D A s.heap H locs [(h, .inr (0, [.int 0, .int 0, .ref q2, .ref q3, .ref q4, .ref q5, .ref q6, .int 0, .int 0, .ref q9, .ref q10, .ref q11, .ref q12, .ref q13])), (q2, ai_ cZ 13 (fun _ => 0)), (q3, ai_ cI 13 (fun _ => 0)), (q4, ai_ cI 26 (fun _ => 0)), (q5, ai_ cI 26 (fun _ => 0)), (q6, ai_ cI 26 (fun _ => 0)), (q9, ai_ cI 64 (fun _ => 0)), (q10, ai_ cI 64 (fun _ => 0)), (q11, ai_ cI 26 (fun _ => 0)), (q12, ai_ cI 26 (fun _ => 0)), (q13, ai_ cI 26 (fun _ => 0))] := hI
  obtain ⟨r, hre⟩ : ∃ r : Nat → Nat, r = (fun k => if k = 2 then q2 else if k = 3 then q3 else if k = 4 then q4 else if k = 5 then q5 else if k = 6 then q6 else if k = 9 then q9 else if k = 10 then q10 else if k = 11 then q11 else if k = 12 then q12 else if k = 13 then q13 else 0) := ⟨_, rfl⟩
  have hI : In_ D A s.heap H locs (wA_ h r cZ cI (fun _ _ => 0)) := by rw [hre]; exact hI
  have join : ∀ (v : Int), v = clp_ a → ∀ (ls : Array Slot), lv_has ls 4 [(0, .ref h), (1, .int (iI a)), (2, .int (iI v))] → W p l e { frames := 1, cells := 10, slots := 310, locals := 30 } s m [.ref h, .int (iI a)].toArray below meth c H locs 10 310 (EC_ D [(cZ, .boolean), (cI, .int)] (fun r S => wA_ h r cZ cI S) s below [.ref h, .int (iI a)].toArray A 10 310 (iniA_ a)) (F0 m 100 ls []) := by
    intro v hcv ls hl
    have hv3 : 1 ≤ v ∧ v ≤ 3 := by rw [hcv]; unfold clp_; split; omega; split <;> omega
    refine rr_aload_n hC dA_init_100 hl rfl 0 rfl ?_
    refine rr_iload_n hC dA_init_101 hl rfl 2 rfl ?_
    refine rA_putF hC hin hI rfl 0 .int (by decide) lA_0 rfl rfl (by decide +kernel) rfl rfl (Nat.le_of_ble_eq_true rfl) dA_init_102 (fun H locs hI => ?_)
    have hI : In_ D A s.heap H locs (wA_ h r cZ cI (up_ (fun _ _ => 0) 0 0 v)) := hI
    refine rr_iconst (v := ((0 : Nat) : Int)) hC dA_init_105 rfl ?_
    refine rr_istore_n (lv' := [(3, .int (iI ((0 : Nat) : Int))), (0, .ref h), (1, .int (iI a)), (2, .int (iI v))]) hC dA_init_106 hl rfl (by decide) rfl (fun ls hl => ?_)
    have loop : ∀ (n i : Nat) (S1 : St_) (H : Heap) (locs : List Loc), i ≤ 26 → 26 < i + n → (S1 0 0 = v ∧ (∀ q, q < i → S1 4 q = -1) ∧ ∀ j k, j ≠ 0 → j ≠ 4 → S1 j k = 0) → In_ D A s.heap H locs (wA_ h r cZ cI S1) → ∀ (ls : Array Slot), lv_has ls 4 [(0, .ref h), (3, .int (iI ((i : Nat) : Int)))] → W p l e { frames := 1, cells := 10, slots := 310, locals := 30 } s m [.ref h, .int (iI a)].toArray below meth c H locs 10 310 (EC_ D [(cZ, .boolean), (cI, .int)] (fun r S => wA_ h r cZ cI S) s below [.ref h, .int (iI a)].toArray A 10 310 (iniA_ a)) (F0 m 107 ls []) := by
      intro n
      induction n with
      | zero => intros; omega
      | succ n ih =>
        intro i S1 H locs hi hfu hS hI ls hl
        refine rr_iload_n hC dA_init_107 hl rfl 1 rfl ?_
        refine rr_bipush (v := ((26 : Nat) : Int)) hC dA_init_108 (by decide) ?_
        refine rr_icmp_ge hC 126 dA_init_110 (by decide) (by omega) (by omega) (fun c1 => ?_) (fun c1 => ?_)
        · refine rr_aload_n hC dA_init_126 hl rfl 0 rfl ?_
          refine rr_iconst (v := (-1 : Int)) hC dA_init_127 rfl ?_
          refine rA_put hC hI 7 (by decide) lA_7 rfl (by decide +kernel) rfl dA_init_128 (fun H locs hI => ?_)
          exact rr_cret r hC (fun r S => wA_ h r cZ cI S) hI hr hlk dA_init_131 ⟨hS.1.trans hcv, fun q hq => hS.2.1 q (by omega), up_eq _ _ _ _, fun j k h0 h4 h7 => by rw [up_ne _ _ _ _ (by omega)]; exact hS.2.2 j k h0 h4⟩
        · refine rr_aload_n hC dA_init_113 hl rfl 0 rfl ?_
          refine rA_get hC hI 4 (by decide) lA_4 rfl dA_init_114 ?_
          refine rr_iload_n hC dA_init_117 hl rfl 1 rfl ?_
          refine rr_iconst (v := (-1 : Int)) hC dA_init_118 rfl ?_
          refine rr_iast hC (wA_ h r cZ cI) hI 4 3 1 rfl rfl (by decide) (by omega) rfl dA_init_119 (fun H locs hI => ?_)
          refine rr_iinc (v := ((i + 1 : Nat) : Int)) (lv' := [(3, .int (iI ((i + 1 : Nat) : Int))), (0, .ref h)]) hC dA_init_120 hl 1 rfl (by omega) (by decide) rfl (fun ls hl => ?_)
          refine rr_goto hC 107 dA_init_123 (by decide) ?_
          exact ih (i + 1) (up_ S1 4 i (-1 : Int)) H locs (by omega) (by omega) ⟨hS.1, fun q hq => by
              rw [up_at]
              by_cases z : q = i
              · rw [if_pos ⟨rfl, z⟩]
              · rw [if_neg (by omega)]; exact hS.2.1 q (by omega), fun j k h0 h4 => by rw [up_ne _ _ _ _ (by omega)]; exact hS.2.2 j k h0 h4⟩ hI ls (lv_sub hl [1, 0] rfl)
    exact loop 27 0 (up_ (fun _ _ => 0) 0 0 v) H locs (by omega) (by omega) ⟨up_eq _ _ _ _, fun q hq => absurd hq (Nat.not_lt_zero q), fun j k h0 h4 => up_ne _ _ _ _ (by omega)⟩ hI ls (lv_sub hl [1, 0] rfl)
  refine rr_iload_n hC dA_init_84 hl rfl 1 rfl ?_
  refine rr_istore_n (lv' := [(2, .int (iI a)), (0, .ref h), (1, .int (iI a))]) hC dA_init_85 hl rfl (by decide) rfl (fun ls hl => ?_)
  refine rr_iload_n hC dA_init_86 hl rfl 0 rfl ?_
  refine rr_iconst (v := ((1 : Nat) : Int)) hC dA_init_87 rfl ?_
  refine rr_icmp_ge hC 93 dA_init_88 (by decide) (by omega) (by omega) (fun c2 => ?_) (fun c2 => ?_)
  · refine rr_iload_n hC dA_init_93 hl rfl 0 rfl ?_
    refine rr_iconst (v := ((3 : Nat) : Int)) hC dA_init_94 rfl ?_
    refine rr_icmp_le hC 100 dA_init_95 (by decide) (by omega) (by omega) (fun c3 => ?_) (fun c3 => ?_)
    · exact join a (by unfold clp_; split <;> (try split) <;> omega) ls (lv_sub hl [1, 2, 0] rfl)
    · refine rr_iconst (v := ((3 : Nat) : Int)) hC dA_init_98 rfl ?_
      refine rr_istore_n (lv' := [(2, .int (iI ((3 : Nat) : Int))), (0, .ref h), (1, .int (iI a))]) hC dA_init_99 hl rfl (by decide) rfl (fun ls hl => ?_)
      exact join ((3 : Nat) : Int) (by unfold clp_; split <;> (try split) <;> omega) ls (lv_sub hl [1, 2, 0] rfl)
  · refine rr_iconst (v := ((1 : Nat) : Int)) hC dA_init_91 rfl ?_
    refine rr_istore_n (lv' := [(2, .int (iI ((1 : Nat) : Int))), (0, .ref h), (1, .int (iI a))]) hC dA_init_92 hl rfl (by decide) rfl (fun ls hl => ?_)
    refine rr_iload_n hC dA_init_93 hl rfl 0 rfl ?_
    refine rr_iconst (v := ((3 : Nat) : Int)) hC dA_init_94 rfl ?_
    refine rr_icmp_le hC 100 dA_init_95 (by decide) (by omega) (by omega) (fun c4 => ?_) (fun c4 => ?_)
    · exact join ((1 : Nat) : Int) (by unfold clp_; split <;> (try split) <;> omega) ls (lv_sub hl [1, 2, 0] rfl)
    · refine rr_iconst (v := ((3 : Nat) : Int)) hC dA_init_98 rfl ?_
      refine rr_istore_n (lv' := [(2, .int (iI ((3 : Nat) : Int))), (0, .ref h), (1, .int (iI a))]) hC dA_init_99 hl rfl (by decide) rfl (fun ls hl => ?_)
      exact join ((3 : Nat) : Int) (by unfold clp_; split <;> (try split) <;> omega) ls (lv_sub hl [1, 2, 0] rfl)
set_option maxRecDepth 100000 in
set_option maxHeartbeats 4000000 in
/-- the constructor -/
theorem cB_init (l : Launch) (D : va_G) (h : Nat) (cZ cI : ClassId) (a : Int) (ha : -2147483648 ≤ a ∧ a ≤ 2147483647) : MC_ l D [(cZ, .boolean), (cI, .int)] (fun r S => wB_ h r cI S) h blB_ yB_init kB_init 3 13 210 [.ref h, .int (iI a)] (iniB_ a) := by
  refine MC_of (by decide) rfl (Nat.le_of_ble_eq_true rfl) ?_
  intro p e s m below meth c A ls hC hin hI hr hlk hl
  have hl : lv_has ls 3 [(0, .ref h), (1, .int (iI a))] := hl
  refine rr_aload_n hC dB_init_0 hl rfl 0 rfl ?_
  refine rr_objI hC hl oB_ dB_init_1 (by decide) (Nat.le_of_ble_eq_true rfl) ?_
  refine rr_aload_n hC dB_init_4 hl rfl 0 rfl ?_
  refine rr_bipush (v := ((12 : Nat) : Int)) hC dB_init_5 (by decide) ?_
  refine rr_newI hC hI (by decide) (by decide) (by decide) dB_init_7 (fun q1 H hI => ?_)
  have hI : In_ D A s.heap H _ [(h, .inr (1, [.int 0, .null, .null, .null, .null, .null, .null, .null, .null, .null, .null, .null, .null, .null])), (q1, ai_ cI 12 (fun _ => 0))] := hI
  refine rB_putF hC hin hI rfl 1 (.array .int) (by decide) lB_1 rfl rfl (by decide +kernel) rfl rfl (Nat.le_of_ble_eq_true rfl) dB_init_9 (fun H locs hI => ?_)
  have hI : In_ D A s.heap H locs [(h, .inr (1, [.int 0, .ref q1, .null, .null, .null, .null, .null, .null, .null, .null, .null, .null, .null, .null])), (q1, ai_ cI 12 (fun _ => 0))] := hI
  refine rr_aload_n hC dB_init_12 hl rfl 0 rfl ?_
  refine rr_bipush (v := ((12 : Nat) : Int)) hC dB_init_13 (by decide) ?_
  refine rr_newI hC hI (by decide) (by decide) (by decide) dB_init_15 (fun q2 H hI => ?_)
  have hI : In_ D A s.heap H _ [(h, .inr (1, [.int 0, .ref q1, .null, .null, .null, .null, .null, .null, .null, .null, .null, .null, .null, .null])), (q1, ai_ cI 12 (fun _ => 0)), (q2, ai_ cI 12 (fun _ => 0))] := hI
  refine rB_putF hC hin hI rfl 2 (.array .int) (by decide) lB_2 rfl rfl (by decide +kernel) rfl rfl (Nat.le_of_ble_eq_true rfl) dB_init_17 (fun H locs hI => ?_)
  have hI : In_ D A s.heap H locs [(h, .inr (1, [.int 0, .ref q1, .ref q2, .null, .null, .null, .null, .null, .null, .null, .null, .null, .null, .null])), (q1, ai_ cI 12 (fun _ => 0)), (q2, ai_ cI 12 (fun _ => 0))] := hI
  refine rr_aload_n hC dB_init_20 hl rfl 0 rfl ?_
  refine rr_bipush (v := ((12 : Nat) : Int)) hC dB_init_21 (by decide) ?_
  refine rr_newI hC hI (by decide) (by decide) (by decide) dB_init_23 (fun q3 H hI => ?_)
  have hI : In_ D A s.heap H _ [(h, .inr (1, [.int 0, .ref q1, .ref q2, .null, .null, .null, .null, .null, .null, .null, .null, .null, .null, .null])), (q1, ai_ cI 12 (fun _ => 0)), (q2, ai_ cI 12 (fun _ => 0)), (q3, ai_ cI 12 (fun _ => 0))] := hI
  refine rB_putF hC hin hI rfl 3 (.array .int) (by decide) lB_3 rfl rfl (by decide +kernel) rfl rfl (Nat.le_of_ble_eq_true rfl) dB_init_25 (fun H locs hI => ?_)
  have hI : In_ D A s.heap H locs [(h, .inr (1, [.int 0, .ref q1, .ref q2, .ref q3, .null, .null, .null, .null, .null, .null, .null, .null, .null, .null])), (q1, ai_ cI 12 (fun _ => 0)), (q2, ai_ cI 12 (fun _ => 0)), (q3, ai_ cI 12 (fun _ => 0))] := hI
  refine rr_aload_n hC dB_init_28 hl rfl 0 rfl ?_
  refine rr_bipush (v := ((12 : Nat) : Int)) hC dB_init_29 (by decide) ?_
  refine rr_newI hC hI (by decide) (by decide) (by decide) dB_init_31 (fun q4 H hI => ?_)
  have hI : In_ D A s.heap H _ [(h, .inr (1, [.int 0, .ref q1, .ref q2, .ref q3, .null, .null, .null, .null, .null, .null, .null, .null, .null, .null])), (q1, ai_ cI 12 (fun _ => 0)), (q2, ai_ cI 12 (fun _ => 0)), (q3, ai_ cI 12 (fun _ => 0)), (q4, ai_ cI 12 (fun _ => 0))] := hI
  refine rB_putF hC hin hI rfl 4 (.array .int) (by decide) lB_4 rfl rfl (by decide +kernel) rfl rfl (Nat.le_of_ble_eq_true rfl) dB_init_33 (fun H locs hI => ?_)
  have hI : In_ D A s.heap H locs [(h, .inr (1, [.int 0, .ref q1, .ref q2, .ref q3, .ref q4, .null, .null, .null, .null, .null, .null, .null, .null, .null])), (q1, ai_ cI 12 (fun _ => 0)), (q2, ai_ cI 12 (fun _ => 0)), (q3, ai_ cI 12 (fun _ => 0)), (q4, ai_ cI 12 (fun _ => 0))] := hI
  refine rr_aload_n hC dB_init_36 hl rfl 0 rfl ?_
  refine rr_bipush (v := ((12 : Nat) : Int)) hC dB_init_37 (by decide) ?_
  refine rr_newI hC hI (by decide) (by decide) (by decide) dB_init_39 (fun q5 H hI => ?_)
  have hI : In_ D A s.heap H _ [(h, .inr (1, [.int 0, .ref q1, .ref q2, .ref q3, .ref q4, .null, .null, .null, .null, .null, .null, .null, .null, .null])), (q1, ai_ cI 12 (fun _ => 0)), (q2, ai_ cI 12 (fun _ => 0)), (q3, ai_ cI 12 (fun _ => 0)), (q4, ai_ cI 12 (fun _ => 0)), (q5, ai_ cI 12 (fun _ => 0))] := hI
  refine rB_putF hC hin hI rfl 5 (.array .int) (by decide) lB_5 rfl rfl (by decide +kernel) rfl rfl (Nat.le_of_ble_eq_true rfl) dB_init_41 (fun H locs hI => ?_)
  have hI : In_ D A s.heap H locs [(h, .inr (1, [.int 0, .ref q1, .ref q2, .ref q3, .ref q4, .ref q5, .null, .null, .null, .null, .null, .null, .null, .null])), (q1, ai_ cI 12 (fun _ => 0)), (q2, ai_ cI 12 (fun _ => 0)), (q3, ai_ cI 12 (fun _ => 0)), (q4, ai_ cI 12 (fun _ => 0)), (q5, ai_ cI 12 (fun _ => 0))] := hI
  refine rr_aload_n hC dB_init_44 hl rfl 0 rfl ?_
  refine rr_bipush (v := ((12 : Nat) : Int)) hC dB_init_45 (by decide) ?_
  refine rr_newI hC hI (by decide) (by decide) (by decide) dB_init_47 (fun q6 H hI => ?_)
  have hI : In_ D A s.heap H _ [(h, .inr (1, [.int 0, .ref q1, .ref q2, .ref q3, .ref q4, .ref q5, .null, .null, .null, .null, .null, .null, .null, .null])), (q1, ai_ cI 12 (fun _ => 0)), (q2, ai_ cI 12 (fun _ => 0)), (q3, ai_ cI 12 (fun _ => 0)), (q4, ai_ cI 12 (fun _ => 0)), (q5, ai_ cI 12 (fun _ => 0)), (q6, ai_ cI 12 (fun _ => 0))] := hI
  refine rB_putF hC hin hI rfl 6 (.array .int) (by decide) lB_6 rfl rfl (by decide +kernel) rfl rfl (Nat.le_of_ble_eq_true rfl) dB_init_49 (fun H locs hI => ?_)
  have hI : In_ D A s.heap H locs [(h, .inr (1, [.int 0, .ref q1, .ref q2, .ref q3, .ref q4, .ref q5, .ref q6, .null, .null, .null, .null, .null, .null, .null])), (q1, ai_ cI 12 (fun _ => 0)), (q2, ai_ cI 12 (fun _ => 0)), (q3, ai_ cI 12 (fun _ => 0)), (q4, ai_ cI 12 (fun _ => 0)), (q5, ai_ cI 12 (fun _ => 0)), (q6, ai_ cI 12 (fun _ => 0))] := hI
  refine rr_aload_n hC dB_init_52 hl rfl 0 rfl ?_
  refine rr_bipush (v := ((13 : Nat) : Int)) hC dB_init_53 (by decide) ?_
  refine rr_newI hC hI (by decide) (by decide) (by decide) dB_init_55 (fun q7 H hI => ?_)
  have hI : In_ D A s.heap H _ [(h, .inr (1, [.int 0, .ref q1, .ref q2, .ref q3, .ref q4, .ref q5, .ref q6, .null, .null, .null, .null, .null, .null, .null])), (q1, ai_ cI 12 (fun _ => 0)), (q2, ai_ cI 12 (fun _ => 0)), (q3, ai_ cI 12 (fun _ => 0)), (q4, ai_ cI 12 (fun _ => 0)), (q5, ai_ cI 12 (fun _ => 0)), (q6, ai_ cI 12 (fun _ => 0)), (q7, ai_ cI 13 (fun _ => 0))] := hI
  refine rB_putF hC hin hI rfl 7 (.array .int) (by decide) lB_7 rfl rfl (by decide +kernel) rfl rfl (Nat.le_of_ble_eq_true rfl) dB_init_57 (fun H locs hI => ?_)
  have hI : In_ D A s.heap H locs [(h, .inr (1, [.int 0, .ref q1, .ref q2, .ref q3, .ref q4, .ref q5, .ref q6, .ref q7, .null, .null, .null, .null, .null, .null])), (q1, ai_ cI 12 (fun _ => 0)), (q2, ai_ cI 12 (fun _ => 0)), (q3, ai_ cI 12 (fun _ => 0)), (q4, ai_ cI 12 (fun _ => 0)), (q5, ai_ cI 12 (fun _ => 0)), (q6, ai_ cI 12 (fun _ => 0)), (q7, ai_ cI 13 (fun _ => 0))] := hI
  refine rr_aload_n hC dB_init_60 hl rfl 0 rfl ?_
  refine rr_bipush (v := ((13 : Nat) : Int)) hC dB_init_61 (by decide) ?_
  refine rr_newI hC hI (by decide) (by decide) (by decide) dB_init_63 (fun q8 H hI => ?_)
  have hI : In_ D A s.heap H _ [(h, .inr (1, [.int 0, .ref q1, .ref q2, .ref q3, .ref q4, .ref q5, .ref q6, .ref q7, .null, .null, .null, .null, .null, .null])), (q1, ai_ cI 12 (fun _ => 0)), (q2, ai_ cI 12 (fun _ => 0)), (q3, ai_ cI 12 (fun _ => 0)), (q4, ai_ cI 12 (fun _ => 0)), (q5, ai_ cI 12 (fun _ => 0)), (q6, ai_ cI 12 (fun _ => 0)), (q7, ai_ cI 13 (fun _ => 0)), (q8, ai_ cI 13 (fun _ => 0))] := hI
  refine rB_putF hC hin hI rfl 8 (.array .int) (by decide) lB_8 rfl rfl (by decide +kernel) rfl rfl (Nat.le_of_ble_eq_true rfl) dB_init_65 (fun H locs hI => ?_)
  have hI : In_ D A s.heap H locs [(h, .inr (1, [.int 0, .ref q1, .ref q2, .ref q3, .ref q4, .ref q5, .ref q6, .ref q7, .ref q8, .null, .null, .null, .null, .null])), (q1, ai_ cI 12 (fun _ => 0)), (q2, ai_ cI 12 (fun _ => 0)), (q3, ai_ cI 12 (fun _ => 0)), (q4, ai_ cI 12 (fun _ => 0)), (q5, ai_ cI 12 (fun _ => 0)), (q6, ai_ cI 12 (fun _ => 0)), (q7, ai_ cI 13 (fun _ => 0)), (q8, ai_ cI 13 (fun _ => 0))] := hI
  refine rr_aload_n hC dB_init_68 hl rfl 0 rfl ?_
  refine rr_bipush (v := ((13 : Nat) : Int)) hC dB_init_69 (by decide) ?_
  refine rr_newI hC hI (by decide) (by decide) (by decide) dB_init_71 (fun q9 H hI => ?_)
  have hI : In_ D A s.heap H _ [(h, .inr (1, [.int 0, .ref q1, .ref q2, .ref q3, .ref q4, .ref q5, .ref q6, .ref q7, .ref q8, .null, .null, .null, .null, .null])), (q1, ai_ cI 12 (fun _ => 0)), (q2, ai_ cI 12 (fun _ => 0)), (q3, ai_ cI 12 (fun _ => 0)), (q4, ai_ cI 12 (fun _ => 0)), (q5, ai_ cI 12 (fun _ => 0)), (q6, ai_ cI 12 (fun _ => 0)), (q7, ai_ cI 13 (fun _ => 0)), (q8, ai_ cI 13 (fun _ => 0)), (q9, ai_ cI 13 (fun _ => 0))] := hI
  refine rB_putF hC hin hI rfl 9 (.array .int) (by decide) lB_9 rfl rfl (by decide +kernel) rfl rfl (Nat.le_of_ble_eq_true rfl) dB_init_73 (fun H locs hI => ?_)
  have hI : In_ D A s.heap H locs [(h, .inr (1, [.int 0, .ref q1, .ref q2, .ref q3, .ref q4, .ref q5, .ref q6, .ref q7, .ref q8, .ref q9, .null, .null, .null, .null])), (q1, ai_ cI 12 (fun _ => 0)), (q2, ai_ cI 12 (fun _ => 0)), (q3, ai_ cI 12 (fun _ => 0)), (q4, ai_ cI 12 (fun _ => 0)), (q5, ai_ cI 12 (fun _ => 0)), (q6, ai_ cI 12 (fun _ => 0)), (q7, ai_ cI 13 (fun _ => 0)), (q8, ai_ cI 13 (fun _ => 0)), (q9, ai_ cI 13 (fun _ => 0))] := hI
  refine rr_aload_n hC dB_init_76 hl rfl 0 rfl ?_
  refine rr_bipush (v := ((13 : Nat) : Int)) hC dB_init_77 (by decide) ?_
  refine rr_newI hC hI (by decide) (by decide) (by decide) dB_init_79 (fun q10 H hI => ?_)
  have hI : In_ D A s.heap H _ [(h, .inr (1, [.int 0, .ref q1, .ref q2, .ref q3, .ref q4, .ref q5, .ref q6, .ref q7, .ref q8, .ref q9, .null, .null, .null, .null])), (q1, ai_ cI 12 (fun _ => 0)), (q2, ai_ cI 12 (fun _ => 0)), (q3, ai_ cI 12 (fun _ => 0)), (q4, ai_ cI 12 (fun _ => 0)), (q5, ai_ cI 12 (fun _ => 0)), (q6, ai_ cI 12 (fun _ => 0)), (q7, ai_ cI 13 (fun _ => 0)), (q8, ai_ cI 13 (fun _ => 0)), (q9, ai_ cI 13 (fun _ => 0)), (q10, ai_ cI 13 (fun _ => 0))] := hI
  refine rB_putF hC hin hI rfl 10 (.array .int) (by decide) lB_10 rfl rfl (by decide +kernel) rfl rfl (Nat.le_of_ble_eq_true rfl) dB_init_81 (fun H locs hI => ?_)
  have hI : In_ D A s.heap H locs [(h, .inr (1, [.int 0, .ref q1, .ref q2, .ref q3, .ref q4, .ref q5, .ref q6, .ref q7, .ref q8, .ref q9, .ref q10, .null, .null, .null])), (q1, ai_ cI 12 (fun _ => 0)), (q2, ai_ cI 12 (fun _ => 0)), (q3, ai_ cI 12 (fun _ => 0)), (q4, ai_ cI 12 (fun _ => 0)), (q5, ai_ cI 12 (fun _ => 0)), (q6, ai_ cI 12 (fun _ => 0)), (q7, ai_ cI 13 (fun _ => 0)), (q8, ai_ cI 13 (fun _ => 0)), (q9, ai_ cI 13 (fun _ => 0)), (q10, ai_ cI 13 (fun _ => 0))] := hI
  refine rr_aload_n hC dB_init_84 hl rfl 0 rfl ?_
  refine rr_bipush (v := ((13 : Nat) : Int)) hC dB_init_85 (by decide) ?_
  refine rr_newI hC hI (by decide) (by decide) (by decide) dB_init_87 (fun q11 H hI => ?_)
  have hI : In_ D A s.heap H _ [(h, .inr (1, [.int 0, .ref q1, .ref q2, .ref q3, .ref q4, .ref q5, .ref q6, .ref q7, .ref q8, .ref q9, .ref q10, .null, .null, .null])), (q1, ai_ cI 12 (fun _ => 0)), (q2, ai_ cI 12 (fun _ => 0)), (q3, ai_ cI 12 (fun _ => 0)), (q4, ai_ cI 12 (fun _ => 0)), (q5, ai_ cI 12 (fun _ => 0)), (q6, ai_ cI 12 (fun _ => 0)), (q7, ai_ cI 13 (fun _ => 0)), (q8, ai_ cI 13 (fun _ => 0)), (q9, ai_ cI 13 (fun _ => 0)), (q10, ai_ cI 13 (fun _ => 0)), (q11, ai_ cI 13 (fun _ => 0))] := hI
  refine rB_putF hC hin hI rfl 11 (.array .int) (by decide) lB_11 rfl rfl (by decide +kernel) rfl rfl (Nat.le_of_ble_eq_true rfl) dB_init_89 (fun H locs hI => ?_)
  have hI : In_ D A s.heap H locs [(h, .inr (1, [.int 0, .ref q1, .ref q2, .ref q3, .ref q4, .ref q5, .ref q6, .ref q7, .ref q8, .ref q9, .ref q10, .ref q11, .null, .null])), (q1, ai_ cI 12 (fun _ => 0)), (q2, ai_ cI 12 (fun _ => 0)), (q3, ai_ cI 12 (fun _ => 0)), (q4, ai_ cI 12 (fun _ => 0)), (q5, ai_ cI 12 (fun _ => 0)), (q6, ai_ cI 12 (fun _ => 0)), (q7, ai_ cI 13 (fun _ => 0)), (q8, ai_ cI 13 (fun _ => 0)), (q9, ai_ cI 13 (fun _ => 0)), (q10, ai_ cI 13 (fun _ => 0)), (q11, ai_ cI 13 (fun _ => 0))] := hI
  refine rr_aload_n hC dB_init_92 hl rfl 0 rfl ?_
  refine rr_bipush (v := ((60 : Nat) : Int)) hC dB_init_93 (by decide) ?_
  refine rr_newI hC hI (by decide) (by decide) (by decide) dB_init_95 (fun q12 H hI => ?_)
  have hI : In_ D A s.heap H _ [(h, .inr (1, [.int 0, .ref q1, .ref q2, .ref q3, .ref q4, .ref q5, .ref q6, .ref q7, .ref q8, .ref q9, .ref q10, .ref q11, .null, .null])), (q1, ai_ cI 12 (fun _ => 0)), (q2, ai_ cI 12 (fun _ => 0)), (q3, ai_ cI 12 (fun _ => 0)), (q4, ai_ cI 12 (fun _ => 0)), (q5, ai_ cI 12 (fun _ => 0)), (q6, ai_ cI 12 (fun _ => 0)), (q7, ai_ cI 13 (fun _ => 0)), (q8, ai_ cI 13 (fun _ => 0)), (q9, ai_ cI 13 (fun _ => 0)), (q10, ai_ cI 13 (fun _ => 0)), (q11, ai_ cI 13 (fun _ => 0)), (q12, ai_ cI 60 (fun _ => 0))] := hI
  refine rB_putF hC hin hI rfl 12 (.array .int) (by decide) lB_12 rfl rfl (by decide +kernel) rfl rfl (Nat.le_of_ble_eq_true rfl) dB_init_97 (fun H locs hI => ?_)
  have hI : In_ D A s.heap H locs [(h, .inr (1, [.int 0, .ref q1, .ref q2, .ref q3, .ref q4, .ref q5, .ref q6, .ref q7, .ref q8, .ref q9, .ref q10, .ref q11, .ref q12, .null])), (q1, ai_ cI 12 (fun _ => 0)), (q2, ai_ cI 12 (fun _ => 0)), (q3, ai_ cI 12 (fun _ => 0)), (q4, ai_ cI 12 (fun _ => 0)), (q5, ai_ cI 12 (fun _ => 0)), (q6, ai_ cI 12 (fun _ => 0)), (q7, ai_ cI 13 (fun _ => 0)), (q8, ai_ cI 13 (fun _ => 0)), (q9, ai_ cI 13 (fun _ => 0)), (q10, ai_ cI 13 (fun _ => 0)), (q11, ai_ cI 13 (fun _ => 0)), (q12, ai_ cI 60 (fun _ => 0))] := hI
  refine rr_aload_n hC dB_init_100 hl rfl 0 rfl ?_
  refine rr_bipush (v := ((13 : Nat) : Int)) hC dB_init_101 (by decide) ?_
  refine rr_newI hC hI (by decide) (by decide) (by decide) dB_init_103 (fun q13 H hI => ?_)
  have hI : In_ D A s.heap H _ [(h, .inr (1, [.int 0, .ref q1, .ref q2, .ref q3, .ref q4, .ref q5, .ref q6, .ref q7, .ref q8, .ref q9, .ref q10, .ref q11, .ref q12, .null])), (q1, ai_ cI 12 (fun _ => 0)), (q2, ai_ cI 12 (fun _ => 0)), (q3, ai_ cI 12 (fun _ => 0)), (q4, ai_ cI 12 (fun _ => 0)), (q5, ai_ cI 12 (fun _ => 0)), (q6, ai_ cI 12 (fun _ => 0)), (q7, ai_ cI 13 (fun _ => 0)), (q8, ai_ cI 13 (fun _ => 0)), (q9, ai_ cI 13 (fun _ => 0)), (q10, ai_ cI 13 (fun _ => 0)), (q11, ai_ cI 13 (fun _ => 0)), (q12, ai_ cI 60 (fun _ => 0)), (q13, ai_ cI 13 (fun _ => 0))] := hI
  refine rB_putF hC hin hI rfl 13 (.array .int) (by decide) lB_13 rfl rfl (by decide +kernel) rfl rfl (Nat.le_of_ble_eq_true rfl) dB_init_105 (fun H locs hI => ?_)
  have hI : In_ D A s.heap H locs [(h, .inr (1, [.int 0, .ref q1, .ref q2, .ref q3, .ref q4, .ref q5, .ref q6, .ref q7, .ref q8, .ref q9, .ref q10, .ref q11, .ref q12, .ref q13])), (q1, ai_ cI 12 (fun _ => 0)), (q2, ai_ cI 12 (fun _ => 0)), (q3, ai_ cI 12 (fun _ => 0)), (q4, ai_ cI 12 (fun _ => 0)), (q5, ai_ cI 12 (fun _ => 0)), (q6, ai_ cI 12 (fun _ => 0)), (q7, ai_ cI 13 (fun _ => 0)), (q8, ai_ cI 13 (fun _ => 0)), (q9, ai_ cI 13 (fun _ => 0)), (q10, ai_ cI 13 (fun _ => 0)), (q11, ai_ cI 13 (fun _ => 0)), (q12, ai_ cI 60 (fun _ => 0)), (q13, ai_ cI 13 (fun _ => 0))] := hI
  obtain ⟨r, hre⟩ : ∃ r : Nat → Nat, r = (fun k => if k = 1 then q1 else if k = 2 then q2 else if k = 3 then q3 else if k = 4 then q4 else if k = 5 then q5 else if k = 6 then q6 else if k = 7 then q7 else if k = 8 then q8 else if k = 9 then q9 else if k = 10 then q10 else if k = 11 then q11 else if k = 12 then q12 else if k = 13 then q13 else 0) := ⟨_, rfl⟩
  have hI : In_ D A s.heap H locs (wB_ h r cI (fun _ _ => 0)) := by rw [hre]; exact hI
  have join : ∀ (v : Int), v = clp_ a → ∀ (ls : Array Slot), lv_has ls 3 [(0, .ref h), (1, .int (iI a)), (2, .int (iI v))] → W p l e { frames := 1, cells := 13, slots := 210, locals := 30 } s m [.ref h, .int (iI a)].toArray below meth c H locs 13 210 (EC_ D [(cZ, .boolean), (cI, .int)] (fun r S => wB_ h r cI S) s below [.ref h, .int (iI a)].toArray A 13 210 (iniB_ a)) (F0 m 124 ls []) := by
    intro v hcv ls hl
    have hv3 : 1 ≤ v ∧ v ≤ 3 := by rw [hcv]; unfold clp_; split; omega; split <;> omega
    refine rr_aload_n hC dB_init_124 hl rfl 0 rfl ?_
    refine rr_iload_n hC dB_init_125 hl rfl 2 rfl ?_
    refine rB_putF hC hin hI rfl 0 .int (by decide) lB_0 rfl rfl (by decide +kernel) rfl rfl (Nat.le_of_ble_eq_true rfl) dB_init_126 (fun H locs hI => ?_)
    have hI : In_ D A s.heap H locs (wB_ h r cI (up_ (fun _ _ => 0) 0 0 v)) := hI
    exact rr_cret r hC (fun r S => wB_ h r cI S) hI hr hlk dB_init_129 ⟨(up_eq _ _ _ _).trans hcv, fun j k h0 => up_ne _ _ _ _ (by omega)⟩
  refine rr_iload_n hC dB_init_108 hl rfl 1 rfl ?_
  refine rr_istore_n (lv' := [(2, .int (iI a)), (0, .ref h), (1, .int (iI a))]) hC dB_init_109 hl rfl (by decide) rfl (fun ls hl => ?_)
  refine rr_iload_n hC dB_init_110 hl rfl 0 rfl ?_
  refine rr_iconst (v := ((1 : Nat) : Int)) hC dB_init_111 rfl ?_
  refine rr_icmp_ge hC 117 dB_init_112 (by decide) (by omega) (by omega) (fun c1 => ?_) (fun c1 => ?_)
  · refine rr_iload_n hC dB_init_117 hl rfl 0 rfl ?_
    refine rr_iconst (v := ((3 : Nat) : Int)) hC dB_init_118 rfl ?_
    refine rr_icmp_le hC 124 dB_init_119 (by decide) (by omega) (by omega) (fun c2 => ?_) (fun c2 => ?_)
    · exact join a (by unfold clp_; split <;> (try split) <;> omega) ls (lv_sub hl [1, 2, 0] rfl)
    · refine rr_iconst (v := ((3 : Nat) : Int)) hC dB_init_122 rfl ?_
      refine rr_istore_n (lv' := [(2, .int (iI ((3 : Nat) : Int))), (0, .ref h), (1, .int (iI a))]) hC dB_init_123 hl rfl (by decide) rfl (fun ls hl => ?_)
      exact join ((3 : Nat) : Int) (by unfold clp_; split <;> (try split) <;> omega) ls (lv_sub hl [1, 2, 0] rfl)
  · refine rr_iconst (v := ((1 : Nat) : Int)) hC dB_init_115 rfl ?_
    refine rr_istore_n (lv' := [(2, .int (iI ((1 : Nat) : Int))), (0, .ref h), (1, .int (iI a))]) hC dB_init_116 hl rfl (by decide) rfl (fun ls hl => ?_)
    refine rr_iload_n hC dB_init_117 hl rfl 0 rfl ?_
    refine rr_iconst (v := ((3 : Nat) : Int)) hC dB_init_118 rfl ?_
    refine rr_icmp_le hC 124 dB_init_119 (by decide) (by omega) (by omega) (fun c3 => ?_) (fun c3 => ?_)
    · exact join ((1 : Nat) : Int) (by unfold clp_; split <;> (try split) <;> omega) ls (lv_sub hl [1, 2, 0] rfl)
    · refine rr_iconst (v := ((3 : Nat) : Int)) hC dB_init_122 rfl ?_
      refine rr_istore_n (lv' := [(2, .int (iI ((3 : Nat) : Int))), (0, .ref h), (1, .int (iI a))]) hC dB_init_123 hl rfl (by decide) rfl (fun ls hl => ?_)
      exact join ((3 : Nat) : Int) (by unfold clp_; split <;> (try split) <;> omega) ls (lv_sub hl [1, 2, 0] rfl)
end
section
/-! PURE: A's state and B's state side by side -/
def row_ (S T : St_) (i : Nat) : Prop := (S 2 i = 0 ∧ T 1 i = 0) ∨ (S 2 i = 1 ∧ T 1 i ≠ 0 ∧ S 3 i = T 1 i ∧ S 4 (2 * i) = T 5 i ∧ S 5 (2 * i) = T 4 i ∧ ((T 6 i = -4 ∧ S 4 (2 * i + 1) = -1 ∧ S 6 (2 * i) = T 3 i) ∨ (0 ≤ T 6 i ∧ S 4 (2 * i + 1) = T 6 i ∧ S 6 (2 * i) = T 4 i ∧ S 5 (2 * i + 1) = T 2 i - T 4 i ∧ S 6 (2 * i + 1) = T 3 i - T 4 i)))
def Rel_ (S T : St_) : Prop := nvA_ S ∧ vlB_ T ∧ sdA_ S ∧ pcA_ S ∧ S 0 0 = T 0 0 ∧ ∀ i, i < 12 → row_ S T i
theorem cA_fst {S : St_} {k : Int} {i : Nat} (h : S 4 (2 * i) = k) : cA_ S k i = (S 5 (2 * i)).toNat ∧ dA_ S k i = (S 6 (2 * i)).toNat := by
  unfold cA_ dA_ qpA_; rw [if_pos h, if_pos h]; exact ⟨rfl, rfl⟩
theorem cA_snd {S : St_} {k : Int} {i : Nat} (h : ¬ S 4 (2 * i) = k) (h2 : S 4 (2 * i + 1) = k) : cA_ S k i = (S 5 (2 * i + 1)).toNat ∧ dA_ S k i = (S 6 (2 * i + 1)).toNat := by
  unfold cA_ dA_ qpA_; rw [if_neg h, if_pos h2]; exact ⟨rfl, rfl⟩
theorem cA_non {S : St_} {k : Int} {i : Nat} (h : ¬ S 4 (2 * i) = k) (h2 : ¬ S 4 (2 * i + 1) = k) : cA_ S k i = 0 := by
  unfold cA_ qpA_; rw [if_neg h, if_neg h2]
theorem cA_fr {S : St_} {k : Int} {i : Nat} (hk : 0 ≤ k) (h : frA_ S i) : cA_ S k i = 0 := cA_non (by rw [h.1]; omega) (by rw [h.2]; omega)
theorem cB_12 (T : St_) (k : Int) : cB_ T k 12 = 0 := by unfold cB_; rw [if_neg (by omega), if_neg (by omega)]
theorem sys_same {S T : St_} (hn : nvA_ S) (hv : vlB_ T) (hr : ∀ i, i < 12 → row_ S T i) {k : Int} (hk : 0 ≤ k) : ps_same (cA_ S k) (dA_ S k) (pA_ S) (cB_ T k) (dB_ T k) (pB_ T) := by
  intro i hi
  by_cases e : i = 12
  · subst e
    rw [cA_fr hk (hn.2.2.2.1 12 (by omega) hn.2.2.1), cB_12]
    exact ⟨rfl, fun z => by omega⟩
  · have hi12 : i < 12 := by omega
    rcases hr i hi12 with ⟨h1, h2⟩ | ⟨h1, h2, h3, h4, h5, h6⟩
    · rw [cA_fr hk (hn.2.2.2.1 i hi h1), cB_0 h2]
      exact ⟨rfl, fun z => by omega⟩
    · have hp : pA_ S i = pB_ T i := by unfold pA_ pB_; rw [h3]
      obtain ⟨-, -, g3⟩ := hv.2 i hi12
      obtain ⟨a1, a2, a3, a4, a5, a6⟩ := g3 h2
      by_cases z1 : S 4 (2 * i) = k
      · obtain ⟨c1, d1⟩ := cA_fst z1
        obtain ⟨c2, d2⟩ := cB_1 (S := T) (k := k) hi12 h2 (by omega) (by omega)
        rw [c1, d1, c2, d2, h5]
        refine ⟨rfl, fun _ => ⟨?_, hp⟩⟩
        rcases h6 with ⟨b1, b2, b3⟩ | ⟨b1, b2, b3, -⟩
        · rw [if_pos b1, b3]
        · rw [if_neg (by omega), b3]
      · by_cases z2 : S 4 (2 * i + 1) = k
        · obtain ⟨c1, d1⟩ := cA_snd z1 z2
          rcases h6 with ⟨b1, b2, b3⟩ | ⟨b1, b2, b3, b4, b5⟩
          · omega
          · obtain ⟨c2, d2⟩ := cB_2 (S := T) (k := k) hi12 h2 (by omega)
            rw [c1, d1, c2, d2, b4, b5]
            exact ⟨rfl, fun _ => ⟨rfl, hp⟩⟩
        · rw [cA_non z1 z2, cB_n (by omega) (by rcases h6 with ⟨b1, b2, b3⟩ | ⟨b1, b2, b3, b4, b5⟩ <;> omega)]
          exact ⟨rfl, fun z => by omega⟩
theorem Rel_sdB {S T : St_} (h : Rel_ S T) : sdB_ T := by
  obtain ⟨h1, h2, h3, -, h5, h6⟩ := h
  intro k k0 k1
  exact (ps_same_sched (sys_same h1 h2 h6 k0)).mp (h3 k k0 (by omega))
theorem Rel_cn {S T : St_} (h1 : nvA_ S) (h : ∀ i, i < 12 → row_ S T i) : S 1 0 = (cnB_ T : Int) := by
  rw [h1.2.2.2.2]
  have : cnA_ S = cnB_ T := ps_sum_congr 12 (fun i hi => by
    rcases h i hi with ⟨a, b⟩ | ⟨a, b, -⟩
    · simp only [a, b, if_true]; rfl
    · simp only [a, b, if_false]; rfl)
  rw [this]
theorem Rel_ff {S T : St_} (h : ∀ i, i < 12 → row_ S T i) {id id' : Nat} (h1 : id ≤ 12) (h2 : id' ≤ 12) (hA : ffA_ S id) (hB : ffB_ T id') : id = id' := by
  rcases Nat.lt_trichotomy id id' with z | z | z
  · have a := hA.2 (by omega)
    have b := hB.1 id z
    rcases h id (by omega) with ⟨-, y⟩ | ⟨y, -⟩
    · exact absurd y b
    · omega
  · exact z
  · have a := hB.2 (by omega)
    have b := hA.1 id' z
    rcases h id' (by omega) with ⟨y, -⟩ | ⟨-, y, -⟩
    · omega
    · exact absurd a y
theorem Rel_us {S T : St_} (h : ∀ i, i < 12 → row_ S T i) (a : Int) : usA_ S a ↔ usB_ T a := by
  unfold usA_ usB_
  constructor
  · rintro ⟨h0, h1, h2⟩
    refine ⟨h0, h1, ?_⟩
    rcases h a.toNat (by omega) with ⟨y, -⟩ | ⟨-, y, -⟩
    · omega
    · exact y
  · rintro ⟨h0, h1, h2⟩
    refine ⟨h0, h1, ?_⟩
    rcases h a.toNat (by omega) with ⟨-, y⟩ | ⟨y, -⟩
    · exact absurd y h2
    · exact y
theorem tk_eq {S T : St_} (hn : nvA_ S) (hv : vlB_ T) (hr : ∀ i, i < 12 → row_ S T i) {k : Int} (hk : 0 ≤ k) (id : Nat) (p x y : Int) : tkA_ (up_ S 3 id p) k id x y ↔ tkB_ T k id x y p := by
  refine ps_same_sched (fun i hi => ?_)
  obtain ⟨h1, h2⟩ := sys_same hn hv hr hk i hi
  unfold upN_
  by_cases e : i = id
  · subst e
    rw [if_pos rfl, if_pos rfl, if_pos rfl, if_pos rfl, if_pos rfl]
    refine ⟨rfl, fun _ => ⟨rfl, ?_⟩⟩
    unfold pA_; rw [up_eq]
  · rw [if_neg e, if_neg e, if_neg e, if_neg e, if_neg e]
    refine ⟨h1, fun hc => ?_⟩
    obtain ⟨e1, e2⟩ := h2 hc
    refine ⟨e1, ?_⟩
    rw [← e2]
    unfold pA_; rw [up_ne _ _ _ _ (by omega)]
/-- a plan stands while its core's parts do -/
theorem PLI_keep {S S' : St_} {k : Int} (h4 : ∀ i, i < 26 → S' 4 i = S 4 i) (h8 : S' 8 = S 8) (h9 : S' 9 = S 9) (h10 : S' 10 = S 10) (h13 : S' 13 = S 13) (hs : ps_same (cA_ S k) (dA_ S k) (pA_ S) (cA_ S' k) (dA_ S' k) (pA_ S')) (hc : ∀ i, i < 26 → S 4 i = k → 0 < cA_ S k (i / 2)) (h : PLI_ S k 60) : PLI_ S' k 60 := by
  obtain ⟨a, n, b1, b2, b3, b4, b5⟩ := h
  refine ⟨fun i hi h => ?_, n, by rw [h8]; exact b1, b2, b3, fun z => by rw [h9]; exact b4 z, fun q hq => ?_⟩
  · rw [h4 i hi] at h
    refine ⟨?_, fun z => by omega⟩
    rw [h13, (a i hi h).1, ps_same_rsp hs 60 (i / 2) (by omega) (hc i hi h)]
  · rw [h9, h10]
    obtain ⟨c1, c2⟩ := b5 q hq
    exact ⟨c1, fun t t1 t2 => by rw [c2 t t1 t2, ps_same_run hs]⟩
/-- nothing that counts has changed -/
theorem Rel_keep {S T S' T' : St_} (h : Rel_ S T) {id : Nat} (hid : id ≤ 12) (hf : frA_ S id) (h0 : S 2 id = 0) (p : Int) (hA : agA_ id (up_ S 3 id p) S') (hB : agM_ T T') : Rel_ S' T' := by
  obtain ⟨⟨n1, n2, n3, n4, n5⟩, v, sd, pc, c0, rw_⟩ := h
  have hf1 := up3_fr hf p
  have o : ∀ j q, ¬ ((j = 5 ∨ j = 6) ∧ (q = 2 * id ∨ q = 2 * id + 1)) → ¬ (j = 3 ∧ q = id) → S' j q = S j q := fun j q a b => by rw [hA j q a, up_ne _ _ _ _ b]
  have o2 : ∀ q, S' 2 q = S 2 q := fun q => o 2 q (by omega) (by omega)
  have o4 : ∀ q, S' 4 q = S 4 q := fun q => o 4 q (by omega) (by omega)
  have hsys : ∀ k : Int, 0 ≤ k → ps_same (cA_ S k) (dA_ S k) (pA_ S) (cA_ S' k) (dA_ S' k) (pA_ S') := fun k hk i hi => by
    obtain ⟨g1, g2, g3⟩ := agA_sys hA hf1 hk i
    by_cases e : i = id
    · subst e
      rw [cA_fr hk hf, cA_fr hk (agA_fr hA hf1)]
      exact ⟨rfl, fun z => by omega⟩
    · refine ⟨g1.symm, fun _ => ⟨(g2 e).symm, ?_⟩⟩
      rw [g3]; unfold pA_; rw [up_ne _ _ _ _ (by omega)]
  have hv' : vlA_ S' := agA_v hA hf1 (up3_v n1 hf p)
  refine ⟨⟨hv', fun i hi => by rw [o2]; exact n2 i hi, by rw [o2]; exact n3, fun i hi hz => ?_, ?_⟩, agM_v hB v, fun k k0 k1 => ?_, ?_, ?_, fun i hi => ?_⟩
  · rw [o2] at hz
    have := n4 i hi hz
    unfold frA_
    rw [o4, o4]; exact this
  · rw [o 1 0 (by omega) (by omega), n5]
    have : cnA_ S' = cnA_ S := ps_sum_congr 12 (fun i _ => by rw [o2])
    rw [this]
  · rw [o 0 0 (by omega) (by omega)] at k1
    exact (ps_same_sched (hsys k k0)).mp (sd k k0 k1)
  · have e7 := o 7 0 (by omega) (by omega)
    unfold pcA_
    rw [e7, o 0 0 (by omega) (by omega)]
    rcases pc with z | ⟨z1, z2, z3⟩
    · exact Or.inl z
    · refine Or.inr ⟨z1, z2, PLI_keep (fun i _ => o4 i) (funext fun q => o 8 q (by omega) (by omega)) (funext fun q => o 9 q (by omega) (by omega)) (funext fun q => o 10 q (by omega) (by omega)) (funext fun q => o 13 q (by omega) (by omega)) (hsys _ z1) (fun i hi he => ?_) z3⟩
      exact (prt_A n1 z1 hi he).2.2.2.2
  · rw [o 0 0 (by omega) (by omega), hB 0 (by omega)]; exact c0
  · have hi2 : i ≠ id ∨ S 2 i = 0 := by
      by_cases e : i = id
      · subst e; exact Or.inr h0
      · exact Or.inl e
    have h := rw_ i hi
    unfold row_
    rw [hB 1 (by omega), hB 2 (by omega), hB 3 (by omega), hB 4 (by omega), hB 5 (by omega), hB 6 (by omega), o2, o4, o4]
    rcases h with h | h
    · exact Or.inl h
    · have e : i ≠ id := by
        rcases hi2 with z | z
        · exact z
        · omega
      rw [o 3 i (by omega) (by omega), o 5 (2 * i) (by omega) (by omega), o 6 (2 * i) (by omega) (by omega), o 5 (2 * i + 1) (by omega) (by omega), o 6 (2 * i + 1) (by omega) (by omega)]
      exact Or.inr h
/-- a plan was made -/
theorem Rel_pln {S T S' T' : St_} (h : Rel_ S T) {k : Int} (hk : 0 ≤ k ∧ k < S 0 0) (hp : plnA_ S k S') (hB : agM_ T T') : Rel_ S' T' := by
  obtain ⟨⟨n1, n2, n3, n4, n5⟩, v, sd, pc, c0, rw_⟩ := h
  obtain ⟨p1, p2, p3⟩ := hp
  have e0 := p2 0 (by omega)
  have e1 := p2 1 (by omega)
  have e2 := p2 2 (by omega)
  have e3 := p2 3 (by omega)
  have e4 := p2 4 (by omega)
  have e5 := p2 5 (by omega)
  have e6 := p2 6 (by omega)
  refine ⟨⟨agL_v p2 n1, by rw [e2]; exact n2, by rw [e2]; exact n3, fun i hi hz => ?_, ?_⟩, agM_v hB v, fun q q0 q1 => ?_, Or.inr ?_, ?_, fun i hi => ?_⟩
  · rw [e2] at hz
    have := n4 i hi hz
    unfold frA_; rw [e4]; exact this
  · rw [e1, n5]; unfold cnA_; rw [e2]
  · rw [e0] at q1
    exact (agL_sch p2 q).mpr (sd q q0 q1)
  · rw [p3, e0]; exact ⟨hk.1, hk.2, p1⟩
  · rw [e0, hB 0 (by omega)]; exact c0
  · unfold row_
    rw [hB 1 (by omega), hB 2 (by omega), hB 3 (by omega), hB 4 (by omega), hB 5 (by omega), hB 6 (by omega), e2, e3, e4, e5, e6]
    exact rw_ i hi
theorem Rel_agM {S T T' : St_} (h : Rel_ S T) (hB : agM_ T T') : Rel_ S T' := by
  obtain ⟨n, v, sd, pc, c0, rw_⟩ := h
  refine ⟨n, agM_v hB v, sd, pc, by rw [hB 0 (by omega)]; exact c0, fun i hi => ?_⟩
  unfold row_
  rw [hB 1 (by omega), hB 2 (by omega), hB 3 (by omega), hB 4 (by omega), hB 5 (by omega), hB 6 (by omega)]
  exact rw_ i hi
end
section
/-! PURE: a new task, a task less, on both sides; the answers are the same -/
theorem ps_sum_set {f g : Nat → Nat} {b : Nat} : ∀ n, (∀ i, i < n → i ≠ b → g i = f i) → b < n → ps_sum g n + f b = ps_sum f n + g b
  | 0, _, hb => absurd hb (Nat.not_lt_zero _)
  | n + 1, h, hb => by
    show ps_sum g n + g n + f b = ps_sum f n + f n + g b
    by_cases e : b = n
    · subst e
      have := ps_sum_congr (f := g) (g := f) b (fun i hi => h i (by omega) (by omega))
      omega
    · have h1 := ps_sum_set n (fun i hi hne => h i (by omega) hne) (by omega)
      have h2 := h n (by omega) (by omega)
      omega
/-- what a placement says -/
theorem PL_facts {tk : Int → Int → Int → Prop} {n c d y i j : Int} (hc : 1 ≤ c) (h : PL_ tk n c d y i j) : (0 ≤ i ∧ i < n) ∧ (1 ≤ y ∧ y ≤ c) ∧ ((j = -1 ∧ y = c) ∨ (0 ≤ j ∧ j < n ∧ j ≠ i ∧ y < c)) ∧ tk i y (if j = -1 then d else y) ∧ (j ≠ -1 → tk j (c - y) (d - y)) := by
  rcases h with ⟨rfl, rfl, h1, h2, h3, -⟩ | ⟨-, h1, h2, -, a1, a2, a3, a4, a5, a6, a7, -⟩
  · exact ⟨⟨h1, h2⟩, ⟨hc, Int.le_refl _⟩, Or.inl ⟨rfl, rfl⟩, by rw [if_pos rfl]; exact h3, fun z => absurd rfl z⟩
  · exact ⟨⟨a1, a2⟩, ⟨h1, by omega⟩, Or.inr ⟨a3, a4, a5, h2⟩, by rw [if_neg (by omega)]; exact a6, fun _ => a7⟩
theorem Rel_fin {S T S' T' : St_} (h : Rel_ S T) {id : Nat} (hid : id < 12) (h0 : S 2 id = 0) {c d p y i j : Int} (hp : okp_ p) (hc : okc_ c d p) (hPL : PL_ (tkf_ (up_ S 3 id p) id) (S 0 0) c d y i j) (hA : finA_ S id c d p y i j S') (hB : finB_ T id c d p y i j T') : Rel_ S' T' := by
  obtain ⟨⟨n1, n2, n3, n4, n5⟩, v, sd, pc, c0, rw_⟩ := h
  obtain ⟨⟨i0, i1⟩, ⟨y0, y1⟩, hj, tk1, tk2⟩ := PL_facts hc.1 hPL
  obtain ⟨A0, A3, A2, A1, A7, A4, A5, A6, A4', A56⟩ := hA
  obtain ⟨B0, Bo, B1, B2, B3, B4, B5, B6⟩ := hB
  have hc1 := hc.1
  have hc2 := hc.2.1
  have hc3 := hc.2.2
  have hf := n4 id (by omega) h0
  have hcr := n1.1
  have o4 : ∀ q, q ≠ 2 * id → q ≠ 2 * id + 1 → S' 4 q = S 4 q := fun q a b => A0 4 q (by omega) (by omega) (by omega) (by omega) (by omega)
  have o5 : ∀ q, q ≠ 2 * id → q ≠ 2 * id + 1 → S' 5 q = S 5 q := fun q a b => A0 5 q (by omega) (by omega) (by omega) (by omega) (by omega)
  have o6 : ∀ q, q ≠ 2 * id → q ≠ 2 * id + 1 → S' 6 q = S 6 q := fun q a b => A0 6 q (by omega) (by omega) (by omega) (by omega) (by omega)
  have o3 : ∀ q, q ≠ id → S' 3 q = S 3 q := fun q a => A0 3 q (by omega) (by omega) (by omega) (by omega) (by omega)
  have o2 : ∀ q, q ≠ id → S' 2 q = S 2 q := fun q a => A0 2 q (by omega) (by omega) (by omega) (by omega) (by omega)
  have o0 : S' 0 0 = S 0 0 := A0 0 0 (by omega) (by omega) (by omega) (by omega) (by omega)
  have hdl : y ≤ (if j = -1 then d else y) ∧ (if j = -1 then d else y) ≤ p := by
    split <;> omega
  -- the places but id
  have hoth : ∀ (k : Int) (q : Nat), q ≠ id → cA_ S' k q = cA_ S k q ∧ dA_ S' k q = dA_ S k q ∧ pA_ S' q = pA_ S q := fun k q hq => by
    have hqq : qpA_ S' k q = qpA_ S k q := by unfold qpA_; rw [o4 _ (by omega) (by omega)]
    have hn1 : qpA_ S k q ≠ 2 * id ∧ qpA_ S k q ≠ 2 * id + 1 := by unfold qpA_; split <;> omega
    refine ⟨?_, ?_, ?_⟩
    · unfold cA_; rw [hqq, o4 _ hn1.1 hn1.2, o5 _ hn1.1 hn1.2]
    · unfold dA_; rw [hqq, o6 _ hn1.1 hn1.2]
    · unfold pA_; rw [o3 q hq]
  have hU : ∀ (k : Int) (q : Nat), q ≠ id → cA_ (up_ S 3 id p) k q = cA_ S k q ∧ dA_ (up_ S 3 id p) k q = dA_ S k q ∧ pA_ (up_ S 3 id p) q = pA_ S q := fun k q hq => by
    refine ⟨rfl, rfl, ?_⟩
    unfold pA_; rw [up_ne _ _ _ _ (by omega)]
  have hpid : pA_ S' id = pA_ (up_ S 3 id p) id := by unfold pA_; rw [A3, up_eq]
  have hvl : vlA_ S' := by
    refine ⟨by rw [o0]; exact hcr, fun q hq => ?_, fun q hq hz => ?_⟩
    · by_cases e1 : q = 2 * id
      · have e3 : q / 2 = id := by omega
        rw [e3, A3, e1, A4, A5, A6]
        exact ⟨by omega, by omega, fun _ => ⟨by omega, hdl.1, hdl.2, hp⟩⟩
      · by_cases e2 : q = 2 * id + 1
        · have e3 : q / 2 = id := by omega
          rw [e3, A3, e2, A4']
          refine ⟨by omega, by omega, fun z => ?_⟩
          obtain ⟨b1, b2⟩ := A56 (by omega)
          rw [b1, b2]
          exact ⟨by omega, by omega, by omega, hp⟩
        · rw [o4 q e1 e2, o5 q e1 e2, o6 q e1 e2, o3 (q / 2) (by omega)]
          exact n1.2.1 q hq
    · by_cases e : q = id
      · subst e
        rw [A4, A4']; omega
      · rw [o4 _ (by omega) (by omega)] at hz ⊢
        rw [o4 _ (by omega) (by omega)]
        exact n1.2.2 q hq hz
  refine ⟨⟨hvl, fun q hq => ?_, ?_, fun q hq hz => ?_, ?_⟩, ?_, fun k k0 k1 => ?_, Or.inl A7, ?_, fun q hq => ?_⟩
  · by_cases e : q = id
    · subst e; exact Or.inr A2
    · rw [o2 q e]; exact n2 q hq
  · rw [o2 12 (by omega)]; exact n3
  · have e : q ≠ id := fun e => by subst e; omega
    rw [o2 q e] at hz
    have := n4 q hq hz
    unfold frA_
    rw [o4 _ (by omega) (by omega), o4 _ (by omega) (by omega)]; exact this
  · rw [A1, n5]
    have := ps_sum_set (f := fun q => (S 2 q).toNat) (g := fun q => (S' 2 q).toNat) (b := id) 12 (fun q hq hne => by show (S' 2 q).toNat = (S 2 q).toNat; rw [o2 q hne]) hid
    simp only [h0, A2] at this
    have e1 : (0 : Int).toNat = 0 := rfl
    have e2 : (1 : Int).toNat = 1 := rfl
    rw [e1, e2] at this
    unfold cnA_
    omega
  · refine ⟨by rw [B0 0]; exact v.1, fun q hq => ?_⟩
    by_cases e : q = id
    · subst e
      unfold rwB_
      rw [B1, B2, B3, B4, B5, B6]
      have hp1 := hp.1
      have hp2 := hp.2.1
      rcases hj with ⟨j1, j2⟩ | ⟨j1, j2, j3, j4⟩
      · rw [if_pos j1]
        exact ⟨by omega, by omega, fun _ => ⟨hp, hc1, hc2, hc3, by omega, Or.inl ⟨rfl, j2⟩⟩⟩
      · rw [if_neg (by omega)]
        exact ⟨by omega, by omega, fun _ => ⟨hp, hc1, hc2, hc3, by omega, Or.inr ⟨j1, by omega, j3, by omega, j4⟩⟩⟩
    · unfold rwB_
      rw [Bo 1 (by omega) q e, Bo 2 (by omega) q e, Bo 3 (by omega) q e, Bo 4 (by omega) q e, Bo 5 (by omega) q e, Bo 6 (by omega) q e]
      exact v.2 q hq
  · rw [o0] at k1
    by_cases e1 : S' 4 (2 * id) = k
    · have ek : i = k := by omega
      subst ek
      obtain ⟨c1, d1⟩ := cA_fst e1
      refine (ps_same_sched (fun q hq => ?_)).mpr tk1
      unfold upN_
      by_cases e : q = id
      · subst e
        rw [if_pos rfl, if_pos rfl, c1, d1, A5, A6]
        exact ⟨rfl, fun _ => ⟨rfl, hpid⟩⟩
      · obtain ⟨x1, x2, x3⟩ := hoth i q e
        obtain ⟨u1, u2, u3⟩ := hU i q e
        rw [if_neg e, if_neg e, x1, x2, x3, u1, u2, u3]
        exact ⟨rfl, fun _ => ⟨rfl, rfl⟩⟩
    · by_cases e2 : S' 4 (2 * id + 1) = k
      · have ek : j = k := by omega
        obtain ⟨c1, d1⟩ := cA_snd e1 e2
        obtain ⟨b1, b2⟩ := A56 (by omega)
        have tk2 := tk2 (by omega)
        rw [ek] at tk2
        refine (ps_same_sched (fun q hq => ?_)).mpr tk2
        unfold upN_
        by_cases e : q = id
        · subst e
          rw [if_pos rfl, if_pos rfl, c1, d1, b1, b2]
          exact ⟨rfl, fun _ => ⟨rfl, hpid⟩⟩
        · obtain ⟨x1, x2, x3⟩ := hoth k q e
          obtain ⟨u1, u2, u3⟩ := hU k q e
          rw [if_neg e, if_neg e, x1, x2, x3, u1, u2, u3]
          exact ⟨rfl, fun _ => ⟨rfl, rfl⟩⟩
      · refine (ps_same_sched (fun q hq => ?_)).mpr (sd k k0 k1)
        by_cases e : q = id
        · subst e
          rw [cA_non e1 e2, cA_fr k0 hf]
          exact ⟨rfl, fun z => by omega⟩
        · obtain ⟨x1, x2, x3⟩ := hoth k q e
          rw [x1, x2, x3]
          exact ⟨rfl, fun _ => ⟨rfl, rfl⟩⟩
  · rw [o0, B0 0]; exact c0
  · unfold row_
    by_cases e : q = id
    · subst e
      rw [A2, A3, A4, A5, A6, A4', B1, B2, B3, B4, B5, B6]
      have hp1 := hp.1
      refine Or.inr ⟨rfl, by omega, rfl, rfl, rfl, ?_⟩
      rcases hj with ⟨j1, j2⟩ | ⟨j1, j2, j3, j4⟩
      · rw [if_pos j1, if_pos j1]
        exact Or.inl ⟨rfl, j1, rfl⟩
      · obtain ⟨b1, b2⟩ := A56 (by omega)
        rw [if_neg (by omega), if_neg (by omega)]
        exact Or.inr ⟨j1, rfl, rfl, b1, b2⟩
    · rw [o2 q e, o3 q e, o4 _ (by omega) (by omega), o4 _ (by omega) (by omega), o5 _ (by omega) (by omega), o5 _ (by omega) (by omega), o6 _ (by omega) (by omega), o6 _ (by omega) (by omega), Bo 1 (by omega) q e, Bo 2 (by omega) q e, Bo 3 (by omega) q e, Bo 4 (by omega) q e, Bo 5 (by omega) q e, Bo 6 (by omega) q e]
      exact rw_ q hq
theorem Rel_rem {S T : St_} (h : Rel_ S T) {id : Nat} (hid : id < 12) (h1 : S 2 id = 1) : Rel_ (remA_ S id) (up_ T 1 id 0) := by
  obtain ⟨⟨n1, n2, n3, n4, n5⟩, v, sd, pc, c0, rw_⟩ := h
  have hcr := n1.1
  obtain ⟨S', hS'⟩ : ∃ S', S' = remA_ S id := ⟨_, rfl⟩
  have A2 : S' 2 id = 0 := by rw [hS']; unfold remA_; rw [up_ne _ _ _ _ (by omega), up_ne _ _ _ _ (by omega), up_ne _ _ _ _ (by omega), up_ne _ _ _ _ (by omega), up_eq]
  have A4 : S' 4 (2 * id) = -1 := by rw [hS']; unfold remA_; rw [up_ne _ _ _ _ (by omega), up_ne _ _ _ _ (by omega), up_ne _ _ _ _ (by omega), up_eq]
  have A4' : S' 4 (2 * id + 1) = -1 := by rw [hS']; unfold remA_; rw [up_ne _ _ _ _ (by omega), up_ne _ _ _ _ (by omega), up_eq]
  have A1 : S' 1 0 = S 1 0 - 1 := by rw [hS']; unfold remA_; rw [up_ne _ _ _ _ (by omega), up_eq]
  have A7 : S' 7 0 = -1 := by rw [hS']; unfold remA_; rw [up_eq]
  have A0 : ∀ f k, ¬ (f = 4 ∧ (k = 2 * id ∨ k = 2 * id + 1)) → ¬ (f = 2 ∧ k = id) → ¬ (f = 1 ∧ k = 0) → ¬ (f = 7 ∧ k = 0) → S' f k = S f k := fun f k a b d e => by
    rw [hS']; unfold remA_; rw [up_ne _ _ _ _ (by omega), up_ne _ _ _ _ (by omega), up_ne _ _ _ _ (by omega), up_ne _ _ _ _ (by omega), up_ne _ _ _ _ (by omega)]
  rw [← hS']
  have o4 : ∀ q, q ≠ 2 * id → q ≠ 2 * id + 1 → S' 4 q = S 4 q := fun q a b => A0 4 q (by omega) (by omega) (by omega) (by omega)
  have o5 : ∀ q, S' 5 q = S 5 q := fun q => A0 5 q (by omega) (by omega) (by omega) (by omega)
  have o6 : ∀ q, S' 6 q = S 6 q := fun q => A0 6 q (by omega) (by omega) (by omega) (by omega)
  have o3 : ∀ q, S' 3 q = S 3 q := fun q => A0 3 q (by omega) (by omega) (by omega) (by omega)
  have o2 : ∀ q, q ≠ id → S' 2 q = S 2 q := fun q a => A0 2 q (by omega) (by omega) (by omega) (by omega)
  have o0 : S' 0 0 = S 0 0 := A0 0 0 (by omega) (by omega) (by omega) (by omega)
  have hfr : frA_ S' id := ⟨A4, A4'⟩
  have hvl : vlA_ S' := by
    refine ⟨by rw [o0]; exact hcr, fun q hq => ?_, fun q hq hz => ?_⟩
    · rw [o5, o6, o3]
      by_cases e1 : q = 2 * id
      · rw [e1, A4]; exact ⟨by omega, by omega, fun z => by omega⟩
      · by_cases e2 : q = 2 * id + 1
        · rw [e2, A4']; exact ⟨by omega, by omega, fun z => by omega⟩
        · rw [o4 q e1 e2]; exact n1.2.1 q hq
    · by_cases e : q = id
      · subst e; rw [A4] at hz; omega
      · rw [o4 _ (by omega) (by omega)] at hz ⊢
        rw [o4 _ (by omega) (by omega)]
        exact n1.2.2 q hq hz
  have hT : ∀ f q, ¬ (f = 1 ∧ q = id) → up_ T 1 id 0 f q = T f q := fun f q a => up_ne _ _ _ _ a
  refine ⟨⟨hvl, fun q hq => ?_, ?_, fun q hq hz => ?_, ?_⟩, up1_v v id, fun k k0 k1 => ?_, Or.inl A7, ?_, fun q hq => ?_⟩
  · by_cases e : q = id
    · subst e; exact Or.inl A2
    · rw [o2 q e]; exact n2 q hq
  · rw [o2 12 (by omega)]; exact n3
  · by_cases e : q = id
    · subst e; exact hfr
    · rw [o2 q e] at hz
      have := n4 q hq hz
      unfold frA_
      rw [o4 _ (by omega) (by omega), o4 _ (by omega) (by omega)]; exact this
  · rw [A1, n5]
    have := ps_sum_set (f := fun q => (S 2 q).toNat) (g := fun q => (S' 2 q).toNat) (b := id) 12 (fun q hq hne => by show (S' 2 q).toNat = (S 2 q).toNat; rw [o2 q hne]) hid
    simp only [h1, A2] at this
    have e1 : (0 : Int).toNat = 0 := rfl
    have e2 : (1 : Int).toNat = 1 := rfl
    rw [e1, e2] at this
    unfold cnA_
    omega
  · rw [o0] at k1
    have hm : ps_sched (upN_ (cA_ S k) id 0) (dA_ S k) (pA_ S) := ps_sched_mono (fun q hq => by unfold upN_; split <;> omega) (sd k k0 k1)
    refine (ps_same_sched (fun q hq => ?_)).mpr hm
    unfold upN_
    by_cases e : q = id
    · subst e
      rw [if_pos rfl, cA_fr k0 hfr]
      exact ⟨rfl, fun z => by omega⟩
    · rw [if_neg e]
      have hqq : qpA_ S' k q = qpA_ S k q := by unfold qpA_; rw [o4 _ (by omega) (by omega)]
      have hn1 : qpA_ S k q ≠ 2 * id ∧ qpA_ S k q ≠ 2 * id + 1 := by unfold qpA_; split <;> omega
      refine ⟨?_, fun _ => ⟨?_, ?_⟩⟩
      · unfold cA_; rw [hqq, o4 _ hn1.1 hn1.2, o5]
      · unfold dA_; rw [hqq, o6]
      · unfold pA_; rw [o3]
  · rw [o0, hT 0 0 (by omega)]; exact c0
  · unfold row_
    by_cases e : q = id
    · subst e
      exact Or.inl ⟨A2, up_eq _ _ _ _⟩
    · rw [o2 q e, o3, o4 _ (by omega) (by omega), o4 _ (by omega) (by omega), o5, o5, o6, o6, hT 1 q (by omega), hT 2 q (by omega), hT 3 q (by omega), hT 4 q (by omega), hT 5 q (by omega), hT 6 q (by omega)]
      exact rw_ q hq
/-! THE ANSWERS -/
theorem op_adm {S T S' T' : St_} (h : Rel_ S T) {c d p : Int} {x y : Int32} (hA : admA_ S c d p x S') (hB : admB_ T c d p y T') : x = y ∧ Rel_ S' T' := by
  obtain ⟨n, v, sd, pc, c0, rw_⟩ := id h
  have hcn := Rel_cn n rw_
  have hcl := cnB_le T
  rcases hA with ⟨a1, rfl, rfl⟩ | ⟨a1, a2, rfl, rfl⟩ | ⟨a1, a2, a3, rfl, rfl⟩ | ⟨a1, a2, a3, id, a4, a5, a6⟩
  · rcases hB with ⟨b1, rfl, rfl⟩ | ⟨b1, -⟩ | ⟨b1, -⟩ | ⟨b1, -⟩
    · exact ⟨rfl, h⟩
    · exact absurd b1 a1
    · exact absurd b1 a1
    · exact absurd b1 a1
  · rcases hB with ⟨b1, -⟩ | ⟨b1, b2, rfl, rfl⟩ | ⟨b1, b2, -⟩ | ⟨b1, b2, -⟩
    · exact absurd a1 b1
    · exact ⟨rfl, h⟩
    · exact absurd b2 a2
    · exact absurd b2 a2
  · rcases hB with ⟨b1, -⟩ | ⟨b1, b2, -⟩ | ⟨b1, b2, b3, rfl, rfl⟩ | ⟨b1, b2, b3, -⟩
    · exact absurd a1 b1
    · exact absurd a2 b2
    · exact ⟨rfl, h⟩
    · omega
  · rcases hB with ⟨b1, -⟩ | ⟨b1, b2, -⟩ | ⟨b1, b2, b3, -⟩ | ⟨b1, b2, b3, id', b4, b5, b6⟩
    · exact absurd a1 b1
    · exact absurd a2 b2
    · omega
    · have e := Rel_ff rw_ (by omega) (by omega) a5 b5
      subst e
      have h0 := a5.2 a4
      have hf := n.2.2.2.1 id (by omega) h0
      have hcg : ∀ k a b : Int, 0 ≤ k → k < S 0 0 → (tkf_ (up_ S 3 id p) id k a b ↔ tkfB_ T id p k a b) := fun k a b k0 _ => tk_eq n v rw_ k0 id p a b
      rw [← c0] at b6
      rcases a6 with ⟨rfl, x1, x2⟩ | ⟨rfl, y1, i1, j1, x1, x2⟩
      · rcases b6 with ⟨rfl, z1, z2⟩ | ⟨rfl, y2, i2, j2, z1, z2⟩
        · exact ⟨rfl, Rel_keep h (by omega) hf h0 p x2 z2⟩
        · exact (PL_NP z1 (NP_congr hcg x1)).elim
      · rcases b6 with ⟨rfl, z1, z2⟩ | ⟨rfl, y2, i2, j2, z1, z2⟩
        · exact (PL_NP (PL_congr hcg x1) z1).elim
        · obtain ⟨e1, e2, e3⟩ := PL_uniq (PL_congr hcg x1) z1
          subst e1; subst e2; subst e3
          exact ⟨rfl, Rel_fin h a4 h0 a1 a2 x1 x2 z2⟩
theorem op_rem {S T S' T' : St_} (h : Rel_ S T) {a : Int} {x y : Int32} (hA : (¬ usA_ S a ∧ x = iI (-5) ∧ S' = S) ∨ (usA_ S a ∧ x = iI (S 1 0 - 1) ∧ S' = remA_ S a.toNat)) (hB : (¬ usB_ T a ∧ y = iI (-5) ∧ T' = T) ∨ (usB_ T a ∧ T' = up_ T 1 a.toNat 0 ∧ y = iI ((cnB_ T' : Nat) : Int))) : x = y ∧ Rel_ S' T' := by
  obtain ⟨n, v, sd, pc, c0, rw_⟩ := id h
  have hus := Rel_us rw_ a
  rcases hA with ⟨a1, rfl, rfl⟩ | ⟨a1, rfl, rfl⟩
  · rcases hB with ⟨b1, rfl, rfl⟩ | ⟨b1, -⟩
    · exact ⟨rfl, h⟩
    · exact absurd (hus.mpr b1) a1
  · rcases hB with ⟨b1, -⟩ | ⟨b1, rfl, rfl⟩
    · exact absurd (hus.mp a1) b1
    · have hR := Rel_rem h (id := a.toNat) (by have := a1.1; have := a1.2.1; omega) a1.2.2
      have e := Rel_cn hR.1 hR.2.2.2.2.2
      refine ⟨?_, hR⟩
      rw [← e]
      unfold remA_
      rw [up_ne _ _ _ _ (by omega), up_eq]
theorem op_core {S T S' T' : St_} (h : Rel_ S T) {a : Int} {x y : Int32} (hA : ((¬ usA_ S a ∧ x = iI (-5)) ∨ (usA_ S a ∧ x = iI (S 4 (2 * a.toNat)))) ∧ S' = S) (hB : ((¬ usB_ T a ∧ y = iI (-5)) ∨ (usB_ T a ∧ y = iI (T 5 a.toNat))) ∧ T' = T) : x = y ∧ Rel_ S' T' := by
  obtain ⟨n, v, sd, pc, c0, rw_⟩ := id h
  have hus := Rel_us rw_ a
  obtain ⟨hA, rfl⟩ := hA
  obtain ⟨hB, rfl⟩ := hB
  refine ⟨?_, h⟩
  rcases hA with ⟨a1, rfl⟩ | ⟨a1, rfl⟩
  · rcases hB with ⟨b1, rfl⟩ | ⟨b1, -⟩
    · rfl
    · exact absurd (hus.mpr b1) a1
  · rcases hB with ⟨b1, -⟩ | ⟨b1, rfl⟩
    · exact absurd (hus.mp a1) b1
    · rcases rw_ a.toNat (by have := a1.1; have := a1.2.1; omega) with ⟨z, -⟩ | ⟨-, -, -, z, -⟩
      · have := a1.2.2; omega
      · rw [z]
theorem op_fst {S T S' T' : St_} (h : Rel_ S T) {a : Int} {x y : Int32} (hA : ((¬ usA_ S a ∧ x = iI (-5)) ∨ (usA_ S a ∧ x = iI (S 5 (2 * a.toNat)))) ∧ S' = S) (hB : ((¬ usB_ T a ∧ y = iI (-5)) ∨ (usB_ T a ∧ y = iI (T 4 a.toNat))) ∧ T' = T) : x = y ∧ Rel_ S' T' := by
  obtain ⟨n, v, sd, pc, c0, rw_⟩ := id h
  have hus := Rel_us rw_ a
  obtain ⟨hA, rfl⟩ := hA
  obtain ⟨hB, rfl⟩ := hB
  refine ⟨?_, h⟩
  rcases hA with ⟨a1, rfl⟩ | ⟨a1, rfl⟩
  · rcases hB with ⟨b1, rfl⟩ | ⟨b1, -⟩
    · rfl
    · exact absurd (hus.mpr b1) a1
  · rcases hB with ⟨b1, -⟩ | ⟨b1, rfl⟩
    · exact absurd (hus.mp a1) b1
    · rcases rw_ a.toNat (by have := a1.1; have := a1.2.1; omega) with ⟨z, -⟩ | ⟨-, -, -, -, z, -⟩
      · have := a1.2.2; omega
      · rw [z]
theorem op_snd {S T S' T' : St_} (h : Rel_ S T) {a : Int} {x y : Int32} (hA : ((¬ usA_ S a ∧ x = iI (-5)) ∨ (usA_ S a ∧ x = iI (if S 4 (2 * a.toNat + 1) < 0 then -4 else S 4 (2 * a.toNat + 1)))) ∧ S' = S) (hB : ((¬ usB_ T a ∧ y = iI (-5)) ∨ (usB_ T a ∧ y = iI (T 6 a.toNat))) ∧ T' = T) : x = y ∧ Rel_ S' T' := by
  obtain ⟨n, v, sd, pc, c0, rw_⟩ := id h
  have hus := Rel_us rw_ a
  obtain ⟨hA, rfl⟩ := hA
  obtain ⟨hB, rfl⟩ := hB
  refine ⟨?_, h⟩
  rcases hA with ⟨a1, rfl⟩ | ⟨a1, rfl⟩
  · rcases hB with ⟨b1, rfl⟩ | ⟨b1, -⟩
    · rfl
    · exact absurd (hus.mpr b1) a1
  · rcases hB with ⟨b1, -⟩ | ⟨b1, rfl⟩
    · exact absurd (hus.mp a1) b1
    · rcases rw_ a.toNat (by have := a1.1; have := a1.2.1; omega) with ⟨z, -⟩ | ⟨-, -, -, -, -, z | z⟩
      · have := a1.2.2; omega
      · rw [if_pos (by omega), z.1]
      · rw [if_neg (by omega), z.2.1]
theorem op_load {S T S' T' : St_} (h : Rel_ S T) {a : Int} {x y : Int32} (hA : ((¬ (0 ≤ a ∧ a < S 0 0) ∧ x = iI (-6)) ∨ ((0 ≤ a ∧ a < S 0 0) ∧ x = iI ((ps_dem (cA_ S a) (dA_ S a) (pA_ S) 60 : Nat) : Int))) ∧ S' = S) (hB : (¬ (0 ≤ a ∧ a < T 0 0) ∧ y = iI (-6) ∧ T' = T) ∨ ((0 ≤ a ∧ a < T 0 0) ∧ y = iI ((ps_dem (cB_ T a) (dB_ T a) (pB_ T) 60 : Nat) : Int) ∧ agM_ T T')) : x = y ∧ Rel_ S' T' := by
  obtain ⟨n, v, sd, pc, c0, rw_⟩ := id h
  obtain ⟨hA, rfl⟩ := hA
  rcases hA with ⟨a1, rfl⟩ | ⟨a1, rfl⟩
  · rcases hB with ⟨b1, rfl, rfl⟩ | ⟨b1, -⟩
    · exact ⟨rfl, h⟩
    · omega
  · rcases hB with ⟨b1, -⟩ | ⟨b1, rfl, b2⟩
    · omega
    · exact ⟨by rw [ps_same_dem (sys_same n v rw_ a1.1)], Rel_agM h b2⟩
theorem op_run {S T S' T' : St_} (h : Rel_ S T) {k a : Int} {x y : Int32}
    (hA : (¬ (0 ≤ k ∧ k < S 0 0) ∧ x = iI (-6) ∧ S' = S) ∨ ((0 ≤ k ∧ k < S 0 0) ∧ ¬ (0 ≤ a ∧ a < 60) ∧ x = iI (-7) ∧ S' = S) ∨ ((0 ≤ k ∧ k < S 0 0) ∧ (0 ≤ a ∧ a < 60) ∧ x = iI (ps_run (cA_ S k) (dA_ S k) (pA_ S) a.toNat) ∧ plnA_ S k S'))
    (hB : (¬ (0 ≤ k ∧ k < T 0 0) ∧ y = iI (-6) ∧ T' = T) ∨ ((0 ≤ k ∧ k < T 0 0) ∧ ¬ (0 ≤ a ∧ a < 60) ∧ y = iI (-7) ∧ T' = T) ∨ ((0 ≤ k ∧ k < T 0 0) ∧ (0 ≤ a ∧ a < 60) ∧ y = iI (ps_run (cB_ T k) (dB_ T k) (pB_ T) a.toNat) ∧ agM_ T T')) : x = y ∧ Rel_ S' T' := by
  obtain ⟨n, v, sd, pc, c0, rw_⟩ := id h
  rcases hA with ⟨a1, rfl, rfl⟩ | ⟨a1, a2, rfl, rfl⟩ | ⟨a1, a2, rfl, a3⟩
  · rcases hB with ⟨b1, rfl, rfl⟩ | ⟨b1, -⟩ | ⟨b1, -⟩
    · exact ⟨rfl, h⟩
    · omega
    · omega
  · rcases hB with ⟨b1, -⟩ | ⟨b1, b2, rfl, rfl⟩ | ⟨b1, b2, -⟩
    · omega
    · exact ⟨rfl, h⟩
    · omega
  · rcases hB with ⟨b1, -⟩ | ⟨b1, b2, -⟩ | ⟨b1, b2, rfl, b3⟩
    · omega
    · omega
    · exact ⟨by rw [ps_same_run (sys_same n v rw_ a1.1)], Rel_pln h a1 a3 b3⟩
theorem op_rsp {S T S' T' : St_} (h : Rel_ S T) {k a : Int} {x y : Int32}
    (hA : (¬ (0 ≤ k ∧ k < S 0 0) ∧ x = iI (-6) ∧ S' = S) ∨ ((0 ≤ k ∧ k < S 0 0) ∧ ¬ usA_ S a ∧ x = iI (-5) ∧ S' = S) ∨ ((0 ≤ k ∧ k < S 0 0) ∧ usA_ S a ∧ x = iI (if S 4 (2 * a.toNat) = k ∨ S 4 (2 * a.toNat + 1) = k then ((ps_rsp (cA_ S k) (dA_ S k) (pA_ S) 60 a.toNat : Nat) : Int) else -5) ∧ plnA_ S k S'))
    (hB : (¬ (0 ≤ k ∧ k < T 0 0) ∧ y = iI (-6) ∧ T' = T) ∨ ((0 ≤ k ∧ k < T 0 0) ∧ ¬ usB_ T a ∧ y = iI (-5) ∧ T' = T) ∨ ((0 ≤ k ∧ k < T 0 0) ∧ usB_ T a ∧ y = iI (if cB_ T k a.toNat = 0 then -5 else ((ps_rsp (cB_ T k) (dB_ T k) (pB_ T) 60 a.toNat : Nat) : Int)) ∧ agM_ T T')) : x = y ∧ Rel_ S' T' := by
  obtain ⟨n, v, sd, pc, c0, rw_⟩ := id h
  have hus := Rel_us rw_ a
  rcases hA with ⟨a1, rfl, rfl⟩ | ⟨a1, a2, rfl, rfl⟩ | ⟨a1, a2, rfl, a3⟩
  · rcases hB with ⟨b1, rfl, rfl⟩ | ⟨b1, -⟩ | ⟨b1, -⟩
    · exact ⟨rfl, h⟩
    · omega
    · omega
  · rcases hB with ⟨b1, -⟩ | ⟨b1, b2, rfl, rfl⟩ | ⟨b1, b2, -⟩
    · omega
    · exact ⟨rfl, h⟩
    · exact absurd (hus.mpr b2) a2
  · rcases hB with ⟨b1, -⟩ | ⟨b1, b2, -⟩ | ⟨b1, b2, rfl, b3⟩
    · omega
    · exact absurd (hus.mp a2) b2
    · refine ⟨?_, Rel_pln h a1 a3 b3⟩
      have hi : a.toNat < 12 := by have := a2.1; have := a2.2.1; omega
      obtain ⟨e1, e2⟩ := sys_same n v rw_ a1.1 a.toNat (by omega)
      congr 1
      by_cases z : S 4 (2 * a.toNat) = k ∨ S 4 (2 * a.toNat + 1) = k
      · have hc : 0 < cA_ S k a.toNat := by
          rcases z with z | z
          · have := (prt_A n.1 a1.1 (i := 2 * a.toNat) (by omega) z).2.2.2.2
            rw [show 2 * a.toNat / 2 = a.toNat by omega] at this
            exact this
          · have := (prt_A n.1 a1.1 (i := 2 * a.toNat + 1) (by omega) z).2.2.2.2
            rw [show (2 * a.toNat + 1) / 2 = a.toNat by omega] at this
            exact this
        rw [if_pos z, if_neg (by omega), ps_same_rsp (sys_same n v rw_ a1.1) 60 a.toNat (by omega) hc]
      · have hc : cA_ S k a.toNat = 0 := cA_non (fun y => z (Or.inl y)) (fun y => z (Or.inr y))
        rw [if_neg z, if_pos (by omega)]
theorem op_spr {S T S' T' : St_} (h : Rel_ S T) {k p : Int} {x y : Int32} (hA : sprA_ S k p x S') (hB : sprB_ T k p y T') : x = y ∧ Rel_ S' T' := by
  obtain ⟨n, v, sd, pc, c0, rw_⟩ := id h
  rcases hA with ⟨a1, rfl, rfl⟩ | ⟨a1, a2, rfl, rfl⟩ | ⟨a1, a2, id, a3, a4, a5, u, rfl, a6, a7, a8, a9⟩
  · rcases hB with ⟨b1, rfl, rfl⟩ | ⟨b1, -⟩ | ⟨b1, -⟩
    · exact ⟨rfl, h⟩
    · omega
    · omega
  · rcases hB with ⟨b1, -⟩ | ⟨b1, b2, rfl, rfl⟩ | ⟨b1, b2, -⟩
    · omega
    · exact ⟨rfl, h⟩
    · exact absurd b2 a2
  · rcases hB with ⟨b1, -⟩ | ⟨b1, b2, -⟩ | ⟨b1, b2, id', b3, b4, b5, w, rfl, b6, b7, b8, b9⟩
    · omega
    · exact absurd a2 b2
    · have e := Rel_ff rw_ a3 b3 a4 b4
      subst e
      have h0 : S 2 id = 0 := by
        rcases Nat.lt_or_ge id 12 with z | z
        · exact a4.2 z
        · rw [show id = 12 by omega]; exact n.2.2.1
      have hf := n.2.2.2.1 id (by omega) h0
      have ht : ∀ z : Int, tkA_ (up_ S 3 id p) k id z p ↔ tkB_ T k id z p p := fun z => tk_eq n v rw_ a1.1 id p z p
      refine ⟨?_, Rel_keep h a3 hf h0 p a5 b5⟩
      have huw : u = w := by
        rcases Int.lt_trichotomy u w with z | z | z
        · rcases b8 with b8 | b8
          · omega
          · exact absurd ((ht w).mpr b8) (a9 w z b7)
        · exact z
        · rcases a8 with a8 | a8
          · omega
          · exact absurd ((ht u).mp a8) (b9 u z a7)
      rw [huw]
theorem Rel_ini {S T : St_} {a : Int} (hA : iniA_ a S) (hB : iniB_ a T) : Rel_ S T := by
  obtain ⟨a0, a4, a7, ao⟩ := hA
  obtain ⟨b0, bo⟩ := hB
  have hcl : 1 ≤ clp_ a ∧ clp_ a ≤ 3 := by unfold clp_; split; omega; split <;> omega
  have hc : ∀ (k : Int), 0 ≤ k → ∀ i, i < 13 → cA_ S k i = 0 := fun k hk i hi => cA_fr hk ⟨a4 _ (by omega), a4 _ (by omega)⟩
  refine ⟨⟨⟨by rw [a0]; exact hcl, fun i hi => ?_, fun i hi hz => ?_⟩, fun i hi => Or.inl (ao 2 i (by omega) (by omega) (by omega)), ao 2 12 (by omega) (by omega) (by omega), fun i hi _ => ⟨a4 _ (by omega), a4 _ (by omega)⟩, ?_⟩, ⟨by rw [b0]; exact hcl, fun i hi => ?_⟩, fun k k0 k1 => ?_, Or.inl a7, by rw [a0, b0], fun i hi => Or.inl ⟨ao 2 i (by omega) (by omega) (by omega), bo 1 i (by omega)⟩⟩
  · rw [a4 i hi]; exact ⟨by omega, by omega, fun z => by omega⟩
  · rw [a4 _ (by omega)] at hz; omega
  · rw [ao 1 0 (by omega) (by omega) (by omega)]
    have : cnA_ S = ps_sum (fun _ => 0) 12 := ps_sum_congr 12 (fun i hi => by rw [ao 2 i (by omega) (by omega) (by omega)]; rfl)
    rw [this]; decide
  · rw [bo 6 i (by omega), bo 1 i (by omega)]; exact ⟨by omega, by omega, fun z => absurd rfl z⟩
  · intro t ht
    refine Nat.le_trans (ps_sum_le (g := fun _ => 0) 13 (fun i hi => ?_)) (by show 0 ≤ t; omega)
    rw [hc k k0 i hi, Nat.mul_zero]; exact Nat.le_refl _
end
section
/-! ROWS of the law: the script, two worlds side by side, calls from outside -/
theorem e_arr {s : State} {args : Array Value} {ty : FieldType} (hty : ∀ C, ty ≠ .object C) (h : (Cond.arrayClass ty).before args s = true) : ∃ cA : ClassId, ArrOfT s cA ty ∧ va_RA s cA ty := by
  obtain ⟨cA, kA, comp, h1, h2, h3⟩ := Cond.arrayClass_spec h
  refine ⟨cA, fun n z => ⟨fun k h => (by cases h), kA, h2, comp, h3⟩, ?_⟩
  cases ty with
  | object C => exact absurd rfl (hty C)
  | _ => exact h1
def In2_ (D : va_G) (A : Nat → Prop) (H0 H : Heap) (locs : List Loc) (w1 w2 : va_W) : Prop := (va_P D ecl_ w1 H ∧ va_P D ecl_ w2 H) ∧ (va_D A w1 ∧ va_D A w2) ∧ (∀ (i j : Nat) (p q : Nat × va_E), w1[i]? = some p → w2[j]? = some q → p.1 ≠ q.1) ∧ va_S A H0 H locs
theorem In2_.symm {D : va_G} {A : Nat → Prop} {H0 H : Heap} {locs : List Loc} {w1 w2 : va_W} (h : In2_ D A H0 H locs w1 w2) : In2_ D A H0 H locs w2 w1 := ⟨⟨h.1.2, h.1.1⟩, ⟨h.2.1.2, h.2.1.1⟩, fun i j p q hi hj e => h.2.2.1 j i q p hj hi e.symm, h.2.2.2⟩
theorem In2_of {D : va_G} {A : Nat → Prop} {H0 H : Heap} {locs : List Loc} {w1 w2 : va_W} (h : In_ D A H0 H locs (w1 ++ w2)) : In2_ D A H0 H locs w1 w2 := by
  obtain ⟨hP, hD, hS⟩ := h
  have l1 : ∀ (i : Nat) (p : Nat × va_E), w1[i]? = some p → (w1 ++ w2)[i]? = some p := fun i p hi => by
    have hl := (List.getElem?_eq_some_iff.mp hi).1
    rw [List.getElem?_append_left hl]; exact hi
  have l2 : ∀ (i : Nat) (p : Nat × va_E), w2[i]? = some p → (w1 ++ w2)[w1.length + i]? = some p := fun i p hi => by
    rw [List.getElem?_append_right (by omega), Nat.add_sub_cancel_left]; exact hi
  refine ⟨⟨fun k q hk => hP k q (l1 k q hk), fun k q hk => hP _ q (l2 k q hk)⟩, ⟨⟨fun i j p q hi hj e => hD.1 i j p q (l1 i p hi) (l1 j q hj) e, fun k q hk => hD.2 k q (l1 k q hk)⟩, ⟨fun i j p q hi hj e => by have := hD.1 _ _ p q (l2 i p hi) (l2 j q hj) e; omega, fun k q hk => hD.2 _ q (l2 k q hk)⟩⟩, fun i j p q hi hj e => ?_, hS⟩
  have h1 := hD.1 _ _ p q (l1 i p hi) (l2 j q hj) e
  have h2 := (List.getElem?_eq_some_iff.mp hi).1
  omega
theorem In2_free {D : va_G} {A : Nat → Prop} {H0 H : Heap} {locs : List Loc} {w1 w2 : va_W} (h : In2_ D A H0 H locs w1 w2) (hA : ∀ q, H0.size ≤ q → A q) : ∀ q, va_A w1 H.size q → A q := by
  intro q hq
  rcases hq with ⟨k, e', hk⟩ | hq
  · exact h.2.1.1.2 k _ hk
  · exact hA q (Nat.le_trans h.2.2.2.1 hq)
theorem In2_back {D : va_G} {A : Nat → Prop} {H0 H H1 : Heap} {locs locs1 : List Loc} {w1 w1' w2 : va_W} (h : In2_ D A H0 H locs w1 w2) (hA : ∀ q, H0.size ≤ q → A q) (hk : ∀ q : Nat, q < H.size → ¬ va_A w1 H.size q → H1[q]? = H[q]?) (hP1 : va_P D ecl_ w1' H1) (hD1 : va_D (va_A w1 H.size) w1') (hS1 : va_S A H0 H1 locs1) : In2_ D A H0 H1 locs1 w1' w2 := by
  have out : ∀ (j : Nat) (q : Nat × va_E), w2[j]? = some q → q.1 < H.size ∧ ¬ va_A w1 H.size q.1 := fun j q hj => by
    have h1 := (h.1.2 j q hj).lt
    refine ⟨h1, fun z => ?_⟩
    rcases z with ⟨k, e', hk'⟩ | z
    · exact h.2.2.1 k j _ q hk' hj rfl
    · omega
  refine ⟨⟨hP1, fun k q hq => (h.1.2 k q hq).kept (hk _ (out k q hq).1 (out k q hq).2)⟩, ⟨hD1.weaken (fun k q _ g => In2_free h hA q.1 g), h.2.1.2⟩, fun i j p q hi hj e => ?_, hS1⟩
  exact (out j q hj).2 (e ▸ hD1.2 i p hi)
section EL
variable {p : Program} {l : Launch} {e : Env} {R : Room} {s : State} {m : MethodId} {args : Array Value} {below : List Frame} {meth : Method} {c : Code} {H H0 : Heap} {locs : List Loc} {cells slots : Nat} {Q : State → Prop}
variable {cc : ByteArray} {pc : Nat} {ls : Array Slot} {rest : List Value} {nL : Nat} {own : String} {D : va_G} {tys : List (ClassId × FieldType)} {A : Nat → Prop} {lv : List (Nat × Value)}
variable {h : Nat} {S : St_} {b L : Nat} {xs : Nat → Int32}
theorem rr_slen (hC : Cx_ p s m args c cc nL own D tys A) (hX : va_X b L xs s s.heap) (hbl : b < s.heap.size) (hbA : ¬ A b) (hS : va_S A s.heap H locs) (hdg : decode cc pc = .ok (.arraylength, 1)) (kk : W p l e R s m args below meth c H locs cells slots Q (F0 m (pc + 1) ls (.int (iI (L : Int)) :: rest))) : W p l e R s m args below meth c H locs cells slots Q (F0 m pc ls (.ref b :: rest)) :=
  va_slen hC.1.1 hC.1.2.1 hX hbl hbA hS hdg (by rw [← Int32.ofInt_eq_ofNat]; exact kk)
theorem rr_sld (hC : Cx_ p s m args c cc nL own D tys A) (hX : va_X b L xs s s.heap) (hbl : b < s.heap.size) (hbA : ¬ A b) (hS : va_S A s.heap H locs) {k : Nat} (hL : L ≤ 2049) (hk : k < L) (hdg : decode cc pc = .ok (.iaload, 1)) (kk : W p l e R s m args below meth c H locs cells slots Q (F0 m (pc + 1) ls (.int (iI (xs k).toInt) :: rest))) : W p l e R s m args below meth c H locs cells slots Q (F0 m pc ls (.int (iI (k : Int)) :: .ref b :: rest)) :=
  va_sld hC.1.1 hC.1.2.1 hX hbl hbA hS (iI_in hk (by omega)) hdg (by rw [iI_cl (by omega)]; rw [iI_of] at kk; exact kk)
theorem rr_astore_n (hC : Cx_ p s m args c cc nL own D tys A) {n : Fin 4} {i x : Nat} {lv' : List (Nat × Value)} (hdg : decode cc pc = .ok (.astore_n n, 1)) (hl : lv_has ls nL lv) (hi : (n : Nat) = i) (hn : i < nL) (hv : (i, Value.ref x) :: lv.filter (fun q => !(q.1 == i) && !(q.1 + 1 == i && q.2.category == 2)) = lv') (kk : ∀ ls' : Array Slot, lv_has ls' nL lv' → W p l e R s m args below meth c H locs cells slots Q (F0 m (pc + 1) ls' rest)) : W p l e R s m args below meth c H locs cells slots Q (F0 m pc ls (.ref x :: rest)) := lv_astore_n hC.1.1 hC.1.2.1 hdg hi hl hn hv kk
/-- a call of a method of one of the two objects -/
theorem rL_call {y : MethodName} {bb : ByteArray} {n : Nat} {rt : Option FieldType} {lev na idx ci : Nat} {C : String} {As : List Value} {post : Int32 → St_ → Prop} {fs : List Value} {st0 : List Value} {wr : va_W} (hC : Cx_ p s m args c cc nL own D tys A) (w : St_ → va_W) (hI : In2_ D A s.heap H locs (w S) wr) (hl : lv_has ls nL lv) (hM : MI_ l D tys w y bb n rt lev S (.ref h :: As) post) (hG : GoodIn tb_ (wsV own idx C y (.code y bb n rt :: tb_))) (hd : y.cls = C ∧ y.cls ≠ "java/lang/invoke/MethodHandle" ∧ y.cls ≠ "java/lang/invoke/VarHandle" ∧ (parseMethodDescriptor y.desc).map (fun d => d.parameters.length) = some na) (hR : (rm_ lev).frames + 1 ≤ R.frames ∧ 8 + (n + 11) + (rm_ lev).locals ≤ R.locals) (hf : cells + 0 ≤ R.cells ∧ slots + 0 ≤ R.slots) (he : (w S)[0]? = some (h, .inr (ci, fs))) (hc : ecl_[ci]?.map (fun q => q.1) = some C) (hn : As.length = na) (hst : st0 = As.reverse ++ .ref h :: rest) (hr : (rest.map fun v => v.category).sum ≤ 8) (hdg : decode cc pc = .ok (.invokevirtual idx, 3)) (kk : ∀ (x : Int32) (S' : St_) (H1 : Heap) (locs1 : List Loc), post x S' → In2_ D A s.heap H1 locs1 (w S') wr → W p l e R s m args below meth c H1 locs1 cells slots Q (F0 m (pc + 3) ls (.int x :: rest))) : W p l e R s m args below meth c H locs cells slots Q (F0 m pc ls st0) := by
  have hF := In2_free hI hC.2.2
  obtain ⟨q, hq, hqC⟩ := Option.map_eq_some_iff.mp hc
  refine va_calli (va_runV (As := As) (rest := rest) (b := h) (C := C) hC.1 (hM H.size) (cwV na hC.1.2.2.2.2 hG rfl rfl rfl hd hR) ⟨e_blind, hqC ▸ va_recv hC.2.1 hI.1.1 hq he, fun U hU hW => ⟨rfl, by rw [hU], by rw [hU]; exact hI.1.1, va_K.moved hW.alike hC.2.1, hI.2.1.1.weaken (fun _ _ _ _ => trivial)⟩⟩ rfl hn hl.1 hst (lv_room hr) hdg hf) hI.2.2.2 (fun q _ g => hF q g) hF (fun x u t H1 locs1 ht hvm hw hB hz hk1 hS1 => ?_)
  obtain ⟨hP1, hK1, hD1⟩ := hB
  rw [ht] at hP1
  exact kk x u H1 locs1 hw (In2_back hI hC.2.2 hk1 hP1 hD1 hS1)
/-- a constructor called on a blank object -/
theorem rL_ctor {y : MethodName} {bb : ByteArray} {n mc ms na idx : Nat} {bl : va_E} {As : List Value} {post : St_ → Prop} {st0 : List Value} {wr : va_W} (hC : Cx_ p s m args c cc nL own D tys A) (w : (Nat → Nat) → St_ → va_W) (hI : In2_ D A s.heap H locs [(h, bl)] wr) (hl : lv_has ls nL lv) (hM : MC_ l D tys w h bl y bb n mc ms (.ref h :: As) post) (hG : GoodIn tb_ (.code y bb n none :: tb_)) (hini : Cond.initialized y.cls ∈ tb_) (hlk : Cond.methodLink own idx y ∈ tb_) (hins : Cond.instanceMethod y ∈ tb_) (hyn : y.name = "<init>") (hd : y.cls ≠ "java/lang/invoke/MethodHandle" ∧ y.cls ≠ "java/lang/invoke/VarHandle" ∧ (parseMethodDescriptor y.desc).map (fun d => d.parameters.length) = some na) (hR : 1 + 1 ≤ R.frames ∧ 8 + (n + 11) + 30 ≤ R.locals) (hf : cells + mc ≤ R.cells ∧ slots + ms ≤ R.slots) (hn : As.length = na) (hst : st0 = As.reverse ++ .ref h :: rest) (hr : (rest.map fun v => v.category).sum ≤ 8) (hdg : decode cc pc = .ok (.invokespecial idx, 3)) (kk : ∀ (r : Nat → Nat) (S' : St_) (H1 : Heap) (locs1 : List Loc), post S' → In2_ D A s.heap H1 locs1 (w r S') wr → W p l e R s m args below meth c H1 locs1 (cells + mc) (slots + ms) Q (F0 m (pc + 3) ls rest)) : W p l e R s m args below meth c H locs cells slots Q (F0 m pc ls st0) := by
  have hF := In2_free hI hC.2.2
  refine va_callv (va_runI (As := As) (rest := rest) (b := h) hC.1 (hM H.size) (cwI na hC.1.2.2.2.2 hG rfl rfl rfl (hC.1.2.2.2.2 _ hini) (hC.1.2.2.2.2 _ hlk) (hC.1.2.2.2.2 _ hins) hyn hd hR) ⟨e_blind, fun U hU hW => ⟨rfl, by rw [hU], by rw [hU]; exact hI.1.1, va_K.moved hW.alike hC.2.1, hI.2.1.1.weaken (fun _ _ _ _ => trivial)⟩⟩ rfl hn hl.1 hst (lv_room hr) hdg hf) hI.2.2.2 (fun q _ g => hF q g) hF (fun u t H1 locs1 ht hvm hw hB hz hk1 hS1 => ?_)
  obtain ⟨hP1, hK1, hD1⟩ := hB
  rw [ht] at hP1
  exact kk u.1 u.2 H1 locs1 hw (In2_back hI hC.2.2 hk1 hP1 hD1 hS1)
end EL
def celv_ (L : Nat) (xs : Nat → Int32) : Int := if 0 < L then (xs 0).toInt else 0
set_option maxRecDepth 100000 in
set_option maxHeartbeats 4000000 in
/-- cell, at place 0 -/
theorem cL_cell (l : Launch) (D : va_G) (cZ cI : ClassId) (b L : Nat) (xs : Nat → Int32) (hL : L ≤ 2049) : MS_ l D [(cZ, .boolean), (cI, .int)] yL_cell kL_cell 2 (some .int) [.ref b, .int (iI ((0 : Nat) : Int))] (fun U => va_X b L xs U U.heap) (iI (celv_ L xs)) := by
  refine MS_of (by decide) (Nat.le_of_ble_eq_true rfl) ?_
  intro p e s m below meth c ls hC0 hX hr hlk hl
  have hC : Cx_ p s m [.ref b, .int (iI ((0 : Nat) : Int))].toArray c kL_cell 2 R_law D [(cZ, .boolean), (cI, .int)] (fun q => s.heap.size ≤ q) := ⟨hC0.1, hC0.2.1, fun q h => h⟩
  have hbl : b < s.heap.size := by
    obtain ⟨scr, h1, -⟩ := hX
    exact (Array.getElem?_eq_some_iff.mp h1).1
  have hbA : ¬ (fun q : Nat => s.heap.size ≤ q) b := Nat.not_le.mpr hbl
  have hl : lv_has ls 2 [(0, .ref b), (1, .int (iI ((0 : Nat) : Int)))] := hl
  refine rr_iload_n hC dL_cell_0 hl rfl 1 rfl ?_
  refine rr_aload_n hC dL_cell_1 hl rfl 0 rfl ?_
  refine rr_slen hC hX hbl hbA va_S.rf dL_cell_2 ?_
  refine rr_icmp_ge hC 12 dL_cell_3 (by decide) (by omega) (by omega) (fun c1 => ?_) (fun c1 => ?_)
  · refine rr_iconst (v := 0) hC dL_cell_12 rfl ?_
    rw [show celv_ L xs = 0 from if_neg (by omega)]
    exact rr_sret hC hr hlk (by decide +kernel) dL_cell_13
  · refine rr_aload_n hC dL_cell_6 hl rfl 0 rfl ?_
    refine rr_iload_n hC dL_cell_7 hl rfl 1 rfl ?_
    refine rr_sld hC hX hbl hbA va_S.rf hL (by omega) dL_cell_8 ?_
    refine rr_goto hC 13 dL_cell_9 (by decide) ?_
    rw [show celv_ L xs = (xs 0).toInt from if_pos (by omega)]
    exact rr_sret hC hr hlk rfl dL_cell_13
end
section
/-! THE LAW: its loop, its start, walked by program -/
set_option maxRecDepth 100000 in
set_option maxHeartbeats 4000000 in
/-- the law's loop: the two states agree at its head -/
theorem law_loop {p : Program} {l : Launch} {e : Env} {s : State} {m : MethodId} {below : List Frame} {meth : Method} {c : Code} {D : va_G} {cZ cI : ClassId} {b L : Nat} {xs : Nat → Int32} (hL : L ≤ 2049) (hr : meth.sig.returnType = ret) (hlocks : meth.locks = false) (hC : Cx_ p s m #[Value.ref b] c code 4 R_law D [(cZ, .boolean), (cI, .int)] (fun q : Nat => s.heap.size ≤ q)) (hX : va_X b L xs s s.heap) (hbl : b < s.heap.size) (hA hB : Nat) (rA rB : Nat → Nat) :
    ∀ (n i : Nat), 1 ≤ i → i ≤ L + 1 → L + 4 < i + n → ∀ (S T : St_) (H : Heap) (locs : List Loc), Rel_ S T → In2_ D (fun q : Nat => s.heap.size ≤ q) s.heap H locs (wA_ hA rA cZ cI S) (wB_ hB rB cI T) → ∀ (ls : Array Slot), lv_has ls 4 [(0, .ref b), (1, .ref hA), (2, .ref hB), (3, .int (iI ((i : Nat) : Int)))] → W p l e room_1 s m #[Value.ref b] below meth c H locs 25 548 (lw_Z below #[Value.ref b] s) (F0 m 28 ls []) := by
  have hbA : ¬ (fun q : Nat => s.heap.size ≤ q) b := Nat.not_le.mpr hbl
  intro n
  induction n with
  | zero => intros; omega
  | succ n ih =>
    intro i hi1 hi2 hfu S T H locs hR hI ls hl
    refine rr_iload_n hC dL_law_28 hl rfl 3 rfl ?_
    refine rr_aload_n hC dL_law_29 hl rfl 0 rfl ?_
    refine rr_slen hC hX hbl hbA hI.2.2.2 dL_law_30 ?_
    refine rr_iconst (v := ((4 : Nat) : Int)) hC dL_law_31 rfl ?_
    refine rr_isub hC dL_law_32 ?_
    refine rr_icmp_gt hC 355 dL_law_33 (by decide) (by omega) (by omega) (fun c1 => ?_) (fun c1 => ?_)
    · refine lv_iconst (v := 1) hC.1.1 hC.1.2.1 dL_law_355 (by decide) ?_
      refine va_forget (fun q hq => hI.2.2.2.2.2 q hq) ?_
      exact lw_ret hC.1.1 hC.1.2.1 hr hlocks dL_law_356
    · refine rr_aload_n hC dL_law_36 hl rfl 0 rfl ?_
      refine rr_iload_n hC dL_law_37 hl rfl 3 rfl ?_
      refine rr_sld hC hX hbl hbA hI.2.2.2 hL (by omega) dL_law_38 ?_
      refine rr_bipush (v := ((15 : Nat) : Int)) hC dL_law_39 (by decide) ?_
      refine lv_iand hC.1.1 hC.1.2.1 dL_law_41 ?_
      rw [iI_of, show iI ((15 : Nat) : Int) = 15 from rfl]
      obtain ⟨j, hj, ej⟩ := pk_andE (xs i) (m := 15) 4 (by decide)
      rw [ej]
      have hj : j < 16 := hj
      rcases (show j = 0 ∨ j = 1 ∨ j = 2 ∨ j = 3 ∨ j = 4 ∨ j = 5 ∨ j = 6 ∨ j = 7 ∨ j = 8 ∨ 9 ≤ j by omega) with rfl | rfl | rfl | rfl | rfl | rfl | rfl | rfl | rfl | h9
      · refine lv_tableIn (off := 50) (tgt := 92) hC.1.1 hC.1.2.1 dL_law_42 (by decide) (by decide) rfl (by decide) ?_
        refine rr_aload_n hC dL_law_92 hl rfl 1 rfl ?_
        refine rr_aload_n hC dL_law_93 hl rfl 0 rfl ?_
        refine rr_iload_n hC dL_law_94 hl rfl 3 rfl ?_
        refine rr_iconst (v := ((1 : Nat) : Int)) hC dL_law_95 rfl ?_
        refine rr_iadd hC dL_law_96 ?_
        refine rr_top (y := ((i + 1 : Nat) : Int)) (by omega) ?_
        refine rr_sld hC hX hbl hbA hI.2.2.2 hL (by omega) dL_law_97 ?_
        refine rr_aload_n hC dL_law_98 hl rfl 0 rfl ?_
        refine rr_iload_n hC dL_law_99 hl rfl 3 rfl ?_
        refine rr_iconst (v := ((2 : Nat) : Int)) hC dL_law_100 rfl ?_
        refine rr_iadd hC dL_law_101 ?_
        refine rr_top (y := ((i + 2 : Nat) : Int)) (by omega) ?_
        refine rr_sld hC hX hbl hbA hI.2.2.2 hL (by omega) dL_law_102 ?_
        refine rr_aload_n hC dL_law_103 hl rfl 0 rfl ?_
        refine rr_iload_n hC dL_law_104 hl rfl 3 rfl ?_
        refine rr_iconst (v := ((3 : Nat) : Int)) hC dL_law_105 rfl ?_
        refine rr_iadd hC dL_law_106 ?_
        refine rr_top (y := ((i + 3 : Nat) : Int)) (by omega) ?_
        refine rr_sld hC hX hbl hbA hI.2.2.2 hL (by omega) dL_law_107 ?_
        refine rL_call (na := 3) hC (wA_ hA rA cZ cI) hI hl (cA_admit l D hA rA cZ cI S ((xs (i + 1)).toInt) ((xs (i + 2)).toInt) ((xs (i + 3)).toInt) (iI_bd _) (iI_bd _) (iI_bd _) hR.1) gL_A_admit (by decide +kernel) ⟨by decide, by decide⟩ ⟨by decide, by decide⟩ rfl rfl rfl rfl (Nat.le_of_ble_eq_true rfl) dL_law_108 (fun x S2 H locs hpA hI => ?_)
        refine rr_aload_n hC dL_law_111 hl rfl 2 rfl ?_
        refine rr_aload_n hC dL_law_112 hl rfl 0 rfl ?_
        refine rr_iload_n hC dL_law_113 hl rfl 3 rfl ?_
        refine rr_iconst (v := ((1 : Nat) : Int)) hC dL_law_114 rfl ?_
        refine rr_iadd hC dL_law_115 ?_
        refine rr_top (y := ((i + 1 : Nat) : Int)) (by omega) ?_
        refine rr_sld hC hX hbl hbA hI.2.2.2 hL (by omega) dL_law_116 ?_
        refine rr_aload_n hC dL_law_117 hl rfl 0 rfl ?_
        refine rr_iload_n hC dL_law_118 hl rfl 3 rfl ?_
        refine rr_iconst (v := ((2 : Nat) : Int)) hC dL_law_119 rfl ?_
        refine rr_iadd hC dL_law_120 ?_
        refine rr_top (y := ((i + 2 : Nat) : Int)) (by omega) ?_
        refine rr_sld hC hX hbl hbA hI.2.2.2 hL (by omega) dL_law_121 ?_
        refine rr_aload_n hC dL_law_122 hl rfl 0 rfl ?_
        refine rr_iload_n hC dL_law_123 hl rfl 3 rfl ?_
        refine rr_iconst (v := ((3 : Nat) : Int)) hC dL_law_124 rfl ?_
        refine rr_iadd hC dL_law_125 ?_
        refine rr_top (y := ((i + 3 : Nat) : Int)) (by omega) ?_
        refine rr_sld hC hX hbl hbA hI.2.2.2 hL (by omega) dL_law_126 ?_
        refine rL_call (na := 3) hC (wB_ hB rB cI) hI.symm hl (cB_admit l D hB rB cZ cI T ((xs (i + 1)).toInt) ((xs (i + 2)).toInt) ((xs (i + 3)).toInt) (iI_bd _) (iI_bd _) (iI_bd _) hR.2.1) gL_B_admit (by decide +kernel) ⟨by decide, by decide⟩ ⟨by decide, by decide⟩ rfl rfl rfl rfl (Nat.le_of_ble_eq_true rfl) dL_law_127 (fun y T2 H locs hpB hI => ?_)
        have hop := op_adm hR hpA hpB
        refine lv_icmp_eq (tgt := 349) hC.1.1 hC.1.2.1 dL_law_130 (by decide) (fun _ => ?_) (fun c9 => absurd hop.1 c9)
        refine rr_iinc (v := ((i + 4 : Nat) : Int)) (lv' := [(3, .int (iI ((i + 4 : Nat) : Int))), (0, .ref b), (1, .ref hA), (2, .ref hB)]) hC dL_law_349 hl 3 rfl (by omega) (by decide) rfl (fun ls hl => ?_)
        refine rr_goto hC 28 dL_law_352 (by decide) ?_
        exact ih (i + 4) (by omega) (by omega) (by omega) S2 T2 H locs hop.2 hI.symm ls (lv_sub hl [1, 2, 3, 0] rfl)
      · refine lv_tableIn (off := 93) (tgt := 135) hC.1.1 hC.1.2.1 dL_law_42 (by decide) (by decide) rfl (by decide) ?_
        refine rr_aload_n hC dL_law_135 hl rfl 1 rfl ?_
        refine rr_aload_n hC dL_law_136 hl rfl 0 rfl ?_
        refine rr_iload_n hC dL_law_137 hl rfl 3 rfl ?_
        refine rr_iconst (v := ((1 : Nat) : Int)) hC dL_law_138 rfl ?_
        refine rr_iadd hC dL_law_139 ?_
        refine rr_top (y := ((i + 1 : Nat) : Int)) (by omega) ?_
        refine rr_sld hC hX hbl hbA hI.2.2.2 hL (by omega) dL_law_140 ?_
        refine rL_call (na := 1) hC (wA_ hA rA cZ cI) hI hl (cA_remove l D hA rA cZ cI S ((xs (i + 1)).toInt) (iI_bd _) hR.1) gL_A_remove (by decide +kernel) ⟨by decide, by decide⟩ ⟨by decide, by decide⟩ rfl rfl rfl rfl (Nat.le_of_ble_eq_true rfl) dL_law_141 (fun x S2 H locs hpA hI => ?_)
        refine rr_aload_n hC dL_law_144 hl rfl 2 rfl ?_
        refine rr_aload_n hC dL_law_145 hl rfl 0 rfl ?_
        refine rr_iload_n hC dL_law_146 hl rfl 3 rfl ?_
        refine rr_iconst (v := ((1 : Nat) : Int)) hC dL_law_147 rfl ?_
        refine rr_iadd hC dL_law_148 ?_
        refine rr_top (y := ((i + 1 : Nat) : Int)) (by omega) ?_
        refine rr_sld hC hX hbl hbA hI.2.2.2 hL (by omega) dL_law_149 ?_
        refine rL_call (na := 1) hC (wB_ hB rB cI) hI.symm hl (cB_remove l D hB rB cZ cI T ((xs (i + 1)).toInt) (iI_bd _) hR.2.1) gL_B_remove (by decide +kernel) ⟨by decide, by decide⟩ ⟨by decide, by decide⟩ rfl rfl rfl rfl (Nat.le_of_ble_eq_true rfl) dL_law_150 (fun y T2 H locs hpB hI => ?_)
        have hop := op_rem hR hpA hpB
        refine lv_icmp_eq (tgt := 349) hC.1.1 hC.1.2.1 dL_law_153 (by decide) (fun _ => ?_) (fun c9 => absurd hop.1 c9)
        refine rr_iinc (v := ((i + 4 : Nat) : Int)) (lv' := [(3, .int (iI ((i + 4 : Nat) : Int))), (0, .ref b), (1, .ref hA), (2, .ref hB)]) hC dL_law_349 hl 3 rfl (by omega) (by decide) rfl (fun ls hl => ?_)
        refine rr_goto hC 28 dL_law_352 (by decide) ?_
        exact ih (i + 4) (by omega) (by omega) (by omega) S2 T2 H locs hop.2 hI.symm ls (lv_sub hl [1, 2, 3, 0] rfl)
      · refine lv_tableIn (off := 116) (tgt := 158) hC.1.1 hC.1.2.1 dL_law_42 (by decide) (by decide) rfl (by decide) ?_
        refine rr_aload_n hC dL_law_158 hl rfl 1 rfl ?_
        refine rr_aload_n hC dL_law_159 hl rfl 0 rfl ?_
        refine rr_iload_n hC dL_law_160 hl rfl 3 rfl ?_
        refine rr_iconst (v := ((1 : Nat) : Int)) hC dL_law_161 rfl ?_
        refine rr_iadd hC dL_law_162 ?_
        refine rr_top (y := ((i + 1 : Nat) : Int)) (by omega) ?_
        refine rr_sld hC hX hbl hbA hI.2.2.2 hL (by omega) dL_law_163 ?_
        refine rL_call (na := 1) hC (wA_ hA rA cZ cI) hI hl (cA_core l D hA rA cZ cI S ((xs (i + 1)).toInt) (iI_bd _) hR.1) gL_A_core (by decide +kernel) ⟨by decide, by decide⟩ ⟨by decide, by decide⟩ rfl rfl rfl rfl (Nat.le_of_ble_eq_true rfl) dL_law_164 (fun x S2 H locs hpA hI => ?_)
        refine rr_aload_n hC dL_law_167 hl rfl 2 rfl ?_
        refine rr_aload_n hC dL_law_168 hl rfl 0 rfl ?_
        refine rr_iload_n hC dL_law_169 hl rfl 3 rfl ?_
        refine rr_iconst (v := ((1 : Nat) : Int)) hC dL_law_170 rfl ?_
        refine rr_iadd hC dL_law_171 ?_
        refine rr_top (y := ((i + 1 : Nat) : Int)) (by omega) ?_
        refine rr_sld hC hX hbl hbA hI.2.2.2 hL (by omega) dL_law_172 ?_
        refine rL_call (na := 1) hC (wB_ hB rB cI) hI.symm hl (cB_core l D hB rB cZ cI T ((xs (i + 1)).toInt) (iI_bd _) hR.2.1) gL_B_core (by decide +kernel) ⟨by decide, by decide⟩ ⟨by decide, by decide⟩ rfl rfl rfl rfl (Nat.le_of_ble_eq_true rfl) dL_law_173 (fun y T2 H locs hpB hI => ?_)
        have hop := op_core hR hpA hpB
        refine lv_icmp_eq (tgt := 349) hC.1.1 hC.1.2.1 dL_law_176 (by decide) (fun _ => ?_) (fun c9 => absurd hop.1 c9)
        refine rr_iinc (v := ((i + 4 : Nat) : Int)) (lv' := [(3, .int (iI ((i + 4 : Nat) : Int))), (0, .ref b), (1, .ref hA), (2, .ref hB)]) hC dL_law_349 hl 3 rfl (by omega) (by decide) rfl (fun ls hl => ?_)
        refine rr_goto hC 28 dL_law_352 (by decide) ?_
        exact ih (i + 4) (by omega) (by omega) (by omega) S2 T2 H locs hop.2 hI.symm ls (lv_sub hl [1, 2, 3, 0] rfl)
      · refine lv_tableIn (off := 139) (tgt := 181) hC.1.1 hC.1.2.1 dL_law_42 (by decide) (by decide) rfl (by decide) ?_
        refine rr_aload_n hC dL_law_181 hl rfl 1 rfl ?_
        refine rr_aload_n hC dL_law_182 hl rfl 0 rfl ?_
        refine rr_iload_n hC dL_law_183 hl rfl 3 rfl ?_
        refine rr_iconst (v := ((1 : Nat) : Int)) hC dL_law_184 rfl ?_
        refine rr_iadd hC dL_law_185 ?_
        refine rr_top (y := ((i + 1 : Nat) : Int)) (by omega) ?_
        refine rr_sld hC hX hbl hbA hI.2.2.2 hL (by omega) dL_law_186 ?_
        refine rL_call (na := 1) hC (wA_ hA rA cZ cI) hI hl (cA_secondCore l D hA rA cZ cI S ((xs (i + 1)).toInt) (iI_bd _) hR.1) gL_A_secondCore (by decide +kernel) ⟨by decide, by decide⟩ ⟨by decide, by decide⟩ rfl rfl rfl rfl (Nat.le_of_ble_eq_true rfl) dL_law_187 (fun x S2 H locs hpA hI => ?_)
        refine rr_aload_n hC dL_law_190 hl rfl 2 rfl ?_
        refine rr_aload_n hC dL_law_191 hl rfl 0 rfl ?_
        refine rr_iload_n hC dL_law_192 hl rfl 3 rfl ?_
        refine rr_iconst (v := ((1 : Nat) : Int)) hC dL_law_193 rfl ?_
        refine rr_iadd hC dL_law_194 ?_
        refine rr_top (y := ((i + 1 : Nat) : Int)) (by omega) ?_
        refine rr_sld hC hX hbl hbA hI.2.2.2 hL (by omega) dL_law_195 ?_
        refine rL_call (na := 1) hC (wB_ hB rB cI) hI.symm hl (cB_secondCore l D hB rB cZ cI T ((xs (i + 1)).toInt) (iI_bd _) hR.2.1) gL_B_secondCore (by decide +kernel) ⟨by decide, by decide⟩ ⟨by decide, by decide⟩ rfl rfl rfl rfl (Nat.le_of_ble_eq_true rfl) dL_law_196 (fun y T2 H locs hpB hI => ?_)
        have hop := op_snd hR hpA hpB
        refine lv_icmp_eq (tgt := 349) hC.1.1 hC.1.2.1 dL_law_199 (by decide) (fun _ => ?_) (fun c9 => absurd hop.1 c9)
        refine rr_iinc (v := ((i + 4 : Nat) : Int)) (lv' := [(3, .int (iI ((i + 4 : Nat) : Int))), (0, .ref b), (1, .ref hA), (2, .ref hB)]) hC dL_law_349 hl 3 rfl (by omega) (by decide) rfl (fun ls hl => ?_)
        refine rr_goto hC 28 dL_law_352 (by decide) ?_
        exact ih (i + 4) (by omega) (by omega) (by omega) S2 T2 H locs hop.2 hI.symm ls (lv_sub hl [1, 2, 3, 0] rfl)
      · refine lv_tableIn (off := 162) (tgt := 204) hC.1.1 hC.1.2.1 dL_law_42 (by decide) (by decide) rfl (by decide) ?_
        refine rr_aload_n hC dL_law_204 hl rfl 1 rfl ?_
        refine rr_aload_n hC dL_law_205 hl rfl 0 rfl ?_
        refine rr_iload_n hC dL_law_206 hl rfl 3 rfl ?_
        refine rr_iconst (v := ((1 : Nat) : Int)) hC dL_law_207 rfl ?_
        refine rr_iadd hC dL_law_208 ?_
        refine rr_top (y := ((i + 1 : Nat) : Int)) (by omega) ?_
        refine rr_sld hC hX hbl hbA hI.2.2.2 hL (by omega) dL_law_209 ?_
        refine rL_call (na := 1) hC (wA_ hA rA cZ cI) hI hl (cA_firstCost l D hA rA cZ cI S ((xs (i + 1)).toInt) (iI_bd _) hR.1) gL_A_firstCost (by decide +kernel) ⟨by decide, by decide⟩ ⟨by decide, by decide⟩ rfl rfl rfl rfl (Nat.le_of_ble_eq_true rfl) dL_law_210 (fun x S2 H locs hpA hI => ?_)
        refine rr_aload_n hC dL_law_213 hl rfl 2 rfl ?_
        refine rr_aload_n hC dL_law_214 hl rfl 0 rfl ?_
        refine rr_iload_n hC dL_law_215 hl rfl 3 rfl ?_
        refine rr_iconst (v := ((1 : Nat) : Int)) hC dL_law_216 rfl ?_
        refine rr_iadd hC dL_law_217 ?_
        refine rr_top (y := ((i + 1 : Nat) : Int)) (by omega) ?_
        refine rr_sld hC hX hbl hbA hI.2.2.2 hL (by omega) dL_law_218 ?_
        refine rL_call (na := 1) hC (wB_ hB rB cI) hI.symm hl (cB_firstCost l D hB rB cZ cI T ((xs (i + 1)).toInt) (iI_bd _) hR.2.1) gL_B_firstCost (by decide +kernel) ⟨by decide, by decide⟩ ⟨by decide, by decide⟩ rfl rfl rfl rfl (Nat.le_of_ble_eq_true rfl) dL_law_219 (fun y T2 H locs hpB hI => ?_)
        have hop := op_fst hR hpA hpB
        refine lv_icmp_eq (tgt := 349) hC.1.1 hC.1.2.1 dL_law_222 (by decide) (fun _ => ?_) (fun c9 => absurd hop.1 c9)
        refine rr_iinc (v := ((i + 4 : Nat) : Int)) (lv' := [(3, .int (iI ((i + 4 : Nat) : Int))), (0, .ref b), (1, .ref hA), (2, .ref hB)]) hC dL_law_349 hl 3 rfl (by omega) (by decide) rfl (fun ls hl => ?_)
        refine rr_goto hC 28 dL_law_352 (by decide) ?_
        exact ih (i + 4) (by omega) (by omega) (by omega) S2 T2 H locs hop.2 hI.symm ls (lv_sub hl [1, 2, 3, 0] rfl)
      · refine lv_tableIn (off := 185) (tgt := 227) hC.1.1 hC.1.2.1 dL_law_42 (by decide) (by decide) rfl (by decide) ?_
        refine rr_aload_n hC dL_law_227 hl rfl 1 rfl ?_
        refine rr_aload_n hC dL_law_228 hl rfl 0 rfl ?_
        refine rr_iload_n hC dL_law_229 hl rfl 3 rfl ?_
        refine rr_iconst (v := ((1 : Nat) : Int)) hC dL_law_230 rfl ?_
        refine rr_iadd hC dL_law_231 ?_
        refine rr_top (y := ((i + 1 : Nat) : Int)) (by omega) ?_
        refine rr_sld hC hX hbl hbA hI.2.2.2 hL (by omega) dL_law_232 ?_
        refine rL_call (na := 1) hC (wA_ hA rA cZ cI) hI hl (cA_load l D hA rA cZ cI S ((xs (i + 1)).toInt) (iI_bd _) hR.1) gL_A_load (by decide +kernel) ⟨by decide, by decide⟩ ⟨by decide, by decide⟩ rfl rfl rfl rfl (Nat.le_of_ble_eq_true rfl) dL_law_233 (fun x S2 H locs hpA hI => ?_)
        refine rr_aload_n hC dL_law_236 hl rfl 2 rfl ?_
        refine rr_aload_n hC dL_law_237 hl rfl 0 rfl ?_
        refine rr_iload_n hC dL_law_238 hl rfl 3 rfl ?_
        refine rr_iconst (v := ((1 : Nat) : Int)) hC dL_law_239 rfl ?_
        refine rr_iadd hC dL_law_240 ?_
        refine rr_top (y := ((i + 1 : Nat) : Int)) (by omega) ?_
        refine rr_sld hC hX hbl hbA hI.2.2.2 hL (by omega) dL_law_241 ?_
        refine rL_call (na := 1) hC (wB_ hB rB cI) hI.symm hl (cB_load l D hB rB cZ cI T ((xs (i + 1)).toInt) (iI_bd _) hR.2.1) gL_B_load (by decide +kernel) ⟨by decide, by decide⟩ ⟨by decide, by decide⟩ rfl rfl rfl rfl (Nat.le_of_ble_eq_true rfl) dL_law_242 (fun y T2 H locs hpB hI => ?_)
        have hop := op_load hR hpA hpB
        refine lv_icmp_eq (tgt := 349) hC.1.1 hC.1.2.1 dL_law_245 (by decide) (fun _ => ?_) (fun c9 => absurd hop.1 c9)
        refine rr_iinc (v := ((i + 4 : Nat) : Int)) (lv' := [(3, .int (iI ((i + 4 : Nat) : Int))), (0, .ref b), (1, .ref hA), (2, .ref hB)]) hC dL_law_349 hl 3 rfl (by omega) (by decide) rfl (fun ls hl => ?_)
        refine rr_goto hC 28 dL_law_352 (by decide) ?_
        exact ih (i + 4) (by omega) (by omega) (by omega) S2 T2 H locs hop.2 hI.symm ls (lv_sub hl [1, 2, 3, 0] rfl)
      · refine lv_tableIn (off := 208) (tgt := 250) hC.1.1 hC.1.2.1 dL_law_42 (by decide) (by decide) rfl (by decide) ?_
        refine rr_aload_n hC dL_law_250 hl rfl 1 rfl ?_
        refine rr_aload_n hC dL_law_251 hl rfl 0 rfl ?_
        refine rr_iload_n hC dL_law_252 hl rfl 3 rfl ?_
        refine rr_iconst (v := ((1 : Nat) : Int)) hC dL_law_253 rfl ?_
        refine rr_iadd hC dL_law_254 ?_
        refine rr_top (y := ((i + 1 : Nat) : Int)) (by omega) ?_
        refine rr_sld hC hX hbl hbA hI.2.2.2 hL (by omega) dL_law_255 ?_
        refine rr_aload_n hC dL_law_256 hl rfl 0 rfl ?_
        refine rr_iload_n hC dL_law_257 hl rfl 3 rfl ?_
        refine rr_iconst (v := ((2 : Nat) : Int)) hC dL_law_258 rfl ?_
        refine rr_iadd hC dL_law_259 ?_
        refine rr_top (y := ((i + 2 : Nat) : Int)) (by omega) ?_
        refine rr_sld hC hX hbl hbA hI.2.2.2 hL (by omega) dL_law_260 ?_
        refine rL_call (na := 2) hC (wA_ hA rA cZ cI) hI hl (cA_running l D hA rA cZ cI S ((xs (i + 1)).toInt) ((xs (i + 2)).toInt) (iI_bd _) (iI_bd _) hR.1 hR.2.2.1 hR.2.2.2.1) gL_A_running (by decide +kernel) ⟨by decide, by decide⟩ ⟨by decide, by decide⟩ rfl rfl rfl rfl (Nat.le_of_ble_eq_true rfl) dL_law_261 (fun x S2 H locs hpA hI => ?_)
        refine rr_aload_n hC dL_law_264 hl rfl 2 rfl ?_
        refine rr_aload_n hC dL_law_265 hl rfl 0 rfl ?_
        refine rr_iload_n hC dL_law_266 hl rfl 3 rfl ?_
        refine rr_iconst (v := ((1 : Nat) : Int)) hC dL_law_267 rfl ?_
        refine rr_iadd hC dL_law_268 ?_
        refine rr_top (y := ((i + 1 : Nat) : Int)) (by omega) ?_
        refine rr_sld hC hX hbl hbA hI.2.2.2 hL (by omega) dL_law_269 ?_
        refine rr_aload_n hC dL_law_270 hl rfl 0 rfl ?_
        refine rr_iload_n hC dL_law_271 hl rfl 3 rfl ?_
        refine rr_iconst (v := ((2 : Nat) : Int)) hC dL_law_272 rfl ?_
        refine rr_iadd hC dL_law_273 ?_
        refine rr_top (y := ((i + 2 : Nat) : Int)) (by omega) ?_
        refine rr_sld hC hX hbl hbA hI.2.2.2 hL (by omega) dL_law_274 ?_
        refine rL_call (na := 2) hC (wB_ hB rB cI) hI.symm hl (cB_running l D hB rB cZ cI T ((xs (i + 1)).toInt) ((xs (i + 2)).toInt) (iI_bd _) (iI_bd _) hR.2.1 (Rel_sdB hR)) gL_B_running (by decide +kernel) ⟨by decide, by decide⟩ ⟨by decide, by decide⟩ rfl rfl rfl rfl (Nat.le_of_ble_eq_true rfl) dL_law_275 (fun y T2 H locs hpB hI => ?_)
        have hop := op_run hR hpA hpB
        refine lv_icmp_eq (tgt := 349) hC.1.1 hC.1.2.1 dL_law_278 (by decide) (fun _ => ?_) (fun c9 => absurd hop.1 c9)
        refine rr_iinc (v := ((i + 4 : Nat) : Int)) (lv' := [(3, .int (iI ((i + 4 : Nat) : Int))), (0, .ref b), (1, .ref hA), (2, .ref hB)]) hC dL_law_349 hl 3 rfl (by omega) (by decide) rfl (fun ls hl => ?_)
        refine rr_goto hC 28 dL_law_352 (by decide) ?_
        exact ih (i + 4) (by omega) (by omega) (by omega) S2 T2 H locs hop.2 hI.symm ls (lv_sub hl [1, 2, 3, 0] rfl)
      · refine lv_tableIn (off := 241) (tgt := 283) hC.1.1 hC.1.2.1 dL_law_42 (by decide) (by decide) rfl (by decide) ?_
        refine rr_aload_n hC dL_law_283 hl rfl 1 rfl ?_
        refine rr_aload_n hC dL_law_284 hl rfl 0 rfl ?_
        refine rr_iload_n hC dL_law_285 hl rfl 3 rfl ?_
        refine rr_iconst (v := ((1 : Nat) : Int)) hC dL_law_286 rfl ?_
        refine rr_iadd hC dL_law_287 ?_
        refine rr_top (y := ((i + 1 : Nat) : Int)) (by omega) ?_
        refine rr_sld hC hX hbl hbA hI.2.2.2 hL (by omega) dL_law_288 ?_
        refine rr_aload_n hC dL_law_289 hl rfl 0 rfl ?_
        refine rr_iload_n hC dL_law_290 hl rfl 3 rfl ?_
        refine rr_iconst (v := ((2 : Nat) : Int)) hC dL_law_291 rfl ?_
        refine rr_iadd hC dL_law_292 ?_
        refine rr_top (y := ((i + 2 : Nat) : Int)) (by omega) ?_
        refine rr_sld hC hX hbl hbA hI.2.2.2 hL (by omega) dL_law_293 ?_
        refine rL_call (na := 2) hC (wA_ hA rA cZ cI) hI hl (cA_response l D hA rA cZ cI S ((xs (i + 1)).toInt) ((xs (i + 2)).toInt) (iI_bd _) (iI_bd _) hR.1 hR.2.2.1 hR.2.2.2.1) gL_A_response (by decide +kernel) ⟨by decide, by decide⟩ ⟨by decide, by decide⟩ rfl rfl rfl rfl (Nat.le_of_ble_eq_true rfl) dL_law_294 (fun x S2 H locs hpA hI => ?_)
        refine rr_aload_n hC dL_law_297 hl rfl 2 rfl ?_
        refine rr_aload_n hC dL_law_298 hl rfl 0 rfl ?_
        refine rr_iload_n hC dL_law_299 hl rfl 3 rfl ?_
        refine rr_iconst (v := ((1 : Nat) : Int)) hC dL_law_300 rfl ?_
        refine rr_iadd hC dL_law_301 ?_
        refine rr_top (y := ((i + 1 : Nat) : Int)) (by omega) ?_
        refine rr_sld hC hX hbl hbA hI.2.2.2 hL (by omega) dL_law_302 ?_
        refine rr_aload_n hC dL_law_303 hl rfl 0 rfl ?_
        refine rr_iload_n hC dL_law_304 hl rfl 3 rfl ?_
        refine rr_iconst (v := ((2 : Nat) : Int)) hC dL_law_305 rfl ?_
        refine rr_iadd hC dL_law_306 ?_
        refine rr_top (y := ((i + 2 : Nat) : Int)) (by omega) ?_
        refine rr_sld hC hX hbl hbA hI.2.2.2 hL (by omega) dL_law_307 ?_
        refine rL_call (na := 2) hC (wB_ hB rB cI) hI.symm hl (cB_response l D hB rB cZ cI T ((xs (i + 1)).toInt) ((xs (i + 2)).toInt) (iI_bd _) (iI_bd _) hR.2.1 (Rel_sdB hR)) gL_B_response (by decide +kernel) ⟨by decide, by decide⟩ ⟨by decide, by decide⟩ rfl rfl rfl rfl (Nat.le_of_ble_eq_true rfl) dL_law_308 (fun y T2 H locs hpB hI => ?_)
        have hop := op_rsp hR hpA hpB
        refine lv_icmp_eq (tgt := 349) hC.1.1 hC.1.2.1 dL_law_311 (by decide) (fun _ => ?_) (fun c9 => absurd hop.1 c9)
        refine rr_iinc (v := ((i + 4 : Nat) : Int)) (lv' := [(3, .int (iI ((i + 4 : Nat) : Int))), (0, .ref b), (1, .ref hA), (2, .ref hB)]) hC dL_law_349 hl 3 rfl (by omega) (by decide) rfl (fun ls hl => ?_)
        refine rr_goto hC 28 dL_law_352 (by decide) ?_
        exact ih (i + 4) (by omega) (by omega) (by omega) S2 T2 H locs hop.2 hI.symm ls (lv_sub hl [1, 2, 3, 0] rfl)
      · refine lv_tableIn (off := 274) (tgt := 316) hC.1.1 hC.1.2.1 dL_law_42 (by decide) (by decide) rfl (by decide) ?_
        refine rr_aload_n hC dL_law_316 hl rfl 1 rfl ?_
        refine rr_aload_n hC dL_law_317 hl rfl 0 rfl ?_
        refine rr_iload_n hC dL_law_318 hl rfl 3 rfl ?_
        refine rr_iconst (v := ((1 : Nat) : Int)) hC dL_law_319 rfl ?_
        refine rr_iadd hC dL_law_320 ?_
        refine rr_top (y := ((i + 1 : Nat) : Int)) (by omega) ?_
        refine rr_sld hC hX hbl hbA hI.2.2.2 hL (by omega) dL_law_321 ?_
        refine rr_aload_n hC dL_law_322 hl rfl 0 rfl ?_
        refine rr_iload_n hC dL_law_323 hl rfl 3 rfl ?_
        refine rr_iconst (v := ((2 : Nat) : Int)) hC dL_law_324 rfl ?_
        refine rr_iadd hC dL_law_325 ?_
        refine rr_top (y := ((i + 2 : Nat) : Int)) (by omega) ?_
        refine rr_sld hC hX hbl hbA hI.2.2.2 hL (by omega) dL_law_326 ?_
        refine rL_call (na := 2) hC (wA_ hA rA cZ cI) hI hl (cA_spare l D hA rA cZ cI S ((xs (i + 1)).toInt) ((xs (i + 2)).toInt) (iI_bd _) (iI_bd _) hR.1) gL_A_spare (by decide +kernel) ⟨by decide, by decide⟩ ⟨by decide, by decide⟩ rfl rfl rfl rfl (Nat.le_of_ble_eq_true rfl) dL_law_327 (fun x S2 H locs hpA hI => ?_)
        refine rr_aload_n hC dL_law_330 hl rfl 2 rfl ?_
        refine rr_aload_n hC dL_law_331 hl rfl 0 rfl ?_
        refine rr_iload_n hC dL_law_332 hl rfl 3 rfl ?_
        refine rr_iconst (v := ((1 : Nat) : Int)) hC dL_law_333 rfl ?_
        refine rr_iadd hC dL_law_334 ?_
        refine rr_top (y := ((i + 1 : Nat) : Int)) (by omega) ?_
        refine rr_sld hC hX hbl hbA hI.2.2.2 hL (by omega) dL_law_335 ?_
        refine rr_aload_n hC dL_law_336 hl rfl 0 rfl ?_
        refine rr_iload_n hC dL_law_337 hl rfl 3 rfl ?_
        refine rr_iconst (v := ((2 : Nat) : Int)) hC dL_law_338 rfl ?_
        refine rr_iadd hC dL_law_339 ?_
        refine rr_top (y := ((i + 2 : Nat) : Int)) (by omega) ?_
        refine rr_sld hC hX hbl hbA hI.2.2.2 hL (by omega) dL_law_340 ?_
        refine rL_call (na := 2) hC (wB_ hB rB cI) hI.symm hl (cB_spare l D hB rB cZ cI T ((xs (i + 1)).toInt) ((xs (i + 2)).toInt) (iI_bd _) (iI_bd _) hR.2.1) gL_B_spare (by decide +kernel) ⟨by decide, by decide⟩ ⟨by decide, by decide⟩ rfl rfl rfl rfl (Nat.le_of_ble_eq_true rfl) dL_law_341 (fun y T2 H locs hpB hI => ?_)
        have hop := op_spr hR hpA hpB
        refine lv_icmp_eq (tgt := 349) hC.1.1 hC.1.2.1 dL_law_344 (by decide) (fun _ => ?_) (fun c9 => absurd hop.1 c9)
        refine rr_iinc (v := ((i + 4 : Nat) : Int)) (lv' := [(3, .int (iI ((i + 4 : Nat) : Int))), (0, .ref b), (1, .ref hA), (2, .ref hB)]) hC dL_law_349 hl 3 rfl (by omega) (by decide) rfl (fun ls hl => ?_)
        refine rr_goto hC 28 dL_law_352 (by decide) ?_
        exact ih (i + 4) (by omega) (by omega) (by omega) S2 T2 H locs hop.2 hI.symm ls (lv_sub hl [1, 2, 3, 0] rfl)
      · refine lv_tableOut (tgt := 349) hC.1.1 hC.1.2.1 dL_law_42 (Or.inr (by rw [nI_toInt (by omega)]; omega)) (by decide) ?_
        refine rr_iinc (v := ((i + 4 : Nat) : Int)) (lv' := [(3, .int (iI ((i + 4 : Nat) : Int))), (0, .ref b), (1, .ref hA), (2, .ref hB)]) hC dL_law_349 hl 3 rfl (by omega) (by decide) rfl (fun ls hl => ?_)
        refine rr_goto hC 28 dL_law_352 (by decide) ?_
        exact ih (i + 4) (by omega) (by omega) (by omega) S T H locs hR hI ls (lv_sub hl [1, 2, 3, 0] rfl)
set_option maxRecDepth 100000 in
set_option maxHeartbeats 4000000 in
/-- the law, from its entry -/
theorem whole_start {p : Program} {e : Env} {s : State} {m : MethodId} {below : List Frame} {meth : Method} {c : Code} (l : Launch) {b L : Nat} {xs : Nat → Int32} (hL : L ≤ 2049) (C0 : lw_At p s m meth c b L xs) : W p l e room_1 s m #[Value.ref b] below meth c s.heap [] 0 0 (lw_Z below #[Value.ref b] s) (entryFrame m ([Value.ref b] : List Value).toArray 4) := by
  obtain ⟨hx, hb, hr, hml, hown, hts0, hX, hbl, hlocks, hgv⟩ := C0
  have hts : ∀ w ∈ tb_, w.before #[Value.ref b] s = true := fun w hw => hts0 w (List.mem_filter.mp hw).1
  have hA : ∀ q : Nat, s.heap.size ≤ q → (fun q : Nat => s.heap.size ≤ q) q := fun _ h => h
  have hbA : ¬ (fun q : Nat => s.heap.size ≤ q) b := Nat.not_le.mpr hbl
  obtain ⟨c0, iS0, hKn0⟩ := u_known (C := nA_) (T := fA_) (N := 14) (n := 14) hts iA_in (hts _ vA_)
  obtain ⟨c1, iS1, hKn1⟩ := u_known (C := nB_) (T := fB_) (N := 14) (n := 14) hts iB_in (hts _ vB_)
  obtain ⟨cZ, hZ⟩ := e_arr (fun C h => by cases h) (hts _ e_arrZ)
  obtain ⟨cI, hIc⟩ := e_arr (fun C h => by cases h) (hts _ e_arrI)
  obtain ⟨D, hKc⟩ : ∃ D : va_G, ∀ (k : Nat) (q : vw_C), ecl_[k]? = some q → u_Kn s q.1 q.2.1 q.2.2 (D.1 k) (D.2 k) := by
    refine ⟨(fun k => if k = 0 then c0 else c1, fun k => if k = 0 then iS0 else iS1), ?_⟩
    intro k q hq
    match k, hq with
    | 0, hq => cases hq; exact hKn0
    | 1, hq => cases hq; exact hKn1
    | k + 2, hq => simp [ecl_] at hq
  have hK : va_K D ecl_ [(cZ, .boolean), (cI, .int)] s := by
    refine ⟨hKc, fun k q hq => ?_⟩
    match k, hq with
    | 0, hq => cases hq; exact hZ
    | 1, hq => cases hq; exact hIc
    | k + 2, hq => simp at hq
  have hC : Cx_ p s m #[Value.ref b] c code 4 R_law D [(cZ, .boolean), (cI, .int)] (fun q : Nat => s.heap.size ≤ q) := ⟨⟨hx, hb, hml, hown, hts⟩, hK, hA⟩
  have hS : va_S (fun q : Nat => s.heap.size ≤ q) s.heap s.heap [] := va_S.rf
  have hP : va_P D ecl_ [] s.heap := fun k q h => by simp at h
  have hD : va_D (fun q : Nat => s.heap.size ≤ q) [] := ⟨fun i j p q h => by simp at h, fun k q h => by simp at h⟩
  have hl := lv_entry ([.ref b]) (n := 4) (Nat.le_of_ble_eq_true rfl)
  rw [lg_entry_eq]
  generalize (lg_sl ([.ref b]) ++ List.replicate (4 - (lg_sl ([.ref b])).length) Slot.unset).toArray = ls at hl ⊢
  have hl : lv_has ls 4 [(0, .ref b)] := hl
  have hcb : -2147483648 ≤ celv_ L xs ∧ celv_ L xs ≤ 2147483647 := by
    unfold celv_
    split
    · exact iI_bd _
    · omega
  refine va_new (ci := 0) (fs := [.int 0, .int 0, .null, .null, .null, .null, .null, .int 0, .int 0, .null, .null, .null, .null, .null]) (C := nA_) (T := fA_) (N := 14) hx hb hts iA_in tA_ tA_ok hown (hts _ qA_) (hts _ vA_) (hts _ eA_ini) hK hP hD hS hA rfl (by decide) (by decide) (by decide) dL_law_0 (fun oA H hP hD hS => ?_)
  refine rr_dup hC dL_law_3 ?_
  refine rr_aload_n hC dL_law_4 hl rfl 0 rfl ?_
  refine rr_iconst (v := ((0 : Nat) : Int)) hC dL_law_5 rfl ?_
  refine rr_calls (na := 2) hC hl (cL_cell l D cZ cI b L xs hL) gL_L_cell (by decide +kernel) ⟨by decide, by decide⟩ (fun a U g mk q => va_X.moved (Vm.Alike.refl U.vm) q) (fun U hU hW => by rw [hU]; exact (hX.kept (hS.2.1 b hbl hbA)).moved hW.alike) ⟨by decide, by decide⟩ rfl rfl (Nat.le_of_ble_eq_true rfl) dL_law_6 ?_
  have hI : In2_ D (fun q : Nat => s.heap.size ≤ q) s.heap H _ [(oA, blA_)] [] := In2_of ⟨hP, hD, hS⟩
  refine rL_ctor (na := 1) hC (fun r S => wA_ oA r cZ cI S) hI hl (cA_init l D oA cZ cI (celv_ L xs) hcb) gL_A_init eA_ini hL_A_init mA_init_i rfl (by decide +kernel) ⟨by decide, by decide⟩ ⟨by decide, by decide⟩ rfl rfl (Nat.le_of_ble_eq_true rfl) dL_law_9 (fun rA S H locs hiA hI => ?_)
  refine rr_astore_n (lv' := [(1, .ref oA), (0, .ref b)]) hC dL_law_12 hl rfl (by decide) rfl (fun ls hl => ?_)
  refine va_new (ci := 1) (fs := [.int 0, .null, .null, .null, .null, .null, .null, .null, .null, .null, .null, .null, .null, .null]) (C := nB_) (T := fB_) (N := 14) hx hb hts iB_in tB_ tB_ok hown (hts _ qB_) (hts _ vB_) (hts _ eB_ini) hK hI.1.1 hI.2.1.1 hI.2.2.2 hA rfl (by decide) (by decide) (by decide) dL_law_13 (fun oB H hP hD hS => ?_)
  refine rr_dup hC dL_law_16 ?_
  refine rr_aload_n hC dL_law_17 hl rfl 1 rfl ?_
  refine rr_iconst (v := ((0 : Nat) : Int)) hC dL_law_18 rfl ?_
  refine rr_calls (na := 2) hC hl (cL_cell l D cZ cI b L xs hL) gL_L_cell (by decide +kernel) ⟨by decide, by decide⟩ (fun a U g mk q => va_X.moved (Vm.Alike.refl U.vm) q) (fun U hU hW => by rw [hU]; exact (hX.kept (hS.2.1 b hbl hbA)).moved hW.alike) ⟨by decide, by decide⟩ rfl rfl (Nat.le_of_ble_eq_true rfl) dL_law_19 ?_
  have hI : In2_ D (fun q : Nat => s.heap.size ≤ q) s.heap H _ (wA_ oA rA cZ cI S) [(oB, blB_)] := In2_of ⟨hP, hD, hS⟩
  refine rL_ctor (na := 1) hC (fun r S => wB_ oB r cI S) hI.symm hl (cB_init l D oB cZ cI (celv_ L xs) hcb) gL_B_init eB_ini hL_B_init mB_init_i rfl (by decide +kernel) ⟨by decide, by decide⟩ ⟨by decide, by decide⟩ rfl rfl (Nat.le_of_ble_eq_true rfl) dL_law_22 (fun rB T H locs hiB hI => ?_)
  refine rr_astore_n (lv' := [(2, .ref oB), (1, .ref oA), (0, .ref b)]) hC dL_law_25 hl rfl (by decide) rfl (fun ls hl => ?_)
  refine rr_iconst (v := ((1 : Nat) : Int)) hC dL_law_26 rfl ?_
  refine rr_istore_n (lv' := [(3, .int (iI ((1 : Nat) : Int))), (2, .ref oB), (1, .ref oA), (0, .ref b)]) hC dL_law_27 hl rfl (by decide) rfl (fun ls hl => ?_)
  refine W.widen (k := 25) (n := 548) (by decide) (by decide) ?_
  exact law_loop hL hr hlocks hC hX hbl oA oB rA rB (L + 5) 1 (by omega) (by omega) (by omega) S T H locs (Rel_ini hiA hiB) hI.symm ls (lv_sub hl [3, 2, 1, 0] rfl)
end
section
/-! the claim out of the walk (the skeleton's end, printed for this claim) -/
set_option maxHeartbeats 4000000 in
theorem lw_walk (l : Launch) (b : Addr) (xs : List Int32) : MetFree l x (headSpec (Jvm.Cond.code x code maxLocals ret :: tables_1) room_1) (lw_P b xs) (fun _ _ _ _ _ => True) lw_Q := by
  refine MetFree.of_bodyS (code := code) (maxLocals := maxLocals) (ret := ret) (by decide) ?_ ?_
  · intro args s m h hn
    obtain ⟨meth, c, h1, h2, h3, h4, h5, h6, -, -⟩ := Cond.code_spec hn (atoms_spec (ws := Jvm.Cond.code x code maxLocals ret :: tables_1) h _ List.mem_cons_self)
    exact ⟨meth, c, h1, h2, h3, h4, h5, h6⟩
  · intro p e s m args below meth c s₁ B hml0 hP _
    obtain ⟨rfl, hx, hbd, hgv⟩ := hP
    obtain ⟨scr, harrAt, hlist, hof, hsmall⟩ := hx
    obtain ⟨hcb, hkn, -, -⟩ := State.arrayAt?_spec harrAt
    have hown : s.vm.findClass R_law = some m.cls := findClass_of_methodNamed B.named
    have hts0 : ∀ c ∈ (Jvm.Cond.code x code maxLocals ret :: tables_1), c.before #[Value.ref b] s = true := atoms_spec (ws := Jvm.Cond.code x code maxLocals ret :: tables_1) B.pre
    have hts : ∀ w ∈ lw_tbl, w.before #[Value.ref b] s = true := k2_hts_sels lw_privs (fun w hw => hts0 w (List.mem_cons_of_mem _ hw)) lw_privs_ok
    have hml : c.maxLocals = 4 := B.maxLocals_eq (hts0 _ List.mem_cons_self)
    have X₀ : Stand p l e room_1 s m #[Value.ref b] below meth c s₁ [] 0 0 := Stand.of_body B
    have hh0 : s₁.heap = s.heap := by rw [B.state]; rfl
    have hsz : scr.slots.size = xs.length := by rw [← Array.length_toList, hlist, List.length_map]
    have hval : ∀ j : Nat, j < xs.length → scr.slots[j]? = some (.int (xs.getD j 0)) := fun j hj => by
      rw [← Array.getElem?_toList, hlist]
      simp [hj]
    have hbl : b < s.heap.size := (Array.getElem?_eq_some_iff.mp hcb).1
    have hX : va_X b xs.length (fun j => xs.getD j 0) s s.heap := ⟨scr, hcb, hof, hkn, hsz, hval⟩
    have K : W p l e room_1 s m #[Value.ref b] below meth c s₁.heap [] 0 0 (lw_Z below #[Value.ref b] s) (entryFrame m ([Value.ref b] : List Value).toArray 4) := by
      rw [hh0]
      exact whole_start l hbd ⟨B.exec, B.bytes, B.returns, hml, hown, hts, hX, hbl, B.notSynchronized, hgv⟩
    obtain ⟨t, a1, o, b1, b2, b3⟩ := K s₁ rfl X₀
    exact ⟨t, o, a1, b1, b2, b3⟩
theorem lw_pre_spec {args : Array Value} {s : State} (h : (Jvm.Cond.and given_1 narrow_1).before args s = true) (hr : rest_1_c.before args s = true) : ∃ (b : Addr) (xs : List Int32), lw_P b xs args s := by
  have hs := flat_of_before _ h
  have hq := flat_of_before _ hr
  have hc : (Cond.count 1).before args s = true := hs _ (by decide +kernel)
  have harr : (Cond.arrayOf (.arg 0) .int).before args s = true := hs _ (by decide +kernel)
  have hle : (Cond.le (.length (.arg 0)) (.int 2049)).before args s = true := hs _ (by decide +kernel)
  have hlen : (Cond.isInt (.length (.arg 0))).before args s = true := hq _ (by decide +kernel)
  have hall : (Cond.all (.arg 0) (.isInt (.elem (.arg 0) (.index 0)))).before args s = true := hq _ (by decide +kernel)
  obtain ⟨b, xs, hb, hx⟩ := State.ints_of_pre rfl harr hlen hall
  have hsm : xs.length < 2 ^ 31 := hx.choose_spec.2.2.2
  have hev : (Term.length (.arg 0)).eval args s none [] s = some (.int xs.length.toInt32) := hx.length_eval hb
  have hv := Cond.le_ints hev (show (Term.int 2049).eval args s none [] s = some (.int 2049) from rfl)
  have hd : xs.length.toInt32 ≤ 2049 := by
    simpa [Cond.before, Cond.holds, hv] using hle
  have hN : xs.length ≤ 2049 := (Int32.ofNat_le_ofNat hsm (by decide)).mp (show Int32.ofNat xs.length ≤ Int32.ofNat 2049 from hd)
  exact ⟨b, xs, Cond.one_arg hc (show args[0]? = some (.ref b) from hb), hx, hN, h⟩
theorem lw_comes (l : Launch) : Comes l x (Jvm.Cond.code x code maxLocals ret :: tables_1) room_1 (fun tb e args s => Calls_1 tb e args s ∧ rest_1 tb e args s ∧ Pre_1 tb e args s)
    (fun _ _ args s o t => lw_Q args s o t) := by
  intro p e ha hc hk s m args below hf hfit hheap happ hpre
  obtain ⟨b, xs, hP⟩ := lw_pre_spec hpre.2.2 hpre.2.1
  obtain ⟨k, o, h1, h2, h3, hQ⟩ := lw_walk l b xs p e ha hc hk s m args below hf ((Spec.applies_iff_loose hf).mp happ).1 hP trivial
  exact ⟨k, o, h1, h2, h3, hQ⟩
theorem lw_frame {s t : State} {o : Outcome} {args : Array Value} (h : Framed s o t [] 25 548) :
    Framed s o t (fieldLocs frame_1_writes args s ++ arrayLocs frame_1_arrays args s ++ staticLocs frame_1_statics s) 25 548 := h
theorem lw_limb (L : Cond) (hL : ∀ (args : Array Value) (s t : State), L.after args s (.returned (some (.int 1))) t = true) :
    ArmFor flags0 classFile x code maxLocals ret World_1 tables_1 room_1 Calls_1 rest_1 Pre_1
      (fun tb e a s o t => postC L tb e a s o t ∧ Framed s o t (fieldLocs frame_1_writes a s ++ arrayLocs frame_1_arrays a s ++ staticLocs frame_1_statics s) 25 548) := by
  intro l _ _ _ p e ha hc hk s m args below hf hfit hheap happ hpre
  obtain ⟨k, o, h1, h2, h3, rfl, hF⟩ := lw_comes l p e ha hc hk s m args below hf hfit hheap happ hpre
  exact ⟨k, _, h1, h2, h3, hL args s _, lw_frame hF⟩
theorem i_vc : Claimed_1_1 ∧ Claimed_1_2 := ⟨lw_limb limb_1_1 (fun args s t => by simp [limb_1_1, Cond.after, Cond.holds, Cond.value]), lw_limb limb_1_2 (fun args s t => Cond.after_iff.mpr (by
  first | (rw [show limb_1_2 = Cond.eq .result (.int 1) from rfl, Cond.eq_ints (x := 1) (y := 1) rfl rfl]; simp; done) | (simp [limb_1_2, Cond.value, Term.eval]; done)))⟩
end
