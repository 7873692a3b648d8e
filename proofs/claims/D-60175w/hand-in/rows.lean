section
/-! the plain law, 1: thresholds, adapting, digits, how many digits -/
def sp_thr (k b : Nat) : Nat := if k ≤ b then 1 else if b + 26 ≤ k then 26 else k - b
theorem sp_thr_pos (k b : Nat) : 1 ≤ sp_thr k b := by
  unfold sp_thr
  split
  · omega
  · split <;> omega
theorem sp_thr_le (k b : Nat) : sp_thr k b ≤ 26 := by
  unfold sp_thr
  split
  · omega
  · split <;> omega
theorem sp_thr_1 {k b : Nat} (h : k ≤ b) : sp_thr k b = 1 := by
  unfold sp_thr
  rw [if_pos h]
theorem sp_thr_26 {k b : Nat} (h : b + 26 ≤ k) : sp_thr k b = 26 := by
  unfold sp_thr
  rw [if_neg (by omega), if_pos h]
theorem sp_thr_mid {k b : Nat} (h1 : b < k) (h2 : k < b + 26) : sp_thr k b = k - b := by
  unfold sp_thr
  rw [if_neg (by omega), if_neg (by omega)]
def sp_ad (d k : Nat) : Nat := if h : 455 < d then sp_ad (d / 35) (k + 36) else k + 36 * d / (d + 38)
termination_by d
decreasing_by omega
theorem sp_ad_hi {d k : Nat} (h : 455 < d) : sp_ad d k = sp_ad (d / 35) (k + 36) := by
  rw [sp_ad, dif_pos h]
theorem sp_ad_lo {d k : Nat} (h : d ≤ 455) : sp_ad d k = k + 36 * d / (d + 38) := by
  rw [sp_ad, dif_neg (by omega)]
theorem sp_ad_le : ∀ (n d k : Nat), d ≤ n → sp_ad d k ≤ k + 36 + d / 12 := by
  intro n
  induction n with
  | zero =>
    intro d k h
    rw [sp_ad_lo (by omega)]
    have h0 : d = 0 := by omega
    subst h0
    simp
  | succ n ih =>
    intro d k h
    by_cases hd : 455 < d
    · rw [sp_ad_hi hd]
      have := ih (d / 35) (k + 36) (by omega)
      omega
    · rw [sp_ad_lo (by omega)]
      have h1 : 36 * d / (d + 38) ≤ 36 := by
        rw [Nat.div_le_iff_le_mul_add_pred (by omega)]
        omega
      omega
def sp_adapt (much n : Nat) (first : Bool) : Nat := sp_ad ((if first then much / 700 else much / 2) + (if first then much / 700 else much / 2) / n) 0
theorem sp_adapt_t (much n : Nat) : sp_adapt much n true = sp_ad (much / 700 + much / 700 / n) 0 := rfl
theorem sp_adapt_f (much n : Nat) : sp_adapt much n false = sp_ad (much / 2 + much / 2 / n) 0 := rfl
theorem sp_adapt_le (much n : Nat) (first : Bool) : sp_adapt much n first ≤ 36 + much / 12 := by
  cases first
  · rw [sp_adapt_f]
    have h1 := sp_ad_le _ (much / 2 + much / 2 / n) 0 (Nat.le_refl _)
    have h2 := Nat.div_le_self (much / 2) n
    omega
  · rw [sp_adapt_t]
    have h1 := sp_ad_le _ (much / 700 + much / 700 / n) 0 (Nat.le_refl _)
    have h2 := Nat.div_le_self (much / 700) n
    omega
def sp_let (d : Nat) : Nat := if d < 26 then 97 + d else 22 + d
theorem sp_let_lo {d : Nat} (h : d < 26) : sp_let d = 97 + d := by unfold sp_let; rw [if_pos h]
theorem sp_let_hi {d : Nat} (h : 26 ≤ d) : sp_let d = 22 + d := by unfold sp_let; rw [if_neg (by omega)]
theorem sp_let_le {d : Nat} (h : d < 36) : sp_let d ≤ 122 := by unfold sp_let; split <;> omega
def sp_digs (q k b : Nat) : List Nat := if h : q < sp_thr k b then [sp_let q] else sp_let (sp_thr k b + (q - sp_thr k b) % (36 - sp_thr k b)) :: sp_digs ((q - sp_thr k b) / (36 - sp_thr k b)) (k + 36) b
termination_by q
decreasing_by
  have h1 := sp_thr_pos k b
  have h2 := Nat.div_le_self (q - sp_thr k b) (36 - sp_thr k b)
  omega
theorem sp_digs_end {q k b : Nat} (h : q < sp_thr k b) : sp_digs q k b = [sp_let q] := by
  rw [sp_digs, dif_pos h]
theorem sp_digs_go {q k b : Nat} (h : sp_thr k b ≤ q) : sp_digs q k b = sp_let (sp_thr k b + (q - sp_thr k b) % (36 - sp_thr k b)) :: sp_digs ((q - sp_thr k b) / (36 - sp_thr k b)) (k + 36) b := by
  rw [sp_digs, dif_neg (by omega)]
theorem sp_digs_pos (q k b : Nat) : 1 ≤ (sp_digs q k b).length := by
  by_cases h : q < sp_thr k b
  · rw [sp_digs_end h]; simp
  · rw [sp_digs_go (by omega)]; simp
theorem sp_quot {q t : Nat} (h1 : 1 ≤ t) (h2 : t ≤ q) : (q - t) / (36 - t) < q := by
  have := Nat.div_le_self (q - t) (36 - t)
  omega
theorem sp_digs_ch : ∀ (n q k b : Nat), q ≤ n → ∀ d ∈ sp_digs q k b, d ≤ 122 := by
  intro n
  induction n with
  | zero =>
    intro q k b h d hd
    have h1 := sp_thr_pos k b
    rw [sp_digs_end (by omega)] at hd
    rw [List.mem_singleton.mp hd]
    exact sp_let_le (by omega)
  | succ n ih =>
    intro q k b h d hd
    have h1 := sp_thr_pos k b
    have h2 := sp_thr_le k b
    by_cases hq : q < sp_thr k b
    · rw [sp_digs_end hq] at hd
      rw [List.mem_singleton.mp hd]
      exact sp_let_le (by omega)
    · rw [sp_digs_go (by omega)] at hd
      have h3 := sp_quot h1 (show sp_thr k b ≤ q by omega)
      rcases List.mem_cons.mp hd with rfl | hd
      · refine sp_let_le ?_
        have := Nat.mod_lt (q - sp_thr k b) (show 36 - sp_thr k b > 0 by omega)
        omega
      · exact ih _ _ _ (by omega) d hd
/-- one digit more, any thresholds -/
theorem sp_gen {M j : Nat} (hM : 1 ≤ M) (ih : ∀ q k b, q < M → (sp_digs q k b).length ≤ j) : ∀ q k b, q < 26 + M * 10 → (sp_digs q k b).length ≤ j + 1 := by
  intro q k b hq
  have h1 := sp_thr_pos k b
  have h2 := sp_thr_le k b
  by_cases h : q < sp_thr k b
  · rw [sp_digs_end h]; simp
  · rw [sp_digs_go (by omega)]
    have h3 : (q - sp_thr k b) / (36 - sp_thr k b) < M := by
      rw [Nat.div_lt_iff_lt_mul (by omega)]
      have e : 36 - sp_thr k b = 10 + (26 - sp_thr k b) := by omega
      rw [e, Nat.mul_add]
      have := Nat.le_mul_of_pos_left (26 - sp_thr k b) (show 0 < M by omega)
      omega
    have := ih _ (k + 36) b h3
    simp only [List.length_cons]
    omega
theorem sp_g1 : ∀ q k b, q < 1 → (sp_digs q k b).length ≤ 1 := by
  intro q k b h
  have h1 := sp_thr_pos k b
  rw [sp_digs_end (by omega)]
  simp
theorem sp_g2 : ∀ q k b, q < 36 → (sp_digs q k b).length ≤ 2 := fun q k b h => sp_gen (by omega) sp_g1 q k b (by omega)
theorem sp_g3 : ∀ q k b, q < 386 → (sp_digs q k b).length ≤ 3 := fun q k b h => sp_gen (by omega) sp_g2 q k b (by omega)
theorem sp_g4 : ∀ q k b, q < 3886 → (sp_digs q k b).length ≤ 4 := fun q k b h => sp_gen (by omega) sp_g3 q k b (by omega)
theorem sp_g5 : ∀ q k b, q < 38886 → (sp_digs q k b).length ≤ 5 := fun q k b h => sp_gen (by omega) sp_g4 q k b (by omega)
/-- one digit more, the threshold is 26 from here on -/
theorem sp_hi {M j : Nat} (ih : ∀ q k b, b + 26 ≤ k → q < M → (sp_digs q k b).length ≤ j) : ∀ q k b, b + 26 ≤ k → q < 26 + M * 10 → (sp_digs q k b).length ≤ j + 1 := by
  intro q k b hk hq
  have h1 := sp_thr_26 hk
  by_cases h : q < sp_thr k b
  · rw [sp_digs_end h]; simp
  · rw [sp_digs_go (by omega), h1]
    rw [h1] at h
    have h3 : (q - 26) / (36 - 26) < M := by omega
    have := ih _ (k + 36) b (by omega) h3
    simp only [List.length_cons]
    omega
theorem sp_h1 : ∀ q k b, b + 26 ≤ k → q < 26 → (sp_digs q k b).length ≤ 1 := fun q k b hk h => sp_hi (M := 0) (j := 0) (fun q k b _ h => by omega) q k b hk (by omega)
theorem sp_h2 : ∀ q k b, b + 26 ≤ k → q < 286 → (sp_digs q k b).length ≤ 2 := fun q k b hk h => sp_hi sp_h1 q k b hk (by omega)
theorem sp_h3 : ∀ q k b, b + 26 ≤ k → q < 2886 → (sp_digs q k b).length ≤ 3 := fun q k b hk h => sp_hi sp_h2 q k b hk (by omega)
theorem sp_h4 : ∀ q k b, b + 26 ≤ k → q < 28886 → (sp_digs q k b).length ≤ 4 := fun q k b hk h => sp_hi sp_h3 q k b hk (by omega)
theorem sp_h5 : ∀ q k b, b + 26 ≤ k → q < 288886 → (sp_digs q k b).length ≤ 5 := fun q k b hk h => sp_hi sp_h4 q k b hk (by omega)
theorem sp_h6 : ∀ q k b, b + 26 ≤ k → q < 2888886 → (sp_digs q k b).length ≤ 6 := fun q k b hk h => sp_hi sp_h5 q k b hk (by omega)
/-- the threshold is no longer 1 -/
theorem sp_mid {M j : Nat} (hM : 1 ≤ M) (ih : ∀ q k b, b + 26 ≤ k → q < M → (sp_digs q k b).length ≤ j) : ∀ q k b, b < k → q < 26 + M * 10 → (sp_digs q k b).length ≤ j + 1 := by
  intro q k b hk hq
  have h1 := sp_thr_pos k b
  have h2 := sp_thr_le k b
  by_cases h : q < sp_thr k b
  · rw [sp_digs_end h]; simp
  · rw [sp_digs_go (by omega)]
    have h3 : (q - sp_thr k b) / (36 - sp_thr k b) < M := by
      rw [Nat.div_lt_iff_lt_mul (by omega)]
      have e : 36 - sp_thr k b = 10 + (26 - sp_thr k b) := by omega
      rw [e, Nat.mul_add]
      have := Nat.le_mul_of_pos_left (26 - sp_thr k b) (show 0 < M by omega)
      omega
    have := ih _ (k + 36) b (by omega) h3
    simp only [List.length_cons]
    omega
/-- the threshold is 1 -/
theorem sp_one {M j : Nat} {k b : Nat} (hk : k ≤ b) (ih : ∀ q, q < M → (sp_digs q (k + 36) b).length ≤ j) : ∀ q, q < 1 + M * 35 → (sp_digs q k b).length ≤ j + 1 := by
  intro q hq
  have h1 := sp_thr_1 hk
  by_cases h : q < sp_thr k b
  · rw [sp_digs_end h]; simp
  · rw [sp_digs_go (by omega), h1]
    rw [h1] at h
    have h3 : (q - 1) / (36 - 1) < M := by omega
    have := ih _ h3
    simp only [List.length_cons]
    omega
theorem sp_len6 (q b : Nat) (h : q < 2888886) : (sp_digs q 36 b).length ≤ 6 := by
  by_cases h1 : b < 36
  · exact sp_mid (by omega) sp_h5 q 36 b h1 (by omega)
  · by_cases h2 : b < 72
    · exact sp_one (M := 82540) (by omega) (fun q hq => sp_mid (by omega) sp_h4 q (36 + 36) b (by omega) (by omega)) q (by omega)
    · exact sp_one (M := 82540) (by omega) (fun q hq => sp_one (M := 2359) (by omega) (fun q hq => sp_g4 q _ b (by omega)) q (by omega)) q (by omega)
theorem sp_len7 (q b : Nat) (h : q < 28888886) : (sp_digs q 36 b).length ≤ 7 := by
  by_cases h1 : b < 36
  · exact sp_mid (by omega) sp_h6 q 36 b h1 (by omega)
  · by_cases h2 : b < 72
    · exact sp_one (M := 825397) (by omega) (fun q hq => sp_mid (by omega) sp_h5 q (36 + 36) b (by omega) (by omega)) q (by omega)
    · exact sp_one (M := 825397) (by omega) (fun q hq => sp_one (M := 23583) (by omega) (fun q hq => sp_g5 q _ b (by omega)) q (by omega)) q (by omega)
theorem sp_len (q b : Nat) (h : q < 28888886) : 2888886 * (sp_digs q 36 b).length ≤ 2888886 * 6 + q := by
  by_cases h1 : q < 2888886
  · have := sp_len6 q b h1
    omega
  · have := sp_len7 q b h
    omega
end
section
/-! the plain law, 2: an array holds a list; the encoder -/
def sp_rep (f : Nat → Int32) (L : List Nat) : Prop := ∀ j, j < L.length → f j = nI (L.getD j 0)
theorem sp_gl {L M : List Nat} {j : Nat} (h : j < L.length) : (L ++ M).getD j 0 = L.getD j 0 := by
  rw [List.getD_eq_getElem?_getD, List.getD_eq_getElem?_getD, List.getElem?_append_left h]
theorem sp_gr (L M : List Nat) (j : Nat) : (L ++ M).getD (L.length + j) 0 = M.getD j 0 := by
  rw [List.getD_eq_getElem?_getD, List.getD_eq_getElem?_getD, List.getElem?_append_right (Nat.le_add_right _ _), Nat.add_sub_cancel_left]
theorem sp_g0 (L : List Nat) (x : Nat) : (L ++ [x]).getD L.length 0 = x := by
  have := sp_gr L [x] 0
  simpa using this
theorem sp_gm {L : List Nat} {j : Nat} (h : j < L.length) : L.getD j 0 ∈ L := by
  rw [List.getD_eq_getElem?_getD, List.getElem?_eq_getElem h]
  exact List.getElem_mem h
theorem sp_gt {L : List Nat} {j n : Nat} (h : j < n) : (L.take n).getD j 0 = L.getD j 0 := by
  rw [List.getD_eq_getElem?_getD, List.getD_eq_getElem?_getD, List.getElem?_take_of_lt h]
theorem sp_rep_nil (f : Nat → Int32) : sp_rep f [] := fun j h => absurd h (by simp)
theorem sp_rep_app {f : Nat → Int32} {L : List Nat} (h : sp_rep f L) (x : Nat) : sp_rep (upd f L.length (nI x)) (L ++ [x]) := by
  intro j hj
  simp only [List.length_append, List.length_singleton] at hj
  unfold upd
  by_cases e : j = L.length
  · subst e
    rw [if_pos rfl, sp_g0]
  · rw [if_neg e, h j (by omega), sp_gl (by omega)]
theorem sp_rep_take {f : Nat → Int32} {L : List Nat} (h : sp_rep f L) (n : Nat) : sp_rep f (L.take n) := by
  intro j hj
  have h1 := hj
  simp only [List.length_take] at h1
  rw [h j (by omega), sp_gt (by omega)]
def sp_least (f : Nat → Nat) (dn : Nat → Bool) : Nat → Option Nat
  | 0 => none
  | k + 1 => match sp_least f dn k with
    | none => if dn k = true then none else some k
    | some b => if dn k = true then some b else if f k < f b then some k else some b
def sp_cnt (dn : Nat → Bool) : Nat → Nat
  | 0 => 0
  | k + 1 => sp_cnt dn k + (if dn k = true then 1 else 0)
def sp_bas (f : Nat → Nat) : Nat → List Nat
  | 0 => []
  | k + 1 => if f k < 128 then sp_bas f k ++ [f k] else sp_bas f k
theorem sp_least_t {f : Nat → Nat} {dn : Nat → Bool} {k : Nat} (h : dn k = true) : sp_least f dn (k + 1) = sp_least f dn k := by
  rw [sp_least]
  cases e : sp_least f dn k <;> simp [h]
theorem sp_least_n {f : Nat → Nat} {dn : Nat → Bool} {k : Nat} (e : sp_least f dn k = none) (h : dn k = false) : sp_least f dn (k + 1) = some k := by
  rw [sp_least, e]
  simp [h]
theorem sp_least_l {f : Nat → Nat} {dn : Nat → Bool} {k b : Nat} (e : sp_least f dn k = some b) (h : dn k = false) (h2 : f k < f b) : sp_least f dn (k + 1) = some k := by
  rw [sp_least, e]
  simp [h, h2]
theorem sp_least_g {f : Nat → Nat} {dn : Nat → Bool} {k b : Nat} (e : sp_least f dn k = some b) (h : dn k = false) (h2 : f b ≤ f k) : sp_least f dn (k + 1) = some b := by
  rw [sp_least, e]
  simp only [h]
  rw [if_neg (by simp), if_neg (by omega)]
theorem sp_least_none {f : Nat → Nat} {dn : Nat → Bool} : ∀ n, sp_least f dn n = none → ∀ j, j < n → dn j = true := by
  intro n
  induction n with
  | zero => intro _ j h; omega
  | succ n ih =>
    intro h j hj
    cases e : sp_least f dn n with
    | none =>
      cases hd : dn n with
      | true =>
        by_cases hjn : j = n
        · subst hjn; exact hd
        · exact ih e j (by omega)
      | false => rw [sp_least_n e hd] at h; cases h
    | some b =>
      cases hd : dn n with
      | true => rw [sp_least_t hd, e] at h; cases h
      | false =>
        by_cases h2 : f n < f b
        · rw [sp_least_l e hd h2] at h; cases h
        · rw [sp_least_g e hd (by omega)] at h; cases h
theorem sp_least_some {f : Nat → Nat} {dn : Nat → Bool} : ∀ n k, sp_least f dn n = some k → k < n ∧ dn k = false ∧ ∀ j, j < n → dn j = false → f k < f j ∨ (f k = f j ∧ k ≤ j) := by
  intro n
  induction n with
  | zero => intro k h; rw [sp_least] at h; cases h
  | succ n ih =>
    intro k h
    cases hd : dn n with
    | true =>
      rw [sp_least_t hd] at h
      obtain ⟨h1, h2, h3⟩ := ih k h
      refine ⟨by omega, h2, fun j hj hdj => ?_⟩
      by_cases hjn : j = n
      · subst hjn; rw [hd] at hdj; cases hdj
      · exact h3 j (by omega) hdj
    | false =>
      cases e : sp_least f dn n with
      | none =>
        rw [sp_least_n e hd] at h
        cases h
        refine ⟨by omega, hd, fun j hj hdj => ?_⟩
        by_cases hjn : j = n
        · subst hjn; exact Or.inr ⟨rfl, Nat.le_refl _⟩
        · have := sp_least_none n e j (by omega)
          rw [this] at hdj; cases hdj
      | some b =>
        obtain ⟨h1, h2, h3⟩ := ih b e
        by_cases hl : f n < f b
        · rw [sp_least_l e hd hl] at h
          cases h
          refine ⟨by omega, hd, fun j hj hdj => ?_⟩
          by_cases hjn : j = n
          · subst hjn; exact Or.inr ⟨rfl, Nat.le_refl _⟩
          · have := h3 j (by omega) hdj
            omega
        · rw [sp_least_g e hd (by omega)] at h
          cases h
          refine ⟨by omega, h2, fun j hj hdj => ?_⟩
          by_cases hjn : j = n
          · subst hjn; omega
          · exact h3 j (by omega) hdj
theorem sp_cnt_t {dn : Nat → Bool} {k : Nat} (h : dn k = true) : sp_cnt dn (k + 1) = sp_cnt dn k + 1 := by
  rw [sp_cnt, if_pos h]
theorem sp_cnt_f {dn : Nat → Bool} {k : Nat} (h : dn k = false) : sp_cnt dn (k + 1) = sp_cnt dn k := by
  rw [sp_cnt, if_neg (by rw [h]; simp)]
  omega
theorem sp_cnt_true {dn : Nat → Bool} : ∀ n, (∀ j, j < n → dn j = true) → sp_cnt dn n = n := by
  intro n
  induction n with
  | zero => intro _; rfl
  | succ n ih =>
    intro h
    rw [sp_cnt_t (h n (by omega)), ih (fun j hj => h j (by omega))]
theorem sp_cnt_le (dn : Nat → Bool) : ∀ n, sp_cnt dn n ≤ n := by
  intro n
  induction n with
  | zero => exact Nat.le_refl _
  | succ n ih =>
    cases h : dn n with
    | true => rw [sp_cnt_t h]; omega
    | false => rw [sp_cnt_f h]; omega
theorem sp_cnt_mono (dn : Nat → Bool) : ∀ i j, i ≤ j → sp_cnt dn i ≤ sp_cnt dn j := by
  intro i j
  induction j with
  | zero => intro h; rw [show i = 0 by omega]; exact Nat.le_refl _
  | succ j ih =>
    intro h
    by_cases e : i = j + 1
    · subst e; exact Nat.le_refl _
    · have h1 := ih (by omega)
      cases h : dn j with
      | true => rw [sp_cnt_t h]; omega
      | false => rw [sp_cnt_f h]; omega
def sp_mark (dn : Nat → Bool) (k : Nat) : Nat → Bool := fun j => if j = k then true else dn j
theorem sp_mark_k (dn : Nat → Bool) (k : Nat) : sp_mark dn k k = true := by unfold sp_mark; rw [if_pos rfl]
theorem sp_mark_n (dn : Nat → Bool) {k j : Nat} (h : j ≠ k) : sp_mark dn k j = dn j := by unfold sp_mark; rw [if_neg h]
theorem sp_cnt_lo (dn : Nat → Bool) (k : Nat) : ∀ n, n ≤ k → sp_cnt (sp_mark dn k) n = sp_cnt dn n := by
  intro n
  induction n with
  | zero => intro _; rfl
  | succ n ih =>
    intro h
    have e := sp_mark_n dn (show n ≠ k by omega)
    cases hd : dn n with
    | true => rw [sp_cnt_t (e.trans hd), sp_cnt_t hd, ih (by omega)]
    | false => rw [sp_cnt_f (e.trans hd), sp_cnt_f hd, ih (by omega)]
theorem sp_cnt_hi (dn : Nat → Bool) {k : Nat} (hk : dn k = false) : ∀ n, k < n → sp_cnt (sp_mark dn k) n = sp_cnt dn n + 1 := by
  intro n
  induction n with
  | zero => intro h; omega
  | succ n ih =>
    intro h
    by_cases e : n = k
    · subst e
      rw [sp_cnt_t (sp_mark_k dn n), sp_cnt_f hk, sp_cnt_lo dn n n (Nat.le_refl _)]
    · have e2 := sp_mark_n dn e
      cases hd : dn n with
      | true => rw [sp_cnt_t (e2.trans hd), sp_cnt_t hd, ih (by omega)]
      | false => rw [sp_cnt_f (e2.trans hd), sp_cnt_f hd, ih (by omega)]
/-- the encoder's state: what is written, the last sign, the place behind it, the bias, the letters -/
abbrev sp_E : Type := (Nat → Bool) × Nat × Nat × Nat × List Nat
def sp_e1 (f : Nat → Nat) (n h : Nat) (first : Bool) (s : sp_E) : sp_E :=
  (sp_mark s.1 ((sp_least f s.1 n).getD 0), f ((sp_least f s.1 n).getD 0), sp_cnt s.1 ((sp_least f s.1 n).getD 0) + 1,
    sp_adapt ((f ((sp_least f s.1 n).getD 0) - s.2.1) * (h + 1) + sp_cnt s.1 ((sp_least f s.1 n).getD 0) - s.2.2.1) (h + 1) first,
    s.2.2.2.2 ++ sp_digs ((f ((sp_least f s.1 n).getD 0) - s.2.1) * (h + 1) + sp_cnt s.1 ((sp_least f s.1 n).getD 0) - s.2.2.1) 36 s.2.2.2.1)
def sp_en (f : Nat → Nat) (n b : Nat) (o : List Nat) : Nat → sp_E
  | 0 => (fun j => decide (f j < 128), 128, 0, 72, o)
  | t + 1 => sp_e1 f n (b + t) (t == 0) (sp_en f n b o t)
theorem sp_en_s {f : Nat → Nat} {n b t k : Nat} {o out : List Nat} {dn : Nat → Bool} {pt fr bias : Nat} (h : sp_en f n b o t = (dn, pt, fr, bias, out)) (hk : sp_least f dn n = some k) :
    sp_en f n b o (t + 1) = (sp_mark dn k, f k, sp_cnt dn k + 1, sp_adapt ((f k - pt) * (b + t + 1) + sp_cnt dn k - fr) (b + t + 1) (t == 0), out ++ sp_digs ((f k - pt) * (b + t + 1) + sp_cnt dn k - fr) 36 bias) := by
  rw [sp_en, h]
  unfold sp_e1
  simp only [hk, Option.getD_some]
def sp_Inv (f : Nat → Nat) (n b t : Nat) (o : List Nat) (dn : Nat → Bool) (pt fr bias : Nat) (out : List Nat) : Prop :=
  sp_cnt dn n = b + t ∧ (∀ j, j < n → dn j = false → pt ≤ f j) ∧ fr ≤ b + t ∧ (∀ j, j < n → dn j = false → f j = pt → fr ≤ sp_cnt dn j) ∧ (128 ≤ pt ∧ pt ≤ 1114111) ∧ bias < 268435456 ∧
  2888886 * out.length ≤ 2888886 * (o.length + 6 * t) + 24 * (pt - 128) + fr ∧ ∃ ds, out = o ++ ds ∧ ∀ d ∈ ds, d ≤ 122
theorem sp_inv0 (f : Nat → Nat) (n b : Nat) (o : List Nat) (hb : sp_cnt (fun j => decide (f j < 128)) n = b) : sp_Inv f n b 0 o (fun j => decide (f j < 128)) 128 0 72 o := by
  refine ⟨hb, fun j _ h => ?_, by omega, fun j _ _ _ => Nat.zero_le _, by omega, by omega, by omega, [], by simp, fun d h => by simp at h⟩
  have := of_decide_eq_false h
  omega
theorem sp_mulle {a b c : Nat} (h : b ≤ c) : a * b ≤ a * c := Nat.mul_le_mul_left a h
theorem sp_step {f : Nat → Nat} {n b t : Nat} {o out : List Nat} {dn : Nat → Bool} {pt fr bias : Nat} (hI : sp_Inv f n b t o dn pt fr bias out) (ht : b + t < n) (hn : n ≤ 24) (hf : ∀ j, j < n → f j ≤ 1114111) :
    ∃ k, sp_least f dn n = some k ∧ k < n ∧ dn k = false ∧ pt ≤ f k ∧ fr ≤ (f k - pt) * (b + t + 1) + sp_cnt dn k ∧ (f k - pt) * (b + t + 1) ≤ 26738688 ∧ sp_cnt dn k ≤ 24 ∧ fr ≤ 24 ∧ (f k - pt) * (b + t + 1) + sp_cnt dn k - fr < 28888886 ∧
      sp_Inv f n b (t + 1) o (sp_mark dn k) (f k) (sp_cnt dn k + 1) (sp_adapt ((f k - pt) * (b + t + 1) + sp_cnt dn k - fr) (b + t + 1) (t == 0)) (out ++ sp_digs ((f k - pt) * (b + t + 1) + sp_cnt dn k - fr) 36 bias) := by
  obtain ⟨h1, h2, h3, h4, h5, h6, h7, ds, h8, h9⟩ := hI
  cases e : sp_least f dn n with
  | none =>
    have := sp_cnt_true n (sp_least_none n e)
    omega
  | some k =>
    obtain ⟨k1, k2, k3⟩ := sp_least_some n k e
    have k4 := h2 k k1 k2
    have k5 := hf k k1
    have k6 := sp_cnt_le dn k
    have k7 : sp_cnt dn k + 1 ≤ b + t + 1 := by
      have := sp_cnt_mono dn k n (by omega)
      omega
    have m1 : (f k - pt) * (b + t + 1) ≤ (f k - pt) * 24 := sp_mulle (by omega)
    have k8 : fr ≤ (f k - pt) * (b + t + 1) + sp_cnt dn k := by
      by_cases hp : f k = pt
      · have := h4 k k1 k2 hp
        omega
      · have m2 : 1 * (b + t + 1) ≤ (f k - pt) * (b + t + 1) := Nat.mul_le_mul_right _ (by omega)
        omega
    have k9 : (f k - pt) * (b + t + 1) + sp_cnt dn k - fr < 28888886 := by omega
    have q1 := sp_len ((f k - pt) * (b + t + 1) + sp_cnt dn k - fr) bias k9
    have q2 := sp_adapt_le ((f k - pt) * (b + t + 1) + sp_cnt dn k - fr) (b + t + 1) (t == 0)
    refine ⟨k, rfl, k1, k2, k4, k8, by omega, by omega, by omega, k9, ?_, ?_, by omega, ?_, by omega, by omega, ?_, ?_⟩
    · rw [sp_cnt_hi dn k2 n k1]
      omega
    · intro j hj hd
      by_cases hjk : j = k
      · subst hjk; rw [sp_mark_k] at hd; cases hd
      · rw [sp_mark_n dn hjk] at hd
        have := k3 j hj hd
        omega
    · intro j hj hd hjp
      by_cases hjk : j = k
      · subst hjk; rw [sp_mark_k] at hd; cases hd
      · rw [sp_mark_n dn hjk] at hd
        have a1 := k3 j hj hd
        have a2 : k < j := by omega
        rw [sp_cnt_hi dn k2 j a2]
        have := sp_cnt_mono dn k j (by omega)
        omega
    · rw [List.length_append]
      omega
    · refine ⟨ds ++ sp_digs ((f k - pt) * (b + t + 1) + sp_cnt dn k - fr) 36 bias, by rw [h8, List.append_assoc], fun d hd => ?_⟩
      rcases List.mem_append.mp hd with hd | hd
      · exact h9 d hd
      · exact sp_digs_ch _ _ _ _ (Nat.le_refl _) d hd
/-- the letters fit -/
theorem sp_fit {f : Nat → Nat} {n b t : Nat} {o out : List Nat} {dn : Nat → Bool} {pt fr bias : Nat} (hI : sp_Inv f n b t o dn pt fr bias out) (hn : n ≤ 24) (ho : o.length ≤ b + 1) (hbt : b + t ≤ n) : out.length ≤ 154 := by
  obtain ⟨h1, h2, h3, h4, h5, h6, h7, h8⟩ := hI
  omega
theorem sp_bas_len (f : Nat → Nat) : ∀ n, (sp_bas f n).length = sp_cnt (fun j => decide (f j < 128)) n := by
  intro n
  induction n with
  | zero => rfl
  | succ n ih =>
    by_cases h : f n < 128
    · rw [sp_bas, if_pos h, sp_cnt_t (by simp [h]), List.length_append, ih]
      simp
    · rw [sp_bas, if_neg h, sp_cnt_f (by simp [h]), ih]
theorem sp_bas_ch (f : Nat → Nat) : ∀ n, ∀ d ∈ sp_bas f n, d < 128 := by
  intro n
  induction n with
  | zero => intro d h; simp [sp_bas] at h
  | succ n ih =>
    intro d h
    rw [sp_bas] at h
    split at h
    · rename_i hlt
      rcases List.mem_append.mp h with h | h
      · exact ih d h
      · rw [List.mem_singleton.mp h]; exact hlt
    · exact ih d h
def sp_o (f : Nat → Nat) (n : Nat) : List Nat := sp_bas f n ++ (if 0 < (sp_bas f n).length then [45] else [])
def sp_ef (L : List Nat) : Nat → Nat := fun j => L.getD j 0
def sp_enc (L : List Nat) : List Nat := (sp_en (sp_ef L) L.length (sp_bas (sp_ef L) L.length).length (sp_o (sp_ef L) L.length) (L.length - (sp_bas (sp_ef L) L.length).length)).2.2.2.2
theorem sp_o_len (f : Nat → Nat) (n : Nat) : (sp_o f n).length ≤ (sp_bas f n).length + 1 := by
  unfold sp_o
  rw [List.length_append]
  split <;> simp
def sp_ok (L : List Nat) : Prop := L.length ≤ 24 ∧ ∀ j, j < L.length → L.getD j 0 ≤ 1114111
theorem sp_en_inv {L : List Nat} (h : sp_ok L) : ∀ t, (sp_bas (sp_ef L) L.length).length + t ≤ L.length →
    ∃ dn pt fr bias out, sp_en (sp_ef L) L.length (sp_bas (sp_ef L) L.length).length (sp_o (sp_ef L) L.length) t = (dn, pt, fr, bias, out) ∧ sp_Inv (sp_ef L) L.length (sp_bas (sp_ef L) L.length).length t (sp_o (sp_ef L) L.length) dn pt fr bias out := by
  intro t
  induction t with
  | zero =>
    intro _
    exact ⟨_, _, _, _, _, rfl, sp_inv0 _ _ _ _ (sp_bas_len _ _).symm⟩
  | succ t ih =>
    intro ht
    obtain ⟨dn, pt, fr, bias, out, h1, h2⟩ := ih (by omega)
    obtain ⟨k, k1, -, -, -, -, -, -, -, -, k2⟩ := sp_step h2 (by omega) h.1 h.2
    exact ⟨_, _, _, _, _, sp_en_s h1 k1, k2⟩
def sp_ch (L : List Nat) : Prop := ∀ d ∈ L, d < 128
def sp_wf (L : List Nat) : Prop := ∀ j, j < L.length → L.getD j 0 ≤ 122 ∨ ∃ i, j < i ∧ i < L.length ∧ L.getD i 0 = 45
theorem sp_bas_le (L : List Nat) : (sp_bas (sp_ef L) L.length).length ≤ L.length := by
  rw [sp_bas_len]
  exact sp_cnt_le _ _
theorem sp_enc_end {L : List Nat} (h : sp_ok L) : (sp_enc L).length ≤ 154 ∧ ∃ ds, sp_enc L = sp_o (sp_ef L) L.length ++ ds ∧ ∀ d ∈ ds, d ≤ 122 := by
  have hb := sp_bas_le L
  obtain ⟨dn, pt, fr, bias, out, h1, h2⟩ := sp_en_inv h (L.length - (sp_bas (sp_ef L) L.length).length) (by omega)
  have e : sp_enc L = out := by unfold sp_enc; rw [h1]
  rw [e]
  exact ⟨sp_fit h2 h.1 (sp_o_len _ _) (by omega), h2.2.2.2.2.2.2.2⟩
theorem sp_enc_ch {L : List Nat} (h : sp_ok L) : sp_ch (sp_enc L) := by
  obtain ⟨-, ds, e, hd⟩ := sp_enc_end h
  intro d hm
  rw [e] at hm
  rcases List.mem_append.mp hm with hm | hm
  · unfold sp_o at hm
    rcases List.mem_append.mp hm with hm | hm
    · exact sp_bas_ch _ _ d hm
    · split at hm
      · rw [List.mem_singleton.mp hm]; omega
      · simp at hm
  · have := hd d hm
    omega
theorem sp_enc_wf {L : List Nat} (h : sp_ok L) : sp_wf ((sp_enc L).take 64) := by
  obtain ⟨-, ds, e, hd⟩ := sp_enc_end h
  have hb := sp_bas_le L
  have hL := h.1
  intro j hj
  have hj1 := hj
  simp only [List.length_take] at hj1
  rw [sp_gt (by omega)]
  rw [e] at hj1 ⊢
  by_cases hb0 : 0 < (sp_bas (sp_ef L) L.length).length
  · have eo : sp_o (sp_ef L) L.length = sp_bas (sp_ef L) L.length ++ [45] := by unfold sp_o; rw [if_pos hb0]
    rw [eo] at hj1 ⊢
    have hlen : (sp_bas (sp_ef L) L.length ++ [45]).length = (sp_bas (sp_ef L) L.length).length + 1 := by simp
    by_cases hc : j < (sp_bas (sp_ef L) L.length).length
    · right
      refine ⟨(sp_bas (sp_ef L) L.length).length, hc, ?_, ?_⟩
      · rw [List.length_take, List.length_append, hlen]
        omega
      · rw [sp_gt (by omega), sp_gl (by omega), sp_g0]
    · left
      by_cases hc2 : j = (sp_bas (sp_ef L) L.length).length
      · rw [hc2, sp_gl (by omega), sp_g0]
        omega
      · rw [List.length_append, hlen] at hj1
        have e2 : j = (sp_bas (sp_ef L) L.length ++ [45]).length + (j - (sp_bas (sp_ef L) L.length ++ [45]).length) := by omega
        rw [e2, sp_gr]
        exact hd _ (sp_gm (by omega))
  · left
    have eo : sp_o (sp_ef L) L.length = [] := by
      unfold sp_o
      rw [if_neg hb0, List.append_nil]
      exact List.length_eq_zero_iff.mp (by omega)
    rw [eo, List.nil_append] at hj1 ⊢
    exact hd _ (sp_gm (by omega))
theorem sp_wf_app {L : List Nat} (h : sp_wf L) {x : Nat} (hx : x ≤ 122) : sp_wf (L ++ [x]) := by
  intro j hj
  rw [List.length_append, List.length_singleton] at hj
  by_cases e : j = L.length
  · subst e
    left
    rw [sp_g0]
    exact hx
  · rw [sp_gl (by omega)]
    rcases h j (by omega) with q | ⟨i, i1, i2, i3⟩
    · exact Or.inl q
    · refine Or.inr ⟨i, i1, by rw [List.length_append]; omega, ?_⟩
      rw [sp_gl i2]
      exact i3
theorem sp_wf_nil : sp_wf [] := fun j h => absurd h (by simp)
theorem sp_ch_nil : sp_ch [] := fun d h => absurd h (by simp)
theorem sp_ch_app {L : List Nat} (h : sp_ch L) {x : Nat} (hx : x < 128) : sp_ch (L ++ [x]) := by
  intro d hd
  rcases List.mem_append.mp hd with q | q
  · exact h d q
  · rw [List.mem_singleton.mp q]; exact hx
theorem sp_ch_at {L : List Nat} (h : sp_ch L) {j : Nat} (hj : j < L.length) : L.getD j 0 < 128 := h _ (sp_gm hj)
theorem sp_ch_take {L : List Nat} (h : sp_ch L) (n : Nat) : sp_ch (L.take n) := fun d hd => h d (List.mem_of_mem_take hd)
/-- the reference's scan finds the same sign -/
theorem sp_least_at {f : Nat → Nat} {dn : Nat → Bool} {n i p : Nat} (hi : i < n) (hp : f i = p) (hd : ∀ j, j < n → (dn j = true ↔ f j < p ∨ (f j = p ∧ j < i))) : sp_least f dn n = some i := by
  have h0 : dn i = false := by
    cases e : dn i with
    | false => rfl
    | true => have := (hd i hi).mp e; omega
  cases e : sp_least f dn n with
  | none => have := sp_least_none n e i hi; rw [this] at h0; cases h0
  | some k =>
    obtain ⟨k1, k2, k3⟩ := sp_least_some n k e
    have a1 := k3 i hi h0
    have a2 : ¬ (f k < p ∨ (f k = p ∧ k < i)) := fun q => by
      have := (hd k k1).mpr q
      rw [this] at k2; cases k2
    have : k = i := by omega
    rw [this]
end
section
/-! the plain law, 3: the decoder; a chain; a shifted array -/
def sp_dig (c : Nat) : Option Nat := if 97 ≤ c ∧ c ≤ 122 then some (c - 97) else if 48 ≤ c ∧ c ≤ 57 then some (c - 22) else none
theorem sp_dig_a {c : Nat} (h1 : 97 ≤ c) (h2 : c ≤ 122) : sp_dig c = some (c - 97) := by unfold sp_dig; rw [if_pos ⟨h1, h2⟩]
theorem sp_dig_9 {c : Nat} (h1 : 48 ≤ c) (h2 : c ≤ 57) : sp_dig c = some (c - 22) := by unfold sp_dig; rw [if_neg (by omega), if_pos ⟨h1, h2⟩]
theorem sp_dig_n {c : Nat} (h1 : ¬ (97 ≤ c ∧ c ≤ 122)) (h2 : ¬ (48 ≤ c ∧ c ≤ 57)) : sp_dig c = none := by unfold sp_dig; rw [if_neg h1, if_neg h2]
theorem sp_dig_lt {c d : Nat} (h : sp_dig c = some d) : d < 36 := by
  unfold sp_dig at h
  split at h
  · cases h; omega
  · split at h
    · cases h; omega
    · cases h
def sp_told (g : Nat → Nat) (bias : Nat) : Nat → Nat → Nat → Nat → Nat → Option (Nat × Nat)
  | 0, _, _, _, _ => none
  | r + 1, p, i, w, k => match sp_dig (g p) with
    | none => none
    | some d => if 2147483647 < i + d * w then none else if d < sp_thr k bias then some (p + 1, i + d * w) else if 2147483647 < w * (36 - sp_thr k bias) then none else sp_told g bias r (p + 1) (i + d * w) (w * (36 - sp_thr k bias)) (k + 36)
section
variable {g : Nat → Nat} {bias r p i w k d : Nat}
theorem sp_told_n (h : sp_dig (g p) = none) : sp_told g bias (r + 1) p i w k = none := by
  rw [sp_told, h]
theorem sp_told_b (h : sp_dig (g p) = some d) (h1 : 2147483647 < i + d * w) : sp_told g bias (r + 1) p i w k = none := by
  rw [sp_told, h]
  simp only []
  rw [if_pos h1]
theorem sp_told_e (h : sp_dig (g p) = some d) (h1 : i + d * w ≤ 2147483647) (h2 : d < sp_thr k bias) : sp_told g bias (r + 1) p i w k = some (p + 1, i + d * w) := by
  rw [sp_told, h]
  simp only []
  rw [if_neg (by omega), if_pos h2]
theorem sp_told_w (h : sp_dig (g p) = some d) (h1 : i + d * w ≤ 2147483647) (h2 : sp_thr k bias ≤ d) (h3 : 2147483647 < w * (36 - sp_thr k bias)) : sp_told g bias (r + 1) p i w k = none := by
  rw [sp_told, h]
  simp only []
  rw [if_neg (by omega), if_neg (by omega), if_pos h3]
theorem sp_told_g (h : sp_dig (g p) = some d) (h1 : i + d * w ≤ 2147483647) (h2 : sp_thr k bias ≤ d) (h3 : w * (36 - sp_thr k bias) ≤ 2147483647) : sp_told g bias (r + 1) p i w k = sp_told g bias r (p + 1) (i + d * w) (w * (36 - sp_thr k bias)) (k + 36) := by
  rw [sp_told, h]
  simp only []
  rw [if_neg (by omega), if_neg (by omega), if_neg (by omega)]
end
theorem sp_told_p {g : Nat → Nat} {bias : Nat} : ∀ (r p i w k p' i' : Nat), sp_told g bias r p i w k = some (p', i') → p < p' ∧ p' ≤ p + r ∧ i ≤ i' ∧ i' ≤ 2147483647 := by
  intro r
  induction r with
  | zero => intro p i w k p' i' h; rw [sp_told] at h; cases h
  | succ r ih =>
    intro p i w k p' i' h
    cases e : sp_dig (g p) with
    | none => rw [sp_told_n e] at h; cases h
    | some d =>
      by_cases h1 : 2147483647 < i + d * w
      · rw [sp_told_b e h1] at h; cases h
      · by_cases h2 : d < sp_thr k bias
        · rw [sp_told_e e (by omega) h2] at h
          cases h
          exact ⟨by omega, by omega, Nat.le_add_right _ _, by omega⟩
        · by_cases h3 : 2147483647 < w * (36 - sp_thr k bias)
          · rw [sp_told_w e (by omega) (by omega) h3] at h; cases h
          · rw [sp_told_g e (by omega) (by omega) (by omega)] at h
            obtain ⟨a1, a2, a3, a4⟩ := ih _ _ _ _ _ _ h
            have := Nat.le_add_right i (d * w)
            exact ⟨by omega, by omega, by omega, a4⟩
def sp_ins {α : Type} (L : List α) (a : Nat) (x : α) : List α := L.take a ++ x :: L.drop a
theorem sp_ins_map {α β : Type} (f : α → β) (L : List α) (a : Nat) (x : α) : (sp_ins L a x).map f = sp_ins (L.map f) a (f x) := by
  unfold sp_ins
  simp
theorem sp_ins_len {α : Type} (L : List α) (a : Nat) (x : α) : (sp_ins L a x).length = L.length + 1 := by
  unfold sp_ins
  rw [List.length_append, List.length_cons, List.length_take, List.length_drop]
  omega
theorem sp_ins_perm {α : Type} (L : List α) (a : Nat) (x : α) : List.Perm (sp_ins L a x) (x :: L) := by
  unfold sp_ins
  have h := List.perm_middle (a := x) (l₁ := L.take a) (l₂ := L.drop a)
  rw [List.take_append_drop] at h
  exact h
theorem sp_ins_end {α : Type} (L : List α) (x : α) : sp_ins L L.length x = L ++ [x] := by
  unfold sp_ins
  rw [List.take_length, List.drop_length]
theorem sp_ins_0 {α : Type} (L : List α) (x : α) : sp_ins L 0 x = x :: L := by
  unfold sp_ins
  simp
theorem sp_ins_s {α : Type} (y : α) (L : List α) (a : Nat) (x : α) : sp_ins (y :: L) (a + 1) x = y :: sp_ins L a x := by
  unfold sp_ins
  simp
theorem sp_ins_lt {L : List Nat} {a j x : Nat} (ha : a ≤ L.length) (h : j < a) : (sp_ins L a x).getD j 0 = L.getD j 0 := by
  unfold sp_ins
  rw [sp_gl (by rw [List.length_take]; omega), sp_gt h]
theorem sp_ins_eq {L : List Nat} {a x : Nat} (ha : a ≤ L.length) : (sp_ins L a x).getD a 0 = x := by
  unfold sp_ins
  have e : (L.take a).length = a := by rw [List.length_take]; omega
  have := sp_gr (L.take a) (x :: L.drop a) 0
  rw [e] at this
  simpa using this
theorem sp_ins_gt {L : List Nat} {a j x : Nat} (ha : a ≤ L.length) (h : a < j) : (sp_ins L a x).getD j 0 = L.getD (j - 1) 0 := by
  unfold sp_ins
  have e : (L.take a).length = a := by rw [List.length_take]; omega
  have := sp_gr (L.take a) (x :: L.drop a) (j - a)
  rw [e, show a + (j - a) = j by omega] at this
  rw [this, show j - a = (j - a - 1) + 1 by omega, List.getD_cons_succ, List.getD_eq_getElem?_getD, List.getD_eq_getElem?_getD, List.getElem?_drop, show a + (j - a - 1) = j - 1 by omega]
def sp_dc (g : Nat → Nat) (m : Nat) : Nat → Nat → List Nat → Nat → Nat → Nat → Option (List Nat)
  | 0, _, acc, _, _, _ => some acc
  | r + 1, p, acc, i, pt, bias => if m ≤ p then some acc else match sp_told g bias (m - p) p i 1 36 with
    | none => none
    | some (p', i') => if 1114111 < pt + i' / (acc.length + 1) ∨ (55296 ≤ pt + i' / (acc.length + 1) ∧ pt + i' / (acc.length + 1) < 57344) then none
      else sp_dc g m r p' (sp_ins acc (i' % (acc.length + 1)) (pt + i' / (acc.length + 1))) (i' % (acc.length + 1) + 1) (pt + i' / (acc.length + 1)) (sp_adapt (i' - i) (acc.length + 1) (i == 0))
section
variable {g : Nat → Nat} {m r p i pt bias p' i' : Nat} {acc : List Nat}
theorem sp_dc_end (h : m ≤ p) : sp_dc g m r p acc i pt bias = some acc := by
  cases r with
  | zero => rfl
  | succ r => rw [sp_dc, if_pos h]
theorem sp_dc_no (h : p < m) (h1 : sp_told g bias (m - p) p i 1 36 = none) : sp_dc g m (r + 1) p acc i pt bias = none := by
  rw [sp_dc, if_neg (by omega), h1]
theorem sp_dc_bad (h : p < m) (h1 : sp_told g bias (m - p) p i 1 36 = some (p', i')) (h2 : 1114111 < pt + i' / (acc.length + 1) ∨ (55296 ≤ pt + i' / (acc.length + 1) ∧ pt + i' / (acc.length + 1) < 57344)) : sp_dc g m (r + 1) p acc i pt bias = none := by
  rw [sp_dc, if_neg (by omega), h1]
  simp only []
  rw [if_pos h2]
theorem sp_dc_go (h : p < m) (h1 : sp_told g bias (m - p) p i 1 36 = some (p', i')) (h2 : ¬ (1114111 < pt + i' / (acc.length + 1) ∨ (55296 ≤ pt + i' / (acc.length + 1) ∧ pt + i' / (acc.length + 1) < 57344))) :
    sp_dc g m (r + 1) p acc i pt bias = sp_dc g m r p' (sp_ins acc (i' % (acc.length + 1)) (pt + i' / (acc.length + 1))) (i' % (acc.length + 1) + 1) (pt + i' / (acc.length + 1)) (sp_adapt (i' - i) (acc.length + 1) (i == 0)) := by
  rw [sp_dc, if_neg (by omega), h1]
  simp only []
  rw [if_neg h2]
end
def sp_hyp (g : Nat → Nat) : Nat → Nat
  | 0 => 0
  | k + 1 => if g k = 45 then k else sp_hyp g k
theorem sp_hyp_y {g : Nat → Nat} {k : Nat} (h : g k = 45) : sp_hyp g (k + 1) = k := by rw [sp_hyp, if_pos h]
theorem sp_hyp_n {g : Nat → Nat} {k : Nat} (h : ¬ g k = 45) : sp_hyp g (k + 1) = sp_hyp g k := by rw [sp_hyp, if_neg h]
theorem sp_hyp_1 (g : Nat → Nat) : sp_hyp g 1 = 0 := by
  rw [sp_hyp]
  split <;> rfl
theorem sp_hyp_lt (g : Nat → Nat) : ∀ k, sp_hyp g k < k ∨ sp_hyp g k = 0 := by
  intro k
  induction k with
  | zero => exact Or.inr rfl
  | succ k ih =>
    by_cases h : g k = 45
    · rw [sp_hyp_y h]; omega
    · rw [sp_hyp_n h]; omega
theorem sp_hyp_ge {g : Nat → Nat} {i : Nat} (h : g i = 45) : ∀ k, i < k → i ≤ sp_hyp g k := by
  intro k
  induction k with
  | zero => intro h; omega
  | succ k ih =>
    intro hk
    by_cases e : g k = 45
    · rw [sp_hyp_y e]; omega
    · rw [sp_hyp_n e]
      refine ih ?_
      by_cases e2 : i = k
      · subst e2; exact absurd h e
      · omega
def sp_p0 (L : List Nat) : Nat := if 0 < sp_hyp (sp_ef L) L.length then sp_hyp (sp_ef L) L.length + 1 else 0
def sp_dec (L : List Nat) : Option (List Nat) := sp_dc (sp_ef L) L.length L.length (sp_p0 L) (L.take (sp_hyp (sp_ef L) L.length)) 0 128 72
theorem sp_p0_le (L : List Nat) : sp_p0 L ≤ L.length ∧ (L.take (sp_hyp (sp_ef L) L.length)).length ≤ sp_p0 L ∧ (L.take (sp_hyp (sp_ef L) L.length)).length = sp_hyp (sp_ef L) L.length := by
  have h := sp_hyp_lt (sp_ef L) L.length
  unfold sp_p0
  rw [List.length_take]
  split <;> omega
/-- behind the last hyphen no char is above 122 -/
theorem sp_wf_at {L : List Nat} (h : sp_wf L) {p : Nat} (h1 : sp_p0 L ≤ p) (h2 : p < L.length) : L.getD p 0 ≤ 122 := by
  rcases h p h2 with q | ⟨i, i1, i2, i3⟩
  · exact q
  · have := sp_hyp_ge (g := sp_ef L) i3 L.length i2
    unfold sp_p0 at h1
    split at h1 <;> omega
theorem sp_dc_len {g : Nat → Nat} {m : Nat} : ∀ (r p : Nat) (acc : List Nat) (i pt bias : Nat) (res : List Nat), acc.length ≤ p → p ≤ m → sp_dc g m r p acc i pt bias = some res → res.length ≤ m := by
  intro r
  induction r with
  | zero => intro p acc i pt bias res h1 h2 h; rw [sp_dc] at h; cases h; omega
  | succ r ih =>
    intro p acc i pt bias res h1 h2 h
    by_cases hp : m ≤ p
    · rw [sp_dc_end hp] at h; cases h; omega
    · cases e : sp_told g bias (m - p) p i 1 36 with
      | none => rw [sp_dc_no (by omega) e] at h; cases h
      | some x =>
        obtain ⟨p', i'⟩ := x
        obtain ⟨a1, a2, a3, a4⟩ := sp_told_p _ _ _ _ _ _ _ e
        by_cases hb : 1114111 < pt + i' / (acc.length + 1) ∨ (55296 ≤ pt + i' / (acc.length + 1) ∧ pt + i' / (acc.length + 1) < 57344)
        · rw [sp_dc_bad (by omega) e hb] at h; cases h
        · rw [sp_dc_go (by omega) e hb] at h
          exact ih _ _ _ _ _ res (by rw [sp_ins_len]; omega) (by omega) h
theorem sp_dec_len {L res : List Nat} (h : sp_dec L = some res) : res.length ≤ L.length := by
  obtain ⟨h1, h2, -⟩ := sp_p0_le L
  exact sp_dc_len _ _ _ _ _ _ _ h2 h1 h
/-! a chain of places -/
def sp_link (ne : Nat → Int32) : Nat → List Nat → Prop
  | a, [] => ne a = -1
  | a, x :: xs => ne a = nI x ∧ sp_link ne x xs
theorem sp_link_congr {ne ne' : Nat → Int32} : ∀ (ix : List Nat) (a : Nat), (∀ y ∈ a :: ix, ne' y = ne y) → sp_link ne a ix → sp_link ne' a ix := by
  intro ix
  induction ix with
  | nil => intro a h hl; exact (h a List.mem_cons_self).trans hl
  | cons x xs ih =>
    intro a h hl
    exact ⟨(h a List.mem_cons_self).trans hl.1, ih x (fun y hy => h y (List.mem_cons_of_mem _ hy)) hl.2⟩
theorem sp_link_at {ne : Nat → Int32} : ∀ (ix : List Nat) (a j : Nat), sp_link ne a ix → j < ix.length → ne ((a :: ix).getD j 0) = nI (ix.getD j 0) := by
  intro ix
  induction ix with
  | nil => intro a j _ h; simp at h
  | cons x xs ih =>
    intro a j hl hj
    cases j with
    | zero => simpa using hl.1
    | succ j =>
      have := ih x j hl.2 (by simpa using hj)
      simpa using this
theorem sp_link_last {ne : Nat → Int32} : ∀ (ix : List Nat) (a : Nat), sp_link ne a ix → ne ((a :: ix).getD ix.length 0) = -1 := by
  intro ix
  induction ix with
  | nil => intro a hl; have h : ne a = -1 := hl; simpa using h
  | cons x xs ih =>
    intro a hl
    have := ih x hl.2
    simpa using this
theorem sp_link_ins {ne : Nat → Int32} {n : Nat} : ∀ (j : Nat) (ix : List Nat) (a : Nat), j ≤ ix.length → sp_link ne a ix → (a :: ix).Nodup → n ∉ a :: ix → sp_link (upd (upd ne n (ne ((a :: ix).getD j 0))) ((a :: ix).getD j 0) (nI n)) a (sp_ins ix j n) := by
  intro j
  induction j with
  | zero =>
    intro ix a hj hl hnd hn
    rw [sp_ins_0]
    have e : (a :: ix).getD 0 0 = a := by simp
    rw [e]
    have han : n ≠ a := fun q => hn (by rw [q]; exact List.mem_cons_self)
    have hn' : upd (upd ne n (ne a)) a (nI n) n = ne a := by
      unfold upd
      rw [if_neg han, if_pos rfl]
    refine ⟨by unfold upd; rw [if_pos rfl], ?_⟩
    have hoth : ∀ y ∈ ix, upd (upd ne n (ne a)) a (nI n) y = ne y := by
      intro y hy
      have h1 : y ≠ a := fun q => (List.nodup_cons.mp hnd).1 (by rw [← q]; exact hy)
      have h2 : y ≠ n := fun q => hn (List.mem_cons_of_mem _ (by rw [← q]; exact hy))
      unfold upd
      rw [if_neg h1, if_neg h2]
    cases ix with
    | nil => exact hn'.trans hl
    | cons x xs => exact ⟨hn'.trans hl.1, sp_link_congr xs x hoth hl.2⟩
  | succ j ih =>
    intro ix a hj hl hnd hn
    cases ix with
    | nil => simp at hj
    | cons x xs =>
      rw [sp_ins_s]
      have e : (a :: x :: xs).getD (j + 1) 0 = (x :: xs).getD j 0 := by simp
      rw [e]
      have hj' : j ≤ xs.length := by simpa using hj
      have hin : (x :: xs).getD j 0 ∈ x :: xs := sp_gm (by simp; omega)
      have hak : a ≠ (x :: xs).getD j 0 := fun q => (List.nodup_cons.mp hnd).1 (by rw [q]; exact hin)
      have han : a ≠ n := fun q => hn (by rw [← q]; exact List.mem_cons_self)
      refine ⟨?_, ih xs x hj' hl.2 (List.nodup_cons.mp hnd).2 (fun q => hn (List.mem_cons_of_mem _ q))⟩
      show upd (upd ne n (ne ((x :: xs).getD j 0))) ((x :: xs).getD j 0) (nI n) a = nI x
      unfold upd
      rw [if_neg hak, if_neg han]
      exact hl.1
/-- the chain behind 64 holds the list -/
def sp_chain (ne ca : Nat → Int32) (ix acc : List Nat) : Prop := sp_link ne 64 ix ∧ ix.Nodup ∧ (∀ y ∈ ix, y < acc.length) ∧ ix.map ca = acc.map nI
theorem sp_chain_len {ne ca : Nat → Int32} {ix acc : List Nat} (h : sp_chain ne ca ix acc) : ix.length = acc.length := by
  have := congrArg List.length h.2.2.2
  simpa using this
theorem sp_chain_nil {ne ca : Nat → Int32} (h : ne 64 = -1) : sp_chain ne ca [] [] := ⟨h, List.nodup_nil, fun y hy => by simp at hy, rfl⟩
theorem sp_chain_ca {ne ca : Nat → Int32} {ix acc : List Nat} (h : sp_chain ne ca ix acc) {j : Nat} (hj : j < acc.length) : ca (ix.getD j 0) = nI (acc.getD j 0) := by
  have hl := sp_chain_len h
  have e := congrArg (fun l : List Int32 => l[j]?) h.2.2.2
  simp only [List.getElem?_map] at e
  rw [List.getD_eq_getElem?_getD, List.getD_eq_getElem?_getD]
  rw [List.getElem?_eq_getElem (by omega), List.getElem?_eq_getElem hj] at e ⊢
  simpa using e
theorem sp_chain_lt {ne ca : Nat → Int32} {ix acc : List Nat} (h : sp_chain ne ca ix acc) {j : Nat} (hj : j < acc.length) : ix.getD j 0 < acc.length := h.2.2.1 _ (sp_gm (by rw [sp_chain_len h]; exact hj))
theorem sp_chain_le {ne ca : Nat → Int32} {ix acc : List Nat} (h : sp_chain ne ca ix acc) (h64 : acc.length ≤ 64) {j : Nat} (hj : j ≤ acc.length) : (64 :: ix).getD j 0 ≤ 64 := by
  cases j with
  | zero => simp
  | succ j =>
    have := sp_chain_lt h (show j < acc.length by omega)
    simp only [List.getD_cons_succ]
    omega
theorem sp_chain_put {ne ca : Nat → Int32} {ix acc : List Nat} (h : sp_chain ne ca ix acc) (h64 : acc.length < 64) {j : Nat} (hj : j ≤ acc.length) (x : Nat) :
    sp_chain (upd (upd ne acc.length (ne ((64 :: ix).getD j 0))) ((64 :: ix).getD j 0) (nI acc.length)) (upd ca acc.length (nI x)) (sp_ins ix j acc.length) (sp_ins acc j x) := by
  have hlen := sp_chain_len h
  obtain ⟨h1, h2, h3, h4⟩ := h
  have hn : acc.length ∉ ix := fun q => by have := h3 _ q; omega
  have h64' : (64 : Nat) ∉ ix := fun q => by have := h3 _ q; omega
  refine ⟨?_, ?_, ?_, ?_⟩
  · refine sp_link_ins j ix 64 (by omega) h1 (List.nodup_cons.mpr ⟨h64', h2⟩) (fun q => ?_)
    rcases List.mem_cons.mp q with q | q
    · omega
    · exact hn q
  · exact (sp_ins_perm ix j acc.length).nodup_iff.mpr (List.nodup_cons.mpr ⟨hn, h2⟩)
  · intro y hy
    rw [sp_ins_len]
    rcases List.mem_cons.mp ((sp_ins_perm ix j acc.length).mem_iff.mp hy) with q | q
    · omega
    · have := h3 y q
      omega
  · rw [sp_ins_map, sp_ins_map, ← h4]
    have e1 : upd ca acc.length (nI x) acc.length = nI x := by unfold upd; rw [if_pos rfl]
    have e2 : ix.map (upd ca acc.length (nI x)) = ix.map ca := by
      refine List.map_congr_left (fun y hy => ?_)
      have : y ≠ acc.length := fun q => hn (by rw [← q]; exact hy)
      unfold upd
      rw [if_neg this]
    rw [e1, e2]
/-- an array shifted from i on, and the new one put there -/
theorem sp_shift {f h : Nat → Int32} {acc : List Nat} {i x : Nat} (hr : sp_rep f acc) (hi : i ≤ acc.length) (hlo : ∀ j, j < i → h j = f j) (hhi : ∀ j, i < j → j ≤ acc.length → h j = f (j - 1)) : sp_rep (upd h i (nI x)) (sp_ins acc i x) := by
  intro j hj
  rw [sp_ins_len] at hj
  unfold upd
  by_cases e : j = i
  · subst e
    rw [if_pos rfl, sp_ins_eq hi]
  · rw [if_neg e]
    by_cases e2 : j < i
    · rw [hlo j e2, sp_ins_lt hi e2, hr j (by omega)]
    · rw [hhi j (by omega) (by omega), sp_ins_gt hi (by omega), hr (j - 1) (by omega)]
end
section
-- ===== PART A: goes FIRST, ahead of the names: the tables' words, and 'selects' of the private methods out of them =====
/-- a private method of a class that the tables say can be made, by its rows of tables_1 -/
def lw_okq (q : MethodName × Nat) : Prop := (q.1.cls ≠ "java/lang/invoke/MethodHandle" ∧ q.1.cls ≠ "java/lang/invoke/VarHandle") ∧ Cond.instantiable q.1.cls q.2 ∈ tables_1 ∧ Cond.privateMethod q.1 ∈ tables_1 ∧ Cond.instanceMethod q.1 ∈ tables_1
theorem lw_p0 : lw_okq (⟨"PunyDesk", "add", "(I)Z"⟩, 12) := ⟨⟨by decide +kernel, by decide +kernel⟩, List.mem_of_getElem? (i := 5) (by decide +kernel), List.mem_of_getElem? (i := 62) (by decide +kernel), List.mem_of_getElem? (i := 63) (by decide +kernel)⟩
theorem lw_p1 : lw_okq (⟨"PunyDesk", "least", "()I"⟩, 12) := ⟨⟨by decide +kernel, by decide +kernel⟩, List.mem_of_getElem? (i := 5) (by decide +kernel), List.mem_of_getElem? (i := 78) (by decide +kernel), List.mem_of_getElem? (i := 79) (by decide +kernel)⟩
theorem lw_p2 : lw_okq (⟨"PunyDesk", "number", "(II)V"⟩, 12) := ⟨⟨by decide +kernel, by decide +kernel⟩, List.mem_of_getElem? (i := 5) (by decide +kernel), List.mem_of_getElem? (i := 82) (by decide +kernel), List.mem_of_getElem? (i := 83) (by decide +kernel)⟩
theorem lw_p3 : lw_okq (⟨"PunyDesk", "digit", "(I)V"⟩, 12) := ⟨⟨by decide +kernel, by decide +kernel⟩, List.mem_of_getElem? (i := 5) (by decide +kernel), List.mem_of_getElem? (i := 89) (by decide +kernel), List.mem_of_getElem? (i := 90) (by decide +kernel)⟩
theorem lw_p4 : lw_okq (⟨"PunyDesk", "behind", "(I)V"⟩, 12) := ⟨⟨by decide +kernel, by decide +kernel⟩, List.mem_of_getElem? (i := 5) (by decide +kernel), List.mem_of_getElem? (i := 116) (by decide +kernel), List.mem_of_getElem? (i := 117) (by decide +kernel)⟩
theorem lw_p5 : lw_okq (⟨"PunyDesk", "put", "(III)V"⟩, 12) := ⟨⟨by decide +kernel, by decide +kernel⟩, List.mem_of_getElem? (i := 5) (by decide +kernel), List.mem_of_getElem? (i := 138) (by decide +kernel), List.mem_of_getElem? (i := 139) (by decide +kernel)⟩
theorem lw_p6 : lw_okq (⟨"PunyDesk", "told", "(JI)J"⟩, 12) := ⟨⟨by decide +kernel, by decide +kernel⟩, List.mem_of_getElem? (i := 5) (by decide +kernel), List.mem_of_getElem? (i := 143) (by decide +kernel), List.mem_of_getElem? (i := 144) (by decide +kernel)⟩
theorem lw_p7 : lw_okq (⟨"PunyDesk", "refused", "()I"⟩, 12) := ⟨⟨by decide +kernel, by decide +kernel⟩, List.mem_of_getElem? (i := 5) (by decide +kernel), List.mem_of_getElem? (i := 152) (by decide +kernel), List.mem_of_getElem? (i := 153) (by decide +kernel)⟩
def lw_privs_1 : List (MethodName × Nat) := [(⟨"PunyDesk", "add", "(I)Z"⟩, 12), (⟨"PunyDesk", "least", "()I"⟩, 12), (⟨"PunyDesk", "number", "(II)V"⟩, 12), (⟨"PunyDesk", "digit", "(I)V"⟩, 12), (⟨"PunyDesk", "behind", "(I)V"⟩, 12), (⟨"PunyDesk", "put", "(III)V"⟩, 12), (⟨"PunyDesk", "told", "(JI)J"⟩, 12), (⟨"PunyDesk", "refused", "()I"⟩, 12)]
theorem lw_r1 : ∀ q ∈ lw_privs_1, lw_okq q := List.forall_mem_cons.mpr ⟨lw_p0, List.forall_mem_cons.mpr ⟨lw_p1, List.forall_mem_cons.mpr ⟨lw_p2, List.forall_mem_cons.mpr ⟨lw_p3, List.forall_mem_cons.mpr ⟨lw_p4, List.forall_mem_cons.mpr ⟨lw_p5, List.forall_mem_cons.mpr ⟨lw_p6, List.forall_mem_cons.mpr ⟨lw_p7, fun _ h => absurd h List.not_mem_nil⟩⟩⟩⟩⟩⟩⟩⟩
def lw_privs : List (MethodName × Nat) := lw_privs_1
def lw_tbl : List Cond := k2_sels lw_privs ++ tables_1
theorem lw_privs_ok : ∀ q ∈ lw_privs, lw_okq q := lw_r1
-- names: the two made kinds, their fields in the order of the slots, their types
def R_X : String := "PunyDesk"
def F_X : u_T := fun k => match k with
  | 0 => ("PunyDesk", "label", "[I", true)
  | 1 => ("PunyDesk", "letters", "[I", true)
  | 2 => ("PunyDesk", "line", "[I", true)
  | 3 => ("PunyDesk", "kept", "[I", true)
  | 4 => ("PunyDesk", "done", "[Z", true)
  | 5 => ("PunyDesk", "came", "[I", true)
  | 6 => ("PunyDesk", "next", "[I", true)
  | 7 => ("PunyDesk", "size", "I", false)
  | 8 => ("PunyDesk", "written", "I", false)
  | 9 => ("PunyDesk", "long0", "I", false)
  | 10 => ("PunyDesk", "many", "I", false)
  | _ => ("PunyDesk", "at", "I", false)
def t_X : Nat → FieldType := fun k => match k with
  | 0 => .array .int
  | 1 => .array .int
  | 2 => .array .int
  | 3 => .array .int
  | 4 => .array .boolean
  | 5 => .array .int
  | 6 => .array .int
  | 7 => .int
  | 8 => .int
  | 9 => .int
  | 10 => .int
  | _ => .int
abbrev w_X : List Cond := u_ws R_X F_X 12
def R_M : String := "PunyDeskModel"
def F_M : u_T := fun k => match k with
  | 0 => ("PunyDeskModel", "sign", "[I", true)
  | 1 => ("PunyDeskModel", "n", "I", false)
  | 2 => ("PunyDeskModel", "out", "[I", true)
  | 3 => ("PunyDeskModel", "length", "I", false)
  | 4 => ("PunyDeskModel", "line", "[I", true)
  | 5 => ("PunyDeskModel", "m", "I", false)
  | 6 => ("PunyDeskModel", "back", "[I", true)
  | _ => ("PunyDeskModel", "shown", "I", false)
def t_M : Nat → FieldType := fun k => match k with
  | 0 => .array .int
  | 1 => .int
  | 2 => .array .int
  | 3 => .int
  | 4 => .array .int
  | 5 => .int
  | 6 => .array .int
  | _ => .int
abbrev w_M : List Cond := u_ws R_M F_M 8
def R_law : String := "PunyDeskLaw"
abbrev b_X_init : ByteArray := prog_1_method_1_code
def y_X_init : MethodName := ⟨R_X, "<init>", "()V"⟩
abbrev b_X_put : ByteArray := prog_1_method_3_code
def y_X_put : MethodName := ⟨R_X, "put", "(I)Z"⟩
abbrev b_X_cut : ByteArray := prog_1_method_2_code
def y_X_cut : MethodName := ⟨R_X, "cut", "(II)I"⟩
abbrev b_X_add : ByteArray := prog_1_method_5_code
def y_X_add : MethodName := ⟨R_X, "add", "(I)Z"⟩
abbrev b_X_plain : ByteArray := prog_1_method_4_code
def y_X_plain : MethodName := ⟨R_X, "plain", "(I)Z"⟩
abbrev b_X_wipe : ByteArray := prog_1_method_6_code
def y_X_wipe : MethodName := ⟨R_X, "wipe", "()V"⟩
abbrev b_X_write : ByteArray := prog_1_method_9_code
def y_X_write : MethodName := ⟨R_X, "write", "()I"⟩
abbrev b_X_least : ByteArray := prog_1_method_10_code
def y_X_least : MethodName := ⟨R_X, "least", "()I"⟩
abbrev b_X_number : ByteArray := prog_1_method_11_code
def y_X_number : MethodName := ⟨R_X, "number", "(II)V"⟩
abbrev b_X_threshold : ByteArray := prog_1_method_7_code
def y_X_threshold : MethodName := ⟨R_X, "threshold", "(II)I"⟩
abbrev b_X_digit : ByteArray := prog_1_method_12_code
def y_X_digit : MethodName := ⟨R_X, "digit", "(I)V"⟩
abbrev b_X_letterOf : ByteArray := prog_1_method_13_code
def y_X_letterOf : MethodName := ⟨R_X, "letterOf", "(I)I"⟩
abbrev b_X_adapted : ByteArray := prog_1_method_8_code
def y_X_adapted : MethodName := ⟨R_X, "adapted", "(JIZ)I"⟩
abbrev b_X_letter : ByteArray := prog_1_method_15_code
def y_X_letter : MethodName := ⟨R_X, "letter", "(I)I"⟩
abbrev b_X_pick : ByteArray := prog_1_method_14_code
def y_X_pick : MethodName := ⟨R_X, "pick", "([III)I"⟩
abbrev b_X_line : ByteArray := prog_1_method_16_code
def y_X_line : MethodName := ⟨R_X, "line", "(IIII)Z"⟩
abbrev b_X_behind : ByteArray := prog_1_method_17_code
def y_X_behind : MethodName := ⟨R_X, "behind", "(I)V"⟩
abbrev b_X_clear : ByteArray := prog_1_method_18_code
def y_X_clear : MethodName := ⟨R_X, "clear", "()V"⟩
abbrev b_X_copy : ByteArray := prog_1_method_19_code
def y_X_copy : MethodName := ⟨R_X, "copy", "()V"⟩
abbrev b_X_read : ByteArray := prog_1_method_20_code
def y_X_read : MethodName := ⟨R_X, "read", "()I"⟩
abbrev b_X_put3 : ByteArray := prog_1_method_22_code
def y_X_put3 : MethodName := ⟨R_X, "put", "(III)V"⟩
abbrev b_X_told : ByteArray := prog_1_method_23_code
def y_X_told : MethodName := ⟨R_X, "told", "(JI)J"⟩
abbrev b_X_digitOf : ByteArray := prog_1_method_24_code
def y_X_digitOf : MethodName := ⟨R_X, "digitOf", "(I)I"⟩
abbrev b_X_refused : ByteArray := prog_1_method_21_code
def y_X_refused : MethodName := ⟨R_X, "refused", "()I"⟩
abbrev b_X_sign : ByteArray := prog_1_method_25_code
def y_X_sign : MethodName := ⟨R_X, "sign", "(I)I"⟩
abbrev b_M_init : ByteArray := prog_3_method_1_code
def y_M_init : MethodName := ⟨R_M, "<init>", "()V"⟩
abbrev b_M_put : ByteArray := prog_3_method_2_code
def y_M_put : MethodName := ⟨R_M, "put", "(I)Z"⟩
abbrev b_M_plain : ByteArray := prog_3_method_3_code
def y_M_plain : MethodName := ⟨R_M, "plain", "(I)Z"⟩
abbrev b_M_wipe : ByteArray := prog_3_method_4_code
def y_M_wipe : MethodName := ⟨R_M, "wipe", "()V"⟩
abbrev b_M_write : ByteArray := prog_3_method_7_code
def y_M_write : MethodName := ⟨R_M, "write", "()I"⟩
abbrev b_M_digit : ByteArray := prog_3_method_6_code
def y_M_digit : MethodName := ⟨R_M, "digit", "(I)I"⟩
abbrev b_M_adapt : ByteArray := prog_3_method_5_code
def y_M_adapt : MethodName := ⟨R_M, "adapt", "(IIZ)I"⟩
abbrev b_M_letter : ByteArray := prog_3_method_8_code
def y_M_letter : MethodName := ⟨R_M, "letter", "(I)I"⟩
abbrev b_M_line : ByteArray := prog_3_method_9_code
def y_M_line : MethodName := ⟨R_M, "line", "(IIII)Z"⟩
abbrev b_M_clear : ByteArray := prog_3_method_10_code
def y_M_clear : MethodName := ⟨R_M, "clear", "()V"⟩
abbrev b_M_copy : ByteArray := prog_3_method_11_code
def y_M_copy : MethodName := ⟨R_M, "copy", "()V"⟩
abbrev b_M_read : ByteArray := prog_3_method_12_code
def y_M_read : MethodName := ⟨R_M, "read", "()I"⟩
abbrev b_M_sign : ByteArray := prog_3_method_13_code
def y_M_sign : MethodName := ⟨R_M, "sign", "(I)I"⟩
abbrev classes : List vw_C := [(R_X, F_X, 12), (R_M, F_M, 8)]
-- each word of the tables by a name
/-- the words that a call keeps -/
def lw_g : List Cond := lw_tbl.filter goodWord
theorem lw_gm {w : Cond} (h : w ∈ lw_tbl) (hg : goodWord w = true) : w ∈ lw_g := List.mem_filter.mpr ⟨h, hg⟩
theorem m1_0 : Cond.initialized "PunyDeskLaw" ∈ lw_g := lw_gm (List.mem_append_right _ (List.mem_append_left _ (List.mem_of_getElem? (i := 0) rfl))) rfl
theorem m1_1 : Cond.initialized "PunyDesk" ∈ lw_g := lw_gm (List.mem_append_right _ (List.mem_append_left _ (List.mem_of_getElem? (i := 1) rfl))) rfl
theorem m1_2 : Cond.initialized "PunyDeskModel" ∈ lw_g := lw_gm (List.mem_append_right _ (List.mem_append_left _ (List.mem_of_getElem? (i := 2) rfl))) rfl
theorem m1_3 : Cond.initialized "java/lang/Math" ∈ lw_g := lw_gm (List.mem_append_right _ (List.mem_append_left _ (List.mem_of_getElem? (i := 3) rfl))) rfl
theorem m1_4 : Cond.classLink "PunyDeskLaw" (7 : Nat) "PunyDesk" ∈ lw_g := lw_gm (List.mem_append_right _ (List.mem_append_left _ (List.mem_of_getElem? (i := 4) rfl))) rfl
theorem m1_5 : Cond.instantiable "PunyDesk" (12 : Nat) ∈ lw_g := lw_gm (List.mem_append_right _ (List.mem_append_left _ (List.mem_of_getElem? (i := 5) rfl))) rfl
theorem m1_6 : Cond.methodLink "PunyDeskLaw" (9 : Nat) ({ cls := "PunyDesk", name := "<init>", desc := "()V" } : MethodName) ∈ lw_g := lw_gm (List.mem_append_right _ (List.mem_append_left _ (List.mem_of_getElem? (i := 6) rfl))) rfl
theorem m1_7 : Cond.instanceMethod ({ cls := "PunyDesk", name := "<init>", desc := "()V" } : MethodName) ∈ lw_g := lw_gm (List.mem_append_right _ (List.mem_append_left _ (List.mem_of_getElem? (i := 7) rfl))) rfl
theorem m1_8 : Cond.code ({ cls := "PunyDesk", name := "<init>", desc := "()V" } : MethodName) prog_1_method_1_code (1 : Nat) (Option.none : Option FieldType) ∈ lw_g := lw_gm (List.mem_append_right _ (List.mem_append_left _ (List.mem_of_getElem? (i := 8) rfl))) rfl
theorem m1_9 : Cond.methodLink "PunyDesk" (1 : Nat) ({ cls := "java/lang/Object", name := "<init>", desc := "()V" } : MethodName) ∈ lw_g := lw_gm (List.mem_append_right _ (List.mem_append_left _ (List.mem_of_getElem? (i := 9) rfl))) rfl
theorem m1_10 : Cond.instanceMethod ({ cls := "java/lang/Object", name := "<init>", desc := "()V" } : MethodName) ∈ lw_g := lw_gm (List.mem_append_right _ (List.mem_append_left _ (List.mem_of_getElem? (i := 10) rfl))) rfl
theorem m1_11 : Cond.code ({ cls := "java/lang/Object", name := "<init>", desc := "()V" } : MethodName) object_method_1_code (1 : Nat) (Option.none : Option FieldType) ∈ lw_g := lw_gm (List.mem_append_right _ (List.mem_append_left _ (List.mem_of_getElem? (i := 11) rfl))) rfl
theorem m1_12 : Cond.fieldLink "PunyDesk" (9 : Nat) "PunyDesk" "label" "[I" ∈ lw_g := lw_gm (List.mem_append_right _ (List.mem_append_left _ (List.mem_of_getElem? (i := 12) rfl))) rfl
theorem m1_13 : Cond.fieldLink "PunyDesk" (13 : Nat) "PunyDesk" "letters" "[I" ∈ lw_g := lw_gm (List.mem_append_right _ (List.mem_append_left _ (List.mem_of_getElem? (i := 13) rfl))) rfl
theorem m1_14 : Cond.fieldLink "PunyDesk" (16 : Nat) "PunyDesk" "line" "[I" ∈ lw_g := lw_gm (List.mem_append_right _ (List.mem_append_left _ (List.mem_of_getElem? (i := 14) rfl))) rfl
theorem m1_15 : Cond.fieldLink "PunyDesk" (19 : Nat) "PunyDesk" "kept" "[I" ∈ lw_g := lw_gm (List.mem_append_right _ (List.mem_append_left _ (List.mem_of_getElem? (i := 15) rfl))) rfl
theorem m1_16 : Cond.fieldLink "PunyDesk" (22 : Nat) "PunyDesk" "done" "[Z" ∈ lw_g := lw_gm (List.mem_append_right _ (List.mem_append_left _ (List.mem_of_getElem? (i := 16) rfl))) rfl
theorem m1_17 : Cond.fieldLink "PunyDesk" (26 : Nat) "PunyDesk" "came" "[I" ∈ lw_g := lw_gm (List.mem_append_right _ (List.mem_append_left _ (List.mem_of_getElem? (i := 17) rfl))) rfl
theorem m1_18 : Cond.fieldLink "PunyDesk" (29 : Nat) "PunyDesk" "next" "[I" ∈ lw_g := lw_gm (List.mem_append_right _ (List.mem_append_left _ (List.mem_of_getElem? (i := 18) rfl))) rfl
theorem m1_19 : Cond.fieldLink "PunyDesk" (43 : Nat) "PunyDesk" "size" "I" ∈ lw_g := lw_gm (List.mem_append_right _ (List.mem_append_left _ (List.mem_of_getElem? (i := 19) rfl))) rfl
theorem m1_20 : Cond.fieldLink "PunyDesk" (59 : Nat) "PunyDesk" "written" "I" ∈ lw_g := lw_gm (List.mem_append_right _ (List.mem_append_left _ (List.mem_of_getElem? (i := 20) rfl))) rfl
theorem m1_21 : Cond.fieldLink "PunyDesk" (89 : Nat) "PunyDesk" "long0" "I" ∈ lw_g := lw_gm (List.mem_append_right _ (List.mem_append_left _ (List.mem_of_getElem? (i := 21) rfl))) rfl
theorem m1_22 : Cond.fieldLink "PunyDesk" (125 : Nat) "PunyDesk" "many" "I" ∈ lw_g := lw_gm (List.mem_append_right _ (List.mem_append_left _ (List.mem_of_getElem? (i := 22) rfl))) rfl
theorem m1_23 : Cond.fieldLink "PunyDesk" (107 : Nat) "PunyDesk" "at" "I" ∈ lw_g := lw_gm (List.mem_append_right _ (List.mem_append_left _ (List.mem_of_getElem? (i := 23) rfl))) rfl
theorem m1_24 : Cond.laysFinal "PunyDesk" "PunyDesk" "label" "[I" ∈ lw_g := lw_gm (List.mem_append_right _ (List.mem_append_left _ (List.mem_of_getElem? (i := 24) rfl))) rfl
theorem m1_26 : Cond.laysFinal "PunyDesk" "PunyDesk" "letters" "[I" ∈ lw_g := lw_gm (List.mem_append_right _ (List.mem_append_left _ (List.mem_of_getElem? (i := 26) rfl))) rfl
theorem m1_28 : Cond.laysFinal "PunyDesk" "PunyDesk" "line" "[I" ∈ lw_g := lw_gm (List.mem_append_right _ (List.mem_append_left _ (List.mem_of_getElem? (i := 28) rfl))) rfl
theorem m1_30 : Cond.laysFinal "PunyDesk" "PunyDesk" "kept" "[I" ∈ lw_g := lw_gm (List.mem_append_right _ (List.mem_append_left _ (List.mem_of_getElem? (i := 30) rfl))) rfl
theorem m1_32 : Cond.laysFinal "PunyDesk" "PunyDesk" "done" "[Z" ∈ lw_g := lw_gm (List.mem_append_right _ (List.mem_append_left _ (List.mem_of_getElem? (i := 32) rfl))) rfl
theorem m1_34 : Cond.laysFinal "PunyDesk" "PunyDesk" "came" "[I" ∈ lw_g := lw_gm (List.mem_append_right _ (List.mem_append_left _ (List.mem_of_getElem? (i := 34) rfl))) rfl
theorem m1_36 : Cond.laysFinal "PunyDesk" "PunyDesk" "next" "[I" ∈ lw_g := lw_gm (List.mem_append_right _ (List.mem_append_left _ (List.mem_of_getElem? (i := 36) rfl))) rfl
theorem m1_38 : Cond.lays "PunyDesk" "PunyDesk" "size" "I" ∈ lw_g := lw_gm (List.mem_append_right _ (List.mem_append_left _ (List.mem_of_getElem? (i := 38) rfl))) rfl
theorem m1_40 : Cond.lays "PunyDesk" "PunyDesk" "written" "I" ∈ lw_g := lw_gm (List.mem_append_right _ (List.mem_append_left _ (List.mem_of_getElem? (i := 40) rfl))) rfl
theorem m1_42 : Cond.lays "PunyDesk" "PunyDesk" "long0" "I" ∈ lw_g := lw_gm (List.mem_append_right _ (List.mem_append_left _ (List.mem_of_getElem? (i := 42) rfl))) rfl
theorem m1_44 : Cond.lays "PunyDesk" "PunyDesk" "many" "I" ∈ lw_g := lw_gm (List.mem_append_right _ (List.mem_append_left _ (List.mem_of_getElem? (i := 44) rfl))) rfl
theorem m1_46 : Cond.lays "PunyDesk" "PunyDesk" "at" "I" ∈ lw_g := lw_gm (List.mem_append_right _ (List.mem_append_left _ (List.mem_of_getElem? (i := 46) rfl))) rfl
theorem m1_49 : Cond.arrayClass FieldType.int ∈ lw_g := lw_gm (List.mem_append_right _ (List.mem_append_left _ (List.mem_of_getElem? (i := 49) rfl))) rfl
theorem m1_50 : Cond.arrayClass FieldType.boolean ∈ lw_g := lw_gm (List.mem_append_right _ (List.mem_append_left _ (List.mem_of_getElem? (i := 50) rfl))) rfl
theorem m1_51 : Cond.methodLink "PunyDeskLaw" (13 : Nat) ({ cls := "PunyDesk", name := "put", desc := "(I)Z" } : MethodName) ∈ lw_g := lw_gm (List.mem_append_right _ (List.mem_append_left _ (List.mem_of_getElem? (i := 51) rfl))) rfl
theorem m1_52 : Cond.instanceMethod ({ cls := "PunyDesk", name := "put", desc := "(I)Z" } : MethodName) ∈ lw_g := lw_gm (List.mem_append_right _ (List.mem_append_left _ (List.mem_of_getElem? (i := 52) rfl))) rfl
theorem m1_53 : Cond.selects "PunyDesk" ({ cls := "PunyDesk", name := "put", desc := "(I)Z" } : MethodName) ({ cls := "PunyDesk", name := "put", desc := "(I)Z" } : MethodName) ∈ lw_g := lw_gm (List.mem_append_right _ (List.mem_append_left _ (List.mem_of_getElem? (i := 53) rfl))) rfl
theorem m1_54 : Cond.code ({ cls := "PunyDesk", name := "put", desc := "(I)Z" } : MethodName) prog_1_method_3_code (3 : Nat) (Option.some FieldType.boolean) ∈ lw_g := lw_gm (List.mem_append_right _ (List.mem_append_left _ (List.mem_of_getElem? (i := 54) rfl))) rfl
theorem m1_55 : Cond.constant "PunyDesk" (33 : Nat) (1112064 : Int32) ∈ lw_g := lw_gm (List.mem_append_right _ (List.mem_append_left _ (List.mem_of_getElem? (i := 55) rfl))) rfl
theorem m1_56 : Cond.methodLink "PunyDesk" (34 : Nat) ({ cls := "PunyDesk", name := "cut", desc := "(II)I" } : MethodName) ∈ lw_g := lw_gm (List.mem_append_right _ (List.mem_append_left _ (List.mem_of_getElem? (i := 56) rfl))) rfl
theorem m1_57 : Cond.static ({ cls := "PunyDesk", name := "cut", desc := "(II)I" } : MethodName) ∈ lw_g := lw_gm (List.mem_append_right _ (List.mem_append_left _ (List.mem_of_getElem? (i := 57) rfl))) rfl
theorem m1_58 : Cond.code ({ cls := "PunyDesk", name := "cut", desc := "(II)I" } : MethodName) prog_1_method_2_code (2 : Nat) (Option.some FieldType.int) ∈ lw_g := lw_gm (List.mem_append_right _ (List.mem_append_left _ (List.mem_of_getElem? (i := 58) rfl))) rfl
theorem m1_59 : Cond.constant "PunyDesk" (32 : Nat) (2147483647 : Int32) ∈ lw_g := lw_gm (List.mem_append_right _ (List.mem_append_left _ (List.mem_of_getElem? (i := 59) rfl))) rfl
theorem m1_60 : Cond.constant "PunyDesk" (38 : Nat) (55296 : Int32) ∈ lw_g := lw_gm (List.mem_append_right _ (List.mem_append_left _ (List.mem_of_getElem? (i := 60) rfl))) rfl
theorem m1_61 : Cond.methodLink "PunyDesk" (39 : Nat) ({ cls := "PunyDesk", name := "add", desc := "(I)Z" } : MethodName) ∈ lw_g := lw_gm (List.mem_append_right _ (List.mem_append_left _ (List.mem_of_getElem? (i := 61) rfl))) rfl
theorem m1_63 : Cond.instanceMethod ({ cls := "PunyDesk", name := "add", desc := "(I)Z" } : MethodName) ∈ lw_g := lw_gm (List.mem_append_right _ (List.mem_append_left _ (List.mem_of_getElem? (i := 63) rfl))) rfl
theorem m1_64 : Cond.code ({ cls := "PunyDesk", name := "add", desc := "(I)Z" } : MethodName) prog_1_method_5_code (2 : Nat) (Option.some FieldType.boolean) ∈ lw_g := lw_gm (List.mem_append_right _ (List.mem_append_left _ (List.mem_of_getElem? (i := 64) rfl))) rfl
theorem m1_65 : Cond.methodLink "PunyDeskLaw" (18 : Nat) ({ cls := "PunyDesk", name := "plain", desc := "(I)Z" } : MethodName) ∈ lw_g := lw_gm (List.mem_append_right _ (List.mem_append_left _ (List.mem_of_getElem? (i := 65) rfl))) rfl
theorem m1_66 : Cond.instanceMethod ({ cls := "PunyDesk", name := "plain", desc := "(I)Z" } : MethodName) ∈ lw_g := lw_gm (List.mem_append_right _ (List.mem_append_left _ (List.mem_of_getElem? (i := 66) rfl))) rfl
theorem m1_67 : Cond.selects "PunyDesk" ({ cls := "PunyDesk", name := "plain", desc := "(I)Z" } : MethodName) ({ cls := "PunyDesk", name := "plain", desc := "(I)Z" } : MethodName) ∈ lw_g := lw_gm (List.mem_append_right _ (List.mem_append_left _ (List.mem_of_getElem? (i := 67) rfl))) rfl
theorem m1_68 : Cond.code ({ cls := "PunyDesk", name := "plain", desc := "(I)Z" } : MethodName) prog_1_method_4_code (2 : Nat) (Option.some FieldType.boolean) ∈ lw_g := lw_gm (List.mem_append_right _ (List.mem_append_left _ (List.mem_of_getElem? (i := 68) rfl))) rfl
theorem m1_69 : Cond.methodLink "PunyDeskLaw" (22 : Nat) ({ cls := "PunyDesk", name := "wipe", desc := "()V" } : MethodName) ∈ lw_g := lw_gm (List.mem_append_right _ (List.mem_append_left _ (List.mem_of_getElem? (i := 69) rfl))) rfl
theorem m1_70 : Cond.instanceMethod ({ cls := "PunyDesk", name := "wipe", desc := "()V" } : MethodName) ∈ lw_g := lw_gm (List.mem_append_right _ (List.mem_append_left _ (List.mem_of_getElem? (i := 70) rfl))) rfl
theorem m1_71 : Cond.selects "PunyDesk" ({ cls := "PunyDesk", name := "wipe", desc := "()V" } : MethodName) ({ cls := "PunyDesk", name := "wipe", desc := "()V" } : MethodName) ∈ lw_g := lw_gm (List.mem_append_right _ (List.mem_append_left _ (List.mem_of_getElem? (i := 71) rfl))) rfl
theorem m1_72 : Cond.code ({ cls := "PunyDesk", name := "wipe", desc := "()V" } : MethodName) prog_1_method_6_code (1 : Nat) (Option.none : Option FieldType) ∈ lw_g := lw_gm (List.mem_append_right _ (List.mem_append_left _ (List.mem_of_getElem? (i := 72) rfl))) rfl
theorem m1_73 : Cond.methodLink "PunyDeskLaw" (26 : Nat) ({ cls := "PunyDesk", name := "write", desc := "()I" } : MethodName) ∈ lw_g := lw_gm (List.mem_append_right _ (List.mem_append_left _ (List.mem_of_getElem? (i := 73) rfl))) rfl
theorem m1_74 : Cond.instanceMethod ({ cls := "PunyDesk", name := "write", desc := "()I" } : MethodName) ∈ lw_g := lw_gm (List.mem_append_right _ (List.mem_append_left _ (List.mem_of_getElem? (i := 74) rfl))) rfl
theorem m1_75 : Cond.selects "PunyDesk" ({ cls := "PunyDesk", name := "write", desc := "()I" } : MethodName) ({ cls := "PunyDesk", name := "write", desc := "()I" } : MethodName) ∈ lw_g := lw_gm (List.mem_append_right _ (List.mem_append_left _ (List.mem_of_getElem? (i := 75) rfl))) rfl
theorem m1_76 : Cond.code ({ cls := "PunyDesk", name := "write", desc := "()I" } : MethodName) prog_1_method_9_code (9 : Nat) (Option.some FieldType.int) ∈ lw_g := lw_gm (List.mem_append_right _ (List.mem_append_left _ (List.mem_of_getElem? (i := 76) rfl))) rfl
theorem m1_77 : Cond.methodLink "PunyDesk" (62 : Nat) ({ cls := "PunyDesk", name := "least", desc := "()I" } : MethodName) ∈ lw_g := lw_gm (List.mem_append_right _ (List.mem_append_left _ (List.mem_of_getElem? (i := 77) rfl))) rfl
theorem m1_79 : Cond.instanceMethod ({ cls := "PunyDesk", name := "least", desc := "()I" } : MethodName) ∈ lw_g := lw_gm (List.mem_append_right _ (List.mem_append_left _ (List.mem_of_getElem? (i := 79) rfl))) rfl
theorem m1_80 : Cond.code ({ cls := "PunyDesk", name := "least", desc := "()I" } : MethodName) prog_1_method_10_code (3 : Nat) (Option.some FieldType.int) ∈ lw_g := lw_gm (List.mem_append_right _ (List.mem_append_left _ (List.mem_of_getElem? (i := 80) rfl))) rfl
theorem m1_81 : Cond.methodLink "PunyDesk" (66 : Nat) ({ cls := "PunyDesk", name := "number", desc := "(II)V" } : MethodName) ∈ lw_g := lw_gm (List.mem_append_right _ (List.mem_append_left _ (List.mem_of_getElem? (i := 81) rfl))) rfl
theorem m1_83 : Cond.instanceMethod ({ cls := "PunyDesk", name := "number", desc := "(II)V" } : MethodName) ∈ lw_g := lw_gm (List.mem_append_right _ (List.mem_append_left _ (List.mem_of_getElem? (i := 83) rfl))) rfl
theorem m1_84 : Cond.code ({ cls := "PunyDesk", name := "number", desc := "(II)V" } : MethodName) prog_1_method_11_code (6 : Nat) (Option.none : Option FieldType) ∈ lw_g := lw_gm (List.mem_append_right _ (List.mem_append_left _ (List.mem_of_getElem? (i := 84) rfl))) rfl
theorem m1_85 : Cond.methodLink "PunyDesk" (74 : Nat) ({ cls := "PunyDesk", name := "threshold", desc := "(II)I" } : MethodName) ∈ lw_g := lw_gm (List.mem_append_right _ (List.mem_append_left _ (List.mem_of_getElem? (i := 85) rfl))) rfl
theorem m1_86 : Cond.static ({ cls := "PunyDesk", name := "threshold", desc := "(II)I" } : MethodName) ∈ lw_g := lw_gm (List.mem_append_right _ (List.mem_append_left _ (List.mem_of_getElem? (i := 86) rfl))) rfl
theorem m1_87 : Cond.code ({ cls := "PunyDesk", name := "threshold", desc := "(II)I" } : MethodName) prog_1_method_7_code (2 : Nat) (Option.some FieldType.int) ∈ lw_g := lw_gm (List.mem_append_right _ (List.mem_append_left _ (List.mem_of_getElem? (i := 87) rfl))) rfl
theorem m1_88 : Cond.methodLink "PunyDesk" (77 : Nat) ({ cls := "PunyDesk", name := "digit", desc := "(I)V" } : MethodName) ∈ lw_g := lw_gm (List.mem_append_right _ (List.mem_append_left _ (List.mem_of_getElem? (i := 88) rfl))) rfl
theorem m1_90 : Cond.instanceMethod ({ cls := "PunyDesk", name := "digit", desc := "(I)V" } : MethodName) ∈ lw_g := lw_gm (List.mem_append_right _ (List.mem_append_left _ (List.mem_of_getElem? (i := 90) rfl))) rfl
theorem m1_91 : Cond.code ({ cls := "PunyDesk", name := "digit", desc := "(I)V" } : MethodName) prog_1_method_12_code (2 : Nat) (Option.none : Option FieldType) ∈ lw_g := lw_gm (List.mem_append_right _ (List.mem_append_left _ (List.mem_of_getElem? (i := 91) rfl))) rfl
theorem m1_92 : Cond.methodLink "PunyDesk" (81 : Nat) ({ cls := "PunyDesk", name := "letterOf", desc := "(I)I" } : MethodName) ∈ lw_g := lw_gm (List.mem_append_right _ (List.mem_append_left _ (List.mem_of_getElem? (i := 92) rfl))) rfl
theorem m1_93 : Cond.static ({ cls := "PunyDesk", name := "letterOf", desc := "(I)I" } : MethodName) ∈ lw_g := lw_gm (List.mem_append_right _ (List.mem_append_left _ (List.mem_of_getElem? (i := 93) rfl))) rfl
theorem m1_94 : Cond.code ({ cls := "PunyDesk", name := "letterOf", desc := "(I)I" } : MethodName) prog_1_method_13_code (1 : Nat) (Option.some FieldType.int) ∈ lw_g := lw_gm (List.mem_append_right _ (List.mem_append_left _ (List.mem_of_getElem? (i := 94) rfl))) rfl
theorem m1_95 : Cond.methodLink "PunyDesk" (70 : Nat) ({ cls := "PunyDesk", name := "adapted", desc := "(JIZ)I" } : MethodName) ∈ lw_g := lw_gm (List.mem_append_right _ (List.mem_append_left _ (List.mem_of_getElem? (i := 95) rfl))) rfl
theorem m1_96 : Cond.static ({ cls := "PunyDesk", name := "adapted", desc := "(JIZ)I" } : MethodName) ∈ lw_g := lw_gm (List.mem_append_right _ (List.mem_append_left _ (List.mem_of_getElem? (i := 96) rfl))) rfl
theorem m1_97 : Cond.code ({ cls := "PunyDesk", name := "adapted", desc := "(JIZ)I" } : MethodName) prog_1_method_8_code (7 : Nat) (Option.some FieldType.int) ∈ lw_g := lw_gm (List.mem_append_right _ (List.mem_append_left _ (List.mem_of_getElem? (i := 97) rfl))) rfl
theorem m1_98 : Cond.constantLong "PunyDesk" (47 : Nat) (700 : Int64) ∈ lw_g := lw_gm (List.mem_append_right _ (List.mem_append_left _ (List.mem_of_getElem? (i := 98) rfl))) rfl
theorem m1_99 : Cond.constantLong "PunyDesk" (49 : Nat) (2 : Int64) ∈ lw_g := lw_gm (List.mem_append_right _ (List.mem_append_left _ (List.mem_of_getElem? (i := 99) rfl))) rfl
theorem m1_100 : Cond.constantLong "PunyDesk" (51 : Nat) (455 : Int64) ∈ lw_g := lw_gm (List.mem_append_right _ (List.mem_append_left _ (List.mem_of_getElem? (i := 100) rfl))) rfl
theorem m1_101 : Cond.constantLong "PunyDesk" (53 : Nat) (35 : Int64) ∈ lw_g := lw_gm (List.mem_append_right _ (List.mem_append_left _ (List.mem_of_getElem? (i := 101) rfl))) rfl
theorem m1_102 : Cond.constantLong "PunyDesk" (55 : Nat) (36 : Int64) ∈ lw_g := lw_gm (List.mem_append_right _ (List.mem_append_left _ (List.mem_of_getElem? (i := 102) rfl))) rfl
theorem m1_103 : Cond.constantLong "PunyDesk" (57 : Nat) (38 : Int64) ∈ lw_g := lw_gm (List.mem_append_right _ (List.mem_append_left _ (List.mem_of_getElem? (i := 103) rfl))) rfl
theorem m1_104 : Cond.methodLink "PunyDeskLaw" (31 : Nat) ({ cls := "PunyDesk", name := "letter", desc := "(I)I" } : MethodName) ∈ lw_g := lw_gm (List.mem_append_right _ (List.mem_append_left _ (List.mem_of_getElem? (i := 104) rfl))) rfl
theorem m1_105 : Cond.instanceMethod ({ cls := "PunyDesk", name := "letter", desc := "(I)I" } : MethodName) ∈ lw_g := lw_gm (List.mem_append_right _ (List.mem_append_left _ (List.mem_of_getElem? (i := 105) rfl))) rfl
theorem m1_106 : Cond.selects "PunyDesk" ({ cls := "PunyDesk", name := "letter", desc := "(I)I" } : MethodName) ({ cls := "PunyDesk", name := "letter", desc := "(I)I" } : MethodName) ∈ lw_g := lw_gm (List.mem_append_right _ (List.mem_append_left _ (List.mem_of_getElem? (i := 106) rfl))) rfl
theorem m1_107 : Cond.code ({ cls := "PunyDesk", name := "letter", desc := "(I)I" } : MethodName) prog_1_method_15_code (2 : Nat) (Option.some FieldType.int) ∈ lw_g := lw_gm (List.mem_append_right _ (List.mem_append_left _ (List.mem_of_getElem? (i := 107) rfl))) rfl
theorem m1_108 : Cond.methodLink "PunyDesk" (85 : Nat) ({ cls := "PunyDesk", name := "pick", desc := "([III)I" } : MethodName) ∈ lw_g := lw_gm (List.mem_append_right _ (List.mem_append_left _ (List.mem_of_getElem? (i := 108) rfl))) rfl
theorem m1_109 : Cond.static ({ cls := "PunyDesk", name := "pick", desc := "([III)I" } : MethodName) ∈ lw_g := lw_gm (List.mem_append_right _ (List.mem_append_left _ (List.mem_of_getElem? (i := 109) rfl))) rfl
theorem m1_110 : Cond.code ({ cls := "PunyDesk", name := "pick", desc := "([III)I" } : MethodName) prog_1_method_14_code (3 : Nat) (Option.some FieldType.int) ∈ lw_g := lw_gm (List.mem_append_right _ (List.mem_append_left _ (List.mem_of_getElem? (i := 110) rfl))) rfl
theorem m1_111 : Cond.methodLink "PunyDeskLaw" (36 : Nat) ({ cls := "PunyDesk", name := "line", desc := "(IIII)Z" } : MethodName) ∈ lw_g := lw_gm (List.mem_append_right _ (List.mem_append_left _ (List.mem_of_getElem? (i := 111) rfl))) rfl
theorem m1_112 : Cond.instanceMethod ({ cls := "PunyDesk", name := "line", desc := "(IIII)Z" } : MethodName) ∈ lw_g := lw_gm (List.mem_append_right _ (List.mem_append_left _ (List.mem_of_getElem? (i := 112) rfl))) rfl
theorem m1_113 : Cond.selects "PunyDesk" ({ cls := "PunyDesk", name := "line", desc := "(IIII)Z" } : MethodName) ({ cls := "PunyDesk", name := "line", desc := "(IIII)Z" } : MethodName) ∈ lw_g := lw_gm (List.mem_append_right _ (List.mem_append_left _ (List.mem_of_getElem? (i := 113) rfl))) rfl
theorem m1_114 : Cond.code ({ cls := "PunyDesk", name := "line", desc := "(IIII)Z" } : MethodName) prog_1_method_16_code (5 : Nat) (Option.some FieldType.boolean) ∈ lw_g := lw_gm (List.mem_append_right _ (List.mem_append_left _ (List.mem_of_getElem? (i := 114) rfl))) rfl
theorem m1_115 : Cond.methodLink "PunyDesk" (92 : Nat) ({ cls := "PunyDesk", name := "behind", desc := "(I)V" } : MethodName) ∈ lw_g := lw_gm (List.mem_append_right _ (List.mem_append_left _ (List.mem_of_getElem? (i := 115) rfl))) rfl
theorem m1_117 : Cond.instanceMethod ({ cls := "PunyDesk", name := "behind", desc := "(I)V" } : MethodName) ∈ lw_g := lw_gm (List.mem_append_right _ (List.mem_append_left _ (List.mem_of_getElem? (i := 117) rfl))) rfl
theorem m1_118 : Cond.code ({ cls := "PunyDesk", name := "behind", desc := "(I)V" } : MethodName) prog_1_method_17_code (3 : Nat) (Option.none : Option FieldType) ∈ lw_g := lw_gm (List.mem_append_right _ (List.mem_append_left _ (List.mem_of_getElem? (i := 118) rfl))) rfl
theorem m1_119 : Cond.methodLink "PunyDeskLaw" (41 : Nat) ({ cls := "PunyDesk", name := "clear", desc := "()V" } : MethodName) ∈ lw_g := lw_gm (List.mem_append_right _ (List.mem_append_left _ (List.mem_of_getElem? (i := 119) rfl))) rfl
theorem m1_120 : Cond.instanceMethod ({ cls := "PunyDesk", name := "clear", desc := "()V" } : MethodName) ∈ lw_g := lw_gm (List.mem_append_right _ (List.mem_append_left _ (List.mem_of_getElem? (i := 120) rfl))) rfl
theorem m1_121 : Cond.selects "PunyDesk" ({ cls := "PunyDesk", name := "clear", desc := "()V" } : MethodName) ({ cls := "PunyDesk", name := "clear", desc := "()V" } : MethodName) ∈ lw_g := lw_gm (List.mem_append_right _ (List.mem_append_left _ (List.mem_of_getElem? (i := 121) rfl))) rfl
theorem m1_122 : Cond.code ({ cls := "PunyDesk", name := "clear", desc := "()V" } : MethodName) prog_1_method_18_code (1 : Nat) (Option.none : Option FieldType) ∈ lw_g := lw_gm (List.mem_append_right _ (List.mem_append_left _ (List.mem_of_getElem? (i := 122) rfl))) rfl
theorem m1_123 : Cond.methodLink "PunyDeskLaw" (45 : Nat) ({ cls := "PunyDesk", name := "copy", desc := "()V" } : MethodName) ∈ lw_g := lw_gm (List.mem_append_right _ (List.mem_append_left _ (List.mem_of_getElem? (i := 123) rfl))) rfl
theorem m1_124 : Cond.instanceMethod ({ cls := "PunyDesk", name := "copy", desc := "()V" } : MethodName) ∈ lw_g := lw_gm (List.mem_append_right _ (List.mem_append_left _ (List.mem_of_getElem? (i := 124) rfl))) rfl
theorem m1_125 : Cond.selects "PunyDesk" ({ cls := "PunyDesk", name := "copy", desc := "()V" } : MethodName) ({ cls := "PunyDesk", name := "copy", desc := "()V" } : MethodName) ∈ lw_g := lw_gm (List.mem_append_right _ (List.mem_append_left _ (List.mem_of_getElem? (i := 125) rfl))) rfl
theorem m1_126 : Cond.code ({ cls := "PunyDesk", name := "copy", desc := "()V" } : MethodName) prog_1_method_19_code (2 : Nat) (Option.none : Option FieldType) ∈ lw_g := lw_gm (List.mem_append_right _ (List.mem_append_left _ (List.mem_of_getElem? (i := 126) rfl))) rfl
theorem m1_127 : Cond.methodLink "PunyDesk" (95 : Nat) ({ cls := "java/lang/Math", name := "min", desc := "(II)I" } : MethodName) ∈ lw_g := lw_gm (List.mem_append_right _ (List.mem_append_left _ (List.mem_of_getElem? (i := 127) rfl))) rfl
theorem m1_128 : Cond.static ({ cls := "java/lang/Math", name := "min", desc := "(II)I" } : MethodName) ∈ lw_g := lw_gm (List.mem_append_right _ (List.mem_append_left _ (List.mem_of_getElem? (i := 128) rfl))) rfl
theorem m1_129 : Cond.code ({ cls := "java/lang/Math", name := "min", desc := "(II)I" } : MethodName) prog_4_method_69_code (2 : Nat) (Option.some FieldType.int) ∈ lw_g := lw_gm (List.mem_append_right _ (List.mem_append_left _ (List.mem_of_getElem? (i := 129) rfl))) rfl
theorem m1_130 : Cond.methodLink "PunyDeskLaw" (49 : Nat) ({ cls := "PunyDesk", name := "read", desc := "()I" } : MethodName) ∈ lw_g := lw_gm (List.mem_append_right _ (List.mem_append_left _ (List.mem_of_getElem? (i := 130) rfl))) rfl
theorem m1_131 : Cond.instanceMethod ({ cls := "PunyDesk", name := "read", desc := "()I" } : MethodName) ∈ lw_g := lw_gm (List.mem_append_right _ (List.mem_append_left _ (List.mem_of_getElem? (i := 131) rfl))) rfl
theorem m1_132 : Cond.selects "PunyDesk" ({ cls := "PunyDesk", name := "read", desc := "()I" } : MethodName) ({ cls := "PunyDesk", name := "read", desc := "()I" } : MethodName) ∈ lw_g := lw_gm (List.mem_append_right _ (List.mem_append_left _ (List.mem_of_getElem? (i := 132) rfl))) rfl
theorem m1_133 : Cond.code ({ cls := "PunyDesk", name := "read", desc := "()I" } : MethodName) prog_1_method_20_code (11 : Nat) (Option.some FieldType.int) ∈ lw_g := lw_gm (List.mem_append_right _ (List.mem_append_left _ (List.mem_of_getElem? (i := 133) rfl))) rfl
theorem m1_134 : Cond.methodLink "PunyDesk" (100 : Nat) ({ cls := "java/lang/Math", name := "max", desc := "(II)I" } : MethodName) ∈ lw_g := lw_gm (List.mem_append_right _ (List.mem_append_left _ (List.mem_of_getElem? (i := 134) rfl))) rfl
theorem m1_135 : Cond.static ({ cls := "java/lang/Math", name := "max", desc := "(II)I" } : MethodName) ∈ lw_g := lw_gm (List.mem_append_right _ (List.mem_append_left _ (List.mem_of_getElem? (i := 135) rfl))) rfl
theorem m1_136 : Cond.code ({ cls := "java/lang/Math", name := "max", desc := "(II)I" } : MethodName) prog_4_method_65_code (2 : Nat) (Option.some FieldType.int) ∈ lw_g := lw_gm (List.mem_append_right _ (List.mem_append_left _ (List.mem_of_getElem? (i := 136) rfl))) rfl
theorem m1_137 : Cond.methodLink "PunyDesk" (103 : Nat) ({ cls := "PunyDesk", name := "put", desc := "(III)V" } : MethodName) ∈ lw_g := lw_gm (List.mem_append_right _ (List.mem_append_left _ (List.mem_of_getElem? (i := 137) rfl))) rfl
theorem m1_139 : Cond.instanceMethod ({ cls := "PunyDesk", name := "put", desc := "(III)V" } : MethodName) ∈ lw_g := lw_gm (List.mem_append_right _ (List.mem_append_left _ (List.mem_of_getElem? (i := 139) rfl))) rfl
theorem m1_140 : Cond.code ({ cls := "PunyDesk", name := "put", desc := "(III)V" } : MethodName) prog_1_method_22_code (6 : Nat) (Option.none : Option FieldType) ∈ lw_g := lw_gm (List.mem_append_right _ (List.mem_append_left _ (List.mem_of_getElem? (i := 140) rfl))) rfl
theorem m1_141 : Cond.constantLong "PunyDesk" (110 : Nat) (128 : Int64) ∈ lw_g := lw_gm (List.mem_append_right _ (List.mem_append_left _ (List.mem_of_getElem? (i := 141) rfl))) rfl
theorem m1_142 : Cond.methodLink "PunyDesk" (112 : Nat) ({ cls := "PunyDesk", name := "told", desc := "(JI)J" } : MethodName) ∈ lw_g := lw_gm (List.mem_append_right _ (List.mem_append_left _ (List.mem_of_getElem? (i := 142) rfl))) rfl
theorem m1_144 : Cond.instanceMethod ({ cls := "PunyDesk", name := "told", desc := "(JI)J" } : MethodName) ∈ lw_g := lw_gm (List.mem_append_right _ (List.mem_append_left _ (List.mem_of_getElem? (i := 144) rfl))) rfl
theorem m1_145 : Cond.code ({ cls := "PunyDesk", name := "told", desc := "(JI)J" } : MethodName) prog_1_method_23_code (11 : Nat) (Option.some FieldType.long) ∈ lw_g := lw_gm (List.mem_append_right _ (List.mem_append_left _ (List.mem_of_getElem? (i := 145) rfl))) rfl
theorem m1_146 : Cond.methodLink "PunyDesk" (128 : Nat) ({ cls := "PunyDesk", name := "digitOf", desc := "(I)I" } : MethodName) ∈ lw_g := lw_gm (List.mem_append_right _ (List.mem_append_left _ (List.mem_of_getElem? (i := 146) rfl))) rfl
theorem m1_147 : Cond.static ({ cls := "PunyDesk", name := "digitOf", desc := "(I)I" } : MethodName) ∈ lw_g := lw_gm (List.mem_append_right _ (List.mem_append_left _ (List.mem_of_getElem? (i := 147) rfl))) rfl
theorem m1_148 : Cond.code ({ cls := "PunyDesk", name := "digitOf", desc := "(I)I" } : MethodName) prog_1_method_24_code (1 : Nat) (Option.some FieldType.int) ∈ lw_g := lw_gm (List.mem_append_right _ (List.mem_append_left _ (List.mem_of_getElem? (i := 148) rfl))) rfl
theorem m1_149 : Cond.constantLong "PunyDesk" (131 : Nat) (-1 : Int64) ∈ lw_g := lw_gm (List.mem_append_right _ (List.mem_append_left _ (List.mem_of_getElem? (i := 149) rfl))) rfl
theorem m1_150 : Cond.constantLong "PunyDesk" (133 : Nat) (2147483647 : Int64) ∈ lw_g := lw_gm (List.mem_append_right _ (List.mem_append_left _ (List.mem_of_getElem? (i := 150) rfl))) rfl
theorem m1_151 : Cond.methodLink "PunyDesk" (116 : Nat) ({ cls := "PunyDesk", name := "refused", desc := "()I" } : MethodName) ∈ lw_g := lw_gm (List.mem_append_right _ (List.mem_append_left _ (List.mem_of_getElem? (i := 151) rfl))) rfl
theorem m1_153 : Cond.instanceMethod ({ cls := "PunyDesk", name := "refused", desc := "()I" } : MethodName) ∈ lw_g := lw_gm (List.mem_append_right _ (List.mem_append_left _ (List.mem_of_getElem? (i := 153) rfl))) rfl
theorem m1_154 : Cond.code ({ cls := "PunyDesk", name := "refused", desc := "()I" } : MethodName) prog_1_method_21_code (1 : Nat) (Option.some FieldType.int) ∈ lw_g := lw_gm (List.mem_append_right _ (List.mem_append_left _ (List.mem_of_getElem? (i := 154) rfl))) rfl
theorem m1_155 : Cond.constantLong "PunyDesk" (119 : Nat) (1114111 : Int64) ∈ lw_g := lw_gm (List.mem_append_right _ (List.mem_append_left _ (List.mem_of_getElem? (i := 155) rfl))) rfl
theorem m1_156 : Cond.constantLong "PunyDesk" (121 : Nat) (55296 : Int64) ∈ lw_g := lw_gm (List.mem_append_right _ (List.mem_append_left _ (List.mem_of_getElem? (i := 156) rfl))) rfl
theorem m1_157 : Cond.constantLong "PunyDesk" (123 : Nat) (57344 : Int64) ∈ lw_g := lw_gm (List.mem_append_right _ (List.mem_append_left _ (List.mem_of_getElem? (i := 157) rfl))) rfl
theorem m1_158 : Cond.methodLink "PunyDeskLaw" (53 : Nat) ({ cls := "PunyDesk", name := "sign", desc := "(I)I" } : MethodName) ∈ lw_g := lw_gm (List.mem_append_right _ (List.mem_append_left _ (List.mem_of_getElem? (i := 158) rfl))) rfl
theorem m1_159 : Cond.instanceMethod ({ cls := "PunyDesk", name := "sign", desc := "(I)I" } : MethodName) ∈ lw_g := lw_gm (List.mem_append_right _ (List.mem_append_left _ (List.mem_of_getElem? (i := 159) rfl))) rfl
theorem m1_160 : Cond.selects "PunyDesk" ({ cls := "PunyDesk", name := "sign", desc := "(I)I" } : MethodName) ({ cls := "PunyDesk", name := "sign", desc := "(I)I" } : MethodName) ∈ lw_g := lw_gm (List.mem_append_right _ (List.mem_append_left _ (List.mem_of_getElem? (i := 160) rfl))) rfl
theorem m1_161 : Cond.code ({ cls := "PunyDesk", name := "sign", desc := "(I)I" } : MethodName) prog_1_method_25_code (2 : Nat) (Option.some FieldType.int) ∈ lw_g := lw_gm (List.mem_append_right _ (List.mem_append_left _ (List.mem_of_getElem? (i := 161) rfl))) rfl
theorem m1_162 : Cond.classLink "PunyDeskLaw" (10 : Nat) "PunyDeskModel" ∈ lw_g := lw_gm (List.mem_append_right _ (List.mem_append_left _ (List.mem_of_getElem? (i := 162) rfl))) rfl
theorem m1_163 : Cond.instantiable "PunyDeskModel" (8 : Nat) ∈ lw_g := lw_gm (List.mem_append_right _ (List.mem_append_left _ (List.mem_of_getElem? (i := 163) rfl))) rfl
theorem m1_164 : Cond.methodLink "PunyDeskLaw" (12 : Nat) ({ cls := "PunyDeskModel", name := "<init>", desc := "()V" } : MethodName) ∈ lw_g := lw_gm (List.mem_append_right _ (List.mem_append_left _ (List.mem_of_getElem? (i := 164) rfl))) rfl
theorem m1_165 : Cond.instanceMethod ({ cls := "PunyDeskModel", name := "<init>", desc := "()V" } : MethodName) ∈ lw_g := lw_gm (List.mem_append_right _ (List.mem_append_left _ (List.mem_of_getElem? (i := 165) rfl))) rfl
theorem m1_166 : Cond.code ({ cls := "PunyDeskModel", name := "<init>", desc := "()V" } : MethodName) prog_3_method_1_code (1 : Nat) (Option.none : Option FieldType) ∈ lw_g := lw_gm (List.mem_append_right _ (List.mem_append_left _ (List.mem_of_getElem? (i := 166) rfl))) rfl
theorem m1_167 : Cond.methodLink "PunyDeskModel" (1 : Nat) ({ cls := "java/lang/Object", name := "<init>", desc := "()V" } : MethodName) ∈ lw_g := lw_gm (List.mem_append_right _ (List.mem_append_left _ (List.mem_of_getElem? (i := 167) rfl))) rfl
theorem m1_168 : Cond.fieldLink "PunyDeskModel" (7 : Nat) "PunyDeskModel" "sign" "[I" ∈ lw_g := lw_gm (List.mem_append_right _ (List.mem_append_left _ (List.mem_of_getElem? (i := 168) rfl))) rfl
theorem m1_169 : Cond.fieldLink "PunyDeskModel" (24 : Nat) "PunyDeskModel" "n" "I" ∈ lw_g := lw_gm (List.mem_append_right _ (List.mem_append_left _ (List.mem_of_getElem? (i := 169) rfl))) rfl
theorem m1_170 : Cond.fieldLink "PunyDeskModel" (13 : Nat) "PunyDeskModel" "out" "[I" ∈ lw_g := lw_gm (List.mem_append_right _ (List.mem_append_left _ (List.mem_of_getElem? (i := 170) rfl))) rfl
theorem m1_171 : Cond.fieldLink "PunyDeskModel" (29 : Nat) "PunyDeskModel" "length" "I" ∈ lw_g := lw_gm (List.mem_append_right _ (List.mem_append_left _ (List.mem_of_getElem? (i := 171) rfl))) rfl
theorem m1_172 : Cond.fieldLink "PunyDeskModel" (16 : Nat) "PunyDeskModel" "line" "[I" ∈ lw_g := lw_gm (List.mem_append_right _ (List.mem_append_left _ (List.mem_of_getElem? (i := 172) rfl))) rfl
theorem m1_173 : Cond.fieldLink "PunyDeskModel" (41 : Nat) "PunyDeskModel" "m" "I" ∈ lw_g := lw_gm (List.mem_append_right _ (List.mem_append_left _ (List.mem_of_getElem? (i := 173) rfl))) rfl
theorem m1_174 : Cond.fieldLink "PunyDeskModel" (19 : Nat) "PunyDeskModel" "back" "[I" ∈ lw_g := lw_gm (List.mem_append_right _ (List.mem_append_left _ (List.mem_of_getElem? (i := 174) rfl))) rfl
theorem m1_175 : Cond.fieldLink "PunyDeskModel" (44 : Nat) "PunyDeskModel" "shown" "I" ∈ lw_g := lw_gm (List.mem_append_right _ (List.mem_append_left _ (List.mem_of_getElem? (i := 175) rfl))) rfl
theorem m1_176 : Cond.laysFinal "PunyDeskModel" "PunyDeskModel" "sign" "[I" ∈ lw_g := lw_gm (List.mem_append_right _ (List.mem_append_left _ (List.mem_of_getElem? (i := 176) rfl))) rfl
theorem m1_178 : Cond.lays "PunyDeskModel" "PunyDeskModel" "n" "I" ∈ lw_g := lw_gm (List.mem_append_right _ (List.mem_append_left _ (List.mem_of_getElem? (i := 178) rfl))) rfl
theorem m1_180 : Cond.laysFinal "PunyDeskModel" "PunyDeskModel" "out" "[I" ∈ lw_g := lw_gm (List.mem_append_right _ (List.mem_append_left _ (List.mem_of_getElem? (i := 180) rfl))) rfl
theorem m1_182 : Cond.lays "PunyDeskModel" "PunyDeskModel" "length" "I" ∈ lw_g := lw_gm (List.mem_append_right _ (List.mem_append_left _ (List.mem_of_getElem? (i := 182) rfl))) rfl
theorem m1_184 : Cond.laysFinal "PunyDeskModel" "PunyDeskModel" "line" "[I" ∈ lw_g := lw_gm (List.mem_append_right _ (List.mem_append_left _ (List.mem_of_getElem? (i := 184) rfl))) rfl
theorem m1_186 : Cond.lays "PunyDeskModel" "PunyDeskModel" "m" "I" ∈ lw_g := lw_gm (List.mem_append_right _ (List.mem_append_left _ (List.mem_of_getElem? (i := 186) rfl))) rfl
theorem m1_188 : Cond.laysFinal "PunyDeskModel" "PunyDeskModel" "back" "[I" ∈ lw_g := lw_gm (List.mem_append_right _ (List.mem_append_left _ (List.mem_of_getElem? (i := 188) rfl))) rfl
theorem m1_190 : Cond.lays "PunyDeskModel" "PunyDeskModel" "shown" "I" ∈ lw_g := lw_gm (List.mem_append_right _ (List.mem_append_left _ (List.mem_of_getElem? (i := 190) rfl))) rfl
theorem m1_193 : Cond.methodLink "PunyDeskLaw" (17 : Nat) ({ cls := "PunyDeskModel", name := "put", desc := "(I)Z" } : MethodName) ∈ lw_g := lw_gm (List.mem_append_right _ (List.mem_append_left _ (List.mem_of_getElem? (i := 193) rfl))) rfl
theorem m1_194 : Cond.instanceMethod ({ cls := "PunyDeskModel", name := "put", desc := "(I)Z" } : MethodName) ∈ lw_g := lw_gm (List.mem_append_right _ (List.mem_append_left _ (List.mem_of_getElem? (i := 194) rfl))) rfl
theorem m1_195 : Cond.selects "PunyDeskModel" ({ cls := "PunyDeskModel", name := "put", desc := "(I)Z" } : MethodName) ({ cls := "PunyDeskModel", name := "put", desc := "(I)Z" } : MethodName) ∈ lw_g := lw_gm (List.mem_append_right _ (List.mem_append_left _ (List.mem_of_getElem? (i := 195) rfl))) rfl
theorem m1_196 : Cond.code ({ cls := "PunyDeskModel", name := "put", desc := "(I)Z" } : MethodName) prog_3_method_2_code (3 : Nat) (Option.some FieldType.boolean) ∈ lw_g := lw_gm (List.mem_append_right _ (List.mem_append_left _ (List.mem_of_getElem? (i := 196) rfl))) rfl
theorem m1_197 : Cond.constant "PunyDeskModel" (22 : Nat) (2147483647 : Int32) ∈ lw_g := lw_gm (List.mem_append_right _ (List.mem_append_left _ (List.mem_of_getElem? (i := 197) rfl))) rfl
theorem m1_198 : Cond.constant "PunyDeskModel" (23 : Nat) (1112064 : Int32) ∈ lw_g := lw_gm (List.mem_append_right _ (List.mem_append_left _ (List.mem_of_getElem? (i := 198) rfl))) rfl
theorem m1_199 : Cond.constant "PunyDeskModel" (28 : Nat) (55296 : Int32) ∈ lw_g := lw_gm (List.mem_append_right _ (List.mem_append_left _ (List.mem_of_getElem? (i := 199) rfl))) rfl
theorem m1_200 : Cond.methodLink "PunyDeskLaw" (21 : Nat) ({ cls := "PunyDeskModel", name := "plain", desc := "(I)Z" } : MethodName) ∈ lw_g := lw_gm (List.mem_append_right _ (List.mem_append_left _ (List.mem_of_getElem? (i := 200) rfl))) rfl
theorem m1_201 : Cond.instanceMethod ({ cls := "PunyDeskModel", name := "plain", desc := "(I)Z" } : MethodName) ∈ lw_g := lw_gm (List.mem_append_right _ (List.mem_append_left _ (List.mem_of_getElem? (i := 201) rfl))) rfl
theorem m1_202 : Cond.selects "PunyDeskModel" ({ cls := "PunyDeskModel", name := "plain", desc := "(I)Z" } : MethodName) ({ cls := "PunyDeskModel", name := "plain", desc := "(I)Z" } : MethodName) ∈ lw_g := lw_gm (List.mem_append_right _ (List.mem_append_left _ (List.mem_of_getElem? (i := 202) rfl))) rfl
theorem m1_203 : Cond.code ({ cls := "PunyDeskModel", name := "plain", desc := "(I)Z" } : MethodName) prog_3_method_3_code (2 : Nat) (Option.some FieldType.boolean) ∈ lw_g := lw_gm (List.mem_append_right _ (List.mem_append_left _ (List.mem_of_getElem? (i := 203) rfl))) rfl
theorem m1_204 : Cond.methodLink "PunyDeskLaw" (25 : Nat) ({ cls := "PunyDeskModel", name := "wipe", desc := "()V" } : MethodName) ∈ lw_g := lw_gm (List.mem_append_right _ (List.mem_append_left _ (List.mem_of_getElem? (i := 204) rfl))) rfl
theorem m1_205 : Cond.instanceMethod ({ cls := "PunyDeskModel", name := "wipe", desc := "()V" } : MethodName) ∈ lw_g := lw_gm (List.mem_append_right _ (List.mem_append_left _ (List.mem_of_getElem? (i := 205) rfl))) rfl
theorem m1_206 : Cond.selects "PunyDeskModel" ({ cls := "PunyDeskModel", name := "wipe", desc := "()V" } : MethodName) ({ cls := "PunyDeskModel", name := "wipe", desc := "()V" } : MethodName) ∈ lw_g := lw_gm (List.mem_append_right _ (List.mem_append_left _ (List.mem_of_getElem? (i := 206) rfl))) rfl
theorem m1_207 : Cond.code ({ cls := "PunyDeskModel", name := "wipe", desc := "()V" } : MethodName) prog_3_method_4_code (1 : Nat) (Option.none : Option FieldType) ∈ lw_g := lw_gm (List.mem_append_right _ (List.mem_append_left _ (List.mem_of_getElem? (i := 207) rfl))) rfl
theorem m1_208 : Cond.methodLink "PunyDeskLaw" (30 : Nat) ({ cls := "PunyDeskModel", name := "write", desc := "()I" } : MethodName) ∈ lw_g := lw_gm (List.mem_append_right _ (List.mem_append_left _ (List.mem_of_getElem? (i := 208) rfl))) rfl
theorem m1_209 : Cond.instanceMethod ({ cls := "PunyDeskModel", name := "write", desc := "()I" } : MethodName) ∈ lw_g := lw_gm (List.mem_append_right _ (List.mem_append_left _ (List.mem_of_getElem? (i := 209) rfl))) rfl
theorem m1_210 : Cond.selects "PunyDeskModel" ({ cls := "PunyDeskModel", name := "write", desc := "()I" } : MethodName) ({ cls := "PunyDeskModel", name := "write", desc := "()I" } : MethodName) ∈ lw_g := lw_gm (List.mem_append_right _ (List.mem_append_left _ (List.mem_of_getElem? (i := 210) rfl))) rfl
theorem m1_211 : Cond.code ({ cls := "PunyDeskModel", name := "write", desc := "()I" } : MethodName) prog_3_method_7_code (14 : Nat) (Option.some FieldType.int) ∈ lw_g := lw_gm (List.mem_append_right _ (List.mem_append_left _ (List.mem_of_getElem? (i := 211) rfl))) rfl
theorem m1_212 : Cond.constant "PunyDeskModel" (32 : Nat) (1114112 : Int32) ∈ lw_g := lw_gm (List.mem_append_right _ (List.mem_append_left _ (List.mem_of_getElem? (i := 212) rfl))) rfl
theorem m1_213 : Cond.methodLink "PunyDeskModel" (33 : Nat) ({ cls := "PunyDeskModel", name := "digit", desc := "(I)I" } : MethodName) ∈ lw_g := lw_gm (List.mem_append_right _ (List.mem_append_left _ (List.mem_of_getElem? (i := 213) rfl))) rfl
theorem m1_214 : Cond.static ({ cls := "PunyDeskModel", name := "digit", desc := "(I)I" } : MethodName) ∈ lw_g := lw_gm (List.mem_append_right _ (List.mem_append_left _ (List.mem_of_getElem? (i := 214) rfl))) rfl
theorem m1_215 : Cond.code ({ cls := "PunyDeskModel", name := "digit", desc := "(I)I" } : MethodName) prog_3_method_6_code (1 : Nat) (Option.some FieldType.int) ∈ lw_g := lw_gm (List.mem_append_right _ (List.mem_append_left _ (List.mem_of_getElem? (i := 215) rfl))) rfl
theorem m1_216 : Cond.methodLink "PunyDeskModel" (37 : Nat) ({ cls := "PunyDeskModel", name := "adapt", desc := "(IIZ)I" } : MethodName) ∈ lw_g := lw_gm (List.mem_append_right _ (List.mem_append_left _ (List.mem_of_getElem? (i := 216) rfl))) rfl
theorem m1_217 : Cond.static ({ cls := "PunyDeskModel", name := "adapt", desc := "(IIZ)I" } : MethodName) ∈ lw_g := lw_gm (List.mem_append_right _ (List.mem_append_left _ (List.mem_of_getElem? (i := 217) rfl))) rfl
theorem m1_218 : Cond.code ({ cls := "PunyDeskModel", name := "adapt", desc := "(IIZ)I" } : MethodName) prog_3_method_5_code (5 : Nat) (Option.some FieldType.int) ∈ lw_g := lw_gm (List.mem_append_right _ (List.mem_append_left _ (List.mem_of_getElem? (i := 218) rfl))) rfl
theorem m1_219 : Cond.methodLink "PunyDeskLaw" (35 : Nat) ({ cls := "PunyDeskModel", name := "letter", desc := "(I)I" } : MethodName) ∈ lw_g := lw_gm (List.mem_append_right _ (List.mem_append_left _ (List.mem_of_getElem? (i := 219) rfl))) rfl
theorem m1_220 : Cond.instanceMethod ({ cls := "PunyDeskModel", name := "letter", desc := "(I)I" } : MethodName) ∈ lw_g := lw_gm (List.mem_append_right _ (List.mem_append_left _ (List.mem_of_getElem? (i := 220) rfl))) rfl
theorem m1_221 : Cond.selects "PunyDeskModel" ({ cls := "PunyDeskModel", name := "letter", desc := "(I)I" } : MethodName) ({ cls := "PunyDeskModel", name := "letter", desc := "(I)I" } : MethodName) ∈ lw_g := lw_gm (List.mem_append_right _ (List.mem_append_left _ (List.mem_of_getElem? (i := 221) rfl))) rfl
theorem m1_222 : Cond.code ({ cls := "PunyDeskModel", name := "letter", desc := "(I)I" } : MethodName) prog_3_method_8_code (2 : Nat) (Option.some FieldType.int) ∈ lw_g := lw_gm (List.mem_append_right _ (List.mem_append_left _ (List.mem_of_getElem? (i := 222) rfl))) rfl
theorem m1_223 : Cond.methodLink "PunyDeskLaw" (40 : Nat) ({ cls := "PunyDeskModel", name := "line", desc := "(IIII)Z" } : MethodName) ∈ lw_g := lw_gm (List.mem_append_right _ (List.mem_append_left _ (List.mem_of_getElem? (i := 223) rfl))) rfl
theorem m1_224 : Cond.instanceMethod ({ cls := "PunyDeskModel", name := "line", desc := "(IIII)Z" } : MethodName) ∈ lw_g := lw_gm (List.mem_append_right _ (List.mem_append_left _ (List.mem_of_getElem? (i := 224) rfl))) rfl
theorem m1_225 : Cond.selects "PunyDeskModel" ({ cls := "PunyDeskModel", name := "line", desc := "(IIII)Z" } : MethodName) ({ cls := "PunyDeskModel", name := "line", desc := "(IIII)Z" } : MethodName) ∈ lw_g := lw_gm (List.mem_append_right _ (List.mem_append_left _ (List.mem_of_getElem? (i := 225) rfl))) rfl
theorem m1_226 : Cond.code ({ cls := "PunyDeskModel", name := "line", desc := "(IIII)Z" } : MethodName) prog_3_method_9_code (7 : Nat) (Option.some FieldType.boolean) ∈ lw_g := lw_gm (List.mem_append_right _ (List.mem_append_left _ (List.mem_of_getElem? (i := 226) rfl))) rfl
theorem m1_227 : Cond.methodLink "PunyDeskLaw" (44 : Nat) ({ cls := "PunyDeskModel", name := "clear", desc := "()V" } : MethodName) ∈ lw_g := lw_gm (List.mem_append_right _ (List.mem_append_left _ (List.mem_of_getElem? (i := 227) rfl))) rfl
theorem m1_228 : Cond.instanceMethod ({ cls := "PunyDeskModel", name := "clear", desc := "()V" } : MethodName) ∈ lw_g := lw_gm (List.mem_append_right _ (List.mem_append_left _ (List.mem_of_getElem? (i := 228) rfl))) rfl
theorem m1_229 : Cond.selects "PunyDeskModel" ({ cls := "PunyDeskModel", name := "clear", desc := "()V" } : MethodName) ({ cls := "PunyDeskModel", name := "clear", desc := "()V" } : MethodName) ∈ lw_g := lw_gm (List.mem_append_right _ (List.mem_append_left _ (List.mem_of_getElem? (i := 229) rfl))) rfl
theorem m1_230 : Cond.code ({ cls := "PunyDeskModel", name := "clear", desc := "()V" } : MethodName) prog_3_method_10_code (1 : Nat) (Option.none : Option FieldType) ∈ lw_g := lw_gm (List.mem_append_right _ (List.mem_append_left _ (List.mem_of_getElem? (i := 230) rfl))) rfl
theorem m1_231 : Cond.methodLink "PunyDeskLaw" (48 : Nat) ({ cls := "PunyDeskModel", name := "copy", desc := "()V" } : MethodName) ∈ lw_g := lw_gm (List.mem_append_right _ (List.mem_append_left _ (List.mem_of_getElem? (i := 231) rfl))) rfl
theorem m1_232 : Cond.instanceMethod ({ cls := "PunyDeskModel", name := "copy", desc := "()V" } : MethodName) ∈ lw_g := lw_gm (List.mem_append_right _ (List.mem_append_left _ (List.mem_of_getElem? (i := 232) rfl))) rfl
theorem m1_233 : Cond.selects "PunyDeskModel" ({ cls := "PunyDeskModel", name := "copy", desc := "()V" } : MethodName) ({ cls := "PunyDeskModel", name := "copy", desc := "()V" } : MethodName) ∈ lw_g := lw_gm (List.mem_append_right _ (List.mem_append_left _ (List.mem_of_getElem? (i := 233) rfl))) rfl
theorem m1_234 : Cond.code ({ cls := "PunyDeskModel", name := "copy", desc := "()V" } : MethodName) prog_3_method_11_code (2 : Nat) (Option.none : Option FieldType) ∈ lw_g := lw_gm (List.mem_append_right _ (List.mem_append_left _ (List.mem_of_getElem? (i := 234) rfl))) rfl
theorem m1_235 : Cond.methodLink "PunyDeskLaw" (52 : Nat) ({ cls := "PunyDeskModel", name := "read", desc := "()I" } : MethodName) ∈ lw_g := lw_gm (List.mem_append_right _ (List.mem_append_left _ (List.mem_of_getElem? (i := 235) rfl))) rfl
theorem m1_236 : Cond.instanceMethod ({ cls := "PunyDeskModel", name := "read", desc := "()I" } : MethodName) ∈ lw_g := lw_gm (List.mem_append_right _ (List.mem_append_left _ (List.mem_of_getElem? (i := 236) rfl))) rfl
theorem m1_237 : Cond.selects "PunyDeskModel" ({ cls := "PunyDeskModel", name := "read", desc := "()I" } : MethodName) ({ cls := "PunyDeskModel", name := "read", desc := "()I" } : MethodName) ∈ lw_g := lw_gm (List.mem_append_right _ (List.mem_append_left _ (List.mem_of_getElem? (i := 237) rfl))) rfl
theorem m1_238 : Cond.code ({ cls := "PunyDeskModel", name := "read", desc := "()I" } : MethodName) prog_3_method_12_code (18 : Nat) (Option.some FieldType.int) ∈ lw_g := lw_gm (List.mem_append_right _ (List.mem_append_left _ (List.mem_of_getElem? (i := 238) rfl))) rfl
theorem m1_239 : Cond.constantLong "PunyDeskModel" (47 : Nat) (128 : Int64) ∈ lw_g := lw_gm (List.mem_append_right _ (List.mem_append_left _ (List.mem_of_getElem? (i := 239) rfl))) rfl
theorem m2_0 : Cond.constantLong "PunyDeskModel" (49 : Nat) (2147483647 : Int64) ∈ lw_g := lw_gm (List.mem_append_right _ (List.mem_append_right _ (List.mem_of_getElem? (i := 0) rfl))) rfl
theorem m2_1 : Cond.constantLong "PunyDeskModel" (51 : Nat) (1114111 : Int64) ∈ lw_g := lw_gm (List.mem_append_right _ (List.mem_append_right _ (List.mem_of_getElem? (i := 1) rfl))) rfl
theorem m2_2 : Cond.constantLong "PunyDeskModel" (53 : Nat) (55296 : Int64) ∈ lw_g := lw_gm (List.mem_append_right _ (List.mem_append_right _ (List.mem_of_getElem? (i := 2) rfl))) rfl
theorem m2_3 : Cond.constantLong "PunyDeskModel" (55 : Nat) (57344 : Int64) ∈ lw_g := lw_gm (List.mem_append_right _ (List.mem_append_right _ (List.mem_of_getElem? (i := 3) rfl))) rfl
theorem m2_4 : Cond.methodLink "PunyDeskLaw" (56 : Nat) ({ cls := "PunyDeskModel", name := "sign", desc := "(I)I" } : MethodName) ∈ lw_g := lw_gm (List.mem_append_right _ (List.mem_append_right _ (List.mem_of_getElem? (i := 4) rfl))) rfl
theorem m2_5 : Cond.instanceMethod ({ cls := "PunyDeskModel", name := "sign", desc := "(I)I" } : MethodName) ∈ lw_g := lw_gm (List.mem_append_right _ (List.mem_append_right _ (List.mem_of_getElem? (i := 5) rfl))) rfl
theorem m2_6 : Cond.selects "PunyDeskModel" ({ cls := "PunyDeskModel", name := "sign", desc := "(I)I" } : MethodName) ({ cls := "PunyDeskModel", name := "sign", desc := "(I)I" } : MethodName) ∈ lw_g := lw_gm (List.mem_append_right _ (List.mem_append_right _ (List.mem_of_getElem? (i := 6) rfl))) rfl
theorem m2_7 : Cond.code ({ cls := "PunyDeskModel", name := "sign", desc := "(I)I" } : MethodName) prog_3_method_13_code (2 : Nat) (Option.some FieldType.int) ∈ lw_g := lw_gm (List.mem_append_right _ (List.mem_append_right _ (List.mem_of_getElem? (i := 7) rfl))) rfl
theorem mp_0 : Cond.selects "PunyDesk" ({ cls := "PunyDesk", name := "add", desc := "(I)Z" } : MethodName) ({ cls := "PunyDesk", name := "add", desc := "(I)Z" } : MethodName) ∈ lw_g := lw_gm (List.mem_append_left _ (List.mem_of_getElem? (i := 0) rfl)) rfl
theorem mp_1 : Cond.selects "PunyDesk" ({ cls := "PunyDesk", name := "least", desc := "()I" } : MethodName) ({ cls := "PunyDesk", name := "least", desc := "()I" } : MethodName) ∈ lw_g := lw_gm (List.mem_append_left _ (List.mem_of_getElem? (i := 1) rfl)) rfl
theorem mp_2 : Cond.selects "PunyDesk" ({ cls := "PunyDesk", name := "number", desc := "(II)V" } : MethodName) ({ cls := "PunyDesk", name := "number", desc := "(II)V" } : MethodName) ∈ lw_g := lw_gm (List.mem_append_left _ (List.mem_of_getElem? (i := 2) rfl)) rfl
theorem mp_3 : Cond.selects "PunyDesk" ({ cls := "PunyDesk", name := "digit", desc := "(I)V" } : MethodName) ({ cls := "PunyDesk", name := "digit", desc := "(I)V" } : MethodName) ∈ lw_g := lw_gm (List.mem_append_left _ (List.mem_of_getElem? (i := 3) rfl)) rfl
theorem mp_4 : Cond.selects "PunyDesk" ({ cls := "PunyDesk", name := "behind", desc := "(I)V" } : MethodName) ({ cls := "PunyDesk", name := "behind", desc := "(I)V" } : MethodName) ∈ lw_g := lw_gm (List.mem_append_left _ (List.mem_of_getElem? (i := 4) rfl)) rfl
theorem mp_5 : Cond.selects "PunyDesk" ({ cls := "PunyDesk", name := "put", desc := "(III)V" } : MethodName) ({ cls := "PunyDesk", name := "put", desc := "(III)V" } : MethodName) ∈ lw_g := lw_gm (List.mem_append_left _ (List.mem_of_getElem? (i := 5) rfl)) rfl
theorem mp_6 : Cond.selects "PunyDesk" ({ cls := "PunyDesk", name := "told", desc := "(JI)J" } : MethodName) ({ cls := "PunyDesk", name := "told", desc := "(JI)J" } : MethodName) ∈ lw_g := lw_gm (List.mem_append_left _ (List.mem_of_getElem? (i := 6) rfl)) rfl
theorem mp_7 : Cond.selects "PunyDesk" ({ cls := "PunyDesk", name := "refused", desc := "()I" } : MethodName) ({ cls := "PunyDesk", name := "refused", desc := "()I" } : MethodName) ∈ lw_g := lw_gm (List.mem_append_left _ (List.mem_of_getElem? (i := 7) rfl)) rfl
-- rows that a program decides
theorem n_X : ∀ a, a < 12 → ∀ b, b < 12 → a ≠ b → (F_X a).2.1 ≠ (F_X b).2.1 := by decide +kernel
theorem t_X_ok : ∀ k, k < 12 → parseFieldDescriptor (F_X k).2.2.1 = some (t_X k) := by decide +kernel
set_option maxRecDepth 20000 in
theorem i_X : ∀ w ∈ w_X, w ∈ lw_g := by decide +kernel
theorem n_M : ∀ a, a < 8 → ∀ b, b < 8 → a ≠ b → (F_M a).2.1 ≠ (F_M b).2.1 := by decide +kernel
theorem t_M_ok : ∀ k, k < 8 → parseFieldDescriptor (F_M k).2.2.1 = some (t_M k) := by decide +kernel
set_option maxRecDepth 20000 in
theorem i_M : ∀ w ∈ w_M, w ∈ lw_g := by decide +kernel
theorem tbl_in {y : MethodName} {b : ByteArray} {n : Nat} {r : Option FieldType} (h : Cond.code y b n r ∈ lw_g) : GoodIn lw_g (Cond.code y b n r :: lw_g) := by
  intro w hw
  have hm : w ∈ lw_g := by
    rcases List.mem_cons.mp hw with q | q
    · rw [q]; exact h
    · exact q
  exact ⟨hm, good_of_word (List.mem_filter.mp hm).2⟩
end
section
theorem d_X_init_0 : decode b_X_init 0 = .ok (.aload_n 0, 1) := by decide +kernel
theorem d_X_init_1 : decode b_X_init 1 = .ok (.invokespecial 1, 3) := by decide +kernel
theorem d_X_init_4 : decode b_X_init 4 = .ok (.aload_n 0, 1) := by decide +kernel
theorem d_X_init_5 : decode b_X_init 5 = .ok (.bipush 24, 2) := by decide +kernel
theorem d_X_init_7 : decode b_X_init 7 = .ok (.newarray .int, 2) := by decide +kernel
theorem d_X_init_9 : decode b_X_init 9 = .ok (.putfield 9, 3) := by decide +kernel
theorem d_X_init_12 : decode b_X_init 12 = .ok (.aload_n 0, 1) := by decide +kernel
theorem d_X_init_13 : decode b_X_init 13 = .ok (.sipush 256, 3) := by decide +kernel
theorem d_X_init_16 : decode b_X_init 16 = .ok (.newarray .int, 2) := by decide +kernel
theorem d_X_init_18 : decode b_X_init 18 = .ok (.putfield 13, 3) := by decide +kernel
theorem d_X_init_21 : decode b_X_init 21 = .ok (.aload_n 0, 1) := by decide +kernel
theorem d_X_init_22 : decode b_X_init 22 = .ok (.bipush 64, 2) := by decide +kernel
theorem d_X_init_24 : decode b_X_init 24 = .ok (.newarray .int, 2) := by decide +kernel
theorem d_X_init_26 : decode b_X_init 26 = .ok (.putfield 16, 3) := by decide +kernel
theorem d_X_init_29 : decode b_X_init 29 = .ok (.aload_n 0, 1) := by decide +kernel
theorem d_X_init_30 : decode b_X_init 30 = .ok (.bipush 64, 2) := by decide +kernel
theorem d_X_init_32 : decode b_X_init 32 = .ok (.newarray .int, 2) := by decide +kernel
theorem d_X_init_34 : decode b_X_init 34 = .ok (.putfield 19, 3) := by decide +kernel
theorem d_X_init_37 : decode b_X_init 37 = .ok (.aload_n 0, 1) := by decide +kernel
theorem d_X_init_38 : decode b_X_init 38 = .ok (.bipush 24, 2) := by decide +kernel
theorem d_X_init_40 : decode b_X_init 40 = .ok (.newarray .boolean, 2) := by decide +kernel
theorem d_X_init_42 : decode b_X_init 42 = .ok (.putfield 22, 3) := by decide +kernel
theorem d_X_init_45 : decode b_X_init 45 = .ok (.aload_n 0, 1) := by decide +kernel
theorem d_X_init_46 : decode b_X_init 46 = .ok (.bipush 64, 2) := by decide +kernel
theorem d_X_init_48 : decode b_X_init 48 = .ok (.newarray .int, 2) := by decide +kernel
theorem d_X_init_50 : decode b_X_init 50 = .ok (.putfield 26, 3) := by decide +kernel
theorem d_X_init_53 : decode b_X_init 53 = .ok (.aload_n 0, 1) := by decide +kernel
theorem d_X_init_54 : decode b_X_init 54 = .ok (.bipush 65, 2) := by decide +kernel
theorem d_X_init_56 : decode b_X_init 56 = .ok (.newarray .int, 2) := by decide +kernel
theorem d_X_init_58 : decode b_X_init 58 = .ok (.putfield 29, 3) := by decide +kernel
theorem d_X_init_61 : decode b_X_init 61 = .ok (.return_, 1) := by decide +kernel
theorem d_X_put_0 : decode b_X_put 0 = .ok (.iload_n 1, 1) := by decide +kernel
theorem d_X_put_1 : decode b_X_put 1 = .ok (.ldc 33, 2) := by decide +kernel
theorem d_X_put_3 : decode b_X_put 3 = .ok (.invokestatic 34, 3) := by decide +kernel
theorem d_X_put_6 : decode b_X_put 6 = .ok (.istore_n 2, 1) := by decide +kernel
theorem d_X_put_7 : decode b_X_put 7 = .ok (.aload_n 0, 1) := by decide +kernel
theorem d_X_put_8 : decode b_X_put 8 = .ok (.iload_n 2, 1) := by decide +kernel
theorem d_X_put_9 : decode b_X_put 9 = .ok (.ldc 38, 2) := by decide +kernel
theorem d_X_put_11 : decode b_X_put 11 = .ok (.if_icmp .ge 7, 3) := by decide +kernel
theorem d_X_put_14 : decode b_X_put 14 = .ok (.iload_n 2, 1) := by decide +kernel
theorem d_X_put_15 : decode b_X_put 15 = .ok (.goto 8, 3) := by decide +kernel
theorem d_X_put_18 : decode b_X_put 18 = .ok (.iload_n 2, 1) := by decide +kernel
theorem d_X_put_19 : decode b_X_put 19 = .ok (.sipush 2048, 3) := by decide +kernel
theorem d_X_put_22 : decode b_X_put 22 = .ok (.iadd, 1) := by decide +kernel
theorem d_X_put_23 : decode b_X_put 23 = .ok (.invokevirtual 39, 3) := by decide +kernel
theorem d_X_put_26 : decode b_X_put 26 = .ok (.ireturn, 1) := by decide +kernel
theorem d_X_cut_0 : decode b_X_cut 0 = .ok (.iload_n 0, 1) := by decide +kernel
theorem d_X_cut_1 : decode b_X_cut 1 = .ok (.ldc 32, 2) := by decide +kernel
theorem d_X_cut_3 : decode b_X_cut 3 = .ok (.iand, 1) := by decide +kernel
theorem d_X_cut_4 : decode b_X_cut 4 = .ok (.iload_n 1, 1) := by decide +kernel
theorem d_X_cut_5 : decode b_X_cut 5 = .ok (.irem, 1) := by decide +kernel
theorem d_X_cut_6 : decode b_X_cut 6 = .ok (.ireturn, 1) := by decide +kernel
theorem d_X_add_0 : decode b_X_add 0 = .ok (.aload_n 0, 1) := by decide +kernel
theorem d_X_add_1 : decode b_X_add 1 = .ok (.getfield 43, 3) := by decide +kernel
theorem d_X_add_4 : decode b_X_add 4 = .ok (.bipush 24, 2) := by decide +kernel
theorem d_X_add_6 : decode b_X_add 6 = .ok (.if_icmp .ne 5, 3) := by decide +kernel
theorem d_X_add_9 : decode b_X_add 9 = .ok (.iconst 0, 1) := by decide +kernel
theorem d_X_add_10 : decode b_X_add 10 = .ok (.ireturn, 1) := by decide +kernel
theorem d_X_add_11 : decode b_X_add 11 = .ok (.aload_n 0, 1) := by decide +kernel
theorem d_X_add_12 : decode b_X_add 12 = .ok (.getfield 9, 3) := by decide +kernel
theorem d_X_add_15 : decode b_X_add 15 = .ok (.aload_n 0, 1) := by decide +kernel
theorem d_X_add_16 : decode b_X_add 16 = .ok (.dup, 1) := by decide +kernel
theorem d_X_add_17 : decode b_X_add 17 = .ok (.getfield 43, 3) := by decide +kernel
theorem d_X_add_20 : decode b_X_add 20 = .ok (.dup_x1, 1) := by decide +kernel
theorem d_X_add_21 : decode b_X_add 21 = .ok (.iconst 1, 1) := by decide +kernel
theorem d_X_add_22 : decode b_X_add 22 = .ok (.iadd, 1) := by decide +kernel
theorem d_X_add_23 : decode b_X_add 23 = .ok (.putfield 43, 3) := by decide +kernel
theorem d_X_add_26 : decode b_X_add 26 = .ok (.iload_n 1, 1) := by decide +kernel
theorem d_X_add_27 : decode b_X_add 27 = .ok (.iastore, 1) := by decide +kernel
theorem d_X_add_28 : decode b_X_add 28 = .ok (.iconst 1, 1) := by decide +kernel
theorem d_X_add_29 : decode b_X_add 29 = .ok (.ireturn, 1) := by decide +kernel
theorem d_X_plain_0 : decode b_X_plain 0 = .ok (.aload_n 0, 1) := by decide +kernel
theorem d_X_plain_1 : decode b_X_plain 1 = .ok (.bipush 97, 2) := by decide +kernel
theorem d_X_plain_3 : decode b_X_plain 3 = .ok (.iload_n 1, 1) := by decide +kernel
theorem d_X_plain_4 : decode b_X_plain 4 = .ok (.bipush 26, 2) := by decide +kernel
theorem d_X_plain_6 : decode b_X_plain 6 = .ok (.invokestatic 34, 3) := by decide +kernel
theorem d_X_plain_9 : decode b_X_plain 9 = .ok (.iadd, 1) := by decide +kernel
theorem d_X_plain_10 : decode b_X_plain 10 = .ok (.invokevirtual 39, 3) := by decide +kernel
theorem d_X_plain_13 : decode b_X_plain 13 = .ok (.ireturn, 1) := by decide +kernel
theorem d_X_wipe_0 : decode b_X_wipe 0 = .ok (.aload_n 0, 1) := by decide +kernel
theorem d_X_wipe_1 : decode b_X_wipe 1 = .ok (.iconst 0, 1) := by decide +kernel
theorem d_X_wipe_2 : decode b_X_wipe 2 = .ok (.putfield 43, 3) := by decide +kernel
theorem d_X_wipe_5 : decode b_X_wipe 5 = .ok (.return_, 1) := by decide +kernel
theorem d_X_write_0 : decode b_X_write 0 = .ok (.aload_n 0, 1) := by decide +kernel
theorem d_X_write_1 : decode b_X_write 1 = .ok (.iconst 0, 1) := by decide +kernel
theorem d_X_write_2 : decode b_X_write 2 = .ok (.putfield 59, 3) := by decide +kernel
theorem d_X_write_5 : decode b_X_write 5 = .ok (.iconst 0, 1) := by decide +kernel
theorem d_X_write_6 : decode b_X_write 6 = .ok (.istore_n 1, 1) := by decide +kernel
theorem d_X_write_7 : decode b_X_write 7 = .ok (.iload_n 1, 1) := by decide +kernel
theorem d_X_write_8 : decode b_X_write 8 = .ok (.aload_n 0, 1) := by decide +kernel
theorem d_X_write_9 : decode b_X_write 9 = .ok (.getfield 43, 3) := by decide +kernel
theorem d_X_write_12 : decode b_X_write 12 = .ok (.if_icmp .ge 63, 3) := by decide +kernel
theorem d_X_write_15 : decode b_X_write 15 = .ok (.aload_n 0, 1) := by decide +kernel
theorem d_X_write_16 : decode b_X_write 16 = .ok (.getfield 22, 3) := by decide +kernel
theorem d_X_write_19 : decode b_X_write 19 = .ok (.iload_n 1, 1) := by decide +kernel
theorem d_X_write_20 : decode b_X_write 20 = .ok (.aload_n 0, 1) := by decide +kernel
theorem d_X_write_21 : decode b_X_write 21 = .ok (.getfield 9, 3) := by decide +kernel
theorem d_X_write_24 : decode b_X_write 24 = .ok (.iload_n 1, 1) := by decide +kernel
theorem d_X_write_25 : decode b_X_write 25 = .ok (.iaload, 1) := by decide +kernel
theorem d_X_write_26 : decode b_X_write 26 = .ok (.sipush 128, 3) := by decide +kernel
theorem d_X_write_29 : decode b_X_write 29 = .ok (.if_icmp .ge 7, 3) := by decide +kernel
theorem d_X_write_32 : decode b_X_write 32 = .ok (.iconst 1, 1) := by decide +kernel
theorem d_X_write_33 : decode b_X_write 33 = .ok (.goto 4, 3) := by decide +kernel
theorem d_X_write_36 : decode b_X_write 36 = .ok (.iconst 0, 1) := by decide +kernel
theorem d_X_write_37 : decode b_X_write 37 = .ok (.bastore, 1) := by decide +kernel
theorem d_X_write_38 : decode b_X_write 38 = .ok (.aload_n 0, 1) := by decide +kernel
theorem d_X_write_39 : decode b_X_write 39 = .ok (.getfield 22, 3) := by decide +kernel
theorem d_X_write_42 : decode b_X_write 42 = .ok (.iload_n 1, 1) := by decide +kernel
theorem d_X_write_43 : decode b_X_write 43 = .ok (.baload, 1) := by decide +kernel
theorem d_X_write_44 : decode b_X_write 44 = .ok (.ifCond .eq 25, 3) := by decide +kernel
theorem d_X_write_47 : decode b_X_write 47 = .ok (.aload_n 0, 1) := by decide +kernel
theorem d_X_write_48 : decode b_X_write 48 = .ok (.getfield 13, 3) := by decide +kernel
theorem d_X_write_51 : decode b_X_write 51 = .ok (.aload_n 0, 1) := by decide +kernel
theorem d_X_write_52 : decode b_X_write 52 = .ok (.dup, 1) := by decide +kernel
theorem d_X_write_53 : decode b_X_write 53 = .ok (.getfield 59, 3) := by decide +kernel
theorem d_X_write_56 : decode b_X_write 56 = .ok (.dup_x1, 1) := by decide +kernel
theorem d_X_write_57 : decode b_X_write 57 = .ok (.iconst 1, 1) := by decide +kernel
theorem d_X_write_58 : decode b_X_write 58 = .ok (.iadd, 1) := by decide +kernel
theorem d_X_write_59 : decode b_X_write 59 = .ok (.putfield 59, 3) := by decide +kernel
theorem d_X_write_62 : decode b_X_write 62 = .ok (.aload_n 0, 1) := by decide +kernel
theorem d_X_write_63 : decode b_X_write 63 = .ok (.getfield 9, 3) := by decide +kernel
theorem d_X_write_66 : decode b_X_write 66 = .ok (.iload_n 1, 1) := by decide +kernel
theorem d_X_write_67 : decode b_X_write 67 = .ok (.iaload, 1) := by decide +kernel
theorem d_X_write_68 : decode b_X_write 68 = .ok (.iastore, 1) := by decide +kernel
theorem d_X_write_69 : decode b_X_write 69 = .ok (.iinc 1 1, 3) := by decide +kernel
theorem d_X_write_72 : decode b_X_write 72 = .ok (.goto (-65), 3) := by decide +kernel
theorem d_X_write_75 : decode b_X_write 75 = .ok (.aload_n 0, 1) := by decide +kernel
theorem d_X_write_76 : decode b_X_write 76 = .ok (.getfield 59, 3) := by decide +kernel
theorem d_X_write_79 : decode b_X_write 79 = .ok (.istore_n 1, 1) := by decide +kernel
theorem d_X_write_80 : decode b_X_write 80 = .ok (.aload_n 0, 1) := by decide +kernel
theorem d_X_write_81 : decode b_X_write 81 = .ok (.getfield 59, 3) := by decide +kernel
theorem d_X_write_84 : decode b_X_write 84 = .ok (.istore_n 2, 1) := by decide +kernel
theorem d_X_write_85 : decode b_X_write 85 = .ok (.sipush 128, 3) := by decide +kernel
theorem d_X_write_88 : decode b_X_write 88 = .ok (.istore_n 3, 1) := by decide +kernel
theorem d_X_write_89 : decode b_X_write 89 = .ok (.iconst 0, 1) := by decide +kernel
theorem d_X_write_90 : decode b_X_write 90 = .ok (.istore 4, 2) := by decide +kernel
theorem d_X_write_92 : decode b_X_write 92 = .ok (.bipush 72, 2) := by decide +kernel
theorem d_X_write_94 : decode b_X_write 94 = .ok (.istore 5, 2) := by decide +kernel
theorem d_X_write_96 : decode b_X_write 96 = .ok (.iload_n 1, 1) := by decide +kernel
theorem d_X_write_97 : decode b_X_write 97 = .ok (.ifCond .le 21, 3) := by decide +kernel
theorem d_X_write_100 : decode b_X_write 100 = .ok (.aload_n 0, 1) := by decide +kernel
theorem d_X_write_101 : decode b_X_write 101 = .ok (.getfield 13, 3) := by decide +kernel
theorem d_X_write_104 : decode b_X_write 104 = .ok (.aload_n 0, 1) := by decide +kernel
theorem d_X_write_105 : decode b_X_write 105 = .ok (.dup, 1) := by decide +kernel
theorem d_X_write_106 : decode b_X_write 106 = .ok (.getfield 59, 3) := by decide +kernel
theorem d_X_write_109 : decode b_X_write 109 = .ok (.dup_x1, 1) := by decide +kernel
theorem d_X_write_110 : decode b_X_write 110 = .ok (.iconst 1, 1) := by decide +kernel
theorem d_X_write_111 : decode b_X_write 111 = .ok (.iadd, 1) := by decide +kernel
theorem d_X_write_112 : decode b_X_write 112 = .ok (.putfield 59, 3) := by decide +kernel
theorem d_X_write_115 : decode b_X_write 115 = .ok (.bipush 45, 2) := by decide +kernel
theorem d_X_write_117 : decode b_X_write 117 = .ok (.iastore, 1) := by decide +kernel
theorem d_X_write_118 : decode b_X_write 118 = .ok (.iload_n 1, 1) := by decide +kernel
theorem d_X_write_119 : decode b_X_write 119 = .ok (.aload_n 0, 1) := by decide +kernel
theorem d_X_write_120 : decode b_X_write 120 = .ok (.getfield 43, 3) := by decide +kernel
theorem d_X_write_123 : decode b_X_write 123 = .ok (.if_icmp .ge 119, 3) := by decide +kernel
theorem d_X_write_126 : decode b_X_write 126 = .ok (.aload_n 0, 1) := by decide +kernel
theorem d_X_write_127 : decode b_X_write 127 = .ok (.invokevirtual 62, 3) := by decide +kernel
theorem d_X_write_130 : decode b_X_write 130 = .ok (.istore 6, 2) := by decide +kernel
theorem d_X_write_132 : decode b_X_write 132 = .ok (.iconst 0, 1) := by decide +kernel
theorem d_X_write_133 : decode b_X_write 133 = .ok (.istore 7, 2) := by decide +kernel
theorem d_X_write_135 : decode b_X_write 135 = .ok (.iconst 0, 1) := by decide +kernel
theorem d_X_write_136 : decode b_X_write 136 = .ok (.istore 8, 2) := by decide +kernel
theorem d_X_write_138 : decode b_X_write 138 = .ok (.iload 8, 2) := by decide +kernel
theorem d_X_write_140 : decode b_X_write 140 = .ok (.iload 6, 2) := by decide +kernel
theorem d_X_write_142 : decode b_X_write 142 = .ok (.if_icmp .ge 22, 3) := by decide +kernel
theorem d_X_write_145 : decode b_X_write 145 = .ok (.aload_n 0, 1) := by decide +kernel
theorem d_X_write_146 : decode b_X_write 146 = .ok (.getfield 22, 3) := by decide +kernel
theorem d_X_write_149 : decode b_X_write 149 = .ok (.iload 8, 2) := by decide +kernel
theorem d_X_write_151 : decode b_X_write 151 = .ok (.baload, 1) := by decide +kernel
theorem d_X_write_152 : decode b_X_write 152 = .ok (.ifCond .eq 6, 3) := by decide +kernel
theorem d_X_write_155 : decode b_X_write 155 = .ok (.iinc 7 1, 3) := by decide +kernel
theorem d_X_write_158 : decode b_X_write 158 = .ok (.iinc 8 1, 3) := by decide +kernel
theorem d_X_write_161 : decode b_X_write 161 = .ok (.goto (-23), 3) := by decide +kernel
theorem d_X_write_164 : decode b_X_write 164 = .ok (.aload_n 0, 1) := by decide +kernel
theorem d_X_write_165 : decode b_X_write 165 = .ok (.getfield 9, 3) := by decide +kernel
theorem d_X_write_168 : decode b_X_write 168 = .ok (.iload 6, 2) := by decide +kernel
theorem d_X_write_170 : decode b_X_write 170 = .ok (.iaload, 1) := by decide +kernel
theorem d_X_write_171 : decode b_X_write 171 = .ok (.iload_n 3, 1) := by decide +kernel
theorem d_X_write_172 : decode b_X_write 172 = .ok (.isub, 1) := by decide +kernel
theorem d_X_write_173 : decode b_X_write 173 = .ok (.iload_n 1, 1) := by decide +kernel
theorem d_X_write_174 : decode b_X_write 174 = .ok (.iconst 1, 1) := by decide +kernel
theorem d_X_write_175 : decode b_X_write 175 = .ok (.iadd, 1) := by decide +kernel
theorem d_X_write_176 : decode b_X_write 176 = .ok (.imul, 1) := by decide +kernel
theorem d_X_write_177 : decode b_X_write 177 = .ok (.iload 7, 2) := by decide +kernel
theorem d_X_write_179 : decode b_X_write 179 = .ok (.iadd, 1) := by decide +kernel
theorem d_X_write_180 : decode b_X_write 180 = .ok (.iload 4, 2) := by decide +kernel
theorem d_X_write_182 : decode b_X_write 182 = .ok (.isub, 1) := by decide +kernel
theorem d_X_write_183 : decode b_X_write 183 = .ok (.istore 8, 2) := by decide +kernel
theorem d_X_write_185 : decode b_X_write 185 = .ok (.aload_n 0, 1) := by decide +kernel
theorem d_X_write_186 : decode b_X_write 186 = .ok (.iload 8, 2) := by decide +kernel
theorem d_X_write_188 : decode b_X_write 188 = .ok (.iload 5, 2) := by decide +kernel
theorem d_X_write_190 : decode b_X_write 190 = .ok (.invokevirtual 66, 3) := by decide +kernel
theorem d_X_write_193 : decode b_X_write 193 = .ok (.iload 8, 2) := by decide +kernel
theorem d_X_write_195 : decode b_X_write 195 = .ok (.i2l, 1) := by decide +kernel
theorem d_X_write_196 : decode b_X_write 196 = .ok (.iload_n 1, 1) := by decide +kernel
theorem d_X_write_197 : decode b_X_write 197 = .ok (.iconst 1, 1) := by decide +kernel
theorem d_X_write_198 : decode b_X_write 198 = .ok (.iadd, 1) := by decide +kernel
theorem d_X_write_199 : decode b_X_write 199 = .ok (.iload_n 1, 1) := by decide +kernel
theorem d_X_write_200 : decode b_X_write 200 = .ok (.iload_n 2, 1) := by decide +kernel
theorem d_X_write_201 : decode b_X_write 201 = .ok (.if_icmp .ne 7, 3) := by decide +kernel
theorem d_X_write_204 : decode b_X_write 204 = .ok (.iconst 1, 1) := by decide +kernel
theorem d_X_write_205 : decode b_X_write 205 = .ok (.goto 4, 3) := by decide +kernel
theorem d_X_write_208 : decode b_X_write 208 = .ok (.iconst 0, 1) := by decide +kernel
theorem d_X_write_209 : decode b_X_write 209 = .ok (.invokestatic 70, 3) := by decide +kernel
theorem d_X_write_212 : decode b_X_write 212 = .ok (.istore 5, 2) := by decide +kernel
theorem d_X_write_214 : decode b_X_write 214 = .ok (.aload_n 0, 1) := by decide +kernel
theorem d_X_write_215 : decode b_X_write 215 = .ok (.getfield 9, 3) := by decide +kernel
theorem d_X_write_218 : decode b_X_write 218 = .ok (.iload 6, 2) := by decide +kernel
theorem d_X_write_220 : decode b_X_write 220 = .ok (.iaload, 1) := by decide +kernel
theorem d_X_write_221 : decode b_X_write 221 = .ok (.istore_n 3, 1) := by decide +kernel
theorem d_X_write_222 : decode b_X_write 222 = .ok (.iload 7, 2) := by decide +kernel
theorem d_X_write_224 : decode b_X_write 224 = .ok (.iconst 1, 1) := by decide +kernel
theorem d_X_write_225 : decode b_X_write 225 = .ok (.iadd, 1) := by decide +kernel
theorem d_X_write_226 : decode b_X_write 226 = .ok (.istore 4, 2) := by decide +kernel
theorem d_X_write_228 : decode b_X_write 228 = .ok (.aload_n 0, 1) := by decide +kernel
theorem d_X_write_229 : decode b_X_write 229 = .ok (.getfield 22, 3) := by decide +kernel
theorem d_X_write_232 : decode b_X_write 232 = .ok (.iload 6, 2) := by decide +kernel
theorem d_X_write_234 : decode b_X_write 234 = .ok (.iconst 1, 1) := by decide +kernel
theorem d_X_write_235 : decode b_X_write 235 = .ok (.bastore, 1) := by decide +kernel
theorem d_X_write_236 : decode b_X_write 236 = .ok (.iinc 1 1, 3) := by decide +kernel
theorem d_X_write_239 : decode b_X_write 239 = .ok (.goto (-121), 3) := by decide +kernel
theorem d_X_write_242 : decode b_X_write 242 = .ok (.aload_n 0, 1) := by decide +kernel
theorem d_X_write_243 : decode b_X_write 243 = .ok (.getfield 59, 3) := by decide +kernel
theorem d_X_write_246 : decode b_X_write 246 = .ok (.ireturn, 1) := by decide +kernel
theorem d_X_least_0 : decode b_X_least 0 = .ok (.iconst (-1), 1) := by decide +kernel
theorem d_X_least_1 : decode b_X_least 1 = .ok (.istore_n 1, 1) := by decide +kernel
theorem d_X_least_2 : decode b_X_least 2 = .ok (.iconst 0, 1) := by decide +kernel
theorem d_X_least_3 : decode b_X_least 3 = .ok (.istore_n 2, 1) := by decide +kernel
theorem d_X_least_4 : decode b_X_least 4 = .ok (.iload_n 2, 1) := by decide +kernel
theorem d_X_least_5 : decode b_X_least 5 = .ok (.aload_n 0, 1) := by decide +kernel
theorem d_X_least_6 : decode b_X_least 6 = .ok (.getfield 43, 3) := by decide +kernel
theorem d_X_least_9 : decode b_X_least 9 = .ok (.if_icmp .ge 40, 3) := by decide +kernel
theorem d_X_least_12 : decode b_X_least 12 = .ok (.aload_n 0, 1) := by decide +kernel
theorem d_X_least_13 : decode b_X_least 13 = .ok (.getfield 22, 3) := by decide +kernel
theorem d_X_least_16 : decode b_X_least 16 = .ok (.iload_n 2, 1) := by decide +kernel
theorem d_X_least_17 : decode b_X_least 17 = .ok (.baload, 1) := by decide +kernel
theorem d_X_least_18 : decode b_X_least 18 = .ok (.ifCond .ne 25, 3) := by decide +kernel
theorem d_X_least_21 : decode b_X_least 21 = .ok (.iload_n 1, 1) := by decide +kernel
theorem d_X_least_22 : decode b_X_least 22 = .ok (.iconst (-1), 1) := by decide +kernel
theorem d_X_least_23 : decode b_X_least 23 = .ok (.if_icmp .eq 18, 3) := by decide +kernel
theorem d_X_least_26 : decode b_X_least 26 = .ok (.aload_n 0, 1) := by decide +kernel
theorem d_X_least_27 : decode b_X_least 27 = .ok (.getfield 9, 3) := by decide +kernel
theorem d_X_least_30 : decode b_X_least 30 = .ok (.iload_n 2, 1) := by decide +kernel
theorem d_X_least_31 : decode b_X_least 31 = .ok (.iaload, 1) := by decide +kernel
theorem d_X_least_32 : decode b_X_least 32 = .ok (.aload_n 0, 1) := by decide +kernel
theorem d_X_least_33 : decode b_X_least 33 = .ok (.getfield 9, 3) := by decide +kernel
theorem d_X_least_36 : decode b_X_least 36 = .ok (.iload_n 1, 1) := by decide +kernel
theorem d_X_least_37 : decode b_X_least 37 = .ok (.iaload, 1) := by decide +kernel
theorem d_X_least_38 : decode b_X_least 38 = .ok (.if_icmp .ge 5, 3) := by decide +kernel
theorem d_X_least_41 : decode b_X_least 41 = .ok (.iload_n 2, 1) := by decide +kernel
theorem d_X_least_42 : decode b_X_least 42 = .ok (.istore_n 1, 1) := by decide +kernel
theorem d_X_least_43 : decode b_X_least 43 = .ok (.iinc 2 1, 3) := by decide +kernel
theorem d_X_least_46 : decode b_X_least 46 = .ok (.goto (-42), 3) := by decide +kernel
theorem d_X_least_49 : decode b_X_least 49 = .ok (.iload_n 1, 1) := by decide +kernel
theorem d_X_least_50 : decode b_X_least 50 = .ok (.ireturn, 1) := by decide +kernel
theorem d_X_number_0 : decode b_X_number 0 = .ok (.iload_n 1, 1) := by decide +kernel
theorem d_X_number_1 : decode b_X_number 1 = .ok (.istore_n 3, 1) := by decide +kernel
theorem d_X_number_2 : decode b_X_number 2 = .ok (.bipush 36, 2) := by decide +kernel
theorem d_X_number_4 : decode b_X_number 4 = .ok (.istore 4, 2) := by decide +kernel
theorem d_X_number_6 : decode b_X_number 6 = .ok (.iload 4, 2) := by decide +kernel
theorem d_X_number_8 : decode b_X_number 8 = .ok (.iload_n 2, 1) := by decide +kernel
theorem d_X_number_9 : decode b_X_number 9 = .ok (.invokestatic 74, 3) := by decide +kernel
theorem d_X_number_12 : decode b_X_number 12 = .ok (.istore 5, 2) := by decide +kernel
theorem d_X_number_14 : decode b_X_number 14 = .ok (.iload_n 3, 1) := by decide +kernel
theorem d_X_number_15 : decode b_X_number 15 = .ok (.iload 5, 2) := by decide +kernel
theorem d_X_number_17 : decode b_X_number 17 = .ok (.if_icmp .lt 45, 3) := by decide +kernel
theorem d_X_number_20 : decode b_X_number 20 = .ok (.aload_n 0, 1) := by decide +kernel
theorem d_X_number_21 : decode b_X_number 21 = .ok (.iload 5, 2) := by decide +kernel
theorem d_X_number_23 : decode b_X_number 23 = .ok (.iload_n 3, 1) := by decide +kernel
theorem d_X_number_24 : decode b_X_number 24 = .ok (.iload 5, 2) := by decide +kernel
theorem d_X_number_26 : decode b_X_number 26 = .ok (.isub, 1) := by decide +kernel
theorem d_X_number_27 : decode b_X_number 27 = .ok (.bipush 36, 2) := by decide +kernel
theorem d_X_number_29 : decode b_X_number 29 = .ok (.iload 5, 2) := by decide +kernel
theorem d_X_number_31 : decode b_X_number 31 = .ok (.isub, 1) := by decide +kernel
theorem d_X_number_32 : decode b_X_number 32 = .ok (.irem, 1) := by decide +kernel
theorem d_X_number_33 : decode b_X_number 33 = .ok (.iadd, 1) := by decide +kernel
theorem d_X_number_34 : decode b_X_number 34 = .ok (.invokevirtual 77, 3) := by decide +kernel
theorem d_X_number_37 : decode b_X_number 37 = .ok (.iload_n 3, 1) := by decide +kernel
theorem d_X_number_38 : decode b_X_number 38 = .ok (.iload 5, 2) := by decide +kernel
theorem d_X_number_40 : decode b_X_number 40 = .ok (.isub, 1) := by decide +kernel
theorem d_X_number_41 : decode b_X_number 41 = .ok (.bipush 36, 2) := by decide +kernel
theorem d_X_number_43 : decode b_X_number 43 = .ok (.iload 5, 2) := by decide +kernel
theorem d_X_number_45 : decode b_X_number 45 = .ok (.isub, 1) := by decide +kernel
theorem d_X_number_46 : decode b_X_number 46 = .ok (.idiv, 1) := by decide +kernel
theorem d_X_number_47 : decode b_X_number 47 = .ok (.istore_n 3, 1) := by decide +kernel
theorem d_X_number_48 : decode b_X_number 48 = .ok (.iinc 4 36, 3) := by decide +kernel
theorem d_X_number_51 : decode b_X_number 51 = .ok (.iload 4, 2) := by decide +kernel
theorem d_X_number_53 : decode b_X_number 53 = .ok (.iload_n 2, 1) := by decide +kernel
theorem d_X_number_54 : decode b_X_number 54 = .ok (.invokestatic 74, 3) := by decide +kernel
theorem d_X_number_57 : decode b_X_number 57 = .ok (.istore 5, 2) := by decide +kernel
theorem d_X_number_59 : decode b_X_number 59 = .ok (.goto (-45), 3) := by decide +kernel
theorem d_X_number_62 : decode b_X_number 62 = .ok (.aload_n 0, 1) := by decide +kernel
theorem d_X_number_63 : decode b_X_number 63 = .ok (.iload_n 3, 1) := by decide +kernel
theorem d_X_number_64 : decode b_X_number 64 = .ok (.invokevirtual 77, 3) := by decide +kernel
theorem d_X_number_67 : decode b_X_number 67 = .ok (.return_, 1) := by decide +kernel
theorem d_X_threshold_0 : decode b_X_threshold 0 = .ok (.iload_n 0, 1) := by decide +kernel
theorem d_X_threshold_1 : decode b_X_threshold 1 = .ok (.iload_n 1, 1) := by decide +kernel
theorem d_X_threshold_2 : decode b_X_threshold 2 = .ok (.if_icmp .gt 7, 3) := by decide +kernel
theorem d_X_threshold_5 : decode b_X_threshold 5 = .ok (.iconst 1, 1) := by decide +kernel
theorem d_X_threshold_6 : decode b_X_threshold 6 = .ok (.goto 19, 3) := by decide +kernel
theorem d_X_threshold_9 : decode b_X_threshold 9 = .ok (.iload_n 0, 1) := by decide +kernel
theorem d_X_threshold_10 : decode b_X_threshold 10 = .ok (.iload_n 1, 1) := by decide +kernel
theorem d_X_threshold_11 : decode b_X_threshold 11 = .ok (.bipush 26, 2) := by decide +kernel
theorem d_X_threshold_13 : decode b_X_threshold 13 = .ok (.iadd, 1) := by decide +kernel
theorem d_X_threshold_14 : decode b_X_threshold 14 = .ok (.if_icmp .lt 8, 3) := by decide +kernel
theorem d_X_threshold_17 : decode b_X_threshold 17 = .ok (.bipush 26, 2) := by decide +kernel
theorem d_X_threshold_19 : decode b_X_threshold 19 = .ok (.goto 6, 3) := by decide +kernel
theorem d_X_threshold_22 : decode b_X_threshold 22 = .ok (.iload_n 0, 1) := by decide +kernel
theorem d_X_threshold_23 : decode b_X_threshold 23 = .ok (.iload_n 1, 1) := by decide +kernel
theorem d_X_threshold_24 : decode b_X_threshold 24 = .ok (.isub, 1) := by decide +kernel
theorem d_X_threshold_25 : decode b_X_threshold 25 = .ok (.ireturn, 1) := by decide +kernel
theorem d_X_digit_0 : decode b_X_digit 0 = .ok (.aload_n 0, 1) := by decide +kernel
theorem d_X_digit_1 : decode b_X_digit 1 = .ok (.getfield 13, 3) := by decide +kernel
theorem d_X_digit_4 : decode b_X_digit 4 = .ok (.aload_n 0, 1) := by decide +kernel
theorem d_X_digit_5 : decode b_X_digit 5 = .ok (.dup, 1) := by decide +kernel
theorem d_X_digit_6 : decode b_X_digit 6 = .ok (.getfield 59, 3) := by decide +kernel
theorem d_X_digit_9 : decode b_X_digit 9 = .ok (.dup_x1, 1) := by decide +kernel
theorem d_X_digit_10 : decode b_X_digit 10 = .ok (.iconst 1, 1) := by decide +kernel
theorem d_X_digit_11 : decode b_X_digit 11 = .ok (.iadd, 1) := by decide +kernel
theorem d_X_digit_12 : decode b_X_digit 12 = .ok (.putfield 59, 3) := by decide +kernel
theorem d_X_digit_15 : decode b_X_digit 15 = .ok (.iload_n 1, 1) := by decide +kernel
theorem d_X_digit_16 : decode b_X_digit 16 = .ok (.invokestatic 81, 3) := by decide +kernel
theorem d_X_digit_19 : decode b_X_digit 19 = .ok (.iastore, 1) := by decide +kernel
theorem d_X_digit_20 : decode b_X_digit 20 = .ok (.return_, 1) := by decide +kernel
theorem d_X_letterOf_0 : decode b_X_letterOf 0 = .ok (.iload_n 0, 1) := by decide +kernel
theorem d_X_letterOf_1 : decode b_X_letterOf 1 = .ok (.bipush 26, 2) := by decide +kernel
theorem d_X_letterOf_3 : decode b_X_letterOf 3 = .ok (.if_icmp .ge 10, 3) := by decide +kernel
theorem d_X_letterOf_6 : decode b_X_letterOf 6 = .ok (.bipush 97, 2) := by decide +kernel
theorem d_X_letterOf_8 : decode b_X_letterOf 8 = .ok (.iload_n 0, 1) := by decide +kernel
theorem d_X_letterOf_9 : decode b_X_letterOf 9 = .ok (.iadd, 1) := by decide +kernel
theorem d_X_letterOf_10 : decode b_X_letterOf 10 = .ok (.goto 7, 3) := by decide +kernel
theorem d_X_letterOf_13 : decode b_X_letterOf 13 = .ok (.bipush 22, 2) := by decide +kernel
theorem d_X_letterOf_15 : decode b_X_letterOf 15 = .ok (.iload_n 0, 1) := by decide +kernel
theorem d_X_letterOf_16 : decode b_X_letterOf 16 = .ok (.iadd, 1) := by decide +kernel
theorem d_X_letterOf_17 : decode b_X_letterOf 17 = .ok (.ireturn, 1) := by decide +kernel
theorem d_X_adapted_0 : decode b_X_adapted 0 = .ok (.iload_n 3, 1) := by decide +kernel
theorem d_X_adapted_1 : decode b_X_adapted 1 = .ok (.ifCond .eq 11, 3) := by decide +kernel
theorem d_X_adapted_4 : decode b_X_adapted 4 = .ok (.lload_n 0, 1) := by decide +kernel
theorem d_X_adapted_5 : decode b_X_adapted 5 = .ok (.ldc2_w 47, 3) := by decide +kernel
theorem d_X_adapted_8 : decode b_X_adapted 8 = .ok (.ldiv, 1) := by decide +kernel
theorem d_X_adapted_9 : decode b_X_adapted 9 = .ok (.goto 8, 3) := by decide +kernel
theorem d_X_adapted_12 : decode b_X_adapted 12 = .ok (.lload_n 0, 1) := by decide +kernel
theorem d_X_adapted_13 : decode b_X_adapted 13 = .ok (.ldc2_w 49, 3) := by decide +kernel
theorem d_X_adapted_16 : decode b_X_adapted 16 = .ok (.ldiv, 1) := by decide +kernel
theorem d_X_adapted_17 : decode b_X_adapted 17 = .ok (.lstore 4, 2) := by decide +kernel
theorem d_X_adapted_19 : decode b_X_adapted 19 = .ok (.lload 4, 2) := by decide +kernel
theorem d_X_adapted_21 : decode b_X_adapted 21 = .ok (.lload 4, 2) := by decide +kernel
theorem d_X_adapted_23 : decode b_X_adapted 23 = .ok (.iload_n 2, 1) := by decide +kernel
theorem d_X_adapted_24 : decode b_X_adapted 24 = .ok (.i2l, 1) := by decide +kernel
theorem d_X_adapted_25 : decode b_X_adapted 25 = .ok (.ldiv, 1) := by decide +kernel
theorem d_X_adapted_26 : decode b_X_adapted 26 = .ok (.ladd, 1) := by decide +kernel
theorem d_X_adapted_27 : decode b_X_adapted 27 = .ok (.lstore 4, 2) := by decide +kernel
theorem d_X_adapted_29 : decode b_X_adapted 29 = .ok (.iconst 0, 1) := by decide +kernel
theorem d_X_adapted_30 : decode b_X_adapted 30 = .ok (.istore 6, 2) := by decide +kernel
theorem d_X_adapted_32 : decode b_X_adapted 32 = .ok (.lload 4, 2) := by decide +kernel
theorem d_X_adapted_34 : decode b_X_adapted 34 = .ok (.ldc2_w 51, 3) := by decide +kernel
theorem d_X_adapted_37 : decode b_X_adapted 37 = .ok (.lcmp, 1) := by decide +kernel
theorem d_X_adapted_38 : decode b_X_adapted 38 = .ok (.ifCond .le 17, 3) := by decide +kernel
theorem d_X_adapted_41 : decode b_X_adapted 41 = .ok (.iinc 6 36, 3) := by decide +kernel
theorem d_X_adapted_44 : decode b_X_adapted 44 = .ok (.lload 4, 2) := by decide +kernel
theorem d_X_adapted_46 : decode b_X_adapted 46 = .ok (.ldc2_w 53, 3) := by decide +kernel
theorem d_X_adapted_49 : decode b_X_adapted 49 = .ok (.ldiv, 1) := by decide +kernel
theorem d_X_adapted_50 : decode b_X_adapted 50 = .ok (.lstore 4, 2) := by decide +kernel
theorem d_X_adapted_52 : decode b_X_adapted 52 = .ok (.goto (-20), 3) := by decide +kernel
theorem d_X_adapted_55 : decode b_X_adapted 55 = .ok (.iload 6, 2) := by decide +kernel
theorem d_X_adapted_57 : decode b_X_adapted 57 = .ok (.i2l, 1) := by decide +kernel
theorem d_X_adapted_58 : decode b_X_adapted 58 = .ok (.ldc2_w 55, 3) := by decide +kernel
theorem d_X_adapted_61 : decode b_X_adapted 61 = .ok (.lload 4, 2) := by decide +kernel
theorem d_X_adapted_63 : decode b_X_adapted 63 = .ok (.lmul, 1) := by decide +kernel
theorem d_X_adapted_64 : decode b_X_adapted 64 = .ok (.lload 4, 2) := by decide +kernel
theorem d_X_adapted_66 : decode b_X_adapted 66 = .ok (.ldc2_w 57, 3) := by decide +kernel
theorem d_X_adapted_69 : decode b_X_adapted 69 = .ok (.ladd, 1) := by decide +kernel
theorem d_X_adapted_70 : decode b_X_adapted 70 = .ok (.ldiv, 1) := by decide +kernel
theorem d_X_adapted_71 : decode b_X_adapted 71 = .ok (.ladd, 1) := by decide +kernel
theorem d_X_adapted_72 : decode b_X_adapted 72 = .ok (.l2i, 1) := by decide +kernel
theorem d_X_adapted_73 : decode b_X_adapted 73 = .ok (.ireturn, 1) := by decide +kernel
theorem d_X_letter_0 : decode b_X_letter 0 = .ok (.aload_n 0, 1) := by decide +kernel
theorem d_X_letter_1 : decode b_X_letter 1 = .ok (.getfield 13, 3) := by decide +kernel
theorem d_X_letter_4 : decode b_X_letter 4 = .ok (.aload_n 0, 1) := by decide +kernel
theorem d_X_letter_5 : decode b_X_letter 5 = .ok (.getfield 59, 3) := by decide +kernel
theorem d_X_letter_8 : decode b_X_letter 8 = .ok (.iload_n 1, 1) := by decide +kernel
theorem d_X_letter_9 : decode b_X_letter 9 = .ok (.invokestatic 85, 3) := by decide +kernel
theorem d_X_letter_12 : decode b_X_letter 12 = .ok (.ireturn, 1) := by decide +kernel
theorem d_X_pick_0 : decode b_X_pick 0 = .ok (.iload_n 1, 1) := by decide +kernel
theorem d_X_pick_1 : decode b_X_pick 1 = .ok (.ifCond .ne 7, 3) := by decide +kernel
theorem d_X_pick_4 : decode b_X_pick 4 = .ok (.iconst (-1), 1) := by decide +kernel
theorem d_X_pick_5 : decode b_X_pick 5 = .ok (.goto 10, 3) := by decide +kernel
theorem d_X_pick_8 : decode b_X_pick 8 = .ok (.aload_n 0, 1) := by decide +kernel
theorem d_X_pick_9 : decode b_X_pick 9 = .ok (.iload_n 2, 1) := by decide +kernel
theorem d_X_pick_10 : decode b_X_pick 10 = .ok (.iload_n 1, 1) := by decide +kernel
theorem d_X_pick_11 : decode b_X_pick 11 = .ok (.invokestatic 34, 3) := by decide +kernel
theorem d_X_pick_14 : decode b_X_pick 14 = .ok (.iaload, 1) := by decide +kernel
theorem d_X_pick_15 : decode b_X_pick 15 = .ok (.ireturn, 1) := by decide +kernel
theorem d_X_line_0 : decode b_X_line 0 = .ok (.aload_n 0, 1) := by decide +kernel
theorem d_X_line_1 : decode b_X_line 1 = .ok (.getfield 89, 3) := by decide +kernel
theorem d_X_line_4 : decode b_X_line 4 = .ok (.iconst 4, 1) := by decide +kernel
theorem d_X_line_5 : decode b_X_line 5 = .ok (.iadd, 1) := by decide +kernel
theorem d_X_line_6 : decode b_X_line 6 = .ok (.bipush 64, 2) := by decide +kernel
theorem d_X_line_8 : decode b_X_line 8 = .ok (.if_icmp .le 5, 3) := by decide +kernel
theorem d_X_line_11 : decode b_X_line 11 = .ok (.iconst 0, 1) := by decide +kernel
theorem d_X_line_12 : decode b_X_line 12 = .ok (.ireturn, 1) := by decide +kernel
theorem d_X_line_13 : decode b_X_line 13 = .ok (.aload_n 0, 1) := by decide +kernel
theorem d_X_line_14 : decode b_X_line 14 = .ok (.iload_n 1, 1) := by decide +kernel
theorem d_X_line_15 : decode b_X_line 15 = .ok (.invokevirtual 92, 3) := by decide +kernel
theorem d_X_line_18 : decode b_X_line 18 = .ok (.aload_n 0, 1) := by decide +kernel
theorem d_X_line_19 : decode b_X_line 19 = .ok (.iload_n 2, 1) := by decide +kernel
theorem d_X_line_20 : decode b_X_line 20 = .ok (.invokevirtual 92, 3) := by decide +kernel
theorem d_X_line_23 : decode b_X_line 23 = .ok (.aload_n 0, 1) := by decide +kernel
theorem d_X_line_24 : decode b_X_line 24 = .ok (.iload_n 3, 1) := by decide +kernel
theorem d_X_line_25 : decode b_X_line 25 = .ok (.invokevirtual 92, 3) := by decide +kernel
theorem d_X_line_28 : decode b_X_line 28 = .ok (.aload_n 0, 1) := by decide +kernel
theorem d_X_line_29 : decode b_X_line 29 = .ok (.iload 4, 2) := by decide +kernel
theorem d_X_line_31 : decode b_X_line 31 = .ok (.invokevirtual 92, 3) := by decide +kernel
theorem d_X_line_34 : decode b_X_line 34 = .ok (.iconst 1, 1) := by decide +kernel
theorem d_X_line_35 : decode b_X_line 35 = .ok (.ireturn, 1) := by decide +kernel
theorem d_X_behind_0 : decode b_X_behind 0 = .ok (.iload_n 1, 1) := by decide +kernel
theorem d_X_behind_1 : decode b_X_behind 1 = .ok (.bipush 37, 2) := by decide +kernel
theorem d_X_behind_3 : decode b_X_behind 3 = .ok (.invokestatic 34, 3) := by decide +kernel
theorem d_X_behind_6 : decode b_X_behind 6 = .ok (.istore_n 2, 1) := by decide +kernel
theorem d_X_behind_7 : decode b_X_behind 7 = .ok (.aload_n 0, 1) := by decide +kernel
theorem d_X_behind_8 : decode b_X_behind 8 = .ok (.getfield 16, 3) := by decide +kernel
theorem d_X_behind_11 : decode b_X_behind 11 = .ok (.aload_n 0, 1) := by decide +kernel
theorem d_X_behind_12 : decode b_X_behind 12 = .ok (.dup, 1) := by decide +kernel
theorem d_X_behind_13 : decode b_X_behind 13 = .ok (.getfield 89, 3) := by decide +kernel
theorem d_X_behind_16 : decode b_X_behind 16 = .ok (.dup_x1, 1) := by decide +kernel
theorem d_X_behind_17 : decode b_X_behind 17 = .ok (.iconst 1, 1) := by decide +kernel
theorem d_X_behind_18 : decode b_X_behind 18 = .ok (.iadd, 1) := by decide +kernel
theorem d_X_behind_19 : decode b_X_behind 19 = .ok (.putfield 89, 3) := by decide +kernel
theorem d_X_behind_22 : decode b_X_behind 22 = .ok (.iload_n 2, 1) := by decide +kernel
theorem d_X_behind_23 : decode b_X_behind 23 = .ok (.bipush 36, 2) := by decide +kernel
theorem d_X_behind_25 : decode b_X_behind 25 = .ok (.if_icmp .ne 8, 3) := by decide +kernel
theorem d_X_behind_28 : decode b_X_behind 28 = .ok (.bipush 45, 2) := by decide +kernel
theorem d_X_behind_30 : decode b_X_behind 30 = .ok (.goto 7, 3) := by decide +kernel
theorem d_X_behind_33 : decode b_X_behind 33 = .ok (.iload_n 2, 1) := by decide +kernel
theorem d_X_behind_34 : decode b_X_behind 34 = .ok (.invokestatic 81, 3) := by decide +kernel
theorem d_X_behind_37 : decode b_X_behind 37 = .ok (.iastore, 1) := by decide +kernel
theorem d_X_behind_38 : decode b_X_behind 38 = .ok (.return_, 1) := by decide +kernel
theorem d_X_clear_0 : decode b_X_clear 0 = .ok (.aload_n 0, 1) := by decide +kernel
theorem d_X_clear_1 : decode b_X_clear 1 = .ok (.iconst 0, 1) := by decide +kernel
theorem d_X_clear_2 : decode b_X_clear 2 = .ok (.putfield 89, 3) := by decide +kernel
theorem d_X_clear_5 : decode b_X_clear 5 = .ok (.return_, 1) := by decide +kernel
theorem d_X_copy_0 : decode b_X_copy 0 = .ok (.aload_n 0, 1) := by decide +kernel
theorem d_X_copy_1 : decode b_X_copy 1 = .ok (.aload_n 0, 1) := by decide +kernel
theorem d_X_copy_2 : decode b_X_copy 2 = .ok (.getfield 59, 3) := by decide +kernel
theorem d_X_copy_5 : decode b_X_copy 5 = .ok (.bipush 64, 2) := by decide +kernel
theorem d_X_copy_7 : decode b_X_copy 7 = .ok (.invokestatic 95, 3) := by decide +kernel
theorem d_X_copy_10 : decode b_X_copy 10 = .ok (.putfield 89, 3) := by decide +kernel
theorem d_X_copy_13 : decode b_X_copy 13 = .ok (.iconst 0, 1) := by decide +kernel
theorem d_X_copy_14 : decode b_X_copy 14 = .ok (.istore_n 1, 1) := by decide +kernel
theorem d_X_copy_15 : decode b_X_copy 15 = .ok (.iload_n 1, 1) := by decide +kernel
theorem d_X_copy_16 : decode b_X_copy 16 = .ok (.aload_n 0, 1) := by decide +kernel
theorem d_X_copy_17 : decode b_X_copy 17 = .ok (.getfield 89, 3) := by decide +kernel
theorem d_X_copy_20 : decode b_X_copy 20 = .ok (.if_icmp .ge 21, 3) := by decide +kernel
theorem d_X_copy_23 : decode b_X_copy 23 = .ok (.aload_n 0, 1) := by decide +kernel
theorem d_X_copy_24 : decode b_X_copy 24 = .ok (.getfield 16, 3) := by decide +kernel
theorem d_X_copy_27 : decode b_X_copy 27 = .ok (.iload_n 1, 1) := by decide +kernel
theorem d_X_copy_28 : decode b_X_copy 28 = .ok (.aload_n 0, 1) := by decide +kernel
theorem d_X_copy_29 : decode b_X_copy 29 = .ok (.getfield 13, 3) := by decide +kernel
theorem d_X_copy_32 : decode b_X_copy 32 = .ok (.iload_n 1, 1) := by decide +kernel
theorem d_X_copy_33 : decode b_X_copy 33 = .ok (.iaload, 1) := by decide +kernel
theorem d_X_copy_34 : decode b_X_copy 34 = .ok (.iastore, 1) := by decide +kernel
theorem d_X_copy_35 : decode b_X_copy 35 = .ok (.iinc 1 1, 3) := by decide +kernel
theorem d_X_copy_38 : decode b_X_copy 38 = .ok (.goto (-23), 3) := by decide +kernel
theorem d_X_copy_41 : decode b_X_copy 41 = .ok (.return_, 1) := by decide +kernel
theorem d_X_read_0 : decode b_X_read 0 = .ok (.aload_n 0, 1) := by decide +kernel
theorem d_X_read_1 : decode b_X_read 1 = .ok (.getfield 89, 3) := by decide +kernel
theorem d_X_read_4 : decode b_X_read 4 = .ok (.iconst 1, 1) := by decide +kernel
theorem d_X_read_5 : decode b_X_read 5 = .ok (.isub, 1) := by decide +kernel
theorem d_X_read_6 : decode b_X_read 6 = .ok (.istore_n 1, 1) := by decide +kernel
theorem d_X_read_7 : decode b_X_read 7 = .ok (.iload_n 1, 1) := by decide +kernel
theorem d_X_read_8 : decode b_X_read 8 = .ok (.ifCond .le 20, 3) := by decide +kernel
theorem d_X_read_11 : decode b_X_read 11 = .ok (.aload_n 0, 1) := by decide +kernel
theorem d_X_read_12 : decode b_X_read 12 = .ok (.getfield 16, 3) := by decide +kernel
theorem d_X_read_15 : decode b_X_read 15 = .ok (.iload_n 1, 1) := by decide +kernel
theorem d_X_read_16 : decode b_X_read 16 = .ok (.iaload, 1) := by decide +kernel
theorem d_X_read_17 : decode b_X_read 17 = .ok (.bipush 45, 2) := by decide +kernel
theorem d_X_read_19 : decode b_X_read 19 = .ok (.if_icmp .eq 9, 3) := by decide +kernel
theorem d_X_read_22 : decode b_X_read 22 = .ok (.iinc 1 (-1), 3) := by decide +kernel
theorem d_X_read_25 : decode b_X_read 25 = .ok (.goto (-18), 3) := by decide +kernel
theorem d_X_read_28 : decode b_X_read 28 = .ok (.iload_n 1, 1) := by decide +kernel
theorem d_X_read_29 : decode b_X_read 29 = .ok (.iconst 0, 1) := by decide +kernel
theorem d_X_read_30 : decode b_X_read 30 = .ok (.invokestatic 100, 3) := by decide +kernel
theorem d_X_read_33 : decode b_X_read 33 = .ok (.istore_n 2, 1) := by decide +kernel
theorem d_X_read_34 : decode b_X_read 34 = .ok (.iconst 0, 1) := by decide +kernel
theorem d_X_read_35 : decode b_X_read 35 = .ok (.istore_n 3, 1) := by decide +kernel
theorem d_X_read_36 : decode b_X_read 36 = .ok (.aload_n 0, 1) := by decide +kernel
theorem d_X_read_37 : decode b_X_read 37 = .ok (.getfield 29, 3) := by decide +kernel
theorem d_X_read_40 : decode b_X_read 40 = .ok (.bipush 64, 2) := by decide +kernel
theorem d_X_read_42 : decode b_X_read 42 = .ok (.iconst (-1), 1) := by decide +kernel
theorem d_X_read_43 : decode b_X_read 43 = .ok (.iastore, 1) := by decide +kernel
theorem d_X_read_44 : decode b_X_read 44 = .ok (.iload_n 3, 1) := by decide +kernel
theorem d_X_read_45 : decode b_X_read 45 = .ok (.iload_n 2, 1) := by decide +kernel
theorem d_X_read_46 : decode b_X_read 46 = .ok (.if_icmp .ge 21, 3) := by decide +kernel
theorem d_X_read_49 : decode b_X_read 49 = .ok (.aload_n 0, 1) := by decide +kernel
theorem d_X_read_50 : decode b_X_read 50 = .ok (.iload_n 3, 1) := by decide +kernel
theorem d_X_read_51 : decode b_X_read 51 = .ok (.iload_n 3, 1) := by decide +kernel
theorem d_X_read_52 : decode b_X_read 52 = .ok (.aload_n 0, 1) := by decide +kernel
theorem d_X_read_53 : decode b_X_read 53 = .ok (.getfield 16, 3) := by decide +kernel
theorem d_X_read_56 : decode b_X_read 56 = .ok (.iload_n 3, 1) := by decide +kernel
theorem d_X_read_57 : decode b_X_read 57 = .ok (.iaload, 1) := by decide +kernel
theorem d_X_read_58 : decode b_X_read 58 = .ok (.invokevirtual 103, 3) := by decide +kernel
theorem d_X_read_61 : decode b_X_read 61 = .ok (.iinc 3 1, 3) := by decide +kernel
theorem d_X_read_64 : decode b_X_read 64 = .ok (.goto (-20), 3) := by decide +kernel
theorem d_X_read_67 : decode b_X_read 67 = .ok (.aload_n 0, 1) := by decide +kernel
theorem d_X_read_68 : decode b_X_read 68 = .ok (.iload_n 2, 1) := by decide +kernel
theorem d_X_read_69 : decode b_X_read 69 = .ok (.ifCond .le 9, 3) := by decide +kernel
theorem d_X_read_72 : decode b_X_read 72 = .ok (.iload_n 2, 1) := by decide +kernel
theorem d_X_read_73 : decode b_X_read 73 = .ok (.iconst 1, 1) := by decide +kernel
theorem d_X_read_74 : decode b_X_read 74 = .ok (.iadd, 1) := by decide +kernel
theorem d_X_read_75 : decode b_X_read 75 = .ok (.goto 4, 3) := by decide +kernel
theorem d_X_read_78 : decode b_X_read 78 = .ok (.iconst 0, 1) := by decide +kernel
theorem d_X_read_79 : decode b_X_read 79 = .ok (.putfield 107, 3) := by decide +kernel
theorem d_X_read_82 : decode b_X_read 82 = .ok (.ldc2_w 110, 3) := by decide +kernel
theorem d_X_read_85 : decode b_X_read 85 = .ok (.lstore 4, 2) := by decide +kernel
theorem d_X_read_87 : decode b_X_read 87 = .ok (.lconst 0, 1) := by decide +kernel
theorem d_X_read_88 : decode b_X_read 88 = .ok (.lstore 6, 2) := by decide +kernel
theorem d_X_read_90 : decode b_X_read 90 = .ok (.bipush 72, 2) := by decide +kernel
theorem d_X_read_92 : decode b_X_read 92 = .ok (.istore 8, 2) := by decide +kernel
theorem d_X_read_94 : decode b_X_read 94 = .ok (.aload_n 0, 1) := by decide +kernel
theorem d_X_read_95 : decode b_X_read 95 = .ok (.getfield 107, 3) := by decide +kernel
theorem d_X_read_98 : decode b_X_read 98 = .ok (.aload_n 0, 1) := by decide +kernel
theorem d_X_read_99 : decode b_X_read 99 = .ok (.getfield 89, 3) := by decide +kernel
theorem d_X_read_102 : decode b_X_read 102 = .ok (.if_icmp .ge 130, 3) := by decide +kernel
theorem d_X_read_105 : decode b_X_read 105 = .ok (.aload_n 0, 1) := by decide +kernel
theorem d_X_read_106 : decode b_X_read 106 = .ok (.lload 6, 2) := by decide +kernel
theorem d_X_read_108 : decode b_X_read 108 = .ok (.iload 8, 2) := by decide +kernel
theorem d_X_read_110 : decode b_X_read 110 = .ok (.invokevirtual 112, 3) := by decide +kernel
theorem d_X_read_113 : decode b_X_read 113 = .ok (.lstore 9, 2) := by decide +kernel
theorem d_X_read_115 : decode b_X_read 115 = .ok (.lload 9, 2) := by decide +kernel
theorem d_X_read_117 : decode b_X_read 117 = .ok (.lconst 0, 1) := by decide +kernel
theorem d_X_read_118 : decode b_X_read 118 = .ok (.lcmp, 1) := by decide +kernel
theorem d_X_read_119 : decode b_X_read 119 = .ok (.ifCond .ge 8, 3) := by decide +kernel
theorem d_X_read_122 : decode b_X_read 122 = .ok (.aload_n 0, 1) := by decide +kernel
theorem d_X_read_123 : decode b_X_read 123 = .ok (.invokevirtual 116, 3) := by decide +kernel
theorem d_X_read_126 : decode b_X_read 126 = .ok (.ireturn, 1) := by decide +kernel
theorem d_X_read_127 : decode b_X_read 127 = .ok (.lload 9, 2) := by decide +kernel
theorem d_X_read_129 : decode b_X_read 129 = .ok (.iload_n 3, 1) := by decide +kernel
theorem d_X_read_130 : decode b_X_read 130 = .ok (.iconst 1, 1) := by decide +kernel
theorem d_X_read_131 : decode b_X_read 131 = .ok (.iadd, 1) := by decide +kernel
theorem d_X_read_132 : decode b_X_read 132 = .ok (.lload 6, 2) := by decide +kernel
theorem d_X_read_134 : decode b_X_read 134 = .ok (.lconst 0, 1) := by decide +kernel
theorem d_X_read_135 : decode b_X_read 135 = .ok (.lcmp, 1) := by decide +kernel
theorem d_X_read_136 : decode b_X_read 136 = .ok (.ifCond .ne 7, 3) := by decide +kernel
theorem d_X_read_139 : decode b_X_read 139 = .ok (.iconst 1, 1) := by decide +kernel
theorem d_X_read_140 : decode b_X_read 140 = .ok (.goto 4, 3) := by decide +kernel
theorem d_X_read_143 : decode b_X_read 143 = .ok (.iconst 0, 1) := by decide +kernel
theorem d_X_read_144 : decode b_X_read 144 = .ok (.invokestatic 70, 3) := by decide +kernel
theorem d_X_read_147 : decode b_X_read 147 = .ok (.istore 8, 2) := by decide +kernel
theorem d_X_read_149 : decode b_X_read 149 = .ok (.lload 6, 2) := by decide +kernel
theorem d_X_read_151 : decode b_X_read 151 = .ok (.lload 9, 2) := by decide +kernel
theorem d_X_read_153 : decode b_X_read 153 = .ok (.ladd, 1) := by decide +kernel
theorem d_X_read_154 : decode b_X_read 154 = .ok (.lstore 6, 2) := by decide +kernel
theorem d_X_read_156 : decode b_X_read 156 = .ok (.lload 4, 2) := by decide +kernel
theorem d_X_read_158 : decode b_X_read 158 = .ok (.lload 6, 2) := by decide +kernel
theorem d_X_read_160 : decode b_X_read 160 = .ok (.iload_n 3, 1) := by decide +kernel
theorem d_X_read_161 : decode b_X_read 161 = .ok (.iconst 1, 1) := by decide +kernel
theorem d_X_read_162 : decode b_X_read 162 = .ok (.iadd, 1) := by decide +kernel
theorem d_X_read_163 : decode b_X_read 163 = .ok (.i2l, 1) := by decide +kernel
theorem d_X_read_164 : decode b_X_read 164 = .ok (.ldiv, 1) := by decide +kernel
theorem d_X_read_165 : decode b_X_read 165 = .ok (.ladd, 1) := by decide +kernel
theorem d_X_read_166 : decode b_X_read 166 = .ok (.lstore 4, 2) := by decide +kernel
theorem d_X_read_168 : decode b_X_read 168 = .ok (.lload 6, 2) := by decide +kernel
theorem d_X_read_170 : decode b_X_read 170 = .ok (.iload_n 3, 1) := by decide +kernel
theorem d_X_read_171 : decode b_X_read 171 = .ok (.iconst 1, 1) := by decide +kernel
theorem d_X_read_172 : decode b_X_read 172 = .ok (.iadd, 1) := by decide +kernel
theorem d_X_read_173 : decode b_X_read 173 = .ok (.i2l, 1) := by decide +kernel
theorem d_X_read_174 : decode b_X_read 174 = .ok (.lrem, 1) := by decide +kernel
theorem d_X_read_175 : decode b_X_read 175 = .ok (.lstore 6, 2) := by decide +kernel
theorem d_X_read_177 : decode b_X_read 177 = .ok (.lload 4, 2) := by decide +kernel
theorem d_X_read_179 : decode b_X_read 179 = .ok (.ldc2_w 119, 3) := by decide +kernel
theorem d_X_read_182 : decode b_X_read 182 = .ok (.lcmp, 1) := by decide +kernel
theorem d_X_read_183 : decode b_X_read 183 = .ok (.ifCond .gt 21, 3) := by decide +kernel
theorem d_X_read_186 : decode b_X_read 186 = .ok (.lload 4, 2) := by decide +kernel
theorem d_X_read_188 : decode b_X_read 188 = .ok (.ldc2_w 121, 3) := by decide +kernel
theorem d_X_read_191 : decode b_X_read 191 = .ok (.lcmp, 1) := by decide +kernel
theorem d_X_read_192 : decode b_X_read 192 = .ok (.ifCond .lt 17, 3) := by decide +kernel
theorem d_X_read_195 : decode b_X_read 195 = .ok (.lload 4, 2) := by decide +kernel
theorem d_X_read_197 : decode b_X_read 197 = .ok (.ldc2_w 123, 3) := by decide +kernel
theorem d_X_read_200 : decode b_X_read 200 = .ok (.lcmp, 1) := by decide +kernel
theorem d_X_read_201 : decode b_X_read 201 = .ok (.ifCond .ge 8, 3) := by decide +kernel
theorem d_X_read_204 : decode b_X_read 204 = .ok (.aload_n 0, 1) := by decide +kernel
theorem d_X_read_205 : decode b_X_read 205 = .ok (.invokevirtual 116, 3) := by decide +kernel
theorem d_X_read_208 : decode b_X_read 208 = .ok (.ireturn, 1) := by decide +kernel
theorem d_X_read_209 : decode b_X_read 209 = .ok (.aload_n 0, 1) := by decide +kernel
theorem d_X_read_210 : decode b_X_read 210 = .ok (.iload_n 3, 1) := by decide +kernel
theorem d_X_read_211 : decode b_X_read 211 = .ok (.lload 6, 2) := by decide +kernel
theorem d_X_read_213 : decode b_X_read 213 = .ok (.l2i, 1) := by decide +kernel
theorem d_X_read_214 : decode b_X_read 214 = .ok (.lload 4, 2) := by decide +kernel
theorem d_X_read_216 : decode b_X_read 216 = .ok (.l2i, 1) := by decide +kernel
theorem d_X_read_217 : decode b_X_read 217 = .ok (.invokevirtual 103, 3) := by decide +kernel
theorem d_X_read_220 : decode b_X_read 220 = .ok (.lload 6, 2) := by decide +kernel
theorem d_X_read_222 : decode b_X_read 222 = .ok (.lconst 1, 1) := by decide +kernel
theorem d_X_read_223 : decode b_X_read 223 = .ok (.ladd, 1) := by decide +kernel
theorem d_X_read_224 : decode b_X_read 224 = .ok (.lstore 6, 2) := by decide +kernel
theorem d_X_read_226 : decode b_X_read 226 = .ok (.iinc 3 1, 3) := by decide +kernel
theorem d_X_read_229 : decode b_X_read 229 = .ok (.goto (-135), 3) := by decide +kernel
theorem d_X_read_232 : decode b_X_read 232 = .ok (.aload_n 0, 1) := by decide +kernel
theorem d_X_read_233 : decode b_X_read 233 = .ok (.iconst 0, 1) := by decide +kernel
theorem d_X_read_234 : decode b_X_read 234 = .ok (.putfield 125, 3) := by decide +kernel
theorem d_X_read_237 : decode b_X_read 237 = .ok (.aload_n 0, 1) := by decide +kernel
theorem d_X_read_238 : decode b_X_read 238 = .ok (.getfield 29, 3) := by decide +kernel
theorem d_X_read_241 : decode b_X_read 241 = .ok (.bipush 64, 2) := by decide +kernel
theorem d_X_read_243 : decode b_X_read 243 = .ok (.iaload, 1) := by decide +kernel
theorem d_X_read_244 : decode b_X_read 244 = .ok (.istore 9, 2) := by decide +kernel
theorem d_X_read_246 : decode b_X_read 246 = .ok (.iload 9, 2) := by decide +kernel
theorem d_X_read_248 : decode b_X_read 248 = .ok (.iconst (-1), 1) := by decide +kernel
theorem d_X_read_249 : decode b_X_read 249 = .ok (.if_icmp .eq 38, 3) := by decide +kernel
theorem d_X_read_252 : decode b_X_read 252 = .ok (.aload_n 0, 1) := by decide +kernel
theorem d_X_read_253 : decode b_X_read 253 = .ok (.getfield 19, 3) := by decide +kernel
theorem d_X_read_256 : decode b_X_read 256 = .ok (.aload_n 0, 1) := by decide +kernel
theorem d_X_read_257 : decode b_X_read 257 = .ok (.dup, 1) := by decide +kernel
theorem d_X_read_258 : decode b_X_read 258 = .ok (.getfield 125, 3) := by decide +kernel
theorem d_X_read_261 : decode b_X_read 261 = .ok (.dup_x1, 1) := by decide +kernel
theorem d_X_read_262 : decode b_X_read 262 = .ok (.iconst 1, 1) := by decide +kernel
theorem d_X_read_263 : decode b_X_read 263 = .ok (.iadd, 1) := by decide +kernel
theorem d_X_read_264 : decode b_X_read 264 = .ok (.putfield 125, 3) := by decide +kernel
theorem d_X_read_267 : decode b_X_read 267 = .ok (.aload_n 0, 1) := by decide +kernel
theorem d_X_read_268 : decode b_X_read 268 = .ok (.getfield 26, 3) := by decide +kernel
theorem d_X_read_271 : decode b_X_read 271 = .ok (.iload 9, 2) := by decide +kernel
theorem d_X_read_273 : decode b_X_read 273 = .ok (.iaload, 1) := by decide +kernel
theorem d_X_read_274 : decode b_X_read 274 = .ok (.iastore, 1) := by decide +kernel
theorem d_X_read_275 : decode b_X_read 275 = .ok (.aload_n 0, 1) := by decide +kernel
theorem d_X_read_276 : decode b_X_read 276 = .ok (.getfield 29, 3) := by decide +kernel
theorem d_X_read_279 : decode b_X_read 279 = .ok (.iload 9, 2) := by decide +kernel
theorem d_X_read_281 : decode b_X_read 281 = .ok (.iaload, 1) := by decide +kernel
theorem d_X_read_282 : decode b_X_read 282 = .ok (.istore 9, 2) := by decide +kernel
theorem d_X_read_284 : decode b_X_read 284 = .ok (.goto (-38), 3) := by decide +kernel
theorem d_X_read_287 : decode b_X_read 287 = .ok (.aload_n 0, 1) := by decide +kernel
theorem d_X_read_288 : decode b_X_read 288 = .ok (.getfield 125, 3) := by decide +kernel
theorem d_X_read_291 : decode b_X_read 291 = .ok (.ireturn, 1) := by decide +kernel
theorem d_X_put3_0 : decode b_X_put3 0 = .ok (.bipush 64, 2) := by decide +kernel
theorem d_X_put3_2 : decode b_X_put3 2 = .ok (.istore 4, 2) := by decide +kernel
theorem d_X_put3_4 : decode b_X_put3 4 = .ok (.iconst 0, 1) := by decide +kernel
theorem d_X_put3_5 : decode b_X_put3 5 = .ok (.istore 5, 2) := by decide +kernel
theorem d_X_put3_7 : decode b_X_put3 7 = .ok (.iload 5, 2) := by decide +kernel
theorem d_X_put3_9 : decode b_X_put3 9 = .ok (.iload_n 2, 1) := by decide +kernel
theorem d_X_put3_10 : decode b_X_put3 10 = .ok (.if_icmp .ge 18, 3) := by decide +kernel
theorem d_X_put3_13 : decode b_X_put3 13 = .ok (.aload_n 0, 1) := by decide +kernel
theorem d_X_put3_14 : decode b_X_put3 14 = .ok (.getfield 29, 3) := by decide +kernel
theorem d_X_put3_17 : decode b_X_put3 17 = .ok (.iload 4, 2) := by decide +kernel
theorem d_X_put3_19 : decode b_X_put3 19 = .ok (.iaload, 1) := by decide +kernel
theorem d_X_put3_20 : decode b_X_put3 20 = .ok (.istore 4, 2) := by decide +kernel
theorem d_X_put3_22 : decode b_X_put3 22 = .ok (.iinc 5 1, 3) := by decide +kernel
theorem d_X_put3_25 : decode b_X_put3 25 = .ok (.goto (-18), 3) := by decide +kernel
theorem d_X_put3_28 : decode b_X_put3 28 = .ok (.aload_n 0, 1) := by decide +kernel
theorem d_X_put3_29 : decode b_X_put3 29 = .ok (.getfield 26, 3) := by decide +kernel
theorem d_X_put3_32 : decode b_X_put3 32 = .ok (.iload_n 1, 1) := by decide +kernel
theorem d_X_put3_33 : decode b_X_put3 33 = .ok (.iload_n 3, 1) := by decide +kernel
theorem d_X_put3_34 : decode b_X_put3 34 = .ok (.iastore, 1) := by decide +kernel
theorem d_X_put3_35 : decode b_X_put3 35 = .ok (.aload_n 0, 1) := by decide +kernel
theorem d_X_put3_36 : decode b_X_put3 36 = .ok (.getfield 29, 3) := by decide +kernel
theorem d_X_put3_39 : decode b_X_put3 39 = .ok (.iload_n 1, 1) := by decide +kernel
theorem d_X_put3_40 : decode b_X_put3 40 = .ok (.aload_n 0, 1) := by decide +kernel
theorem d_X_put3_41 : decode b_X_put3 41 = .ok (.getfield 29, 3) := by decide +kernel
theorem d_X_put3_44 : decode b_X_put3 44 = .ok (.iload 4, 2) := by decide +kernel
theorem d_X_put3_46 : decode b_X_put3 46 = .ok (.iaload, 1) := by decide +kernel
theorem d_X_put3_47 : decode b_X_put3 47 = .ok (.iastore, 1) := by decide +kernel
theorem d_X_put3_48 : decode b_X_put3 48 = .ok (.aload_n 0, 1) := by decide +kernel
theorem d_X_put3_49 : decode b_X_put3 49 = .ok (.getfield 29, 3) := by decide +kernel
theorem d_X_put3_52 : decode b_X_put3 52 = .ok (.iload 4, 2) := by decide +kernel
theorem d_X_put3_54 : decode b_X_put3 54 = .ok (.iload_n 1, 1) := by decide +kernel
theorem d_X_put3_55 : decode b_X_put3 55 = .ok (.iastore, 1) := by decide +kernel
theorem d_X_put3_56 : decode b_X_put3 56 = .ok (.return_, 1) := by decide +kernel
theorem d_X_told_0 : decode b_X_told 0 = .ok (.lconst 0, 1) := by decide +kernel
theorem d_X_told_1 : decode b_X_told 1 = .ok (.lstore 4, 2) := by decide +kernel
theorem d_X_told_3 : decode b_X_told 3 = .ok (.lconst 1, 1) := by decide +kernel
theorem d_X_told_4 : decode b_X_told 4 = .ok (.lstore 6, 2) := by decide +kernel
theorem d_X_told_6 : decode b_X_told 6 = .ok (.bipush 36, 2) := by decide +kernel
theorem d_X_told_8 : decode b_X_told 8 = .ok (.istore 8, 2) := by decide +kernel
theorem d_X_told_10 : decode b_X_told 10 = .ok (.aload_n 0, 1) := by decide +kernel
theorem d_X_told_11 : decode b_X_told 11 = .ok (.getfield 107, 3) := by decide +kernel
theorem d_X_told_14 : decode b_X_told 14 = .ok (.aload_n 0, 1) := by decide +kernel
theorem d_X_told_15 : decode b_X_told 15 = .ok (.getfield 89, 3) := by decide +kernel
theorem d_X_told_18 : decode b_X_told 18 = .ok (.if_icmp .ge 25, 3) := by decide +kernel
theorem d_X_told_21 : decode b_X_told 21 = .ok (.aload_n 0, 1) := by decide +kernel
theorem d_X_told_22 : decode b_X_told 22 = .ok (.getfield 16, 3) := by decide +kernel
theorem d_X_told_25 : decode b_X_told 25 = .ok (.aload_n 0, 1) := by decide +kernel
theorem d_X_told_26 : decode b_X_told 26 = .ok (.dup, 1) := by decide +kernel
theorem d_X_told_27 : decode b_X_told 27 = .ok (.getfield 107, 3) := by decide +kernel
theorem d_X_told_30 : decode b_X_told 30 = .ok (.dup_x1, 1) := by decide +kernel
theorem d_X_told_31 : decode b_X_told 31 = .ok (.iconst 1, 1) := by decide +kernel
theorem d_X_told_32 : decode b_X_told 32 = .ok (.iadd, 1) := by decide +kernel
theorem d_X_told_33 : decode b_X_told 33 = .ok (.putfield 107, 3) := by decide +kernel
theorem d_X_told_36 : decode b_X_told 36 = .ok (.iaload, 1) := by decide +kernel
theorem d_X_told_37 : decode b_X_told 37 = .ok (.invokestatic 128, 3) := by decide +kernel
theorem d_X_told_40 : decode b_X_told 40 = .ok (.goto 4, 3) := by decide +kernel
theorem d_X_told_43 : decode b_X_told 43 = .ok (.iconst (-1), 1) := by decide +kernel
theorem d_X_told_44 : decode b_X_told 44 = .ok (.istore 9, 2) := by decide +kernel
theorem d_X_told_46 : decode b_X_told 46 = .ok (.iload 8, 2) := by decide +kernel
theorem d_X_told_48 : decode b_X_told 48 = .ok (.iload_n 3, 1) := by decide +kernel
theorem d_X_told_49 : decode b_X_told 49 = .ok (.invokestatic 74, 3) := by decide +kernel
theorem d_X_told_52 : decode b_X_told 52 = .ok (.istore 10, 2) := by decide +kernel
theorem d_X_told_54 : decode b_X_told 54 = .ok (.iload 9, 2) := by decide +kernel
theorem d_X_told_56 : decode b_X_told 56 = .ok (.iconst (-1), 1) := by decide +kernel
theorem d_X_told_57 : decode b_X_told 57 = .ok (.if_icmp .ne 7, 3) := by decide +kernel
theorem d_X_told_60 : decode b_X_told 60 = .ok (.ldc2_w 131, 3) := by decide +kernel
theorem d_X_told_63 : decode b_X_told 63 = .ok (.lreturn, 1) := by decide +kernel
theorem d_X_told_64 : decode b_X_told 64 = .ok (.lload 4, 2) := by decide +kernel
theorem d_X_told_66 : decode b_X_told 66 = .ok (.iload 9, 2) := by decide +kernel
theorem d_X_told_68 : decode b_X_told 68 = .ok (.i2l, 1) := by decide +kernel
theorem d_X_told_69 : decode b_X_told 69 = .ok (.lload 6, 2) := by decide +kernel
theorem d_X_told_71 : decode b_X_told 71 = .ok (.lmul, 1) := by decide +kernel
theorem d_X_told_72 : decode b_X_told 72 = .ok (.ladd, 1) := by decide +kernel
theorem d_X_told_73 : decode b_X_told 73 = .ok (.lstore 4, 2) := by decide +kernel
theorem d_X_told_75 : decode b_X_told 75 = .ok (.lload_n 1, 1) := by decide +kernel
theorem d_X_told_76 : decode b_X_told 76 = .ok (.lload 4, 2) := by decide +kernel
theorem d_X_told_78 : decode b_X_told 78 = .ok (.ladd, 1) := by decide +kernel
theorem d_X_told_79 : decode b_X_told 79 = .ok (.ldc2_w 133, 3) := by decide +kernel
theorem d_X_told_82 : decode b_X_told 82 = .ok (.lcmp, 1) := by decide +kernel
theorem d_X_told_83 : decode b_X_told 83 = .ok (.ifCond .le 7, 3) := by decide +kernel
theorem d_X_told_86 : decode b_X_told 86 = .ok (.ldc2_w 131, 3) := by decide +kernel
theorem d_X_told_89 : decode b_X_told 89 = .ok (.lreturn, 1) := by decide +kernel
theorem d_X_told_90 : decode b_X_told 90 = .ok (.iload 9, 2) := by decide +kernel
theorem d_X_told_92 : decode b_X_told 92 = .ok (.iload 10, 2) := by decide +kernel
theorem d_X_told_94 : decode b_X_told 94 = .ok (.if_icmp .ge 6, 3) := by decide +kernel
theorem d_X_told_97 : decode b_X_told 97 = .ok (.lload 4, 2) := by decide +kernel
theorem d_X_told_99 : decode b_X_told 99 = .ok (.lreturn, 1) := by decide +kernel
theorem d_X_told_100 : decode b_X_told 100 = .ok (.lload 6, 2) := by decide +kernel
theorem d_X_told_102 : decode b_X_told 102 = .ok (.bipush 36, 2) := by decide +kernel
theorem d_X_told_104 : decode b_X_told 104 = .ok (.iload 10, 2) := by decide +kernel
theorem d_X_told_106 : decode b_X_told 106 = .ok (.isub, 1) := by decide +kernel
theorem d_X_told_107 : decode b_X_told 107 = .ok (.i2l, 1) := by decide +kernel
theorem d_X_told_108 : decode b_X_told 108 = .ok (.lmul, 1) := by decide +kernel
theorem d_X_told_109 : decode b_X_told 109 = .ok (.lstore 6, 2) := by decide +kernel
theorem d_X_told_111 : decode b_X_told 111 = .ok (.lload 6, 2) := by decide +kernel
theorem d_X_told_113 : decode b_X_told 113 = .ok (.ldc2_w 133, 3) := by decide +kernel
theorem d_X_told_116 : decode b_X_told 116 = .ok (.lcmp, 1) := by decide +kernel
theorem d_X_told_117 : decode b_X_told 117 = .ok (.ifCond .le 7, 3) := by decide +kernel
theorem d_X_told_120 : decode b_X_told 120 = .ok (.ldc2_w 131, 3) := by decide +kernel
theorem d_X_told_123 : decode b_X_told 123 = .ok (.lreturn, 1) := by decide +kernel
theorem d_X_told_124 : decode b_X_told 124 = .ok (.iinc 8 36, 3) := by decide +kernel
theorem d_X_told_127 : decode b_X_told 127 = .ok (.goto (-117), 3) := by decide +kernel
theorem d_X_digitOf_0 : decode b_X_digitOf 0 = .ok (.iload_n 0, 1) := by decide +kernel
theorem d_X_digitOf_1 : decode b_X_digitOf 1 = .ok (.bipush 97, 2) := by decide +kernel
theorem d_X_digitOf_3 : decode b_X_digitOf 3 = .ok (.if_icmp .lt 16, 3) := by decide +kernel
theorem d_X_digitOf_6 : decode b_X_digitOf 6 = .ok (.iload_n 0, 1) := by decide +kernel
theorem d_X_digitOf_7 : decode b_X_digitOf 7 = .ok (.bipush 122, 2) := by decide +kernel
theorem d_X_digitOf_9 : decode b_X_digitOf 9 = .ok (.if_icmp .gt 10, 3) := by decide +kernel
theorem d_X_digitOf_12 : decode b_X_digitOf 12 = .ok (.iload_n 0, 1) := by decide +kernel
theorem d_X_digitOf_13 : decode b_X_digitOf 13 = .ok (.bipush 97, 2) := by decide +kernel
theorem d_X_digitOf_15 : decode b_X_digitOf 15 = .ok (.isub, 1) := by decide +kernel
theorem d_X_digitOf_16 : decode b_X_digitOf 16 = .ok (.goto 23, 3) := by decide +kernel
theorem d_X_digitOf_19 : decode b_X_digitOf 19 = .ok (.iload_n 0, 1) := by decide +kernel
theorem d_X_digitOf_20 : decode b_X_digitOf 20 = .ok (.bipush 48, 2) := by decide +kernel
theorem d_X_digitOf_22 : decode b_X_digitOf 22 = .ok (.if_icmp .lt 16, 3) := by decide +kernel
theorem d_X_digitOf_25 : decode b_X_digitOf 25 = .ok (.iload_n 0, 1) := by decide +kernel
theorem d_X_digitOf_26 : decode b_X_digitOf 26 = .ok (.bipush 57, 2) := by decide +kernel
theorem d_X_digitOf_28 : decode b_X_digitOf 28 = .ok (.if_icmp .gt 10, 3) := by decide +kernel
theorem d_X_digitOf_31 : decode b_X_digitOf 31 = .ok (.iload_n 0, 1) := by decide +kernel
theorem d_X_digitOf_32 : decode b_X_digitOf 32 = .ok (.bipush 22, 2) := by decide +kernel
theorem d_X_digitOf_34 : decode b_X_digitOf 34 = .ok (.isub, 1) := by decide +kernel
theorem d_X_digitOf_35 : decode b_X_digitOf 35 = .ok (.goto 4, 3) := by decide +kernel
theorem d_X_digitOf_38 : decode b_X_digitOf 38 = .ok (.iconst (-1), 1) := by decide +kernel
theorem d_X_digitOf_39 : decode b_X_digitOf 39 = .ok (.ireturn, 1) := by decide +kernel
theorem d_X_refused_0 : decode b_X_refused 0 = .ok (.aload_n 0, 1) := by decide +kernel
theorem d_X_refused_1 : decode b_X_refused 1 = .ok (.iconst 0, 1) := by decide +kernel
theorem d_X_refused_2 : decode b_X_refused 2 = .ok (.putfield 125, 3) := by decide +kernel
theorem d_X_refused_5 : decode b_X_refused 5 = .ok (.iconst (-1), 1) := by decide +kernel
theorem d_X_refused_6 : decode b_X_refused 6 = .ok (.ireturn, 1) := by decide +kernel
theorem d_X_sign_0 : decode b_X_sign 0 = .ok (.aload_n 0, 1) := by decide +kernel
theorem d_X_sign_1 : decode b_X_sign 1 = .ok (.getfield 19, 3) := by decide +kernel
theorem d_X_sign_4 : decode b_X_sign 4 = .ok (.aload_n 0, 1) := by decide +kernel
theorem d_X_sign_5 : decode b_X_sign 5 = .ok (.getfield 125, 3) := by decide +kernel
theorem d_X_sign_8 : decode b_X_sign 8 = .ok (.iload_n 1, 1) := by decide +kernel
theorem d_X_sign_9 : decode b_X_sign 9 = .ok (.invokestatic 85, 3) := by decide +kernel
theorem d_X_sign_12 : decode b_X_sign 12 = .ok (.ireturn, 1) := by decide +kernel
end
section
theorem d_M_init_0 : decode b_M_init 0 = .ok (.aload_n 0, 1) := by decide +kernel
theorem d_M_init_1 : decode b_M_init 1 = .ok (.invokespecial 1, 3) := by decide +kernel
theorem d_M_init_4 : decode b_M_init 4 = .ok (.aload_n 0, 1) := by decide +kernel
theorem d_M_init_5 : decode b_M_init 5 = .ok (.bipush 24, 2) := by decide +kernel
theorem d_M_init_7 : decode b_M_init 7 = .ok (.newarray .int, 2) := by decide +kernel
theorem d_M_init_9 : decode b_M_init 9 = .ok (.putfield 7, 3) := by decide +kernel
theorem d_M_init_12 : decode b_M_init 12 = .ok (.aload_n 0, 1) := by decide +kernel
theorem d_M_init_13 : decode b_M_init 13 = .ok (.sipush 160, 3) := by decide +kernel
theorem d_M_init_16 : decode b_M_init 16 = .ok (.newarray .int, 2) := by decide +kernel
theorem d_M_init_18 : decode b_M_init 18 = .ok (.putfield 13, 3) := by decide +kernel
theorem d_M_init_21 : decode b_M_init 21 = .ok (.aload_n 0, 1) := by decide +kernel
theorem d_M_init_22 : decode b_M_init 22 = .ok (.bipush 64, 2) := by decide +kernel
theorem d_M_init_24 : decode b_M_init 24 = .ok (.newarray .int, 2) := by decide +kernel
theorem d_M_init_26 : decode b_M_init 26 = .ok (.putfield 16, 3) := by decide +kernel
theorem d_M_init_29 : decode b_M_init 29 = .ok (.aload_n 0, 1) := by decide +kernel
theorem d_M_init_30 : decode b_M_init 30 = .ok (.bipush 64, 2) := by decide +kernel
theorem d_M_init_32 : decode b_M_init 32 = .ok (.newarray .int, 2) := by decide +kernel
theorem d_M_init_34 : decode b_M_init 34 = .ok (.putfield 19, 3) := by decide +kernel
theorem d_M_init_37 : decode b_M_init 37 = .ok (.return_, 1) := by decide +kernel
theorem d_M_put_0 : decode b_M_put 0 = .ok (.iload_n 1, 1) := by decide +kernel
theorem d_M_put_1 : decode b_M_put 1 = .ok (.ldc 22, 2) := by decide +kernel
theorem d_M_put_3 : decode b_M_put 3 = .ok (.iand, 1) := by decide +kernel
theorem d_M_put_4 : decode b_M_put 4 = .ok (.ldc 23, 2) := by decide +kernel
theorem d_M_put_6 : decode b_M_put 6 = .ok (.irem, 1) := by decide +kernel
theorem d_M_put_7 : decode b_M_put 7 = .ok (.istore_n 2, 1) := by decide +kernel
theorem d_M_put_8 : decode b_M_put 8 = .ok (.aload_n 0, 1) := by decide +kernel
theorem d_M_put_9 : decode b_M_put 9 = .ok (.getfield 24, 3) := by decide +kernel
theorem d_M_put_12 : decode b_M_put 12 = .ok (.bipush 24, 2) := by decide +kernel
theorem d_M_put_14 : decode b_M_put 14 = .ok (.if_icmp .ne 5, 3) := by decide +kernel
theorem d_M_put_17 : decode b_M_put 17 = .ok (.iconst 0, 1) := by decide +kernel
theorem d_M_put_18 : decode b_M_put 18 = .ok (.ireturn, 1) := by decide +kernel
theorem d_M_put_19 : decode b_M_put 19 = .ok (.aload_n 0, 1) := by decide +kernel
theorem d_M_put_20 : decode b_M_put 20 = .ok (.getfield 7, 3) := by decide +kernel
theorem d_M_put_23 : decode b_M_put 23 = .ok (.aload_n 0, 1) := by decide +kernel
theorem d_M_put_24 : decode b_M_put 24 = .ok (.getfield 24, 3) := by decide +kernel
theorem d_M_put_27 : decode b_M_put 27 = .ok (.iload_n 2, 1) := by decide +kernel
theorem d_M_put_28 : decode b_M_put 28 = .ok (.ldc 28, 2) := by decide +kernel
theorem d_M_put_30 : decode b_M_put 30 = .ok (.if_icmp .ge 7, 3) := by decide +kernel
theorem d_M_put_33 : decode b_M_put 33 = .ok (.iload_n 2, 1) := by decide +kernel
theorem d_M_put_34 : decode b_M_put 34 = .ok (.goto 8, 3) := by decide +kernel
theorem d_M_put_37 : decode b_M_put 37 = .ok (.iload_n 2, 1) := by decide +kernel
theorem d_M_put_38 : decode b_M_put 38 = .ok (.sipush 2048, 3) := by decide +kernel
theorem d_M_put_41 : decode b_M_put 41 = .ok (.iadd, 1) := by decide +kernel
theorem d_M_put_42 : decode b_M_put 42 = .ok (.iastore, 1) := by decide +kernel
theorem d_M_put_43 : decode b_M_put 43 = .ok (.aload_n 0, 1) := by decide +kernel
theorem d_M_put_44 : decode b_M_put 44 = .ok (.aload_n 0, 1) := by decide +kernel
theorem d_M_put_45 : decode b_M_put 45 = .ok (.getfield 24, 3) := by decide +kernel
theorem d_M_put_48 : decode b_M_put 48 = .ok (.iconst 1, 1) := by decide +kernel
theorem d_M_put_49 : decode b_M_put 49 = .ok (.iadd, 1) := by decide +kernel
theorem d_M_put_50 : decode b_M_put 50 = .ok (.putfield 24, 3) := by decide +kernel
theorem d_M_put_53 : decode b_M_put 53 = .ok (.iconst 1, 1) := by decide +kernel
theorem d_M_put_54 : decode b_M_put 54 = .ok (.ireturn, 1) := by decide +kernel
theorem d_M_plain_0 : decode b_M_plain 0 = .ok (.aload_n 0, 1) := by decide +kernel
theorem d_M_plain_1 : decode b_M_plain 1 = .ok (.getfield 24, 3) := by decide +kernel
theorem d_M_plain_4 : decode b_M_plain 4 = .ok (.bipush 24, 2) := by decide +kernel
theorem d_M_plain_6 : decode b_M_plain 6 = .ok (.if_icmp .ne 5, 3) := by decide +kernel
theorem d_M_plain_9 : decode b_M_plain 9 = .ok (.iconst 0, 1) := by decide +kernel
theorem d_M_plain_10 : decode b_M_plain 10 = .ok (.ireturn, 1) := by decide +kernel
theorem d_M_plain_11 : decode b_M_plain 11 = .ok (.aload_n 0, 1) := by decide +kernel
theorem d_M_plain_12 : decode b_M_plain 12 = .ok (.getfield 7, 3) := by decide +kernel
theorem d_M_plain_15 : decode b_M_plain 15 = .ok (.aload_n 0, 1) := by decide +kernel
theorem d_M_plain_16 : decode b_M_plain 16 = .ok (.getfield 24, 3) := by decide +kernel
theorem d_M_plain_19 : decode b_M_plain 19 = .ok (.bipush 97, 2) := by decide +kernel
theorem d_M_plain_21 : decode b_M_plain 21 = .ok (.iload_n 1, 1) := by decide +kernel
theorem d_M_plain_22 : decode b_M_plain 22 = .ok (.ldc 22, 2) := by decide +kernel
theorem d_M_plain_24 : decode b_M_plain 24 = .ok (.iand, 1) := by decide +kernel
theorem d_M_plain_25 : decode b_M_plain 25 = .ok (.bipush 26, 2) := by decide +kernel
theorem d_M_plain_27 : decode b_M_plain 27 = .ok (.irem, 1) := by decide +kernel
theorem d_M_plain_28 : decode b_M_plain 28 = .ok (.iadd, 1) := by decide +kernel
theorem d_M_plain_29 : decode b_M_plain 29 = .ok (.iastore, 1) := by decide +kernel
theorem d_M_plain_30 : decode b_M_plain 30 = .ok (.aload_n 0, 1) := by decide +kernel
theorem d_M_plain_31 : decode b_M_plain 31 = .ok (.aload_n 0, 1) := by decide +kernel
theorem d_M_plain_32 : decode b_M_plain 32 = .ok (.getfield 24, 3) := by decide +kernel
theorem d_M_plain_35 : decode b_M_plain 35 = .ok (.iconst 1, 1) := by decide +kernel
theorem d_M_plain_36 : decode b_M_plain 36 = .ok (.iadd, 1) := by decide +kernel
theorem d_M_plain_37 : decode b_M_plain 37 = .ok (.putfield 24, 3) := by decide +kernel
theorem d_M_plain_40 : decode b_M_plain 40 = .ok (.iconst 1, 1) := by decide +kernel
theorem d_M_plain_41 : decode b_M_plain 41 = .ok (.ireturn, 1) := by decide +kernel
theorem d_M_wipe_0 : decode b_M_wipe 0 = .ok (.aload_n 0, 1) := by decide +kernel
theorem d_M_wipe_1 : decode b_M_wipe 1 = .ok (.iconst 0, 1) := by decide +kernel
theorem d_M_wipe_2 : decode b_M_wipe 2 = .ok (.putfield 24, 3) := by decide +kernel
theorem d_M_wipe_5 : decode b_M_wipe 5 = .ok (.return_, 1) := by decide +kernel
theorem d_M_write_0 : decode b_M_write 0 = .ok (.aload_n 0, 1) := by decide +kernel
theorem d_M_write_1 : decode b_M_write 1 = .ok (.iconst 0, 1) := by decide +kernel
theorem d_M_write_2 : decode b_M_write 2 = .ok (.putfield 29, 3) := by decide +kernel
theorem d_M_write_5 : decode b_M_write 5 = .ok (.iconst 0, 1) := by decide +kernel
theorem d_M_write_6 : decode b_M_write 6 = .ok (.istore_n 1, 1) := by decide +kernel
theorem d_M_write_7 : decode b_M_write 7 = .ok (.iload_n 1, 1) := by decide +kernel
theorem d_M_write_8 : decode b_M_write 8 = .ok (.aload_n 0, 1) := by decide +kernel
theorem d_M_write_9 : decode b_M_write 9 = .ok (.getfield 24, 3) := by decide +kernel
theorem d_M_write_12 : decode b_M_write 12 = .ok (.if_icmp .ge 46, 3) := by decide +kernel
theorem d_M_write_15 : decode b_M_write 15 = .ok (.aload_n 0, 1) := by decide +kernel
theorem d_M_write_16 : decode b_M_write 16 = .ok (.getfield 7, 3) := by decide +kernel
theorem d_M_write_19 : decode b_M_write 19 = .ok (.iload_n 1, 1) := by decide +kernel
theorem d_M_write_20 : decode b_M_write 20 = .ok (.iaload, 1) := by decide +kernel
theorem d_M_write_21 : decode b_M_write 21 = .ok (.sipush 128, 3) := by decide +kernel
theorem d_M_write_24 : decode b_M_write 24 = .ok (.if_icmp .ge 28, 3) := by decide +kernel
theorem d_M_write_27 : decode b_M_write 27 = .ok (.aload_n 0, 1) := by decide +kernel
theorem d_M_write_28 : decode b_M_write 28 = .ok (.getfield 13, 3) := by decide +kernel
theorem d_M_write_31 : decode b_M_write 31 = .ok (.aload_n 0, 1) := by decide +kernel
theorem d_M_write_32 : decode b_M_write 32 = .ok (.getfield 29, 3) := by decide +kernel
theorem d_M_write_35 : decode b_M_write 35 = .ok (.aload_n 0, 1) := by decide +kernel
theorem d_M_write_36 : decode b_M_write 36 = .ok (.getfield 7, 3) := by decide +kernel
theorem d_M_write_39 : decode b_M_write 39 = .ok (.iload_n 1, 1) := by decide +kernel
theorem d_M_write_40 : decode b_M_write 40 = .ok (.iaload, 1) := by decide +kernel
theorem d_M_write_41 : decode b_M_write 41 = .ok (.iastore, 1) := by decide +kernel
theorem d_M_write_42 : decode b_M_write 42 = .ok (.aload_n 0, 1) := by decide +kernel
theorem d_M_write_43 : decode b_M_write 43 = .ok (.aload_n 0, 1) := by decide +kernel
theorem d_M_write_44 : decode b_M_write 44 = .ok (.getfield 29, 3) := by decide +kernel
theorem d_M_write_47 : decode b_M_write 47 = .ok (.iconst 1, 1) := by decide +kernel
theorem d_M_write_48 : decode b_M_write 48 = .ok (.iadd, 1) := by decide +kernel
theorem d_M_write_49 : decode b_M_write 49 = .ok (.putfield 29, 3) := by decide +kernel
theorem d_M_write_52 : decode b_M_write 52 = .ok (.iinc 1 1, 3) := by decide +kernel
theorem d_M_write_55 : decode b_M_write 55 = .ok (.goto (-48), 3) := by decide +kernel
theorem d_M_write_58 : decode b_M_write 58 = .ok (.aload_n 0, 1) := by decide +kernel
theorem d_M_write_59 : decode b_M_write 59 = .ok (.getfield 29, 3) := by decide +kernel
theorem d_M_write_62 : decode b_M_write 62 = .ok (.istore_n 1, 1) := by decide +kernel
theorem d_M_write_63 : decode b_M_write 63 = .ok (.aload_n 0, 1) := by decide +kernel
theorem d_M_write_64 : decode b_M_write 64 = .ok (.getfield 29, 3) := by decide +kernel
theorem d_M_write_67 : decode b_M_write 67 = .ok (.istore_n 2, 1) := by decide +kernel
theorem d_M_write_68 : decode b_M_write 68 = .ok (.bipush 72, 2) := by decide +kernel
theorem d_M_write_70 : decode b_M_write 70 = .ok (.istore_n 3, 1) := by decide +kernel
theorem d_M_write_71 : decode b_M_write 71 = .ok (.sipush 128, 3) := by decide +kernel
theorem d_M_write_74 : decode b_M_write 74 = .ok (.istore 4, 2) := by decide +kernel
theorem d_M_write_76 : decode b_M_write 76 = .ok (.lconst 0, 1) := by decide +kernel
theorem d_M_write_77 : decode b_M_write 77 = .ok (.lstore 5, 2) := by decide +kernel
theorem d_M_write_79 : decode b_M_write 79 = .ok (.iload_n 1, 1) := by decide +kernel
theorem d_M_write_80 : decode b_M_write 80 = .ok (.ifCond .le 24, 3) := by decide +kernel
theorem d_M_write_83 : decode b_M_write 83 = .ok (.aload_n 0, 1) := by decide +kernel
theorem d_M_write_84 : decode b_M_write 84 = .ok (.getfield 13, 3) := by decide +kernel
theorem d_M_write_87 : decode b_M_write 87 = .ok (.aload_n 0, 1) := by decide +kernel
theorem d_M_write_88 : decode b_M_write 88 = .ok (.getfield 29, 3) := by decide +kernel
theorem d_M_write_91 : decode b_M_write 91 = .ok (.bipush 45, 2) := by decide +kernel
theorem d_M_write_93 : decode b_M_write 93 = .ok (.iastore, 1) := by decide +kernel
theorem d_M_write_94 : decode b_M_write 94 = .ok (.aload_n 0, 1) := by decide +kernel
theorem d_M_write_95 : decode b_M_write 95 = .ok (.aload_n 0, 1) := by decide +kernel
theorem d_M_write_96 : decode b_M_write 96 = .ok (.getfield 29, 3) := by decide +kernel
theorem d_M_write_99 : decode b_M_write 99 = .ok (.iconst 1, 1) := by decide +kernel
theorem d_M_write_100 : decode b_M_write 100 = .ok (.iadd, 1) := by decide +kernel
theorem d_M_write_101 : decode b_M_write 101 = .ok (.putfield 29, 3) := by decide +kernel
theorem d_M_write_104 : decode b_M_write 104 = .ok (.iload_n 2, 1) := by decide +kernel
theorem d_M_write_105 : decode b_M_write 105 = .ok (.aload_n 0, 1) := by decide +kernel
theorem d_M_write_106 : decode b_M_write 106 = .ok (.getfield 24, 3) := by decide +kernel
theorem d_M_write_109 : decode b_M_write 109 = .ok (.if_icmp .ge 319, 3) := by decide +kernel
theorem d_M_write_112 : decode b_M_write 112 = .ok (.ldc 32, 2) := by decide +kernel
theorem d_M_write_114 : decode b_M_write 114 = .ok (.istore 7, 2) := by decide +kernel
theorem d_M_write_116 : decode b_M_write 116 = .ok (.iconst 0, 1) := by decide +kernel
theorem d_M_write_117 : decode b_M_write 117 = .ok (.istore 8, 2) := by decide +kernel
theorem d_M_write_119 : decode b_M_write 119 = .ok (.iload 8, 2) := by decide +kernel
theorem d_M_write_121 : decode b_M_write 121 = .ok (.aload_n 0, 1) := by decide +kernel
theorem d_M_write_122 : decode b_M_write 122 = .ok (.getfield 24, 3) := by decide +kernel
theorem d_M_write_125 : decode b_M_write 125 = .ok (.if_icmp .ge 42, 3) := by decide +kernel
theorem d_M_write_128 : decode b_M_write 128 = .ok (.aload_n 0, 1) := by decide +kernel
theorem d_M_write_129 : decode b_M_write 129 = .ok (.getfield 7, 3) := by decide +kernel
theorem d_M_write_132 : decode b_M_write 132 = .ok (.iload 8, 2) := by decide +kernel
theorem d_M_write_134 : decode b_M_write 134 = .ok (.iaload, 1) := by decide +kernel
theorem d_M_write_135 : decode b_M_write 135 = .ok (.iload 4, 2) := by decide +kernel
theorem d_M_write_137 : decode b_M_write 137 = .ok (.if_icmp .lt 24, 3) := by decide +kernel
theorem d_M_write_140 : decode b_M_write 140 = .ok (.aload_n 0, 1) := by decide +kernel
theorem d_M_write_141 : decode b_M_write 141 = .ok (.getfield 7, 3) := by decide +kernel
theorem d_M_write_144 : decode b_M_write 144 = .ok (.iload 8, 2) := by decide +kernel
theorem d_M_write_146 : decode b_M_write 146 = .ok (.iaload, 1) := by decide +kernel
theorem d_M_write_147 : decode b_M_write 147 = .ok (.iload 7, 2) := by decide +kernel
theorem d_M_write_149 : decode b_M_write 149 = .ok (.if_icmp .ge 12, 3) := by decide +kernel
theorem d_M_write_152 : decode b_M_write 152 = .ok (.aload_n 0, 1) := by decide +kernel
theorem d_M_write_153 : decode b_M_write 153 = .ok (.getfield 7, 3) := by decide +kernel
theorem d_M_write_156 : decode b_M_write 156 = .ok (.iload 8, 2) := by decide +kernel
theorem d_M_write_158 : decode b_M_write 158 = .ok (.iaload, 1) := by decide +kernel
theorem d_M_write_159 : decode b_M_write 159 = .ok (.istore 7, 2) := by decide +kernel
theorem d_M_write_161 : decode b_M_write 161 = .ok (.iinc 8 1, 3) := by decide +kernel
theorem d_M_write_164 : decode b_M_write 164 = .ok (.goto (-45), 3) := by decide +kernel
theorem d_M_write_167 : decode b_M_write 167 = .ok (.lload 5, 2) := by decide +kernel
theorem d_M_write_169 : decode b_M_write 169 = .ok (.iload 7, 2) := by decide +kernel
theorem d_M_write_171 : decode b_M_write 171 = .ok (.iload 4, 2) := by decide +kernel
theorem d_M_write_173 : decode b_M_write 173 = .ok (.isub, 1) := by decide +kernel
theorem d_M_write_174 : decode b_M_write 174 = .ok (.i2l, 1) := by decide +kernel
theorem d_M_write_175 : decode b_M_write 175 = .ok (.iload_n 2, 1) := by decide +kernel
theorem d_M_write_176 : decode b_M_write 176 = .ok (.iconst 1, 1) := by decide +kernel
theorem d_M_write_177 : decode b_M_write 177 = .ok (.iadd, 1) := by decide +kernel
theorem d_M_write_178 : decode b_M_write 178 = .ok (.i2l, 1) := by decide +kernel
theorem d_M_write_179 : decode b_M_write 179 = .ok (.lmul, 1) := by decide +kernel
theorem d_M_write_180 : decode b_M_write 180 = .ok (.ladd, 1) := by decide +kernel
theorem d_M_write_181 : decode b_M_write 181 = .ok (.lstore 5, 2) := by decide +kernel
theorem d_M_write_183 : decode b_M_write 183 = .ok (.iload 7, 2) := by decide +kernel
theorem d_M_write_185 : decode b_M_write 185 = .ok (.istore 4, 2) := by decide +kernel
theorem d_M_write_187 : decode b_M_write 187 = .ok (.iconst 0, 1) := by decide +kernel
theorem d_M_write_188 : decode b_M_write 188 = .ok (.istore 8, 2) := by decide +kernel
theorem d_M_write_190 : decode b_M_write 190 = .ok (.iload 8, 2) := by decide +kernel
theorem d_M_write_192 : decode b_M_write 192 = .ok (.aload_n 0, 1) := by decide +kernel
theorem d_M_write_193 : decode b_M_write 193 = .ok (.getfield 24, 3) := by decide +kernel
theorem d_M_write_196 : decode b_M_write 196 = .ok (.if_icmp .ge 217, 3) := by decide +kernel
theorem d_M_write_199 : decode b_M_write 199 = .ok (.aload_n 0, 1) := by decide +kernel
theorem d_M_write_200 : decode b_M_write 200 = .ok (.getfield 7, 3) := by decide +kernel
theorem d_M_write_203 : decode b_M_write 203 = .ok (.iload 8, 2) := by decide +kernel
theorem d_M_write_205 : decode b_M_write 205 = .ok (.iaload, 1) := by decide +kernel
theorem d_M_write_206 : decode b_M_write 206 = .ok (.iload 4, 2) := by decide +kernel
theorem d_M_write_208 : decode b_M_write 208 = .ok (.if_icmp .ge 9, 3) := by decide +kernel
theorem d_M_write_211 : decode b_M_write 211 = .ok (.lload 5, 2) := by decide +kernel
theorem d_M_write_213 : decode b_M_write 213 = .ok (.lconst 1, 1) := by decide +kernel
theorem d_M_write_214 : decode b_M_write 214 = .ok (.ladd, 1) := by decide +kernel
theorem d_M_write_215 : decode b_M_write 215 = .ok (.lstore 5, 2) := by decide +kernel
theorem d_M_write_217 : decode b_M_write 217 = .ok (.aload_n 0, 1) := by decide +kernel
theorem d_M_write_218 : decode b_M_write 218 = .ok (.getfield 7, 3) := by decide +kernel
theorem d_M_write_221 : decode b_M_write 221 = .ok (.iload 8, 2) := by decide +kernel
theorem d_M_write_223 : decode b_M_write 223 = .ok (.iaload, 1) := by decide +kernel
theorem d_M_write_224 : decode b_M_write 224 = .ok (.iload 4, 2) := by decide +kernel
theorem d_M_write_226 : decode b_M_write 226 = .ok (.if_icmp .ne 181, 3) := by decide +kernel
theorem d_M_write_229 : decode b_M_write 229 = .ok (.lload 5, 2) := by decide +kernel
theorem d_M_write_231 : decode b_M_write 231 = .ok (.lstore 9, 2) := by decide +kernel
theorem d_M_write_233 : decode b_M_write 233 = .ok (.bipush 36, 2) := by decide +kernel
theorem d_M_write_235 : decode b_M_write 235 = .ok (.istore 11, 2) := by decide +kernel
theorem d_M_write_237 : decode b_M_write 237 = .ok (.iconst 1, 1) := by decide +kernel
theorem d_M_write_238 : decode b_M_write 238 = .ok (.istore 12, 2) := by decide +kernel
theorem d_M_write_240 : decode b_M_write 240 = .ok (.iload 12, 2) := by decide +kernel
theorem d_M_write_242 : decode b_M_write 242 = .ok (.ifCond .eq 113, 3) := by decide +kernel
theorem d_M_write_245 : decode b_M_write 245 = .ok (.iload 11, 2) := by decide +kernel
theorem d_M_write_247 : decode b_M_write 247 = .ok (.iload_n 3, 1) := by decide +kernel
theorem d_M_write_248 : decode b_M_write 248 = .ok (.if_icmp .gt 7, 3) := by decide +kernel
theorem d_M_write_251 : decode b_M_write 251 = .ok (.iconst 1, 1) := by decide +kernel
theorem d_M_write_252 : decode b_M_write 252 = .ok (.goto 21, 3) := by decide +kernel
theorem d_M_write_255 : decode b_M_write 255 = .ok (.iload 11, 2) := by decide +kernel
theorem d_M_write_257 : decode b_M_write 257 = .ok (.iload_n 3, 1) := by decide +kernel
theorem d_M_write_258 : decode b_M_write 258 = .ok (.bipush 26, 2) := by decide +kernel
theorem d_M_write_260 : decode b_M_write 260 = .ok (.iadd, 1) := by decide +kernel
theorem d_M_write_261 : decode b_M_write 261 = .ok (.if_icmp .lt 8, 3) := by decide +kernel
theorem d_M_write_264 : decode b_M_write 264 = .ok (.bipush 26, 2) := by decide +kernel
theorem d_M_write_266 : decode b_M_write 266 = .ok (.goto 7, 3) := by decide +kernel
theorem d_M_write_269 : decode b_M_write 269 = .ok (.iload 11, 2) := by decide +kernel
theorem d_M_write_271 : decode b_M_write 271 = .ok (.iload_n 3, 1) := by decide +kernel
theorem d_M_write_272 : decode b_M_write 272 = .ok (.isub, 1) := by decide +kernel
theorem d_M_write_273 : decode b_M_write 273 = .ok (.istore 13, 2) := by decide +kernel
theorem d_M_write_275 : decode b_M_write 275 = .ok (.lload 9, 2) := by decide +kernel
theorem d_M_write_277 : decode b_M_write 277 = .ok (.iload 13, 2) := by decide +kernel
theorem d_M_write_279 : decode b_M_write 279 = .ok (.i2l, 1) := by decide +kernel
theorem d_M_write_280 : decode b_M_write 280 = .ok (.lcmp, 1) := by decide +kernel
theorem d_M_write_281 : decode b_M_write 281 = .ok (.ifCond .ge 9, 3) := by decide +kernel
theorem d_M_write_284 : decode b_M_write 284 = .ok (.iconst 0, 1) := by decide +kernel
theorem d_M_write_285 : decode b_M_write 285 = .ok (.istore 12, 2) := by decide +kernel
theorem d_M_write_287 : decode b_M_write 287 = .ok (.goto 65, 3) := by decide +kernel
theorem d_M_write_290 : decode b_M_write 290 = .ok (.aload_n 0, 1) := by decide +kernel
theorem d_M_write_291 : decode b_M_write 291 = .ok (.getfield 13, 3) := by decide +kernel
theorem d_M_write_294 : decode b_M_write 294 = .ok (.aload_n 0, 1) := by decide +kernel
theorem d_M_write_295 : decode b_M_write 295 = .ok (.getfield 29, 3) := by decide +kernel
theorem d_M_write_298 : decode b_M_write 298 = .ok (.iload 13, 2) := by decide +kernel
theorem d_M_write_300 : decode b_M_write 300 = .ok (.i2l, 1) := by decide +kernel
theorem d_M_write_301 : decode b_M_write 301 = .ok (.lload 9, 2) := by decide +kernel
theorem d_M_write_303 : decode b_M_write 303 = .ok (.iload 13, 2) := by decide +kernel
theorem d_M_write_305 : decode b_M_write 305 = .ok (.i2l, 1) := by decide +kernel
theorem d_M_write_306 : decode b_M_write 306 = .ok (.lsub, 1) := by decide +kernel
theorem d_M_write_307 : decode b_M_write 307 = .ok (.bipush 36, 2) := by decide +kernel
theorem d_M_write_309 : decode b_M_write 309 = .ok (.iload 13, 2) := by decide +kernel
theorem d_M_write_311 : decode b_M_write 311 = .ok (.isub, 1) := by decide +kernel
theorem d_M_write_312 : decode b_M_write 312 = .ok (.i2l, 1) := by decide +kernel
theorem d_M_write_313 : decode b_M_write 313 = .ok (.lrem, 1) := by decide +kernel
theorem d_M_write_314 : decode b_M_write 314 = .ok (.ladd, 1) := by decide +kernel
theorem d_M_write_315 : decode b_M_write 315 = .ok (.l2i, 1) := by decide +kernel
theorem d_M_write_316 : decode b_M_write 316 = .ok (.invokestatic 33, 3) := by decide +kernel
theorem d_M_write_319 : decode b_M_write 319 = .ok (.iastore, 1) := by decide +kernel
theorem d_M_write_320 : decode b_M_write 320 = .ok (.aload_n 0, 1) := by decide +kernel
theorem d_M_write_321 : decode b_M_write 321 = .ok (.aload_n 0, 1) := by decide +kernel
theorem d_M_write_322 : decode b_M_write 322 = .ok (.getfield 29, 3) := by decide +kernel
theorem d_M_write_325 : decode b_M_write 325 = .ok (.iconst 1, 1) := by decide +kernel
theorem d_M_write_326 : decode b_M_write 326 = .ok (.iadd, 1) := by decide +kernel
theorem d_M_write_327 : decode b_M_write 327 = .ok (.putfield 29, 3) := by decide +kernel
theorem d_M_write_330 : decode b_M_write 330 = .ok (.lload 9, 2) := by decide +kernel
theorem d_M_write_332 : decode b_M_write 332 = .ok (.iload 13, 2) := by decide +kernel
theorem d_M_write_334 : decode b_M_write 334 = .ok (.i2l, 1) := by decide +kernel
theorem d_M_write_335 : decode b_M_write 335 = .ok (.lsub, 1) := by decide +kernel
theorem d_M_write_336 : decode b_M_write 336 = .ok (.bipush 36, 2) := by decide +kernel
theorem d_M_write_338 : decode b_M_write 338 = .ok (.iload 13, 2) := by decide +kernel
theorem d_M_write_340 : decode b_M_write 340 = .ok (.isub, 1) := by decide +kernel
theorem d_M_write_341 : decode b_M_write 341 = .ok (.i2l, 1) := by decide +kernel
theorem d_M_write_342 : decode b_M_write 342 = .ok (.ldiv, 1) := by decide +kernel
theorem d_M_write_343 : decode b_M_write 343 = .ok (.lstore 9, 2) := by decide +kernel
theorem d_M_write_345 : decode b_M_write 345 = .ok (.iload 11, 2) := by decide +kernel
theorem d_M_write_347 : decode b_M_write 347 = .ok (.bipush 36, 2) := by decide +kernel
theorem d_M_write_349 : decode b_M_write 349 = .ok (.iadd, 1) := by decide +kernel
theorem d_M_write_350 : decode b_M_write 350 = .ok (.istore 11, 2) := by decide +kernel
theorem d_M_write_352 : decode b_M_write 352 = .ok (.goto (-112), 3) := by decide +kernel
theorem d_M_write_355 : decode b_M_write 355 = .ok (.aload_n 0, 1) := by decide +kernel
theorem d_M_write_356 : decode b_M_write 356 = .ok (.getfield 13, 3) := by decide +kernel
theorem d_M_write_359 : decode b_M_write 359 = .ok (.aload_n 0, 1) := by decide +kernel
theorem d_M_write_360 : decode b_M_write 360 = .ok (.getfield 29, 3) := by decide +kernel
theorem d_M_write_363 : decode b_M_write 363 = .ok (.lload 9, 2) := by decide +kernel
theorem d_M_write_365 : decode b_M_write 365 = .ok (.l2i, 1) := by decide +kernel
theorem d_M_write_366 : decode b_M_write 366 = .ok (.invokestatic 33, 3) := by decide +kernel
theorem d_M_write_369 : decode b_M_write 369 = .ok (.iastore, 1) := by decide +kernel
theorem d_M_write_370 : decode b_M_write 370 = .ok (.aload_n 0, 1) := by decide +kernel
theorem d_M_write_371 : decode b_M_write 371 = .ok (.aload_n 0, 1) := by decide +kernel
theorem d_M_write_372 : decode b_M_write 372 = .ok (.getfield 29, 3) := by decide +kernel
theorem d_M_write_375 : decode b_M_write 375 = .ok (.iconst 1, 1) := by decide +kernel
theorem d_M_write_376 : decode b_M_write 376 = .ok (.iadd, 1) := by decide +kernel
theorem d_M_write_377 : decode b_M_write 377 = .ok (.putfield 29, 3) := by decide +kernel
theorem d_M_write_380 : decode b_M_write 380 = .ok (.lload 5, 2) := by decide +kernel
theorem d_M_write_382 : decode b_M_write 382 = .ok (.l2i, 1) := by decide +kernel
theorem d_M_write_383 : decode b_M_write 383 = .ok (.iload_n 2, 1) := by decide +kernel
theorem d_M_write_384 : decode b_M_write 384 = .ok (.iconst 1, 1) := by decide +kernel
theorem d_M_write_385 : decode b_M_write 385 = .ok (.iadd, 1) := by decide +kernel
theorem d_M_write_386 : decode b_M_write 386 = .ok (.iload_n 2, 1) := by decide +kernel
theorem d_M_write_387 : decode b_M_write 387 = .ok (.iload_n 1, 1) := by decide +kernel
theorem d_M_write_388 : decode b_M_write 388 = .ok (.if_icmp .ne 7, 3) := by decide +kernel
theorem d_M_write_391 : decode b_M_write 391 = .ok (.iconst 1, 1) := by decide +kernel
theorem d_M_write_392 : decode b_M_write 392 = .ok (.goto 4, 3) := by decide +kernel
theorem d_M_write_395 : decode b_M_write 395 = .ok (.iconst 0, 1) := by decide +kernel
theorem d_M_write_396 : decode b_M_write 396 = .ok (.invokestatic 37, 3) := by decide +kernel
theorem d_M_write_399 : decode b_M_write 399 = .ok (.istore_n 3, 1) := by decide +kernel
theorem d_M_write_400 : decode b_M_write 400 = .ok (.lconst 0, 1) := by decide +kernel
theorem d_M_write_401 : decode b_M_write 401 = .ok (.lstore 5, 2) := by decide +kernel
theorem d_M_write_403 : decode b_M_write 403 = .ok (.iload_n 2, 1) := by decide +kernel
theorem d_M_write_404 : decode b_M_write 404 = .ok (.iconst 1, 1) := by decide +kernel
theorem d_M_write_405 : decode b_M_write 405 = .ok (.iadd, 1) := by decide +kernel
theorem d_M_write_406 : decode b_M_write 406 = .ok (.istore_n 2, 1) := by decide +kernel
theorem d_M_write_407 : decode b_M_write 407 = .ok (.iinc 8 1, 3) := by decide +kernel
theorem d_M_write_410 : decode b_M_write 410 = .ok (.goto (-220), 3) := by decide +kernel
theorem d_M_write_413 : decode b_M_write 413 = .ok (.lload 5, 2) := by decide +kernel
theorem d_M_write_415 : decode b_M_write 415 = .ok (.lconst 1, 1) := by decide +kernel
theorem d_M_write_416 : decode b_M_write 416 = .ok (.ladd, 1) := by decide +kernel
theorem d_M_write_417 : decode b_M_write 417 = .ok (.lstore 5, 2) := by decide +kernel
theorem d_M_write_419 : decode b_M_write 419 = .ok (.iload 4, 2) := by decide +kernel
theorem d_M_write_421 : decode b_M_write 421 = .ok (.iconst 1, 1) := by decide +kernel
theorem d_M_write_422 : decode b_M_write 422 = .ok (.iadd, 1) := by decide +kernel
theorem d_M_write_423 : decode b_M_write 423 = .ok (.istore 4, 2) := by decide +kernel
theorem d_M_write_425 : decode b_M_write 425 = .ok (.goto (-321), 3) := by decide +kernel
theorem d_M_write_428 : decode b_M_write 428 = .ok (.aload_n 0, 1) := by decide +kernel
theorem d_M_write_429 : decode b_M_write 429 = .ok (.getfield 29, 3) := by decide +kernel
theorem d_M_write_432 : decode b_M_write 432 = .ok (.ireturn, 1) := by decide +kernel
theorem d_M_digit_0 : decode b_M_digit 0 = .ok (.iload_n 0, 1) := by decide +kernel
theorem d_M_digit_1 : decode b_M_digit 1 = .ok (.bipush 26, 2) := by decide +kernel
theorem d_M_digit_3 : decode b_M_digit 3 = .ok (.if_icmp .ge 10, 3) := by decide +kernel
theorem d_M_digit_6 : decode b_M_digit 6 = .ok (.bipush 97, 2) := by decide +kernel
theorem d_M_digit_8 : decode b_M_digit 8 = .ok (.iload_n 0, 1) := by decide +kernel
theorem d_M_digit_9 : decode b_M_digit 9 = .ok (.iadd, 1) := by decide +kernel
theorem d_M_digit_10 : decode b_M_digit 10 = .ok (.goto 7, 3) := by decide +kernel
theorem d_M_digit_13 : decode b_M_digit 13 = .ok (.bipush 22, 2) := by decide +kernel
theorem d_M_digit_15 : decode b_M_digit 15 = .ok (.iload_n 0, 1) := by decide +kernel
theorem d_M_digit_16 : decode b_M_digit 16 = .ok (.iadd, 1) := by decide +kernel
theorem d_M_digit_17 : decode b_M_digit 17 = .ok (.ireturn, 1) := by decide +kernel
theorem d_M_adapt_0 : decode b_M_adapt 0 = .ok (.iload_n 2, 1) := by decide +kernel
theorem d_M_adapt_1 : decode b_M_adapt 1 = .ok (.ifCond .eq 11, 3) := by decide +kernel
theorem d_M_adapt_4 : decode b_M_adapt 4 = .ok (.iload_n 0, 1) := by decide +kernel
theorem d_M_adapt_5 : decode b_M_adapt 5 = .ok (.sipush 700, 3) := by decide +kernel
theorem d_M_adapt_8 : decode b_M_adapt 8 = .ok (.idiv, 1) := by decide +kernel
theorem d_M_adapt_9 : decode b_M_adapt 9 = .ok (.goto 6, 3) := by decide +kernel
theorem d_M_adapt_12 : decode b_M_adapt 12 = .ok (.iload_n 0, 1) := by decide +kernel
theorem d_M_adapt_13 : decode b_M_adapt 13 = .ok (.iconst 2, 1) := by decide +kernel
theorem d_M_adapt_14 : decode b_M_adapt 14 = .ok (.idiv, 1) := by decide +kernel
theorem d_M_adapt_15 : decode b_M_adapt 15 = .ok (.istore_n 3, 1) := by decide +kernel
theorem d_M_adapt_16 : decode b_M_adapt 16 = .ok (.iconst 0, 1) := by decide +kernel
theorem d_M_adapt_17 : decode b_M_adapt 17 = .ok (.istore 4, 2) := by decide +kernel
theorem d_M_adapt_19 : decode b_M_adapt 19 = .ok (.iload_n 3, 1) := by decide +kernel
theorem d_M_adapt_20 : decode b_M_adapt 20 = .ok (.iload_n 3, 1) := by decide +kernel
theorem d_M_adapt_21 : decode b_M_adapt 21 = .ok (.iload_n 1, 1) := by decide +kernel
theorem d_M_adapt_22 : decode b_M_adapt 22 = .ok (.idiv, 1) := by decide +kernel
theorem d_M_adapt_23 : decode b_M_adapt 23 = .ok (.iadd, 1) := by decide +kernel
theorem d_M_adapt_24 : decode b_M_adapt 24 = .ok (.istore_n 3, 1) := by decide +kernel
theorem d_M_adapt_25 : decode b_M_adapt 25 = .ok (.iload_n 3, 1) := by decide +kernel
theorem d_M_adapt_26 : decode b_M_adapt 26 = .ok (.sipush 455, 3) := by decide +kernel
theorem d_M_adapt_29 : decode b_M_adapt 29 = .ok (.if_icmp .le 18, 3) := by decide +kernel
theorem d_M_adapt_32 : decode b_M_adapt 32 = .ok (.iload_n 3, 1) := by decide +kernel
theorem d_M_adapt_33 : decode b_M_adapt 33 = .ok (.bipush 35, 2) := by decide +kernel
theorem d_M_adapt_35 : decode b_M_adapt 35 = .ok (.idiv, 1) := by decide +kernel
theorem d_M_adapt_36 : decode b_M_adapt 36 = .ok (.istore_n 3, 1) := by decide +kernel
theorem d_M_adapt_37 : decode b_M_adapt 37 = .ok (.iload 4, 2) := by decide +kernel
theorem d_M_adapt_39 : decode b_M_adapt 39 = .ok (.bipush 36, 2) := by decide +kernel
theorem d_M_adapt_41 : decode b_M_adapt 41 = .ok (.iadd, 1) := by decide +kernel
theorem d_M_adapt_42 : decode b_M_adapt 42 = .ok (.istore 4, 2) := by decide +kernel
theorem d_M_adapt_44 : decode b_M_adapt 44 = .ok (.goto (-19), 3) := by decide +kernel
theorem d_M_adapt_47 : decode b_M_adapt 47 = .ok (.iload 4, 2) := by decide +kernel
theorem d_M_adapt_49 : decode b_M_adapt 49 = .ok (.bipush 36, 2) := by decide +kernel
theorem d_M_adapt_51 : decode b_M_adapt 51 = .ok (.iload_n 3, 1) := by decide +kernel
theorem d_M_adapt_52 : decode b_M_adapt 52 = .ok (.imul, 1) := by decide +kernel
theorem d_M_adapt_53 : decode b_M_adapt 53 = .ok (.iload_n 3, 1) := by decide +kernel
theorem d_M_adapt_54 : decode b_M_adapt 54 = .ok (.bipush 38, 2) := by decide +kernel
theorem d_M_adapt_56 : decode b_M_adapt 56 = .ok (.iadd, 1) := by decide +kernel
theorem d_M_adapt_57 : decode b_M_adapt 57 = .ok (.idiv, 1) := by decide +kernel
theorem d_M_adapt_58 : decode b_M_adapt 58 = .ok (.iadd, 1) := by decide +kernel
theorem d_M_adapt_59 : decode b_M_adapt 59 = .ok (.ireturn, 1) := by decide +kernel
theorem d_M_letter_0 : decode b_M_letter 0 = .ok (.aload_n 0, 1) := by decide +kernel
theorem d_M_letter_1 : decode b_M_letter 1 = .ok (.getfield 29, 3) := by decide +kernel
theorem d_M_letter_4 : decode b_M_letter 4 = .ok (.ifCond .ne 7, 3) := by decide +kernel
theorem d_M_letter_7 : decode b_M_letter 7 = .ok (.iconst (-1), 1) := by decide +kernel
theorem d_M_letter_8 : decode b_M_letter 8 = .ok (.goto 17, 3) := by decide +kernel
theorem d_M_letter_11 : decode b_M_letter 11 = .ok (.aload_n 0, 1) := by decide +kernel
theorem d_M_letter_12 : decode b_M_letter 12 = .ok (.getfield 13, 3) := by decide +kernel
theorem d_M_letter_15 : decode b_M_letter 15 = .ok (.iload_n 1, 1) := by decide +kernel
theorem d_M_letter_16 : decode b_M_letter 16 = .ok (.ldc 22, 2) := by decide +kernel
theorem d_M_letter_18 : decode b_M_letter 18 = .ok (.iand, 1) := by decide +kernel
theorem d_M_letter_19 : decode b_M_letter 19 = .ok (.aload_n 0, 1) := by decide +kernel
theorem d_M_letter_20 : decode b_M_letter 20 = .ok (.getfield 29, 3) := by decide +kernel
theorem d_M_letter_23 : decode b_M_letter 23 = .ok (.irem, 1) := by decide +kernel
theorem d_M_letter_24 : decode b_M_letter 24 = .ok (.iaload, 1) := by decide +kernel
theorem d_M_letter_25 : decode b_M_letter 25 = .ok (.ireturn, 1) := by decide +kernel
theorem d_M_line_0 : decode b_M_line 0 = .ok (.aload_n 0, 1) := by decide +kernel
theorem d_M_line_1 : decode b_M_line 1 = .ok (.getfield 41, 3) := by decide +kernel
theorem d_M_line_4 : decode b_M_line 4 = .ok (.iconst 4, 1) := by decide +kernel
theorem d_M_line_5 : decode b_M_line 5 = .ok (.iadd, 1) := by decide +kernel
theorem d_M_line_6 : decode b_M_line 6 = .ok (.bipush 64, 2) := by decide +kernel
theorem d_M_line_8 : decode b_M_line 8 = .ok (.if_icmp .le 5, 3) := by decide +kernel
theorem d_M_line_11 : decode b_M_line 11 = .ok (.iconst 0, 1) := by decide +kernel
theorem d_M_line_12 : decode b_M_line 12 = .ok (.ireturn, 1) := by decide +kernel
theorem d_M_line_13 : decode b_M_line 13 = .ok (.iconst 0, 1) := by decide +kernel
theorem d_M_line_14 : decode b_M_line 14 = .ok (.istore 5, 2) := by decide +kernel
theorem d_M_line_16 : decode b_M_line 16 = .ok (.iload 5, 2) := by decide +kernel
theorem d_M_line_18 : decode b_M_line 18 = .ok (.iconst 4, 1) := by decide +kernel
theorem d_M_line_19 : decode b_M_line 19 = .ok (.if_icmp .ge 84, 3) := by decide +kernel
theorem d_M_line_22 : decode b_M_line 22 = .ok (.iload 5, 2) := by decide +kernel
theorem d_M_line_24 : decode b_M_line 24 = .ok (.ifCond .ne 7, 3) := by decide +kernel
theorem d_M_line_27 : decode b_M_line 27 = .ok (.iload_n 1, 1) := by decide +kernel
theorem d_M_line_28 : decode b_M_line 28 = .ok (.goto 25, 3) := by decide +kernel
theorem d_M_line_31 : decode b_M_line 31 = .ok (.iload 5, 2) := by decide +kernel
theorem d_M_line_33 : decode b_M_line 33 = .ok (.iconst 1, 1) := by decide +kernel
theorem d_M_line_34 : decode b_M_line 34 = .ok (.if_icmp .ne 7, 3) := by decide +kernel
theorem d_M_line_37 : decode b_M_line 37 = .ok (.iload_n 2, 1) := by decide +kernel
theorem d_M_line_38 : decode b_M_line 38 = .ok (.goto 15, 3) := by decide +kernel
theorem d_M_line_41 : decode b_M_line 41 = .ok (.iload 5, 2) := by decide +kernel
theorem d_M_line_43 : decode b_M_line 43 = .ok (.iconst 2, 1) := by decide +kernel
theorem d_M_line_44 : decode b_M_line 44 = .ok (.if_icmp .ne 7, 3) := by decide +kernel
theorem d_M_line_47 : decode b_M_line 47 = .ok (.iload_n 3, 1) := by decide +kernel
theorem d_M_line_48 : decode b_M_line 48 = .ok (.goto 5, 3) := by decide +kernel
theorem d_M_line_51 : decode b_M_line 51 = .ok (.iload 4, 2) := by decide +kernel
theorem d_M_line_53 : decode b_M_line 53 = .ok (.ldc 22, 2) := by decide +kernel
theorem d_M_line_55 : decode b_M_line 55 = .ok (.iand, 1) := by decide +kernel
theorem d_M_line_56 : decode b_M_line 56 = .ok (.bipush 37, 2) := by decide +kernel
theorem d_M_line_58 : decode b_M_line 58 = .ok (.irem, 1) := by decide +kernel
theorem d_M_line_59 : decode b_M_line 59 = .ok (.istore 6, 2) := by decide +kernel
theorem d_M_line_61 : decode b_M_line 61 = .ok (.aload_n 0, 1) := by decide +kernel
theorem d_M_line_62 : decode b_M_line 62 = .ok (.getfield 16, 3) := by decide +kernel
theorem d_M_line_65 : decode b_M_line 65 = .ok (.aload_n 0, 1) := by decide +kernel
theorem d_M_line_66 : decode b_M_line 66 = .ok (.getfield 41, 3) := by decide +kernel
theorem d_M_line_69 : decode b_M_line 69 = .ok (.iload 6, 2) := by decide +kernel
theorem d_M_line_71 : decode b_M_line 71 = .ok (.bipush 36, 2) := by decide +kernel
theorem d_M_line_73 : decode b_M_line 73 = .ok (.if_icmp .ne 8, 3) := by decide +kernel
theorem d_M_line_76 : decode b_M_line 76 = .ok (.bipush 45, 2) := by decide +kernel
theorem d_M_line_78 : decode b_M_line 78 = .ok (.goto 8, 3) := by decide +kernel
theorem d_M_line_81 : decode b_M_line 81 = .ok (.iload 6, 2) := by decide +kernel
theorem d_M_line_83 : decode b_M_line 83 = .ok (.invokestatic 33, 3) := by decide +kernel
theorem d_M_line_86 : decode b_M_line 86 = .ok (.iastore, 1) := by decide +kernel
theorem d_M_line_87 : decode b_M_line 87 = .ok (.aload_n 0, 1) := by decide +kernel
theorem d_M_line_88 : decode b_M_line 88 = .ok (.aload_n 0, 1) := by decide +kernel
theorem d_M_line_89 : decode b_M_line 89 = .ok (.getfield 41, 3) := by decide +kernel
theorem d_M_line_92 : decode b_M_line 92 = .ok (.iconst 1, 1) := by decide +kernel
theorem d_M_line_93 : decode b_M_line 93 = .ok (.iadd, 1) := by decide +kernel
theorem d_M_line_94 : decode b_M_line 94 = .ok (.putfield 41, 3) := by decide +kernel
theorem d_M_line_97 : decode b_M_line 97 = .ok (.iinc 5 1, 3) := by decide +kernel
theorem d_M_line_100 : decode b_M_line 100 = .ok (.goto (-84), 3) := by decide +kernel
theorem d_M_line_103 : decode b_M_line 103 = .ok (.iconst 1, 1) := by decide +kernel
theorem d_M_line_104 : decode b_M_line 104 = .ok (.ireturn, 1) := by decide +kernel
theorem d_M_clear_0 : decode b_M_clear 0 = .ok (.aload_n 0, 1) := by decide +kernel
theorem d_M_clear_1 : decode b_M_clear 1 = .ok (.iconst 0, 1) := by decide +kernel
theorem d_M_clear_2 : decode b_M_clear 2 = .ok (.putfield 41, 3) := by decide +kernel
theorem d_M_clear_5 : decode b_M_clear 5 = .ok (.return_, 1) := by decide +kernel
theorem d_M_copy_0 : decode b_M_copy 0 = .ok (.aload_n 0, 1) := by decide +kernel
theorem d_M_copy_1 : decode b_M_copy 1 = .ok (.iconst 0, 1) := by decide +kernel
theorem d_M_copy_2 : decode b_M_copy 2 = .ok (.putfield 41, 3) := by decide +kernel
theorem d_M_copy_5 : decode b_M_copy 5 = .ok (.iconst 0, 1) := by decide +kernel
theorem d_M_copy_6 : decode b_M_copy 6 = .ok (.istore_n 1, 1) := by decide +kernel
theorem d_M_copy_7 : decode b_M_copy 7 = .ok (.iload_n 1, 1) := by decide +kernel
theorem d_M_copy_8 : decode b_M_copy 8 = .ok (.aload_n 0, 1) := by decide +kernel
theorem d_M_copy_9 : decode b_M_copy 9 = .ok (.getfield 29, 3) := by decide +kernel
theorem d_M_copy_12 : decode b_M_copy 12 = .ok (.if_icmp .ge 40, 3) := by decide +kernel
theorem d_M_copy_15 : decode b_M_copy 15 = .ok (.iload_n 1, 1) := by decide +kernel
theorem d_M_copy_16 : decode b_M_copy 16 = .ok (.bipush 64, 2) := by decide +kernel
theorem d_M_copy_18 : decode b_M_copy 18 = .ok (.if_icmp .ge 34, 3) := by decide +kernel
theorem d_M_copy_21 : decode b_M_copy 21 = .ok (.aload_n 0, 1) := by decide +kernel
theorem d_M_copy_22 : decode b_M_copy 22 = .ok (.getfield 16, 3) := by decide +kernel
theorem d_M_copy_25 : decode b_M_copy 25 = .ok (.aload_n 0, 1) := by decide +kernel
theorem d_M_copy_26 : decode b_M_copy 26 = .ok (.getfield 41, 3) := by decide +kernel
theorem d_M_copy_29 : decode b_M_copy 29 = .ok (.aload_n 0, 1) := by decide +kernel
theorem d_M_copy_30 : decode b_M_copy 30 = .ok (.getfield 13, 3) := by decide +kernel
theorem d_M_copy_33 : decode b_M_copy 33 = .ok (.iload_n 1, 1) := by decide +kernel
theorem d_M_copy_34 : decode b_M_copy 34 = .ok (.iaload, 1) := by decide +kernel
theorem d_M_copy_35 : decode b_M_copy 35 = .ok (.iastore, 1) := by decide +kernel
theorem d_M_copy_36 : decode b_M_copy 36 = .ok (.aload_n 0, 1) := by decide +kernel
theorem d_M_copy_37 : decode b_M_copy 37 = .ok (.aload_n 0, 1) := by decide +kernel
theorem d_M_copy_38 : decode b_M_copy 38 = .ok (.getfield 41, 3) := by decide +kernel
theorem d_M_copy_41 : decode b_M_copy 41 = .ok (.iconst 1, 1) := by decide +kernel
theorem d_M_copy_42 : decode b_M_copy 42 = .ok (.iadd, 1) := by decide +kernel
theorem d_M_copy_43 : decode b_M_copy 43 = .ok (.putfield 41, 3) := by decide +kernel
theorem d_M_copy_46 : decode b_M_copy 46 = .ok (.iinc 1 1, 3) := by decide +kernel
theorem d_M_copy_49 : decode b_M_copy 49 = .ok (.goto (-42), 3) := by decide +kernel
theorem d_M_copy_52 : decode b_M_copy 52 = .ok (.return_, 1) := by decide +kernel
theorem d_M_read_0 : decode b_M_read 0 = .ok (.iconst 0, 1) := by decide +kernel
theorem d_M_read_1 : decode b_M_read 1 = .ok (.istore_n 1, 1) := by decide +kernel
theorem d_M_read_2 : decode b_M_read 2 = .ok (.iconst 0, 1) := by decide +kernel
theorem d_M_read_3 : decode b_M_read 3 = .ok (.istore_n 2, 1) := by decide +kernel
theorem d_M_read_4 : decode b_M_read 4 = .ok (.iload_n 2, 1) := by decide +kernel
theorem d_M_read_5 : decode b_M_read 5 = .ok (.aload_n 0, 1) := by decide +kernel
theorem d_M_read_6 : decode b_M_read 6 = .ok (.getfield 41, 3) := by decide +kernel
theorem d_M_read_9 : decode b_M_read 9 = .ok (.if_icmp .ge 22, 3) := by decide +kernel
theorem d_M_read_12 : decode b_M_read 12 = .ok (.aload_n 0, 1) := by decide +kernel
theorem d_M_read_13 : decode b_M_read 13 = .ok (.getfield 16, 3) := by decide +kernel
theorem d_M_read_16 : decode b_M_read 16 = .ok (.iload_n 2, 1) := by decide +kernel
theorem d_M_read_17 : decode b_M_read 17 = .ok (.iaload, 1) := by decide +kernel
theorem d_M_read_18 : decode b_M_read 18 = .ok (.bipush 45, 2) := by decide +kernel
theorem d_M_read_20 : decode b_M_read 20 = .ok (.if_icmp .ne 5, 3) := by decide +kernel
theorem d_M_read_23 : decode b_M_read 23 = .ok (.iload_n 2, 1) := by decide +kernel
theorem d_M_read_24 : decode b_M_read 24 = .ok (.istore_n 1, 1) := by decide +kernel
theorem d_M_read_25 : decode b_M_read 25 = .ok (.iinc 2 1, 3) := by decide +kernel
theorem d_M_read_28 : decode b_M_read 28 = .ok (.goto (-24), 3) := by decide +kernel
theorem d_M_read_31 : decode b_M_read 31 = .ok (.aload_n 0, 1) := by decide +kernel
theorem d_M_read_32 : decode b_M_read 32 = .ok (.iconst 0, 1) := by decide +kernel
theorem d_M_read_33 : decode b_M_read 33 = .ok (.putfield 44, 3) := by decide +kernel
theorem d_M_read_36 : decode b_M_read 36 = .ok (.iconst 0, 1) := by decide +kernel
theorem d_M_read_37 : decode b_M_read 37 = .ok (.istore_n 2, 1) := by decide +kernel
theorem d_M_read_38 : decode b_M_read 38 = .ok (.iconst 0, 1) := by decide +kernel
theorem d_M_read_39 : decode b_M_read 39 = .ok (.istore_n 3, 1) := by decide +kernel
theorem d_M_read_40 : decode b_M_read 40 = .ok (.iload_n 3, 1) := by decide +kernel
theorem d_M_read_41 : decode b_M_read 41 = .ok (.iload_n 1, 1) := by decide +kernel
theorem d_M_read_42 : decode b_M_read 42 = .ok (.if_icmp .ge 25, 3) := by decide +kernel
theorem d_M_read_45 : decode b_M_read 45 = .ok (.aload_n 0, 1) := by decide +kernel
theorem d_M_read_46 : decode b_M_read 46 = .ok (.getfield 19, 3) := by decide +kernel
theorem d_M_read_49 : decode b_M_read 49 = .ok (.iload_n 2, 1) := by decide +kernel
theorem d_M_read_50 : decode b_M_read 50 = .ok (.aload_n 0, 1) := by decide +kernel
theorem d_M_read_51 : decode b_M_read 51 = .ok (.getfield 16, 3) := by decide +kernel
theorem d_M_read_54 : decode b_M_read 54 = .ok (.iload_n 3, 1) := by decide +kernel
theorem d_M_read_55 : decode b_M_read 55 = .ok (.iaload, 1) := by decide +kernel
theorem d_M_read_56 : decode b_M_read 56 = .ok (.iastore, 1) := by decide +kernel
theorem d_M_read_57 : decode b_M_read 57 = .ok (.iload_n 2, 1) := by decide +kernel
theorem d_M_read_58 : decode b_M_read 58 = .ok (.iconst 1, 1) := by decide +kernel
theorem d_M_read_59 : decode b_M_read 59 = .ok (.iadd, 1) := by decide +kernel
theorem d_M_read_60 : decode b_M_read 60 = .ok (.istore_n 2, 1) := by decide +kernel
theorem d_M_read_61 : decode b_M_read 61 = .ok (.iinc 3 1, 3) := by decide +kernel
theorem d_M_read_64 : decode b_M_read 64 = .ok (.goto (-24), 3) := by decide +kernel
theorem d_M_read_67 : decode b_M_read 67 = .ok (.iload_n 1, 1) := by decide +kernel
theorem d_M_read_68 : decode b_M_read 68 = .ok (.ifCond .le 9, 3) := by decide +kernel
theorem d_M_read_71 : decode b_M_read 71 = .ok (.iload_n 1, 1) := by decide +kernel
theorem d_M_read_72 : decode b_M_read 72 = .ok (.iconst 1, 1) := by decide +kernel
theorem d_M_read_73 : decode b_M_read 73 = .ok (.iadd, 1) := by decide +kernel
theorem d_M_read_74 : decode b_M_read 74 = .ok (.goto 4, 3) := by decide +kernel
theorem d_M_read_77 : decode b_M_read 77 = .ok (.iconst 0, 1) := by decide +kernel
theorem d_M_read_78 : decode b_M_read 78 = .ok (.istore_n 3, 1) := by decide +kernel
theorem d_M_read_79 : decode b_M_read 79 = .ok (.bipush 72, 2) := by decide +kernel
theorem d_M_read_81 : decode b_M_read 81 = .ok (.istore 4, 2) := by decide +kernel
theorem d_M_read_83 : decode b_M_read 83 = .ok (.ldc2_w 47, 3) := by decide +kernel
theorem d_M_read_86 : decode b_M_read 86 = .ok (.lstore 5, 2) := by decide +kernel
theorem d_M_read_88 : decode b_M_read 88 = .ok (.lconst 0, 1) := by decide +kernel
theorem d_M_read_89 : decode b_M_read 89 = .ok (.lstore 7, 2) := by decide +kernel
theorem d_M_read_91 : decode b_M_read 91 = .ok (.iload_n 3, 1) := by decide +kernel
theorem d_M_read_92 : decode b_M_read 92 = .ok (.aload_n 0, 1) := by decide +kernel
theorem d_M_read_93 : decode b_M_read 93 = .ok (.getfield 41, 3) := by decide +kernel
theorem d_M_read_96 : decode b_M_read 96 = .ok (.if_icmp .ge 328, 3) := by decide +kernel
theorem d_M_read_99 : decode b_M_read 99 = .ok (.lload 7, 2) := by decide +kernel
theorem d_M_read_101 : decode b_M_read 101 = .ok (.lstore 9, 2) := by decide +kernel
theorem d_M_read_103 : decode b_M_read 103 = .ok (.lconst 1, 1) := by decide +kernel
theorem d_M_read_104 : decode b_M_read 104 = .ok (.lstore 11, 2) := by decide +kernel
theorem d_M_read_106 : decode b_M_read 106 = .ok (.bipush 36, 2) := by decide +kernel
theorem d_M_read_108 : decode b_M_read 108 = .ok (.istore 13, 2) := by decide +kernel
theorem d_M_read_110 : decode b_M_read 110 = .ok (.iconst 1, 1) := by decide +kernel
theorem d_M_read_111 : decode b_M_read 111 = .ok (.istore 14, 2) := by decide +kernel
theorem d_M_read_113 : decode b_M_read 113 = .ok (.iload 14, 2) := by decide +kernel
theorem d_M_read_115 : decode b_M_read 115 = .ok (.ifCond .eq 175, 3) := by decide +kernel
theorem d_M_read_118 : decode b_M_read 118 = .ok (.iload_n 3, 1) := by decide +kernel
theorem d_M_read_119 : decode b_M_read 119 = .ok (.aload_n 0, 1) := by decide +kernel
theorem d_M_read_120 : decode b_M_read 120 = .ok (.getfield 41, 3) := by decide +kernel
theorem d_M_read_123 : decode b_M_read 123 = .ok (.if_icmp .ne 5, 3) := by decide +kernel
theorem d_M_read_126 : decode b_M_read 126 = .ok (.iconst (-1), 1) := by decide +kernel
theorem d_M_read_127 : decode b_M_read 127 = .ok (.ireturn, 1) := by decide +kernel
theorem d_M_read_128 : decode b_M_read 128 = .ok (.aload_n 0, 1) := by decide +kernel
theorem d_M_read_129 : decode b_M_read 129 = .ok (.getfield 16, 3) := by decide +kernel
theorem d_M_read_132 : decode b_M_read 132 = .ok (.iload_n 3, 1) := by decide +kernel
theorem d_M_read_133 : decode b_M_read 133 = .ok (.iaload, 1) := by decide +kernel
theorem d_M_read_134 : decode b_M_read 134 = .ok (.istore 15, 2) := by decide +kernel
theorem d_M_read_136 : decode b_M_read 136 = .ok (.iload 15, 2) := by decide +kernel
theorem d_M_read_138 : decode b_M_read 138 = .ok (.bipush 97, 2) := by decide +kernel
theorem d_M_read_140 : decode b_M_read 140 = .ok (.if_icmp .lt 11, 3) := by decide +kernel
theorem d_M_read_143 : decode b_M_read 143 = .ok (.iload 15, 2) := by decide +kernel
theorem d_M_read_145 : decode b_M_read 145 = .ok (.bipush 97, 2) := by decide +kernel
theorem d_M_read_147 : decode b_M_read 147 = .ok (.isub, 1) := by decide +kernel
theorem d_M_read_148 : decode b_M_read 148 = .ok (.goto 27, 3) := by decide +kernel
theorem d_M_read_151 : decode b_M_read 151 = .ok (.iload 15, 2) := by decide +kernel
theorem d_M_read_153 : decode b_M_read 153 = .ok (.bipush 48, 2) := by decide +kernel
theorem d_M_read_155 : decode b_M_read 155 = .ok (.if_icmp .lt 18, 3) := by decide +kernel
theorem d_M_read_158 : decode b_M_read 158 = .ok (.iload 15, 2) := by decide +kernel
theorem d_M_read_160 : decode b_M_read 160 = .ok (.bipush 58, 2) := by decide +kernel
theorem d_M_read_162 : decode b_M_read 162 = .ok (.if_icmp .ge 11, 3) := by decide +kernel
theorem d_M_read_165 : decode b_M_read 165 = .ok (.iload 15, 2) := by decide +kernel
theorem d_M_read_167 : decode b_M_read 167 = .ok (.bipush 22, 2) := by decide +kernel
theorem d_M_read_169 : decode b_M_read 169 = .ok (.isub, 1) := by decide +kernel
theorem d_M_read_170 : decode b_M_read 170 = .ok (.goto 5, 3) := by decide +kernel
theorem d_M_read_173 : decode b_M_read 173 = .ok (.bipush 36, 2) := by decide +kernel
theorem d_M_read_175 : decode b_M_read 175 = .ok (.istore 16, 2) := by decide +kernel
theorem d_M_read_177 : decode b_M_read 177 = .ok (.iload_n 3, 1) := by decide +kernel
theorem d_M_read_178 : decode b_M_read 178 = .ok (.iconst 1, 1) := by decide +kernel
theorem d_M_read_179 : decode b_M_read 179 = .ok (.iadd, 1) := by decide +kernel
theorem d_M_read_180 : decode b_M_read 180 = .ok (.istore_n 3, 1) := by decide +kernel
theorem d_M_read_181 : decode b_M_read 181 = .ok (.iload 16, 2) := by decide +kernel
theorem d_M_read_183 : decode b_M_read 183 = .ok (.bipush 36, 2) := by decide +kernel
theorem d_M_read_185 : decode b_M_read 185 = .ok (.if_icmp .ne 5, 3) := by decide +kernel
theorem d_M_read_188 : decode b_M_read 188 = .ok (.iconst (-1), 1) := by decide +kernel
theorem d_M_read_189 : decode b_M_read 189 = .ok (.ireturn, 1) := by decide +kernel
theorem d_M_read_190 : decode b_M_read 190 = .ok (.lload 7, 2) := by decide +kernel
theorem d_M_read_192 : decode b_M_read 192 = .ok (.iload 16, 2) := by decide +kernel
theorem d_M_read_194 : decode b_M_read 194 = .ok (.i2l, 1) := by decide +kernel
theorem d_M_read_195 : decode b_M_read 195 = .ok (.lload 11, 2) := by decide +kernel
theorem d_M_read_197 : decode b_M_read 197 = .ok (.lmul, 1) := by decide +kernel
theorem d_M_read_198 : decode b_M_read 198 = .ok (.ladd, 1) := by decide +kernel
theorem d_M_read_199 : decode b_M_read 199 = .ok (.lstore 7, 2) := by decide +kernel
theorem d_M_read_201 : decode b_M_read 201 = .ok (.lload 7, 2) := by decide +kernel
theorem d_M_read_203 : decode b_M_read 203 = .ok (.ldc2_w 49, 3) := by decide +kernel
theorem d_M_read_206 : decode b_M_read 206 = .ok (.lcmp, 1) := by decide +kernel
theorem d_M_read_207 : decode b_M_read 207 = .ok (.ifCond .le 5, 3) := by decide +kernel
theorem d_M_read_210 : decode b_M_read 210 = .ok (.iconst (-1), 1) := by decide +kernel
theorem d_M_read_211 : decode b_M_read 211 = .ok (.ireturn, 1) := by decide +kernel
theorem d_M_read_212 : decode b_M_read 212 = .ok (.iload 13, 2) := by decide +kernel
theorem d_M_read_214 : decode b_M_read 214 = .ok (.iload 4, 2) := by decide +kernel
theorem d_M_read_216 : decode b_M_read 216 = .ok (.if_icmp .gt 7, 3) := by decide +kernel
theorem d_M_read_219 : decode b_M_read 219 = .ok (.iconst 1, 1) := by decide +kernel
theorem d_M_read_220 : decode b_M_read 220 = .ok (.goto 23, 3) := by decide +kernel
theorem d_M_read_223 : decode b_M_read 223 = .ok (.iload 13, 2) := by decide +kernel
theorem d_M_read_225 : decode b_M_read 225 = .ok (.iload 4, 2) := by decide +kernel
theorem d_M_read_227 : decode b_M_read 227 = .ok (.bipush 26, 2) := by decide +kernel
theorem d_M_read_229 : decode b_M_read 229 = .ok (.iadd, 1) := by decide +kernel
theorem d_M_read_230 : decode b_M_read 230 = .ok (.if_icmp .lt 8, 3) := by decide +kernel
theorem d_M_read_233 : decode b_M_read 233 = .ok (.bipush 26, 2) := by decide +kernel
theorem d_M_read_235 : decode b_M_read 235 = .ok (.goto 8, 3) := by decide +kernel
theorem d_M_read_238 : decode b_M_read 238 = .ok (.iload 13, 2) := by decide +kernel
theorem d_M_read_240 : decode b_M_read 240 = .ok (.iload 4, 2) := by decide +kernel
theorem d_M_read_242 : decode b_M_read 242 = .ok (.isub, 1) := by decide +kernel
theorem d_M_read_243 : decode b_M_read 243 = .ok (.istore 17, 2) := by decide +kernel
theorem d_M_read_245 : decode b_M_read 245 = .ok (.iload 16, 2) := by decide +kernel
theorem d_M_read_247 : decode b_M_read 247 = .ok (.iload 17, 2) := by decide +kernel
theorem d_M_read_249 : decode b_M_read 249 = .ok (.if_icmp .ge 9, 3) := by decide +kernel
theorem d_M_read_252 : decode b_M_read 252 = .ok (.iconst 0, 1) := by decide +kernel
theorem d_M_read_253 : decode b_M_read 253 = .ok (.istore 14, 2) := by decide +kernel
theorem d_M_read_255 : decode b_M_read 255 = .ok (.goto 32, 3) := by decide +kernel
theorem d_M_read_258 : decode b_M_read 258 = .ok (.lload 11, 2) := by decide +kernel
theorem d_M_read_260 : decode b_M_read 260 = .ok (.bipush 36, 2) := by decide +kernel
theorem d_M_read_262 : decode b_M_read 262 = .ok (.iload 17, 2) := by decide +kernel
theorem d_M_read_264 : decode b_M_read 264 = .ok (.isub, 1) := by decide +kernel
theorem d_M_read_265 : decode b_M_read 265 = .ok (.i2l, 1) := by decide +kernel
theorem d_M_read_266 : decode b_M_read 266 = .ok (.lmul, 1) := by decide +kernel
theorem d_M_read_267 : decode b_M_read 267 = .ok (.lstore 11, 2) := by decide +kernel
theorem d_M_read_269 : decode b_M_read 269 = .ok (.lload 11, 2) := by decide +kernel
theorem d_M_read_271 : decode b_M_read 271 = .ok (.ldc2_w 49, 3) := by decide +kernel
theorem d_M_read_274 : decode b_M_read 274 = .ok (.lcmp, 1) := by decide +kernel
theorem d_M_read_275 : decode b_M_read 275 = .ok (.ifCond .le 5, 3) := by decide +kernel
theorem d_M_read_278 : decode b_M_read 278 = .ok (.iconst (-1), 1) := by decide +kernel
theorem d_M_read_279 : decode b_M_read 279 = .ok (.ireturn, 1) := by decide +kernel
theorem d_M_read_280 : decode b_M_read 280 = .ok (.iload 13, 2) := by decide +kernel
theorem d_M_read_282 : decode b_M_read 282 = .ok (.bipush 36, 2) := by decide +kernel
theorem d_M_read_284 : decode b_M_read 284 = .ok (.iadd, 1) := by decide +kernel
theorem d_M_read_285 : decode b_M_read 285 = .ok (.istore 13, 2) := by decide +kernel
theorem d_M_read_287 : decode b_M_read 287 = .ok (.goto (-174), 3) := by decide +kernel
theorem d_M_read_290 : decode b_M_read 290 = .ok (.lload 7, 2) := by decide +kernel
theorem d_M_read_292 : decode b_M_read 292 = .ok (.lload 9, 2) := by decide +kernel
theorem d_M_read_294 : decode b_M_read 294 = .ok (.lsub, 1) := by decide +kernel
theorem d_M_read_295 : decode b_M_read 295 = .ok (.l2i, 1) := by decide +kernel
theorem d_M_read_296 : decode b_M_read 296 = .ok (.iload_n 2, 1) := by decide +kernel
theorem d_M_read_297 : decode b_M_read 297 = .ok (.iconst 1, 1) := by decide +kernel
theorem d_M_read_298 : decode b_M_read 298 = .ok (.iadd, 1) := by decide +kernel
theorem d_M_read_299 : decode b_M_read 299 = .ok (.lload 9, 2) := by decide +kernel
theorem d_M_read_301 : decode b_M_read 301 = .ok (.lconst 0, 1) := by decide +kernel
theorem d_M_read_302 : decode b_M_read 302 = .ok (.lcmp, 1) := by decide +kernel
theorem d_M_read_303 : decode b_M_read 303 = .ok (.ifCond .ne 7, 3) := by decide +kernel
theorem d_M_read_306 : decode b_M_read 306 = .ok (.iconst 1, 1) := by decide +kernel
theorem d_M_read_307 : decode b_M_read 307 = .ok (.goto 4, 3) := by decide +kernel
theorem d_M_read_310 : decode b_M_read 310 = .ok (.iconst 0, 1) := by decide +kernel
theorem d_M_read_311 : decode b_M_read 311 = .ok (.invokestatic 37, 3) := by decide +kernel
theorem d_M_read_314 : decode b_M_read 314 = .ok (.istore 4, 2) := by decide +kernel
theorem d_M_read_316 : decode b_M_read 316 = .ok (.lload 5, 2) := by decide +kernel
theorem d_M_read_318 : decode b_M_read 318 = .ok (.lload 7, 2) := by decide +kernel
theorem d_M_read_320 : decode b_M_read 320 = .ok (.iload_n 2, 1) := by decide +kernel
theorem d_M_read_321 : decode b_M_read 321 = .ok (.iconst 1, 1) := by decide +kernel
theorem d_M_read_322 : decode b_M_read 322 = .ok (.iadd, 1) := by decide +kernel
theorem d_M_read_323 : decode b_M_read 323 = .ok (.i2l, 1) := by decide +kernel
theorem d_M_read_324 : decode b_M_read 324 = .ok (.ldiv, 1) := by decide +kernel
theorem d_M_read_325 : decode b_M_read 325 = .ok (.ladd, 1) := by decide +kernel
theorem d_M_read_326 : decode b_M_read 326 = .ok (.lstore 5, 2) := by decide +kernel
theorem d_M_read_328 : decode b_M_read 328 = .ok (.lload 7, 2) := by decide +kernel
theorem d_M_read_330 : decode b_M_read 330 = .ok (.iload_n 2, 1) := by decide +kernel
theorem d_M_read_331 : decode b_M_read 331 = .ok (.iconst 1, 1) := by decide +kernel
theorem d_M_read_332 : decode b_M_read 332 = .ok (.iadd, 1) := by decide +kernel
theorem d_M_read_333 : decode b_M_read 333 = .ok (.i2l, 1) := by decide +kernel
theorem d_M_read_334 : decode b_M_read 334 = .ok (.lrem, 1) := by decide +kernel
theorem d_M_read_335 : decode b_M_read 335 = .ok (.lstore 7, 2) := by decide +kernel
theorem d_M_read_337 : decode b_M_read 337 = .ok (.lload 5, 2) := by decide +kernel
theorem d_M_read_339 : decode b_M_read 339 = .ok (.ldc2_w 51, 3) := by decide +kernel
theorem d_M_read_342 : decode b_M_read 342 = .ok (.lcmp, 1) := by decide +kernel
theorem d_M_read_343 : decode b_M_read 343 = .ok (.ifCond .gt 21, 3) := by decide +kernel
theorem d_M_read_346 : decode b_M_read 346 = .ok (.lload 5, 2) := by decide +kernel
theorem d_M_read_348 : decode b_M_read 348 = .ok (.ldc2_w 53, 3) := by decide +kernel
theorem d_M_read_351 : decode b_M_read 351 = .ok (.lcmp, 1) := by decide +kernel
theorem d_M_read_352 : decode b_M_read 352 = .ok (.ifCond .lt 14, 3) := by decide +kernel
theorem d_M_read_355 : decode b_M_read 355 = .ok (.lload 5, 2) := by decide +kernel
theorem d_M_read_357 : decode b_M_read 357 = .ok (.ldc2_w 55, 3) := by decide +kernel
theorem d_M_read_360 : decode b_M_read 360 = .ok (.lcmp, 1) := by decide +kernel
theorem d_M_read_361 : decode b_M_read 361 = .ok (.ifCond .ge 5, 3) := by decide +kernel
theorem d_M_read_364 : decode b_M_read 364 = .ok (.iconst (-1), 1) := by decide +kernel
theorem d_M_read_365 : decode b_M_read 365 = .ok (.ireturn, 1) := by decide +kernel
theorem d_M_read_366 : decode b_M_read 366 = .ok (.iload_n 2, 1) := by decide +kernel
theorem d_M_read_367 : decode b_M_read 367 = .ok (.istore 15, 2) := by decide +kernel
theorem d_M_read_369 : decode b_M_read 369 = .ok (.iload 15, 2) := by decide +kernel
theorem d_M_read_371 : decode b_M_read 371 = .ok (.i2l, 1) := by decide +kernel
theorem d_M_read_372 : decode b_M_read 372 = .ok (.lload 7, 2) := by decide +kernel
theorem d_M_read_374 : decode b_M_read 374 = .ok (.lcmp, 1) := by decide +kernel
theorem d_M_read_375 : decode b_M_read 375 = .ok (.ifCond .le 25, 3) := by decide +kernel
theorem d_M_read_378 : decode b_M_read 378 = .ok (.aload_n 0, 1) := by decide +kernel
theorem d_M_read_379 : decode b_M_read 379 = .ok (.getfield 19, 3) := by decide +kernel
theorem d_M_read_382 : decode b_M_read 382 = .ok (.iload 15, 2) := by decide +kernel
theorem d_M_read_384 : decode b_M_read 384 = .ok (.aload_n 0, 1) := by decide +kernel
theorem d_M_read_385 : decode b_M_read 385 = .ok (.getfield 19, 3) := by decide +kernel
theorem d_M_read_388 : decode b_M_read 388 = .ok (.iload 15, 2) := by decide +kernel
theorem d_M_read_390 : decode b_M_read 390 = .ok (.iconst 1, 1) := by decide +kernel
theorem d_M_read_391 : decode b_M_read 391 = .ok (.isub, 1) := by decide +kernel
theorem d_M_read_392 : decode b_M_read 392 = .ok (.iaload, 1) := by decide +kernel
theorem d_M_read_393 : decode b_M_read 393 = .ok (.iastore, 1) := by decide +kernel
theorem d_M_read_394 : decode b_M_read 394 = .ok (.iinc 15 (-1), 3) := by decide +kernel
theorem d_M_read_397 : decode b_M_read 397 = .ok (.goto (-28), 3) := by decide +kernel
theorem d_M_read_400 : decode b_M_read 400 = .ok (.aload_n 0, 1) := by decide +kernel
theorem d_M_read_401 : decode b_M_read 401 = .ok (.getfield 19, 3) := by decide +kernel
theorem d_M_read_404 : decode b_M_read 404 = .ok (.lload 7, 2) := by decide +kernel
theorem d_M_read_406 : decode b_M_read 406 = .ok (.l2i, 1) := by decide +kernel
theorem d_M_read_407 : decode b_M_read 407 = .ok (.lload 5, 2) := by decide +kernel
theorem d_M_read_409 : decode b_M_read 409 = .ok (.l2i, 1) := by decide +kernel
theorem d_M_read_410 : decode b_M_read 410 = .ok (.iastore, 1) := by decide +kernel
theorem d_M_read_411 : decode b_M_read 411 = .ok (.iload_n 2, 1) := by decide +kernel
theorem d_M_read_412 : decode b_M_read 412 = .ok (.iconst 1, 1) := by decide +kernel
theorem d_M_read_413 : decode b_M_read 413 = .ok (.iadd, 1) := by decide +kernel
theorem d_M_read_414 : decode b_M_read 414 = .ok (.istore_n 2, 1) := by decide +kernel
theorem d_M_read_415 : decode b_M_read 415 = .ok (.lload 7, 2) := by decide +kernel
theorem d_M_read_417 : decode b_M_read 417 = .ok (.lconst 1, 1) := by decide +kernel
theorem d_M_read_418 : decode b_M_read 418 = .ok (.ladd, 1) := by decide +kernel
theorem d_M_read_419 : decode b_M_read 419 = .ok (.lstore 7, 2) := by decide +kernel
theorem d_M_read_421 : decode b_M_read 421 = .ok (.goto (-330), 3) := by decide +kernel
theorem d_M_read_424 : decode b_M_read 424 = .ok (.aload_n 0, 1) := by decide +kernel
theorem d_M_read_425 : decode b_M_read 425 = .ok (.iload_n 2, 1) := by decide +kernel
theorem d_M_read_426 : decode b_M_read 426 = .ok (.putfield 44, 3) := by decide +kernel
theorem d_M_read_429 : decode b_M_read 429 = .ok (.iload_n 2, 1) := by decide +kernel
theorem d_M_read_430 : decode b_M_read 430 = .ok (.ireturn, 1) := by decide +kernel
theorem d_M_sign_0 : decode b_M_sign 0 = .ok (.aload_n 0, 1) := by decide +kernel
theorem d_M_sign_1 : decode b_M_sign 1 = .ok (.getfield 44, 3) := by decide +kernel
theorem d_M_sign_4 : decode b_M_sign 4 = .ok (.ifCond .ne 7, 3) := by decide +kernel
theorem d_M_sign_7 : decode b_M_sign 7 = .ok (.iconst (-1), 1) := by decide +kernel
theorem d_M_sign_8 : decode b_M_sign 8 = .ok (.goto 17, 3) := by decide +kernel
theorem d_M_sign_11 : decode b_M_sign 11 = .ok (.aload_n 0, 1) := by decide +kernel
theorem d_M_sign_12 : decode b_M_sign 12 = .ok (.getfield 19, 3) := by decide +kernel
theorem d_M_sign_15 : decode b_M_sign 15 = .ok (.iload_n 1, 1) := by decide +kernel
theorem d_M_sign_16 : decode b_M_sign 16 = .ok (.ldc 22, 2) := by decide +kernel
theorem d_M_sign_18 : decode b_M_sign 18 = .ok (.iand, 1) := by decide +kernel
theorem d_M_sign_19 : decode b_M_sign 19 = .ok (.aload_n 0, 1) := by decide +kernel
theorem d_M_sign_20 : decode b_M_sign 20 = .ok (.getfield 44, 3) := by decide +kernel
theorem d_M_sign_23 : decode b_M_sign 23 = .ok (.irem, 1) := by decide +kernel
theorem d_M_sign_24 : decode b_M_sign 24 = .ok (.iaload, 1) := by decide +kernel
theorem d_M_sign_25 : decode b_M_sign 25 = .ok (.ireturn, 1) := by decide +kernel
theorem d_L_law_0 : decode code 0 = .ok (.new 7, 3) := by decide +kernel
theorem d_L_law_3 : decode code 3 = .ok (.dup, 1) := by decide +kernel
theorem d_L_law_4 : decode code 4 = .ok (.invokespecial 9, 3) := by decide +kernel
theorem d_L_law_7 : decode code 7 = .ok (.astore_n 1, 1) := by decide +kernel
theorem d_L_law_8 : decode code 8 = .ok (.new 10, 3) := by decide +kernel
theorem d_L_law_11 : decode code 11 = .ok (.dup, 1) := by decide +kernel
theorem d_L_law_12 : decode code 12 = .ok (.invokespecial 12, 3) := by decide +kernel
theorem d_L_law_15 : decode code 15 = .ok (.astore_n 2, 1) := by decide +kernel
theorem d_L_law_16 : decode code 16 = .ok (.iconst 0, 1) := by decide +kernel
theorem d_L_law_17 : decode code 17 = .ok (.istore_n 3, 1) := by decide +kernel
theorem d_L_law_18 : decode code 18 = .ok (.iload_n 3, 1) := by decide +kernel
theorem d_L_law_19 : decode code 19 = .ok (.aload_n 0, 1) := by decide +kernel
theorem d_L_law_20 : decode code 20 = .ok (.arraylength, 1) := by decide +kernel
theorem d_L_law_21 : decode code 21 = .ok (.iconst 5, 1) := by decide +kernel
theorem d_L_law_22 : decode code 22 = .ok (.isub, 1) := by decide +kernel
theorem d_L_law_23 : decode code 23 = .ok (.if_icmp .gt 275, 3) := by decide +kernel
theorem d_L_law_26 : decode code 26 = .ok (.aload_n 0, 1) := by decide +kernel
theorem d_L_law_27 : decode code 27 = .ok (.iload_n 3, 1) := by decide +kernel
theorem d_L_law_28 : decode code 28 = .ok (.iaload, 1) := by decide +kernel
theorem d_L_law_29 : decode code 29 = .ok (.bipush 15, 2) := by decide +kernel
theorem d_L_law_31 : decode code 31 = .ok (.iand, 1) := by decide +kernel
theorem d_L_law_32 : decode code 32 = .ok (.tableswitch 260 0 9 #[56, 79, 102, 113, 126, 149, 202, 213, 224, 237], 56) := by decide +kernel
theorem d_L_law_88 : decode code 88 = .ok (.aload_n 1, 1) := by decide +kernel
theorem d_L_law_89 : decode code 89 = .ok (.aload_n 0, 1) := by decide +kernel
theorem d_L_law_90 : decode code 90 = .ok (.iload_n 3, 1) := by decide +kernel
theorem d_L_law_91 : decode code 91 = .ok (.iconst 1, 1) := by decide +kernel
theorem d_L_law_92 : decode code 92 = .ok (.iadd, 1) := by decide +kernel
theorem d_L_law_93 : decode code 93 = .ok (.iaload, 1) := by decide +kernel
theorem d_L_law_94 : decode code 94 = .ok (.invokevirtual 13, 3) := by decide +kernel
theorem d_L_law_97 : decode code 97 = .ok (.aload_n 2, 1) := by decide +kernel
theorem d_L_law_98 : decode code 98 = .ok (.aload_n 0, 1) := by decide +kernel
theorem d_L_law_99 : decode code 99 = .ok (.iload_n 3, 1) := by decide +kernel
theorem d_L_law_100 : decode code 100 = .ok (.iconst 1, 1) := by decide +kernel
theorem d_L_law_101 : decode code 101 = .ok (.iadd, 1) := by decide +kernel
theorem d_L_law_102 : decode code 102 = .ok (.iaload, 1) := by decide +kernel
theorem d_L_law_103 : decode code 103 = .ok (.invokevirtual 17, 3) := by decide +kernel
theorem d_L_law_106 : decode code 106 = .ok (.if_icmp .eq 186, 3) := by decide +kernel
theorem d_L_law_109 : decode code 109 = .ok (.iconst 0, 1) := by decide +kernel
theorem d_L_law_110 : decode code 110 = .ok (.ireturn, 1) := by decide +kernel
theorem d_L_law_111 : decode code 111 = .ok (.aload_n 1, 1) := by decide +kernel
theorem d_L_law_112 : decode code 112 = .ok (.aload_n 0, 1) := by decide +kernel
theorem d_L_law_113 : decode code 113 = .ok (.iload_n 3, 1) := by decide +kernel
theorem d_L_law_114 : decode code 114 = .ok (.iconst 1, 1) := by decide +kernel
theorem d_L_law_115 : decode code 115 = .ok (.iadd, 1) := by decide +kernel
theorem d_L_law_116 : decode code 116 = .ok (.iaload, 1) := by decide +kernel
theorem d_L_law_117 : decode code 117 = .ok (.invokevirtual 18, 3) := by decide +kernel
theorem d_L_law_120 : decode code 120 = .ok (.aload_n 2, 1) := by decide +kernel
theorem d_L_law_121 : decode code 121 = .ok (.aload_n 0, 1) := by decide +kernel
theorem d_L_law_122 : decode code 122 = .ok (.iload_n 3, 1) := by decide +kernel
theorem d_L_law_123 : decode code 123 = .ok (.iconst 1, 1) := by decide +kernel
theorem d_L_law_124 : decode code 124 = .ok (.iadd, 1) := by decide +kernel
theorem d_L_law_125 : decode code 125 = .ok (.iaload, 1) := by decide +kernel
theorem d_L_law_126 : decode code 126 = .ok (.invokevirtual 21, 3) := by decide +kernel
theorem d_L_law_129 : decode code 129 = .ok (.if_icmp .eq 163, 3) := by decide +kernel
theorem d_L_law_132 : decode code 132 = .ok (.iconst 0, 1) := by decide +kernel
theorem d_L_law_133 : decode code 133 = .ok (.ireturn, 1) := by decide +kernel
theorem d_L_law_134 : decode code 134 = .ok (.aload_n 1, 1) := by decide +kernel
theorem d_L_law_135 : decode code 135 = .ok (.invokevirtual 22, 3) := by decide +kernel
theorem d_L_law_138 : decode code 138 = .ok (.aload_n 2, 1) := by decide +kernel
theorem d_L_law_139 : decode code 139 = .ok (.invokevirtual 25, 3) := by decide +kernel
theorem d_L_law_142 : decode code 142 = .ok (.goto 150, 3) := by decide +kernel
theorem d_L_law_145 : decode code 145 = .ok (.aload_n 1, 1) := by decide +kernel
theorem d_L_law_146 : decode code 146 = .ok (.invokevirtual 26, 3) := by decide +kernel
theorem d_L_law_149 : decode code 149 = .ok (.aload_n 2, 1) := by decide +kernel
theorem d_L_law_150 : decode code 150 = .ok (.invokevirtual 30, 3) := by decide +kernel
theorem d_L_law_153 : decode code 153 = .ok (.if_icmp .eq 139, 3) := by decide +kernel
theorem d_L_law_156 : decode code 156 = .ok (.iconst 0, 1) := by decide +kernel
theorem d_L_law_157 : decode code 157 = .ok (.ireturn, 1) := by decide +kernel
theorem d_L_law_158 : decode code 158 = .ok (.aload_n 1, 1) := by decide +kernel
theorem d_L_law_159 : decode code 159 = .ok (.aload_n 0, 1) := by decide +kernel
theorem d_L_law_160 : decode code 160 = .ok (.iload_n 3, 1) := by decide +kernel
theorem d_L_law_161 : decode code 161 = .ok (.iconst 1, 1) := by decide +kernel
theorem d_L_law_162 : decode code 162 = .ok (.iadd, 1) := by decide +kernel
theorem d_L_law_163 : decode code 163 = .ok (.iaload, 1) := by decide +kernel
theorem d_L_law_164 : decode code 164 = .ok (.invokevirtual 31, 3) := by decide +kernel
theorem d_L_law_167 : decode code 167 = .ok (.aload_n 2, 1) := by decide +kernel
theorem d_L_law_168 : decode code 168 = .ok (.aload_n 0, 1) := by decide +kernel
theorem d_L_law_169 : decode code 169 = .ok (.iload_n 3, 1) := by decide +kernel
theorem d_L_law_170 : decode code 170 = .ok (.iconst 1, 1) := by decide +kernel
theorem d_L_law_171 : decode code 171 = .ok (.iadd, 1) := by decide +kernel
theorem d_L_law_172 : decode code 172 = .ok (.iaload, 1) := by decide +kernel
theorem d_L_law_173 : decode code 173 = .ok (.invokevirtual 35, 3) := by decide +kernel
theorem d_L_law_176 : decode code 176 = .ok (.if_icmp .eq 116, 3) := by decide +kernel
theorem d_L_law_179 : decode code 179 = .ok (.iconst 0, 1) := by decide +kernel
theorem d_L_law_180 : decode code 180 = .ok (.ireturn, 1) := by decide +kernel
theorem d_L_law_181 : decode code 181 = .ok (.aload_n 1, 1) := by decide +kernel
theorem d_L_law_182 : decode code 182 = .ok (.aload_n 0, 1) := by decide +kernel
theorem d_L_law_183 : decode code 183 = .ok (.iload_n 3, 1) := by decide +kernel
theorem d_L_law_184 : decode code 184 = .ok (.iconst 1, 1) := by decide +kernel
theorem d_L_law_185 : decode code 185 = .ok (.iadd, 1) := by decide +kernel
theorem d_L_law_186 : decode code 186 = .ok (.iaload, 1) := by decide +kernel
theorem d_L_law_187 : decode code 187 = .ok (.aload_n 0, 1) := by decide +kernel
theorem d_L_law_188 : decode code 188 = .ok (.iload_n 3, 1) := by decide +kernel
theorem d_L_law_189 : decode code 189 = .ok (.iconst 2, 1) := by decide +kernel
theorem d_L_law_190 : decode code 190 = .ok (.iadd, 1) := by decide +kernel
theorem d_L_law_191 : decode code 191 = .ok (.iaload, 1) := by decide +kernel
theorem d_L_law_192 : decode code 192 = .ok (.aload_n 0, 1) := by decide +kernel
theorem d_L_law_193 : decode code 193 = .ok (.iload_n 3, 1) := by decide +kernel
theorem d_L_law_194 : decode code 194 = .ok (.iconst 3, 1) := by decide +kernel
theorem d_L_law_195 : decode code 195 = .ok (.iadd, 1) := by decide +kernel
theorem d_L_law_196 : decode code 196 = .ok (.iaload, 1) := by decide +kernel
theorem d_L_law_197 : decode code 197 = .ok (.aload_n 0, 1) := by decide +kernel
theorem d_L_law_198 : decode code 198 = .ok (.iload_n 3, 1) := by decide +kernel
theorem d_L_law_199 : decode code 199 = .ok (.iconst 4, 1) := by decide +kernel
theorem d_L_law_200 : decode code 200 = .ok (.iadd, 1) := by decide +kernel
theorem d_L_law_201 : decode code 201 = .ok (.iaload, 1) := by decide +kernel
theorem d_L_law_202 : decode code 202 = .ok (.invokevirtual 36, 3) := by decide +kernel
theorem d_L_law_205 : decode code 205 = .ok (.aload_n 2, 1) := by decide +kernel
theorem d_L_law_206 : decode code 206 = .ok (.aload_n 0, 1) := by decide +kernel
theorem d_L_law_207 : decode code 207 = .ok (.iload_n 3, 1) := by decide +kernel
theorem d_L_law_208 : decode code 208 = .ok (.iconst 1, 1) := by decide +kernel
theorem d_L_law_209 : decode code 209 = .ok (.iadd, 1) := by decide +kernel
theorem d_L_law_210 : decode code 210 = .ok (.iaload, 1) := by decide +kernel
theorem d_L_law_211 : decode code 211 = .ok (.aload_n 0, 1) := by decide +kernel
theorem d_L_law_212 : decode code 212 = .ok (.iload_n 3, 1) := by decide +kernel
theorem d_L_law_213 : decode code 213 = .ok (.iconst 2, 1) := by decide +kernel
theorem d_L_law_214 : decode code 214 = .ok (.iadd, 1) := by decide +kernel
theorem d_L_law_215 : decode code 215 = .ok (.iaload, 1) := by decide +kernel
theorem d_L_law_216 : decode code 216 = .ok (.aload_n 0, 1) := by decide +kernel
theorem d_L_law_217 : decode code 217 = .ok (.iload_n 3, 1) := by decide +kernel
theorem d_L_law_218 : decode code 218 = .ok (.iconst 3, 1) := by decide +kernel
theorem d_L_law_219 : decode code 219 = .ok (.iadd, 1) := by decide +kernel
theorem d_L_law_220 : decode code 220 = .ok (.iaload, 1) := by decide +kernel
theorem d_L_law_221 : decode code 221 = .ok (.aload_n 0, 1) := by decide +kernel
theorem d_L_law_222 : decode code 222 = .ok (.iload_n 3, 1) := by decide +kernel
theorem d_L_law_223 : decode code 223 = .ok (.iconst 4, 1) := by decide +kernel
theorem d_L_law_224 : decode code 224 = .ok (.iadd, 1) := by decide +kernel
theorem d_L_law_225 : decode code 225 = .ok (.iaload, 1) := by decide +kernel
theorem d_L_law_226 : decode code 226 = .ok (.invokevirtual 40, 3) := by decide +kernel
theorem d_L_law_229 : decode code 229 = .ok (.if_icmp .eq 63, 3) := by decide +kernel
theorem d_L_law_232 : decode code 232 = .ok (.iconst 0, 1) := by decide +kernel
theorem d_L_law_233 : decode code 233 = .ok (.ireturn, 1) := by decide +kernel
theorem d_L_law_234 : decode code 234 = .ok (.aload_n 1, 1) := by decide +kernel
theorem d_L_law_235 : decode code 235 = .ok (.invokevirtual 41, 3) := by decide +kernel
theorem d_L_law_238 : decode code 238 = .ok (.aload_n 2, 1) := by decide +kernel
theorem d_L_law_239 : decode code 239 = .ok (.invokevirtual 44, 3) := by decide +kernel
theorem d_L_law_242 : decode code 242 = .ok (.goto 50, 3) := by decide +kernel
theorem d_L_law_245 : decode code 245 = .ok (.aload_n 1, 1) := by decide +kernel
theorem d_L_law_246 : decode code 246 = .ok (.invokevirtual 45, 3) := by decide +kernel
theorem d_L_law_249 : decode code 249 = .ok (.aload_n 2, 1) := by decide +kernel
theorem d_L_law_250 : decode code 250 = .ok (.invokevirtual 48, 3) := by decide +kernel
theorem d_L_law_253 : decode code 253 = .ok (.goto 39, 3) := by decide +kernel
theorem d_L_law_256 : decode code 256 = .ok (.aload_n 1, 1) := by decide +kernel
theorem d_L_law_257 : decode code 257 = .ok (.invokevirtual 49, 3) := by decide +kernel
theorem d_L_law_260 : decode code 260 = .ok (.aload_n 2, 1) := by decide +kernel
theorem d_L_law_261 : decode code 261 = .ok (.invokevirtual 52, 3) := by decide +kernel
theorem d_L_law_264 : decode code 264 = .ok (.if_icmp .eq 28, 3) := by decide +kernel
theorem d_L_law_267 : decode code 267 = .ok (.iconst 0, 1) := by decide +kernel
theorem d_L_law_268 : decode code 268 = .ok (.ireturn, 1) := by decide +kernel
theorem d_L_law_269 : decode code 269 = .ok (.aload_n 1, 1) := by decide +kernel
theorem d_L_law_270 : decode code 270 = .ok (.aload_n 0, 1) := by decide +kernel
theorem d_L_law_271 : decode code 271 = .ok (.iload_n 3, 1) := by decide +kernel
theorem d_L_law_272 : decode code 272 = .ok (.iconst 1, 1) := by decide +kernel
theorem d_L_law_273 : decode code 273 = .ok (.iadd, 1) := by decide +kernel
theorem d_L_law_274 : decode code 274 = .ok (.iaload, 1) := by decide +kernel
theorem d_L_law_275 : decode code 275 = .ok (.invokevirtual 53, 3) := by decide +kernel
theorem d_L_law_278 : decode code 278 = .ok (.aload_n 2, 1) := by decide +kernel
theorem d_L_law_279 : decode code 279 = .ok (.aload_n 0, 1) := by decide +kernel
theorem d_L_law_280 : decode code 280 = .ok (.iload_n 3, 1) := by decide +kernel
theorem d_L_law_281 : decode code 281 = .ok (.iconst 1, 1) := by decide +kernel
theorem d_L_law_282 : decode code 282 = .ok (.iadd, 1) := by decide +kernel
theorem d_L_law_283 : decode code 283 = .ok (.iaload, 1) := by decide +kernel
theorem d_L_law_284 : decode code 284 = .ok (.invokevirtual 56, 3) := by decide +kernel
theorem d_L_law_287 : decode code 287 = .ok (.if_icmp .eq 5, 3) := by decide +kernel
theorem d_L_law_290 : decode code 290 = .ok (.iconst 0, 1) := by decide +kernel
theorem d_L_law_291 : decode code 291 = .ok (.ireturn, 1) := by decide +kernel
theorem d_L_law_292 : decode code 292 = .ok (.iinc 3 5, 3) := by decide +kernel
theorem d_L_law_295 : decode code 295 = .ok (.goto (-277), 3) := by decide +kernel
theorem d_L_law_298 : decode code 298 = .ok (.iconst 1, 1) := by decide +kernel
theorem d_L_law_299 : decode code 299 = .ok (.ireturn, 1) := by decide +kernel
end
section
/-! rows over plain numbers, contracts and calls -/
section
variable {p : Program} {l : Launch} {e : Env} {R : Room} {s : State} {m : MethodId} {args : Array Value} {below : List Frame} {meth : Method} {c : Code} {H : Heap} {locs : List Loc} {cells slots : Nat} {Q : State → Prop}
variable {cc : ByteArray} {pc : Nat} {ls : Array Slot} {rest : List Value} {nL : Nat} {own : String}
theorem k_cvi {x y : Int32} (h : x = y) (k : W p l e R s m args below meth c H locs cells slots Q (F0 m pc ls (.int y :: rest))) : W p l e R s m args below meth c H locs cells slots Q (F0 m pc ls (.int x :: rest)) := h ▸ k
theorem k_cvl {x y : Int64} (h : x = y) (k : W p l e R s m args below meth c H locs cells slots Q (F0 m pc ls (.long y :: rest))) : W p l e R s m args below meth c H locs cells slots Q (F0 m pc ls (.long x :: rest)) := h ▸ k
theorem k_pc {pc' : Nat} {st : List Value} (h : pc = pc') (k : W p l e R s m args below meth c H locs cells slots Q (F0 m pc' ls st)) : W p l e R s m args below meth c H locs cells slots Q (F0 m pc ls st) := h ▸ k
theorem k_iadd (hx : p.tables.exec = Jvm.exec) (hb : c.code = cc) {a b : Nat} (hdg : decode cc pc = .ok (.iadd, 1)) (k : W p l e R s m args below meth c H locs cells slots Q (F0 m (pc + 1) ls (.int (nI (a + b)) :: rest))) : W p l e R s m args below meth c H locs cells slots Q (F0 m pc ls (.int (nI b) :: .int (nI a) :: rest)) := lv_iadd hx hb hdg (by rw [nI_add]; exact k)
theorem k_isub (hx : p.tables.exec = Jvm.exec) (hb : c.code = cc) {a b : Nat} (h : b ≤ a) (hdg : decode cc pc = .ok (.isub, 1)) (k : W p l e R s m args below meth c H locs cells slots Q (F0 m (pc + 1) ls (.int (nI (a - b)) :: rest))) : W p l e R s m args below meth c H locs cells slots Q (F0 m pc ls (.int (nI b) :: .int (nI a) :: rest)) := lv_isub hx hb hdg (by rw [pk_sub h]; exact k)
theorem k_imul (hx : p.tables.exec = Jvm.exec) (hb : c.code = cc) {a b : Nat} (hdg : decode cc pc = .ok (.imul, 1)) (k : W p l e R s m args below meth c H locs cells slots Q (F0 m (pc + 1) ls (.int (nI (a * b)) :: rest))) : W p l e R s m args below meth c H locs cells slots Q (F0 m pc ls (.int (nI b) :: .int (nI a) :: rest)) := lv_imul hx hb hdg (by rw [pk_mul]; exact k)
theorem k_idiv (hx : p.tables.exec = Jvm.exec) (hb : c.code = cc) {a b : Nat} (ha : a < 2 ^ 31) (h0 : 0 < b) (h1 : b < 2 ^ 31) (hdg : decode cc pc = .ok (.idiv, 1)) (k : W p l e R s m args below meth c H locs cells slots Q (F0 m (pc + 1) ls (.int (nI (a / b)) :: rest))) : W p l e R s m args below meth c H locs cells slots Q (F0 m pc ls (.int (nI b) :: .int (nI a) :: rest)) := lv_idiv hx hb hdg (nI_ne0 h0 h1) (by rw [pk_div ha h0 h1]; exact k)
theorem k_irem (hx : p.tables.exec = Jvm.exec) (hb : c.code = cc) {a b : Nat} (ha : a < 2 ^ 31) (h0 : 0 < b) (h1 : b < 2 ^ 31) (hdg : decode cc pc = .ok (.irem, 1)) (k : W p l e R s m args below meth c H locs cells slots Q (F0 m (pc + 1) ls (.int (nI (a % b)) :: rest))) : W p l e R s m args below meth c H locs cells slots Q (F0 m pc ls (.int (nI b) :: .int (nI a) :: rest)) := lv_irem hx hb hdg (nI_ne0 h0 h1) (by rw [pk_rem ha h0 h1]; exact k)
theorem k_ladd (hx : p.tables.exec = Jvm.exec) (hb : c.code = cc) {a b : Nat} (hdg : decode cc pc = .ok (.ladd, 1)) (k : W p l e R s m args below meth c H locs cells slots Q (F0 m (pc + 1) ls (.long (lN (a + b)) :: rest))) : W p l e R s m args below meth c H locs cells slots Q (F0 m pc ls (.long (lN b) :: .long (lN a) :: rest)) := lv_ladd hx hb hdg (by rw [lN_add]; exact k)
theorem k_lsub (hx : p.tables.exec = Jvm.exec) (hb : c.code = cc) {a b : Nat} (h : b ≤ a) (hdg : decode cc pc = .ok (.lsub, 1)) (k : W p l e R s m args below meth c H locs cells slots Q (F0 m (pc + 1) ls (.long (lN (a - b)) :: rest))) : W p l e R s m args below meth c H locs cells slots Q (F0 m pc ls (.long (lN b) :: .long (lN a) :: rest)) := lv_lsub hx hb hdg (by rw [lN_sub h]; exact k)
theorem k_lmul (hx : p.tables.exec = Jvm.exec) (hb : c.code = cc) {a b : Nat} (hdg : decode cc pc = .ok (.lmul, 1)) (k : W p l e R s m args below meth c H locs cells slots Q (F0 m (pc + 1) ls (.long (lN (a * b)) :: rest))) : W p l e R s m args below meth c H locs cells slots Q (F0 m pc ls (.long (lN b) :: .long (lN a) :: rest)) := lv_lmul hx hb hdg (by rw [lN_mul]; exact k)
theorem lN_ne0 {b : Nat} (h0 : 0 < b) (h1 : b < 2 ^ 63) : ¬ lN b = 0 := fun q => by
  have h := (pk_lEQ h1 (show 0 < 2 ^ 63 by omega)).mp (show lN b = lN 0 from q)
  omega
theorem k_ldiv (hx : p.tables.exec = Jvm.exec) (hb : c.code = cc) {a b : Nat} (ha : a < 2 ^ 63) (h0 : 0 < b) (h1 : b < 2 ^ 63) (hdg : decode cc pc = .ok (.ldiv, 1)) (k : W p l e R s m args below meth c H locs cells slots Q (F0 m (pc + 1) ls (.long (lN (a / b)) :: rest))) : W p l e R s m args below meth c H locs cells slots Q (F0 m pc ls (.long (lN b) :: .long (lN a) :: rest)) := lv_ldiv hx hb hdg (lN_ne0 h0 h1) (by rw [pk_lDiv ha h0 h1]; exact k)
theorem k_lrem (hx : p.tables.exec = Jvm.exec) (hb : c.code = cc) {a b : Nat} (ha : a < 2 ^ 63) (h0 : 0 < b) (h1 : b < 2 ^ 63) (hdg : decode cc pc = .ok (.lrem, 1)) (k : W p l e R s m args below meth c H locs cells slots Q (F0 m (pc + 1) ls (.long (lN (a % b)) :: rest))) : W p l e R s m args below meth c H locs cells slots Q (F0 m pc ls (.long (lN b) :: .long (lN a) :: rest)) := lv_lrem hx hb hdg (lN_ne0 h0 h1) (by rw [pk_lRem ha h0 h1]; exact k)
theorem k_i2l (hx : p.tables.exec = Jvm.exec) (hb : c.code = cc) {a : Nat} (h : a < 2 ^ 31) (hdg : decode cc pc = .ok (.i2l, 1)) (k : W p l e R s m args below meth c H locs cells slots Q (F0 m (pc + 1) ls (.long (lN a) :: rest))) : W p l e R s m args below meth c H locs cells slots Q (F0 m pc ls (.int (nI a) :: rest)) := lv_i2l hx hb hdg (nI_l h) k
theorem k_l2i (hx : p.tables.exec = Jvm.exec) (hb : c.code = cc) {a : Nat} (hdg : decode cc pc = .ok (.l2i, 1)) (k : W p l e R s m args below meth c H locs cells slots Q (F0 m (pc + 1) ls (.int (nI a) :: rest))) : W p l e R s m args below meth c H locs cells slots Q (F0 m pc ls (.long (lN a) :: rest)) := lv_l2i hx hb hdg (lN_i a) k
theorem k_icmp_lt (hx : p.tables.exec = Jvm.exec) (hb : c.code = cc) {a b : Nat} {off : Int} {tgt : Nat} (hdg : decode cc pc = .ok (.if_icmp .lt off, 3)) (ht : (pc : Int) + off = (tgt : Int)) (ha : a < 2 ^ 31) (hb2 : b < 2 ^ 31) (kt : a < b → W p l e R s m args below meth c H locs cells slots Q (F0 m tgt ls rest)) (kf : b ≤ a → W p l e R s m args below meth c H locs cells slots Q (F0 m (pc + 3) ls rest)) : W p l e R s m args below meth c H locs cells slots Q (F0 m pc ls (.int (nI b) :: .int (nI a) :: rest)) := lv_icmp_lt hx hb hdg ht (fun q => kt ((nI_ltI ha hb2).mp q)) (fun q => kf (Nat.not_lt.mp (fun z => q ((nI_ltI ha hb2).mpr z))))
theorem k_icmp_ge (hx : p.tables.exec = Jvm.exec) (hb : c.code = cc) {a b : Nat} {off : Int} {tgt : Nat} (hdg : decode cc pc = .ok (.if_icmp .ge off, 3)) (ht : (pc : Int) + off = (tgt : Int)) (ha : a < 2 ^ 31) (hb2 : b < 2 ^ 31) (kt : b ≤ a → W p l e R s m args below meth c H locs cells slots Q (F0 m tgt ls rest)) (kf : a < b → W p l e R s m args below meth c H locs cells slots Q (F0 m (pc + 3) ls rest)) : W p l e R s m args below meth c H locs cells slots Q (F0 m pc ls (.int (nI b) :: .int (nI a) :: rest)) := lv_icmp_ge hx hb hdg ht (fun q => kt ((nI_leI hb2 ha).mp q)) (fun q => kf (Nat.not_le.mp (fun z => q ((nI_leI hb2 ha).mpr z))))
theorem k_icmp_gt (hx : p.tables.exec = Jvm.exec) (hb : c.code = cc) {a b : Nat} {off : Int} {tgt : Nat} (hdg : decode cc pc = .ok (.if_icmp .gt off, 3)) (ht : (pc : Int) + off = (tgt : Int)) (ha : a < 2 ^ 31) (hb2 : b < 2 ^ 31) (kt : b < a → W p l e R s m args below meth c H locs cells slots Q (F0 m tgt ls rest)) (kf : a ≤ b → W p l e R s m args below meth c H locs cells slots Q (F0 m (pc + 3) ls rest)) : W p l e R s m args below meth c H locs cells slots Q (F0 m pc ls (.int (nI b) :: .int (nI a) :: rest)) := lv_icmp_gt hx hb hdg ht (fun q => kt ((nI_ltI hb2 ha).mp q)) (fun q => kf (Nat.not_lt.mp (fun z => q ((nI_ltI hb2 ha).mpr z))))
theorem k_icmp_le (hx : p.tables.exec = Jvm.exec) (hb : c.code = cc) {a b : Nat} {off : Int} {tgt : Nat} (hdg : decode cc pc = .ok (.if_icmp .le off, 3)) (ht : (pc : Int) + off = (tgt : Int)) (ha : a < 2 ^ 31) (hb2 : b < 2 ^ 31) (kt : a ≤ b → W p l e R s m args below meth c H locs cells slots Q (F0 m tgt ls rest)) (kf : b < a → W p l e R s m args below meth c H locs cells slots Q (F0 m (pc + 3) ls rest)) : W p l e R s m args below meth c H locs cells slots Q (F0 m pc ls (.int (nI b) :: .int (nI a) :: rest)) := lv_icmp_le hx hb hdg ht (fun q => kt ((nI_leI ha hb2).mp q)) (fun q => kf (Nat.not_le.mp (fun z => q ((nI_leI ha hb2).mpr z))))
theorem k_icmp_eq (hx : p.tables.exec = Jvm.exec) (hb : c.code = cc) {a b : Nat} {off : Int} {tgt : Nat} (hdg : decode cc pc = .ok (.if_icmp .eq off, 3)) (ht : (pc : Int) + off = (tgt : Int)) (ha : a < 2 ^ 31) (hb2 : b < 2 ^ 31) (kt : a = b → W p l e R s m args below meth c H locs cells slots Q (F0 m tgt ls rest)) (kf : a ≠ b → W p l e R s m args below meth c H locs cells slots Q (F0 m (pc + 3) ls rest)) : W p l e R s m args below meth c H locs cells slots Q (F0 m pc ls (.int (nI b) :: .int (nI a) :: rest)) := lv_icmp_eq hx hb hdg ht (fun q => kt ((nI_eq ha hb2).mp q)) (fun q => kf ((fun z => q ((nI_eq ha hb2).mpr z))))
theorem k_icmp_ne (hx : p.tables.exec = Jvm.exec) (hb : c.code = cc) {a b : Nat} {off : Int} {tgt : Nat} (hdg : decode cc pc = .ok (.if_icmp .ne off, 3)) (ht : (pc : Int) + off = (tgt : Int)) (ha : a < 2 ^ 31) (hb2 : b < 2 ^ 31) (kt : a ≠ b → W p l e R s m args below meth c H locs cells slots Q (F0 m tgt ls rest)) (kf : a = b → W p l e R s m args below meth c H locs cells slots Q (F0 m (pc + 3) ls rest)) : W p l e R s m args below meth c H locs cells slots Q (F0 m pc ls (.int (nI b) :: .int (nI a) :: rest)) := lv_icmp_ne hx hb hdg ht (fun q => kt ((fun z => q ((nI_eq ha hb2).mpr z)))) (fun q => kf ((nI_eq ha hb2).mp q))
theorem k_z {a : Nat} (ha : a < 2 ^ 31) : nI a = 0 ↔ a = 0 := ⟨fun q => (nI_eq ha (show 0 < 2 ^ 31 by omega)).mp q, fun q => by rw [q]; rfl⟩
theorem k_zle {a : Nat} (ha : a < 2 ^ 31) : nI a ≤ 0 ↔ a = 0 := ⟨fun q => Nat.le_zero.mp ((nI_leI ha (show 0 < 2 ^ 31 by omega)).mp q), fun q => by rw [q]; decide⟩
theorem k_if_eq (hx : p.tables.exec = Jvm.exec) (hb : c.code = cc) {a : Nat} {off : Int} {tgt : Nat} (hdg : decode cc pc = .ok (.ifCond .eq off, 3)) (ht : (pc : Int) + off = (tgt : Int)) (ha : a < 2 ^ 31) (kt : a = 0 → W p l e R s m args below meth c H locs cells slots Q (F0 m tgt ls rest)) (kf : 0 < a → W p l e R s m args below meth c H locs cells slots Q (F0 m (pc + 3) ls rest)) : W p l e R s m args below meth c H locs cells slots Q (F0 m pc ls (.int (nI a) :: rest)) := lv_if_eq hx hb hdg ht (fun q => kt ((k_z ha).mp q)) (fun q => kf (Nat.pos_of_ne_zero (fun z => q ((k_z ha).mpr z))))
theorem k_if_ne (hx : p.tables.exec = Jvm.exec) (hb : c.code = cc) {a : Nat} {off : Int} {tgt : Nat} (hdg : decode cc pc = .ok (.ifCond .ne off, 3)) (ht : (pc : Int) + off = (tgt : Int)) (ha : a < 2 ^ 31) (kt : 0 < a → W p l e R s m args below meth c H locs cells slots Q (F0 m tgt ls rest)) (kf : a = 0 → W p l e R s m args below meth c H locs cells slots Q (F0 m (pc + 3) ls rest)) : W p l e R s m args below meth c H locs cells slots Q (F0 m pc ls (.int (nI a) :: rest)) := lv_if_ne hx hb hdg ht (fun q => kt (Nat.pos_of_ne_zero (fun z => q ((k_z ha).mpr z)))) (fun q => kf ((k_z ha).mp q))
theorem k_if_le (hx : p.tables.exec = Jvm.exec) (hb : c.code = cc) {a : Nat} {off : Int} {tgt : Nat} (hdg : decode cc pc = .ok (.ifCond .le off, 3)) (ht : (pc : Int) + off = (tgt : Int)) (ha : a < 2 ^ 31) (kt : a = 0 → W p l e R s m args below meth c H locs cells slots Q (F0 m tgt ls rest)) (kf : 0 < a → W p l e R s m args below meth c H locs cells slots Q (F0 m (pc + 3) ls rest)) : W p l e R s m args below meth c H locs cells slots Q (F0 m pc ls (.int (nI a) :: rest)) := lv_if_le hx hb hdg ht (fun q => kt ((k_zle ha).mp q)) (fun q => kf (Nat.pos_of_ne_zero (fun z => q ((k_zle ha).mpr z))))
theorem k_lc_le (hx : p.tables.exec = Jvm.exec) (hb : c.code = cc) {a b : Nat} {off : Int} {tgt : Nat} (hd1 : decode cc pc = .ok (.lcmp, 1)) (hd2 : decode cc (pc + 1) = .ok (.ifCond .le off, 3)) (ht : ((pc + 1 : Nat) : Int) + off = (tgt : Int)) (ha : a < 2 ^ 63) (hb2 : b < 2 ^ 63) (kt : a ≤ b → W p l e R s m args below meth c H locs cells slots Q (F0 m tgt ls rest)) (kf : b < a → W p l e R s m args below meth c H locs cells slots Q (F0 m (pc + 1 + 3) ls rest)) : W p l e R s m args below meth c H locs cells slots Q (F0 m pc ls (.long (lN b) :: .long (lN a) :: rest)) := W.lcmp hx hb hd1 (lv_if_le hx hb hd2 ht (fun q => kt ((pk_lLE ha hb2).mp ((lg_cmp_le _ _).mp q))) (fun q => kf (Nat.not_le.mp (fun z => q ((lg_cmp_le _ _).mpr ((pk_lLE ha hb2).mpr z))))))
theorem k_lc_ge (hx : p.tables.exec = Jvm.exec) (hb : c.code = cc) {a b : Nat} {off : Int} {tgt : Nat} (hd1 : decode cc pc = .ok (.lcmp, 1)) (hd2 : decode cc (pc + 1) = .ok (.ifCond .ge off, 3)) (ht : ((pc + 1 : Nat) : Int) + off = (tgt : Int)) (ha : a < 2 ^ 63) (hb2 : b < 2 ^ 63) (kt : b ≤ a → W p l e R s m args below meth c H locs cells slots Q (F0 m tgt ls rest)) (kf : a < b → W p l e R s m args below meth c H locs cells slots Q (F0 m (pc + 1 + 3) ls rest)) : W p l e R s m args below meth c H locs cells slots Q (F0 m pc ls (.long (lN b) :: .long (lN a) :: rest)) := W.lcmp hx hb hd1 (lv_if_ge hx hb hd2 ht (fun q => kt ((pk_lLE hb2 ha).mp ((lg_cmp_ge _ _).mp q))) (fun q => kf (Nat.not_le.mp (fun z => q ((lg_cmp_ge _ _).mpr ((pk_lLE hb2 ha).mpr z))))))
theorem k_lc_lt (hx : p.tables.exec = Jvm.exec) (hb : c.code = cc) {a b : Nat} {off : Int} {tgt : Nat} (hd1 : decode cc pc = .ok (.lcmp, 1)) (hd2 : decode cc (pc + 1) = .ok (.ifCond .lt off, 3)) (ht : ((pc + 1 : Nat) : Int) + off = (tgt : Int)) (ha : a < 2 ^ 63) (hb2 : b < 2 ^ 63) (kt : a < b → W p l e R s m args below meth c H locs cells slots Q (F0 m tgt ls rest)) (kf : b ≤ a → W p l e R s m args below meth c H locs cells slots Q (F0 m (pc + 1 + 3) ls rest)) : W p l e R s m args below meth c H locs cells slots Q (F0 m pc ls (.long (lN b) :: .long (lN a) :: rest)) := W.lcmp hx hb hd1 (lv_if_lt hx hb hd2 ht (fun q => kt ((pk_lLT ha hb2).mp ((lg_cmp_lt _ _).mp q))) (fun q => kf (Nat.not_lt.mp (fun z => q ((lg_cmp_lt _ _).mpr ((pk_lLT ha hb2).mpr z))))))
theorem k_lc_gt (hx : p.tables.exec = Jvm.exec) (hb : c.code = cc) {a b : Nat} {off : Int} {tgt : Nat} (hd1 : decode cc pc = .ok (.lcmp, 1)) (hd2 : decode cc (pc + 1) = .ok (.ifCond .gt off, 3)) (ht : ((pc + 1 : Nat) : Int) + off = (tgt : Int)) (ha : a < 2 ^ 63) (hb2 : b < 2 ^ 63) (kt : b < a → W p l e R s m args below meth c H locs cells slots Q (F0 m tgt ls rest)) (kf : a ≤ b → W p l e R s m args below meth c H locs cells slots Q (F0 m (pc + 1 + 3) ls rest)) : W p l e R s m args below meth c H locs cells slots Q (F0 m pc ls (.long (lN b) :: .long (lN a) :: rest)) := W.lcmp hx hb hd1 (lv_if_gt hx hb hd2 ht (fun q => kt ((pk_lLT hb2 ha).mp ((lg_cmp_gt _ _).mp q))) (fun q => kf (Nat.not_lt.mp (fun z => q ((lg_cmp_gt _ _).mpr ((pk_lLT hb2 ha).mpr z))))))
theorem k_lc_ne (hx : p.tables.exec = Jvm.exec) (hb : c.code = cc) {a b : Nat} {off : Int} {tgt : Nat} (hd1 : decode cc pc = .ok (.lcmp, 1)) (hd2 : decode cc (pc + 1) = .ok (.ifCond .ne off, 3)) (ht : ((pc + 1 : Nat) : Int) + off = (tgt : Int)) (ha : a < 2 ^ 63) (hb2 : b < 2 ^ 63) (kt : a ≠ b → W p l e R s m args below meth c H locs cells slots Q (F0 m tgt ls rest)) (kf : a = b → W p l e R s m args below meth c H locs cells slots Q (F0 m (pc + 1 + 3) ls rest)) : W p l e R s m args below meth c H locs cells slots Q (F0 m pc ls (.long (lN b) :: .long (lN a) :: rest)) := W.lcmp hx hb hd1 (lv_if_ne hx hb hd2 ht (fun q => kt ((fun z => q ((lg_cmp_eq _ _).mpr ((pk_lEQ ha hb2).mpr z))))) (fun q => kf ((pk_lEQ ha hb2).mp ((lg_cmp_eq _ _).mp q))))
theorem k_lc_eq (hx : p.tables.exec = Jvm.exec) (hb : c.code = cc) {a b : Nat} {off : Int} {tgt : Nat} (hd1 : decode cc pc = .ok (.lcmp, 1)) (hd2 : decode cc (pc + 1) = .ok (.ifCond .eq off, 3)) (ht : ((pc + 1 : Nat) : Int) + off = (tgt : Int)) (ha : a < 2 ^ 63) (hb2 : b < 2 ^ 63) (kt : a = b → W p l e R s m args below meth c H locs cells slots Q (F0 m tgt ls rest)) (kf : a ≠ b → W p l e R s m args below meth c H locs cells slots Q (F0 m (pc + 1 + 3) ls rest)) : W p l e R s m args below meth c H locs cells slots Q (F0 m pc ls (.long (lN b) :: .long (lN a) :: rest)) := W.lcmp hx hb hd1 (lv_if_eq hx hb hd2 ht (fun q => kt ((pk_lEQ ha hb2).mp ((lg_cmp_eq _ _).mp q))) (fun q => kf ((fun z => q ((lg_cmp_eq _ _).mpr ((pk_lEQ ha hb2).mpr z))))))
theorem k_lc_geM (hx : p.tables.exec = Jvm.exec) (hb : c.code = cc) {off : Int} {tgt : Nat} (hd1 : decode cc pc = .ok (.lcmp, 1)) (hd2 : decode cc (pc + 1) = .ok (.ifCond .ge off, 3)) (ht : ((pc + 1 : Nat) : Int) + off = (tgt : Int)) (kf : W p l e R s m args below meth c H locs cells slots Q (F0 m (pc + 1 + 3) ls rest)) : W p l e R s m args below meth c H locs cells slots Q (F0 m pc ls (.long (lN 0) :: .long (-1) :: rest)) := W.lcmp hx hb hd1 (lv_if_ge hx hb hd2 ht (fun q => absurd ((lg_cmp_ge _ _).mp q) (by decide)) (fun _ => kf))
theorem nI_m1 {a : Nat} (h : a < 2 ^ 31) : ¬ nI a = -1 := fun q => by
  have h1 := nI_toInt h
  rw [q] at h1
  have h2 : (-1 : Int32).toInt = -1 := by decide
  omega
theorem k_icmp_eqM (hx : p.tables.exec = Jvm.exec) (hb : c.code = cc) {a : Nat} {off : Int} {tgt : Nat} (hdg : decode cc pc = .ok (.if_icmp .eq off, 3)) (ht : (pc : Int) + off = (tgt : Int)) (ha : a < 2 ^ 31) (kf : W p l e R s m args below meth c H locs cells slots Q (F0 m (pc + 3) ls rest)) : W p l e R s m args below meth c H locs cells slots Q (F0 m pc ls (.int (-1) :: .int (nI a) :: rest)) := lv_icmp_eq hx hb hdg ht (fun q => absurd q (nI_m1 ha)) (fun q => kf)
theorem k_icmp_eqMM (hx : p.tables.exec = Jvm.exec) (hb : c.code = cc) {off : Int} {tgt : Nat} (hdg : decode cc pc = .ok (.if_icmp .eq off, 3)) (ht : (pc : Int) + off = (tgt : Int)) (kt : W p l e R s m args below meth c H locs cells slots Q (F0 m tgt ls rest)) : W p l e R s m args below meth c H locs cells slots Q (F0 m pc ls (.int (-1) :: .int (-1) :: rest)) := lv_icmp_eq hx hb hdg ht (fun q => kt) (fun q => absurd rfl q)
theorem k_icmp_neM (hx : p.tables.exec = Jvm.exec) (hb : c.code = cc) {a : Nat} {off : Int} {tgt : Nat} (hdg : decode cc pc = .ok (.if_icmp .ne off, 3)) (ht : (pc : Int) + off = (tgt : Int)) (ha : a < 2 ^ 31) (kf : W p l e R s m args below meth c H locs cells slots Q (F0 m tgt ls rest)) : W p l e R s m args below meth c H locs cells slots Q (F0 m pc ls (.int (-1) :: .int (nI a) :: rest)) := lv_icmp_ne hx hb hdg ht (fun q => kf) (fun q => absurd q (nI_m1 ha))
theorem k_icmp_neMM (hx : p.tables.exec = Jvm.exec) (hb : c.code = cc) {off : Int} {tgt : Nat} (hdg : decode cc pc = .ok (.if_icmp .ne off, 3)) (ht : (pc : Int) + off = (tgt : Int)) (kt : W p l e R s m args below meth c H locs cells slots Q (F0 m (pc + 3) ls rest)) : W p l e R s m args below meth c H locs cells slots Q (F0 m pc ls (.int (-1) :: .int (-1) :: rest)) := lv_icmp_ne hx hb hdg ht (fun q => absurd rfl q) (fun q => kt)
theorem k_iald {D : va_G} {cl : List vw_C} {a : Nat} {tys : List (ClassId × FieldType)} {ws : va_W} (hx : p.tables.exec = Jvm.exec) (hb : c.code = cc) (hK : va_K D cl tys s) (hP : va_P D cl ws H) (q0 t0 : Nat) {cA : ClassId} {n : Nat} {f : Nat → Int32} (ha : ws[q0]? = some (a, .inl (cA, n, .inl f))) (ht : tys[t0]? = some (cA, .int)) {i : Nat} (hi : i < n) (hn : n < 2 ^ 31) (hdg : decode cc pc = .ok (.iaload, 1)) (kk : W p l e R s m args below meth c H locs cells slots Q (F0 m (pc + 1) ls (.int (f i) :: rest))) : W p l e R s m args below meth c H locs cells slots Q (F0 m pc ls (.int (nI i) :: .ref a :: rest)) := va_iald hx hb hK hP q0 t0 ha ht (vp_in_nI hi hn) hdg (by rw [nI_clamp (by omega)]; exact kk)
theorem k_zald {D : va_G} {cl : List vw_C} {a : Nat} {tys : List (ClassId × FieldType)} {ws : va_W} (hx : p.tables.exec = Jvm.exec) (hb : c.code = cc) (hK : va_K D cl tys s) (hP : va_P D cl ws H) (q0 t0 : Nat) {cA : ClassId} {n : Nat} {f : Nat → Int32} (ha : ws[q0]? = some (a, .inl (cA, n, .inl f))) (ht : tys[t0]? = some (cA, .boolean)) {i : Nat} (hi : i < n) (hn : n < 2 ^ 31) (hdg : decode cc pc = .ok (.baload, 1)) (kk : W p l e R s m args below meth c H locs cells slots Q (F0 m (pc + 1) ls (.int (f i) :: rest))) : W p l e R s m args below meth c H locs cells slots Q (F0 m pc ls (.int (nI i) :: .ref a :: rest)) := va_zald hx hb hK hP q0 t0 ha ht (vp_in_nI hi hn) hdg (by rw [nI_clamp (by omega)]; exact kk)
theorem k_iast {D : va_G} {cl : List vw_C} {A : Nat → Prop} {a : Nat} {tys : List (ClassId × FieldType)} {ws : va_W} {H0 : Heap} (hx : p.tables.exec = Jvm.exec) (hb : c.code = cc) (hK : va_K D cl tys s) (hP : va_P D cl ws H) (hD : va_D A ws) (hS : va_S A H0 H locs) (q0 t0 : Nat) {cA : ClassId} {n : Nat} {f : Nat → Int32} (ha : ws[q0]? = some (a, .inl (cA, n, .inl f))) (ht : tys[t0]? = some (cA, .int)) {i : Nat} {x : Int32} (hi : i < n) (hn : n < 2 ^ 31) (hdg : decode cc pc = .ok (.iastore, 1)) (kk : ∀ (H1 : Heap) (locs1 : List Loc), va_P D cl (ws.set q0 (a, .inl (cA, n, .inl (upd f i x)))) H1 → va_D A (ws.set q0 (a, .inl (cA, n, .inl (upd f i x)))) → va_S A H0 H1 locs1 → W p l e R s m args below meth c H1 locs1 cells slots Q (F0 m (pc + 1) ls rest)) : W p l e R s m args below meth c H locs cells slots Q (F0 m pc ls (.int x :: .int (nI i) :: .ref a :: rest)) := va_iast hx hb hK hP hD hS q0 t0 ha ht (vp_in_nI hi hn) hdg (fun H1 locs1 g1 g2 g3 => by rw [nI_clamp (by omega)] at g1 g2; exact kk H1 locs1 g1 g2 g3)
theorem k_zast {D : va_G} {cl : List vw_C} {A : Nat → Prop} {a : Nat} {tys : List (ClassId × FieldType)} {ws : va_W} {H0 : Heap} (hx : p.tables.exec = Jvm.exec) (hb : c.code = cc) (hK : va_K D cl tys s) (hP : va_P D cl ws H) (hD : va_D A ws) (hS : va_S A H0 H locs) (q0 t0 : Nat) {cA : ClassId} {n : Nat} {f : Nat → Int32} (ha : ws[q0]? = some (a, .inl (cA, n, .inl f))) (ht : tys[t0]? = some (cA, .boolean)) {i : Nat} {x : Int32} (hz : vp_nar .boolean x = x) (hi : i < n) (hn : n < 2 ^ 31) (hdg : decode cc pc = .ok (.bastore, 1)) (kk : ∀ (H1 : Heap) (locs1 : List Loc), va_P D cl (ws.set q0 (a, .inl (cA, n, .inl (upd f i x)))) H1 → va_D A (ws.set q0 (a, .inl (cA, n, .inl (upd f i x)))) → va_S A H0 H1 locs1 → W p l e R s m args below meth c H1 locs1 cells slots Q (F0 m (pc + 1) ls rest)) : W p l e R s m args below meth c H locs cells slots Q (F0 m pc ls (.int x :: .int (nI i) :: .ref a :: rest)) := va_zast hx hb hK hP hD hS q0 t0 ha ht (vp_in_nI hi hn) hdg (fun H1 locs1 g1 g2 g3 => by rw [nI_clamp (by omega), hz] at g1 g2; exact kk H1 locs1 g1 g2 g3)
theorem pf_I : parseFieldDescriptor "I" = some .int := by decide +kernel
theorem x_get {D : va_G} {a : Nat} {tys : List (ClassId × FieldType)} {ws : va_W}  (hx : p.tables.exec = Jvm.exec) (hb : c.code = cc) (hts : ∀ w ∈ lw_g, w.before args s = true) (hown : s.vm.findClass R_X = some m.cls) (hK : va_K D classes tys s) (hP : va_P D classes ws H) {fs : List Value} (he : ws[0]? = some (a, .inr (0, fs))) (k : Nat) (hk : k < 12) {index : Nat} (hlink : Cond.fieldLink R_X index R_X (F_X k).2.1 (F_X k).2.2.1 ∈ lw_g) (h1 : (F_X k).1 = R_X) {v : Value} (hv : fs[k]? = some v) (hdg : decode cc pc = .ok (.getfield index, 3)) (kk : W p l e R s m args below meth c H locs cells slots Q (F0 m (pc + 3) ls (v :: rest))) : W p l e R s m args below meth c H locs cells slots Q (F0 m pc ls (.ref a :: rest)) := va_get hx hb hts i_X hown hK hP 0 he rfl k hk (hts _ hlink) (fun _ h9 => by rw [h1] at h9; exact h9) hv hdg kk
theorem x_put {D : va_G} {A : Nat → Prop} {a : Nat} {tys : List (ClassId × FieldType)} {ws : va_W} {H0 : Heap} (hx : p.tables.exec = Jvm.exec) (hb : c.code = cc) (hts : ∀ w ∈ lw_g, w.before args s = true) (hown : s.vm.findClass R_X = some m.cls) (hK : va_K D classes tys s) (hP : va_P D classes ws H) (hD : va_D A ws) (hS : va_S A H0 H locs) {fs : List Value} (he : ws[0]? = some (a, .inr (0, fs))) (k : Nat) (hk : k < 12) {index : Nat} (hlink : Cond.fieldLink R_X index R_X (F_X k).2.1 (F_X k).2.2.1 ∈ lw_g) (h1 : (F_X k).1 = R_X) (h2 : (F_X k).2.2.1 = "I") (h3 : (F_X k).2.2.2 = false) (hl : k < fs.length) {v : Int32} (hdg : decode cc pc = .ok (.putfield index, 3)) (kk : ∀ (H1 : Heap) (locs1 : List Loc), va_P D classes (ws.set 0 (a, .inr (0, fs.set k (.int v)))) H1 → va_D A (ws.set 0 (a, .inr (0, fs.set k (.int v)))) → va_S A H0 H1 locs1 → W p l e R s m args below meth c H1 locs1 cells slots Q (F0 m (pc + 3) ls rest)) : W p l e R s m args below meth c H locs cells slots Q (F0 m pc ls (.int v :: .ref a :: rest)) := va_put hx hb hts i_X t_X t_X_ok n_X hown hK hP hD hS 0 he rfl k hk (hts _ hlink) (fun _ h9 => by rw [h1] at h9; exact h9) h3 (ty := .int) (by rw [h2]; exact pf_I) rfl rfl hl hdg kk
theorem m_get {D : va_G} {a : Nat} {tys : List (ClassId × FieldType)} {ws : va_W}  (hx : p.tables.exec = Jvm.exec) (hb : c.code = cc) (hts : ∀ w ∈ lw_g, w.before args s = true) (hown : s.vm.findClass R_M = some m.cls) (hK : va_K D classes tys s) (hP : va_P D classes ws H) {fs : List Value} (he : ws[0]? = some (a, .inr (1, fs))) (k : Nat) (hk : k < 8) {index : Nat} (hlink : Cond.fieldLink R_M index R_M (F_M k).2.1 (F_M k).2.2.1 ∈ lw_g) (h1 : (F_M k).1 = R_M) {v : Value} (hv : fs[k]? = some v) (hdg : decode cc pc = .ok (.getfield index, 3)) (kk : W p l e R s m args below meth c H locs cells slots Q (F0 m (pc + 3) ls (v :: rest))) : W p l e R s m args below meth c H locs cells slots Q (F0 m pc ls (.ref a :: rest)) := va_get hx hb hts i_M hown hK hP 0 he rfl k hk (hts _ hlink) (fun _ h9 => by rw [h1] at h9; exact h9) hv hdg kk
theorem m_put {D : va_G} {A : Nat → Prop} {a : Nat} {tys : List (ClassId × FieldType)} {ws : va_W} {H0 : Heap} (hx : p.tables.exec = Jvm.exec) (hb : c.code = cc) (hts : ∀ w ∈ lw_g, w.before args s = true) (hown : s.vm.findClass R_M = some m.cls) (hK : va_K D classes tys s) (hP : va_P D classes ws H) (hD : va_D A ws) (hS : va_S A H0 H locs) {fs : List Value} (he : ws[0]? = some (a, .inr (1, fs))) (k : Nat) (hk : k < 8) {index : Nat} (hlink : Cond.fieldLink R_M index R_M (F_M k).2.1 (F_M k).2.2.1 ∈ lw_g) (h1 : (F_M k).1 = R_M) (h2 : (F_M k).2.2.1 = "I") (h3 : (F_M k).2.2.2 = false) (hl : k < fs.length) {v : Int32} (hdg : decode cc pc = .ok (.putfield index, 3)) (kk : ∀ (H1 : Heap) (locs1 : List Loc), va_P D classes (ws.set 0 (a, .inr (1, fs.set k (.int v)))) H1 → va_D A (ws.set 0 (a, .inr (1, fs.set k (.int v)))) → va_S A H0 H1 locs1 → W p l e R s m args below meth c H1 locs1 cells slots Q (F0 m (pc + 3) ls rest)) : W p l e R s m args below meth c H locs cells slots Q (F0 m pc ls (.int v :: .ref a :: rest)) := va_put hx hb hts i_M t_M t_M_ok n_M hown hK hP hD hS 0 he rfl k hk (hts _ hlink) (fun _ h9 => by rw [h1] at h9; exact h9) h3 (ty := .int) (by rw [h2]; exact pf_I) rfl rfl hl hdg kk
end
/-- a method's end: it returns v, the world is ws, and P says what they are; nothing else changed -/
def kQ (D : va_G) (tys : List (ClassId × FieldType)) (P : Option Value → va_W → Prop) (A : Nat → Prop) : Array Value → State → Outcome → State → Prop := fun _ st oc t =>
  (∃ (v : Option Value) (ws : va_W), oc = .returned v ∧ P v ws ∧ va_P D classes ws t.heap ∧ va_K D classes tys t ∧ va_D A ws) ∧ va_F A st t
/-- a method's start: its world -/
def kB (D : va_G) (tys : List (ClassId × FieldType)) (ws : va_W) (sz : Nat) : State → Prop := fun U => U.heap.size = sz ∧ va_P D classes ws U.heap ∧ va_K D classes tys U ∧ va_D (fun _ => True) ws
def kM (l : Launch) (y : MethodName) (cc : ByteArray) (maxL : Nat) (ret : Option FieldType) (rm : Room) (D : va_G) (tys : List (ClassId × FieldType)) (av : List Value) (ws : va_W) (sz : Nat) (P : Option Value → va_W → Prop) : Prop :=
  Met l y (Cond.code y cc maxL ret :: lw_g) rm (va_Pc av (kB D tys ws sz)) (kQ D tys P (va_A ws sz)) rm.cells rm.slots (va_A ws sz)
/-- a method that only reads its arguments -/
def kR (l : Launch) (y : MethodName) (cc : ByteArray) (maxL : Nat) (ret : Option FieldType) (rm : Room) (av : List Value) (r : Int32) : Prop :=
  Met l y (Cond.code y cc maxL ret :: lw_g) rm (fun v _ => v = av.toArray) (QcRead r) 0 0 (fun _ => False)
theorem k_met {l : Launch} {y : MethodName} {cc : ByteArray} {maxL : Nat} {ret : Option FieldType} {rm : Room} {D : va_G} {tys : List (ClassId × FieldType)} {av : List Value} {ws : va_W} {sz : Nat} {P : Option Value → va_W → Prop} (hy : plainName y.cls = true) (hlen : (lg_sl av).length ≤ maxL)
    (body : ∀ (p : Program) (e : Env) (s : State) (m : MethodId) (args : Array Value) (below : List Frame) (meth : Method) (c : Code) (A : Nat → Prop) (Q : State → Prop), CallFix p m c cc maxL s args lw_g y.cls → meth.sig.returnType = ret → meth.locks = false → meth.name = y.name → (∀ q, s.heap.size ≤ q → A q) → va_K D classes tys s → va_P D classes ws s.heap → va_D A ws → va_S A s.heap s.heap [] → MQ below (kQ D tys P A) args s rm.cells rm.slots A = Q → ∀ ls : Array Slot, lv_has ls maxL (lv_args 0 av) → W p l e rm s m args below meth c s.heap [] 0 0 Q (F0 m 0 ls [])) :
    kM l y cc maxL ret rm D tys av ws sz P := by
  refine Met.ofW (cc := cc) (maxL := maxL) (ret := ret) hy rfl ?_
  intro p e s m args below meth c s₁ B hml hv
  obtain ⟨rfl, hsz, hP, hK, hD0⟩ := hv
  subst hsz
  have hts := atoms_spec (ws := Cond.code y cc maxL ret :: lw_g) B.pre
  rw [lg_entry_eq]
  exact body p e s m _ below meth c (va_A ws s.heap.size) _ ⟨B.exec, B.bytes, hml, findClass_of_methodNamed B.named, fun w hw => hts w (List.mem_cons_of_mem _ hw)⟩ B.returns B.notSynchronized (name_of_methodNamed B.named B.method).1 (fun q h => Or.inr h) hK hP hD0.self va_S.rf rfl _ (lv_entry av hlen)
theorem k_metR {l : Launch} {y : MethodName} {cc : ByteArray} {maxL : Nat} {ret : Option FieldType} {rm : Room} {av : List Value} {r : Int32} (hy : plainName y.cls = true) (hlen : (lg_sl av).length ≤ maxL)
    (body : ∀ (p : Program) (e : Env) (s : State) (m : MethodId) (args : Array Value) (below : List Frame) (meth : Method) (c : Code) (Q : State → Prop), CallFix p m c cc maxL s args lw_g y.cls → meth.sig.returnType = ret → meth.locks = false → MQ below (QcRead r) args s 0 0 (fun _ => False) = Q → ∀ ls : Array Slot, lv_has ls maxL (lv_args 0 av) → W p l e rm s m args below meth c s.heap [] 0 0 Q (F0 m 0 ls [])) :
    kR l y cc maxL ret rm av r := by
  refine Met.ofW (cc := cc) (maxL := maxL) (ret := ret) hy rfl ?_
  intro p e s m args below meth c s₁ B hml hv
  obtain rfl := hv
  have hts := atoms_spec (ws := Cond.code y cc maxL ret :: lw_g) B.pre
  rw [lg_entry_eq]
  exact body p e s m _ below meth c _ ⟨B.exec, B.bytes, hml, findClass_of_methodNamed B.named, fun w hw => hts w (List.mem_cons_of_mem _ hw)⟩ B.returns B.notSynchronized rfl _ (lv_entry av hlen)
section
variable {p : Program} {l : Launch} {e : Env} {R : Room} {s : State} {m : MethodId} {args : Array Value} {below : List Frame} {meth : Method} {c : Code} {H : Heap} {locs : List Loc} {cells slots : Nat} {Q : State → Prop}
variable {cc : ByteArray} {pc : Nat} {ls : Array Slot} {rest st0 : List Value} {nL : Nat} {own : String} {D : va_G} {tys : List (ClassId × FieldType)} {ws : va_W} {A A0 : Nat → Prop} {H0 : Heap} {P : Option Value → va_W → Prop}
theorem k_reti (hx : p.tables.exec = Jvm.exec) (hb : c.code = cc) (hr : meth.sig.returnType = some .int) (hlk : meth.locks = false) (hQ : MQ below (kQ D tys P A) args s cells slots A = Q) (hK : va_K D classes tys s) (hP : va_P D classes ws H) (hD : va_D A ws) (hS : va_S A s.heap H locs) {v : Int32} (hp : P (some (.int v)) ws) (hdg : decode cc pc = .ok (.ireturn, 1)) : W p l e R s m args below meth c H locs cells slots Q (F0 m pc ls [.int v]) := by
  subst hQ
  exact W.iret hx hb hr (fun t ht hW => ⟨⟨_, ws, rfl, hp, by rw [ht]; exact hP, va_K.moved hW.alike hK, hD⟩, hS.F ht⟩) hS.2.2 hdg hlk
theorem k_retz (hx : p.tables.exec = Jvm.exec) (hb : c.code = cc) (hr : meth.sig.returnType = some .boolean) (hlk : meth.locks = false) (hQ : MQ below (kQ D tys P A) args s cells slots A = Q) (hK : va_K D classes tys s) (hP : va_P D classes ws H) (hD : va_D A ws) (hS : va_S A s.heap H locs) {v : Int32} (hz : narrow .boolean (.int v) = .int v) (hp : P (some (.int v)) ws) (hdg : decode cc pc = .ok (.ireturn, 1)) : W p l e R s m args below meth c H locs cells slots Q (F0 m pc ls [.int v]) := by
  subst hQ
  exact W.zret hx hb hr hz (fun t ht hW => ⟨⟨_, ws, rfl, hp, by rw [ht]; exact hP, va_K.moved hW.alike hK, hD⟩, hS.F ht⟩) hS.2.2 hdg hlk
theorem k_retl (hx : p.tables.exec = Jvm.exec) (hb : c.code = cc) (hr : meth.sig.returnType = some .long) (hlk : meth.locks = false) (hQ : MQ below (kQ D tys P A) args s cells slots A = Q) (hK : va_K D classes tys s) (hP : va_P D classes ws H) (hD : va_D A ws) (hS : va_S A s.heap H locs) {v : Int64} (hp : P (some (.long v)) ws) (hdg : decode cc pc = .ok (.lreturn, 1)) : W p l e R s m args below meth c H locs cells slots Q (F0 m pc ls [.long v]) := by
  subst hQ
  exact W.lret hx hb hr (fun t ht hW => ⟨⟨_, ws, rfl, hp, by rw [ht]; exact hP, va_K.moved hW.alike hK, hD⟩, hS.F ht⟩) hS.2.2 hdg hlk
theorem k_retv (hx : p.tables.exec = Jvm.exec) (hb : c.code = cc) (hr : meth.sig.returnType = none) (hlk : meth.locks = false) (hQ : MQ below (kQ D tys P A) args s cells slots A = Q) (hK : va_K D classes tys s) (hP : va_P D classes ws H) (hD : va_D A ws) (hS : va_S A s.heap H locs) (hp : P none ws) (hdg : decode cc pc = .ok (.return_, 1)) : W p l e R s m args below meth c H locs cells slots Q (F0 m pc ls []) := by
  subst hQ
  exact W.vret hx hb hr (fun t ht hW => ⟨⟨_, ws, rfl, hp, by rw [ht]; exact hP, va_K.moved hW.alike hK, hD⟩, hS.F ht⟩) hS.2.2 hdg hlk
theorem k_retR (hx : p.tables.exec = Jvm.exec) (hb : c.code = cc) (hr : meth.sig.returnType = some .int) (hlk : meth.locks = false) {r v : Int32} (hQ : MQ below (QcRead r) args s 0 0 (fun _ => False) = Q) (hv : v = r) (hdg : decode cc pc = .ok (.ireturn, 1)) : W p l e R s m args below meth c s.heap [] 0 0 Q (F0 m pc ls [.int v]) := by
  subst hQ
  subst hv
  exact W.iret hx hb hr (fun t ht hW => ⟨rfl, ht⟩) (fun q h => by cases h) hdg hlk
theorem kB_blind (D : va_G) (tys : List (ClassId × FieldType)) (av : List Value) (ws : va_W) (sz : Nat) : FrameBlind (va_Pc av (kB D tys ws sz)) := by
  intro a U g mk q
  obtain ⟨q0, q1, qP, qK, qD⟩ := q
  exact ⟨q0, q1, qP, va_K.moved (u := U) (U := U.calling g mk a) (Vm.Alike.refl U.vm) qK, qD⟩
/-- a call whose world is the whole world -/
theorem k_all {a : Array Value} {mc ms : Nat} (hr : va_Run p l e R s m args below meth c H locs cells slots mc ms (F0 m pc ls st0) rest (kQ D tys P (va_A ws H.size) a) (va_A ws H.size)) (hD : va_D A0 ws) (hS : va_S A0 H0 H locs) (hA : ∀ q, H0.size ≤ q → A0 q)
    (kk : ∀ (v : Option Value) (ws' : va_W) (H1 : Heap) (locs1 : List Loc), P v ws' → va_P D classes ws' H1 → va_D A0 ws' → va_S A0 H0 H1 locs1 → W p l e R s m args below meth c H1 locs1 (cells + mc) (slots + ms) Q (F0 m (pc + 3) ls (v.toList ++ rest))) : W p l e R s m args below meth c H locs cells slots Q (F0 m pc ls st0) := by
  have hF : ∀ q, va_A ws H.size q → A0 q := by
    intro q h
    rcases h with ⟨k, e, h⟩ | h
    · exact hD.2 k (q, e) h
    · exact hA q (Nat.le_trans hS.1 h)
  intro T hT X
  obtain ⟨v0, st₀, t, T', L, h0, X', hL, e1, e2, ⟨⟨v, ws', hv, hp, hP1, hK1, hD1⟩, hz, hk⟩, st⟩ := hr T hT X
  cases hv
  rw [h0] at hz hk
  obtain ⟨t2, a1, b1⟩ := kk v0 ws' T'.heap (locs ++ L) hp (by rw [e1]; exact hP1) (hD1.weaken (fun k q _ h => hF q.1 h))
    ⟨Nat.le_trans hS.1 (by rw [e1]; exact hz), fun q h1 h2 => by rw [e1, hk q (Nat.lt_of_lt_of_le h1 hS.1) (fun z => h2 (hF q z))]; exact hS.2.1 q h1 h2, fun q hq => by
      rcases List.mem_append.mp hq with h | h
      · exact hS.2.2 q h
      · exact hF _ (hL q h)⟩ T' rfl X'
  exact ⟨t2, st t2 a1, b1⟩
/-- a call whose world is a part of the world -/
theorem k_some {a : Array Value} {mc ms : Nat} {wc wr : va_W} (hr : va_Run p l e R s m args below meth c H locs cells slots mc ms (F0 m pc ls st0) rest (kQ D tys P (va_A wc H.size) a) (va_A wc H.size)) (hP : va_P D classes ws H) (hD : va_D A0 ws) (hS : va_S A0 H0 H locs) (hA : ∀ q, H0.size ≤ q → A0 q)
    (isC isR : List Nat) (hC : isC.map (fun i => ws[i]?) = wc.map some) (hR : isR.map (fun i => ws[i]?) = wr.map some) (hn : va_nd isR = true) (hdis : ∀ i ∈ isR, i ∉ isC)
    (kk : ∀ (v : Option Value) (ws' : va_W) (H1 : Heap) (locs1 : List Loc), P v ws' → va_P D classes (wr ++ ws') H1 → va_D A0 (wr ++ ws') → va_S A0 H0 H1 locs1 → W p l e R s m args below meth c H1 locs1 (cells + mc) (slots + ms) Q (F0 m (pc + 3) ls (v.toList ++ rest))) : W p l e R s m args below meth c H locs cells slots Q (F0 m pc ls st0) := by
  have hF : ∀ q, va_A wc H.size q → A0 q := va_free hD hS hA isC hC
  intro T hT X
  obtain ⟨v0, st₀, t, T', L, h0, X', hL, e1, e2, ⟨⟨v, ws', hv, hp, hP1, hK1, hD1⟩, hz, hk⟩, st⟩ := hr T hT X
  cases hv
  rw [h0] at hz hk
  rw [← e1] at hP1 hz hk
  obtain ⟨g1, g2⟩ := va_join hP hD isC isR hC hR hn hdis hk hF hP1 hD1
  obtain ⟨t2, a1, b1⟩ := kk v0 ws' T'.heap (locs ++ L) hp g1 g2
    ⟨Nat.le_trans hS.1 hz, fun q h1 h2 => by rw [hk q (Nat.lt_of_lt_of_le h1 hS.1) (fun z => h2 (hF q z))]; exact hS.2.1 q h1 h2, fun q hq => by
      rcases List.mem_append.mp hq with h | h
      · exact hS.2.2 q h
      · exact hF _ (hL q h)⟩ T' rfl X'
  exact ⟨t2, st t2 a1, b1⟩
/-- the words and the room of a call -/
theorem k_cb {index maxL n : Nat} {y : MethodName} {bytes : ByteArray} {ret : Option FieldType} {rm : Room} (hts : ∀ w ∈ lw_g, w.before args s = true) (hcode : Cond.code y bytes maxL ret ∈ lw_g) (hlink : Cond.methodLink own index y ∈ lw_g) (hini : Cond.initialized y.cls ∈ lw_g)
    (hd : y.cls ≠ "java/lang/invoke/MethodHandle" ∧ y.cls ≠ "java/lang/invoke/VarHandle" ∧ (parseMethodDescriptor y.desc).map (fun d => d.parameters.length) = some n) (hR : rm.frames + 1 ≤ R.frames ∧ 8 + (maxL + 11) + rm.locals ≤ R.locals) {mc ms : Nat} (hc : rm.cells = mc) (hs : rm.slots = ms) :
    CallB R s args own index y bytes maxL ret (Cond.code y bytes maxL ret :: lw_g) rm mc ms n := callB_of n hts (tbl_in hcode) rfl hc hs (hts _ hini) (hts _ hlink) hd hR
/-- invokevirtual of a method whose world is the whole world -/
theorem k_callV {index maxL : Nat} {y : MethodName} {bytes : ByteArray} {ret : Option FieldType} {rm : Room} {b : Nat} (As : List Value) (S : CallFix p m c cc nL s args lw_g own) (hM : kM l y bytes maxL ret rm D tys (.ref b :: As) ws H.size P)
    (hcode : Cond.code y bytes maxL ret ∈ lw_g) (hlink : Cond.methodLink own index y ∈ lw_g) (hini : Cond.initialized y.cls ∈ lw_g) (hinst : Cond.instanceMethod y ∈ lw_g) (hsel : Cond.selects y.cls y y ∈ lw_g)
    (hd : y.cls ≠ "java/lang/invoke/MethodHandle" ∧ y.cls ≠ "java/lang/invoke/VarHandle" ∧ (parseMethodDescriptor y.desc).map (fun d => d.parameters.length) = some As.length) (hR : rm.frames + 1 ≤ R.frames ∧ 8 + (maxL + 11) + rm.locals ≤ R.locals)
    (hK : va_K D classes tys s) (hP : va_P D classes ws H) (hD : va_D A0 ws) (hS : va_S A0 H0 H locs) (hA : ∀ q, H0.size ≤ q → A0 q) {ci : Nat} {q : vw_C} {fs : List Value} (hcl : classes[ci]? = some q) (hq : q.1 = y.cls) (he : ws[0]? = some (b, .inr (ci, fs)))
    (hst : st0 = As.reverse ++ .ref b :: rest) (hsize : ls.size = nL) (hW : (rest.map fun v => v.category).sum ≤ 8) (hdg : decode cc pc = .ok (.invokevirtual index, 3)) (hf : cells + rm.cells ≤ R.cells ∧ slots + rm.slots ≤ R.slots)
    (kk : ∀ (v : Option Value) (ws' : va_W) (H1 : Heap) (locs1 : List Loc), P v ws' → va_P D classes ws' H1 → va_D A0 ws' → va_S A0 H0 H1 locs1 → W p l e R s m args below meth c H1 locs1 (cells + rm.cells) (slots + rm.slots) Q (F0 m (pc + 3) ls (v.toList ++ rest))) : W p l e R s m args below meth c H locs cells slots Q (F0 m pc ls st0) := by
  have hre := va_recv hK hP hcl he
  rw [hq] at hre
  exact k_all (va_runV (As := As) (C := y.cls) S hM ⟨k_cb S.2.2.2.2 hcode hlink hini hd hR rfl rfl, S.2.2.2.2 _ hinst, S.2.2.2.2 _ hsel⟩ ⟨kB_blind _ _ _ _ _, hre, fun U hU hWm => ⟨rfl, by rw [hU], by rw [hU]; exact hP, va_K.moved hWm.alike hK, hD.weaken (fun _ _ _ _ => trivial)⟩⟩ rfl rfl hsize hst (lv_room hW) hdg hf) hD hS hA kk
/-- the same, of a method whose world is a part -/
theorem k_callP {index maxL : Nat} {y : MethodName} {bytes : ByteArray} {ret : Option FieldType} {rm : Room} {b : Nat} {wc wr : va_W} (As : List Value) (S : CallFix p m c cc nL s args lw_g own) (hM : kM l y bytes maxL ret rm D tys (.ref b :: As) wc H.size P)
    (hcode : Cond.code y bytes maxL ret ∈ lw_g) (hlink : Cond.methodLink own index y ∈ lw_g) (hini : Cond.initialized y.cls ∈ lw_g) (hinst : Cond.instanceMethod y ∈ lw_g) (hsel : Cond.selects y.cls y y ∈ lw_g)
    (hd : y.cls ≠ "java/lang/invoke/MethodHandle" ∧ y.cls ≠ "java/lang/invoke/VarHandle" ∧ (parseMethodDescriptor y.desc).map (fun d => d.parameters.length) = some As.length) (hR : rm.frames + 1 ≤ R.frames ∧ 8 + (maxL + 11) + rm.locals ≤ R.locals)
    (hK : va_K D classes tys s) (hP : va_P D classes ws H) (hD : va_D A0 ws) (hS : va_S A0 H0 H locs) (hA : ∀ q, H0.size ≤ q → A0 q) (isC isR : List Nat) (hC : isC.map (fun i => ws[i]?) = wc.map some) (hRR : isR.map (fun i => ws[i]?) = wr.map some) (hnC : va_nd isC = true) (hn : va_nd isR = true) (hdis : ∀ i ∈ isR, i ∉ isC) (hPc : va_P D classes wc H) {ci : Nat} {q : vw_C} {fs : List Value} (hcl : classes[ci]? = some q) (hq : q.1 = y.cls) (he : wc[0]? = some (b, .inr (ci, fs)))
    (hst : st0 = As.reverse ++ .ref b :: rest) (hsize : ls.size = nL) (hW : (rest.map fun v => v.category).sum ≤ 8) (hdg : decode cc pc = .ok (.invokevirtual index, 3)) (hf : cells + rm.cells ≤ R.cells ∧ slots + rm.slots ≤ R.slots)
    (kk : ∀ (v : Option Value) (ws' : va_W) (H1 : Heap) (locs1 : List Loc), P v ws' → va_P D classes (wr ++ ws') H1 → va_D A0 (wr ++ ws') → va_S A0 H0 H1 locs1 → W p l e R s m args below meth c H1 locs1 (cells + rm.cells) (slots + rm.slots) Q (F0 m (pc + 3) ls (v.toList ++ rest))) : W p l e R s m args below meth c H locs cells slots Q (F0 m pc ls st0) := by
  have hre := va_recv hK hPc hcl he
  rw [hq] at hre
  have hDc := hD.sub (ws' := wc) isC hnC hC
  exact k_some (va_runV (As := As) (C := y.cls) S hM ⟨k_cb S.2.2.2.2 hcode hlink hini hd hR rfl rfl, S.2.2.2.2 _ hinst, S.2.2.2.2 _ hsel⟩ ⟨kB_blind _ _ _ _ _, hre, fun U hU hWm => ⟨rfl, by rw [hU], by rw [hU]; exact hPc, va_K.moved hWm.alike hK, hDc.weaken (fun _ _ _ _ => trivial)⟩⟩ rfl rfl hsize hst (lv_room hW) hdg hf) hP hD hS hA isC isR hC hRR hn hdis kk
/-- invokespecial of a constructor whose world is a part -/
theorem k_callI {index maxL : Nat} {y : MethodName} {bytes : ByteArray} {rm : Room} {b : Nat} {wc wr : va_W} (As : List Value) (S : CallFix p m c cc nL s args lw_g own) (hM : kM l y bytes maxL none rm D tys (.ref b :: As) wc H.size P)
    (hcode : Cond.code y bytes maxL none ∈ lw_g) (hlink : Cond.methodLink own index y ∈ lw_g) (hini : Cond.initialized y.cls ∈ lw_g) (hinst : Cond.instanceMethod y ∈ lw_g) (hname : y.name = "<init>")
    (hd : y.cls ≠ "java/lang/invoke/MethodHandle" ∧ y.cls ≠ "java/lang/invoke/VarHandle" ∧ (parseMethodDescriptor y.desc).map (fun d => d.parameters.length) = some As.length) (hR : rm.frames + 1 ≤ R.frames ∧ 8 + (maxL + 11) + rm.locals ≤ R.locals)
    (hK : va_K D classes tys s) (hP : va_P D classes ws H) (hD : va_D A0 ws) (hS : va_S A0 H0 H locs) (hA : ∀ q, H0.size ≤ q → A0 q) (isC isR : List Nat) (hC : isC.map (fun i => ws[i]?) = wc.map some) (hRR : isR.map (fun i => ws[i]?) = wr.map some) (hnC : va_nd isC = true) (hn : va_nd isR = true) (hdis : ∀ i ∈ isR, i ∉ isC) (hPc : va_P D classes wc H)
    (hst : st0 = As.reverse ++ .ref b :: rest) (hsize : ls.size = nL) (hW : (rest.map fun v => v.category).sum ≤ 8) (hdg : decode cc pc = .ok (.invokespecial index, 3)) (hf : cells + rm.cells ≤ R.cells ∧ slots + rm.slots ≤ R.slots)
    (kk : ∀ (v : Option Value) (ws' : va_W) (H1 : Heap) (locs1 : List Loc), P v ws' → va_P D classes (wr ++ ws') H1 → va_D A0 (wr ++ ws') → va_S A0 H0 H1 locs1 → W p l e R s m args below meth c H1 locs1 (cells + rm.cells) (slots + rm.slots) Q (F0 m (pc + 3) ls (v.toList ++ rest))) : W p l e R s m args below meth c H locs cells slots Q (F0 m pc ls st0) := by
  have hDc := hD.sub (ws' := wc) isC hnC hC
  exact k_some (va_runI (As := As) S hM ⟨k_cb S.2.2.2.2 hcode hlink hini hd hR rfl rfl, hname, S.2.2.2.2 _ hinst⟩ ⟨kB_blind _ _ _ _ _, fun U hU hWm => ⟨rfl, by rw [hU], by rw [hU]; exact hPc, va_K.moved hWm.alike hK, hDc.weaken (fun _ _ _ _ => trivial)⟩⟩ rfl rfl hsize hst (lv_room hW) hdg hf) hP hD hS hA isC isR hC hRR hn hdis kk
/-- invokestatic of a method whose world is the whole world -/
theorem k_callS {index maxL : Nat} {y : MethodName} {bytes : ByteArray} {ret : Option FieldType} {rm : Room} (As : List Value) (S : CallFix p m c cc nL s args lw_g own) (hM : kM l y bytes maxL ret rm D tys As ws H.size P)
    (hcode : Cond.code y bytes maxL ret ∈ lw_g) (hlink : Cond.methodLink own index y ∈ lw_g) (hini : Cond.initialized y.cls ∈ lw_g) (hstat : Cond.static y ∈ lw_g)
    (hd : y.cls ≠ "java/lang/invoke/MethodHandle" ∧ y.cls ≠ "java/lang/invoke/VarHandle" ∧ (parseMethodDescriptor y.desc).map (fun d => d.parameters.length) = some As.length) (hR : rm.frames + 1 ≤ R.frames ∧ 8 + (maxL + 11) + rm.locals ≤ R.locals)
    (hK : va_K D classes tys s) (hP : va_P D classes ws H) (hD : va_D A0 ws) (hS : va_S A0 H0 H locs) (hA : ∀ q, H0.size ≤ q → A0 q)
    (hst : st0 = As.reverse ++ rest) (hsize : ls.size = nL) (hW : (rest.map fun v => v.category).sum ≤ 8) (hdg : decode cc pc = .ok (.invokestatic index, 3)) (hf : cells + rm.cells ≤ R.cells ∧ slots + rm.slots ≤ R.slots)
    (kk : ∀ (v : Option Value) (ws' : va_W) (H1 : Heap) (locs1 : List Loc), P v ws' → va_P D classes ws' H1 → va_D A0 ws' → va_S A0 H0 H1 locs1 → W p l e R s m args below meth c H1 locs1 (cells + rm.cells) (slots + rm.slots) Q (F0 m (pc + 3) ls (v.toList ++ rest))) : W p l e R s m args below meth c H locs cells slots Q (F0 m pc ls st0) :=
  k_all (va_runS (As := As) S hM ⟨k_cb S.2.2.2.2 hcode hlink hini hd hR rfl rfl, S.2.2.2.2 _ hstat⟩ ⟨kB_blind _ _ _ _ _, fun U hU hWm => ⟨rfl, by rw [hU], by rw [hU]; exact hP, va_K.moved hWm.alike hK, hD.weaken (fun _ _ _ _ => trivial)⟩⟩ rfl rfl hsize hst (lv_room hW) hdg hf) hD hS hA kk
/-- invokestatic of a method that only reads its arguments -/
theorem k_callR {index maxL : Nat} {y : MethodName} {bytes : ByteArray} {ret : Option FieldType} {rm : Room} {r : Int32} (As : List Value) (S : CallFix p m c cc nL s args lw_g own) (hM : kR l y bytes maxL ret rm As r)
    (hcode : Cond.code y bytes maxL ret ∈ lw_g) (hlink : Cond.methodLink own index y ∈ lw_g) (hini : Cond.initialized y.cls ∈ lw_g) (hstat : Cond.static y ∈ lw_g)
    (hd : y.cls ≠ "java/lang/invoke/MethodHandle" ∧ y.cls ≠ "java/lang/invoke/VarHandle" ∧ (parseMethodDescriptor y.desc).map (fun d => d.parameters.length) = some As.length) (hR : rm.frames + 1 ≤ R.frames ∧ 8 + (maxL + 11) + rm.locals ≤ R.locals) (hc : rm.cells = 0) (hs : rm.slots = 0)
    (hst : st0 = As.reverse ++ rest) (hsize : ls.size = nL) (hW : (rest.map fun v => v.category).sum ≤ 8) (hdg : decode cc pc = .ok (.invokestatic index, 3)) (hf : cells ≤ R.cells ∧ slots ≤ R.slots)
    (kk : W p l e R s m args below meth c H locs cells slots Q (F0 m (pc + 3) ls (.int r :: rest))) : W p l e R s m args below meth c H locs cells slots Q (F0 m pc ls st0) :=
  W.callR (W.runS (As := As) (rest := rest) S hM ⟨k_cb S.2.2.2.2 hcode hlink hini hd hR hc hs, S.2.2.2.2 _ hstat⟩ ⟨fun a U g mk q => q, fun U _ _ => rfl⟩ rfl rfl hsize hst (lv_room hW) hdg hf) kk
end
/-! the worlds of the two kinds -/
abbrev k_tys (cI cZ : ClassId) : List (ClassId × FieldType) := [(cI, .int), (cZ, .boolean)]
abbrev xW (cI cZ : ClassId) (q : Nat → Nat) (la le li ke dn ca ne : Nat → Int32) (sz wr lo ma at_ : Int32) : va_W :=
  [(q 0, .inr (0, [.ref (q 1), .ref (q 2), .ref (q 3), .ref (q 4), .ref (q 5), .ref (q 6), .ref (q 7), .int sz, .int wr, .int lo, .int ma, .int at_])), (q 1, .inl (cI, 24, .inl la)), (q 2, .inl (cI, 256, .inl le)), (q 3, .inl (cI, 64, .inl li)), (q 4, .inl (cI, 64, .inl ke)), (q 5, .inl (cZ, 24, .inl dn)), (q 6, .inl (cI, 64, .inl ca)), (q 7, .inl (cI, 65, .inl ne))]
abbrev mW (cI : ClassId) (q : Nat → Nat) (sg ou li ba : Nat → Int32) (n le m sh : Int32) : va_W :=
  [(q 0, .inr (1, [.ref (q 1), .int n, .ref (q 2), .int le, .ref (q 3), .int m, .ref (q 4), .int sh])), (q 1, .inl (cI, 24, .inl sg)), (q 2, .inl (cI, 160, .inl ou)), (q 3, .inl (cI, 64, .inl li)), (q 4, .inl (cI, 64, .inl ba))]
/-- what a public method of the desk leaves -/
def xP (cI cZ : ClassId) (q : Nat → Nat) (LB LT LN KP : List Nat) (r : Option Value) : Option Value → va_W → Prop := fun v ws => v = r ∧ ∃ (la le li ke dn ca ne : Nat → Int32) (at_ : Int32), ws = xW cI cZ q la le li ke dn ca ne (nI LB.length) (nI LT.length) (nI LN.length) (nI KP.length) at_ ∧ sp_rep la LB ∧ sp_rep le LT ∧ sp_rep li LN ∧ sp_rep ke KP
/-- what a public method of the reference leaves -/
def mP (cI : ClassId) (q : Nat → Nat) (LB LT LN KP : List Nat) (r : Option Value) : Option Value → va_W → Prop := fun v ws => v = r ∧ ∃ (sg ou li ba : Nat → Int32), ws = mW cI q sg ou li ba (nI LB.length) (nI LT.length) (nI LN.length) (nI KP.length) ∧ sp_rep sg LB ∧ sp_rep ou LT ∧ sp_rep li LN ∧ sp_rep ba KP
end
section
/-! the static leaves -/
theorem hd_X_init : y_X_init.cls ≠ "java/lang/invoke/MethodHandle" ∧ y_X_init.cls ≠ "java/lang/invoke/VarHandle" ∧ (parseMethodDescriptor y_X_init.desc).map (fun d => d.parameters.length) = some 0 := by decide +kernel
theorem hd_X_put : y_X_put.cls ≠ "java/lang/invoke/MethodHandle" ∧ y_X_put.cls ≠ "java/lang/invoke/VarHandle" ∧ (parseMethodDescriptor y_X_put.desc).map (fun d => d.parameters.length) = some 1 := by decide +kernel
theorem hd_X_cut : y_X_cut.cls ≠ "java/lang/invoke/MethodHandle" ∧ y_X_cut.cls ≠ "java/lang/invoke/VarHandle" ∧ (parseMethodDescriptor y_X_cut.desc).map (fun d => d.parameters.length) = some 2 := by decide +kernel
theorem hd_X_add : y_X_add.cls ≠ "java/lang/invoke/MethodHandle" ∧ y_X_add.cls ≠ "java/lang/invoke/VarHandle" ∧ (parseMethodDescriptor y_X_add.desc).map (fun d => d.parameters.length) = some 1 := by decide +kernel
theorem hd_X_plain : y_X_plain.cls ≠ "java/lang/invoke/MethodHandle" ∧ y_X_plain.cls ≠ "java/lang/invoke/VarHandle" ∧ (parseMethodDescriptor y_X_plain.desc).map (fun d => d.parameters.length) = some 1 := by decide +kernel
theorem hd_X_wipe : y_X_wipe.cls ≠ "java/lang/invoke/MethodHandle" ∧ y_X_wipe.cls ≠ "java/lang/invoke/VarHandle" ∧ (parseMethodDescriptor y_X_wipe.desc).map (fun d => d.parameters.length) = some 0 := by decide +kernel
theorem hd_X_write : y_X_write.cls ≠ "java/lang/invoke/MethodHandle" ∧ y_X_write.cls ≠ "java/lang/invoke/VarHandle" ∧ (parseMethodDescriptor y_X_write.desc).map (fun d => d.parameters.length) = some 0 := by decide +kernel
theorem hd_X_least : y_X_least.cls ≠ "java/lang/invoke/MethodHandle" ∧ y_X_least.cls ≠ "java/lang/invoke/VarHandle" ∧ (parseMethodDescriptor y_X_least.desc).map (fun d => d.parameters.length) = some 0 := by decide +kernel
theorem hd_X_number : y_X_number.cls ≠ "java/lang/invoke/MethodHandle" ∧ y_X_number.cls ≠ "java/lang/invoke/VarHandle" ∧ (parseMethodDescriptor y_X_number.desc).map (fun d => d.parameters.length) = some 2 := by decide +kernel
theorem hd_X_threshold : y_X_threshold.cls ≠ "java/lang/invoke/MethodHandle" ∧ y_X_threshold.cls ≠ "java/lang/invoke/VarHandle" ∧ (parseMethodDescriptor y_X_threshold.desc).map (fun d => d.parameters.length) = some 2 := by decide +kernel
theorem hd_X_digit : y_X_digit.cls ≠ "java/lang/invoke/MethodHandle" ∧ y_X_digit.cls ≠ "java/lang/invoke/VarHandle" ∧ (parseMethodDescriptor y_X_digit.desc).map (fun d => d.parameters.length) = some 1 := by decide +kernel
theorem hd_X_letterOf : y_X_letterOf.cls ≠ "java/lang/invoke/MethodHandle" ∧ y_X_letterOf.cls ≠ "java/lang/invoke/VarHandle" ∧ (parseMethodDescriptor y_X_letterOf.desc).map (fun d => d.parameters.length) = some 1 := by decide +kernel
theorem hd_X_adapted : y_X_adapted.cls ≠ "java/lang/invoke/MethodHandle" ∧ y_X_adapted.cls ≠ "java/lang/invoke/VarHandle" ∧ (parseMethodDescriptor y_X_adapted.desc).map (fun d => d.parameters.length) = some 3 := by decide +kernel
theorem hd_X_letter : y_X_letter.cls ≠ "java/lang/invoke/MethodHandle" ∧ y_X_letter.cls ≠ "java/lang/invoke/VarHandle" ∧ (parseMethodDescriptor y_X_letter.desc).map (fun d => d.parameters.length) = some 1 := by decide +kernel
theorem hd_X_pick : y_X_pick.cls ≠ "java/lang/invoke/MethodHandle" ∧ y_X_pick.cls ≠ "java/lang/invoke/VarHandle" ∧ (parseMethodDescriptor y_X_pick.desc).map (fun d => d.parameters.length) = some 3 := by decide +kernel
theorem hd_X_line : y_X_line.cls ≠ "java/lang/invoke/MethodHandle" ∧ y_X_line.cls ≠ "java/lang/invoke/VarHandle" ∧ (parseMethodDescriptor y_X_line.desc).map (fun d => d.parameters.length) = some 4 := by decide +kernel
theorem hd_X_behind : y_X_behind.cls ≠ "java/lang/invoke/MethodHandle" ∧ y_X_behind.cls ≠ "java/lang/invoke/VarHandle" ∧ (parseMethodDescriptor y_X_behind.desc).map (fun d => d.parameters.length) = some 1 := by decide +kernel
theorem hd_X_clear : y_X_clear.cls ≠ "java/lang/invoke/MethodHandle" ∧ y_X_clear.cls ≠ "java/lang/invoke/VarHandle" ∧ (parseMethodDescriptor y_X_clear.desc).map (fun d => d.parameters.length) = some 0 := by decide +kernel
theorem hd_X_copy : y_X_copy.cls ≠ "java/lang/invoke/MethodHandle" ∧ y_X_copy.cls ≠ "java/lang/invoke/VarHandle" ∧ (parseMethodDescriptor y_X_copy.desc).map (fun d => d.parameters.length) = some 0 := by decide +kernel
theorem hd_X_read : y_X_read.cls ≠ "java/lang/invoke/MethodHandle" ∧ y_X_read.cls ≠ "java/lang/invoke/VarHandle" ∧ (parseMethodDescriptor y_X_read.desc).map (fun d => d.parameters.length) = some 0 := by decide +kernel
theorem hd_X_put3 : y_X_put3.cls ≠ "java/lang/invoke/MethodHandle" ∧ y_X_put3.cls ≠ "java/lang/invoke/VarHandle" ∧ (parseMethodDescriptor y_X_put3.desc).map (fun d => d.parameters.length) = some 3 := by decide +kernel
theorem hd_X_told : y_X_told.cls ≠ "java/lang/invoke/MethodHandle" ∧ y_X_told.cls ≠ "java/lang/invoke/VarHandle" ∧ (parseMethodDescriptor y_X_told.desc).map (fun d => d.parameters.length) = some 2 := by decide +kernel
theorem hd_X_digitOf : y_X_digitOf.cls ≠ "java/lang/invoke/MethodHandle" ∧ y_X_digitOf.cls ≠ "java/lang/invoke/VarHandle" ∧ (parseMethodDescriptor y_X_digitOf.desc).map (fun d => d.parameters.length) = some 1 := by decide +kernel
theorem hd_X_refused : y_X_refused.cls ≠ "java/lang/invoke/MethodHandle" ∧ y_X_refused.cls ≠ "java/lang/invoke/VarHandle" ∧ (parseMethodDescriptor y_X_refused.desc).map (fun d => d.parameters.length) = some 0 := by decide +kernel
theorem hd_X_sign : y_X_sign.cls ≠ "java/lang/invoke/MethodHandle" ∧ y_X_sign.cls ≠ "java/lang/invoke/VarHandle" ∧ (parseMethodDescriptor y_X_sign.desc).map (fun d => d.parameters.length) = some 1 := by decide +kernel
theorem hd_M_init : y_M_init.cls ≠ "java/lang/invoke/MethodHandle" ∧ y_M_init.cls ≠ "java/lang/invoke/VarHandle" ∧ (parseMethodDescriptor y_M_init.desc).map (fun d => d.parameters.length) = some 0 := by decide +kernel
theorem hd_M_put : y_M_put.cls ≠ "java/lang/invoke/MethodHandle" ∧ y_M_put.cls ≠ "java/lang/invoke/VarHandle" ∧ (parseMethodDescriptor y_M_put.desc).map (fun d => d.parameters.length) = some 1 := by decide +kernel
theorem hd_M_plain : y_M_plain.cls ≠ "java/lang/invoke/MethodHandle" ∧ y_M_plain.cls ≠ "java/lang/invoke/VarHandle" ∧ (parseMethodDescriptor y_M_plain.desc).map (fun d => d.parameters.length) = some 1 := by decide +kernel
theorem hd_M_wipe : y_M_wipe.cls ≠ "java/lang/invoke/MethodHandle" ∧ y_M_wipe.cls ≠ "java/lang/invoke/VarHandle" ∧ (parseMethodDescriptor y_M_wipe.desc).map (fun d => d.parameters.length) = some 0 := by decide +kernel
theorem hd_M_write : y_M_write.cls ≠ "java/lang/invoke/MethodHandle" ∧ y_M_write.cls ≠ "java/lang/invoke/VarHandle" ∧ (parseMethodDescriptor y_M_write.desc).map (fun d => d.parameters.length) = some 0 := by decide +kernel
theorem hd_M_digit : y_M_digit.cls ≠ "java/lang/invoke/MethodHandle" ∧ y_M_digit.cls ≠ "java/lang/invoke/VarHandle" ∧ (parseMethodDescriptor y_M_digit.desc).map (fun d => d.parameters.length) = some 1 := by decide +kernel
theorem hd_M_adapt : y_M_adapt.cls ≠ "java/lang/invoke/MethodHandle" ∧ y_M_adapt.cls ≠ "java/lang/invoke/VarHandle" ∧ (parseMethodDescriptor y_M_adapt.desc).map (fun d => d.parameters.length) = some 3 := by decide +kernel
theorem hd_M_letter : y_M_letter.cls ≠ "java/lang/invoke/MethodHandle" ∧ y_M_letter.cls ≠ "java/lang/invoke/VarHandle" ∧ (parseMethodDescriptor y_M_letter.desc).map (fun d => d.parameters.length) = some 1 := by decide +kernel
theorem hd_M_line : y_M_line.cls ≠ "java/lang/invoke/MethodHandle" ∧ y_M_line.cls ≠ "java/lang/invoke/VarHandle" ∧ (parseMethodDescriptor y_M_line.desc).map (fun d => d.parameters.length) = some 4 := by decide +kernel
theorem hd_M_clear : y_M_clear.cls ≠ "java/lang/invoke/MethodHandle" ∧ y_M_clear.cls ≠ "java/lang/invoke/VarHandle" ∧ (parseMethodDescriptor y_M_clear.desc).map (fun d => d.parameters.length) = some 0 := by decide +kernel
theorem hd_M_copy : y_M_copy.cls ≠ "java/lang/invoke/MethodHandle" ∧ y_M_copy.cls ≠ "java/lang/invoke/VarHandle" ∧ (parseMethodDescriptor y_M_copy.desc).map (fun d => d.parameters.length) = some 0 := by decide +kernel
theorem hd_M_read : y_M_read.cls ≠ "java/lang/invoke/MethodHandle" ∧ y_M_read.cls ≠ "java/lang/invoke/VarHandle" ∧ (parseMethodDescriptor y_M_read.desc).map (fun d => d.parameters.length) = some 0 := by decide +kernel
theorem hd_M_sign : y_M_sign.cls ≠ "java/lang/invoke/MethodHandle" ∧ y_M_sign.cls ≠ "java/lang/invoke/VarHandle" ∧ (parseMethodDescriptor y_M_sign.desc).map (fun d => d.parameters.length) = some 1 := by decide +kernel
theorem k_inc {a n : Nat} {z : Int} (hz : Int32.ofInt z = nI n) : nI a + Int32.ofInt z = nI (a + n) := by rw [hz, nI_add]
theorem k_dec {a : Nat} (h : 1 ≤ a) : nI a + Int32.ofInt (-1) = nI (a - 1) := by
  have e : Int32.ofInt (-1) = -1 := by decide
  rw [e]
  exact sb_m1 (by omega)
def sp_c31 (x : Int32) : Nat := x.toBitVec.toNat % 2 ^ 31
theorem sp_c31_lt (x : Int32) : sp_c31 x < 2 ^ 31 := Nat.mod_lt _ (by omega)
theorem sp_c31_eq (x : Int32) : x &&& nI 2147483647 = nI (sp_c31 x) := pk_and x 31 (by decide)
def k_opt (o : Option Nat) : Int32 := match o with
  | none => -1
  | some d => nI d
abbrev r_X_cut : Room := { frames := 0, cells := 0, slots := 0, locals := 0 }
set_option maxHeartbeats 4000000 in
set_option maxRecDepth 100000 in
/-- cut(c, by) -/
theorem c_X_cut (l : Launch) (x : Int32) (n : Nat) (h0 : 0 < n) (h1 : n < 2 ^ 31) : kR l y_X_cut b_X_cut 2 (some .int) r_X_cut [.int (x), .int (nI (n))] (nI (sp_c31 x % n)) := by
  refine k_metR (by decide) (Nat.le_of_ble_eq_true rfl) ?_
  intro p e s m args below meth c Q C0 hr hlk hQ ls hl
  obtain ⟨hx, hb, hml, hown, hts⟩ := id C0
  have hl : lv_has ls 2 [(0, .int (x)), (1, .int (nI (n)))] := hl
  have h2 := sp_c31_lt x
  refine lv_iload_n hx hb d_X_cut_0 rfl (lv_at hl 0 rfl) ?_
  refine lv_ldc (v := nI 2147483647) hx hb hown (hts _ m1_59) d_X_cut_1 ?_
  refine lv_iand hx hb d_X_cut_3 ?_
  refine k_cvi (show _ = nI (sp_c31 x) from sp_c31_eq x) ?_
  refine lv_iload_n hx hb d_X_cut_4 rfl (lv_at hl 1 rfl) ?_
  refine k_irem hx hb (by omega) (by omega) (by omega) d_X_cut_5 ?_
  exact k_retR hx hb hr hlk hQ (rfl) d_X_cut_6
abbrev r_X_threshold : Room := { frames := 0, cells := 0, slots := 0, locals := 0 }
set_option maxHeartbeats 4000000 in
set_option maxRecDepth 100000 in
/-- threshold(k, bias) -/
theorem c_X_threshold (l : Launch) (k b : Nat) (h0 : k < 2 ^ 31) (h1 : b + 26 < 2 ^ 31) : kR l y_X_threshold b_X_threshold 2 (some .int) r_X_threshold [.int (nI (k)), .int (nI (b))] (nI (sp_thr k b)) := by
  refine k_metR (by decide) (Nat.le_of_ble_eq_true rfl) ?_
  intro p e s m args below meth c Q C0 hr hlk hQ ls hl
  obtain ⟨hx, hb, hml, hown, hts⟩ := id C0
  have hl : lv_has ls 2 [(0, .int (nI (k))), (1, .int (nI (b)))] := hl
  refine lv_iload_n hx hb d_X_threshold_0 rfl (lv_at hl 0 rfl) ?_
  refine lv_iload_n hx hb d_X_threshold_1 rfl (lv_at hl 1 rfl) ?_
  refine k_icmp_gt (tgt := 9) hx hb d_X_threshold_2 (by decide) (by omega) (by omega) (fun c_2 => ?_) (fun c_2 => ?_)
  · refine lv_iload_n hx hb d_X_threshold_9 rfl (lv_at hl 0 rfl) ?_
    refine lv_iload_n hx hb d_X_threshold_10 rfl (lv_at hl 1 rfl) ?_
    refine lv_bipush (v := nI (26)) hx hb d_X_threshold_11 (by decide) ?_
    refine k_iadd hx hb d_X_threshold_13 ?_
    refine k_icmp_lt (tgt := 22) hx hb d_X_threshold_14 (by decide) (by omega) (by omega) (fun c_14 => ?_) (fun c_14 => ?_)
    · refine lv_iload_n hx hb d_X_threshold_22 rfl (lv_at hl 0 rfl) ?_
      refine lv_iload_n hx hb d_X_threshold_23 rfl (lv_at hl 1 rfl) ?_
      refine k_isub hx hb (by omega) d_X_threshold_24 ?_
      exact k_retR hx hb hr hlk hQ (by first | rw [sp_thr_1 (by omega)] | rw [sp_thr_26 (by omega)] | rw [sp_thr_mid (by omega) (by omega)]) d_X_threshold_25
    · refine lv_bipush (v := nI (26)) hx hb d_X_threshold_17 (by decide) ?_
      refine lv_goto (tgt := 25) hx hb d_X_threshold_19 (by decide) ?_
      exact k_retR hx hb hr hlk hQ (by first | rw [sp_thr_1 (by omega)] | rw [sp_thr_26 (by omega)] | rw [sp_thr_mid (by omega) (by omega)]) d_X_threshold_25
  · refine lv_iconst (v := nI (1)) hx hb d_X_threshold_5 (by decide) ?_
    refine lv_goto (tgt := 25) hx hb d_X_threshold_6 (by decide) ?_
    exact k_retR hx hb hr hlk hQ (by first | rw [sp_thr_1 (by omega)] | rw [sp_thr_26 (by omega)] | rw [sp_thr_mid (by omega) (by omega)]) d_X_threshold_25
abbrev r_X_letterOf : Room := { frames := 0, cells := 0, slots := 0, locals := 0 }
set_option maxHeartbeats 4000000 in
set_option maxRecDepth 100000 in
/-- a digit's letter -/
theorem c_X_letterOf (l : Launch) (d : Nat) (h0 : d < 2 ^ 30) : kR l y_X_letterOf b_X_letterOf 1 (some .int) r_X_letterOf [.int (nI (d))] (nI (sp_let d)) := by
  refine k_metR (by decide) (Nat.le_of_ble_eq_true rfl) ?_
  intro p e s m args below meth c Q C0 hr hlk hQ ls hl
  obtain ⟨hx, hb, hml, hown, hts⟩ := id C0
  have hl : lv_has ls 1 [(0, .int (nI (d)))] := hl
  refine lv_iload_n hx hb d_X_letterOf_0 rfl (lv_at hl 0 rfl) ?_
  refine lv_bipush (v := nI (26)) hx hb d_X_letterOf_1 (by decide) ?_
  refine k_icmp_ge (tgt := 13) hx hb d_X_letterOf_3 (by decide) (by omega) (by omega) (fun c_3 => ?_) (fun c_3 => ?_)
  · refine lv_bipush (v := nI (22)) hx hb d_X_letterOf_13 (by decide) ?_
    refine lv_iload_n hx hb d_X_letterOf_15 rfl (lv_at hl 0 rfl) ?_
    refine k_iadd hx hb d_X_letterOf_16 ?_
    exact k_retR hx hb hr hlk hQ (by first | rw [sp_let_lo (by omega)] | rw [sp_let_hi (by omega)]) d_X_letterOf_17
  · refine lv_bipush (v := nI (97)) hx hb d_X_letterOf_6 (by decide) ?_
    refine lv_iload_n hx hb d_X_letterOf_8 rfl (lv_at hl 0 rfl) ?_
    refine k_iadd hx hb d_X_letterOf_9 ?_
    refine lv_goto (tgt := 17) hx hb d_X_letterOf_10 (by decide) ?_
    exact k_retR hx hb hr hlk hQ (by first | rw [sp_let_lo (by omega)] | rw [sp_let_hi (by omega)]) d_X_letterOf_17
abbrev r_M_digit : Room := { frames := 0, cells := 0, slots := 0, locals := 0 }
set_option maxHeartbeats 4000000 in
set_option maxRecDepth 100000 in
/-- a digit's letter -/
theorem c_M_digit (l : Launch) (d : Nat) (h0 : d < 2 ^ 30) : kR l y_M_digit b_M_digit 1 (some .int) r_M_digit [.int (nI (d))] (nI (sp_let d)) := by
  refine k_metR (by decide) (Nat.le_of_ble_eq_true rfl) ?_
  intro p e s m args below meth c Q C0 hr hlk hQ ls hl
  obtain ⟨hx, hb, hml, hown, hts⟩ := id C0
  have hl : lv_has ls 1 [(0, .int (nI (d)))] := hl
  refine lv_iload_n hx hb d_M_digit_0 rfl (lv_at hl 0 rfl) ?_
  refine lv_bipush (v := nI (26)) hx hb d_M_digit_1 (by decide) ?_
  refine k_icmp_ge (tgt := 13) hx hb d_M_digit_3 (by decide) (by omega) (by omega) (fun c_3 => ?_) (fun c_3 => ?_)
  · refine lv_bipush (v := nI (22)) hx hb d_M_digit_13 (by decide) ?_
    refine lv_iload_n hx hb d_M_digit_15 rfl (lv_at hl 0 rfl) ?_
    refine k_iadd hx hb d_M_digit_16 ?_
    exact k_retR hx hb hr hlk hQ (by first | rw [sp_let_lo (by omega)] | rw [sp_let_hi (by omega)]) d_M_digit_17
  · refine lv_bipush (v := nI (97)) hx hb d_M_digit_6 (by decide) ?_
    refine lv_iload_n hx hb d_M_digit_8 rfl (lv_at hl 0 rfl) ?_
    refine k_iadd hx hb d_M_digit_9 ?_
    refine lv_goto (tgt := 17) hx hb d_M_digit_10 (by decide) ?_
    exact k_retR hx hb hr hlk hQ (by first | rw [sp_let_lo (by omega)] | rw [sp_let_hi (by omega)]) d_M_digit_17
abbrev r_X_digitOf : Room := { frames := 0, cells := 0, slots := 0, locals := 0 }
set_option maxHeartbeats 4000000 in
set_option maxRecDepth 100000 in
/-- a letter's digit, or -1 -/
theorem c_X_digitOf (l : Launch) (c0 : Nat) (h0 : c0 < 2 ^ 31) : kR l y_X_digitOf b_X_digitOf 1 (some .int) r_X_digitOf [.int (nI (c0))] (k_opt (sp_dig c0)) := by
  refine k_metR (by decide) (Nat.le_of_ble_eq_true rfl) ?_
  intro p e s m args below meth c Q C0 hr hlk hQ ls hl
  obtain ⟨hx, hb, hml, hown, hts⟩ := id C0
  have hl : lv_has ls 1 [(0, .int (nI (c0)))] := hl
  refine lv_iload_n hx hb d_X_digitOf_0 rfl (lv_at hl 0 rfl) ?_
  refine lv_bipush (v := nI (97)) hx hb d_X_digitOf_1 (by decide) ?_
  refine k_icmp_lt (tgt := 19) hx hb d_X_digitOf_3 (by decide) (by omega) (by omega) (fun c_3 => ?_) (fun c_3 => ?_)
  · refine lv_iload_n hx hb d_X_digitOf_19 rfl (lv_at hl 0 rfl) ?_
    refine lv_bipush (v := nI (48)) hx hb d_X_digitOf_20 (by decide) ?_
    refine k_icmp_lt (tgt := 38) hx hb d_X_digitOf_22 (by decide) (by omega) (by omega) (fun c_22 => ?_) (fun c_22 => ?_)
    · refine lv_iconst (v := -1) hx hb d_X_digitOf_38 (by decide) ?_
      exact k_retR hx hb hr hlk hQ (by first | (rw [sp_dig_a (by omega) (by omega)]; rfl) | (rw [sp_dig_9 (by omega) (by omega)]; rfl) | (rw [sp_dig_n (by omega) (by omega)]; rfl)) d_X_digitOf_39
    · refine lv_iload_n hx hb d_X_digitOf_25 rfl (lv_at hl 0 rfl) ?_
      refine lv_bipush (v := nI (57)) hx hb d_X_digitOf_26 (by decide) ?_
      refine k_icmp_gt (tgt := 38) hx hb d_X_digitOf_28 (by decide) (by omega) (by omega) (fun c_28 => ?_) (fun c_28 => ?_)
      · refine lv_iconst (v := -1) hx hb d_X_digitOf_38 (by decide) ?_
        exact k_retR hx hb hr hlk hQ (by first | (rw [sp_dig_a (by omega) (by omega)]; rfl) | (rw [sp_dig_9 (by omega) (by omega)]; rfl) | (rw [sp_dig_n (by omega) (by omega)]; rfl)) d_X_digitOf_39
      · refine lv_iload_n hx hb d_X_digitOf_31 rfl (lv_at hl 0 rfl) ?_
        refine lv_bipush (v := nI (22)) hx hb d_X_digitOf_32 (by decide) ?_
        refine k_isub hx hb (by omega) d_X_digitOf_34 ?_
        refine lv_goto (tgt := 39) hx hb d_X_digitOf_35 (by decide) ?_
        exact k_retR hx hb hr hlk hQ (by first | (rw [sp_dig_a (by omega) (by omega)]; rfl) | (rw [sp_dig_9 (by omega) (by omega)]; rfl) | (rw [sp_dig_n (by omega) (by omega)]; rfl)) d_X_digitOf_39
  · refine lv_iload_n hx hb d_X_digitOf_6 rfl (lv_at hl 0 rfl) ?_
    refine lv_bipush (v := nI (122)) hx hb d_X_digitOf_7 (by decide) ?_
    refine k_icmp_gt (tgt := 19) hx hb d_X_digitOf_9 (by decide) (by omega) (by omega) (fun c_9 => ?_) (fun c_9 => ?_)
    · refine lv_iload_n hx hb d_X_digitOf_19 rfl (lv_at hl 0 rfl) ?_
      refine lv_bipush (v := nI (48)) hx hb d_X_digitOf_20 (by decide) ?_
      refine k_icmp_lt (tgt := 38) hx hb d_X_digitOf_22 (by decide) (by omega) (by omega) (fun c_22 => ?_) (fun c_22 => ?_)
      · refine lv_iconst (v := -1) hx hb d_X_digitOf_38 (by decide) ?_
        exact k_retR hx hb hr hlk hQ (by first | (rw [sp_dig_a (by omega) (by omega)]; rfl) | (rw [sp_dig_9 (by omega) (by omega)]; rfl) | (rw [sp_dig_n (by omega) (by omega)]; rfl)) d_X_digitOf_39
      · refine lv_iload_n hx hb d_X_digitOf_25 rfl (lv_at hl 0 rfl) ?_
        refine lv_bipush (v := nI (57)) hx hb d_X_digitOf_26 (by decide) ?_
        refine k_icmp_gt (tgt := 38) hx hb d_X_digitOf_28 (by decide) (by omega) (by omega) (fun c_28 => ?_) (fun c_28 => ?_)
        · refine lv_iconst (v := -1) hx hb d_X_digitOf_38 (by decide) ?_
          exact k_retR hx hb hr hlk hQ (by first | (rw [sp_dig_a (by omega) (by omega)]; rfl) | (rw [sp_dig_9 (by omega) (by omega)]; rfl) | (rw [sp_dig_n (by omega) (by omega)]; rfl)) d_X_digitOf_39
        · refine lv_iload_n hx hb d_X_digitOf_31 rfl (lv_at hl 0 rfl) ?_
          refine lv_bipush (v := nI (22)) hx hb d_X_digitOf_32 (by decide) ?_
          refine k_isub hx hb (by omega) d_X_digitOf_34 ?_
          refine lv_goto (tgt := 39) hx hb d_X_digitOf_35 (by decide) ?_
          exact k_retR hx hb hr hlk hQ (by first | (rw [sp_dig_a (by omega) (by omega)]; rfl) | (rw [sp_dig_9 (by omega) (by omega)]; rfl) | (rw [sp_dig_n (by omega) (by omega)]; rfl)) d_X_digitOf_39
    · refine lv_iload_n hx hb d_X_digitOf_12 rfl (lv_at hl 0 rfl) ?_
      refine lv_bipush (v := nI (97)) hx hb d_X_digitOf_13 (by decide) ?_
      refine k_isub hx hb (by omega) d_X_digitOf_15 ?_
      refine lv_goto (tgt := 39) hx hb d_X_digitOf_16 (by decide) ?_
      exact k_retR hx hb hr hlk hQ (by first | (rw [sp_dig_a (by omega) (by omega)]; rfl) | (rw [sp_dig_9 (by omega) (by omega)]; rfl) | (rw [sp_dig_n (by omega) (by omega)]; rfl)) d_X_digitOf_39
abbrev r_X_adapted : Room := { frames := 0, cells := 0, slots := 0, locals := 0 }
set_option maxHeartbeats 4000000 in
set_option maxRecDepth 100000 in
/-- the new bias -/
theorem c_X_adapted (l : Launch) (much n : Nat) (fb : Bool) (hm : much < 2 ^ 31) (hn : 0 < n) (hn2 : n < 2 ^ 31) : kR l y_X_adapted b_X_adapted 7 (some .int) r_X_adapted [.long (lN (much)), .int (nI (n)), .int (nI (fb.toNat))] (nI (sp_adapt much n fb)) := by
  refine k_metR (by decide) (Nat.le_of_ble_eq_true rfl) ?_
  intro p e s m args below meth c Q C0 hr hlk hQ ls hl
  obtain ⟨hx, hb, hml, hown, hts⟩ := id C0
  have hl : lv_has ls 7 [(0, .long (lN (much))), (2, .int (nI (n))), (3, .int (nI (fb.toNat)))] := hl
  have loop : ∀ (f d k : Nat), d < f → k + d < 2 ^ 31 → sp_ad d k = sp_adapt much n fb → ∀ ls : Array Slot, lv_has ls 7 [(6, .int (nI (k))), (4, .long (lN (d)))] → W p l e r_X_adapted s m args below meth c s.heap [] 0 0 Q (F0 m 32 ls []) := by
    intro f
    induction f with
    | zero => intro d k h; exact absurd h (by omega)
    | succ f ih =>
      intro d k hf hk he ls hl
      refine lv_lload hx hb d_X_adapted_32 (lv_at hl 1 rfl) ?_
      refine lv_ldc2 (v := lN (455)) hx hb hown (hts _ m1_100) d_X_adapted_34 ?_
      refine k_lc_le (tgt := 55) hx hb d_X_adapted_37 d_X_adapted_38 (by decide) (by omega) (by omega) (fun c_37 => ?_) (fun c_37 => ?_)
      · refine lv_iload hx hb d_X_adapted_55 (lv_at hl 0 rfl) ?_
        refine k_i2l hx hb (by omega) d_X_adapted_57 ?_
        refine lv_ldc2 (v := lN (36)) hx hb hown (hts _ m1_102) d_X_adapted_58 ?_
        refine lv_lload hx hb d_X_adapted_61 (lv_at hl 1 rfl) ?_
        refine k_lmul hx hb d_X_adapted_63 ?_
        refine lv_lload hx hb d_X_adapted_64 (lv_at hl 1 rfl) ?_
        refine lv_ldc2 (v := lN (38)) hx hb hown (hts _ m1_103) d_X_adapted_66 ?_
        refine k_ladd hx hb d_X_adapted_69 ?_
        refine k_ldiv hx hb (by omega) (by omega) (by omega) d_X_adapted_70 ?_
        refine k_ladd hx hb d_X_adapted_71 ?_
        refine k_l2i hx hb d_X_adapted_72 ?_
        exact k_retR hx hb hr hlk hQ (by rw [← he, sp_ad_lo (by omega)]) d_X_adapted_73
      · refine lv_iinc (v := nI (k + 36)) (lv' := [(6, .int (nI (k + 36))), (4, .long (lN (d)))]) hx hb d_X_adapted_41 hl (k := 0) rfl (k_inc (by decide)) (Nat.le_of_ble_eq_true rfl) rfl (fun ls hl => ?_)
        refine lv_lload hx hb d_X_adapted_44 (lv_at hl 1 rfl) ?_
        refine lv_ldc2 (v := lN (35)) hx hb hown (hts _ m1_101) d_X_adapted_46 ?_
        refine k_ldiv hx hb (by omega) (by omega) (by omega) d_X_adapted_49 ?_
        refine lv_lstore (lv' := [(4, .long (lN (d / 35))), (6, .int (nI (k + 36)))]) hx hb d_X_adapted_50 hl (Nat.le_of_ble_eq_true rfl) rfl (fun ls hl => ?_)
        refine lv_goto (tgt := 32) hx hb d_X_adapted_52 (by decide) ?_
        exact ih (d / 35) (k + 36) (by omega) (by omega) (by rw [← he]; exact (sp_ad_hi (by omega)).symm) ls (lv_sub hl [1, 0] rfl)
  cases fb with
  | false =>
    have hl : lv_has ls 7 [(0, .long (lN (much))), (2, .int (nI (n))), (3, .int (nI (0)))] := hl
    have hn1 := Nat.div_le_self (much / 2) n
    refine lv_iload_n hx hb d_X_adapted_0 rfl (lv_at hl 2 rfl) ?_
    refine k_if_eq (tgt := 12) hx hb d_X_adapted_1 (by decide) (by omega) (fun c_1 => ?_) (fun c_1 => ?_)
    · refine lv_lload_n hx hb d_X_adapted_12 rfl (lv_at hl 0 rfl) ?_
      refine lv_ldc2 (v := lN (2)) hx hb hown (hts _ m1_99) d_X_adapted_13 ?_
      refine k_ldiv hx hb (by omega) (by omega) (by omega) d_X_adapted_16 ?_
      refine lv_lstore (lv' := [(4, .long (lN (much / 2))), (0, .long (lN (much))), (2, .int (nI (n))), (3, .int (nI (0)))]) hx hb d_X_adapted_17 hl (Nat.le_of_ble_eq_true rfl) rfl (fun ls hl => ?_)
      refine lv_lload hx hb d_X_adapted_19 (lv_at hl 0 rfl) ?_
      refine lv_lload hx hb d_X_adapted_21 (lv_at hl 0 rfl) ?_
      refine lv_iload_n hx hb d_X_adapted_23 rfl (lv_at hl 2 rfl) ?_
      refine k_i2l hx hb (by omega) d_X_adapted_24 ?_
      refine k_ldiv hx hb (by omega) (by omega) (by omega) d_X_adapted_25 ?_
      refine k_ladd hx hb d_X_adapted_26 ?_
      refine lv_lstore (lv' := [(4, .long (lN ((much / 2) + ((much / 2) / n)))), (0, .long (lN (much))), (2, .int (nI (n))), (3, .int (nI (0)))]) hx hb d_X_adapted_27 hl (Nat.le_of_ble_eq_true rfl) rfl (fun ls hl => ?_)
      refine lv_iconst (v := nI (0)) hx hb d_X_adapted_29 (by decide) ?_
      refine lv_istore (lv' := [(6, .int (nI (0))), (4, .long (lN ((much / 2) + ((much / 2) / n)))), (0, .long (lN (much))), (2, .int (nI (n))), (3, .int (nI (0)))]) hx hb d_X_adapted_30 hl (Nat.le_of_ble_eq_true rfl) rfl (fun ls hl => ?_)
      exact loop (((much / 2) + ((much / 2) / n)) + 1) ((much / 2) + ((much / 2) / n)) (0) (by omega) (by omega) (by rw [sp_adapt_f]) ls (lv_sub hl [0, 1] rfl)
    · exact absurd c_1 (by omega)
  | true =>
    have hl : lv_has ls 7 [(0, .long (lN (much))), (2, .int (nI (n))), (3, .int (nI (1)))] := hl
    have hn1 := Nat.div_le_self (much / 700) n
    refine lv_iload_n hx hb d_X_adapted_0 rfl (lv_at hl 2 rfl) ?_
    refine k_if_eq (tgt := 12) hx hb d_X_adapted_1 (by decide) (by omega) (fun c_1 => ?_) (fun c_1 => ?_)
    · exact absurd c_1 (by omega)
    · refine lv_lload_n hx hb d_X_adapted_4 rfl (lv_at hl 0 rfl) ?_
      refine lv_ldc2 (v := lN (700)) hx hb hown (hts _ m1_98) d_X_adapted_5 ?_
      refine k_ldiv hx hb (by omega) (by omega) (by omega) d_X_adapted_8 ?_
      refine lv_goto (tgt := 17) hx hb d_X_adapted_9 (by decide) ?_
      refine lv_lstore (lv' := [(4, .long (lN (much / 700))), (0, .long (lN (much))), (2, .int (nI (n))), (3, .int (nI (1)))]) hx hb d_X_adapted_17 hl (Nat.le_of_ble_eq_true rfl) rfl (fun ls hl => ?_)
      refine lv_lload hx hb d_X_adapted_19 (lv_at hl 0 rfl) ?_
      refine lv_lload hx hb d_X_adapted_21 (lv_at hl 0 rfl) ?_
      refine lv_iload_n hx hb d_X_adapted_23 rfl (lv_at hl 2 rfl) ?_
      refine k_i2l hx hb (by omega) d_X_adapted_24 ?_
      refine k_ldiv hx hb (by omega) (by omega) (by omega) d_X_adapted_25 ?_
      refine k_ladd hx hb d_X_adapted_26 ?_
      refine lv_lstore (lv' := [(4, .long (lN ((much / 700) + ((much / 700) / n)))), (0, .long (lN (much))), (2, .int (nI (n))), (3, .int (nI (1)))]) hx hb d_X_adapted_27 hl (Nat.le_of_ble_eq_true rfl) rfl (fun ls hl => ?_)
      refine lv_iconst (v := nI (0)) hx hb d_X_adapted_29 (by decide) ?_
      refine lv_istore (lv' := [(6, .int (nI (0))), (4, .long (lN ((much / 700) + ((much / 700) / n)))), (0, .long (lN (much))), (2, .int (nI (n))), (3, .int (nI (1)))]) hx hb d_X_adapted_30 hl (Nat.le_of_ble_eq_true rfl) rfl (fun ls hl => ?_)
      exact loop (((much / 700) + ((much / 700) / n)) + 1) ((much / 700) + ((much / 700) / n)) (0) (by omega) (by omega) (by rw [sp_adapt_t]) ls (lv_sub hl [0, 1] rfl)
abbrev r_M_adapt : Room := { frames := 0, cells := 0, slots := 0, locals := 0 }
set_option maxHeartbeats 4000000 in
set_option maxRecDepth 100000 in
/-- the new bias -/
theorem c_M_adapt (l : Launch) (much n : Nat) (fb : Bool) (hm : much < 2 ^ 31) (hn : 0 < n) (hn2 : n < 2 ^ 31) : kR l y_M_adapt b_M_adapt 5 (some .int) r_M_adapt [.int (nI (much)), .int (nI (n)), .int (nI (fb.toNat))] (nI (sp_adapt much n fb)) := by
  refine k_metR (by decide) (Nat.le_of_ble_eq_true rfl) ?_
  intro p e s m args below meth c Q C0 hr hlk hQ ls hl
  obtain ⟨hx, hb, hml, hown, hts⟩ := id C0
  have hl : lv_has ls 5 [(0, .int (nI (much))), (1, .int (nI (n))), (2, .int (nI (fb.toNat)))] := hl
  have loop : ∀ (f d k : Nat), d < f → k + d < 2 ^ 31 → sp_ad d k = sp_adapt much n fb → ∀ ls : Array Slot, lv_has ls 5 [(4, .int (nI (k))), (3, .int (nI (d)))] → W p l e r_M_adapt s m args below meth c s.heap [] 0 0 Q (F0 m 25 ls []) := by
    intro f
    induction f with
    | zero => intro d k h; exact absurd h (by omega)
    | succ f ih =>
      intro d k hf hk he ls hl
      refine lv_iload_n hx hb d_M_adapt_25 rfl (lv_at hl 1 rfl) ?_
      refine lv_sipush (v := nI (455)) hx hb d_M_adapt_26 (by decide) ?_
      refine k_icmp_le (tgt := 47) hx hb d_M_adapt_29 (by decide) (by omega) (by omega) (fun c_29 => ?_) (fun c_29 => ?_)
      · refine lv_iload hx hb d_M_adapt_47 (lv_at hl 0 rfl) ?_
        refine lv_bipush (v := nI (36)) hx hb d_M_adapt_49 (by decide) ?_
        refine lv_iload_n hx hb d_M_adapt_51 rfl (lv_at hl 1 rfl) ?_
        refine k_imul hx hb d_M_adapt_52 ?_
        refine lv_iload_n hx hb d_M_adapt_53 rfl (lv_at hl 1 rfl) ?_
        refine lv_bipush (v := nI (38)) hx hb d_M_adapt_54 (by decide) ?_
        refine k_iadd hx hb d_M_adapt_56 ?_
        refine k_idiv hx hb (by omega) (by omega) (by omega) d_M_adapt_57 ?_
        refine k_iadd hx hb d_M_adapt_58 ?_
        exact k_retR hx hb hr hlk hQ (by rw [← he, sp_ad_lo (by omega)]) d_M_adapt_59
      · refine lv_iload_n hx hb d_M_adapt_32 rfl (lv_at hl 1 rfl) ?_
        refine lv_bipush (v := nI (35)) hx hb d_M_adapt_33 (by decide) ?_
        refine k_idiv hx hb (by omega) (by omega) (by omega) d_M_adapt_35 ?_
        refine lv_istore_n (lv' := [(3, .int (nI (d / 35))), (4, .int (nI (k)))]) hx hb d_M_adapt_36 rfl hl (Nat.le_of_ble_eq_true rfl) rfl (fun ls hl => ?_)
        refine lv_iload hx hb d_M_adapt_37 (lv_at hl 1 rfl) ?_
        refine lv_bipush (v := nI (36)) hx hb d_M_adapt_39 (by decide) ?_
        refine k_iadd hx hb d_M_adapt_41 ?_
        refine lv_istore (lv' := [(4, .int (nI (k + 36))), (3, .int (nI (d / 35)))]) hx hb d_M_adapt_42 hl (Nat.le_of_ble_eq_true rfl) rfl (fun ls hl => ?_)
        refine lv_goto (tgt := 25) hx hb d_M_adapt_44 (by decide) ?_
        exact ih (d / 35) (k + 36) (by omega) (by omega) (by rw [← he]; exact (sp_ad_hi (by omega)).symm) ls (lv_sub hl [0, 1] rfl)
  cases fb with
  | false =>
    have hl : lv_has ls 5 [(0, .int (nI (much))), (1, .int (nI (n))), (2, .int (nI (0)))] := hl
    have hn1 := Nat.div_le_self (much / 2) n
    refine lv_iload_n hx hb d_M_adapt_0 rfl (lv_at hl 2 rfl) ?_
    refine k_if_eq (tgt := 12) hx hb d_M_adapt_1 (by decide) (by omega) (fun c_1 => ?_) (fun c_1 => ?_)
    · refine lv_iload_n hx hb d_M_adapt_12 rfl (lv_at hl 0 rfl) ?_
      refine lv_iconst (v := nI (2)) hx hb d_M_adapt_13 (by decide) ?_
      refine k_idiv hx hb (by omega) (by omega) (by omega) d_M_adapt_14 ?_
      refine lv_istore_n (lv' := [(3, .int (nI (much / 2))), (0, .int (nI (much))), (1, .int (nI (n))), (2, .int (nI (0)))]) hx hb d_M_adapt_15 rfl hl (Nat.le_of_ble_eq_true rfl) rfl (fun ls hl => ?_)
      refine lv_iconst (v := nI (0)) hx hb d_M_adapt_16 (by decide) ?_
      refine lv_istore (lv' := [(4, .int (nI (0))), (3, .int (nI (much / 2))), (0, .int (nI (much))), (1, .int (nI (n))), (2, .int (nI (0)))]) hx hb d_M_adapt_17 hl (Nat.le_of_ble_eq_true rfl) rfl (fun ls hl => ?_)
      refine lv_iload_n hx hb d_M_adapt_19 rfl (lv_at hl 1 rfl) ?_
      refine lv_iload_n hx hb d_M_adapt_20 rfl (lv_at hl 1 rfl) ?_
      refine lv_iload_n hx hb d_M_adapt_21 rfl (lv_at hl 3 rfl) ?_
      refine k_idiv hx hb (by omega) (by omega) (by omega) d_M_adapt_22 ?_
      refine k_iadd hx hb d_M_adapt_23 ?_
      refine lv_istore_n (lv' := [(3, .int (nI ((much / 2) + ((much / 2) / n)))), (4, .int (nI (0))), (0, .int (nI (much))), (1, .int (nI (n))), (2, .int (nI (0)))]) hx hb d_M_adapt_24 rfl hl (Nat.le_of_ble_eq_true rfl) rfl (fun ls hl => ?_)
      exact loop (((much / 2) + ((much / 2) / n)) + 1) ((much / 2) + ((much / 2) / n)) (0) (by omega) (by omega) (by rw [sp_adapt_f]) ls (lv_sub hl [1, 0] rfl)
    · exact absurd c_1 (by omega)
  | true =>
    have hl : lv_has ls 5 [(0, .int (nI (much))), (1, .int (nI (n))), (2, .int (nI (1)))] := hl
    have hn1 := Nat.div_le_self (much / 700) n
    refine lv_iload_n hx hb d_M_adapt_0 rfl (lv_at hl 2 rfl) ?_
    refine k_if_eq (tgt := 12) hx hb d_M_adapt_1 (by decide) (by omega) (fun c_1 => ?_) (fun c_1 => ?_)
    · exact absurd c_1 (by omega)
    · refine lv_iload_n hx hb d_M_adapt_4 rfl (lv_at hl 0 rfl) ?_
      refine lv_sipush (v := nI (700)) hx hb d_M_adapt_5 (by decide) ?_
      refine k_idiv hx hb (by omega) (by omega) (by omega) d_M_adapt_8 ?_
      refine lv_goto (tgt := 15) hx hb d_M_adapt_9 (by decide) ?_
      refine lv_istore_n (lv' := [(3, .int (nI (much / 700))), (0, .int (nI (much))), (1, .int (nI (n))), (2, .int (nI (1)))]) hx hb d_M_adapt_15 rfl hl (Nat.le_of_ble_eq_true rfl) rfl (fun ls hl => ?_)
      refine lv_iconst (v := nI (0)) hx hb d_M_adapt_16 (by decide) ?_
      refine lv_istore (lv' := [(4, .int (nI (0))), (3, .int (nI (much / 700))), (0, .int (nI (much))), (1, .int (nI (n))), (2, .int (nI (1)))]) hx hb d_M_adapt_17 hl (Nat.le_of_ble_eq_true rfl) rfl (fun ls hl => ?_)
      refine lv_iload_n hx hb d_M_adapt_19 rfl (lv_at hl 1 rfl) ?_
      refine lv_iload_n hx hb d_M_adapt_20 rfl (lv_at hl 1 rfl) ?_
      refine lv_iload_n hx hb d_M_adapt_21 rfl (lv_at hl 3 rfl) ?_
      refine k_idiv hx hb (by omega) (by omega) (by omega) d_M_adapt_22 ?_
      refine k_iadd hx hb d_M_adapt_23 ?_
      refine lv_istore_n (lv' := [(3, .int (nI ((much / 700) + ((much / 700) / n)))), (4, .int (nI (0))), (0, .int (nI (much))), (1, .int (nI (n))), (2, .int (nI (1)))]) hx hb d_M_adapt_24 rfl hl (Nat.le_of_ble_eq_true rfl) rfl (fun ls hl => ?_)
      exact loop (((much / 700) + ((much / 700) / n)) + 1) ((much / 700) + ((much / 700) / n)) (0) (by omega) (by omega) (by rw [sp_adapt_t]) ls (lv_sub hl [1, 0] rfl)
end
section
/-! the desk's small methods -/
theorem xP_mk {cI cZ : ClassId} {q : Nat → Nat} {LB LT LN KP : List Nat} {r v : Option Value} {la le li ke dn ca ne : Nat → Int32} {sz wr lo ma at_ : Int32} (hv : v = r) (h1 : sz = nI LB.length) (h2 : wr = nI LT.length) (h3 : lo = nI LN.length) (h4 : ma = nI KP.length) (r1 : sp_rep la LB) (r2 : sp_rep le LT) (r3 : sp_rep li LN) (r4 : sp_rep ke KP) : xP cI cZ q LB LT LN KP r v (xW cI cZ q la le li ke dn ca ne sz wr lo ma at_) := ⟨hv, la, le, li, ke, dn, ca, ne, at_, by rw [h1, h2, h3, h4], r1, r2, r3, r4⟩
theorem mP_mk {cI : ClassId} {q : Nat → Nat} {LB LT LN KP : List Nat} {r v : Option Value} {sg ou li ba : Nat → Int32} {n le m sh : Int32} (hv : v = r) (h1 : n = nI LB.length) (h2 : le = nI LT.length) (h3 : m = nI LN.length) (h4 : sh = nI KP.length) (r1 : sp_rep sg LB) (r2 : sp_rep ou LT) (r3 : sp_rep li LN) (r4 : sp_rep ba KP) : mP cI q LB LT LN KP r v (mW cI q sg ou li ba n le m sh) := ⟨hv, sg, ou, li, ba, by rw [h1, h2, h3, h4], r1, r2, r3, r4⟩
def sp_add (L : List Nat) (v : Nat) : List Nat := if L.length = 24 then L else L ++ [v]
def sp_addb (L : List Nat) : Nat := if L.length = 24 then 0 else 1
theorem sp_add_f {L : List Nat} (h : L.length = 24) (v : Nat) : sp_add L v = L ∧ sp_addb L = 0 := by unfold sp_add sp_addb; rw [if_pos h, if_pos h]; exact ⟨rfl, rfl⟩
theorem sp_add_n {L : List Nat} (h : L.length ≠ 24) (v : Nat) : sp_add L v = L ++ [v] ∧ sp_addb L = 1 := by unfold sp_add sp_addb; rw [if_neg h, if_neg h]; exact ⟨rfl, rfl⟩
theorem k_nb (n : Nat) (h : n < 2) : narrow .boolean (.int (nI n)) = .int (nI n) := by
  rcases (show n = 0 ∨ n = 1 by omega) with rfl | rfl <;> rfl
theorem sp_addb_lt (L : List Nat) : sp_addb L < 2 := by unfold sp_addb; split <;> omega
def sp_sg (x : Int32) : Nat := if sp_c31 x % 1112064 < 55296 then sp_c31 x % 1112064 else sp_c31 x % 1112064 + 2048
theorem sp_sg_le (x : Int32) : sp_sg x ≤ 1114111 := by unfold sp_sg; split <;> omega
def sp_pick (L : List Nat) (x : Int32) : Int32 := if L.length = 0 then -1 else nI (L.getD (sp_c31 x % L.length) 0)
def sp_bc (x : Int32) : Nat := if sp_c31 x % 37 = 36 then 45 else sp_let (sp_c31 x % 37)
theorem sp_bc_le (x : Int32) : sp_bc x ≤ 122 := by
  unfold sp_bc
  split
  · omega
  · exact sp_let_le (by omega)
theorem k_min {a b : Nat} (ha : a < 2 ^ 31) (hb : b < 2 ^ 31) : (if nI b < nI a then nI b else nI a) = nI (min a b) := by
  by_cases h : b < a
  · rw [if_pos (nI_lt h ha), Nat.min_eq_right (by omega)]
  · rw [if_neg (nI_nlt (by omega) hb), Nat.min_eq_left (by omega)]
theorem sp_len1 (L : List Nat) (x : Nat) : nI (L.length + 1) = nI (L ++ [x]).length := by rw [List.length_append]; rfl
def sp_line (LN : List Nat) (x1 x2 x3 x4 : Int32) : List Nat := if 64 < LN.length + 4 then LN else LN ++ [sp_bc x1] ++ [sp_bc x2] ++ [sp_bc x3] ++ [sp_bc x4]
def sp_lineb (LN : List Nat) : Nat := if 64 < LN.length + 4 then 0 else 1
theorem sp_rep_tk {f : Nat → Int32} {L : List Nat} {k : Nat} (h : sp_rep f (L.take k)) (hk : k < L.length) : sp_rep (upd f k (nI (L.getD k 0))) (L.take (k + 1)) := by
  have e : L.take (k + 1) = L.take k ++ [L.getD k 0] := by
    rw [List.take_succ, List.getD_eq_getElem?_getD, List.getElem?_eq_getElem hk]
    simp
  have hl : (L.take k).length = k := by rw [List.length_take]; omega
  rw [e]
  have := sp_rep_app h (L.getD k 0)
  rw [hl] at this
  exact this
theorem sp_rep_tm {f : Nat → Int32} {L : List Nat} (h : sp_rep f (L.take (min L.length 64))) : sp_rep f (L.take 64) := by
  intro j hj
  have h1 := hj
  rw [List.length_take] at h1
  have := h j (by rw [List.length_take]; omega)
  rw [this, sp_gt (by omega), sp_gt (by omega)]
abbrev r_X_wipe : Room := { frames := 0, cells := 0, slots := 0, locals := 0 }
set_option maxHeartbeats 4000000 in
set_option maxRecDepth 100000 in
/-- wipe() -/
theorem c_X_wipe (l : Launch) (D : va_G) (cI cZ : ClassId) (q : Nat → Nat) (sz0 : Nat) (la le li ke dn ca ne : Nat → Int32) (at_ : Int32) (LB LT LN KP : List Nat) (hla : sp_rep la LB) (hle : sp_rep le LT) (hli : sp_rep li LN) (hke : sp_rep ke KP) : kM l y_X_wipe b_X_wipe 1 none r_X_wipe D (k_tys cI cZ) [.ref (q 0)] (xW cI cZ q la le li ke dn ca ne (nI (LB.length)) (nI (LT.length)) (nI (LN.length)) (nI (KP.length)) at_) sz0 (xP cI cZ q ([]) LT LN KP none) := by
  refine k_met (by decide) (Nat.le_of_ble_eq_true rfl) ?_
  intro p e s m args below meth c A Q C0 hr hlk hnm hA hK hP hD hS hQ ls hl
  obtain ⟨hx, hb, hml, hown, hts⟩ := id C0
  have hl : lv_has ls 1 [(0, .ref (q 0))] := hl
  refine lv_aload_n hx hb d_X_wipe_0 rfl (lv_at hl 0 rfl) ?_
  refine lv_iconst (v := nI (0)) hx hb d_X_wipe_1 (by decide) ?_
  refine x_put hx hb hts hown hK hP hD hS rfl 7 (Nat.le_of_ble_eq_true rfl) m1_19 rfl rfl rfl (Nat.le_of_ble_eq_true rfl) d_X_wipe_2 (fun H locs hP hD hS => ?_)
  have hP : va_P D classes (xW cI cZ q la le li ke dn ca ne (nI (0)) (nI (LT.length)) (nI (LN.length)) (nI (KP.length)) at_) H := hP
  have hD : va_D A (xW cI cZ q la le li ke dn ca ne (nI (0)) (nI (LT.length)) (nI (LN.length)) (nI (KP.length)) at_) := hD
  exact k_retv hx hb hr hlk hQ hK hP hD hS (xP_mk rfl rfl rfl rfl rfl (sp_rep_nil _) hle hli hke) d_X_wipe_5
abbrev r_X_clear : Room := { frames := 0, cells := 0, slots := 0, locals := 0 }
set_option maxHeartbeats 4000000 in
set_option maxRecDepth 100000 in
/-- clear() -/
theorem c_X_clear (l : Launch) (D : va_G) (cI cZ : ClassId) (q : Nat → Nat) (sz0 : Nat) (la le li ke dn ca ne : Nat → Int32) (at_ : Int32) (LB LT LN KP : List Nat) (hla : sp_rep la LB) (hle : sp_rep le LT) (hli : sp_rep li LN) (hke : sp_rep ke KP) : kM l y_X_clear b_X_clear 1 none r_X_clear D (k_tys cI cZ) [.ref (q 0)] (xW cI cZ q la le li ke dn ca ne (nI (LB.length)) (nI (LT.length)) (nI (LN.length)) (nI (KP.length)) at_) sz0 (xP cI cZ q LB LT ([]) KP none) := by
  refine k_met (by decide) (Nat.le_of_ble_eq_true rfl) ?_
  intro p e s m args below meth c A Q C0 hr hlk hnm hA hK hP hD hS hQ ls hl
  obtain ⟨hx, hb, hml, hown, hts⟩ := id C0
  have hl : lv_has ls 1 [(0, .ref (q 0))] := hl
  refine lv_aload_n hx hb d_X_clear_0 rfl (lv_at hl 0 rfl) ?_
  refine lv_iconst (v := nI (0)) hx hb d_X_clear_1 (by decide) ?_
  refine x_put hx hb hts hown hK hP hD hS rfl 9 (Nat.le_of_ble_eq_true rfl) m1_21 rfl rfl rfl (Nat.le_of_ble_eq_true rfl) d_X_clear_2 (fun H locs hP hD hS => ?_)
  have hP : va_P D classes (xW cI cZ q la le li ke dn ca ne (nI (LB.length)) (nI (LT.length)) (nI (0)) (nI (KP.length)) at_) H := hP
  have hD : va_D A (xW cI cZ q la le li ke dn ca ne (nI (LB.length)) (nI (LT.length)) (nI (0)) (nI (KP.length)) at_) := hD
  exact k_retv hx hb hr hlk hQ hK hP hD hS (xP_mk rfl rfl rfl rfl rfl hla hle (sp_rep_nil _) hke) d_X_clear_5
abbrev r_X_refused : Room := { frames := 0, cells := 0, slots := 0, locals := 0 }
set_option maxHeartbeats 4000000 in
set_option maxRecDepth 100000 in
/-- refused() -/
theorem c_X_refused (l : Launch) (D : va_G) (cI cZ : ClassId) (q : Nat → Nat) (sz0 : Nat) (la le li ke dn ca ne : Nat → Int32) (at_ : Int32) (LB LT LN KP : List Nat) (hla : sp_rep la LB) (hle : sp_rep le LT) (hli : sp_rep li LN) (hke : sp_rep ke KP) : kM l y_X_refused b_X_refused 1 (some .int) r_X_refused D (k_tys cI cZ) [.ref (q 0)] (xW cI cZ q la le li ke dn ca ne (nI (LB.length)) (nI (LT.length)) (nI (LN.length)) (nI (KP.length)) at_) sz0 (xP cI cZ q LB LT LN ([]) (some (.int (-1)))) := by
  refine k_met (by decide) (Nat.le_of_ble_eq_true rfl) ?_
  intro p e s m args below meth c A Q C0 hr hlk hnm hA hK hP hD hS hQ ls hl
  obtain ⟨hx, hb, hml, hown, hts⟩ := id C0
  have hl : lv_has ls 1 [(0, .ref (q 0))] := hl
  refine lv_aload_n hx hb d_X_refused_0 rfl (lv_at hl 0 rfl) ?_
  refine lv_iconst (v := nI (0)) hx hb d_X_refused_1 (by decide) ?_
  refine x_put hx hb hts hown hK hP hD hS rfl 10 (Nat.le_of_ble_eq_true rfl) m1_22 rfl rfl rfl (Nat.le_of_ble_eq_true rfl) d_X_refused_2 (fun H locs hP hD hS => ?_)
  have hP : va_P D classes (xW cI cZ q la le li ke dn ca ne (nI (LB.length)) (nI (LT.length)) (nI (LN.length)) (nI (0)) at_) H := hP
  have hD : va_D A (xW cI cZ q la le li ke dn ca ne (nI (LB.length)) (nI (LT.length)) (nI (LN.length)) (nI (0)) at_) := hD
  refine lv_iconst (v := -1) hx hb d_X_refused_5 (by decide) ?_
  exact k_reti hx hb hr hlk hQ hK hP hD hS (xP_mk rfl rfl rfl rfl rfl hla hle hli (sp_rep_nil _)) d_X_refused_6
abbrev r_X_add : Room := { frames := 0, cells := 0, slots := 0, locals := 0 }
set_option maxHeartbeats 4000000 in
set_option maxRecDepth 100000 in
/-- add(v) -/
theorem c_X_add (l : Launch) (D : va_G) (cI cZ : ClassId) (q : Nat → Nat) (sz0 : Nat) (la le li ke dn ca ne : Nat → Int32) (at_ : Int32) (LB LT LN KP : List Nat) (hla : sp_rep la LB) (hle : sp_rep le LT) (hli : sp_rep li LN) (hke : sp_rep ke KP) (v : Nat) (hL : LB.length ≤ 24) : kM l y_X_add b_X_add 2 (some .boolean) r_X_add D (k_tys cI cZ) [.ref (q 0), .int (nI (v))] (xW cI cZ q la le li ke dn ca ne (nI (LB.length)) (nI (LT.length)) (nI (LN.length)) (nI (KP.length)) at_) sz0 (xP cI cZ q (sp_add LB v) LT LN KP (some (.int (nI (sp_addb LB))))) := by
  refine k_met (by decide) (Nat.le_of_ble_eq_true rfl) ?_
  intro p e s m args below meth c A Q C0 hr hlk hnm hA hK hP hD hS hQ ls hl
  obtain ⟨hx, hb, hml, hown, hts⟩ := id C0
  have hl : lv_has ls 2 [(0, .ref (q 0)), (1, .int (nI (v)))] := hl
  refine lv_aload_n hx hb d_X_add_0 rfl (lv_at hl 0 rfl) ?_
  refine x_get (v := .int (nI (LB.length))) hx hb hts hown hK hP rfl 7 (Nat.le_of_ble_eq_true rfl) m1_19 rfl rfl d_X_add_1 ?_
  refine lv_bipush (v := nI (24)) hx hb d_X_add_4 (by decide) ?_
  refine k_icmp_ne (tgt := 11) hx hb d_X_add_6 (by decide) (by omega) (by omega) (fun c_6 => ?_) (fun c_6 => ?_)
  · refine lv_aload_n hx hb d_X_add_11 rfl (lv_at hl 0 rfl) ?_
    refine x_get (v := .ref (q 1)) hx hb hts hown hK hP rfl 0 (Nat.le_of_ble_eq_true rfl) m1_12 rfl rfl d_X_add_12 ?_
    refine lv_aload_n hx hb d_X_add_15 rfl (lv_at hl 0 rfl) ?_
    refine lv_dup hx hb d_X_add_16 rfl ?_
    refine x_get (v := .int (nI (LB.length))) hx hb hts hown hK hP rfl 7 (Nat.le_of_ble_eq_true rfl) m1_19 rfl rfl d_X_add_17 ?_
    refine lv_dup_x1 hx hb d_X_add_20 rfl rfl ?_
    refine lv_iconst (v := nI (1)) hx hb d_X_add_21 (by decide) ?_
    refine k_iadd hx hb d_X_add_22 ?_
    refine x_put hx hb hts hown hK hP hD hS rfl 7 (Nat.le_of_ble_eq_true rfl) m1_19 rfl rfl rfl (Nat.le_of_ble_eq_true rfl) d_X_add_23 (fun H locs hP hD hS => ?_)
    have hP : va_P D classes (xW cI cZ q la le li ke dn ca ne (nI ((LB.length) + 1)) (nI (LT.length)) (nI (LN.length)) (nI (KP.length)) at_) H := hP
    have hD : va_D A (xW cI cZ q la le li ke dn ca ne (nI ((LB.length) + 1)) (nI (LT.length)) (nI (LN.length)) (nI (KP.length)) at_) := hD
    refine lv_iload_n hx hb d_X_add_26 rfl (lv_at hl 1 rfl) ?_
    refine k_iast hx hb hK hP hD hS 1 0 rfl rfl (by omega) (by omega) d_X_add_27 (fun H locs hP hD hS => ?_)
    have hP : va_P D classes (xW cI cZ q (upd la (LB.length) (nI (v))) le li ke dn ca ne (nI ((LB.length) + 1)) (nI (LT.length)) (nI (LN.length)) (nI (KP.length)) at_) H := hP
    have hD : va_D A (xW cI cZ q (upd la (LB.length) (nI (v))) le li ke dn ca ne (nI ((LB.length) + 1)) (nI (LT.length)) (nI (LN.length)) (nI (KP.length)) at_) := hD
    refine lv_iconst (v := nI (1)) hx hb d_X_add_28 (by decide) ?_
    rw [show sp_add LB v = LB ++ [v] from (sp_add_n c_6 v).1, show sp_addb LB = 1 from (sp_add_n c_6 v).2] at hQ
    exact k_retz hx hb hr hlk hQ hK hP hD hS rfl (xP_mk rfl (sp_len1 _ _) rfl rfl rfl (sp_rep_app hla v) hle hli hke) d_X_add_29
  · refine lv_iconst (v := nI (0)) hx hb d_X_add_9 (by decide) ?_
    rw [show sp_add LB v = LB from (sp_add_f c_6 v).1, show sp_addb LB = 0 from (sp_add_f c_6 v).2] at hQ
    exact k_retz hx hb hr hlk hQ hK hP hD hS rfl (xP_mk rfl rfl rfl rfl rfl hla hle hli hke) d_X_add_10
abbrev r_X_put : Room := { frames := 1, cells := 0, slots := 0, locals := 21 }
set_option maxHeartbeats 4000000 in
set_option maxRecDepth 100000 in
/-- put(c) -/
theorem c_X_put (l : Launch) (D : va_G) (cI cZ : ClassId) (q : Nat → Nat) (sz0 : Nat) (la le li ke dn ca ne : Nat → Int32) (at_ : Int32) (LB LT LN KP : List Nat) (hla : sp_rep la LB) (hle : sp_rep le LT) (hli : sp_rep li LN) (hke : sp_rep ke KP) (x : Int32) (hL : LB.length ≤ 24) : kM l y_X_put b_X_put 3 (some .boolean) r_X_put D (k_tys cI cZ) [.ref (q 0), .int (x)] (xW cI cZ q la le li ke dn ca ne (nI (LB.length)) (nI (LT.length)) (nI (LN.length)) (nI (KP.length)) at_) sz0 (xP cI cZ q (sp_add LB (sp_sg x)) LT LN KP (some (.int (nI (sp_addb LB))))) := by
  refine k_met (by decide) (Nat.le_of_ble_eq_true rfl) ?_
  intro p e s m args below meth c A Q C0 hr hlk hnm hA hK hP hD hS hQ ls hl
  obtain ⟨hx, hb, hml, hown, hts⟩ := id C0
  have hl : lv_has ls 3 [(0, .ref (q 0)), (1, .int (x))] := hl
  refine lv_iload_n hx hb d_X_put_0 rfl (lv_at hl 1 rfl) ?_
  refine lv_ldc (v := nI 1112064) hx hb hown (hts _ m1_55) d_X_put_1 ?_
  refine k_callR [.int (x), .int (nI (1112064))] C0 (c_X_cut l x 1112064 (by omega) (by omega)) m1_58 m1_56 m1_1 m1_57 hd_X_cut ⟨(Nat.le_of_ble_eq_true rfl), (Nat.le_of_ble_eq_true rfl)⟩ rfl rfl rfl hl.1 (Nat.le_of_ble_eq_true rfl) d_X_put_3 ⟨Nat.zero_le _, Nat.zero_le _⟩ ?_
  refine lv_istore_n (lv' := [(2, .int (nI (sp_c31 x % 1112064))), (0, .ref (q 0)), (1, .int (x))]) hx hb d_X_put_6 rfl hl (Nat.le_of_ble_eq_true rfl) rfl (fun ls hl => ?_)
  have hm : sp_c31 x % 1112064 < 1112064 := Nat.mod_lt _ (by omega)
  refine lv_aload_n hx hb d_X_put_7 rfl (lv_at hl 1 rfl) ?_
  refine lv_iload_n hx hb d_X_put_8 rfl (lv_at hl 0 rfl) ?_
  refine lv_ldc (v := nI 55296) hx hb hown (hts _ m1_60) d_X_put_9 ?_
  refine k_icmp_ge (tgt := 18) hx hb d_X_put_11 (by decide) (by omega) (by omega) (fun c_11 => ?_) (fun c_11 => ?_)
  · refine lv_iload_n hx hb d_X_put_18 rfl (lv_at hl 0 rfl) ?_
    refine lv_sipush (v := nI (2048)) hx hb d_X_put_19 (by decide) ?_
    refine k_iadd hx hb d_X_put_22 ?_
    have ev : sp_sg x = (sp_c31 x % 1112064) + 2048 := by unfold sp_sg; first | rw [if_pos (by omega)] | rw [if_neg (by omega)]
    refine k_callV [.int (nI ((sp_c31 x % 1112064) + 2048))] C0 (c_X_add l D cI cZ q s.heap.size la le li ke dn ca ne at_ LB LT LN KP hla hle hli hke ((sp_c31 x % 1112064) + 2048) hL) m1_64 m1_61 m1_1 m1_63 mp_0 hd_X_add ⟨(Nat.le_of_ble_eq_true rfl), (Nat.le_of_ble_eq_true rfl)⟩ hK hP hD hS hA (ci := 0) rfl rfl rfl rfl hl.1 (Nat.le_of_ble_eq_true rfl) d_X_put_23 ⟨(Nat.le_of_ble_eq_true rfl), (Nat.le_of_ble_eq_true rfl)⟩ (fun v ws H locs hw hP hD hS => ?_)
    obtain ⟨rfl, la, le, li, ke, dn, ca, ne, at_, rfl, hla, hle, hli, hke⟩ := hw
    show W p l e r_X_put s m args below meth c H locs 0 0 Q (F0 m 26 ls [.int (nI (sp_addb LB))])
    have hP : va_P D classes (xW cI cZ q la le li ke dn ca ne (nI ((sp_add LB ((sp_c31 x % 1112064) + 2048)).length)) (nI (LT.length)) (nI (LN.length)) (nI (KP.length)) at_) H := hP
    have hD : va_D A (xW cI cZ q la le li ke dn ca ne (nI ((sp_add LB ((sp_c31 x % 1112064) + 2048)).length)) (nI (LT.length)) (nI (LN.length)) (nI (KP.length)) at_) := hD
    rw [ev] at hQ
    exact k_retz hx hb hr hlk hQ hK hP hD hS (k_nb _ (sp_addb_lt _)) (xP_mk rfl rfl rfl rfl rfl hla hle hli hke) d_X_put_26
  · refine lv_iload_n hx hb d_X_put_14 rfl (lv_at hl 0 rfl) ?_
    refine lv_goto (tgt := 23) hx hb d_X_put_15 (by decide) ?_
    have ev : sp_sg x = sp_c31 x % 1112064 := by unfold sp_sg; first | rw [if_pos (by omega)] | rw [if_neg (by omega)]
    refine k_callV [.int (nI (sp_c31 x % 1112064))] C0 (c_X_add l D cI cZ q s.heap.size la le li ke dn ca ne at_ LB LT LN KP hla hle hli hke (sp_c31 x % 1112064) hL) m1_64 m1_61 m1_1 m1_63 mp_0 hd_X_add ⟨(Nat.le_of_ble_eq_true rfl), (Nat.le_of_ble_eq_true rfl)⟩ hK hP hD hS hA (ci := 0) rfl rfl rfl rfl hl.1 (Nat.le_of_ble_eq_true rfl) d_X_put_23 ⟨(Nat.le_of_ble_eq_true rfl), (Nat.le_of_ble_eq_true rfl)⟩ (fun v ws H locs hw hP hD hS => ?_)
    obtain ⟨rfl, la, le, li, ke, dn, ca, ne, at_, rfl, hla, hle, hli, hke⟩ := hw
    show W p l e r_X_put s m args below meth c H locs 0 0 Q (F0 m 26 ls [.int (nI (sp_addb LB))])
    have hP : va_P D classes (xW cI cZ q la le li ke dn ca ne (nI ((sp_add LB (sp_c31 x % 1112064)).length)) (nI (LT.length)) (nI (LN.length)) (nI (KP.length)) at_) H := hP
    have hD : va_D A (xW cI cZ q la le li ke dn ca ne (nI ((sp_add LB (sp_c31 x % 1112064)).length)) (nI (LT.length)) (nI (LN.length)) (nI (KP.length)) at_) := hD
    rw [ev] at hQ
    exact k_retz hx hb hr hlk hQ hK hP hD hS (k_nb _ (sp_addb_lt _)) (xP_mk rfl rfl rfl rfl rfl hla hle hli hke) d_X_put_26
abbrev r_X_plain : Room := { frames := 1, cells := 0, slots := 0, locals := 21 }
set_option maxHeartbeats 4000000 in
set_option maxRecDepth 100000 in
/-- plain(c) -/
theorem c_X_plain (l : Launch) (D : va_G) (cI cZ : ClassId) (q : Nat → Nat) (sz0 : Nat) (la le li ke dn ca ne : Nat → Int32) (at_ : Int32) (LB LT LN KP : List Nat) (hla : sp_rep la LB) (hle : sp_rep le LT) (hli : sp_rep li LN) (hke : sp_rep ke KP) (x : Int32) (hL : LB.length ≤ 24) : kM l y_X_plain b_X_plain 2 (some .boolean) r_X_plain D (k_tys cI cZ) [.ref (q 0), .int (x)] (xW cI cZ q la le li ke dn ca ne (nI (LB.length)) (nI (LT.length)) (nI (LN.length)) (nI (KP.length)) at_) sz0 (xP cI cZ q (sp_add LB (97 + sp_c31 x % 26)) LT LN KP (some (.int (nI (sp_addb LB))))) := by
  refine k_met (by decide) (Nat.le_of_ble_eq_true rfl) ?_
  intro p e s m args below meth c A Q C0 hr hlk hnm hA hK hP hD hS hQ ls hl
  obtain ⟨hx, hb, hml, hown, hts⟩ := id C0
  have hl : lv_has ls 2 [(0, .ref (q 0)), (1, .int (x))] := hl
  refine lv_aload_n hx hb d_X_plain_0 rfl (lv_at hl 0 rfl) ?_
  refine lv_bipush (v := nI (97)) hx hb d_X_plain_1 (by decide) ?_
  refine lv_iload_n hx hb d_X_plain_3 rfl (lv_at hl 1 rfl) ?_
  refine lv_bipush (v := nI (26)) hx hb d_X_plain_4 (by decide) ?_
  refine k_callR [.int (x), .int (nI (26))] C0 (c_X_cut l x 26 (by omega) (by omega)) m1_58 m1_56 m1_1 m1_57 hd_X_cut ⟨(Nat.le_of_ble_eq_true rfl), (Nat.le_of_ble_eq_true rfl)⟩ rfl rfl rfl hl.1 (Nat.le_of_ble_eq_true rfl) d_X_plain_6 ⟨Nat.zero_le _, Nat.zero_le _⟩ ?_
  refine k_iadd hx hb d_X_plain_9 ?_
  refine k_callV [.int (nI (97 + (sp_c31 x % 26)))] C0 (c_X_add l D cI cZ q s.heap.size la le li ke dn ca ne at_ LB LT LN KP hla hle hli hke (97 + (sp_c31 x % 26)) hL) m1_64 m1_61 m1_1 m1_63 mp_0 hd_X_add ⟨(Nat.le_of_ble_eq_true rfl), (Nat.le_of_ble_eq_true rfl)⟩ hK hP hD hS hA (ci := 0) rfl rfl rfl rfl hl.1 (Nat.le_of_ble_eq_true rfl) d_X_plain_10 ⟨(Nat.le_of_ble_eq_true rfl), (Nat.le_of_ble_eq_true rfl)⟩ (fun v ws H locs hw hP hD hS => ?_)
  obtain ⟨rfl, la, le, li, ke, dn, ca, ne, at_, rfl, hla, hle, hli, hke⟩ := hw
  show W p l e r_X_plain s m args below meth c H locs 0 0 Q (F0 m 13 ls [.int (nI (sp_addb LB))])
  have hP : va_P D classes (xW cI cZ q la le li ke dn ca ne (nI ((sp_add LB (97 + (sp_c31 x % 26))).length)) (nI (LT.length)) (nI (LN.length)) (nI (KP.length)) at_) H := hP
  have hD : va_D A (xW cI cZ q la le li ke dn ca ne (nI ((sp_add LB (97 + (sp_c31 x % 26))).length)) (nI (LT.length)) (nI (LN.length)) (nI (KP.length)) at_) := hD
  exact k_retz hx hb hr hlk hQ hK hP hD hS (k_nb _ (sp_addb_lt _)) (xP_mk rfl rfl rfl rfl rfl hla hle hli hke) d_X_plain_13
abbrev r_X_pick : Room := { frames := 1, cells := 0, slots := 0, locals := 21 }
set_option maxHeartbeats 4000000 in
set_option maxRecDepth 100000 in
/-- pick -/
theorem c_X_pick_le (l : Launch) (D : va_G) (cI cZ : ClassId) (q : Nat → Nat) (sz0 : Nat) (la le li ke dn ca ne : Nat → Int32) (at_ : Int32) (LB LT LN KP : List Nat) (hla : sp_rep la LB) (hle : sp_rep le LT) (hli : sp_rep li LN) (hke : sp_rep ke KP) (x : Int32) (hL : LT.length ≤ 256) : kM l y_X_pick b_X_pick 3 (some .int) r_X_pick D (k_tys cI cZ) [.ref (q 2), .int (nI (LT.length)), .int (x)] (xW cI cZ q la le li ke dn ca ne (nI (LB.length)) (nI (LT.length)) (nI (LN.length)) (nI (KP.length)) at_) sz0 (xP cI cZ q LB LT LN KP (some (.int (sp_pick LT x)))) := by
  refine k_met (by decide) (Nat.le_of_ble_eq_true rfl) ?_
  intro p e s m args below meth c A Q C0 hr hlk hnm hA hK hP hD hS hQ ls hl
  obtain ⟨hx, hb, hml, hown, hts⟩ := id C0
  have hl : lv_has ls 3 [(0, .ref (q 2)), (1, .int (nI (LT.length))), (2, .int (x))] := hl
  refine lv_iload_n hx hb d_X_pick_0 rfl (lv_at hl 1 rfl) ?_
  refine k_if_ne (tgt := 8) hx hb d_X_pick_1 (by decide) (by omega) (fun c_1 => ?_) (fun c_1 => ?_)
  · refine lv_aload_n hx hb d_X_pick_8 rfl (lv_at hl 0 rfl) ?_
    refine lv_iload_n hx hb d_X_pick_9 rfl (lv_at hl 2 rfl) ?_
    refine lv_iload_n hx hb d_X_pick_10 rfl (lv_at hl 1 rfl) ?_
    refine k_callR [.int (x), .int (nI (LT.length))] C0 (c_X_cut l x (LT.length) (by omega) (by omega)) m1_58 m1_56 m1_1 m1_57 hd_X_cut ⟨(Nat.le_of_ble_eq_true rfl), (Nat.le_of_ble_eq_true rfl)⟩ rfl rfl rfl hl.1 (Nat.le_of_ble_eq_true rfl) d_X_pick_11 ⟨Nat.zero_le _, Nat.zero_le _⟩ ?_
    have hm : sp_c31 x % LT.length < LT.length := Nat.mod_lt _ (by omega)
    refine k_iald hx hb hK hP 2 0 rfl rfl (by omega) (by omega) d_X_pick_14 ?_
    refine k_cvi (show _ = nI (LT.getD (sp_c31 x % (LT.length)) 0) from hle _ (by omega)) ?_
    have ev : sp_pick LT x = nI (LT.getD (sp_c31 x % (LT.length)) 0) := by unfold sp_pick; first | rw [if_pos (by omega)] | rw [if_neg (by omega)]
    rw [ev] at hQ
    exact k_reti hx hb hr hlk hQ hK hP hD hS (xP_mk rfl rfl rfl rfl rfl hla hle hli hke) d_X_pick_15
  · refine lv_iconst (v := -1) hx hb d_X_pick_4 (by decide) ?_
    refine lv_goto (tgt := 15) hx hb d_X_pick_5 (by decide) ?_
    have ev : sp_pick LT x = -1 := by unfold sp_pick; first | rw [if_pos (by omega)] | rw [if_neg (by omega)]
    rw [ev] at hQ
    exact k_reti hx hb hr hlk hQ hK hP hD hS (xP_mk rfl rfl rfl rfl rfl hla hle hli hke) d_X_pick_15
set_option maxHeartbeats 4000000 in
set_option maxRecDepth 100000 in
/-- pick -/
theorem c_X_pick_ke (l : Launch) (D : va_G) (cI cZ : ClassId) (q : Nat → Nat) (sz0 : Nat) (la le li ke dn ca ne : Nat → Int32) (at_ : Int32) (LB LT LN KP : List Nat) (hla : sp_rep la LB) (hle : sp_rep le LT) (hli : sp_rep li LN) (hke : sp_rep ke KP) (x : Int32) (hL : KP.length ≤ 64) : kM l y_X_pick b_X_pick 3 (some .int) r_X_pick D (k_tys cI cZ) [.ref (q 4), .int (nI (KP.length)), .int (x)] (xW cI cZ q la le li ke dn ca ne (nI (LB.length)) (nI (LT.length)) (nI (LN.length)) (nI (KP.length)) at_) sz0 (xP cI cZ q LB LT LN KP (some (.int (sp_pick KP x)))) := by
  refine k_met (by decide) (Nat.le_of_ble_eq_true rfl) ?_
  intro p e s m args below meth c A Q C0 hr hlk hnm hA hK hP hD hS hQ ls hl
  obtain ⟨hx, hb, hml, hown, hts⟩ := id C0
  have hl : lv_has ls 3 [(0, .ref (q 4)), (1, .int (nI (KP.length))), (2, .int (x))] := hl
  refine lv_iload_n hx hb d_X_pick_0 rfl (lv_at hl 1 rfl) ?_
  refine k_if_ne (tgt := 8) hx hb d_X_pick_1 (by decide) (by omega) (fun c_1 => ?_) (fun c_1 => ?_)
  · refine lv_aload_n hx hb d_X_pick_8 rfl (lv_at hl 0 rfl) ?_
    refine lv_iload_n hx hb d_X_pick_9 rfl (lv_at hl 2 rfl) ?_
    refine lv_iload_n hx hb d_X_pick_10 rfl (lv_at hl 1 rfl) ?_
    refine k_callR [.int (x), .int (nI (KP.length))] C0 (c_X_cut l x (KP.length) (by omega) (by omega)) m1_58 m1_56 m1_1 m1_57 hd_X_cut ⟨(Nat.le_of_ble_eq_true rfl), (Nat.le_of_ble_eq_true rfl)⟩ rfl rfl rfl hl.1 (Nat.le_of_ble_eq_true rfl) d_X_pick_11 ⟨Nat.zero_le _, Nat.zero_le _⟩ ?_
    have hm : sp_c31 x % KP.length < KP.length := Nat.mod_lt _ (by omega)
    refine k_iald hx hb hK hP 4 0 rfl rfl (by omega) (by omega) d_X_pick_14 ?_
    refine k_cvi (show _ = nI (KP.getD (sp_c31 x % (KP.length)) 0) from hke _ (by omega)) ?_
    have ev : sp_pick KP x = nI (KP.getD (sp_c31 x % (KP.length)) 0) := by unfold sp_pick; first | rw [if_pos (by omega)] | rw [if_neg (by omega)]
    rw [ev] at hQ
    exact k_reti hx hb hr hlk hQ hK hP hD hS (xP_mk rfl rfl rfl rfl rfl hla hle hli hke) d_X_pick_15
  · refine lv_iconst (v := -1) hx hb d_X_pick_4 (by decide) ?_
    refine lv_goto (tgt := 15) hx hb d_X_pick_5 (by decide) ?_
    have ev : sp_pick KP x = -1 := by unfold sp_pick; first | rw [if_pos (by omega)] | rw [if_neg (by omega)]
    rw [ev] at hQ
    exact k_reti hx hb hr hlk hQ hK hP hD hS (xP_mk rfl rfl rfl rfl rfl hla hle hli hke) d_X_pick_15
abbrev r_X_letter : Room := { frames := 2, cells := 0, slots := 0, locals := 43 }
set_option maxHeartbeats 4000000 in
set_option maxRecDepth 100000 in
/-- X_letter -/
theorem c_X_letter (l : Launch) (D : va_G) (cI cZ : ClassId) (q : Nat → Nat) (sz0 : Nat) (la le li ke dn ca ne : Nat → Int32) (at_ : Int32) (LB LT LN KP : List Nat) (hla : sp_rep la LB) (hle : sp_rep le LT) (hli : sp_rep li LN) (hke : sp_rep ke KP) (x : Int32) (hL : LT.length ≤ 256) : kM l y_X_letter b_X_letter 2 (some .int) r_X_letter D (k_tys cI cZ) [.ref (q 0), .int (x)] (xW cI cZ q la le li ke dn ca ne (nI (LB.length)) (nI (LT.length)) (nI (LN.length)) (nI (KP.length)) at_) sz0 (xP cI cZ q LB LT LN KP (some (.int (sp_pick LT x)))) := by
  refine k_met (by decide) (Nat.le_of_ble_eq_true rfl) ?_
  intro p e s m args below meth c A Q C0 hr hlk hnm hA hK hP hD hS hQ ls hl
  obtain ⟨hx, hb, hml, hown, hts⟩ := id C0
  have hl : lv_has ls 2 [(0, .ref (q 0)), (1, .int (x))] := hl
  refine lv_aload_n hx hb d_X_letter_0 rfl (lv_at hl 0 rfl) ?_
  refine x_get (v := .ref (q 2)) hx hb hts hown hK hP rfl 1 (Nat.le_of_ble_eq_true rfl) m1_13 rfl rfl d_X_letter_1 ?_
  refine lv_aload_n hx hb d_X_letter_4 rfl (lv_at hl 0 rfl) ?_
  refine x_get (v := .int (nI (LT.length))) hx hb hts hown hK hP rfl 8 (Nat.le_of_ble_eq_true rfl) m1_20 rfl rfl d_X_letter_5 ?_
  refine lv_iload_n hx hb d_X_letter_8 rfl (lv_at hl 1 rfl) ?_
  refine k_callS [.ref (q 2), .int (nI (LT.length)), .int (x)] C0 (c_X_pick_le l D cI cZ q s.heap.size la le li ke dn ca ne at_ LB LT LN KP hla hle hli hke x hL) m1_110 m1_108 m1_1 m1_109 hd_X_pick ⟨(Nat.le_of_ble_eq_true rfl), (Nat.le_of_ble_eq_true rfl)⟩ hK hP hD hS hA rfl hl.1 (Nat.le_of_ble_eq_true rfl) d_X_letter_9 ⟨(Nat.le_of_ble_eq_true rfl), (Nat.le_of_ble_eq_true rfl)⟩ (fun v ws H locs hw hP hD hS => ?_)
  obtain ⟨rfl, la, le, li, ke, dn, ca, ne, at_, rfl, hla, hle, hli, hke⟩ := hw
  show W p l e r_X_letter s m args below meth c H locs 0 0 Q (F0 m 12 ls [.int (sp_pick LT x)])
  have hP : va_P D classes (xW cI cZ q la le li ke dn ca ne (nI (LB.length)) (nI (LT.length)) (nI (LN.length)) (nI (KP.length)) at_) H := hP
  have hD : va_D A (xW cI cZ q la le li ke dn ca ne (nI (LB.length)) (nI (LT.length)) (nI (LN.length)) (nI (KP.length)) at_) := hD
  exact k_reti hx hb hr hlk hQ hK hP hD hS (xP_mk rfl rfl rfl rfl rfl hla hle hli hke) d_X_letter_12
abbrev r_X_sign : Room := { frames := 2, cells := 0, slots := 0, locals := 43 }
set_option maxHeartbeats 4000000 in
set_option maxRecDepth 100000 in
/-- X_sign -/
theorem c_X_sign (l : Launch) (D : va_G) (cI cZ : ClassId) (q : Nat → Nat) (sz0 : Nat) (la le li ke dn ca ne : Nat → Int32) (at_ : Int32) (LB LT LN KP : List Nat) (hla : sp_rep la LB) (hle : sp_rep le LT) (hli : sp_rep li LN) (hke : sp_rep ke KP) (x : Int32) (hL : KP.length ≤ 64) : kM l y_X_sign b_X_sign 2 (some .int) r_X_sign D (k_tys cI cZ) [.ref (q 0), .int (x)] (xW cI cZ q la le li ke dn ca ne (nI (LB.length)) (nI (LT.length)) (nI (LN.length)) (nI (KP.length)) at_) sz0 (xP cI cZ q LB LT LN KP (some (.int (sp_pick KP x)))) := by
  refine k_met (by decide) (Nat.le_of_ble_eq_true rfl) ?_
  intro p e s m args below meth c A Q C0 hr hlk hnm hA hK hP hD hS hQ ls hl
  obtain ⟨hx, hb, hml, hown, hts⟩ := id C0
  have hl : lv_has ls 2 [(0, .ref (q 0)), (1, .int (x))] := hl
  refine lv_aload_n hx hb d_X_sign_0 rfl (lv_at hl 0 rfl) ?_
  refine x_get (v := .ref (q 4)) hx hb hts hown hK hP rfl 3 (Nat.le_of_ble_eq_true rfl) m1_15 rfl rfl d_X_sign_1 ?_
  refine lv_aload_n hx hb d_X_sign_4 rfl (lv_at hl 0 rfl) ?_
  refine x_get (v := .int (nI (KP.length))) hx hb hts hown hK hP rfl 10 (Nat.le_of_ble_eq_true rfl) m1_22 rfl rfl d_X_sign_5 ?_
  refine lv_iload_n hx hb d_X_sign_8 rfl (lv_at hl 1 rfl) ?_
  refine k_callS [.ref (q 4), .int (nI (KP.length)), .int (x)] C0 (c_X_pick_ke l D cI cZ q s.heap.size la le li ke dn ca ne at_ LB LT LN KP hla hle hli hke x hL) m1_110 m1_108 m1_1 m1_109 hd_X_pick ⟨(Nat.le_of_ble_eq_true rfl), (Nat.le_of_ble_eq_true rfl)⟩ hK hP hD hS hA rfl hl.1 (Nat.le_of_ble_eq_true rfl) d_X_sign_9 ⟨(Nat.le_of_ble_eq_true rfl), (Nat.le_of_ble_eq_true rfl)⟩ (fun v ws H locs hw hP hD hS => ?_)
  obtain ⟨rfl, la, le, li, ke, dn, ca, ne, at_, rfl, hla, hle, hli, hke⟩ := hw
  show W p l e r_X_sign s m args below meth c H locs 0 0 Q (F0 m 12 ls [.int (sp_pick KP x)])
  have hP : va_P D classes (xW cI cZ q la le li ke dn ca ne (nI (LB.length)) (nI (LT.length)) (nI (LN.length)) (nI (KP.length)) at_) H := hP
  have hD : va_D A (xW cI cZ q la le li ke dn ca ne (nI (LB.length)) (nI (LT.length)) (nI (LN.length)) (nI (KP.length)) at_) := hD
  exact k_reti hx hb hr hlk hQ hK hP hD hS (xP_mk rfl rfl rfl rfl rfl hla hle hli hke) d_X_sign_12
abbrev r_X_digit : Room := { frames := 1, cells := 0, slots := 0, locals := 20 }
set_option maxHeartbeats 4000000 in
set_option maxRecDepth 100000 in
/-- digit(d) -/
theorem c_X_digit (l : Launch) (D : va_G) (cI cZ : ClassId) (q : Nat → Nat) (sz0 : Nat) (la le li ke dn ca ne : Nat → Int32) (sz lo ma at_ : Int32) (LT : List Nat) (hle : sp_rep le LT) (d : Nat) (hd : d < 2 ^ 30) (hL : LT.length < 256) : kM l y_X_digit b_X_digit 2 none r_X_digit D (k_tys cI cZ) [.ref (q 0), .int (nI (d))] (xW cI cZ q la le li ke dn ca ne sz (nI (LT.length)) lo ma at_) sz0 (fun v ws => v = none ∧ ∃ le1, ws = xW cI cZ q la le1 li ke dn ca ne sz (nI (LT.length + 1)) lo ma at_ ∧ sp_rep le1 (LT ++ [sp_let d])) := by
  refine k_met (by decide) (Nat.le_of_ble_eq_true rfl) ?_
  intro p e s m args below meth c A Q C0 hr hlk hnm hA hK hP hD hS hQ ls hl
  obtain ⟨hx, hb, hml, hown, hts⟩ := id C0
  have hl : lv_has ls 2 [(0, .ref (q 0)), (1, .int (nI (d)))] := hl
  refine lv_aload_n hx hb d_X_digit_0 rfl (lv_at hl 0 rfl) ?_
  refine x_get (v := .ref (q 2)) hx hb hts hown hK hP rfl 1 (Nat.le_of_ble_eq_true rfl) m1_13 rfl rfl d_X_digit_1 ?_
  refine lv_aload_n hx hb d_X_digit_4 rfl (lv_at hl 0 rfl) ?_
  refine lv_dup hx hb d_X_digit_5 rfl ?_
  refine x_get (v := .int (nI (LT.length))) hx hb hts hown hK hP rfl 8 (Nat.le_of_ble_eq_true rfl) m1_20 rfl rfl d_X_digit_6 ?_
  refine lv_dup_x1 hx hb d_X_digit_9 rfl rfl ?_
  refine lv_iconst (v := nI (1)) hx hb d_X_digit_10 (by decide) ?_
  refine k_iadd hx hb d_X_digit_11 ?_
  refine x_put hx hb hts hown hK hP hD hS rfl 8 (Nat.le_of_ble_eq_true rfl) m1_20 rfl rfl rfl (Nat.le_of_ble_eq_true rfl) d_X_digit_12 (fun H locs hP hD hS => ?_)
  have hP : va_P D classes (xW cI cZ q la le li ke dn ca ne sz (nI ((LT.length) + 1)) lo ma at_) H := hP
  have hD : va_D A (xW cI cZ q la le li ke dn ca ne sz (nI ((LT.length) + 1)) lo ma at_) := hD
  refine lv_iload_n hx hb d_X_digit_15 rfl (lv_at hl 1 rfl) ?_
  refine k_callR [.int (nI (d))] C0 (c_X_letterOf l d hd) m1_94 m1_92 m1_1 m1_93 hd_X_letterOf ⟨(Nat.le_of_ble_eq_true rfl), (Nat.le_of_ble_eq_true rfl)⟩ rfl rfl rfl hl.1 (Nat.le_of_ble_eq_true rfl) d_X_digit_16 ⟨Nat.zero_le _, Nat.zero_le _⟩ ?_
  refine k_iast hx hb hK hP hD hS 2 0 rfl rfl (by omega) (by omega) d_X_digit_19 (fun H locs hP hD hS => ?_)
  have hP : va_P D classes (xW cI cZ q la (upd le (LT.length) (nI (sp_let d))) li ke dn ca ne sz (nI ((LT.length) + 1)) lo ma at_) H := hP
  have hD : va_D A (xW cI cZ q la (upd le (LT.length) (nI (sp_let d))) li ke dn ca ne sz (nI ((LT.length) + 1)) lo ma at_) := hD
  exact k_retv hx hb hr hlk hQ hK hP hD hS (⟨rfl, _, rfl, sp_rep_app hle _⟩) d_X_digit_20
abbrev r_X_behind : Room := { frames := 1, cells := 0, slots := 0, locals := 21 }
set_option maxHeartbeats 4000000 in
set_option maxRecDepth 100000 in
/-- behind(v) -/
theorem c_X_behind (l : Launch) (D : va_G) (cI cZ : ClassId) (q : Nat → Nat) (sz0 : Nat) (la le li ke dn ca ne : Nat → Int32) (at_ : Int32) (LB LT LN KP : List Nat) (hla : sp_rep la LB) (hle : sp_rep le LT) (hli : sp_rep li LN) (hke : sp_rep ke KP) (x : Int32) (hL : LN.length < 64) : kM l y_X_behind b_X_behind 3 none r_X_behind D (k_tys cI cZ) [.ref (q 0), .int (x)] (xW cI cZ q la le li ke dn ca ne (nI (LB.length)) (nI (LT.length)) (nI (LN.length)) (nI (KP.length)) at_) sz0 (xP cI cZ q LB LT (LN ++ [sp_bc x]) KP none) := by
  refine k_met (by decide) (Nat.le_of_ble_eq_true rfl) ?_
  intro p e s m args below meth c A Q C0 hr hlk hnm hA hK hP hD hS hQ ls hl
  obtain ⟨hx, hb, hml, hown, hts⟩ := id C0
  have hl : lv_has ls 3 [(0, .ref (q 0)), (1, .int (x))] := hl
  refine lv_iload_n hx hb d_X_behind_0 rfl (lv_at hl 1 rfl) ?_
  refine lv_bipush (v := nI (37)) hx hb d_X_behind_1 (by decide) ?_
  refine k_callR [.int (x), .int (nI (37))] C0 (c_X_cut l x 37 (by omega) (by omega)) m1_58 m1_56 m1_1 m1_57 hd_X_cut ⟨(Nat.le_of_ble_eq_true rfl), (Nat.le_of_ble_eq_true rfl)⟩ rfl rfl rfl hl.1 (Nat.le_of_ble_eq_true rfl) d_X_behind_3 ⟨Nat.zero_le _, Nat.zero_le _⟩ ?_
  refine lv_istore_n (lv' := [(2, .int (nI (sp_c31 x % 37))), (0, .ref (q 0)), (1, .int (x))]) hx hb d_X_behind_6 rfl hl (Nat.le_of_ble_eq_true rfl) rfl (fun ls hl => ?_)
  refine lv_aload_n hx hb d_X_behind_7 rfl (lv_at hl 1 rfl) ?_
  refine x_get (v := .ref (q 3)) hx hb hts hown hK hP rfl 2 (Nat.le_of_ble_eq_true rfl) m1_14 rfl rfl d_X_behind_8 ?_
  refine lv_aload_n hx hb d_X_behind_11 rfl (lv_at hl 1 rfl) ?_
  refine lv_dup hx hb d_X_behind_12 rfl ?_
  refine x_get (v := .int (nI (LN.length))) hx hb hts hown hK hP rfl 9 (Nat.le_of_ble_eq_true rfl) m1_21 rfl rfl d_X_behind_13 ?_
  refine lv_dup_x1 hx hb d_X_behind_16 rfl rfl ?_
  refine lv_iconst (v := nI (1)) hx hb d_X_behind_17 (by decide) ?_
  refine k_iadd hx hb d_X_behind_18 ?_
  refine x_put hx hb hts hown hK hP hD hS rfl 9 (Nat.le_of_ble_eq_true rfl) m1_21 rfl rfl rfl (Nat.le_of_ble_eq_true rfl) d_X_behind_19 (fun H locs hP hD hS => ?_)
  have hP : va_P D classes (xW cI cZ q la le li ke dn ca ne (nI (LB.length)) (nI (LT.length)) (nI ((LN.length) + 1)) (nI (KP.length)) at_) H := hP
  have hD : va_D A (xW cI cZ q la le li ke dn ca ne (nI (LB.length)) (nI (LT.length)) (nI ((LN.length) + 1)) (nI (KP.length)) at_) := hD
  refine lv_iload_n hx hb d_X_behind_22 rfl (lv_at hl 0 rfl) ?_
  refine lv_bipush (v := nI (36)) hx hb d_X_behind_23 (by decide) ?_
  refine k_icmp_ne (tgt := 33) hx hb d_X_behind_25 (by decide) (by omega) (by omega) (fun c_25 => ?_) (fun c_25 => ?_)
  · refine lv_iload_n hx hb d_X_behind_33 rfl (lv_at hl 0 rfl) ?_
    refine k_callR [.int (nI (sp_c31 x % 37))] C0 (c_X_letterOf l (sp_c31 x % 37) (by omega)) m1_94 m1_92 m1_1 m1_93 hd_X_letterOf ⟨(Nat.le_of_ble_eq_true rfl), (Nat.le_of_ble_eq_true rfl)⟩ rfl rfl rfl hl.1 (Nat.le_of_ble_eq_true rfl) d_X_behind_34 ⟨Nat.zero_le _, Nat.zero_le _⟩ ?_
    have ev : sp_bc x = sp_let (sp_c31 x % 37) := by unfold sp_bc; first | rw [if_pos (by omega)] | rw [if_neg (by omega)]
    refine k_iast hx hb hK hP hD hS 3 0 rfl rfl (by omega) (by omega) d_X_behind_37 (fun H locs hP hD hS => ?_)
    have hP : va_P D classes (xW cI cZ q la le (upd li (LN.length) (nI (sp_let (sp_c31 x % 37)))) ke dn ca ne (nI (LB.length)) (nI (LT.length)) (nI ((LN.length) + 1)) (nI (KP.length)) at_) H := hP
    have hD : va_D A (xW cI cZ q la le (upd li (LN.length) (nI (sp_let (sp_c31 x % 37)))) ke dn ca ne (nI (LB.length)) (nI (LT.length)) (nI ((LN.length) + 1)) (nI (KP.length)) at_) := hD
    rw [ev] at hQ
    exact k_retv hx hb hr hlk hQ hK hP hD hS (xP_mk rfl rfl rfl (sp_len1 _ _) rfl hla hle (sp_rep_app hli _) hke) d_X_behind_38
  · refine lv_bipush (v := nI (45)) hx hb d_X_behind_28 (by decide) ?_
    refine lv_goto (tgt := 37) hx hb d_X_behind_30 (by decide) ?_
    have ev : sp_bc x = 45 := by unfold sp_bc; first | rw [if_pos (by omega)] | rw [if_neg (by omega)]
    refine k_iast hx hb hK hP hD hS 3 0 rfl rfl (by omega) (by omega) d_X_behind_37 (fun H locs hP hD hS => ?_)
    have hP : va_P D classes (xW cI cZ q la le (upd li (LN.length) (nI (45))) ke dn ca ne (nI (LB.length)) (nI (LT.length)) (nI ((LN.length) + 1)) (nI (KP.length)) at_) H := hP
    have hD : va_D A (xW cI cZ q la le (upd li (LN.length) (nI (45))) ke dn ca ne (nI (LB.length)) (nI (LT.length)) (nI ((LN.length) + 1)) (nI (KP.length)) at_) := hD
    rw [ev] at hQ
    exact k_retv hx hb hr hlk hQ hK hP hD hS (xP_mk rfl rfl rfl (sp_len1 _ _) rfl hla hle (sp_rep_app hli _) hke) d_X_behind_38
abbrev r_X_line : Room := { frames := 2, cells := 0, slots := 0, locals := 43 }
set_option maxHeartbeats 4000000 in
set_option maxRecDepth 100000 in
/-- line(a, b, c, d) -/
theorem c_X_line (l : Launch) (D : va_G) (cI cZ : ClassId) (q : Nat → Nat) (sz0 : Nat) (la le li ke dn ca ne : Nat → Int32) (at_ : Int32) (LB LT LN KP : List Nat) (hla : sp_rep la LB) (hle : sp_rep le LT) (hli : sp_rep li LN) (hke : sp_rep ke KP) (x1 x2 x3 x4 : Int32) (hL : LN.length ≤ 64) : kM l y_X_line b_X_line 5 (some .boolean) r_X_line D (k_tys cI cZ) [.ref (q 0), .int (x1), .int (x2), .int (x3), .int (x4)] (xW cI cZ q la le li ke dn ca ne (nI (LB.length)) (nI (LT.length)) (nI (LN.length)) (nI (KP.length)) at_) sz0 (xP cI cZ q LB LT (sp_line LN x1 x2 x3 x4) KP (some (.int (nI (sp_lineb LN))))) := by
  refine k_met (by decide) (Nat.le_of_ble_eq_true rfl) ?_
  intro p e s m args below meth c A Q C0 hr hlk hnm hA hK hP hD hS hQ ls hl
  obtain ⟨hx, hb, hml, hown, hts⟩ := id C0
  have hl : lv_has ls 5 [(0, .ref (q 0)), (1, .int (x1)), (2, .int (x2)), (3, .int (x3)), (4, .int (x4))] := hl
  refine lv_aload_n hx hb d_X_line_0 rfl (lv_at hl 0 rfl) ?_
  refine x_get (v := .int (nI (LN.length))) hx hb hts hown hK hP rfl 9 (Nat.le_of_ble_eq_true rfl) m1_21 rfl rfl d_X_line_1 ?_
  refine lv_iconst (v := nI (4)) hx hb d_X_line_4 (by decide) ?_
  refine k_iadd hx hb d_X_line_5 ?_
  refine lv_bipush (v := nI (64)) hx hb d_X_line_6 (by decide) ?_
  refine k_icmp_le (tgt := 13) hx hb d_X_line_8 (by decide) (by omega) (by omega) (fun c_8 => ?_) (fun c_8 => ?_)
  · refine lv_aload_n hx hb d_X_line_13 rfl (lv_at hl 0 rfl) ?_
    refine lv_iload_n hx hb d_X_line_14 rfl (lv_at hl 1 rfl) ?_
    refine k_callV [.int (x1)] C0 (c_X_behind l D cI cZ q s.heap.size la le li ke dn ca ne at_ LB LT LN KP hla hle hli hke x1 (by (try simp only [List.length_append, List.length_singleton]); omega)) m1_118 m1_115 m1_1 m1_117 mp_4 hd_X_behind ⟨(Nat.le_of_ble_eq_true rfl), (Nat.le_of_ble_eq_true rfl)⟩ hK hP hD hS hA (ci := 0) rfl rfl rfl rfl hl.1 (Nat.le_of_ble_eq_true rfl) d_X_line_15 ⟨(Nat.le_of_ble_eq_true rfl), (Nat.le_of_ble_eq_true rfl)⟩ (fun v ws H locs hw hP hD hS => ?_)
    obtain ⟨rfl, la, le, li, ke, dn, ca, ne, at_, rfl, hla, hle, hli, hke⟩ := hw
    show W p l e r_X_line s m args below meth c H locs 0 0 Q (F0 m 18 ls [])
    have hP : va_P D classes (xW cI cZ q la le li ke dn ca ne (nI (LB.length)) (nI (LT.length)) (nI ((LN ++ [sp_bc x1]).length)) (nI (KP.length)) at_) H := hP
    have hD : va_D A (xW cI cZ q la le li ke dn ca ne (nI (LB.length)) (nI (LT.length)) (nI ((LN ++ [sp_bc x1]).length)) (nI (KP.length)) at_) := hD
    refine lv_aload_n hx hb d_X_line_18 rfl (lv_at hl 0 rfl) ?_
    refine lv_iload_n hx hb d_X_line_19 rfl (lv_at hl 2 rfl) ?_
    refine k_callV [.int (x2)] C0 (c_X_behind l D cI cZ q H.size la le li ke dn ca ne at_ LB LT (LN ++ [sp_bc x1]) KP hla hle hli hke x2 (by (try simp only [List.length_append, List.length_singleton]); omega)) m1_118 m1_115 m1_1 m1_117 mp_4 hd_X_behind ⟨(Nat.le_of_ble_eq_true rfl), (Nat.le_of_ble_eq_true rfl)⟩ hK hP hD hS hA (ci := 0) rfl rfl rfl rfl hl.1 (Nat.le_of_ble_eq_true rfl) d_X_line_20 ⟨(Nat.le_of_ble_eq_true rfl), (Nat.le_of_ble_eq_true rfl)⟩ (fun v ws H locs hw hP hD hS => ?_)
    obtain ⟨rfl, la, le, li, ke, dn, ca, ne, at_, rfl, hla, hle, hli, hke⟩ := hw
    show W p l e r_X_line s m args below meth c H locs 0 0 Q (F0 m 23 ls [])
    have hP : va_P D classes (xW cI cZ q la le li ke dn ca ne (nI (LB.length)) (nI (LT.length)) (nI ((LN ++ [sp_bc x1] ++ [sp_bc x2]).length)) (nI (KP.length)) at_) H := hP
    have hD : va_D A (xW cI cZ q la le li ke dn ca ne (nI (LB.length)) (nI (LT.length)) (nI ((LN ++ [sp_bc x1] ++ [sp_bc x2]).length)) (nI (KP.length)) at_) := hD
    refine lv_aload_n hx hb d_X_line_23 rfl (lv_at hl 0 rfl) ?_
    refine lv_iload_n hx hb d_X_line_24 rfl (lv_at hl 3 rfl) ?_
    refine k_callV [.int (x3)] C0 (c_X_behind l D cI cZ q H.size la le li ke dn ca ne at_ LB LT (LN ++ [sp_bc x1] ++ [sp_bc x2]) KP hla hle hli hke x3 (by (try simp only [List.length_append, List.length_singleton]); omega)) m1_118 m1_115 m1_1 m1_117 mp_4 hd_X_behind ⟨(Nat.le_of_ble_eq_true rfl), (Nat.le_of_ble_eq_true rfl)⟩ hK hP hD hS hA (ci := 0) rfl rfl rfl rfl hl.1 (Nat.le_of_ble_eq_true rfl) d_X_line_25 ⟨(Nat.le_of_ble_eq_true rfl), (Nat.le_of_ble_eq_true rfl)⟩ (fun v ws H locs hw hP hD hS => ?_)
    obtain ⟨rfl, la, le, li, ke, dn, ca, ne, at_, rfl, hla, hle, hli, hke⟩ := hw
    show W p l e r_X_line s m args below meth c H locs 0 0 Q (F0 m 28 ls [])
    have hP : va_P D classes (xW cI cZ q la le li ke dn ca ne (nI (LB.length)) (nI (LT.length)) (nI ((LN ++ [sp_bc x1] ++ [sp_bc x2] ++ [sp_bc x3]).length)) (nI (KP.length)) at_) H := hP
    have hD : va_D A (xW cI cZ q la le li ke dn ca ne (nI (LB.length)) (nI (LT.length)) (nI ((LN ++ [sp_bc x1] ++ [sp_bc x2] ++ [sp_bc x3]).length)) (nI (KP.length)) at_) := hD
    refine lv_aload_n hx hb d_X_line_28 rfl (lv_at hl 0 rfl) ?_
    refine lv_iload hx hb d_X_line_29 (lv_at hl 4 rfl) ?_
    refine k_callV [.int (x4)] C0 (c_X_behind l D cI cZ q H.size la le li ke dn ca ne at_ LB LT (LN ++ [sp_bc x1] ++ [sp_bc x2] ++ [sp_bc x3]) KP hla hle hli hke x4 (by (try simp only [List.length_append, List.length_singleton]); omega)) m1_118 m1_115 m1_1 m1_117 mp_4 hd_X_behind ⟨(Nat.le_of_ble_eq_true rfl), (Nat.le_of_ble_eq_true rfl)⟩ hK hP hD hS hA (ci := 0) rfl rfl rfl rfl hl.1 (Nat.le_of_ble_eq_true rfl) d_X_line_31 ⟨(Nat.le_of_ble_eq_true rfl), (Nat.le_of_ble_eq_true rfl)⟩ (fun v ws H locs hw hP hD hS => ?_)
    obtain ⟨rfl, la, le, li, ke, dn, ca, ne, at_, rfl, hla, hle, hli, hke⟩ := hw
    show W p l e r_X_line s m args below meth c H locs 0 0 Q (F0 m 34 ls [])
    have hP : va_P D classes (xW cI cZ q la le li ke dn ca ne (nI (LB.length)) (nI (LT.length)) (nI ((LN ++ [sp_bc x1] ++ [sp_bc x2] ++ [sp_bc x3] ++ [sp_bc x4]).length)) (nI (KP.length)) at_) H := hP
    have hD : va_D A (xW cI cZ q la le li ke dn ca ne (nI (LB.length)) (nI (LT.length)) (nI ((LN ++ [sp_bc x1] ++ [sp_bc x2] ++ [sp_bc x3] ++ [sp_bc x4]).length)) (nI (KP.length)) at_) := hD
    refine lv_iconst (v := nI (1)) hx hb d_X_line_34 (by decide) ?_
    rw [show sp_line LN x1 x2 x3 x4 = LN ++ [sp_bc x1] ++ [sp_bc x2] ++ [sp_bc x3] ++ [sp_bc x4] from by unfold sp_line; rw [if_neg (by omega)], show sp_lineb LN = 1 from by unfold sp_lineb; rw [if_neg (by omega)]] at hQ
    exact k_retz hx hb hr hlk hQ hK hP hD hS rfl (xP_mk rfl rfl rfl rfl rfl hla hle hli hke) d_X_line_35
  · refine lv_iconst (v := nI (0)) hx hb d_X_line_11 (by decide) ?_
    rw [show sp_line LN x1 x2 x3 x4 = LN from by unfold sp_line; rw [if_pos (by omega)], show sp_lineb LN = 0 from by unfold sp_lineb; rw [if_pos (by omega)]] at hQ
    exact k_retz hx hb hr hlk hQ hK hP hD hS rfl (xP_mk rfl rfl rfl rfl rfl hla hle hli hke) d_X_line_12
abbrev r_X_copy : Room := { frames := 1, cells := 0, slots := 0, locals := 16 }
set_option maxHeartbeats 4000000 in
set_option maxRecDepth 100000 in
/-- copy() -/
theorem c_X_copy (l : Launch) (D : va_G) (cI cZ : ClassId) (q : Nat → Nat) (sz0 : Nat) (la le li ke dn ca ne : Nat → Int32) (at_ : Int32) (LB LT LN KP : List Nat) (hla : sp_rep la LB) (hle : sp_rep le LT) (hli : sp_rep li LN) (hke : sp_rep ke KP) (hL : LT.length ≤ 256) : kM l y_X_copy b_X_copy 2 none r_X_copy D (k_tys cI cZ) [.ref (q 0)] (xW cI cZ q la le li ke dn ca ne (nI (LB.length)) (nI (LT.length)) (nI (LN.length)) (nI (KP.length)) at_) sz0 (xP cI cZ q LB LT (LT.take 64) KP none) := by
  refine k_met (by decide) (Nat.le_of_ble_eq_true rfl) ?_
  intro p e s m args below meth c A Q C0 hr hlk hnm hA hK hP hD hS hQ ls hl
  obtain ⟨hx, hb, hml, hown, hts⟩ := id C0
  have hl : lv_has ls 2 [(0, .ref (q 0))] := hl
  refine lv_aload_n hx hb d_X_copy_0 rfl (lv_at hl 0 rfl) ?_
  refine lv_aload_n hx hb d_X_copy_1 rfl (lv_at hl 0 rfl) ?_
  refine x_get (v := .int (nI (LT.length))) hx hb hts hown hK hP rfl 8 (Nat.le_of_ble_eq_true rfl) m1_20 rfl rfl d_X_copy_2 ?_
  refine lv_bipush (v := nI (64)) hx hb d_X_copy_5 (by decide) ?_
  refine va_mmin hx hb (hml.trans hl.1.symm) hown (hts _ m1_127) (hts _ m1_128) (hts _ m1_3) (hts _ m1_129) (Nat.le_of_ble_eq_true rfl) (Nat.le_of_ble_eq_true rfl) (Nat.le_of_ble_eq_true rfl) (Nat.le_of_ble_eq_true rfl) d_X_copy_7 ?_
  refine k_cvi (show _ = nI (min (LT.length) 64) from k_min (by omega) (by omega)) ?_
  refine x_put hx hb hts hown hK hP hD hS rfl 9 (Nat.le_of_ble_eq_true rfl) m1_21 rfl rfl rfl (Nat.le_of_ble_eq_true rfl) d_X_copy_10 (fun H locs hP hD hS => ?_)
  have hP : va_P D classes (xW cI cZ q la le li ke dn ca ne (nI (LB.length)) (nI (LT.length)) (nI (min (LT.length) 64)) (nI (KP.length)) at_) H := hP
  have hD : va_D A (xW cI cZ q la le li ke dn ca ne (nI (LB.length)) (nI (LT.length)) (nI (min (LT.length) 64)) (nI (KP.length)) at_) := hD
  refine lv_iconst (v := nI (0)) hx hb d_X_copy_13 (by decide) ?_
  refine lv_istore_n (lv' := [(1, .int (nI (0))), (0, .ref (q 0))]) hx hb d_X_copy_14 rfl hl (Nat.le_of_ble_eq_true rfl) rfl (fun ls hl => ?_)
  have lp : ∀ (f : Nat) (k : Nat) (li : Nat → Int32), min (LT.length) 64 - k < f → k ≤ min (LT.length) 64 → sp_rep li (LT.take k) → ∀ (H : Heap) (locs : List Loc), va_P D classes (xW cI cZ q la le li ke dn ca ne (nI (LB.length)) (nI (LT.length)) (nI (min (LT.length) 64)) (nI (KP.length)) at_) H → va_D A (xW cI cZ q la le li ke dn ca ne (nI (LB.length)) (nI (LT.length)) (nI (min (LT.length) 64)) (nI (KP.length)) at_) → va_S A s.heap H locs → ∀ ls : Array Slot, lv_has ls 2 [(1, .int (nI (k))), (0, .ref (q 0))] → W p l e r_X_copy s m args below meth c H locs 0 0 Q (F0 m 15 ls []) := by
    intro f
    induction f with
    | zero => intro k li h; exact absurd h (Nat.not_lt_zero _)
    | succ f ih =>
      intro k li hf hk hli H locs hP hD hS ls hl
      refine lv_iload_n hx hb d_X_copy_15 rfl (lv_at hl 0 rfl) ?_
      refine lv_aload_n hx hb d_X_copy_16 rfl (lv_at hl 1 rfl) ?_
      refine x_get (v := .int (nI (min (LT.length) 64))) hx hb hts hown hK hP rfl 9 (Nat.le_of_ble_eq_true rfl) m1_21 rfl rfl d_X_copy_17 ?_
      refine k_icmp_ge (tgt := 41) hx hb d_X_copy_20 (by decide) (by omega) (by omega) (fun c_20 => ?_) (fun c_20 => ?_)
      · have ek : k = min (LT.length) 64 := by omega
        subst ek
        exact k_retv hx hb hr hlk hQ hK hP hD hS (xP_mk rfl rfl rfl (by rw [List.length_take, Nat.min_comm]) rfl hla hle (sp_rep_tm hli) hke) d_X_copy_41
      · refine lv_aload_n hx hb d_X_copy_23 rfl (lv_at hl 1 rfl) ?_
        refine x_get (v := .ref (q 3)) hx hb hts hown hK hP rfl 2 (Nat.le_of_ble_eq_true rfl) m1_14 rfl rfl d_X_copy_24 ?_
        refine lv_iload_n hx hb d_X_copy_27 rfl (lv_at hl 0 rfl) ?_
        refine lv_aload_n hx hb d_X_copy_28 rfl (lv_at hl 1 rfl) ?_
        refine x_get (v := .ref (q 2)) hx hb hts hown hK hP rfl 1 (Nat.le_of_ble_eq_true rfl) m1_13 rfl rfl d_X_copy_29 ?_
        refine lv_iload_n hx hb d_X_copy_32 rfl (lv_at hl 0 rfl) ?_
        refine k_iald hx hb hK hP 2 0 rfl rfl (by omega) (by omega) d_X_copy_33 ?_
        refine k_cvi (show _ = nI (LT.getD (k) 0) from hle _ (by omega)) ?_
        refine k_iast hx hb hK hP hD hS 3 0 rfl rfl (by omega) (by omega) d_X_copy_34 (fun H locs hP hD hS => ?_)
        have hP : va_P D classes (xW cI cZ q la le (upd li (k) (nI (LT.getD (k) 0))) ke dn ca ne (nI (LB.length)) (nI (LT.length)) (nI (min (LT.length) 64)) (nI (KP.length)) at_) H := hP
        have hD : va_D A (xW cI cZ q la le (upd li (k) (nI (LT.getD (k) 0))) ke dn ca ne (nI (LB.length)) (nI (LT.length)) (nI (min (LT.length) 64)) (nI (KP.length)) at_) := hD
        refine lv_iinc (v := nI (k + 1)) (lv' := [(1, .int (nI (k + 1))), (0, .ref (q 0))]) hx hb d_X_copy_35 hl (k := 0) rfl (k_inc (by decide)) (Nat.le_of_ble_eq_true rfl) rfl (fun ls hl => ?_)
        refine lv_goto (tgt := 15) hx hb d_X_copy_38 (by decide) ?_
        have hli2 : sp_rep (upd li k (nI (LT.getD k 0))) (LT.take (k + 1)) := sp_rep_tk hli (by omega)
        exact ih (k + 1) (upd li (k) (nI (LT.getD (k) 0))) (by omega) (by omega) hli2 H locs hP hD hS ls (lv_sub hl [0, 1] rfl)
  exact lp (min (LT.length) 64 + 1) 0 li (by omega) (by omega) (sp_rep_nil _) H locs hP hD hS ls (lv_sub hl [0, 1] rfl)
end
section
/-! the desk's inner methods -/
abbrev r_X_number : Room := { frames := 2, cells := 0, slots := 0, locals := 41 }
set_option maxHeartbeats 4000000 in
set_option maxRecDepth 100000 in
/-- number(steps, bias) -/
theorem c_X_number (l : Launch) (D : va_G) (cI cZ : ClassId) (q : Nat → Nat) (sz0 : Nat) (la le li ke dn ca ne : Nat → Int32) (sz lo ma at_ : Int32) (LT : List Nat) (hle : sp_rep le LT) (st bias : Nat) (hst : st < 28888886) (hbi : bias < 268435456) (hL : (LT ++ sp_digs st 36 bias).length ≤ 256) : kM l y_X_number b_X_number 6 none r_X_number D (k_tys cI cZ) [.ref (q 0), .int (nI (st)), .int (nI (bias))] (xW cI cZ q la le li ke dn ca ne sz (nI (LT.length)) lo ma at_) sz0 (fun v ws => v = none ∧ ∃ le1, ws = xW cI cZ q la le1 li ke dn ca ne sz (nI ((LT ++ sp_digs st 36 bias).length)) lo ma at_ ∧ sp_rep le1 (LT ++ sp_digs st 36 bias)) := by
  refine k_met (by decide) (Nat.le_of_ble_eq_true rfl) ?_
  intro p e s m args below meth c A Q C0 hr hlk hnm hA hK hP hD hS hQ ls hl
  obtain ⟨hx, hb, hml, hown, hts⟩ := id C0
  have hl : lv_has ls 6 [(0, .ref (q 0)), (1, .int (nI (st))), (2, .int (nI (bias)))] := hl
  refine lv_iload_n hx hb d_X_number_0 rfl (lv_at hl 1 rfl) ?_
  refine lv_istore_n (lv' := [(3, .int (nI (st))), (0, .ref (q 0)), (1, .int (nI (st))), (2, .int (nI (bias)))]) hx hb d_X_number_1 rfl hl (Nat.le_of_ble_eq_true rfl) rfl (fun ls hl => ?_)
  refine lv_bipush (v := nI (36)) hx hb d_X_number_2 (by decide) ?_
  refine lv_istore (lv' := [(4, .int (nI (36))), (3, .int (nI (st))), (0, .ref (q 0)), (1, .int (nI (st))), (2, .int (nI (bias)))]) hx hb d_X_number_4 hl (Nat.le_of_ble_eq_true rfl) rfl (fun ls hl => ?_)
  refine lv_iload hx hb d_X_number_6 (lv_at hl 0 rfl) ?_
  refine lv_iload_n hx hb d_X_number_8 rfl (lv_at hl 4 rfl) ?_
  refine k_callR [.int (nI (36)), .int (nI (bias))] C0 (c_X_threshold l 36 bias (by omega) (by omega)) m1_87 m1_85 m1_1 m1_86 hd_X_threshold ⟨(Nat.le_of_ble_eq_true rfl), (Nat.le_of_ble_eq_true rfl)⟩ rfl rfl rfl hl.1 (Nat.le_of_ble_eq_true rfl) d_X_number_9 ⟨Nat.zero_le _, Nat.zero_le _⟩ ?_
  refine lv_istore (lv' := [(5, .int (nI (sp_thr 36 bias))), (4, .int (nI (36))), (3, .int (nI (st))), (0, .ref (q 0)), (1, .int (nI (st))), (2, .int (nI (bias)))]) hx hb d_X_number_12 hl (Nat.le_of_ble_eq_true rfl) rfl (fun ls hl => ?_)
  have lp : ∀ (f : Nat) (v0 k : Nat) (Lc : List Nat) (le : Nat → Int32), v0 < f → k + 36 * v0 ≤ 36 + 36 * st → sp_rep le Lc → Lc ++ sp_digs v0 k bias = LT ++ sp_digs st 36 bias → ∀ (H : Heap) (locs : List Loc), va_P D classes (xW cI cZ q la le li ke dn ca ne sz (nI (Lc.length)) lo ma at_) H → va_D A (xW cI cZ q la le li ke dn ca ne sz (nI (Lc.length)) lo ma at_) → va_S A s.heap H locs → ∀ ls : Array Slot, lv_has ls 6 [(0, .ref (q 0)), (2, .int (nI (bias))), (3, .int (nI (v0))), (4, .int (nI (k))), (5, .int (nI (sp_thr k bias)))] → W p l e r_X_number s m args below meth c H locs 0 0 Q (F0 m 14 ls []) := by
    intro f
    induction f with
    | zero => intro v0 k Lc le h; exact absurd h (Nat.not_lt_zero _)
    | succ f ih =>
      intro v0 k Lc le hf hk hle he H locs hP hD hS ls hl
      have h1 := sp_thr_pos k bias
      have h2 := sp_thr_le k bias
      have h3 := sp_digs_pos v0 k bias
      have hlen := congrArg List.length he
      simp only [List.length_append] at hlen hL
      refine lv_iload_n hx hb d_X_number_14 rfl (lv_at hl 2 rfl) ?_
      refine lv_iload hx hb d_X_number_15 (lv_at hl 4 rfl) ?_
      refine k_icmp_lt (tgt := 62) hx hb d_X_number_17 (by decide) (by omega) (by omega) (fun c_17 => ?_) (fun c_17 => ?_)
      · refine lv_aload_n hx hb d_X_number_62 rfl (lv_at hl 0 rfl) ?_
        refine lv_iload_n hx hb d_X_number_63 rfl (lv_at hl 2 rfl) ?_
        refine k_callV [.int (nI (v0))] C0 (c_X_digit l D cI cZ q H.size la le li ke dn ca ne sz lo ma at_ Lc hle v0 (by omega) (by omega)) m1_91 m1_88 m1_1 m1_90 mp_3 hd_X_digit ⟨(Nat.le_of_ble_eq_true rfl), (Nat.le_of_ble_eq_true rfl)⟩ hK hP hD hS hA (ci := 0) rfl rfl rfl rfl hl.1 (Nat.le_of_ble_eq_true rfl) d_X_number_64 ⟨(Nat.le_of_ble_eq_true rfl), (Nat.le_of_ble_eq_true rfl)⟩ (fun v ws H locs hw hP hD hS => ?_)
        obtain ⟨rfl, le, rfl, hle⟩ := hw
        show W p l e r_X_number s m args below meth c H locs 0 0 Q (F0 m 67 ls [])
        have hP : va_P D classes (xW cI cZ q la le li ke dn ca ne sz (nI ((Lc).length + 1)) lo ma at_) H := hP
        have hD : va_D A (xW cI cZ q la le li ke dn ca ne sz (nI ((Lc).length + 1)) lo ma at_) := hD
        have he2 : Lc ++ [sp_let v0] = LT ++ sp_digs st 36 bias := by rw [← he, sp_digs_end c_17]
        exact k_retv hx hb hr hlk hQ hK hP hD hS ⟨rfl, le, by rw [← he2, sp_len1 Lc (sp_let v0)], by rw [← he2]; exact hle⟩ d_X_number_67
      · have hmod := Nat.mod_lt (v0 - sp_thr k bias) (show 36 - sp_thr k bias > 0 by omega)
        have hdiv := Nat.div_le_self (v0 - sp_thr k bias) (36 - sp_thr k bias)
        refine lv_aload_n hx hb d_X_number_20 rfl (lv_at hl 0 rfl) ?_
        refine lv_iload hx hb d_X_number_21 (lv_at hl 4 rfl) ?_
        refine lv_iload_n hx hb d_X_number_23 rfl (lv_at hl 2 rfl) ?_
        refine lv_iload hx hb d_X_number_24 (lv_at hl 4 rfl) ?_
        refine k_isub hx hb (by omega) d_X_number_26 ?_
        refine lv_bipush (v := nI (36)) hx hb d_X_number_27 (by decide) ?_
        refine lv_iload hx hb d_X_number_29 (lv_at hl 4 rfl) ?_
        refine k_isub hx hb (by omega) d_X_number_31 ?_
        refine k_irem hx hb (by omega) (by omega) (by omega) d_X_number_32 ?_
        refine k_iadd hx hb d_X_number_33 ?_
        refine k_callV [.int (nI ((sp_thr k bias) + ((v0 - (sp_thr k bias)) % (36 - (sp_thr k bias)))))] C0 (c_X_digit l D cI cZ q H.size la le li ke dn ca ne sz lo ma at_ Lc hle ((sp_thr k bias) + ((v0 - (sp_thr k bias)) % (36 - (sp_thr k bias)))) (by omega) (by omega)) m1_91 m1_88 m1_1 m1_90 mp_3 hd_X_digit ⟨(Nat.le_of_ble_eq_true rfl), (Nat.le_of_ble_eq_true rfl)⟩ hK hP hD hS hA (ci := 0) rfl rfl rfl rfl hl.1 (Nat.le_of_ble_eq_true rfl) d_X_number_34 ⟨(Nat.le_of_ble_eq_true rfl), (Nat.le_of_ble_eq_true rfl)⟩ (fun v ws H locs hw hP hD hS => ?_)
        obtain ⟨rfl, le, rfl, hle⟩ := hw
        show W p l e r_X_number s m args below meth c H locs 0 0 Q (F0 m 37 ls [])
        have hP : va_P D classes (xW cI cZ q la le li ke dn ca ne sz (nI ((Lc).length + 1)) lo ma at_) H := hP
        have hD : va_D A (xW cI cZ q la le li ke dn ca ne sz (nI ((Lc).length + 1)) lo ma at_) := hD
        refine lv_iload_n hx hb d_X_number_37 rfl (lv_at hl 2 rfl) ?_
        refine lv_iload hx hb d_X_number_38 (lv_at hl 4 rfl) ?_
        refine k_isub hx hb (by omega) d_X_number_40 ?_
        refine lv_bipush (v := nI (36)) hx hb d_X_number_41 (by decide) ?_
        refine lv_iload hx hb d_X_number_43 (lv_at hl 4 rfl) ?_
        refine k_isub hx hb (by omega) d_X_number_45 ?_
        refine k_idiv hx hb (by omega) (by omega) (by omega) d_X_number_46 ?_
        refine lv_istore_n (lv' := [(3, .int (nI ((v0 - (sp_thr k bias)) / (36 - (sp_thr k bias))))), (0, .ref (q 0)), (2, .int (nI (bias))), (4, .int (nI (k))), (5, .int (nI (sp_thr k bias)))]) hx hb d_X_number_47 rfl hl (Nat.le_of_ble_eq_true rfl) rfl (fun ls hl => ?_)
        refine lv_iinc (v := nI (k + 36)) (lv' := [(4, .int (nI (k + 36))), (3, .int (nI ((v0 - (sp_thr k bias)) / (36 - (sp_thr k bias))))), (0, .ref (q 0)), (2, .int (nI (bias))), (5, .int (nI (sp_thr k bias)))]) hx hb d_X_number_48 hl (k := 3) rfl (k_inc (by decide)) (Nat.le_of_ble_eq_true rfl) rfl (fun ls hl => ?_)
        refine lv_iload hx hb d_X_number_51 (lv_at hl 0 rfl) ?_
        refine lv_iload_n hx hb d_X_number_53 rfl (lv_at hl 3 rfl) ?_
        refine k_callR [.int (nI (k + 36)), .int (nI (bias))] C0 (c_X_threshold l (k + 36) bias (by omega) (by omega)) m1_87 m1_85 m1_1 m1_86 hd_X_threshold ⟨(Nat.le_of_ble_eq_true rfl), (Nat.le_of_ble_eq_true rfl)⟩ rfl rfl rfl hl.1 (Nat.le_of_ble_eq_true rfl) d_X_number_54 ⟨Nat.zero_le _, Nat.zero_le _⟩ ?_
        refine lv_istore (lv' := [(5, .int (nI (sp_thr (k + 36) bias))), (4, .int (nI (k + 36))), (3, .int (nI ((v0 - (sp_thr k bias)) / (36 - (sp_thr k bias))))), (0, .ref (q 0)), (2, .int (nI (bias)))]) hx hb d_X_number_57 hl (Nat.le_of_ble_eq_true rfl) rfl (fun ls hl => ?_)
        refine lv_goto (tgt := 14) hx hb d_X_number_59 (by decide) ?_
        have he2 : (Lc ++ [sp_let ((sp_thr k bias) + ((v0 - (sp_thr k bias)) % (36 - (sp_thr k bias))))]) ++ sp_digs ((v0 - sp_thr k bias) / (36 - sp_thr k bias)) (k + 36) bias = LT ++ sp_digs st 36 bias := by rw [← he, sp_digs_go c_17, List.append_assoc]; rfl
        rw [sp_len1 Lc (sp_let ((sp_thr k bias) + ((v0 - (sp_thr k bias)) % (36 - (sp_thr k bias)))))] at hP hD
        exact ih ((v0 - sp_thr k bias) / (36 - sp_thr k bias)) (k + 36) (Lc ++ [sp_let ((sp_thr k bias) + ((v0 - (sp_thr k bias)) % (36 - (sp_thr k bias))))]) le (by omega) (by omega) hle he2 H locs hP hD hS ls (lv_sub hl [3, 4, 2, 1, 0] rfl)
  exact lp (st + 1) st 36 LT le (by omega) (by omega) hle rfl s.heap [] hP hD hS ls (lv_sub hl [3, 5, 2, 1, 0] rfl)
abbrev r_X_least : Room := { frames := 0, cells := 0, slots := 0, locals := 0 }
set_option maxHeartbeats 4000000 in
set_option maxRecDepth 100000 in
/-- least() -/
theorem c_X_least (l : Launch) (D : va_G) (cI cZ : ClassId) (q : Nat → Nat) (sz0 : Nat) (la le li ke dn ca ne : Nat → Int32) (at_ : Int32) (LB LT LN KP : List Nat) (hla : sp_rep la LB) (hle : sp_rep le LT) (hli : sp_rep li LN) (hke : sp_rep ke KP) (db : Nat → Bool) (hL : LB.length ≤ 24) (hB : ∀ j, j < LB.length → LB.getD j 0 ≤ 1114111) (hdn : ∀ j, j < LB.length → dn j = nI (db j).toNat) : kM l y_X_least b_X_least 3 (some .int) r_X_least D (k_tys cI cZ) [.ref (q 0)] (xW cI cZ q la le li ke dn ca ne (nI (LB.length)) (nI (LT.length)) (nI (LN.length)) (nI (KP.length)) at_) sz0 (fun v ws => v = some (.int (k_opt (sp_least (sp_ef LB) db LB.length))) ∧ ws = xW cI cZ q la le li ke dn ca ne (nI (LB.length)) (nI (LT.length)) (nI (LN.length)) (nI (KP.length)) at_) := by
  refine k_met (by decide) (Nat.le_of_ble_eq_true rfl) ?_
  intro p e s m args below meth c A Q C0 hr hlk hnm hA hK hP hD hS hQ ls hl
  obtain ⟨hx, hb, hml, hown, hts⟩ := id C0
  have hl : lv_has ls 3 [(0, .ref (q 0))] := hl
  refine lv_iconst (v := -1) hx hb d_X_least_0 (by decide) ?_
  refine lv_istore_n (lv' := [(1, .int (-1)), (0, .ref (q 0))]) hx hb d_X_least_1 rfl hl (Nat.le_of_ble_eq_true rfl) rfl (fun ls hl => ?_)
  refine lv_iconst (v := nI (0)) hx hb d_X_least_2 (by decide) ?_
  refine lv_istore_n (lv' := [(2, .int (nI (0))), (1, .int (-1)), (0, .ref (q 0))]) hx hb d_X_least_3 rfl hl (Nat.le_of_ble_eq_true rfl) rfl (fun ls hl => ?_)
  have lp : ∀ (f : Nat) (k : Nat), LB.length - k < f → k ≤ LB.length → ∀ ls : Array Slot, lv_has ls 3 [(0, .ref (q 0)), (1, .int (k_opt (sp_least (sp_ef LB) db k))), (2, .int (nI (k)))] → W p l e r_X_least s m args below meth c s.heap [] 0 0 Q (F0 m 4 ls []) := by
    intro f
    induction f with
    | zero => intro k h; exact absurd h (Nat.not_lt_zero _)
    | succ f ih =>
      intro k hf hk ls hl
      refine lv_iload_n hx hb d_X_least_4 rfl (lv_at hl 2 rfl) ?_
      refine lv_aload_n hx hb d_X_least_5 rfl (lv_at hl 0 rfl) ?_
      refine x_get (v := .int (nI (LB.length))) hx hb hts hown hK hP rfl 7 (Nat.le_of_ble_eq_true rfl) m1_19 rfl rfl d_X_least_6 ?_
      refine k_icmp_ge (tgt := 49) hx hb d_X_least_9 (by decide) (by omega) (by omega) (fun c_9 => ?_) (fun c_9 => ?_)
      · refine lv_iload_n hx hb d_X_least_49 rfl (lv_at hl 1 rfl) ?_
        have ek : k = LB.length := by omega
        subst ek
        exact k_reti hx hb hr hlk hQ hK hP hD hS ⟨rfl, rfl⟩ d_X_least_50
      · have hk2 := hB k c_9
        cases e : sp_least (sp_ef LB) db k with
        | none =>
          have hl : lv_has ls 3 [(0, .ref (q 0)), (1, .int (-1)), (2, .int (nI (k)))] := by rw [e] at hl; exact hl
          cases hd : db k with
          | false =>
            refine lv_aload_n hx hb d_X_least_12 rfl (lv_at hl 0 rfl) ?_
            refine x_get (v := .ref (q 5)) hx hb hts hown hK hP rfl 4 (Nat.le_of_ble_eq_true rfl) m1_16 rfl rfl d_X_least_13 ?_
            refine lv_iload_n hx hb d_X_least_16 rfl (lv_at hl 2 rfl) ?_
            refine k_zald hx hb hK hP 5 1 rfl rfl (by omega) (by omega) d_X_least_17 ?_
            refine k_cvi (show _ = nI (0) from by rw [hdn _ (by omega), hd]; rfl) ?_
            refine k_if_ne (tgt := 43) hx hb d_X_least_18 (by decide) (by omega) (fun c_18 => ?_) (fun c_18 => ?_)
            · exact absurd c_18 (by omega)
            · refine lv_iload_n hx hb d_X_least_21 rfl (lv_at hl 1 rfl) ?_
              refine lv_iconst (v := -1) hx hb d_X_least_22 (by decide) ?_
              refine k_icmp_eqMM (tgt := 41) hx hb d_X_least_23 (by decide) ?_
              refine lv_iload_n hx hb d_X_least_41 rfl (lv_at hl 2 rfl) ?_
              refine lv_istore_n (lv' := [(1, .int (nI (k))), (0, .ref (q 0)), (2, .int (nI (k)))]) hx hb d_X_least_42 rfl hl (Nat.le_of_ble_eq_true rfl) rfl (fun ls hl => ?_)
              refine lv_iinc (v := nI (k + 1)) (lv' := [(2, .int (nI (k + 1))), (1, .int (nI (k))), (0, .ref (q 0))]) hx hb d_X_least_43 hl (k := 2) rfl (k_inc (by decide)) (Nat.le_of_ble_eq_true rfl) rfl (fun ls hl => ?_)
              refine lv_goto (tgt := 4) hx hb d_X_least_46 (by decide) ?_
              have e2 : sp_least (sp_ef LB) db (k + 1) = some k := sp_least_n e hd
              exact ih (k + 1) (by omega) (by omega) ls (by rw [e2]; exact (lv_sub hl [2, 1, 0] rfl))
          | true =>
            refine lv_aload_n hx hb d_X_least_12 rfl (lv_at hl 0 rfl) ?_
            refine x_get (v := .ref (q 5)) hx hb hts hown hK hP rfl 4 (Nat.le_of_ble_eq_true rfl) m1_16 rfl rfl d_X_least_13 ?_
            refine lv_iload_n hx hb d_X_least_16 rfl (lv_at hl 2 rfl) ?_
            refine k_zald hx hb hK hP 5 1 rfl rfl (by omega) (by omega) d_X_least_17 ?_
            refine k_cvi (show _ = nI (1) from by rw [hdn _ (by omega), hd]; rfl) ?_
            refine k_if_ne (tgt := 43) hx hb d_X_least_18 (by decide) (by omega) (fun c_18 => ?_) (fun c_18 => ?_)
            · refine lv_iinc (v := nI (k + 1)) (lv' := [(2, .int (nI (k + 1))), (0, .ref (q 0)), (1, .int (-1))]) hx hb d_X_least_43 hl (k := 2) rfl (k_inc (by decide)) (Nat.le_of_ble_eq_true rfl) rfl (fun ls hl => ?_)
              refine lv_goto (tgt := 4) hx hb d_X_least_46 (by decide) ?_
              have e2 : sp_least (sp_ef LB) db (k + 1) = none := (sp_least_t hd).trans e
              exact ih (k + 1) (by omega) (by omega) ls (by rw [e2]; exact (lv_sub hl [1, 2, 0] rfl))
            · exact absurd c_18 (by omega)
        | some b =>
          obtain ⟨hbk, -, -⟩ := sp_least_some _ _ e
          have hb2 := hB b (by omega)
          have hl : lv_has ls 3 [(0, .ref (q 0)), (1, .int (nI (b))), (2, .int (nI (k)))] := by rw [e] at hl; exact hl
          cases hd : db k with
          | false =>
            refine lv_aload_n hx hb d_X_least_12 rfl (lv_at hl 0 rfl) ?_
            refine x_get (v := .ref (q 5)) hx hb hts hown hK hP rfl 4 (Nat.le_of_ble_eq_true rfl) m1_16 rfl rfl d_X_least_13 ?_
            refine lv_iload_n hx hb d_X_least_16 rfl (lv_at hl 2 rfl) ?_
            refine k_zald hx hb hK hP 5 1 rfl rfl (by omega) (by omega) d_X_least_17 ?_
            refine k_cvi (show _ = nI (0) from by rw [hdn _ (by omega), hd]; rfl) ?_
            refine k_if_ne (tgt := 43) hx hb d_X_least_18 (by decide) (by omega) (fun c_18 => ?_) (fun c_18 => ?_)
            · exact absurd c_18 (by omega)
            · refine lv_iload_n hx hb d_X_least_21 rfl (lv_at hl 1 rfl) ?_
              refine lv_iconst (v := -1) hx hb d_X_least_22 (by decide) ?_
              refine k_icmp_eqM (tgt := 41) hx hb d_X_least_23 (by decide) (by omega) ?_
              refine lv_aload_n hx hb d_X_least_26 rfl (lv_at hl 0 rfl) ?_
              refine x_get (v := .ref (q 1)) hx hb hts hown hK hP rfl 0 (Nat.le_of_ble_eq_true rfl) m1_12 rfl rfl d_X_least_27 ?_
              refine lv_iload_n hx hb d_X_least_30 rfl (lv_at hl 2 rfl) ?_
              refine k_iald hx hb hK hP 1 0 rfl rfl (by omega) (by omega) d_X_least_31 ?_
              refine k_cvi (show _ = nI (LB.getD (k) 0) from hla _ (by omega)) ?_
              refine lv_aload_n hx hb d_X_least_32 rfl (lv_at hl 0 rfl) ?_
              refine x_get (v := .ref (q 1)) hx hb hts hown hK hP rfl 0 (Nat.le_of_ble_eq_true rfl) m1_12 rfl rfl d_X_least_33 ?_
              refine lv_iload_n hx hb d_X_least_36 rfl (lv_at hl 1 rfl) ?_
              refine k_iald hx hb hK hP 1 0 rfl rfl (by omega) (by omega) d_X_least_37 ?_
              refine k_cvi (show _ = nI (LB.getD (b) 0) from hla _ (by omega)) ?_
              refine k_icmp_ge (tgt := 43) hx hb d_X_least_38 (by decide) (by omega) (by omega) (fun c_38 => ?_) (fun c_38 => ?_)
              · refine lv_iinc (v := nI (k + 1)) (lv' := [(2, .int (nI (k + 1))), (0, .ref (q 0)), (1, .int (nI (b)))]) hx hb d_X_least_43 hl (k := 2) rfl (k_inc (by decide)) (Nat.le_of_ble_eq_true rfl) rfl (fun ls hl => ?_)
                refine lv_goto (tgt := 4) hx hb d_X_least_46 (by decide) ?_
                have e2 : sp_least (sp_ef LB) db (k + 1) = some b := sp_least_g e hd c_38
                exact ih (k + 1) (by omega) (by omega) ls (by rw [e2]; exact (lv_sub hl [1, 2, 0] rfl))
              · refine lv_iload_n hx hb d_X_least_41 rfl (lv_at hl 2 rfl) ?_
                refine lv_istore_n (lv' := [(1, .int (nI (k))), (0, .ref (q 0)), (2, .int (nI (k)))]) hx hb d_X_least_42 rfl hl (Nat.le_of_ble_eq_true rfl) rfl (fun ls hl => ?_)
                refine lv_iinc (v := nI (k + 1)) (lv' := [(2, .int (nI (k + 1))), (1, .int (nI (k))), (0, .ref (q 0))]) hx hb d_X_least_43 hl (k := 2) rfl (k_inc (by decide)) (Nat.le_of_ble_eq_true rfl) rfl (fun ls hl => ?_)
                refine lv_goto (tgt := 4) hx hb d_X_least_46 (by decide) ?_
                have e2 : sp_least (sp_ef LB) db (k + 1) = some k := sp_least_l e hd c_38
                exact ih (k + 1) (by omega) (by omega) ls (by rw [e2]; exact (lv_sub hl [2, 1, 0] rfl))
          | true =>
            refine lv_aload_n hx hb d_X_least_12 rfl (lv_at hl 0 rfl) ?_
            refine x_get (v := .ref (q 5)) hx hb hts hown hK hP rfl 4 (Nat.le_of_ble_eq_true rfl) m1_16 rfl rfl d_X_least_13 ?_
            refine lv_iload_n hx hb d_X_least_16 rfl (lv_at hl 2 rfl) ?_
            refine k_zald hx hb hK hP 5 1 rfl rfl (by omega) (by omega) d_X_least_17 ?_
            refine k_cvi (show _ = nI (1) from by rw [hdn _ (by omega), hd]; rfl) ?_
            refine k_if_ne (tgt := 43) hx hb d_X_least_18 (by decide) (by omega) (fun c_18 => ?_) (fun c_18 => ?_)
            · refine lv_iinc (v := nI (k + 1)) (lv' := [(2, .int (nI (k + 1))), (0, .ref (q 0)), (1, .int (nI (b)))]) hx hb d_X_least_43 hl (k := 2) rfl (k_inc (by decide)) (Nat.le_of_ble_eq_true rfl) rfl (fun ls hl => ?_)
              refine lv_goto (tgt := 4) hx hb d_X_least_46 (by decide) ?_
              have e2 : sp_least (sp_ef LB) db (k + 1) = some b := (sp_least_t hd).trans e
              exact ih (k + 1) (by omega) (by omega) ls (by rw [e2]; exact (lv_sub hl [1, 2, 0] rfl))
            · exact absurd c_18 (by omega)
  exact lp (LB.length + 1) 0 (by omega) (by omega) ls (lv_sub hl [2, 1, 0] rfl)
abbrev r_X_put3 : Room := { frames := 0, cells := 0, slots := 0, locals := 0 }
set_option maxHeartbeats 4000000 in
set_option maxRecDepth 100000 in
/-- put(n, place, sign) -/
theorem c_X_put3 (l : Launch) (D : va_G) (cI cZ : ClassId) (q : Nat → Nat) (sz0 : Nat) (la le li ke dn ca ne : Nat → Int32) (sz wr lo ma at_ : Int32) (ix acc : List Nat) (hch : sp_chain ne ca ix acc) (pl x : Nat) (hpl : pl ≤ acc.length) (hacc : acc.length < 64) : kM l y_X_put3 b_X_put3 6 none r_X_put3 D (k_tys cI cZ) [.ref (q 0), .int (nI (acc.length)), .int (nI (pl)), .int (nI (x))] (xW cI cZ q la le li ke dn ca ne sz wr lo ma at_) sz0 (fun v ws => v = none ∧ ∃ ca1 ne1 ix1, ws = xW cI cZ q la le li ke dn ca1 ne1 sz wr lo ma at_ ∧ sp_chain ne1 ca1 ix1 (sp_ins acc pl x)) := by
  refine k_met (by decide) (Nat.le_of_ble_eq_true rfl) ?_
  intro p e s m args below meth c A Q C0 hr hlk hnm hA hK hP hD hS hQ ls hl
  obtain ⟨hx, hb, hml, hown, hts⟩ := id C0
  have hl : lv_has ls 6 [(0, .ref (q 0)), (1, .int (nI (acc.length))), (2, .int (nI (pl))), (3, .int (nI (x)))] := hl
  refine lv_bipush (v := nI (64)) hx hb d_X_put3_0 (by decide) ?_
  refine lv_istore (lv' := [(4, .int (nI (64))), (0, .ref (q 0)), (1, .int (nI (acc.length))), (2, .int (nI (pl))), (3, .int (nI (x)))]) hx hb d_X_put3_2 hl (Nat.le_of_ble_eq_true rfl) rfl (fun ls hl => ?_)
  refine lv_iconst (v := nI (0)) hx hb d_X_put3_4 (by decide) ?_
  refine lv_istore (lv' := [(5, .int (nI (0))), (4, .int (nI (64))), (0, .ref (q 0)), (1, .int (nI (acc.length))), (2, .int (nI (pl))), (3, .int (nI (x)))]) hx hb d_X_put3_5 hl (Nat.le_of_ble_eq_true rfl) rfl (fun ls hl => ?_)
  have lp : ∀ (f : Nat) (j : Nat), pl - j < f → j ≤ pl → ∀ ls : Array Slot, lv_has ls 6 [(0, .ref (q 0)), (1, .int (nI (acc.length))), (3, .int (nI (x))), (2, .int (nI (pl))), (5, .int (nI (j))), (4, .int (nI ((64 :: ix).getD j 0)))] → W p l e r_X_put3 s m args below meth c s.heap [] 0 0 Q (F0 m 7 ls []) := by
    intro f
    induction f with
    | zero => intro j h; exact absurd h (Nat.not_lt_zero _)
    | succ f ih =>
      intro j hf hj ls hl
      have h1 := sp_chain_le hch (by omega) (show j ≤ acc.length by omega)
      refine lv_iload hx hb d_X_put3_7 (lv_at hl 4 rfl) ?_
      refine lv_iload_n hx hb d_X_put3_9 rfl (lv_at hl 3 rfl) ?_
      refine k_icmp_ge (tgt := 28) hx hb d_X_put3_10 (by decide) (by omega) (by omega) (fun c_10 => ?_) (fun c_10 => ?_)
      · refine lv_aload_n hx hb d_X_put3_28 rfl (lv_at hl 0 rfl) ?_
        refine x_get (v := .ref (q 6)) hx hb hts hown hK hP rfl 5 (Nat.le_of_ble_eq_true rfl) m1_17 rfl rfl d_X_put3_29 ?_
        refine lv_iload_n hx hb d_X_put3_32 rfl (lv_at hl 1 rfl) ?_
        refine lv_iload_n hx hb d_X_put3_33 rfl (lv_at hl 2 rfl) ?_
        refine k_iast hx hb hK hP hD hS 6 0 rfl rfl (by omega) (by omega) d_X_put3_34 (fun H locs hP hD hS => ?_)
        have hP : va_P D classes (xW cI cZ q la le li ke dn (upd ca (acc.length) (nI (x))) ne sz wr lo ma at_) H := hP
        have hD : va_D A (xW cI cZ q la le li ke dn (upd ca (acc.length) (nI (x))) ne sz wr lo ma at_) := hD
        refine lv_aload_n hx hb d_X_put3_35 rfl (lv_at hl 0 rfl) ?_
        refine x_get (v := .ref (q 7)) hx hb hts hown hK hP rfl 6 (Nat.le_of_ble_eq_true rfl) m1_18 rfl rfl d_X_put3_36 ?_
        refine lv_iload_n hx hb d_X_put3_39 rfl (lv_at hl 1 rfl) ?_
        refine lv_aload_n hx hb d_X_put3_40 rfl (lv_at hl 0 rfl) ?_
        refine x_get (v := .ref (q 7)) hx hb hts hown hK hP rfl 6 (Nat.le_of_ble_eq_true rfl) m1_18 rfl rfl d_X_put3_41 ?_
        refine lv_iload hx hb d_X_put3_44 (lv_at hl 5 rfl) ?_
        refine k_iald hx hb hK hP 7 0 rfl rfl (by omega) (by omega) d_X_put3_46 ?_
        refine k_iast hx hb hK hP hD hS 7 0 rfl rfl (by omega) (by omega) d_X_put3_47 (fun H locs hP hD hS => ?_)
        have hP : va_P D classes (xW cI cZ q la le li ke dn (upd ca (acc.length) (nI (x))) (upd ne (acc.length) (ne ((64 :: ix).getD j 0))) sz wr lo ma at_) H := hP
        have hD : va_D A (xW cI cZ q la le li ke dn (upd ca (acc.length) (nI (x))) (upd ne (acc.length) (ne ((64 :: ix).getD j 0))) sz wr lo ma at_) := hD
        refine lv_aload_n hx hb d_X_put3_48 rfl (lv_at hl 0 rfl) ?_
        refine x_get (v := .ref (q 7)) hx hb hts hown hK hP rfl 6 (Nat.le_of_ble_eq_true rfl) m1_18 rfl rfl d_X_put3_49 ?_
        refine lv_iload hx hb d_X_put3_52 (lv_at hl 5 rfl) ?_
        refine lv_iload_n hx hb d_X_put3_54 rfl (lv_at hl 1 rfl) ?_
        refine k_iast hx hb hK hP hD hS 7 0 rfl rfl (by omega) (by omega) d_X_put3_55 (fun H locs hP hD hS => ?_)
        have hP : va_P D classes (xW cI cZ q la le li ke dn (upd ca (acc.length) (nI (x))) (upd (upd ne (acc.length) (ne ((64 :: ix).getD j 0))) ((64 :: ix).getD j 0) (nI (acc.length))) sz wr lo ma at_) H := hP
        have hD : va_D A (xW cI cZ q la le li ke dn (upd ca (acc.length) (nI (x))) (upd (upd ne (acc.length) (ne ((64 :: ix).getD j 0))) ((64 :: ix).getD j 0) (nI (acc.length))) sz wr lo ma at_) := hD
        have ej : j = pl := by omega
        subst ej
        exact k_retv hx hb hr hlk hQ hK hP hD hS ⟨rfl, _, _, _, rfl, sp_chain_put hch hacc hpl x⟩ d_X_put3_56
      · refine lv_aload_n hx hb d_X_put3_13 rfl (lv_at hl 0 rfl) ?_
        refine x_get (v := .ref (q 7)) hx hb hts hown hK hP rfl 6 (Nat.le_of_ble_eq_true rfl) m1_18 rfl rfl d_X_put3_14 ?_
        refine lv_iload hx hb d_X_put3_17 (lv_at hl 5 rfl) ?_
        refine k_iald hx hb hK hP 7 0 rfl rfl (by omega) (by omega) d_X_put3_19 ?_
        refine k_cvi (show _ = nI ((64 :: ix).getD (j + 1) 0) from sp_link_at ix 64 j hch.1 (by rw [sp_chain_len hch]; omega)) ?_
        refine lv_istore (lv' := [(4, .int (nI ((64 :: ix).getD (j + 1) 0))), (0, .ref (q 0)), (1, .int (nI (acc.length))), (3, .int (nI (x))), (2, .int (nI (pl))), (5, .int (nI (j)))]) hx hb d_X_put3_20 hl (Nat.le_of_ble_eq_true rfl) rfl (fun ls hl => ?_)
        refine lv_iinc (v := nI (j + 1)) (lv' := [(5, .int (nI (j + 1))), (4, .int (nI ((64 :: ix).getD (j + 1) 0))), (0, .ref (q 0)), (1, .int (nI (acc.length))), (3, .int (nI (x))), (2, .int (nI (pl)))]) hx hb d_X_put3_22 hl (k := 5) rfl (k_inc (by decide)) (Nat.le_of_ble_eq_true rfl) rfl (fun ls hl => ?_)
        refine lv_goto (tgt := 7) hx hb d_X_put3_25 (by decide) ?_
        exact ih (j + 1) (by omega) (by omega) ls (lv_sub hl [2, 3, 4, 5, 0, 1] rfl)
  exact lp (pl + 1) 0 (by omega) (by omega) ls (lv_sub hl [2, 3, 5, 4, 0, 1] rfl)
abbrev r_X_told : Room := { frames := 1, cells := 0, slots := 0, locals := 21 }
set_option maxHeartbeats 4000000 in
set_option maxRecDepth 100000 in
/-- told(from, bias) -/
theorem c_X_told (l : Launch) (D : va_G) (cI cZ : ClassId) (q : Nat → Nat) (sz0 : Nat) (la le li ke dn ca ne : Nat → Int32) (sz wr ma : Int32) (LN : List Nat) (hli : sp_rep li LN) (hLN : LN.length ≤ 64) (hch : sp_ch LN) (p0 fr bias : Nat) (hp0 : p0 ≤ 64) (hfr : fr ≤ 2147483647) (hbi : bias < 268435456) : kM l y_X_told b_X_told 11 (some .long) r_X_told D (k_tys cI cZ) [.ref (q 0), .long (lN (fr)), .int (nI (bias))] (xW cI cZ q la le li ke dn ca ne sz wr (nI (LN.length)) ma (nI (p0))) sz0 (fun v ws => ∃ at1, ws = xW cI cZ q la le li ke dn ca ne sz wr (nI (LN.length)) ma at1 ∧ ((sp_told (sp_ef LN) bias (LN.length - p0) p0 fr 1 36 = none ∧ v = some (.long (-1))) ∨ ∃ p' i', sp_told (sp_ef LN) bias (LN.length - p0) p0 fr 1 36 = some (p', i') ∧ v = some (.long (lN (i' - fr))) ∧ at1 = nI p')) := by
  refine k_met (by decide) (Nat.le_of_ble_eq_true rfl) ?_
  intro p e s m args below meth c A Q C0 hr hlk hnm hA hK hP hD hS hQ ls hl
  obtain ⟨hx, hb, hml, hown, hts⟩ := id C0
  have hl : lv_has ls 11 [(0, .ref (q 0)), (1, .long (lN (fr))), (3, .int (nI (bias)))] := hl
  refine lv_lconst (v := lN 0) hx hb d_X_told_0 rfl ?_
  refine lv_lstore (lv' := [(4, .long (lN (0))), (0, .ref (q 0)), (1, .long (lN (fr))), (3, .int (nI (bias)))]) hx hb d_X_told_1 hl (Nat.le_of_ble_eq_true rfl) rfl (fun ls hl => ?_)
  refine lv_lconst (v := lN 1) hx hb d_X_told_3 rfl ?_
  refine lv_lstore (lv' := [(6, .long (lN (1))), (4, .long (lN (0))), (0, .ref (q 0)), (1, .long (lN (fr))), (3, .int (nI (bias)))]) hx hb d_X_told_4 hl (Nat.le_of_ble_eq_true rfl) rfl (fun ls hl => ?_)
  refine lv_bipush (v := nI (36)) hx hb d_X_told_6 (by decide) ?_
  refine lv_istore (lv' := [(8, .int (nI (36))), (6, .long (lN (1))), (4, .long (lN (0))), (0, .ref (q 0)), (1, .long (lN (fr))), (3, .int (nI (bias)))]) hx hb d_X_told_8 hl (Nat.le_of_ble_eq_true rfl) rfl (fun ls hl => ?_)
  have lp : ∀ (f : Nat) (pp st w k : Nat), LN.length - pp < f → pp ≤ 64 → fr + st ≤ 2147483647 → w ≤ 2147483647 → k ≤ 36 * (pp + 1) → sp_told (sp_ef LN) bias (LN.length - pp) pp (fr + st) w k = sp_told (sp_ef LN) bias (LN.length - p0) p0 fr 1 36 → ∀ (H : Heap) (locs : List Loc), va_P D classes (xW cI cZ q la le li ke dn ca ne sz wr (nI (LN.length)) ma (nI (pp))) H → va_D A (xW cI cZ q la le li ke dn ca ne sz wr (nI (LN.length)) ma (nI (pp))) → va_S A s.heap H locs → ∀ ls : Array Slot, lv_has ls 11 [(0, .ref (q 0)), (1, .long (lN (fr))), (3, .int (nI (bias))), (4, .long (lN (st))), (6, .long (lN (w))), (8, .int (nI (k)))] → W p l e r_X_told s m args below meth c H locs 0 0 Q (F0 m 10 ls []) := by
    intro f
    induction f with
    | zero => intro pp st w k h; exact absurd h (Nat.not_lt_zero _)
    | succ f ih =>
      intro pp st w k hf hpp hst hw hk he H locs hP hD hS ls hl
      have h1 := sp_thr_pos k bias
      have h2 := sp_thr_le k bias
      refine lv_aload_n hx hb d_X_told_10 rfl (lv_at hl 0 rfl) ?_
      refine x_get (v := .int (nI (pp))) hx hb hts hown hK hP rfl 11 (Nat.le_of_ble_eq_true rfl) m1_23 rfl rfl d_X_told_11 ?_
      refine lv_aload_n hx hb d_X_told_14 rfl (lv_at hl 0 rfl) ?_
      refine x_get (v := .int (nI (LN.length))) hx hb hts hown hK hP rfl 9 (Nat.le_of_ble_eq_true rfl) m1_21 rfl rfl d_X_told_15 ?_
      refine k_icmp_ge (tgt := 43) hx hb d_X_told_18 (by decide) (by omega) (by omega) (fun c_18 => ?_) (fun c_18 => ?_)
      · refine lv_iconst (v := -1) hx hb d_X_told_43 (by decide) ?_
        refine lv_istore (lv' := [(9, .int (-1)), (0, .ref (q 0)), (1, .long (lN (fr))), (3, .int (nI (bias))), (4, .long (lN (st))), (6, .long (lN (w))), (8, .int (nI (k)))]) hx hb d_X_told_44 hl (Nat.le_of_ble_eq_true rfl) rfl (fun ls hl => ?_)
        refine lv_iload hx hb d_X_told_46 (lv_at hl 6 rfl) ?_
        refine lv_iload_n hx hb d_X_told_48 rfl (lv_at hl 3 rfl) ?_
        refine k_callR [.int (nI (k)), .int (nI (bias))] C0 (c_X_threshold l k bias (by omega) (by omega)) m1_87 m1_85 m1_1 m1_86 hd_X_threshold ⟨(Nat.le_of_ble_eq_true rfl), (Nat.le_of_ble_eq_true rfl)⟩ rfl rfl rfl hl.1 (Nat.le_of_ble_eq_true rfl) d_X_told_49 ⟨Nat.zero_le _, Nat.zero_le _⟩ ?_
        refine lv_istore (lv' := [(10, .int (nI (sp_thr k bias))), (9, .int (-1)), (0, .ref (q 0)), (1, .long (lN (fr))), (3, .int (nI (bias))), (4, .long (lN (st))), (6, .long (lN (w))), (8, .int (nI (k)))]) hx hb d_X_told_52 hl (Nat.le_of_ble_eq_true rfl) rfl (fun ls hl => ?_)
        refine lv_iload hx hb d_X_told_54 (lv_at hl 1 rfl) ?_
        refine lv_iconst (v := -1) hx hb d_X_told_56 (by decide) ?_
        refine k_icmp_neMM (tgt := 64) hx hb d_X_told_57 (by decide) ?_
        refine lv_ldc2 (v := -1) hx hb hown (hts _ m1_149) d_X_told_60 ?_
        exact k_retl hx hb hr hlk hQ hK hP hD hS ⟨_, rfl, Or.inl ⟨by rw [← he, show LN.length - pp = 0 by omega]; rfl, rfl⟩⟩ d_X_told_63
      · refine lv_aload_n hx hb d_X_told_21 rfl (lv_at hl 0 rfl) ?_
        refine x_get (v := .ref (q 3)) hx hb hts hown hK hP rfl 2 (Nat.le_of_ble_eq_true rfl) m1_14 rfl rfl d_X_told_22 ?_
        refine lv_aload_n hx hb d_X_told_25 rfl (lv_at hl 0 rfl) ?_
        refine lv_dup hx hb d_X_told_26 rfl ?_
        refine x_get (v := .int (nI (pp))) hx hb hts hown hK hP rfl 11 (Nat.le_of_ble_eq_true rfl) m1_23 rfl rfl d_X_told_27 ?_
        refine lv_dup_x1 hx hb d_X_told_30 rfl rfl ?_
        refine lv_iconst (v := nI (1)) hx hb d_X_told_31 (by decide) ?_
        refine k_iadd hx hb d_X_told_32 ?_
        refine x_put hx hb hts hown hK hP hD hS rfl 11 (Nat.le_of_ble_eq_true rfl) m1_23 rfl rfl rfl (Nat.le_of_ble_eq_true rfl) d_X_told_33 (fun H locs hP hD hS => ?_)
        have hP : va_P D classes (xW cI cZ q la le li ke dn ca ne sz wr (nI (LN.length)) ma (nI (pp + 1))) H := hP
        have hD : va_D A (xW cI cZ q la le li ke dn ca ne sz wr (nI (LN.length)) ma (nI (pp + 1))) := hD
        refine k_iald hx hb hK hP 3 0 rfl rfl (by omega) (by omega) d_X_told_36 ?_
        refine k_cvi (show _ = nI (LN.getD (pp) 0) from hli _ (by omega)) ?_
        have hc9 := sp_ch_at hch c_18
        refine k_callR [.int (nI (LN.getD (pp) 0))] C0 (c_X_digitOf l (LN.getD (pp) 0) (by omega)) m1_148 m1_146 m1_1 m1_147 hd_X_digitOf ⟨(Nat.le_of_ble_eq_true rfl), (Nat.le_of_ble_eq_true rfl)⟩ rfl rfl rfl hl.1 (Nat.le_of_ble_eq_true rfl) d_X_told_37 ⟨Nat.zero_le _, Nat.zero_le _⟩ ?_
        have hc := sp_ch_at hch c_18
        cases ed : sp_dig (LN.getD pp 0) with
        | none =>
          refine k_cvi (show _ = -1 from rfl) ?_
          refine lv_goto (tgt := 44) hx hb d_X_told_40 (by decide) ?_
          refine lv_istore (lv' := [(9, .int (-1)), (0, .ref (q 0)), (1, .long (lN (fr))), (3, .int (nI (bias))), (4, .long (lN (st))), (6, .long (lN (w))), (8, .int (nI (k)))]) hx hb d_X_told_44 hl (Nat.le_of_ble_eq_true rfl) rfl (fun ls hl => ?_)
          refine lv_iload hx hb d_X_told_46 (lv_at hl 6 rfl) ?_
          refine lv_iload_n hx hb d_X_told_48 rfl (lv_at hl 3 rfl) ?_
          refine k_callR [.int (nI (k)), .int (nI (bias))] C0 (c_X_threshold l k bias (by omega) (by omega)) m1_87 m1_85 m1_1 m1_86 hd_X_threshold ⟨(Nat.le_of_ble_eq_true rfl), (Nat.le_of_ble_eq_true rfl)⟩ rfl rfl rfl hl.1 (Nat.le_of_ble_eq_true rfl) d_X_told_49 ⟨Nat.zero_le _, Nat.zero_le _⟩ ?_
          refine lv_istore (lv' := [(10, .int (nI (sp_thr k bias))), (9, .int (-1)), (0, .ref (q 0)), (1, .long (lN (fr))), (3, .int (nI (bias))), (4, .long (lN (st))), (6, .long (lN (w))), (8, .int (nI (k)))]) hx hb d_X_told_52 hl (Nat.le_of_ble_eq_true rfl) rfl (fun ls hl => ?_)
          refine lv_iload hx hb d_X_told_54 (lv_at hl 1 rfl) ?_
          refine lv_iconst (v := -1) hx hb d_X_told_56 (by decide) ?_
          refine k_icmp_neMM (tgt := 64) hx hb d_X_told_57 (by decide) ?_
          refine lv_ldc2 (v := -1) hx hb hown (hts _ m1_149) d_X_told_60 ?_
          exact k_retl hx hb hr hlk hQ hK hP hD hS ⟨_, rfl, Or.inl ⟨by rw [← he, show LN.length - pp = (LN.length - (pp + 1)) + 1 by omega, sp_told_n (show sp_dig (sp_ef LN pp) = none from ed)], rfl⟩⟩ d_X_told_63
        | some d =>
          refine k_cvi (show _ = nI (d) from rfl) ?_
          have hd36 := sp_dig_lt ed
          have hdw : d * w ≤ 35 * 2147483647 := Nat.mul_le_mul (by omega) hw
          have hww : w * (36 - sp_thr k bias) ≤ 2147483647 * 36 := Nat.mul_le_mul hw (by omega)
          refine lv_goto (tgt := 44) hx hb d_X_told_40 (by decide) ?_
          refine lv_istore (lv' := [(9, .int (nI (d))), (0, .ref (q 0)), (1, .long (lN (fr))), (3, .int (nI (bias))), (4, .long (lN (st))), (6, .long (lN (w))), (8, .int (nI (k)))]) hx hb d_X_told_44 hl (Nat.le_of_ble_eq_true rfl) rfl (fun ls hl => ?_)
          refine lv_iload hx hb d_X_told_46 (lv_at hl 6 rfl) ?_
          refine lv_iload_n hx hb d_X_told_48 rfl (lv_at hl 3 rfl) ?_
          refine k_callR [.int (nI (k)), .int (nI (bias))] C0 (c_X_threshold l k bias (by omega) (by omega)) m1_87 m1_85 m1_1 m1_86 hd_X_threshold ⟨(Nat.le_of_ble_eq_true rfl), (Nat.le_of_ble_eq_true rfl)⟩ rfl rfl rfl hl.1 (Nat.le_of_ble_eq_true rfl) d_X_told_49 ⟨Nat.zero_le _, Nat.zero_le _⟩ ?_
          refine lv_istore (lv' := [(10, .int (nI (sp_thr k bias))), (9, .int (nI (d))), (0, .ref (q 0)), (1, .long (lN (fr))), (3, .int (nI (bias))), (4, .long (lN (st))), (6, .long (lN (w))), (8, .int (nI (k)))]) hx hb d_X_told_52 hl (Nat.le_of_ble_eq_true rfl) rfl (fun ls hl => ?_)
          refine lv_iload hx hb d_X_told_54 (lv_at hl 1 rfl) ?_
          refine lv_iconst (v := -1) hx hb d_X_told_56 (by decide) ?_
          refine k_icmp_neM (tgt := 64) hx hb d_X_told_57 (by decide) (by omega) ?_
          refine lv_lload hx hb d_X_told_64 (lv_at hl 5 rfl) ?_
          refine lv_iload hx hb d_X_told_66 (lv_at hl 1 rfl) ?_
          refine k_i2l hx hb (by omega) d_X_told_68 ?_
          refine lv_lload hx hb d_X_told_69 (lv_at hl 6 rfl) ?_
          refine k_lmul hx hb d_X_told_71 ?_
          refine k_ladd hx hb d_X_told_72 ?_
          refine lv_lstore (lv' := [(4, .long (lN (st + (d * w)))), (10, .int (nI (sp_thr k bias))), (9, .int (nI (d))), (0, .ref (q 0)), (1, .long (lN (fr))), (3, .int (nI (bias))), (6, .long (lN (w))), (8, .int (nI (k)))]) hx hb d_X_told_73 hl (Nat.le_of_ble_eq_true rfl) rfl (fun ls hl => ?_)
          refine lv_lload_n hx hb d_X_told_75 rfl (lv_at hl 4 rfl) ?_
          refine lv_lload hx hb d_X_told_76 (lv_at hl 0 rfl) ?_
          refine k_ladd hx hb d_X_told_78 ?_
          refine lv_ldc2 (v := lN (2147483647)) hx hb hown (hts _ m1_150) d_X_told_79 ?_
          refine k_lc_le (tgt := 90) hx hb d_X_told_82 d_X_told_83 (by decide) (by omega) (by omega) (fun c_82 => ?_) (fun c_82 => ?_)
          · refine lv_iload hx hb d_X_told_90 (lv_at hl 2 rfl) ?_
            refine lv_iload hx hb d_X_told_92 (lv_at hl 1 rfl) ?_
            refine k_icmp_ge (tgt := 100) hx hb d_X_told_94 (by decide) (by omega) (by omega) (fun c_94 => ?_) (fun c_94 => ?_)
            · refine lv_lload hx hb d_X_told_100 (lv_at hl 6 rfl) ?_
              refine lv_bipush (v := nI (36)) hx hb d_X_told_102 (by decide) ?_
              refine lv_iload hx hb d_X_told_104 (lv_at hl 1 rfl) ?_
              refine k_isub hx hb (by omega) d_X_told_106 ?_
              refine k_i2l hx hb (by omega) d_X_told_107 ?_
              refine k_lmul hx hb d_X_told_108 ?_
              refine lv_lstore (lv' := [(6, .long (lN (w * (36 - (sp_thr k bias))))), (4, .long (lN (st + (d * w)))), (10, .int (nI (sp_thr k bias))), (9, .int (nI (d))), (0, .ref (q 0)), (1, .long (lN (fr))), (3, .int (nI (bias))), (8, .int (nI (k)))]) hx hb d_X_told_109 hl (Nat.le_of_ble_eq_true rfl) rfl (fun ls hl => ?_)
              refine lv_lload hx hb d_X_told_111 (lv_at hl 0 rfl) ?_
              refine lv_ldc2 (v := lN (2147483647)) hx hb hown (hts _ m1_150) d_X_told_113 ?_
              refine k_lc_le (tgt := 124) hx hb d_X_told_116 d_X_told_117 (by decide) (by omega) (by omega) (fun c_116 => ?_) (fun c_116 => ?_)
              · refine lv_iinc (v := nI (k + 36)) (lv' := [(8, .int (nI (k + 36))), (6, .long (lN (w * (36 - (sp_thr k bias))))), (4, .long (lN (st + (d * w)))), (10, .int (nI (sp_thr k bias))), (9, .int (nI (d))), (0, .ref (q 0)), (1, .long (lN (fr))), (3, .int (nI (bias)))]) hx hb d_X_told_124 hl (k := 7) rfl (k_inc (by decide)) (Nat.le_of_ble_eq_true rfl) rfl (fun ls hl => ?_)
                refine lv_goto (tgt := 10) hx hb d_X_told_127 (by decide) ?_
                have he2 : sp_told (sp_ef LN) bias (LN.length - (pp + 1)) (pp + 1) (fr + (st + d * w)) (w * (36 - sp_thr k bias)) (k + 36) = sp_told (sp_ef LN) bias (LN.length - p0) p0 fr 1 36 := by
                  rw [← he, show LN.length - pp = (LN.length - (pp + 1)) + 1 by omega, sp_told_g (show sp_dig (sp_ef LN pp) = some d from ed) (by omega) (by omega) (by omega), Nat.add_assoc]
                exact ih (pp + 1) (st + d * w) (w * (36 - sp_thr k bias)) (k + 36) (by omega) (by omega) (by omega) (by omega) (by omega) he2 H locs hP hD hS ls (lv_sub hl [5, 6, 7, 2, 1, 0] rfl)
              · refine lv_ldc2 (v := -1) hx hb hown (hts _ m1_149) d_X_told_120 ?_
                exact k_retl hx hb hr hlk hQ hK hP hD hS ⟨_, rfl, Or.inl ⟨by rw [← he, show LN.length - pp = (LN.length - (pp + 1)) + 1 by omega, sp_told_w (show sp_dig (sp_ef LN pp) = some d from ed) (by omega) (by omega) (by omega)], rfl⟩⟩ d_X_told_123
            · refine lv_lload hx hb d_X_told_97 (lv_at hl 0 rfl) ?_
              exact k_retl hx hb hr hlk hQ hK hP hD hS ⟨_, rfl, Or.inr ⟨pp + 1, fr + st + d * w, by rw [← he, show LN.length - pp = (LN.length - (pp + 1)) + 1 by omega, sp_told_e (show sp_dig (sp_ef LN pp) = some d from ed) (by omega) (by omega)], by rw [show fr + st + d * w - fr = st + d * w by omega], rfl⟩⟩ d_X_told_99
          · refine lv_ldc2 (v := -1) hx hb hown (hts _ m1_149) d_X_told_86 ?_
            exact k_retl hx hb hr hlk hQ hK hP hD hS ⟨_, rfl, Or.inl ⟨by rw [← he, show LN.length - pp = (LN.length - (pp + 1)) + 1 by omega, sp_told_b (show sp_dig (sp_ef LN pp) = some d from ed) (by omega)], rfl⟩⟩ d_X_told_89
  exact lp (LN.length + 1) p0 0 1 36 (by omega) (by omega) (by omega) (by omega) (by omega) rfl s.heap [] hP hD hS ls (lv_sub hl [3, 4, 5, 2, 1, 0] rfl)
end
section
/-! the desk's write -/
theorem sp_mark_rep {dn : Nat → Int32} {db : Nat → Bool} {n kk : Nat} (h : ∀ j, j < n → dn j = nI (db j).toNat) : ∀ j, j < n → upd dn kk (nI 1) j = nI (sp_mark db kk j).toNat := by
  intro j hj
  unfold upd
  by_cases e : j = kk
  · subst e
    rw [if_pos rfl, sp_mark_k]
    rfl
  · rw [if_neg e, sp_mark_n db e, h j hj]
theorem sp_bas_rep {f : Nat → Nat} {le : Nat → Int32} {k : Nat} (h : sp_rep le (sp_bas f k)) (hk : f k < 128) : sp_rep (upd le (sp_bas f k).length (nI (f k))) (sp_bas f (k + 1)) ∧ nI ((sp_bas f k).length + 1) = nI (sp_bas f (k + 1)).length := by
  have e : sp_bas f (k + 1) = sp_bas f k ++ [f k] := by rw [sp_bas, if_pos hk]
  rw [e]
  exact ⟨sp_rep_app h _, sp_len1 _ _⟩
theorem sp_bas_no {f : Nat → Nat} {k : Nat} (hk : ¬ f k < 128) : sp_bas f (k + 1) = sp_bas f k := by rw [sp_bas, if_neg hk]
theorem sp_dn_rep {dn : Nat → Int32} {f : Nat → Nat} {k : Nat} {z : Bool} {x : Int32} (h : ∀ j, j < k → dn j = nI (decide (f j < 128)).toNat) (hz : decide (f k < 128) = z) (hx : x = nI z.toNat) : ∀ j, j < k + 1 → upd dn k x j = nI (decide (f j < 128)).toNat := by
  intro j hj
  unfold upd
  by_cases e : j = k
  · subst e
    rw [if_pos rfl, hz, hx]
  · rw [if_neg e, h j (by omega)]
abbrev r_X_write : Room := { frames := 3, cells := 0, slots := 0, locals := 66 }
set_option maxHeartbeats 4000000 in
set_option maxRecDepth 100000 in
/-- write() -/
theorem c_X_write (l : Launch) (D : va_G) (cI cZ : ClassId) (q : Nat → Nat) (sz0 : Nat) (la le li ke dn ca ne : Nat → Int32) (at_ : Int32) (LB LT LN KP : List Nat) (hla : sp_rep la LB) (hle : sp_rep le LT) (hli : sp_rep li LN) (hke : sp_rep ke KP) (hok : sp_ok LB) (hLT : LT.length ≤ 256) : kM l y_X_write b_X_write 9 (some .int) r_X_write D (k_tys cI cZ) [.ref (q 0)] (xW cI cZ q la le li ke dn ca ne (nI (LB.length)) (nI (LT.length)) (nI (LN.length)) (nI (KP.length)) at_) sz0 (xP cI cZ q LB (sp_enc LB) LN KP (some (.int (nI ((sp_enc LB).length))))) := by
  refine k_met (by decide) (Nat.le_of_ble_eq_true rfl) ?_
  intro p e s m args below meth c A Q C0 hr hlk hnm hA hK hP hD hS hQ ls hl
  obtain ⟨hx, hb, hml, hown, hts⟩ := id C0
  have hl : lv_has ls 9 [(0, .ref (q 0))] := hl
  have hok1 := hok.1
  have hok2 := hok.2
  have hB := sp_bas_le LB
  have lp2 : ∀ (f2 : Nat) (t : Nat) (db : Nat → Bool) (pt fr bias : Nat) (out : List Nat) (dn le : Nat → Int32), LB.length - ((sp_bas (sp_ef LB) LB.length).length + t) < f2 → ((sp_bas (sp_ef LB) LB.length).length + t ≤ LB.length) → (sp_en (sp_ef LB) LB.length (sp_bas (sp_ef LB) LB.length).length (sp_o (sp_ef LB) LB.length) t = (db, pt, fr, bias, out)) → (sp_Inv (sp_ef LB) LB.length (sp_bas (sp_ef LB) LB.length).length t (sp_o (sp_ef LB) LB.length) db pt fr bias out) → (∀ j, j < LB.length → dn j = nI (db j).toNat) → (sp_rep le out) → ∀ (H : Heap) (locs : List Loc), va_P D classes (xW cI cZ q la le li ke dn ca ne (nI (LB.length)) (nI (out.length)) (nI (LN.length)) (nI (KP.length)) at_) H → va_D A (xW cI cZ q la le li ke dn ca ne (nI (LB.length)) (nI (out.length)) (nI (LN.length)) (nI (KP.length)) at_) → va_S A s.heap H locs → ∀ ls : Array Slot, lv_has ls 9 [(0, .ref (q 0)), (1, .int (nI ((sp_bas (sp_ef LB) LB.length).length + t))), (2, .int (nI ((sp_bas (sp_ef LB) LB.length).length))), (3, .int (nI (pt))), (4, .int (nI (fr))), (5, .int (nI (bias)))] → W p l e r_X_write s m args below meth c H locs 0 0 Q (F0 m 118 ls []) := by
    intro f2
    induction f2 with
    | zero => intro t db pt fr bias out dn le h; exact absurd h (Nat.not_lt_zero _)
    | succ f2 ih2 =>
      intro t db pt fr bias out dn le hf2 hbt hen hI hdn hle H locs hP hD hS ls hl
      have hfit := sp_fit hI hok1 (sp_o_len _ _) hbt
      have hIp := hI.2.2.2.2.1
      have hIb := hI.2.2.2.2.2.1
      have hIf := hI.2.2.1
      refine lv_iload_n hx hb d_X_write_118 rfl (lv_at hl 1 rfl) ?_
      refine lv_aload_n hx hb d_X_write_119 rfl (lv_at hl 0 rfl) ?_
      refine x_get (v := .int (nI (LB.length))) hx hb hts hown hK hP rfl 7 (Nat.le_of_ble_eq_true rfl) m1_19 rfl rfl d_X_write_120 ?_
      refine k_icmp_ge (tgt := 242) hx hb d_X_write_123 (by decide) (by omega) (by omega) (fun c_123 => ?_) (fun c_123 => ?_)
      · refine lv_aload_n hx hb d_X_write_242 rfl (lv_at hl 0 rfl) ?_
        refine x_get (v := .int (nI (out.length))) hx hb hts hown hK hP rfl 8 (Nat.le_of_ble_eq_true rfl) m1_20 rfl rfl d_X_write_243 ?_
        have eo : sp_enc LB = out := by unfold sp_enc; rw [show LB.length - (sp_bas (sp_ef LB) LB.length).length = t by omega, hen]
        rw [eo] at hQ
        exact k_reti hx hb hr hlk hQ hK hP hD hS (xP_mk rfl rfl rfl rfl rfl hla hle hli hke) d_X_write_246
      · obtain ⟨kk, k1, k2, k3, k4, k5, k6, k7, k8, k9, k10⟩ := sp_step hI (by omega) hok1 hok2
        have e4 : pt ≤ LB.getD kk 0 := k4
        have e5 := hok2 kk k2
        obtain ⟨stp, est⟩ : ∃ z, z = (LB.getD kk 0 - pt) * ((sp_bas (sp_ef LB) LB.length).length + t + 1) + sp_cnt db kk - fr := ⟨_, rfl⟩
        have e6 : fr ≤ (LB.getD kk 0 - pt) * ((sp_bas (sp_ef LB) LB.length).length + t + 1) + sp_cnt db kk := k5
        have e7 : (LB.getD kk 0 - pt) * ((sp_bas (sp_ef LB) LB.length).length + t + 1) ≤ 26738688 := k6
        have e9 : stp < 28888886 := by rw [est]; exact k9
        have k10 : sp_Inv (sp_ef LB) LB.length (sp_bas (sp_ef LB) LB.length).length (t + 1) (sp_o (sp_ef LB) LB.length) (sp_mark db kk) (LB.getD kk 0) (sp_cnt db kk + 1) (sp_adapt stp ((sp_bas (sp_ef LB) LB.length).length + t + 1) (t == 0)) (out ++ sp_digs stp 36 bias) := by rw [est]; exact k10
        have hen2 : sp_en (sp_ef LB) LB.length (sp_bas (sp_ef LB) LB.length).length (sp_o (sp_ef LB) LB.length) (t + 1) = (sp_mark db kk, LB.getD kk 0, sp_cnt db kk + 1, sp_adapt stp ((sp_bas (sp_ef LB) LB.length).length + t + 1) (t == 0), out ++ sp_digs stp 36 bias) := by rw [est]; exact sp_en_s hen k1
        have hfit2 := sp_fit k10 hok1 (sp_o_len _ _) (by omega)
        refine lv_aload_n hx hb d_X_write_126 rfl (lv_at hl 0 rfl) ?_
        refine k_callV [] C0 (c_X_least l D cI cZ q H.size la le li ke dn ca ne at_ LB out LN KP hla hle hli hke db hok1 hok2 hdn) m1_80 m1_77 m1_1 m1_79 mp_1 hd_X_least ⟨(Nat.le_of_ble_eq_true rfl), (Nat.le_of_ble_eq_true rfl)⟩ hK hP hD hS hA (ci := 0) rfl rfl rfl rfl hl.1 (Nat.le_of_ble_eq_true rfl) d_X_write_127 ⟨(Nat.le_of_ble_eq_true rfl), (Nat.le_of_ble_eq_true rfl)⟩ (fun v ws H locs hw hP hD hS => ?_)
        obtain ⟨rfl, rfl⟩ := hw
        show W p l e r_X_write s m args below meth c H locs 0 0 Q (F0 m 130 ls [.int (k_opt (sp_least (sp_ef LB) db LB.length))])
        have hP : va_P D classes (xW cI cZ q la le li ke dn ca ne (nI (LB.length)) (nI (out.length)) (nI (LN.length)) (nI (KP.length)) at_) H := hP
        have hD : va_D A (xW cI cZ q la le li ke dn ca ne (nI (LB.length)) (nI (out.length)) (nI (LN.length)) (nI (KP.length)) at_) := hD
        refine k_cvi (show _ = nI (kk) from by rw [k1]; rfl) ?_
        refine lv_istore (lv' := [(6, .int (nI (kk))), (0, .ref (q 0)), (1, .int (nI ((sp_bas (sp_ef LB) LB.length).length + t))), (2, .int (nI ((sp_bas (sp_ef LB) LB.length).length))), (3, .int (nI (pt))), (4, .int (nI (fr))), (5, .int (nI (bias)))]) hx hb d_X_write_130 hl (Nat.le_of_ble_eq_true rfl) rfl (fun ls hl => ?_)
        refine lv_iconst (v := nI (0)) hx hb d_X_write_132 (by decide) ?_
        refine lv_istore (lv' := [(7, .int (nI (0))), (6, .int (nI (kk))), (0, .ref (q 0)), (1, .int (nI ((sp_bas (sp_ef LB) LB.length).length + t))), (2, .int (nI ((sp_bas (sp_ef LB) LB.length).length))), (3, .int (nI (pt))), (4, .int (nI (fr))), (5, .int (nI (bias)))]) hx hb d_X_write_133 hl (Nat.le_of_ble_eq_true rfl) rfl (fun ls hl => ?_)
        refine lv_iconst (v := nI (0)) hx hb d_X_write_135 (by decide) ?_
        refine lv_istore (lv' := [(8, .int (nI (0))), (7, .int (nI (0))), (6, .int (nI (kk))), (0, .ref (q 0)), (1, .int (nI ((sp_bas (sp_ef LB) LB.length).length + t))), (2, .int (nI ((sp_bas (sp_ef LB) LB.length).length))), (3, .int (nI (pt))), (4, .int (nI (fr))), (5, .int (nI (bias)))]) hx hb d_X_write_136 hl (Nat.le_of_ble_eq_true rfl) rfl (fun ls hl => ?_)
        have hcl := sp_cnt_le db
        have lp3 : ∀ (f3 : Nat) (j : Nat), kk - j < f3 → (j ≤ kk) → ∀ ls : Array Slot, lv_has ls 9 [(0, .ref (q 0)), (1, .int (nI ((sp_bas (sp_ef LB) LB.length).length + t))), (2, .int (nI ((sp_bas (sp_ef LB) LB.length).length))), (3, .int (nI (pt))), (4, .int (nI (fr))), (5, .int (nI (bias))), (6, .int (nI (kk))), (7, .int (nI (sp_cnt db j))), (8, .int (nI (j)))] → W p l e r_X_write s m args below meth c H locs 0 0 Q (F0 m 138 ls []) := by
          intro f3
          induction f3 with
          | zero => intro j h; exact absurd h (Nat.not_lt_zero _)
          | succ f3 ih3 =>
            intro j hf3 hj ls hl
            refine lv_iload hx hb d_X_write_138 (lv_at hl 8 rfl) ?_
            refine lv_iload hx hb d_X_write_140 (lv_at hl 6 rfl) ?_
            refine k_icmp_ge (tgt := 164) hx hb d_X_write_142 (by decide) (by omega) (by omega) (fun c_142 => ?_) (fun c_142 => ?_)
            · have ej : j = kk := by omega
              subst ej
              refine lv_aload_n hx hb d_X_write_164 rfl (lv_at hl 0 rfl) ?_
              refine x_get (v := .ref (q 1)) hx hb hts hown hK hP rfl 0 (Nat.le_of_ble_eq_true rfl) m1_12 rfl rfl d_X_write_165 ?_
              refine lv_iload hx hb d_X_write_168 (lv_at hl 6 rfl) ?_
              refine k_iald hx hb hK hP 1 0 rfl rfl (by omega) (by omega) d_X_write_170 ?_
              refine k_cvi (show _ = nI (LB.getD (j) 0) from hla _ (by omega)) ?_
              refine lv_iload_n hx hb d_X_write_171 rfl (lv_at hl 3 rfl) ?_
              refine k_isub hx hb (by omega) d_X_write_172 ?_
              refine lv_iload_n hx hb d_X_write_173 rfl (lv_at hl 1 rfl) ?_
              refine lv_iconst (v := nI (1)) hx hb d_X_write_174 (by decide) ?_
              refine k_iadd hx hb d_X_write_175 ?_
              refine k_imul hx hb d_X_write_176 ?_
              refine lv_iload hx hb d_X_write_177 (lv_at hl 7 rfl) ?_
              refine k_iadd hx hb d_X_write_179 ?_
              refine lv_iload hx hb d_X_write_180 (lv_at hl 4 rfl) ?_
              refine k_isub hx hb (by omega) d_X_write_182 ?_
              refine k_cvi (show _ = nI (stp) from by rw [est]) ?_
              refine lv_istore (lv' := [(8, .int (nI (stp))), (0, .ref (q 0)), (1, .int (nI ((sp_bas (sp_ef LB) LB.length).length + t))), (2, .int (nI ((sp_bas (sp_ef LB) LB.length).length))), (3, .int (nI (pt))), (4, .int (nI (fr))), (5, .int (nI (bias))), (6, .int (nI (j))), (7, .int (nI (sp_cnt db j)))]) hx hb d_X_write_183 hl (Nat.le_of_ble_eq_true rfl) rfl (fun ls hl => ?_)
              refine lv_aload_n hx hb d_X_write_185 rfl (lv_at hl 1 rfl) ?_
              refine lv_iload hx hb d_X_write_186 (lv_at hl 0 rfl) ?_
              refine lv_iload hx hb d_X_write_188 (lv_at hl 6 rfl) ?_
              refine k_callV [.int (nI (stp)), .int (nI (bias))] C0 (c_X_number l D cI cZ q H.size la le li ke dn ca ne (nI (LB.length)) (nI (LN.length)) (nI (KP.length)) at_ out hle stp bias e9 hIb (by omega)) m1_84 m1_81 m1_1 m1_83 mp_2 hd_X_number ⟨(Nat.le_of_ble_eq_true rfl), (Nat.le_of_ble_eq_true rfl)⟩ hK hP hD hS hA (ci := 0) rfl rfl rfl rfl hl.1 (Nat.le_of_ble_eq_true rfl) d_X_write_190 ⟨(Nat.le_of_ble_eq_true rfl), (Nat.le_of_ble_eq_true rfl)⟩ (fun v ws H locs hw hP hD hS => ?_)
              obtain ⟨rfl, le, rfl, hle⟩ := hw
              show W p l e r_X_write s m args below meth c H locs 0 0 Q (F0 m 193 ls [])
              have hP : va_P D classes (xW cI cZ q la le li ke dn ca ne (nI (LB.length)) (nI ((out ++ sp_digs stp 36 bias).length)) (nI (LN.length)) (nI (KP.length)) at_) H := hP
              have hD : va_D A (xW cI cZ q la le li ke dn ca ne (nI (LB.length)) (nI ((out ++ sp_digs stp 36 bias).length)) (nI (LN.length)) (nI (KP.length)) at_) := hD
              refine lv_iload hx hb d_X_write_193 (lv_at hl 0 rfl) ?_
              refine k_i2l hx hb (by omega) d_X_write_195 ?_
              refine lv_iload_n hx hb d_X_write_196 rfl (lv_at hl 2 rfl) ?_
              refine lv_iconst (v := nI (1)) hx hb d_X_write_197 (by decide) ?_
              refine k_iadd hx hb d_X_write_198 ?_
              refine lv_iload_n hx hb d_X_write_199 rfl (lv_at hl 2 rfl) ?_
              refine lv_iload_n hx hb d_X_write_200 rfl (lv_at hl 3 rfl) ?_
              refine k_icmp_ne (tgt := 208) hx hb d_X_write_201 (by decide) (by omega) (by omega) (fun c_201 => ?_) (fun c_201 => ?_)
              · refine lv_iconst (v := nI (0)) hx hb d_X_write_208 (by decide) ?_
                have ht0 : (t == 0) = false := beq_eq_false_iff_ne.mpr (by omega)
                refine k_callR [.long (lN (stp)), .int (nI (((sp_bas (sp_ef LB) LB.length).length + t) + 1)), .int (nI (0))] C0 (c_X_adapted l stp ((sp_bas (sp_ef LB) LB.length).length + t + 1) false (by omega) (by omega) (by omega)) m1_97 m1_95 m1_1 m1_96 hd_X_adapted ⟨(Nat.le_of_ble_eq_true rfl), (Nat.le_of_ble_eq_true rfl)⟩ rfl rfl rfl hl.1 (Nat.le_of_ble_eq_true rfl) d_X_write_209 ⟨Nat.zero_le _, Nat.zero_le _⟩ ?_
                refine k_cvi (show _ = nI (sp_adapt stp ((sp_bas (sp_ef LB) LB.length).length + t + 1) (t == 0)) from by rw [ht0]) ?_
                refine lv_istore (lv' := [(5, .int (nI (sp_adapt stp ((sp_bas (sp_ef LB) LB.length).length + t + 1) (t == 0)))), (8, .int (nI (stp))), (0, .ref (q 0)), (1, .int (nI ((sp_bas (sp_ef LB) LB.length).length + t))), (2, .int (nI ((sp_bas (sp_ef LB) LB.length).length))), (3, .int (nI (pt))), (4, .int (nI (fr))), (6, .int (nI (j))), (7, .int (nI (sp_cnt db j)))]) hx hb d_X_write_212 hl (Nat.le_of_ble_eq_true rfl) rfl (fun ls hl => ?_)
                refine lv_aload_n hx hb d_X_write_214 rfl (lv_at hl 2 rfl) ?_
                refine x_get (v := .ref (q 1)) hx hb hts hown hK hP rfl 0 (Nat.le_of_ble_eq_true rfl) m1_12 rfl rfl d_X_write_215 ?_
                refine lv_iload hx hb d_X_write_218 (lv_at hl 7 rfl) ?_
                refine k_iald hx hb hK hP 1 0 rfl rfl (by omega) (by omega) d_X_write_220 ?_
                refine k_cvi (show _ = nI (LB.getD (j) 0) from hla _ (by omega)) ?_
                refine lv_istore_n (lv' := [(3, .int (nI (LB.getD (j) 0))), (5, .int (nI (sp_adapt stp ((sp_bas (sp_ef LB) LB.length).length + t + 1) (t == 0)))), (8, .int (nI (stp))), (0, .ref (q 0)), (1, .int (nI ((sp_bas (sp_ef LB) LB.length).length + t))), (2, .int (nI ((sp_bas (sp_ef LB) LB.length).length))), (4, .int (nI (fr))), (6, .int (nI (j))), (7, .int (nI (sp_cnt db j)))]) hx hb d_X_write_221 rfl hl (Nat.le_of_ble_eq_true rfl) rfl (fun ls hl => ?_)
                refine lv_iload hx hb d_X_write_222 (lv_at hl 8 rfl) ?_
                refine lv_iconst (v := nI (1)) hx hb d_X_write_224 (by decide) ?_
                refine k_iadd hx hb d_X_write_225 ?_
                refine lv_istore (lv' := [(4, .int (nI ((sp_cnt db j) + 1))), (3, .int (nI (LB.getD (j) 0))), (5, .int (nI (sp_adapt stp ((sp_bas (sp_ef LB) LB.length).length + t + 1) (t == 0)))), (8, .int (nI (stp))), (0, .ref (q 0)), (1, .int (nI ((sp_bas (sp_ef LB) LB.length).length + t))), (2, .int (nI ((sp_bas (sp_ef LB) LB.length).length))), (6, .int (nI (j))), (7, .int (nI (sp_cnt db j)))]) hx hb d_X_write_226 hl (Nat.le_of_ble_eq_true rfl) rfl (fun ls hl => ?_)
                refine lv_aload_n hx hb d_X_write_228 rfl (lv_at hl 4 rfl) ?_
                refine x_get (v := .ref (q 5)) hx hb hts hown hK hP rfl 4 (Nat.le_of_ble_eq_true rfl) m1_16 rfl rfl d_X_write_229 ?_
                refine lv_iload hx hb d_X_write_232 (lv_at hl 7 rfl) ?_
                refine lv_iconst (v := nI (1)) hx hb d_X_write_234 (by decide) ?_
                refine k_zast hx hb hK hP hD hS 5 1 rfl rfl (by decide) (by omega) (by omega) d_X_write_235 (fun H locs hP hD hS => ?_)
                have hP : va_P D classes (xW cI cZ q la le li ke (upd dn (j) (nI (1))) ca ne (nI (LB.length)) (nI ((out ++ sp_digs stp 36 bias).length)) (nI (LN.length)) (nI (KP.length)) at_) H := hP
                have hD : va_D A (xW cI cZ q la le li ke (upd dn (j) (nI (1))) ca ne (nI (LB.length)) (nI ((out ++ sp_digs stp 36 bias).length)) (nI (LN.length)) (nI (KP.length)) at_) := hD
                refine lv_iinc (v := nI (((sp_bas (sp_ef LB) LB.length).length + t) + 1)) (lv' := [(1, .int (nI (((sp_bas (sp_ef LB) LB.length).length + t) + 1))), (4, .int (nI ((sp_cnt db j) + 1))), (3, .int (nI (LB.getD (j) 0))), (5, .int (nI (sp_adapt stp ((sp_bas (sp_ef LB) LB.length).length + t + 1) (t == 0)))), (8, .int (nI (stp))), (0, .ref (q 0)), (2, .int (nI ((sp_bas (sp_ef LB) LB.length).length))), (6, .int (nI (j))), (7, .int (nI (sp_cnt db j)))]) hx hb d_X_write_236 hl (k := 5) rfl (k_inc (by decide)) (Nat.le_of_ble_eq_true rfl) rfl (fun ls hl => ?_)
                refine lv_goto (tgt := 118) hx hb d_X_write_239 (by decide) ?_
                have hdn2 := sp_mark_rep (kk := j) hdn
                exact ih2 (t + 1) (sp_mark db j) (LB.getD j 0) (sp_cnt db j + 1) (sp_adapt stp ((sp_bas (sp_ef LB) LB.length).length + t + 1) (t == 0)) (out ++ sp_digs stp 36 bias) (upd dn (j) (nI (1))) le (by omega) (by omega) hen2 k10 hdn2 hle H locs hP hD hS ls (lv_sub hl [5, 0, 6, 2, 1, 3] rfl)
              · refine lv_iconst (v := nI (1)) hx hb d_X_write_204 (by decide) ?_
                refine lv_goto (tgt := 209) hx hb d_X_write_205 (by decide) ?_
                have ht0 : (t == 0) = true := by rw [show t = 0 by omega]; rfl
                refine k_callR [.long (lN (stp)), .int (nI (((sp_bas (sp_ef LB) LB.length).length + t) + 1)), .int (nI (1))] C0 (c_X_adapted l stp ((sp_bas (sp_ef LB) LB.length).length + t + 1) true (by omega) (by omega) (by omega)) m1_97 m1_95 m1_1 m1_96 hd_X_adapted ⟨(Nat.le_of_ble_eq_true rfl), (Nat.le_of_ble_eq_true rfl)⟩ rfl rfl rfl hl.1 (Nat.le_of_ble_eq_true rfl) d_X_write_209 ⟨Nat.zero_le _, Nat.zero_le _⟩ ?_
                refine k_cvi (show _ = nI (sp_adapt stp ((sp_bas (sp_ef LB) LB.length).length + t + 1) (t == 0)) from by rw [ht0]) ?_
                refine lv_istore (lv' := [(5, .int (nI (sp_adapt stp ((sp_bas (sp_ef LB) LB.length).length + t + 1) (t == 0)))), (8, .int (nI (stp))), (0, .ref (q 0)), (1, .int (nI ((sp_bas (sp_ef LB) LB.length).length + t))), (2, .int (nI ((sp_bas (sp_ef LB) LB.length).length))), (3, .int (nI (pt))), (4, .int (nI (fr))), (6, .int (nI (j))), (7, .int (nI (sp_cnt db j)))]) hx hb d_X_write_212 hl (Nat.le_of_ble_eq_true rfl) rfl (fun ls hl => ?_)
                refine lv_aload_n hx hb d_X_write_214 rfl (lv_at hl 2 rfl) ?_
                refine x_get (v := .ref (q 1)) hx hb hts hown hK hP rfl 0 (Nat.le_of_ble_eq_true rfl) m1_12 rfl rfl d_X_write_215 ?_
                refine lv_iload hx hb d_X_write_218 (lv_at hl 7 rfl) ?_
                refine k_iald hx hb hK hP 1 0 rfl rfl (by omega) (by omega) d_X_write_220 ?_
                refine k_cvi (show _ = nI (LB.getD (j) 0) from hla _ (by omega)) ?_
                refine lv_istore_n (lv' := [(3, .int (nI (LB.getD (j) 0))), (5, .int (nI (sp_adapt stp ((sp_bas (sp_ef LB) LB.length).length + t + 1) (t == 0)))), (8, .int (nI (stp))), (0, .ref (q 0)), (1, .int (nI ((sp_bas (sp_ef LB) LB.length).length + t))), (2, .int (nI ((sp_bas (sp_ef LB) LB.length).length))), (4, .int (nI (fr))), (6, .int (nI (j))), (7, .int (nI (sp_cnt db j)))]) hx hb d_X_write_221 rfl hl (Nat.le_of_ble_eq_true rfl) rfl (fun ls hl => ?_)
                refine lv_iload hx hb d_X_write_222 (lv_at hl 8 rfl) ?_
                refine lv_iconst (v := nI (1)) hx hb d_X_write_224 (by decide) ?_
                refine k_iadd hx hb d_X_write_225 ?_
                refine lv_istore (lv' := [(4, .int (nI ((sp_cnt db j) + 1))), (3, .int (nI (LB.getD (j) 0))), (5, .int (nI (sp_adapt stp ((sp_bas (sp_ef LB) LB.length).length + t + 1) (t == 0)))), (8, .int (nI (stp))), (0, .ref (q 0)), (1, .int (nI ((sp_bas (sp_ef LB) LB.length).length + t))), (2, .int (nI ((sp_bas (sp_ef LB) LB.length).length))), (6, .int (nI (j))), (7, .int (nI (sp_cnt db j)))]) hx hb d_X_write_226 hl (Nat.le_of_ble_eq_true rfl) rfl (fun ls hl => ?_)
                refine lv_aload_n hx hb d_X_write_228 rfl (lv_at hl 4 rfl) ?_
                refine x_get (v := .ref (q 5)) hx hb hts hown hK hP rfl 4 (Nat.le_of_ble_eq_true rfl) m1_16 rfl rfl d_X_write_229 ?_
                refine lv_iload hx hb d_X_write_232 (lv_at hl 7 rfl) ?_
                refine lv_iconst (v := nI (1)) hx hb d_X_write_234 (by decide) ?_
                refine k_zast hx hb hK hP hD hS 5 1 rfl rfl (by decide) (by omega) (by omega) d_X_write_235 (fun H locs hP hD hS => ?_)
                have hP : va_P D classes (xW cI cZ q la le li ke (upd dn (j) (nI (1))) ca ne (nI (LB.length)) (nI ((out ++ sp_digs stp 36 bias).length)) (nI (LN.length)) (nI (KP.length)) at_) H := hP
                have hD : va_D A (xW cI cZ q la le li ke (upd dn (j) (nI (1))) ca ne (nI (LB.length)) (nI ((out ++ sp_digs stp 36 bias).length)) (nI (LN.length)) (nI (KP.length)) at_) := hD
                refine lv_iinc (v := nI (((sp_bas (sp_ef LB) LB.length).length + t) + 1)) (lv' := [(1, .int (nI (((sp_bas (sp_ef LB) LB.length).length + t) + 1))), (4, .int (nI ((sp_cnt db j) + 1))), (3, .int (nI (LB.getD (j) 0))), (5, .int (nI (sp_adapt stp ((sp_bas (sp_ef LB) LB.length).length + t + 1) (t == 0)))), (8, .int (nI (stp))), (0, .ref (q 0)), (2, .int (nI ((sp_bas (sp_ef LB) LB.length).length))), (6, .int (nI (j))), (7, .int (nI (sp_cnt db j)))]) hx hb d_X_write_236 hl (k := 5) rfl (k_inc (by decide)) (Nat.le_of_ble_eq_true rfl) rfl (fun ls hl => ?_)
                refine lv_goto (tgt := 118) hx hb d_X_write_239 (by decide) ?_
                have hdn2 := sp_mark_rep (kk := j) hdn
                exact ih2 (t + 1) (sp_mark db j) (LB.getD j 0) (sp_cnt db j + 1) (sp_adapt stp ((sp_bas (sp_ef LB) LB.length).length + t + 1) (t == 0)) (out ++ sp_digs stp 36 bias) (upd dn (j) (nI (1))) le (by omega) (by omega) hen2 k10 hdn2 hle H locs hP hD hS ls (lv_sub hl [5, 0, 6, 2, 1, 3] rfl)
            · cases hd : db j with
              | false =>
                refine lv_aload_n hx hb d_X_write_145 rfl (lv_at hl 0 rfl) ?_
                refine x_get (v := .ref (q 5)) hx hb hts hown hK hP rfl 4 (Nat.le_of_ble_eq_true rfl) m1_16 rfl rfl d_X_write_146 ?_
                refine lv_iload hx hb d_X_write_149 (lv_at hl 8 rfl) ?_
                refine k_zald hx hb hK hP 5 1 rfl rfl (by omega) (by omega) d_X_write_151 ?_
                refine k_cvi (show _ = nI (0) from by rw [hdn _ (by omega), hd]; rfl) ?_
                refine k_if_eq (tgt := 158) hx hb d_X_write_152 (by decide) (by omega) (fun c_152 => ?_) (fun c_152 => ?_)
                · refine lv_iinc (v := nI (j + 1)) (lv' := [(8, .int (nI (j + 1))), (0, .ref (q 0)), (1, .int (nI ((sp_bas (sp_ef LB) LB.length).length + t))), (2, .int (nI ((sp_bas (sp_ef LB) LB.length).length))), (3, .int (nI (pt))), (4, .int (nI (fr))), (5, .int (nI (bias))), (6, .int (nI (kk))), (7, .int (nI (sp_cnt db j)))]) hx hb d_X_write_158 hl (k := 8) rfl (k_inc (by decide)) (Nat.le_of_ble_eq_true rfl) rfl (fun ls hl => ?_)
                  refine lv_goto (tgt := 138) hx hb d_X_write_161 (by decide) ?_
                  exact ih3 (j + 1) (by omega) (by omega) ls (by rw [sp_cnt_f hd]; exact (lv_sub hl [1, 2, 3, 4, 5, 6, 7, 8, 0] rfl))
                · exact absurd c_152 (by omega)
              | true =>
                refine lv_aload_n hx hb d_X_write_145 rfl (lv_at hl 0 rfl) ?_
                refine x_get (v := .ref (q 5)) hx hb hts hown hK hP rfl 4 (Nat.le_of_ble_eq_true rfl) m1_16 rfl rfl d_X_write_146 ?_
                refine lv_iload hx hb d_X_write_149 (lv_at hl 8 rfl) ?_
                refine k_zald hx hb hK hP 5 1 rfl rfl (by omega) (by omega) d_X_write_151 ?_
                refine k_cvi (show _ = nI (1) from by rw [hdn _ (by omega), hd]; rfl) ?_
                refine k_if_eq (tgt := 158) hx hb d_X_write_152 (by decide) (by omega) (fun c_152 => ?_) (fun c_152 => ?_)
                · exact absurd c_152 (by omega)
                · refine lv_iinc (v := nI ((sp_cnt db j) + 1)) (lv' := [(7, .int (nI ((sp_cnt db j) + 1))), (0, .ref (q 0)), (1, .int (nI ((sp_bas (sp_ef LB) LB.length).length + t))), (2, .int (nI ((sp_bas (sp_ef LB) LB.length).length))), (3, .int (nI (pt))), (4, .int (nI (fr))), (5, .int (nI (bias))), (6, .int (nI (kk))), (8, .int (nI (j)))]) hx hb d_X_write_155 hl (k := 7) rfl (k_inc (by decide)) (Nat.le_of_ble_eq_true rfl) rfl (fun ls hl => ?_)
                  refine lv_iinc (v := nI (j + 1)) (lv' := [(8, .int (nI (j + 1))), (7, .int (nI ((sp_cnt db j) + 1))), (0, .ref (q 0)), (1, .int (nI ((sp_bas (sp_ef LB) LB.length).length + t))), (2, .int (nI ((sp_bas (sp_ef LB) LB.length).length))), (3, .int (nI (pt))), (4, .int (nI (fr))), (5, .int (nI (bias))), (6, .int (nI (kk)))]) hx hb d_X_write_158 hl (k := 8) rfl (k_inc (by decide)) (Nat.le_of_ble_eq_true rfl) rfl (fun ls hl => ?_)
                  refine lv_goto (tgt := 138) hx hb d_X_write_161 (by decide) ?_
                  exact ih3 (j + 1) (by omega) (by omega) ls (by rw [sp_cnt_t hd]; exact (lv_sub hl [2, 3, 4, 5, 6, 7, 8, 1, 0] rfl))
        exact lp3 (kk + 1) 0 (by omega) (by omega) ls (lv_sub hl [3, 4, 5, 6, 7, 8, 2, 1, 0] rfl)
  refine lv_aload_n hx hb d_X_write_0 rfl (lv_at hl 0 rfl) ?_
  refine lv_iconst (v := nI (0)) hx hb d_X_write_1 (by decide) ?_
  refine x_put hx hb hts hown hK hP hD hS rfl 8 (Nat.le_of_ble_eq_true rfl) m1_20 rfl rfl rfl (Nat.le_of_ble_eq_true rfl) d_X_write_2 (fun H locs hP hD hS => ?_)
  have hP : va_P D classes (xW cI cZ q la le li ke dn ca ne (nI (LB.length)) (nI (0)) (nI (LN.length)) (nI (KP.length)) at_) H := hP
  have hD : va_D A (xW cI cZ q la le li ke dn ca ne (nI (LB.length)) (nI (0)) (nI (LN.length)) (nI (KP.length)) at_) := hD
  refine lv_iconst (v := nI (0)) hx hb d_X_write_5 (by decide) ?_
  refine lv_istore_n (lv' := [(1, .int (nI (0))), (0, .ref (q 0))]) hx hb d_X_write_6 rfl hl (Nat.le_of_ble_eq_true rfl) rfl (fun ls hl => ?_)
  have lp1 : ∀ (f1 : Nat) (k : Nat) (dn le : Nat → Int32), LB.length - k < f1 → (k ≤ LB.length) → (∀ j, j < k → dn j = nI (decide (sp_ef LB j < 128)).toNat) → (sp_rep le (sp_bas (sp_ef LB) k)) → ∀ (H : Heap) (locs : List Loc), va_P D classes (xW cI cZ q la le li ke dn ca ne (nI (LB.length)) (nI ((sp_bas (sp_ef LB) k).length)) (nI (LN.length)) (nI (KP.length)) at_) H → va_D A (xW cI cZ q la le li ke dn ca ne (nI (LB.length)) (nI ((sp_bas (sp_ef LB) k).length)) (nI (LN.length)) (nI (KP.length)) at_) → va_S A s.heap H locs → ∀ ls : Array Slot, lv_has ls 9 [(0, .ref (q 0)), (1, .int (nI (k)))] → W p l e r_X_write s m args below meth c H locs 0 0 Q (F0 m 7 ls []) := by
    intro f1
    induction f1 with
    | zero => intro k dn le h; exact absurd h (Nat.not_lt_zero _)
    | succ f1 ih1 =>
      intro k dn le hf1 hk hdn hle H locs hP hD hS ls hl
      have hb1 := sp_cnt_le (fun j => decide (sp_ef LB j < 128)) k
      rw [← sp_bas_len] at hb1
      refine lv_iload_n hx hb d_X_write_7 rfl (lv_at hl 1 rfl) ?_
      refine lv_aload_n hx hb d_X_write_8 rfl (lv_at hl 0 rfl) ?_
      refine x_get (v := .int (nI (LB.length))) hx hb hts hown hK hP rfl 7 (Nat.le_of_ble_eq_true rfl) m1_19 rfl rfl d_X_write_9 ?_
      refine k_icmp_ge (tgt := 75) hx hb d_X_write_12 (by decide) (by omega) (by omega) (fun c_12 => ?_) (fun c_12 => ?_)
      · have ek : k = LB.length := by omega
        subst ek
        have hP : va_P D classes (xW cI cZ q la le li ke dn ca ne (nI (LB.length)) (nI ((sp_bas (sp_ef LB) LB.length).length)) (nI (LN.length)) (nI (KP.length)) at_) H := hP
        have hD : va_D A (xW cI cZ q la le li ke dn ca ne (nI (LB.length)) (nI ((sp_bas (sp_ef LB) LB.length).length)) (nI (LN.length)) (nI (KP.length)) at_) := hD
        refine lv_aload_n hx hb d_X_write_75 rfl (lv_at hl 0 rfl) ?_
        refine x_get (v := .int (nI ((sp_bas (sp_ef LB) LB.length).length))) hx hb hts hown hK hP rfl 8 (Nat.le_of_ble_eq_true rfl) m1_20 rfl rfl d_X_write_76 ?_
        refine lv_istore_n (lv' := [(1, .int (nI ((sp_bas (sp_ef LB) LB.length).length))), (0, .ref (q 0))]) hx hb d_X_write_79 rfl hl (Nat.le_of_ble_eq_true rfl) rfl (fun ls hl => ?_)
        refine lv_aload_n hx hb d_X_write_80 rfl (lv_at hl 1 rfl) ?_
        refine x_get (v := .int (nI ((sp_bas (sp_ef LB) LB.length).length))) hx hb hts hown hK hP rfl 8 (Nat.le_of_ble_eq_true rfl) m1_20 rfl rfl d_X_write_81 ?_
        refine lv_istore_n (lv' := [(2, .int (nI ((sp_bas (sp_ef LB) LB.length).length))), (1, .int (nI ((sp_bas (sp_ef LB) LB.length).length))), (0, .ref (q 0))]) hx hb d_X_write_84 rfl hl (Nat.le_of_ble_eq_true rfl) rfl (fun ls hl => ?_)
        refine lv_sipush (v := nI (128)) hx hb d_X_write_85 (by decide) ?_
        refine lv_istore_n (lv' := [(3, .int (nI (128))), (2, .int (nI ((sp_bas (sp_ef LB) LB.length).length))), (1, .int (nI ((sp_bas (sp_ef LB) LB.length).length))), (0, .ref (q 0))]) hx hb d_X_write_88 rfl hl (Nat.le_of_ble_eq_true rfl) rfl (fun ls hl => ?_)
        refine lv_iconst (v := nI (0)) hx hb d_X_write_89 (by decide) ?_
        refine lv_istore (lv' := [(4, .int (nI (0))), (3, .int (nI (128))), (2, .int (nI ((sp_bas (sp_ef LB) LB.length).length))), (1, .int (nI ((sp_bas (sp_ef LB) LB.length).length))), (0, .ref (q 0))]) hx hb d_X_write_90 hl (Nat.le_of_ble_eq_true rfl) rfl (fun ls hl => ?_)
        refine lv_bipush (v := nI (72)) hx hb d_X_write_92 (by decide) ?_
        refine lv_istore (lv' := [(5, .int (nI (72))), (4, .int (nI (0))), (3, .int (nI (128))), (2, .int (nI ((sp_bas (sp_ef LB) LB.length).length))), (1, .int (nI ((sp_bas (sp_ef LB) LB.length).length))), (0, .ref (q 0))]) hx hb d_X_write_94 hl (Nat.le_of_ble_eq_true rfl) rfl (fun ls hl => ?_)
        refine lv_iload_n hx hb d_X_write_96 rfl (lv_at hl 4 rfl) ?_
        refine k_if_le (tgt := 118) hx hb d_X_write_97 (by decide) (by omega) (fun c_97 => ?_) (fun c_97 => ?_)
        · have ho : (sp_o (sp_ef LB) LB.length) = sp_bas (sp_ef LB) LB.length := by unfold sp_o; rw [if_neg (by omega), List.append_nil]
          have hle2 : sp_rep (le) (sp_o (sp_ef LB) LB.length) := by rw [ho]; exact hle
          rw [show nI ((sp_bas (sp_ef LB) LB.length).length) = nI ((sp_o (sp_ef LB) LB.length)).length from by rw [ho]] at hP hD
          have hP : va_P D classes (xW cI cZ q la le li ke dn ca ne (nI (LB.length)) (nI (((sp_o (sp_ef LB) LB.length)).length)) (nI (LN.length)) (nI (KP.length)) at_) H := hP
          have hD : va_D A (xW cI cZ q la le li ke dn ca ne (nI (LB.length)) (nI (((sp_o (sp_ef LB) LB.length)).length)) (nI (LN.length)) (nI (KP.length)) at_) := hD
          exact lp2 (LB.length + 1) 0 ((fun j => decide (sp_ef LB j < 128))) 128 0 72 ((sp_o (sp_ef LB) LB.length)) dn le (by omega) (by omega) rfl (sp_inv0 _ _ _ _ (sp_bas_len _ _).symm) hdn hle2 H locs hP hD hS ls (lv_sub hl [5, 4, 3, 2, 1, 0] rfl)
        · refine lv_aload_n hx hb d_X_write_100 rfl (lv_at hl 5 rfl) ?_
          refine x_get (v := .ref (q 2)) hx hb hts hown hK hP rfl 1 (Nat.le_of_ble_eq_true rfl) m1_13 rfl rfl d_X_write_101 ?_
          refine lv_aload_n hx hb d_X_write_104 rfl (lv_at hl 5 rfl) ?_
          refine lv_dup hx hb d_X_write_105 rfl ?_
          refine x_get (v := .int (nI ((sp_bas (sp_ef LB) LB.length).length))) hx hb hts hown hK hP rfl 8 (Nat.le_of_ble_eq_true rfl) m1_20 rfl rfl d_X_write_106 ?_
          refine lv_dup_x1 hx hb d_X_write_109 rfl rfl ?_
          refine lv_iconst (v := nI (1)) hx hb d_X_write_110 (by decide) ?_
          refine k_iadd hx hb d_X_write_111 ?_
          refine x_put hx hb hts hown hK hP hD hS rfl 8 (Nat.le_of_ble_eq_true rfl) m1_20 rfl rfl rfl (Nat.le_of_ble_eq_true rfl) d_X_write_112 (fun H locs hP hD hS => ?_)
          have hP : va_P D classes (xW cI cZ q la le li ke dn ca ne (nI (LB.length)) (nI (((sp_bas (sp_ef LB) LB.length).length) + 1)) (nI (LN.length)) (nI (KP.length)) at_) H := hP
          have hD : va_D A (xW cI cZ q la le li ke dn ca ne (nI (LB.length)) (nI (((sp_bas (sp_ef LB) LB.length).length) + 1)) (nI (LN.length)) (nI (KP.length)) at_) := hD
          refine lv_bipush (v := nI (45)) hx hb d_X_write_115 (by decide) ?_
          refine k_iast hx hb hK hP hD hS 2 0 rfl rfl (by omega) (by omega) d_X_write_117 (fun H locs hP hD hS => ?_)
          have hP : va_P D classes (xW cI cZ q la (upd le ((sp_bas (sp_ef LB) LB.length).length) (nI (45))) li ke dn ca ne (nI (LB.length)) (nI (((sp_bas (sp_ef LB) LB.length).length) + 1)) (nI (LN.length)) (nI (KP.length)) at_) H := hP
          have hD : va_D A (xW cI cZ q la (upd le ((sp_bas (sp_ef LB) LB.length).length) (nI (45))) li ke dn ca ne (nI (LB.length)) (nI (((sp_bas (sp_ef LB) LB.length).length) + 1)) (nI (LN.length)) (nI (KP.length)) at_) := hD
          have ho : (sp_o (sp_ef LB) LB.length) = sp_bas (sp_ef LB) LB.length ++ [45] := by unfold sp_o; rw [if_pos (by omega)]
          have hle2 : sp_rep (upd le ((sp_bas (sp_ef LB) LB.length).length) (nI (45))) (sp_o (sp_ef LB) LB.length) := by rw [ho]; exact sp_rep_app hle 45
          rw [show nI ((sp_bas (sp_ef LB) LB.length).length + 1) = nI ((sp_o (sp_ef LB) LB.length)).length from by rw [ho]; exact sp_len1 _ _] at hP hD
          have hP : va_P D classes (xW cI cZ q la (upd le ((sp_bas (sp_ef LB) LB.length).length) (nI (45))) li ke dn ca ne (nI (LB.length)) (nI (((sp_o (sp_ef LB) LB.length)).length)) (nI (LN.length)) (nI (KP.length)) at_) H := hP
          have hD : va_D A (xW cI cZ q la (upd le ((sp_bas (sp_ef LB) LB.length).length) (nI (45))) li ke dn ca ne (nI (LB.length)) (nI (((sp_o (sp_ef LB) LB.length)).length)) (nI (LN.length)) (nI (KP.length)) at_) := hD
          exact lp2 (LB.length + 1) 0 ((fun j => decide (sp_ef LB j < 128))) 128 0 72 ((sp_o (sp_ef LB) LB.length)) dn (upd le ((sp_bas (sp_ef LB) LB.length).length) (nI (45))) (by omega) (by omega) rfl (sp_inv0 _ _ _ _ (sp_bas_len _ _).symm) hdn hle2 H locs hP hD hS ls (lv_sub hl [5, 4, 3, 2, 1, 0] rfl)
      · have hbk := hok2 k c_12
        refine lv_aload_n hx hb d_X_write_15 rfl (lv_at hl 0 rfl) ?_
        refine x_get (v := .ref (q 5)) hx hb hts hown hK hP rfl 4 (Nat.le_of_ble_eq_true rfl) m1_16 rfl rfl d_X_write_16 ?_
        refine lv_iload_n hx hb d_X_write_19 rfl (lv_at hl 1 rfl) ?_
        refine lv_aload_n hx hb d_X_write_20 rfl (lv_at hl 0 rfl) ?_
        refine x_get (v := .ref (q 1)) hx hb hts hown hK hP rfl 0 (Nat.le_of_ble_eq_true rfl) m1_12 rfl rfl d_X_write_21 ?_
        refine lv_iload_n hx hb d_X_write_24 rfl (lv_at hl 1 rfl) ?_
        refine k_iald hx hb hK hP 1 0 rfl rfl (by omega) (by omega) d_X_write_25 ?_
        refine k_cvi (show _ = nI (LB.getD (k) 0) from hla _ (by omega)) ?_
        refine lv_sipush (v := nI (128)) hx hb d_X_write_26 (by decide) ?_
        refine k_icmp_ge (tgt := 36) hx hb d_X_write_29 (by decide) (by omega) (by omega) (fun c_29 => ?_) (fun c_29 => ?_)
        · refine lv_iconst (v := nI (0)) hx hb d_X_write_36 (by decide) ?_
          refine k_zast hx hb hK hP hD hS 5 1 rfl rfl (by decide) (by omega) (by omega) d_X_write_37 (fun H locs hP hD hS => ?_)
          have hP : va_P D classes (xW cI cZ q la le li ke (upd dn (k) (nI (0))) ca ne (nI (LB.length)) (nI ((sp_bas (sp_ef LB) k).length)) (nI (LN.length)) (nI (KP.length)) at_) H := hP
          have hD : va_D A (xW cI cZ q la le li ke (upd dn (k) (nI (0))) ca ne (nI (LB.length)) (nI ((sp_bas (sp_ef LB) k).length)) (nI (LN.length)) (nI (KP.length)) at_) := hD
          refine lv_aload_n hx hb d_X_write_38 rfl (lv_at hl 0 rfl) ?_
          refine x_get (v := .ref (q 5)) hx hb hts hown hK hP rfl 4 (Nat.le_of_ble_eq_true rfl) m1_16 rfl rfl d_X_write_39 ?_
          refine lv_iload_n hx hb d_X_write_42 rfl (lv_at hl 1 rfl) ?_
          refine k_zald hx hb hK hP 5 1 rfl rfl (by omega) (by omega) d_X_write_43 ?_
          refine k_cvi (show _ = nI (0) from by unfold upd; rw [if_pos rfl]) ?_
          refine k_if_eq (tgt := 69) hx hb d_X_write_44 (by decide) (by omega) (fun c_44 => ?_) (fun c_44 => ?_)
          · refine lv_iinc (v := nI (k + 1)) (lv' := [(1, .int (nI (k + 1))), (0, .ref (q 0))]) hx hb d_X_write_69 hl (k := 1) rfl (k_inc (by decide)) (Nat.le_of_ble_eq_true rfl) rfl (fun ls hl => ?_)
            refine lv_goto (tgt := 7) hx hb d_X_write_72 (by decide) ?_
            have eb := sp_bas_no (f := sp_ef LB) (k := k) (show ¬ sp_ef LB k < 128 from by show ¬ LB.getD k 0 < 128; omega)
            rw [← eb] at hP hD hle
            have hdn2 := sp_dn_rep (f := sp_ef LB) (k := k) (z := false) (x := nI 0) hdn (by exact decide_eq_false (show ¬ LB.getD k 0 < 128 by omega)) rfl
            exact ih1 (k + 1) (upd dn (k) (nI (0))) le (by omega) (by omega) hdn2 hle H locs hP hD hS ls (lv_sub hl [1, 0] rfl)
          · exact absurd c_44 (by omega)
        · refine lv_iconst (v := nI (1)) hx hb d_X_write_32 (by decide) ?_
          refine lv_goto (tgt := 37) hx hb d_X_write_33 (by decide) ?_
          refine k_zast hx hb hK hP hD hS 5 1 rfl rfl (by decide) (by omega) (by omega) d_X_write_37 (fun H locs hP hD hS => ?_)
          have hP : va_P D classes (xW cI cZ q la le li ke (upd dn (k) (nI (1))) ca ne (nI (LB.length)) (nI ((sp_bas (sp_ef LB) k).length)) (nI (LN.length)) (nI (KP.length)) at_) H := hP
          have hD : va_D A (xW cI cZ q la le li ke (upd dn (k) (nI (1))) ca ne (nI (LB.length)) (nI ((sp_bas (sp_ef LB) k).length)) (nI (LN.length)) (nI (KP.length)) at_) := hD
          refine lv_aload_n hx hb d_X_write_38 rfl (lv_at hl 0 rfl) ?_
          refine x_get (v := .ref (q 5)) hx hb hts hown hK hP rfl 4 (Nat.le_of_ble_eq_true rfl) m1_16 rfl rfl d_X_write_39 ?_
          refine lv_iload_n hx hb d_X_write_42 rfl (lv_at hl 1 rfl) ?_
          refine k_zald hx hb hK hP 5 1 rfl rfl (by omega) (by omega) d_X_write_43 ?_
          refine k_cvi (show _ = nI (1) from by unfold upd; rw [if_pos rfl]) ?_
          refine k_if_eq (tgt := 69) hx hb d_X_write_44 (by decide) (by omega) (fun c_44 => ?_) (fun c_44 => ?_)
          · exact absurd c_44 (by omega)
          · refine lv_aload_n hx hb d_X_write_47 rfl (lv_at hl 0 rfl) ?_
            refine x_get (v := .ref (q 2)) hx hb hts hown hK hP rfl 1 (Nat.le_of_ble_eq_true rfl) m1_13 rfl rfl d_X_write_48 ?_
            refine lv_aload_n hx hb d_X_write_51 rfl (lv_at hl 0 rfl) ?_
            refine lv_dup hx hb d_X_write_52 rfl ?_
            refine x_get (v := .int (nI ((sp_bas (sp_ef LB) k).length))) hx hb hts hown hK hP rfl 8 (Nat.le_of_ble_eq_true rfl) m1_20 rfl rfl d_X_write_53 ?_
            refine lv_dup_x1 hx hb d_X_write_56 rfl rfl ?_
            refine lv_iconst (v := nI (1)) hx hb d_X_write_57 (by decide) ?_
            refine k_iadd hx hb d_X_write_58 ?_
            refine x_put hx hb hts hown hK hP hD hS rfl 8 (Nat.le_of_ble_eq_true rfl) m1_20 rfl rfl rfl (Nat.le_of_ble_eq_true rfl) d_X_write_59 (fun H locs hP hD hS => ?_)
            have hP : va_P D classes (xW cI cZ q la le li ke (upd dn (k) (nI (1))) ca ne (nI (LB.length)) (nI (((sp_bas (sp_ef LB) k).length) + 1)) (nI (LN.length)) (nI (KP.length)) at_) H := hP
            have hD : va_D A (xW cI cZ q la le li ke (upd dn (k) (nI (1))) ca ne (nI (LB.length)) (nI (((sp_bas (sp_ef LB) k).length) + 1)) (nI (LN.length)) (nI (KP.length)) at_) := hD
            refine lv_aload_n hx hb d_X_write_62 rfl (lv_at hl 0 rfl) ?_
            refine x_get (v := .ref (q 1)) hx hb hts hown hK hP rfl 0 (Nat.le_of_ble_eq_true rfl) m1_12 rfl rfl d_X_write_63 ?_
            refine lv_iload_n hx hb d_X_write_66 rfl (lv_at hl 1 rfl) ?_
            refine k_iald hx hb hK hP 1 0 rfl rfl (by omega) (by omega) d_X_write_67 ?_
            refine k_cvi (show _ = nI (LB.getD (k) 0) from hla _ (by omega)) ?_
            refine k_iast hx hb hK hP hD hS 2 0 rfl rfl (by omega) (by omega) d_X_write_68 (fun H locs hP hD hS => ?_)
            have hP : va_P D classes (xW cI cZ q la (upd le ((sp_bas (sp_ef LB) k).length) (nI (LB.getD (k) 0))) li ke (upd dn (k) (nI (1))) ca ne (nI (LB.length)) (nI (((sp_bas (sp_ef LB) k).length) + 1)) (nI (LN.length)) (nI (KP.length)) at_) H := hP
            have hD : va_D A (xW cI cZ q la (upd le ((sp_bas (sp_ef LB) k).length) (nI (LB.getD (k) 0))) li ke (upd dn (k) (nI (1))) ca ne (nI (LB.length)) (nI (((sp_bas (sp_ef LB) k).length) + 1)) (nI (LN.length)) (nI (KP.length)) at_) := hD
            refine lv_iinc (v := nI (k + 1)) (lv' := [(1, .int (nI (k + 1))), (0, .ref (q 0))]) hx hb d_X_write_69 hl (k := 1) rfl (k_inc (by decide)) (Nat.le_of_ble_eq_true rfl) rfl (fun ls hl => ?_)
            refine lv_goto (tgt := 7) hx hb d_X_write_72 (by decide) ?_
            obtain ⟨hle2, hw2⟩ := sp_bas_rep (f := sp_ef LB) hle (show sp_ef LB k < 128 from c_29)
            rw [hw2] at hP hD
            have hdn2 := sp_dn_rep (f := sp_ef LB) (k := k) (z := true) (x := nI 1) hdn (by exact decide_eq_true (show LB.getD k 0 < 128 by omega)) rfl
            exact ih1 (k + 1) (upd dn (k) (nI (1))) (upd le ((sp_bas (sp_ef LB) k).length) (nI (LB.getD (k) 0))) (by omega) (by omega) hdn2 hle2 H locs hP hD hS ls (lv_sub hl [1, 0] rfl)
  exact lp1 (LB.length + 1) 0 dn le (by omega) (by omega) (fun j h => absurd h (Nat.not_lt_zero _)) (sp_rep_nil _) H locs hP hD hS ls (lv_sub hl [1, 0] rfl)
end
section
/-! the desk's read -/
def sp_rdK (L : List Nat) : List Nat := (sp_dec L).getD []
def sp_rdV (L : List Nat) : Int32 := k_opt ((sp_dec L).map List.length)
theorem sp_rd_n {L : List Nat} (h : sp_dec L = none) : sp_rdK L = [] ∧ sp_rdV L = -1 := by unfold sp_rdK sp_rdV; rw [h]; exact ⟨rfl, rfl⟩
theorem sp_rd_s {L a : List Nat} (h : sp_dec L = some a) : sp_rdK L = a ∧ sp_rdV L = nI a.length := by unfold sp_rdK sp_rdV; rw [h]; exact ⟨rfl, rfl⟩
theorem k_max0 {a : Nat} (ha : a < 2 ^ 31) : (if nI a < nI 0 then nI 0 else nI a) = nI a := by rw [if_neg (nI_nlt (by omega) ha)]
theorem sp_take_ins {L : List Nat} {n : Nat} (h : n < L.length) : sp_ins (L.take n) n (L.getD n 0) = L.take (n + 1) := by
  have hl : (L.take n).length = n := by rw [List.length_take]; omega
  have e := sp_ins_end (L.take n) (L.getD n 0)
  rw [hl] at e
  rw [e, List.take_succ, List.getD_eq_getElem?_getD, List.getElem?_eq_getElem h]
  simp
abbrev r_X_read : Room := { frames := 2, cells := 0, slots := 0, locals := 51 }
set_option maxHeartbeats 4000000 in
set_option maxRecDepth 100000 in
/-- read() -/
theorem c_X_read (l : Launch) (D : va_G) (cI cZ : ClassId) (q : Nat → Nat) (sz0 : Nat) (la le li ke dn ca ne : Nat → Int32) (at_ : Int32) (LB LT LN KP : List Nat) (hla : sp_rep la LB) (hle : sp_rep le LT) (hli : sp_rep li LN) (hke : sp_rep ke KP) (hLN : LN.length ≤ 64) (hcn : sp_ch LN) : kM l y_X_read b_X_read 11 (some .int) r_X_read D (k_tys cI cZ) [.ref (q 0)] (xW cI cZ q la le li ke dn ca ne (nI (LB.length)) (nI (LT.length)) (nI (LN.length)) (nI (KP.length)) at_) sz0 (xP cI cZ q LB LT LN (sp_rdK LN) (some (.int (sp_rdV LN)))) := by
  refine k_met (by decide) (Nat.le_of_ble_eq_true rfl) ?_
  intro p e s m args below meth c A Q C0 hr hlk hnm hA hK hP hD hS hQ ls hl
  obtain ⟨hx, hb, hml, hown, hts⟩ := id C0
  have hl : lv_has ls 11 [(0, .ref (q 0))] := hl
  obtain ⟨hp0a, hp0b, hp0c⟩ := sp_p0_le LN
  have lp4 : ∀ (f4 : Nat) (r p0 : Nat) (acc ix : List Nat) (i pt bias : Nat) (ca ne : Nat → Int32), r < f4 → (LN.length ≤ p0 + r) → (p0 ≤ LN.length) → (acc.length ≤ p0) → (i ≤ acc.length) → (pt ≤ 1114111) → (bias < 268435456) → (sp_chain ne ca ix acc) → (sp_dc (sp_ef LN) LN.length r p0 acc i pt bias = sp_dec LN) → ∀ (H : Heap) (locs : List Loc), va_P D classes (xW cI cZ q la le li ke dn ca ne (nI (LB.length)) (nI (LT.length)) (nI (LN.length)) (nI (KP.length)) (nI (p0))) H → va_D A (xW cI cZ q la le li ke dn ca ne (nI (LB.length)) (nI (LT.length)) (nI (LN.length)) (nI (KP.length)) (nI (p0))) → va_S A s.heap H locs → ∀ ls : Array Slot, lv_has ls 11 [(0, .ref (q 0)), (3, .int (nI (acc.length))), (4, .long (lN (pt))), (6, .long (lN (i))), (8, .int (nI (bias)))] → W p l e r_X_read s m args below meth c H locs 0 0 Q (F0 m 94 ls []) := by
    intro f4
    induction f4 with
    | zero => intro r p0 acc ix i pt bias ca ne h; exact absurd h (Nat.not_lt_zero _)
    | succ f4 ih4 =>
      intro r p0 acc ix i pt bias ca ne hf4 hr0 hp hacc hi hpt hbi hch hd H locs hP hD hS ls hl
      refine lv_aload_n hx hb d_X_read_94 rfl (lv_at hl 0 rfl) ?_
      refine x_get (v := .int (nI (p0))) hx hb hts hown hK hP rfl 11 (Nat.le_of_ble_eq_true rfl) m1_23 rfl rfl d_X_read_95 ?_
      refine lv_aload_n hx hb d_X_read_98 rfl (lv_at hl 0 rfl) ?_
      refine x_get (v := .int (nI (LN.length))) hx hb hts hown hK hP rfl 9 (Nat.le_of_ble_eq_true rfl) m1_21 rfl rfl d_X_read_99 ?_
      refine k_icmp_ge (tgt := 232) hx hb d_X_read_102 (by decide) (by omega) (by omega) (fun c_102 => ?_) (fun c_102 => ?_)
      · have hds : sp_dec LN = some acc := by rw [← hd]; exact sp_dc_end c_102
        rw [(sp_rd_s hds).1, (sp_rd_s hds).2] at hQ
        refine lv_aload_n hx hb d_X_read_232 rfl (lv_at hl 0 rfl) ?_
        refine lv_iconst (v := nI (0)) hx hb d_X_read_233 (by decide) ?_
        refine x_put hx hb hts hown hK hP hD hS rfl 10 (Nat.le_of_ble_eq_true rfl) m1_22 rfl rfl rfl (Nat.le_of_ble_eq_true rfl) d_X_read_234 (fun H locs hP hD hS => ?_)
        have hP : va_P D classes (xW cI cZ q la le li ke dn ca ne (nI (LB.length)) (nI (LT.length)) (nI (LN.length)) (nI (0)) (nI (p0))) H := hP
        have hD : va_D A (xW cI cZ q la le li ke dn ca ne (nI (LB.length)) (nI (LT.length)) (nI (LN.length)) (nI (0)) (nI (p0))) := hD
        refine lv_aload_n hx hb d_X_read_237 rfl (lv_at hl 0 rfl) ?_
        refine x_get (v := .ref (q 7)) hx hb hts hown hK hP rfl 6 (Nat.le_of_ble_eq_true rfl) m1_18 rfl rfl d_X_read_238 ?_
        refine lv_bipush (v := nI (64)) hx hb d_X_read_241 (by decide) ?_
        refine k_iald hx hb hK hP 7 0 rfl rfl (by omega) (by omega) d_X_read_243 ?_
        refine lv_istore (lv' := [(9, .int (ne (64))), (0, .ref (q 0)), (3, .int (nI (acc.length))), (4, .long (lN (pt))), (6, .long (lN (i))), (8, .int (nI (bias)))]) hx hb d_X_read_244 hl (Nat.le_of_ble_eq_true rfl) rfl (fun ls hl => ?_)
        have lp5 : ∀ (f5 : Nat) (j : Nat) (ke : Nat → Int32), acc.length - j < f5 → (j ≤ acc.length) → (sp_rep ke (acc.take j)) → ∀ (H : Heap) (locs : List Loc), va_P D classes (xW cI cZ q la le li ke dn ca ne (nI (LB.length)) (nI (LT.length)) (nI (LN.length)) (nI (j)) (nI (p0))) H → va_D A (xW cI cZ q la le li ke dn ca ne (nI (LB.length)) (nI (LT.length)) (nI (LN.length)) (nI (j)) (nI (p0))) → va_S A s.heap H locs → ∀ ls : Array Slot, lv_has ls 11 [(0, .ref (q 0)), (9, .int (ne ((64 :: ix).getD j 0)))] → W p l e r_X_read s m args below meth c H locs 0 0 Q (F0 m 246 ls []) := by
          intro f5
          induction f5 with
          | zero => intro j ke h; exact absurd h (Nat.not_lt_zero _)
          | succ f5 ih5 =>
            intro j ke hf5 hj hke H locs hP hD hS ls hl
            by_cases hj2 : j < acc.length
            · have e9 : ne ((64 :: ix).getD j 0) = nI (ix.getD j 0) := sp_link_at ix 64 j hch.1 (by rw [sp_chain_len hch]; exact hj2)
              rw [e9] at hl
              have hlt := sp_chain_lt hch hj2
              refine lv_iload hx hb d_X_read_246 (lv_at hl 1 rfl) ?_
              refine lv_iconst (v := -1) hx hb d_X_read_248 (by decide) ?_
              refine k_icmp_eqM (tgt := 287) hx hb d_X_read_249 (by decide) (by omega) ?_
              refine lv_aload_n hx hb d_X_read_252 rfl (lv_at hl 0 rfl) ?_
              refine x_get (v := .ref (q 4)) hx hb hts hown hK hP rfl 3 (Nat.le_of_ble_eq_true rfl) m1_15 rfl rfl d_X_read_253 ?_
              refine lv_aload_n hx hb d_X_read_256 rfl (lv_at hl 0 rfl) ?_
              refine lv_dup hx hb d_X_read_257 rfl ?_
              refine x_get (v := .int (nI (j))) hx hb hts hown hK hP rfl 10 (Nat.le_of_ble_eq_true rfl) m1_22 rfl rfl d_X_read_258 ?_
              refine lv_dup_x1 hx hb d_X_read_261 rfl rfl ?_
              refine lv_iconst (v := nI (1)) hx hb d_X_read_262 (by decide) ?_
              refine k_iadd hx hb d_X_read_263 ?_
              refine x_put hx hb hts hown hK hP hD hS rfl 10 (Nat.le_of_ble_eq_true rfl) m1_22 rfl rfl rfl (Nat.le_of_ble_eq_true rfl) d_X_read_264 (fun H locs hP hD hS => ?_)
              have hP : va_P D classes (xW cI cZ q la le li ke dn ca ne (nI (LB.length)) (nI (LT.length)) (nI (LN.length)) (nI (j + 1)) (nI (p0))) H := hP
              have hD : va_D A (xW cI cZ q la le li ke dn ca ne (nI (LB.length)) (nI (LT.length)) (nI (LN.length)) (nI (j + 1)) (nI (p0))) := hD
              refine lv_aload_n hx hb d_X_read_267 rfl (lv_at hl 0 rfl) ?_
              refine x_get (v := .ref (q 6)) hx hb hts hown hK hP rfl 5 (Nat.le_of_ble_eq_true rfl) m1_17 rfl rfl d_X_read_268 ?_
              refine lv_iload hx hb d_X_read_271 (lv_at hl 1 rfl) ?_
              refine k_iald hx hb hK hP 6 0 rfl rfl (by omega) (by omega) d_X_read_273 ?_
              refine k_cvi (show _ = nI (acc.getD j 0) from sp_chain_ca hch hj2) ?_
              refine k_iast hx hb hK hP hD hS 4 0 rfl rfl (by omega) (by omega) d_X_read_274 (fun H locs hP hD hS => ?_)
              have hP : va_P D classes (xW cI cZ q la le li (upd ke (j) (nI (acc.getD j 0))) dn ca ne (nI (LB.length)) (nI (LT.length)) (nI (LN.length)) (nI (j + 1)) (nI (p0))) H := hP
              have hD : va_D A (xW cI cZ q la le li (upd ke (j) (nI (acc.getD j 0))) dn ca ne (nI (LB.length)) (nI (LT.length)) (nI (LN.length)) (nI (j + 1)) (nI (p0))) := hD
              refine lv_aload_n hx hb d_X_read_275 rfl (lv_at hl 0 rfl) ?_
              refine x_get (v := .ref (q 7)) hx hb hts hown hK hP rfl 6 (Nat.le_of_ble_eq_true rfl) m1_18 rfl rfl d_X_read_276 ?_
              refine lv_iload hx hb d_X_read_279 (lv_at hl 1 rfl) ?_
              refine k_iald hx hb hK hP 7 0 rfl rfl (by omega) (by omega) d_X_read_281 ?_
              refine k_cvi (show _ = ne ((64 :: ix).getD (j + 1) 0) from rfl) ?_
              refine lv_istore (lv' := [(9, .int (ne ((64 :: ix).getD (j + 1) 0))), (0, .ref (q 0))]) hx hb d_X_read_282 hl (Nat.le_of_ble_eq_true rfl) rfl (fun ls hl => ?_)
              refine lv_goto (tgt := 246) hx hb d_X_read_284 (by decide) ?_
              have hke2 := sp_rep_tk hke hj2
              exact ih5 (j + 1) (upd ke (j) (nI (acc.getD j 0))) (by omega) (by omega) hke2 H locs hP hD hS ls (lv_sub hl [1, 0] rfl)
            · have ej : j = acc.length := by omega
              subst ej
              have e9 : ne ((64 :: ix).getD acc.length 0) = -1 := by have := sp_link_last ix 64 hch.1; rw [sp_chain_len hch] at this; exact this
              rw [e9] at hl
              rw [List.take_length] at hke
              refine lv_iload hx hb d_X_read_246 (lv_at hl 1 rfl) ?_
              refine lv_iconst (v := -1) hx hb d_X_read_248 (by decide) ?_
              refine k_icmp_eqMM (tgt := 287) hx hb d_X_read_249 (by decide) ?_
              refine lv_aload_n hx hb d_X_read_287 rfl (lv_at hl 0 rfl) ?_
              refine x_get (v := .int (nI (acc.length))) hx hb hts hown hK hP rfl 10 (Nat.le_of_ble_eq_true rfl) m1_22 rfl rfl d_X_read_288 ?_
              exact k_reti hx hb hr hlk hQ hK hP hD hS (xP_mk rfl rfl rfl rfl rfl hla hle hli hke) d_X_read_291
        exact lp5 (acc.length + 1) 0 ke (by omega) (by omega) (sp_rep_nil _) H locs hP hD hS ls (lv_sub hl [1, 0] rfl)
      · have hr1 : 1 ≤ r := by omega
        refine lv_aload_n hx hb d_X_read_105 rfl (lv_at hl 0 rfl) ?_
        refine lv_lload hx hb d_X_read_106 (lv_at hl 3 rfl) ?_
        refine lv_iload hx hb d_X_read_108 (lv_at hl 4 rfl) ?_
        refine k_callV [.long (lN i), .int (nI bias)] C0 (c_X_told l D cI cZ q H.size la le li ke dn ca ne (nI (LB.length)) (nI (LT.length)) (nI (KP.length)) LN hli hLN hcn p0 i bias (by omega) (by omega) hbi) m1_145 m1_142 m1_1 m1_144 mp_6 hd_X_told ⟨(Nat.le_of_ble_eq_true rfl), (Nat.le_of_ble_eq_true rfl)⟩ hK hP hD hS hA (ci := 0) rfl rfl rfl rfl hl.1 (Nat.le_of_ble_eq_true rfl) d_X_read_110 ⟨(Nat.le_of_ble_eq_true rfl), (Nat.le_of_ble_eq_true rfl)⟩ (fun v ws H locs hw hP hD hS => ?_)
        rcases hw with ⟨at1, rfl, ⟨hT, rfl⟩ | ⟨p', i', hT, rfl, rfl⟩⟩
        · show W p l e r_X_read s m args below meth c H locs 0 0 Q (F0 m 113 ls [.long (-1)])
          have hP : va_P D classes (xW cI cZ q la le li ke dn ca ne (nI (LB.length)) (nI (LT.length)) (nI (LN.length)) (nI (KP.length)) at1) H := hP
          have hD : va_D A (xW cI cZ q la le li ke dn ca ne (nI (LB.length)) (nI (LT.length)) (nI (LN.length)) (nI (KP.length)) at1) := hD
          refine lv_lstore (lv' := [(9, .long (-1)), (0, .ref (q 0)), (3, .int (nI (acc.length))), (4, .long (lN (pt))), (6, .long (lN (i))), (8, .int (nI (bias)))]) hx hb d_X_read_113 hl (Nat.le_of_ble_eq_true rfl) rfl (fun ls hl => ?_)
          refine lv_lload hx hb d_X_read_115 (lv_at hl 0 rfl) ?_
          refine lv_lconst (v := lN 0) hx hb d_X_read_117 rfl ?_
          refine k_lc_geM (tgt := 127) hx hb d_X_read_118 d_X_read_119 (by decide) ?_
          refine lv_aload_n hx hb d_X_read_122 rfl (lv_at hl 1 rfl) ?_
          refine k_callV [] C0 (c_X_refused l D cI cZ q H.size la le li ke dn ca ne at1 LB LT LN KP hla hle hli hke) m1_154 m1_151 m1_1 m1_153 mp_7 hd_X_refused ⟨(Nat.le_of_ble_eq_true rfl), (Nat.le_of_ble_eq_true rfl)⟩ hK hP hD hS hA (ci := 0) rfl rfl rfl rfl hl.1 (Nat.le_of_ble_eq_true rfl) d_X_read_123 ⟨(Nat.le_of_ble_eq_true rfl), (Nat.le_of_ble_eq_true rfl)⟩ (fun v ws H locs hw hP hD hS => ?_)
          obtain ⟨rfl, la, le, li, ke, dn, ca, ne, at_, rfl, hla, hle, hli, hke⟩ := hw
          show W p l e r_X_read s m args below meth c H locs 0 0 Q (F0 m 126 ls [.int (-1)])
          have hP : va_P D classes (xW cI cZ q la le li ke dn ca ne (nI (LB.length)) (nI (LT.length)) (nI (LN.length)) (nI (([] : List Nat).length)) at_) H := hP
          have hD : va_D A (xW cI cZ q la le li ke dn ca ne (nI (LB.length)) (nI (LT.length)) (nI (LN.length)) (nI (([] : List Nat).length)) at_) := hD
          have hdn : sp_dec LN = none := by rw [← hd, show r = (r - 1) + 1 by omega]; exact sp_dc_no (by omega) hT
          rw [(sp_rd_n hdn).1, (sp_rd_n hdn).2] at hQ
          exact k_reti hx hb hr hlk hQ hK hP hD hS (xP_mk rfl rfl rfl rfl rfl hla hle hli hke) d_X_read_126
        · show W p l e r_X_read s m args below meth c H locs 0 0 Q (F0 m 113 ls [.long (lN (i' - i))])
          have hP : va_P D classes (xW cI cZ q la le li ke dn ca ne (nI (LB.length)) (nI (LT.length)) (nI (LN.length)) (nI (KP.length)) (nI (p'))) H := hP
          have hD : va_D A (xW cI cZ q la le li ke dn ca ne (nI (LB.length)) (nI (LT.length)) (nI (LN.length)) (nI (KP.length)) (nI (p'))) := hD
          obtain ⟨a1, a2, a3, a4⟩ := sp_told_p _ _ _ _ _ _ _ hT
          have hdv := Nat.div_le_self i' (acc.length + 1)
          have hmd := Nat.mod_lt i' (show acc.length + 1 > 0 by omega)
          refine lv_lstore (lv' := [(9, .long (lN (i' - i))), (0, .ref (q 0)), (3, .int (nI (acc.length))), (4, .long (lN (pt))), (6, .long (lN (i))), (8, .int (nI (bias)))]) hx hb d_X_read_113 hl (Nat.le_of_ble_eq_true rfl) rfl (fun ls hl => ?_)
          refine lv_lload hx hb d_X_read_115 (lv_at hl 0 rfl) ?_
          refine lv_lconst (v := lN 0) hx hb d_X_read_117 rfl ?_
          refine k_lc_ge (tgt := 127) hx hb d_X_read_118 d_X_read_119 (by decide) (by omega) (by omega) (fun c_118 => ?_) (fun c_118 => ?_)
          · refine lv_lload hx hb d_X_read_127 (lv_at hl 0 rfl) ?_
            refine lv_iload_n hx hb d_X_read_129 rfl (lv_at hl 2 rfl) ?_
            refine lv_iconst (v := nI (1)) hx hb d_X_read_130 (by decide) ?_
            refine k_iadd hx hb d_X_read_131 ?_
            refine lv_lload hx hb d_X_read_132 (lv_at hl 4 rfl) ?_
            refine lv_lconst (v := lN 0) hx hb d_X_read_134 rfl ?_
            refine k_lc_ne (tgt := 143) hx hb d_X_read_135 d_X_read_136 (by decide) (by omega) (by omega) (fun c_135 => ?_) (fun c_135 => ?_)
            · refine lv_iconst (v := nI (0)) hx hb d_X_read_143 (by decide) ?_
              have ht0 : (i == 0) = false := beq_eq_false_iff_ne.mpr (by omega)
              refine k_callR [.long (lN (i' - i)), .int (nI ((acc.length) + 1)), .int (nI (0))] C0 (c_X_adapted l (i' - i) (acc.length + 1) false (by omega) (by omega) (by omega)) m1_97 m1_95 m1_1 m1_96 hd_X_adapted ⟨(Nat.le_of_ble_eq_true rfl), (Nat.le_of_ble_eq_true rfl)⟩ rfl rfl rfl hl.1 (Nat.le_of_ble_eq_true rfl) d_X_read_144 ⟨Nat.zero_le _, Nat.zero_le _⟩ ?_
              refine k_cvi (show _ = nI (sp_adapt (i' - i) (acc.length + 1) (i == 0)) from by rw [ht0]) ?_
              refine lv_istore (lv' := [(8, .int (nI (sp_adapt (i' - i) (acc.length + 1) (i == 0)))), (9, .long (lN (i' - i))), (0, .ref (q 0)), (3, .int (nI (acc.length))), (4, .long (lN (pt))), (6, .long (lN (i)))]) hx hb d_X_read_147 hl (Nat.le_of_ble_eq_true rfl) rfl (fun ls hl => ?_)
              refine lv_lload hx hb d_X_read_149 (lv_at hl 5 rfl) ?_
              refine lv_lload hx hb d_X_read_151 (lv_at hl 1 rfl) ?_
              refine k_ladd hx hb d_X_read_153 ?_
              refine k_cvl (show _ = lN (i') from by rw [show i + (i' - i) = i' by omega]) ?_
              refine lv_lstore (lv' := [(6, .long (lN (i'))), (8, .int (nI (sp_adapt (i' - i) (acc.length + 1) (i == 0)))), (9, .long (lN (i' - i))), (0, .ref (q 0)), (3, .int (nI (acc.length))), (4, .long (lN (pt)))]) hx hb d_X_read_154 hl (Nat.le_of_ble_eq_true rfl) rfl (fun ls hl => ?_)
              refine lv_lload hx hb d_X_read_156 (lv_at hl 5 rfl) ?_
              refine lv_lload hx hb d_X_read_158 (lv_at hl 0 rfl) ?_
              refine lv_iload_n hx hb d_X_read_160 rfl (lv_at hl 4 rfl) ?_
              refine lv_iconst (v := nI (1)) hx hb d_X_read_161 (by decide) ?_
              refine k_iadd hx hb d_X_read_162 ?_
              refine k_i2l hx hb (by omega) d_X_read_163 ?_
              refine k_ldiv hx hb (by omega) (by omega) (by omega) d_X_read_164 ?_
              refine k_ladd hx hb d_X_read_165 ?_
              refine lv_lstore (lv' := [(4, .long (lN (pt + (i' / ((acc.length) + 1))))), (6, .long (lN (i'))), (8, .int (nI (sp_adapt (i' - i) (acc.length + 1) (i == 0)))), (9, .long (lN (i' - i))), (0, .ref (q 0)), (3, .int (nI (acc.length)))]) hx hb d_X_read_166 hl (Nat.le_of_ble_eq_true rfl) rfl (fun ls hl => ?_)
              refine lv_lload hx hb d_X_read_168 (lv_at hl 1 rfl) ?_
              refine lv_iload_n hx hb d_X_read_170 rfl (lv_at hl 5 rfl) ?_
              refine lv_iconst (v := nI (1)) hx hb d_X_read_171 (by decide) ?_
              refine k_iadd hx hb d_X_read_172 ?_
              refine k_i2l hx hb (by omega) d_X_read_173 ?_
              refine k_lrem hx hb (by omega) (by omega) (by omega) d_X_read_174 ?_
              refine lv_lstore (lv' := [(6, .long (lN (i' % ((acc.length) + 1)))), (4, .long (lN (pt + (i' / ((acc.length) + 1))))), (8, .int (nI (sp_adapt (i' - i) (acc.length + 1) (i == 0)))), (9, .long (lN (i' - i))), (0, .ref (q 0)), (3, .int (nI (acc.length)))]) hx hb d_X_read_175 hl (Nat.le_of_ble_eq_true rfl) rfl (fun ls hl => ?_)
              refine lv_lload hx hb d_X_read_177 (lv_at hl 1 rfl) ?_
              refine lv_ldc2 (v := lN (1114111)) hx hb hown (hts _ m1_155) d_X_read_179 ?_
              refine k_lc_gt (tgt := 204) hx hb d_X_read_182 d_X_read_183 (by decide) (by omega) (by omega) (fun c_182 => ?_) (fun c_182 => ?_)
              · refine lv_aload_n hx hb d_X_read_204 rfl (lv_at hl 4 rfl) ?_
                refine k_callV [] C0 (c_X_refused l D cI cZ q H.size la le li ke dn ca ne (nI (p')) LB LT LN KP hla hle hli hke) m1_154 m1_151 m1_1 m1_153 mp_7 hd_X_refused ⟨(Nat.le_of_ble_eq_true rfl), (Nat.le_of_ble_eq_true rfl)⟩ hK hP hD hS hA (ci := 0) rfl rfl rfl rfl hl.1 (Nat.le_of_ble_eq_true rfl) d_X_read_205 ⟨(Nat.le_of_ble_eq_true rfl), (Nat.le_of_ble_eq_true rfl)⟩ (fun v ws H locs hw hP hD hS => ?_)
                obtain ⟨rfl, la, le, li, ke, dn, ca, ne, at_, rfl, hla, hle, hli, hke⟩ := hw
                show W p l e r_X_read s m args below meth c H locs 0 0 Q (F0 m 208 ls [.int (-1)])
                have hP : va_P D classes (xW cI cZ q la le li ke dn ca ne (nI (LB.length)) (nI (LT.length)) (nI (LN.length)) (nI (([] : List Nat).length)) at_) H := hP
                have hD : va_D A (xW cI cZ q la le li ke dn ca ne (nI (LB.length)) (nI (LT.length)) (nI (LN.length)) (nI (([] : List Nat).length)) at_) := hD
                have hdn : sp_dec LN = none := by rw [← hd, show r = (r - 1) + 1 by omega]; exact sp_dc_bad (by omega) hT (by omega)
                rw [(sp_rd_n hdn).1, (sp_rd_n hdn).2] at hQ
                exact k_reti hx hb hr hlk hQ hK hP hD hS (xP_mk rfl rfl rfl rfl rfl hla hle hli hke) d_X_read_208
              · refine lv_lload hx hb d_X_read_186 (lv_at hl 1 rfl) ?_
                refine lv_ldc2 (v := lN (55296)) hx hb hown (hts _ m1_156) d_X_read_188 ?_
                refine k_lc_lt (tgt := 209) hx hb d_X_read_191 d_X_read_192 (by decide) (by omega) (by omega) (fun c_191 => ?_) (fun c_191 => ?_)
                · refine lv_aload_n hx hb d_X_read_209 rfl (lv_at hl 4 rfl) ?_
                  refine lv_iload_n hx hb d_X_read_210 rfl (lv_at hl 5 rfl) ?_
                  refine lv_lload hx hb d_X_read_211 (lv_at hl 0 rfl) ?_
                  refine k_l2i hx hb d_X_read_213 ?_
                  refine lv_lload hx hb d_X_read_214 (lv_at hl 1 rfl) ?_
                  refine k_l2i hx hb d_X_read_216 ?_
                  refine k_callV [.int (nI (acc.length)), .int (nI (i' % ((acc.length) + 1))), .int (nI (pt + (i' / ((acc.length) + 1))))] C0 (c_X_put3 l D cI cZ q H.size la le li ke dn ca ne (nI (LB.length)) (nI (LT.length)) (nI (LN.length)) (nI (KP.length)) (nI (p')) ix acc hch (i' % (acc.length + 1)) (pt + i' / (acc.length + 1)) (by omega) (by omega)) m1_140 m1_137 m1_1 m1_139 mp_5 hd_X_put3 ⟨(Nat.le_of_ble_eq_true rfl), (Nat.le_of_ble_eq_true rfl)⟩ hK hP hD hS hA (ci := 0) rfl rfl rfl rfl hl.1 (Nat.le_of_ble_eq_true rfl) d_X_read_217 ⟨(Nat.le_of_ble_eq_true rfl), (Nat.le_of_ble_eq_true rfl)⟩ (fun v ws H locs hw hP hD hS => ?_)
                  obtain ⟨rfl, ca, ne, ix1, rfl, hch⟩ := hw
                  show W p l e r_X_read s m args below meth c H locs 0 0 Q (F0 m 220 ls [])
                  have hP : va_P D classes (xW cI cZ q la le li ke dn ca ne (nI (LB.length)) (nI (LT.length)) (nI (LN.length)) (nI (KP.length)) (nI (p'))) H := hP
                  have hD : va_D A (xW cI cZ q la le li ke dn ca ne (nI (LB.length)) (nI (LT.length)) (nI (LN.length)) (nI (KP.length)) (nI (p'))) := hD
                  refine lv_lload hx hb d_X_read_220 (lv_at hl 0 rfl) ?_
                  refine lv_lconst (v := lN 1) hx hb d_X_read_222 rfl ?_
                  refine k_ladd hx hb d_X_read_223 ?_
                  refine lv_lstore (lv' := [(6, .long (lN ((i' % ((acc.length) + 1)) + 1))), (4, .long (lN (pt + (i' / ((acc.length) + 1))))), (8, .int (nI (sp_adapt (i' - i) (acc.length + 1) (i == 0)))), (9, .long (lN (i' - i))), (0, .ref (q 0)), (3, .int (nI (acc.length)))]) hx hb d_X_read_224 hl (Nat.le_of_ble_eq_true rfl) rfl (fun ls hl => ?_)
                  refine lv_iinc (v := nI ((acc.length) + 1)) (lv' := [(3, .int (nI ((acc.length) + 1))), (6, .long (lN ((i' % ((acc.length) + 1)) + 1))), (4, .long (lN (pt + (i' / ((acc.length) + 1))))), (8, .int (nI (sp_adapt (i' - i) (acc.length + 1) (i == 0)))), (9, .long (lN (i' - i))), (0, .ref (q 0))]) hx hb d_X_read_226 hl (k := 5) rfl (k_inc (by decide)) (Nat.le_of_ble_eq_true rfl) rfl (fun ls hl => ?_)
                  refine lv_goto (tgt := 94) hx hb d_X_read_229 (by decide) ?_
                  have hd2 : sp_dc (sp_ef LN) LN.length (r - 1) p' (sp_ins acc (i' % (acc.length + 1)) (pt + i' / (acc.length + 1))) (i' % (acc.length + 1) + 1) (pt + i' / (acc.length + 1)) (sp_adapt (i' - i) (acc.length + 1) (i == 0)) = sp_dec LN := (sp_dc_go (r := r - 1) (by omega) hT (by omega)).symm.trans ((congrArg (fun z => sp_dc (sp_ef LN) LN.length z p0 acc i pt bias) (show r - 1 + 1 = r by omega)).trans hd)
                  have hba := sp_adapt_le (i' - i) (acc.length + 1) (i == 0)
                  have hln := sp_ins_len acc (i' % (acc.length + 1)) (pt + i' / (acc.length + 1))
                  exact ih4 (r - 1) p' (sp_ins acc (i' % (acc.length + 1)) (pt + i' / (acc.length + 1))) ix1 (i' % (acc.length + 1) + 1) (pt + i' / (acc.length + 1)) (sp_adapt (i' - i) (acc.length + 1) (i == 0)) ca ne (by omega) (by omega) (by omega) (by omega) (by omega) (by omega) (by omega) hch hd2 H locs hP hD hS ls (by rw [hln]; exact (lv_sub hl [5, 0, 2, 1, 3] rfl))
                · refine lv_lload hx hb d_X_read_195 (lv_at hl 1 rfl) ?_
                  refine lv_ldc2 (v := lN (57344)) hx hb hown (hts _ m1_157) d_X_read_197 ?_
                  refine k_lc_ge (tgt := 209) hx hb d_X_read_200 d_X_read_201 (by decide) (by omega) (by omega) (fun c_200 => ?_) (fun c_200 => ?_)
                  · refine lv_aload_n hx hb d_X_read_209 rfl (lv_at hl 4 rfl) ?_
                    refine lv_iload_n hx hb d_X_read_210 rfl (lv_at hl 5 rfl) ?_
                    refine lv_lload hx hb d_X_read_211 (lv_at hl 0 rfl) ?_
                    refine k_l2i hx hb d_X_read_213 ?_
                    refine lv_lload hx hb d_X_read_214 (lv_at hl 1 rfl) ?_
                    refine k_l2i hx hb d_X_read_216 ?_
                    refine k_callV [.int (nI (acc.length)), .int (nI (i' % ((acc.length) + 1))), .int (nI (pt + (i' / ((acc.length) + 1))))] C0 (c_X_put3 l D cI cZ q H.size la le li ke dn ca ne (nI (LB.length)) (nI (LT.length)) (nI (LN.length)) (nI (KP.length)) (nI (p')) ix acc hch (i' % (acc.length + 1)) (pt + i' / (acc.length + 1)) (by omega) (by omega)) m1_140 m1_137 m1_1 m1_139 mp_5 hd_X_put3 ⟨(Nat.le_of_ble_eq_true rfl), (Nat.le_of_ble_eq_true rfl)⟩ hK hP hD hS hA (ci := 0) rfl rfl rfl rfl hl.1 (Nat.le_of_ble_eq_true rfl) d_X_read_217 ⟨(Nat.le_of_ble_eq_true rfl), (Nat.le_of_ble_eq_true rfl)⟩ (fun v ws H locs hw hP hD hS => ?_)
                    obtain ⟨rfl, ca, ne, ix1, rfl, hch⟩ := hw
                    show W p l e r_X_read s m args below meth c H locs 0 0 Q (F0 m 220 ls [])
                    have hP : va_P D classes (xW cI cZ q la le li ke dn ca ne (nI (LB.length)) (nI (LT.length)) (nI (LN.length)) (nI (KP.length)) (nI (p'))) H := hP
                    have hD : va_D A (xW cI cZ q la le li ke dn ca ne (nI (LB.length)) (nI (LT.length)) (nI (LN.length)) (nI (KP.length)) (nI (p'))) := hD
                    refine lv_lload hx hb d_X_read_220 (lv_at hl 0 rfl) ?_
                    refine lv_lconst (v := lN 1) hx hb d_X_read_222 rfl ?_
                    refine k_ladd hx hb d_X_read_223 ?_
                    refine lv_lstore (lv' := [(6, .long (lN ((i' % ((acc.length) + 1)) + 1))), (4, .long (lN (pt + (i' / ((acc.length) + 1))))), (8, .int (nI (sp_adapt (i' - i) (acc.length + 1) (i == 0)))), (9, .long (lN (i' - i))), (0, .ref (q 0)), (3, .int (nI (acc.length)))]) hx hb d_X_read_224 hl (Nat.le_of_ble_eq_true rfl) rfl (fun ls hl => ?_)
                    refine lv_iinc (v := nI ((acc.length) + 1)) (lv' := [(3, .int (nI ((acc.length) + 1))), (6, .long (lN ((i' % ((acc.length) + 1)) + 1))), (4, .long (lN (pt + (i' / ((acc.length) + 1))))), (8, .int (nI (sp_adapt (i' - i) (acc.length + 1) (i == 0)))), (9, .long (lN (i' - i))), (0, .ref (q 0))]) hx hb d_X_read_226 hl (k := 5) rfl (k_inc (by decide)) (Nat.le_of_ble_eq_true rfl) rfl (fun ls hl => ?_)
                    refine lv_goto (tgt := 94) hx hb d_X_read_229 (by decide) ?_
                    have hd2 : sp_dc (sp_ef LN) LN.length (r - 1) p' (sp_ins acc (i' % (acc.length + 1)) (pt + i' / (acc.length + 1))) (i' % (acc.length + 1) + 1) (pt + i' / (acc.length + 1)) (sp_adapt (i' - i) (acc.length + 1) (i == 0)) = sp_dec LN := (sp_dc_go (r := r - 1) (by omega) hT (by omega)).symm.trans ((congrArg (fun z => sp_dc (sp_ef LN) LN.length z p0 acc i pt bias) (show r - 1 + 1 = r by omega)).trans hd)
                    have hba := sp_adapt_le (i' - i) (acc.length + 1) (i == 0)
                    have hln := sp_ins_len acc (i' % (acc.length + 1)) (pt + i' / (acc.length + 1))
                    exact ih4 (r - 1) p' (sp_ins acc (i' % (acc.length + 1)) (pt + i' / (acc.length + 1))) ix1 (i' % (acc.length + 1) + 1) (pt + i' / (acc.length + 1)) (sp_adapt (i' - i) (acc.length + 1) (i == 0)) ca ne (by omega) (by omega) (by omega) (by omega) (by omega) (by omega) (by omega) hch hd2 H locs hP hD hS ls (by rw [hln]; exact (lv_sub hl [5, 0, 2, 1, 3] rfl))
                  · refine lv_aload_n hx hb d_X_read_204 rfl (lv_at hl 4 rfl) ?_
                    refine k_callV [] C0 (c_X_refused l D cI cZ q H.size la le li ke dn ca ne (nI (p')) LB LT LN KP hla hle hli hke) m1_154 m1_151 m1_1 m1_153 mp_7 hd_X_refused ⟨(Nat.le_of_ble_eq_true rfl), (Nat.le_of_ble_eq_true rfl)⟩ hK hP hD hS hA (ci := 0) rfl rfl rfl rfl hl.1 (Nat.le_of_ble_eq_true rfl) d_X_read_205 ⟨(Nat.le_of_ble_eq_true rfl), (Nat.le_of_ble_eq_true rfl)⟩ (fun v ws H locs hw hP hD hS => ?_)
                    obtain ⟨rfl, la, le, li, ke, dn, ca, ne, at_, rfl, hla, hle, hli, hke⟩ := hw
                    show W p l e r_X_read s m args below meth c H locs 0 0 Q (F0 m 208 ls [.int (-1)])
                    have hP : va_P D classes (xW cI cZ q la le li ke dn ca ne (nI (LB.length)) (nI (LT.length)) (nI (LN.length)) (nI (([] : List Nat).length)) at_) H := hP
                    have hD : va_D A (xW cI cZ q la le li ke dn ca ne (nI (LB.length)) (nI (LT.length)) (nI (LN.length)) (nI (([] : List Nat).length)) at_) := hD
                    have hdn : sp_dec LN = none := by rw [← hd, show r = (r - 1) + 1 by omega]; exact sp_dc_bad (by omega) hT (by omega)
                    rw [(sp_rd_n hdn).1, (sp_rd_n hdn).2] at hQ
                    exact k_reti hx hb hr hlk hQ hK hP hD hS (xP_mk rfl rfl rfl rfl rfl hla hle hli hke) d_X_read_208
            · refine lv_iconst (v := nI (1)) hx hb d_X_read_139 (by decide) ?_
              refine lv_goto (tgt := 144) hx hb d_X_read_140 (by decide) ?_
              have ht0 : (i == 0) = true := by rw [show i = 0 by omega]; rfl
              refine k_callR [.long (lN (i' - i)), .int (nI ((acc.length) + 1)), .int (nI (1))] C0 (c_X_adapted l (i' - i) (acc.length + 1) true (by omega) (by omega) (by omega)) m1_97 m1_95 m1_1 m1_96 hd_X_adapted ⟨(Nat.le_of_ble_eq_true rfl), (Nat.le_of_ble_eq_true rfl)⟩ rfl rfl rfl hl.1 (Nat.le_of_ble_eq_true rfl) d_X_read_144 ⟨Nat.zero_le _, Nat.zero_le _⟩ ?_
              refine k_cvi (show _ = nI (sp_adapt (i' - i) (acc.length + 1) (i == 0)) from by rw [ht0]) ?_
              refine lv_istore (lv' := [(8, .int (nI (sp_adapt (i' - i) (acc.length + 1) (i == 0)))), (9, .long (lN (i' - i))), (0, .ref (q 0)), (3, .int (nI (acc.length))), (4, .long (lN (pt))), (6, .long (lN (i)))]) hx hb d_X_read_147 hl (Nat.le_of_ble_eq_true rfl) rfl (fun ls hl => ?_)
              refine lv_lload hx hb d_X_read_149 (lv_at hl 5 rfl) ?_
              refine lv_lload hx hb d_X_read_151 (lv_at hl 1 rfl) ?_
              refine k_ladd hx hb d_X_read_153 ?_
              refine k_cvl (show _ = lN (i') from by rw [show i + (i' - i) = i' by omega]) ?_
              refine lv_lstore (lv' := [(6, .long (lN (i'))), (8, .int (nI (sp_adapt (i' - i) (acc.length + 1) (i == 0)))), (9, .long (lN (i' - i))), (0, .ref (q 0)), (3, .int (nI (acc.length))), (4, .long (lN (pt)))]) hx hb d_X_read_154 hl (Nat.le_of_ble_eq_true rfl) rfl (fun ls hl => ?_)
              refine lv_lload hx hb d_X_read_156 (lv_at hl 5 rfl) ?_
              refine lv_lload hx hb d_X_read_158 (lv_at hl 0 rfl) ?_
              refine lv_iload_n hx hb d_X_read_160 rfl (lv_at hl 4 rfl) ?_
              refine lv_iconst (v := nI (1)) hx hb d_X_read_161 (by decide) ?_
              refine k_iadd hx hb d_X_read_162 ?_
              refine k_i2l hx hb (by omega) d_X_read_163 ?_
              refine k_ldiv hx hb (by omega) (by omega) (by omega) d_X_read_164 ?_
              refine k_ladd hx hb d_X_read_165 ?_
              refine lv_lstore (lv' := [(4, .long (lN (pt + (i' / ((acc.length) + 1))))), (6, .long (lN (i'))), (8, .int (nI (sp_adapt (i' - i) (acc.length + 1) (i == 0)))), (9, .long (lN (i' - i))), (0, .ref (q 0)), (3, .int (nI (acc.length)))]) hx hb d_X_read_166 hl (Nat.le_of_ble_eq_true rfl) rfl (fun ls hl => ?_)
              refine lv_lload hx hb d_X_read_168 (lv_at hl 1 rfl) ?_
              refine lv_iload_n hx hb d_X_read_170 rfl (lv_at hl 5 rfl) ?_
              refine lv_iconst (v := nI (1)) hx hb d_X_read_171 (by decide) ?_
              refine k_iadd hx hb d_X_read_172 ?_
              refine k_i2l hx hb (by omega) d_X_read_173 ?_
              refine k_lrem hx hb (by omega) (by omega) (by omega) d_X_read_174 ?_
              refine lv_lstore (lv' := [(6, .long (lN (i' % ((acc.length) + 1)))), (4, .long (lN (pt + (i' / ((acc.length) + 1))))), (8, .int (nI (sp_adapt (i' - i) (acc.length + 1) (i == 0)))), (9, .long (lN (i' - i))), (0, .ref (q 0)), (3, .int (nI (acc.length)))]) hx hb d_X_read_175 hl (Nat.le_of_ble_eq_true rfl) rfl (fun ls hl => ?_)
              refine lv_lload hx hb d_X_read_177 (lv_at hl 1 rfl) ?_
              refine lv_ldc2 (v := lN (1114111)) hx hb hown (hts _ m1_155) d_X_read_179 ?_
              refine k_lc_gt (tgt := 204) hx hb d_X_read_182 d_X_read_183 (by decide) (by omega) (by omega) (fun c_182 => ?_) (fun c_182 => ?_)
              · refine lv_aload_n hx hb d_X_read_204 rfl (lv_at hl 4 rfl) ?_
                refine k_callV [] C0 (c_X_refused l D cI cZ q H.size la le li ke dn ca ne (nI (p')) LB LT LN KP hla hle hli hke) m1_154 m1_151 m1_1 m1_153 mp_7 hd_X_refused ⟨(Nat.le_of_ble_eq_true rfl), (Nat.le_of_ble_eq_true rfl)⟩ hK hP hD hS hA (ci := 0) rfl rfl rfl rfl hl.1 (Nat.le_of_ble_eq_true rfl) d_X_read_205 ⟨(Nat.le_of_ble_eq_true rfl), (Nat.le_of_ble_eq_true rfl)⟩ (fun v ws H locs hw hP hD hS => ?_)
                obtain ⟨rfl, la, le, li, ke, dn, ca, ne, at_, rfl, hla, hle, hli, hke⟩ := hw
                show W p l e r_X_read s m args below meth c H locs 0 0 Q (F0 m 208 ls [.int (-1)])
                have hP : va_P D classes (xW cI cZ q la le li ke dn ca ne (nI (LB.length)) (nI (LT.length)) (nI (LN.length)) (nI (([] : List Nat).length)) at_) H := hP
                have hD : va_D A (xW cI cZ q la le li ke dn ca ne (nI (LB.length)) (nI (LT.length)) (nI (LN.length)) (nI (([] : List Nat).length)) at_) := hD
                have hdn : sp_dec LN = none := by rw [← hd, show r = (r - 1) + 1 by omega]; exact sp_dc_bad (by omega) hT (by omega)
                rw [(sp_rd_n hdn).1, (sp_rd_n hdn).2] at hQ
                exact k_reti hx hb hr hlk hQ hK hP hD hS (xP_mk rfl rfl rfl rfl rfl hla hle hli hke) d_X_read_208
              · refine lv_lload hx hb d_X_read_186 (lv_at hl 1 rfl) ?_
                refine lv_ldc2 (v := lN (55296)) hx hb hown (hts _ m1_156) d_X_read_188 ?_
                refine k_lc_lt (tgt := 209) hx hb d_X_read_191 d_X_read_192 (by decide) (by omega) (by omega) (fun c_191 => ?_) (fun c_191 => ?_)
                · refine lv_aload_n hx hb d_X_read_209 rfl (lv_at hl 4 rfl) ?_
                  refine lv_iload_n hx hb d_X_read_210 rfl (lv_at hl 5 rfl) ?_
                  refine lv_lload hx hb d_X_read_211 (lv_at hl 0 rfl) ?_
                  refine k_l2i hx hb d_X_read_213 ?_
                  refine lv_lload hx hb d_X_read_214 (lv_at hl 1 rfl) ?_
                  refine k_l2i hx hb d_X_read_216 ?_
                  refine k_callV [.int (nI (acc.length)), .int (nI (i' % ((acc.length) + 1))), .int (nI (pt + (i' / ((acc.length) + 1))))] C0 (c_X_put3 l D cI cZ q H.size la le li ke dn ca ne (nI (LB.length)) (nI (LT.length)) (nI (LN.length)) (nI (KP.length)) (nI (p')) ix acc hch (i' % (acc.length + 1)) (pt + i' / (acc.length + 1)) (by omega) (by omega)) m1_140 m1_137 m1_1 m1_139 mp_5 hd_X_put3 ⟨(Nat.le_of_ble_eq_true rfl), (Nat.le_of_ble_eq_true rfl)⟩ hK hP hD hS hA (ci := 0) rfl rfl rfl rfl hl.1 (Nat.le_of_ble_eq_true rfl) d_X_read_217 ⟨(Nat.le_of_ble_eq_true rfl), (Nat.le_of_ble_eq_true rfl)⟩ (fun v ws H locs hw hP hD hS => ?_)
                  obtain ⟨rfl, ca, ne, ix1, rfl, hch⟩ := hw
                  show W p l e r_X_read s m args below meth c H locs 0 0 Q (F0 m 220 ls [])
                  have hP : va_P D classes (xW cI cZ q la le li ke dn ca ne (nI (LB.length)) (nI (LT.length)) (nI (LN.length)) (nI (KP.length)) (nI (p'))) H := hP
                  have hD : va_D A (xW cI cZ q la le li ke dn ca ne (nI (LB.length)) (nI (LT.length)) (nI (LN.length)) (nI (KP.length)) (nI (p'))) := hD
                  refine lv_lload hx hb d_X_read_220 (lv_at hl 0 rfl) ?_
                  refine lv_lconst (v := lN 1) hx hb d_X_read_222 rfl ?_
                  refine k_ladd hx hb d_X_read_223 ?_
                  refine lv_lstore (lv' := [(6, .long (lN ((i' % ((acc.length) + 1)) + 1))), (4, .long (lN (pt + (i' / ((acc.length) + 1))))), (8, .int (nI (sp_adapt (i' - i) (acc.length + 1) (i == 0)))), (9, .long (lN (i' - i))), (0, .ref (q 0)), (3, .int (nI (acc.length)))]) hx hb d_X_read_224 hl (Nat.le_of_ble_eq_true rfl) rfl (fun ls hl => ?_)
                  refine lv_iinc (v := nI ((acc.length) + 1)) (lv' := [(3, .int (nI ((acc.length) + 1))), (6, .long (lN ((i' % ((acc.length) + 1)) + 1))), (4, .long (lN (pt + (i' / ((acc.length) + 1))))), (8, .int (nI (sp_adapt (i' - i) (acc.length + 1) (i == 0)))), (9, .long (lN (i' - i))), (0, .ref (q 0))]) hx hb d_X_read_226 hl (k := 5) rfl (k_inc (by decide)) (Nat.le_of_ble_eq_true rfl) rfl (fun ls hl => ?_)
                  refine lv_goto (tgt := 94) hx hb d_X_read_229 (by decide) ?_
                  have hd2 : sp_dc (sp_ef LN) LN.length (r - 1) p' (sp_ins acc (i' % (acc.length + 1)) (pt + i' / (acc.length + 1))) (i' % (acc.length + 1) + 1) (pt + i' / (acc.length + 1)) (sp_adapt (i' - i) (acc.length + 1) (i == 0)) = sp_dec LN := (sp_dc_go (r := r - 1) (by omega) hT (by omega)).symm.trans ((congrArg (fun z => sp_dc (sp_ef LN) LN.length z p0 acc i pt bias) (show r - 1 + 1 = r by omega)).trans hd)
                  have hba := sp_adapt_le (i' - i) (acc.length + 1) (i == 0)
                  have hln := sp_ins_len acc (i' % (acc.length + 1)) (pt + i' / (acc.length + 1))
                  exact ih4 (r - 1) p' (sp_ins acc (i' % (acc.length + 1)) (pt + i' / (acc.length + 1))) ix1 (i' % (acc.length + 1) + 1) (pt + i' / (acc.length + 1)) (sp_adapt (i' - i) (acc.length + 1) (i == 0)) ca ne (by omega) (by omega) (by omega) (by omega) (by omega) (by omega) (by omega) hch hd2 H locs hP hD hS ls (by rw [hln]; exact (lv_sub hl [5, 0, 2, 1, 3] rfl))
                · refine lv_lload hx hb d_X_read_195 (lv_at hl 1 rfl) ?_
                  refine lv_ldc2 (v := lN (57344)) hx hb hown (hts _ m1_157) d_X_read_197 ?_
                  refine k_lc_ge (tgt := 209) hx hb d_X_read_200 d_X_read_201 (by decide) (by omega) (by omega) (fun c_200 => ?_) (fun c_200 => ?_)
                  · refine lv_aload_n hx hb d_X_read_209 rfl (lv_at hl 4 rfl) ?_
                    refine lv_iload_n hx hb d_X_read_210 rfl (lv_at hl 5 rfl) ?_
                    refine lv_lload hx hb d_X_read_211 (lv_at hl 0 rfl) ?_
                    refine k_l2i hx hb d_X_read_213 ?_
                    refine lv_lload hx hb d_X_read_214 (lv_at hl 1 rfl) ?_
                    refine k_l2i hx hb d_X_read_216 ?_
                    refine k_callV [.int (nI (acc.length)), .int (nI (i' % ((acc.length) + 1))), .int (nI (pt + (i' / ((acc.length) + 1))))] C0 (c_X_put3 l D cI cZ q H.size la le li ke dn ca ne (nI (LB.length)) (nI (LT.length)) (nI (LN.length)) (nI (KP.length)) (nI (p')) ix acc hch (i' % (acc.length + 1)) (pt + i' / (acc.length + 1)) (by omega) (by omega)) m1_140 m1_137 m1_1 m1_139 mp_5 hd_X_put3 ⟨(Nat.le_of_ble_eq_true rfl), (Nat.le_of_ble_eq_true rfl)⟩ hK hP hD hS hA (ci := 0) rfl rfl rfl rfl hl.1 (Nat.le_of_ble_eq_true rfl) d_X_read_217 ⟨(Nat.le_of_ble_eq_true rfl), (Nat.le_of_ble_eq_true rfl)⟩ (fun v ws H locs hw hP hD hS => ?_)
                    obtain ⟨rfl, ca, ne, ix1, rfl, hch⟩ := hw
                    show W p l e r_X_read s m args below meth c H locs 0 0 Q (F0 m 220 ls [])
                    have hP : va_P D classes (xW cI cZ q la le li ke dn ca ne (nI (LB.length)) (nI (LT.length)) (nI (LN.length)) (nI (KP.length)) (nI (p'))) H := hP
                    have hD : va_D A (xW cI cZ q la le li ke dn ca ne (nI (LB.length)) (nI (LT.length)) (nI (LN.length)) (nI (KP.length)) (nI (p'))) := hD
                    refine lv_lload hx hb d_X_read_220 (lv_at hl 0 rfl) ?_
                    refine lv_lconst (v := lN 1) hx hb d_X_read_222 rfl ?_
                    refine k_ladd hx hb d_X_read_223 ?_
                    refine lv_lstore (lv' := [(6, .long (lN ((i' % ((acc.length) + 1)) + 1))), (4, .long (lN (pt + (i' / ((acc.length) + 1))))), (8, .int (nI (sp_adapt (i' - i) (acc.length + 1) (i == 0)))), (9, .long (lN (i' - i))), (0, .ref (q 0)), (3, .int (nI (acc.length)))]) hx hb d_X_read_224 hl (Nat.le_of_ble_eq_true rfl) rfl (fun ls hl => ?_)
                    refine lv_iinc (v := nI ((acc.length) + 1)) (lv' := [(3, .int (nI ((acc.length) + 1))), (6, .long (lN ((i' % ((acc.length) + 1)) + 1))), (4, .long (lN (pt + (i' / ((acc.length) + 1))))), (8, .int (nI (sp_adapt (i' - i) (acc.length + 1) (i == 0)))), (9, .long (lN (i' - i))), (0, .ref (q 0))]) hx hb d_X_read_226 hl (k := 5) rfl (k_inc (by decide)) (Nat.le_of_ble_eq_true rfl) rfl (fun ls hl => ?_)
                    refine lv_goto (tgt := 94) hx hb d_X_read_229 (by decide) ?_
                    have hd2 : sp_dc (sp_ef LN) LN.length (r - 1) p' (sp_ins acc (i' % (acc.length + 1)) (pt + i' / (acc.length + 1))) (i' % (acc.length + 1) + 1) (pt + i' / (acc.length + 1)) (sp_adapt (i' - i) (acc.length + 1) (i == 0)) = sp_dec LN := (sp_dc_go (r := r - 1) (by omega) hT (by omega)).symm.trans ((congrArg (fun z => sp_dc (sp_ef LN) LN.length z p0 acc i pt bias) (show r - 1 + 1 = r by omega)).trans hd)
                    have hba := sp_adapt_le (i' - i) (acc.length + 1) (i == 0)
                    have hln := sp_ins_len acc (i' % (acc.length + 1)) (pt + i' / (acc.length + 1))
                    exact ih4 (r - 1) p' (sp_ins acc (i' % (acc.length + 1)) (pt + i' / (acc.length + 1))) ix1 (i' % (acc.length + 1) + 1) (pt + i' / (acc.length + 1)) (sp_adapt (i' - i) (acc.length + 1) (i == 0)) ca ne (by omega) (by omega) (by omega) (by omega) (by omega) (by omega) (by omega) hch hd2 H locs hP hD hS ls (by rw [hln]; exact (lv_sub hl [5, 0, 2, 1, 3] rfl))
                  · refine lv_aload_n hx hb d_X_read_204 rfl (lv_at hl 4 rfl) ?_
                    refine k_callV [] C0 (c_X_refused l D cI cZ q H.size la le li ke dn ca ne (nI (p')) LB LT LN KP hla hle hli hke) m1_154 m1_151 m1_1 m1_153 mp_7 hd_X_refused ⟨(Nat.le_of_ble_eq_true rfl), (Nat.le_of_ble_eq_true rfl)⟩ hK hP hD hS hA (ci := 0) rfl rfl rfl rfl hl.1 (Nat.le_of_ble_eq_true rfl) d_X_read_205 ⟨(Nat.le_of_ble_eq_true rfl), (Nat.le_of_ble_eq_true rfl)⟩ (fun v ws H locs hw hP hD hS => ?_)
                    obtain ⟨rfl, la, le, li, ke, dn, ca, ne, at_, rfl, hla, hle, hli, hke⟩ := hw
                    show W p l e r_X_read s m args below meth c H locs 0 0 Q (F0 m 208 ls [.int (-1)])
                    have hP : va_P D classes (xW cI cZ q la le li ke dn ca ne (nI (LB.length)) (nI (LT.length)) (nI (LN.length)) (nI (([] : List Nat).length)) at_) H := hP
                    have hD : va_D A (xW cI cZ q la le li ke dn ca ne (nI (LB.length)) (nI (LT.length)) (nI (LN.length)) (nI (([] : List Nat).length)) at_) := hD
                    have hdn : sp_dec LN = none := by rw [← hd, show r = (r - 1) + 1 by omega]; exact sp_dc_bad (by omega) hT (by omega)
                    rw [(sp_rd_n hdn).1, (sp_rd_n hdn).2] at hQ
                    exact k_reti hx hb hr hlk hQ hK hP hD hS (xP_mk rfl rfl rfl rfl rfl hla hle hli hke) d_X_read_208
          · exact absurd c_118 (by omega)
  have lp2 : ∀ (f2 : Nat) (n : Nat) (ix : List Nat) (ca ne : Nat → Int32), sp_hyp (sp_ef LN) LN.length - n < f2 → (n ≤ sp_hyp (sp_ef LN) LN.length) → (sp_chain ne ca ix (LN.take n)) → ∀ (H : Heap) (locs : List Loc), va_P D classes (xW cI cZ q la le li ke dn ca ne (nI (LB.length)) (nI (LT.length)) (nI (LN.length)) (nI (KP.length)) at_) H → va_D A (xW cI cZ q la le li ke dn ca ne (nI (LB.length)) (nI (LT.length)) (nI (LN.length)) (nI (KP.length)) at_) → va_S A s.heap H locs → ∀ ls : Array Slot, lv_has ls 11 [(0, .ref (q 0)), (2, .int (nI (sp_hyp (sp_ef LN) LN.length))), (3, .int (nI (n)))] → W p l e r_X_read s m args below meth c H locs 0 0 Q (F0 m 44 ls []) := by
    intro f2
    induction f2 with
    | zero => intro n ix ca ne h; exact absurd h (Nat.not_lt_zero _)
    | succ f2 ih2 =>
      intro n ix ca ne hf2 hn hch H locs hP hD hS ls hl
      have hln : (LN.take n).length = n := by rw [List.length_take]; omega
      refine lv_iload_n hx hb d_X_read_44 rfl (lv_at hl 2 rfl) ?_
      refine lv_iload_n hx hb d_X_read_45 rfl (lv_at hl 1 rfl) ?_
      refine k_icmp_ge (tgt := 67) hx hb d_X_read_46 (by decide) (by omega) (by omega) (fun c_46 => ?_) (fun c_46 => ?_)
      · have en : n = sp_hyp (sp_ef LN) LN.length := by omega
        subst en
        refine lv_aload_n hx hb d_X_read_67 rfl (lv_at hl 0 rfl) ?_
        refine lv_iload_n hx hb d_X_read_68 rfl (lv_at hl 1 rfl) ?_
        refine k_if_le (tgt := 78) hx hb d_X_read_69 (by decide) (by omega) (fun c_69 => ?_) (fun c_69 => ?_)
        · refine lv_iconst (v := nI (0)) hx hb d_X_read_78 (by decide) ?_
          refine k_cvi (show _ = nI (sp_p0 LN) from by unfold sp_p0; first | rw [if_pos (by omega)] | rw [if_neg (by omega)]) ?_
          refine x_put hx hb hts hown hK hP hD hS rfl 11 (Nat.le_of_ble_eq_true rfl) m1_23 rfl rfl rfl (Nat.le_of_ble_eq_true rfl) d_X_read_79 (fun H locs hP hD hS => ?_)
          have hP : va_P D classes (xW cI cZ q la le li ke dn ca ne (nI (LB.length)) (nI (LT.length)) (nI (LN.length)) (nI (KP.length)) (nI (sp_p0 LN))) H := hP
          have hD : va_D A (xW cI cZ q la le li ke dn ca ne (nI (LB.length)) (nI (LT.length)) (nI (LN.length)) (nI (KP.length)) (nI (sp_p0 LN))) := hD
          refine lv_ldc2 (v := lN (128)) hx hb hown (hts _ m1_141) d_X_read_82 ?_
          refine lv_lstore (lv' := [(4, .long (lN (128))), (0, .ref (q 0)), (2, .int (nI (sp_hyp (sp_ef LN) LN.length))), (3, .int (nI (sp_hyp (sp_ef LN) LN.length)))]) hx hb d_X_read_85 hl (Nat.le_of_ble_eq_true rfl) rfl (fun ls hl => ?_)
          refine lv_lconst (v := lN 0) hx hb d_X_read_87 rfl ?_
          refine lv_lstore (lv' := [(6, .long (lN (0))), (4, .long (lN (128))), (0, .ref (q 0)), (2, .int (nI (sp_hyp (sp_ef LN) LN.length))), (3, .int (nI (sp_hyp (sp_ef LN) LN.length)))]) hx hb d_X_read_88 hl (Nat.le_of_ble_eq_true rfl) rfl (fun ls hl => ?_)
          refine lv_bipush (v := nI (72)) hx hb d_X_read_90 (by decide) ?_
          refine lv_istore (lv' := [(8, .int (nI (72))), (6, .long (lN (0))), (4, .long (lN (128))), (0, .ref (q 0)), (2, .int (nI (sp_hyp (sp_ef LN) LN.length))), (3, .int (nI (sp_hyp (sp_ef LN) LN.length)))]) hx hb d_X_read_92 hl (Nat.le_of_ble_eq_true rfl) rfl (fun ls hl => ?_)
          have hln : (LN.take (sp_hyp (sp_ef LN) LN.length)).length = sp_hyp (sp_ef LN) LN.length := hp0c
          exact lp4 (LN.length + 1) (LN.length) (sp_p0 LN) (LN.take (sp_hyp (sp_ef LN) LN.length)) ix 0 128 72 ca ne (by omega) (by omega) (by omega) hp0b (by omega) (by omega) (by omega) hch rfl H locs hP hD hS ls (by rw [hln]; exact (lv_sub hl [3, 5, 2, 1, 0] rfl))
        · refine lv_iload_n hx hb d_X_read_72 rfl (lv_at hl 1 rfl) ?_
          refine lv_iconst (v := nI (1)) hx hb d_X_read_73 (by decide) ?_
          refine k_iadd hx hb d_X_read_74 ?_
          refine lv_goto (tgt := 79) hx hb d_X_read_75 (by decide) ?_
          refine k_cvi (show _ = nI (sp_p0 LN) from by unfold sp_p0; first | rw [if_pos (by omega)] | rw [if_neg (by omega)]) ?_
          refine x_put hx hb hts hown hK hP hD hS rfl 11 (Nat.le_of_ble_eq_true rfl) m1_23 rfl rfl rfl (Nat.le_of_ble_eq_true rfl) d_X_read_79 (fun H locs hP hD hS => ?_)
          have hP : va_P D classes (xW cI cZ q la le li ke dn ca ne (nI (LB.length)) (nI (LT.length)) (nI (LN.length)) (nI (KP.length)) (nI (sp_p0 LN))) H := hP
          have hD : va_D A (xW cI cZ q la le li ke dn ca ne (nI (LB.length)) (nI (LT.length)) (nI (LN.length)) (nI (KP.length)) (nI (sp_p0 LN))) := hD
          refine lv_ldc2 (v := lN (128)) hx hb hown (hts _ m1_141) d_X_read_82 ?_
          refine lv_lstore (lv' := [(4, .long (lN (128))), (0, .ref (q 0)), (2, .int (nI (sp_hyp (sp_ef LN) LN.length))), (3, .int (nI (sp_hyp (sp_ef LN) LN.length)))]) hx hb d_X_read_85 hl (Nat.le_of_ble_eq_true rfl) rfl (fun ls hl => ?_)
          refine lv_lconst (v := lN 0) hx hb d_X_read_87 rfl ?_
          refine lv_lstore (lv' := [(6, .long (lN (0))), (4, .long (lN (128))), (0, .ref (q 0)), (2, .int (nI (sp_hyp (sp_ef LN) LN.length))), (3, .int (nI (sp_hyp (sp_ef LN) LN.length)))]) hx hb d_X_read_88 hl (Nat.le_of_ble_eq_true rfl) rfl (fun ls hl => ?_)
          refine lv_bipush (v := nI (72)) hx hb d_X_read_90 (by decide) ?_
          refine lv_istore (lv' := [(8, .int (nI (72))), (6, .long (lN (0))), (4, .long (lN (128))), (0, .ref (q 0)), (2, .int (nI (sp_hyp (sp_ef LN) LN.length))), (3, .int (nI (sp_hyp (sp_ef LN) LN.length)))]) hx hb d_X_read_92 hl (Nat.le_of_ble_eq_true rfl) rfl (fun ls hl => ?_)
          have hln : (LN.take (sp_hyp (sp_ef LN) LN.length)).length = sp_hyp (sp_ef LN) LN.length := hp0c
          exact lp4 (LN.length + 1) (LN.length) (sp_p0 LN) (LN.take (sp_hyp (sp_ef LN) LN.length)) ix 0 128 72 ca ne (by omega) (by omega) (by omega) hp0b (by omega) (by omega) (by omega) hch rfl H locs hP hD hS ls (by rw [hln]; exact (lv_sub hl [3, 5, 2, 1, 0] rfl))
      · refine lv_aload_n hx hb d_X_read_49 rfl (lv_at hl 0 rfl) ?_
        refine lv_iload_n hx hb d_X_read_50 rfl (lv_at hl 2 rfl) ?_
        refine k_cvi (show _ = nI ((LN.take n).length) from by rw [hln]) ?_
        refine lv_iload_n hx hb d_X_read_51 rfl (lv_at hl 2 rfl) ?_
        refine lv_aload_n hx hb d_X_read_52 rfl (lv_at hl 0 rfl) ?_
        refine x_get (v := .ref (q 3)) hx hb hts hown hK hP rfl 2 (Nat.le_of_ble_eq_true rfl) m1_14 rfl rfl d_X_read_53 ?_
        refine lv_iload_n hx hb d_X_read_56 rfl (lv_at hl 2 rfl) ?_
        refine k_iald hx hb hK hP 3 0 rfl rfl (by omega) (by omega) d_X_read_57 ?_
        refine k_cvi (show _ = nI (LN.getD (n) 0) from hli _ (by omega)) ?_
        refine k_callV [.int (nI ((LN.take n).length)), .int (nI (n)), .int (nI (LN.getD (n) 0))] C0 (c_X_put3 l D cI cZ q H.size la le li ke dn ca ne (nI (LB.length)) (nI (LT.length)) (nI (LN.length)) (nI (KP.length)) at_ ix (LN.take n) hch n (LN.getD n 0) (by omega) (by omega)) m1_140 m1_137 m1_1 m1_139 mp_5 hd_X_put3 ⟨(Nat.le_of_ble_eq_true rfl), (Nat.le_of_ble_eq_true rfl)⟩ hK hP hD hS hA (ci := 0) rfl rfl rfl rfl hl.1 (Nat.le_of_ble_eq_true rfl) d_X_read_58 ⟨(Nat.le_of_ble_eq_true rfl), (Nat.le_of_ble_eq_true rfl)⟩ (fun v ws H locs hw hP hD hS => ?_)
        obtain ⟨rfl, ca, ne, ix1, rfl, hch⟩ := hw
        show W p l e r_X_read s m args below meth c H locs 0 0 Q (F0 m 61 ls [])
        have hP : va_P D classes (xW cI cZ q la le li ke dn ca ne (nI (LB.length)) (nI (LT.length)) (nI (LN.length)) (nI (KP.length)) at_) H := hP
        have hD : va_D A (xW cI cZ q la le li ke dn ca ne (nI (LB.length)) (nI (LT.length)) (nI (LN.length)) (nI (KP.length)) at_) := hD
        refine lv_iinc (v := nI (n + 1)) (lv' := [(3, .int (nI (n + 1))), (0, .ref (q 0)), (2, .int (nI (sp_hyp (sp_ef LN) LN.length)))]) hx hb d_X_read_61 hl (k := 2) rfl (k_inc (by decide)) (Nat.le_of_ble_eq_true rfl) rfl (fun ls hl => ?_)
        refine lv_goto (tgt := 44) hx hb d_X_read_64 (by decide) ?_
        rw [sp_take_ins (by omega)] at hch
        exact ih2 (n + 1) ix1 ca ne (by omega) (by omega) hch H locs hP hD hS ls (lv_sub hl [1, 2, 0] rfl)
  have J33 : ∀ ls : Array Slot, lv_has ls 11 [(0, .ref (q 0))] → W p l e r_X_read s m args below meth c s.heap [] 0 0 Q (F0 m 33 ls [.int (nI (sp_hyp (sp_ef LN) LN.length))]) := by
    intro ls hl
    refine lv_istore_n (lv' := [(2, .int (nI (sp_hyp (sp_ef LN) LN.length))), (0, .ref (q 0))]) hx hb d_X_read_33 rfl hl (Nat.le_of_ble_eq_true rfl) rfl (fun ls hl => ?_)
    refine lv_iconst (v := nI (0)) hx hb d_X_read_34 (by decide) ?_
    refine lv_istore_n (lv' := [(3, .int (nI (0))), (2, .int (nI (sp_hyp (sp_ef LN) LN.length))), (0, .ref (q 0))]) hx hb d_X_read_35 rfl hl (Nat.le_of_ble_eq_true rfl) rfl (fun ls hl => ?_)
    refine lv_aload_n hx hb d_X_read_36 rfl (lv_at hl 2 rfl) ?_
    refine x_get (v := .ref (q 7)) hx hb hts hown hK hP rfl 6 (Nat.le_of_ble_eq_true rfl) m1_18 rfl rfl d_X_read_37 ?_
    refine lv_bipush (v := nI (64)) hx hb d_X_read_40 (by decide) ?_
    refine lv_iconst (v := -1) hx hb d_X_read_42 (by decide) ?_
    refine k_iast hx hb hK hP hD hS 7 0 rfl rfl (by omega) (by omega) d_X_read_43 (fun H locs hP hD hS => ?_)
    have hP : va_P D classes (xW cI cZ q la le li ke dn ca (upd ne (64) (-1)) (nI (LB.length)) (nI (LT.length)) (nI (LN.length)) (nI (KP.length)) at_) H := hP
    have hD : va_D A (xW cI cZ q la le li ke dn ca (upd ne (64) (-1)) (nI (LB.length)) (nI (LT.length)) (nI (LN.length)) (nI (KP.length)) at_) := hD
    exact lp2 (sp_hyp (sp_ef LN) LN.length + 1) 0 ([]) ca (upd ne (64) (-1)) (by omega) (by omega) (sp_chain_nil (by unfold upd; rw [if_pos rfl])) H locs hP hD hS ls (lv_sub hl [2, 1, 0] rfl)
  by_cases hm : LN.length = 0
  · have hy0 : sp_hyp (sp_ef LN) LN.length = 0 := by rw [hm]; rfl
    refine lv_aload_n hx hb d_X_read_0 rfl (lv_at hl 0 rfl) ?_
    refine x_get (v := .int (nI (LN.length))) hx hb hts hown hK hP rfl 9 (Nat.le_of_ble_eq_true rfl) m1_21 rfl rfl d_X_read_1 ?_
    refine lv_iconst (v := nI (1)) hx hb d_X_read_4 (by decide) ?_
    refine lv_isub hx hb d_X_read_5 ?_
    refine k_cvi (show _ = -1 from by rw [hm]; decide) ?_
    refine lv_istore_n (lv' := [(1, .int (-1)), (0, .ref (q 0))]) hx hb d_X_read_6 rfl hl (Nat.le_of_ble_eq_true rfl) rfl (fun ls hl => ?_)
    refine lv_iload_n hx hb d_X_read_7 rfl (lv_at hl 0 rfl) ?_
    refine lv_if_le (tgt := 28) hx hb d_X_read_8 (by decide) (fun c_8 => ?_) (fun c_8 => ?_)
    · refine lv_iload_n hx hb d_X_read_28 rfl (lv_at hl 0 rfl) ?_
      refine lv_iconst (v := nI (0)) hx hb d_X_read_29 (by decide) ?_
      refine va_mmax hx hb (hml.trans hl.1.symm) hown (hts _ m1_134) (hts _ m1_135) (hts _ m1_3) (hts _ m1_136) (Nat.le_of_ble_eq_true rfl) (Nat.le_of_ble_eq_true rfl) (Nat.le_of_ble_eq_true rfl) (Nat.le_of_ble_eq_true rfl) d_X_read_30 ?_
      refine k_cvi (show _ = nI (0) from by decide) ?_
      refine k_cvi (show _ = nI (sp_hyp (sp_ef LN) LN.length) from by rw [hy0]) ?_
      exact J33 ls (lv_sub hl [1] rfl)
    · exact absurd c_8 (by decide)
  · have lp1 : ∀ (f1 : Nat) (j : Nat), j < f1 → (j < LN.length) → (sp_hyp (sp_ef LN) (j + 1) = sp_hyp (sp_ef LN) LN.length) → ∀ ls : Array Slot, lv_has ls 11 [(0, .ref (q 0)), (1, .int (nI (j)))] → W p l e r_X_read s m args below meth c s.heap [] 0 0 Q (F0 m 7 ls []) := by
      intro f1
      induction f1 with
      | zero => intro j h; exact absurd h (Nat.not_lt_zero _)
      | succ f1 ih1 =>
        intro j hf1 hj hy ls hl
        have hc9 := sp_ch_at hcn (show j < LN.length by omega)
        refine lv_iload_n hx hb d_X_read_7 rfl (lv_at hl 1 rfl) ?_
        refine k_if_le (tgt := 28) hx hb d_X_read_8 (by decide) (by omega) (fun c_8 => ?_) (fun c_8 => ?_)
        · refine lv_iload_n hx hb d_X_read_28 rfl (lv_at hl 1 rfl) ?_
          refine lv_iconst (v := nI (0)) hx hb d_X_read_29 (by decide) ?_
          refine va_mmax hx hb (hml.trans hl.1.symm) hown (hts _ m1_134) (hts _ m1_135) (hts _ m1_3) (hts _ m1_136) (Nat.le_of_ble_eq_true rfl) (Nat.le_of_ble_eq_true rfl) (Nat.le_of_ble_eq_true rfl) (Nat.le_of_ble_eq_true rfl) d_X_read_30 ?_
          refine k_cvi (show _ = nI (j) from k_max0 (by omega)) ?_
          refine k_cvi (show _ = nI (sp_hyp (sp_ef LN) LN.length) from by rw [show j = sp_hyp (sp_ef LN) LN.length from by rw [← hy, c_8]; exact (sp_hyp_1 _).symm]) ?_
          exact J33 ls (lv_sub hl [0] rfl)
        · refine lv_aload_n hx hb d_X_read_11 rfl (lv_at hl 0 rfl) ?_
          refine x_get (v := .ref (q 3)) hx hb hts hown hK hP rfl 2 (Nat.le_of_ble_eq_true rfl) m1_14 rfl rfl d_X_read_12 ?_
          refine lv_iload_n hx hb d_X_read_15 rfl (lv_at hl 1 rfl) ?_
          refine k_iald hx hb hK hP 3 0 rfl rfl (by omega) (by omega) d_X_read_16 ?_
          refine k_cvi (show _ = nI (LN.getD (j) 0) from hli _ (by omega)) ?_
          refine lv_bipush (v := nI (45)) hx hb d_X_read_17 (by decide) ?_
          refine k_icmp_eq (tgt := 28) hx hb d_X_read_19 (by decide) (by omega) (by omega) (fun c_19 => ?_) (fun c_19 => ?_)
          · refine lv_iload_n hx hb d_X_read_28 rfl (lv_at hl 1 rfl) ?_
            refine lv_iconst (v := nI (0)) hx hb d_X_read_29 (by decide) ?_
            refine va_mmax hx hb (hml.trans hl.1.symm) hown (hts _ m1_134) (hts _ m1_135) (hts _ m1_3) (hts _ m1_136) (Nat.le_of_ble_eq_true rfl) (Nat.le_of_ble_eq_true rfl) (Nat.le_of_ble_eq_true rfl) (Nat.le_of_ble_eq_true rfl) d_X_read_30 ?_
            refine k_cvi (show _ = nI (j) from k_max0 (by omega)) ?_
            refine k_cvi (show _ = nI (sp_hyp (sp_ef LN) LN.length) from by rw [show j = sp_hyp (sp_ef LN) LN.length from by rw [← hy, sp_hyp_y (show sp_ef LN j = 45 from c_19)]]) ?_
            exact J33 ls (lv_sub hl [0] rfl)
          · refine lv_iinc (v := nI (j - 1)) (lv' := [(1, .int (nI (j - 1))), (0, .ref (q 0))]) hx hb d_X_read_22 hl (k := 1) rfl (k_dec (by omega)) (Nat.le_of_ble_eq_true rfl) rfl (fun ls hl => ?_)
            refine lv_goto (tgt := 7) hx hb d_X_read_25 (by decide) ?_
            have hy2 : sp_hyp (sp_ef LN) (j - 1 + 1) = sp_hyp (sp_ef LN) LN.length := by rw [← hy, show j - 1 + 1 = j by omega, sp_hyp_n (show ¬ sp_ef LN j = 45 from c_19)]
            exact ih1 (j - 1) (by omega) (by omega) hy2 ls (lv_sub hl [1, 0] rfl)
    refine lv_aload_n hx hb d_X_read_0 rfl (lv_at hl 0 rfl) ?_
    refine x_get (v := .int (nI (LN.length))) hx hb hts hown hK hP rfl 9 (Nat.le_of_ble_eq_true rfl) m1_21 rfl rfl d_X_read_1 ?_
    refine lv_iconst (v := nI (1)) hx hb d_X_read_4 (by decide) ?_
    refine k_isub hx hb (by omega) d_X_read_5 ?_
    refine lv_istore_n (lv' := [(1, .int (nI ((LN.length) - 1))), (0, .ref (q 0))]) hx hb d_X_read_6 rfl hl (Nat.le_of_ble_eq_true rfl) rfl (fun ls hl => ?_)
    exact lp1 (LN.length + 1) (LN.length - 1) (by omega) (by omega) (by rw [show LN.length - 1 + 1 = LN.length by omega]) ls (lv_sub hl [1, 0] rfl)
end
section
/-! the reference's small methods -/
abbrev r_M_wipe : Room := { frames := 0, cells := 0, slots := 0, locals := 0 }
set_option maxHeartbeats 4000000 in
set_option maxRecDepth 100000 in
/-- wipe() -/
theorem c_M_wipe (l : Launch) (D : va_G) (cI cZ : ClassId) (q : Nat → Nat) (sz0 : Nat) (sg ou li ba : Nat → Int32) (LB LT LN KP : List Nat) (hsg : sp_rep sg LB) (hou : sp_rep ou LT) (hli : sp_rep li LN) (hba : sp_rep ba KP) : kM l y_M_wipe b_M_wipe 1 none r_M_wipe D (k_tys cI cZ) [.ref (q 0)] (mW cI q sg ou li ba (nI (LB.length)) (nI (LT.length)) (nI (LN.length)) (nI (KP.length))) sz0 (mP cI q ([]) LT LN KP none) := by
  refine k_met (by decide) (Nat.le_of_ble_eq_true rfl) ?_
  intro p e s m args below meth c A Q C0 hr hlk hnm hA hK hP hD hS hQ ls hl
  obtain ⟨hx, hb, hml, hown, hts⟩ := id C0
  have hl : lv_has ls 1 [(0, .ref (q 0))] := hl
  refine lv_aload_n hx hb d_M_wipe_0 rfl (lv_at hl 0 rfl) ?_
  refine lv_iconst (v := nI (0)) hx hb d_M_wipe_1 (by decide) ?_
  refine m_put hx hb hts hown hK hP hD hS rfl 1 (Nat.le_of_ble_eq_true rfl) m1_169 rfl rfl rfl (Nat.le_of_ble_eq_true rfl) d_M_wipe_2 (fun H locs hP hD hS => ?_)
  have hP : va_P D classes (mW cI q sg ou li ba (nI (0)) (nI (LT.length)) (nI (LN.length)) (nI (KP.length))) H := hP
  have hD : va_D A (mW cI q sg ou li ba (nI (0)) (nI (LT.length)) (nI (LN.length)) (nI (KP.length))) := hD
  exact k_retv hx hb hr hlk hQ hK hP hD hS (mP_mk rfl rfl rfl rfl rfl (sp_rep_nil _) hou hli hba) d_M_wipe_5
abbrev r_M_clear : Room := { frames := 0, cells := 0, slots := 0, locals := 0 }
set_option maxHeartbeats 4000000 in
set_option maxRecDepth 100000 in
/-- clear() -/
theorem c_M_clear (l : Launch) (D : va_G) (cI cZ : ClassId) (q : Nat → Nat) (sz0 : Nat) (sg ou li ba : Nat → Int32) (LB LT LN KP : List Nat) (hsg : sp_rep sg LB) (hou : sp_rep ou LT) (hli : sp_rep li LN) (hba : sp_rep ba KP) : kM l y_M_clear b_M_clear 1 none r_M_clear D (k_tys cI cZ) [.ref (q 0)] (mW cI q sg ou li ba (nI (LB.length)) (nI (LT.length)) (nI (LN.length)) (nI (KP.length))) sz0 (mP cI q LB LT ([]) KP none) := by
  refine k_met (by decide) (Nat.le_of_ble_eq_true rfl) ?_
  intro p e s m args below meth c A Q C0 hr hlk hnm hA hK hP hD hS hQ ls hl
  obtain ⟨hx, hb, hml, hown, hts⟩ := id C0
  have hl : lv_has ls 1 [(0, .ref (q 0))] := hl
  refine lv_aload_n hx hb d_M_clear_0 rfl (lv_at hl 0 rfl) ?_
  refine lv_iconst (v := nI (0)) hx hb d_M_clear_1 (by decide) ?_
  refine m_put hx hb hts hown hK hP hD hS rfl 5 (Nat.le_of_ble_eq_true rfl) m1_173 rfl rfl rfl (Nat.le_of_ble_eq_true rfl) d_M_clear_2 (fun H locs hP hD hS => ?_)
  have hP : va_P D classes (mW cI q sg ou li ba (nI (LB.length)) (nI (LT.length)) (nI (0)) (nI (KP.length))) H := hP
  have hD : va_D A (mW cI q sg ou li ba (nI (LB.length)) (nI (LT.length)) (nI (0)) (nI (KP.length))) := hD
  exact k_retv hx hb hr hlk hQ hK hP hD hS (mP_mk rfl rfl rfl rfl rfl hsg hou (sp_rep_nil _) hba) d_M_clear_5
abbrev r_M_put : Room := { frames := 0, cells := 0, slots := 0, locals := 0 }
set_option maxHeartbeats 4000000 in
set_option maxRecDepth 100000 in
/-- put(c) -/
theorem c_M_put (l : Launch) (D : va_G) (cI cZ : ClassId) (q : Nat → Nat) (sz0 : Nat) (sg ou li ba : Nat → Int32) (LB LT LN KP : List Nat) (hsg : sp_rep sg LB) (hou : sp_rep ou LT) (hli : sp_rep li LN) (hba : sp_rep ba KP) (x : Int32) (hL : LB.length ≤ 24) : kM l y_M_put b_M_put 3 (some .boolean) r_M_put D (k_tys cI cZ) [.ref (q 0), .int (x)] (mW cI q sg ou li ba (nI (LB.length)) (nI (LT.length)) (nI (LN.length)) (nI (KP.length))) sz0 (mP cI q (sp_add LB (sp_sg x)) LT LN KP (some (.int (nI (sp_addb LB))))) := by
  refine k_met (by decide) (Nat.le_of_ble_eq_true rfl) ?_
  intro p e s m args below meth c A Q C0 hr hlk hnm hA hK hP hD hS hQ ls hl
  obtain ⟨hx, hb, hml, hown, hts⟩ := id C0
  have hl : lv_has ls 3 [(0, .ref (q 0)), (1, .int (x))] := hl
  have h2 := sp_c31_lt x
  refine lv_iload_n hx hb d_M_put_0 rfl (lv_at hl 1 rfl) ?_
  refine lv_ldc (v := nI 2147483647) hx hb hown (hts _ m1_197) d_M_put_1 ?_
  refine lv_iand hx hb d_M_put_3 ?_
  refine k_cvi (show _ = nI (sp_c31 x) from sp_c31_eq x) ?_
  refine lv_ldc (v := nI 1112064) hx hb hown (hts _ m1_198) d_M_put_4 ?_
  refine k_irem hx hb (by omega) (by omega) (by omega) d_M_put_6 ?_
  refine lv_istore_n (lv' := [(2, .int (nI ((sp_c31 x) % 1112064))), (0, .ref (q 0)), (1, .int (x))]) hx hb d_M_put_7 rfl hl (Nat.le_of_ble_eq_true rfl) rfl (fun ls hl => ?_)
  refine lv_aload_n hx hb d_M_put_8 rfl (lv_at hl 1 rfl) ?_
  refine m_get (v := .int (nI (LB.length))) hx hb hts hown hK hP rfl 1 (Nat.le_of_ble_eq_true rfl) m1_169 rfl rfl d_M_put_9 ?_
  refine lv_bipush (v := nI (24)) hx hb d_M_put_12 (by decide) ?_
  refine k_icmp_ne (tgt := 19) hx hb d_M_put_14 (by decide) (by omega) (by omega) (fun c_14 => ?_) (fun c_14 => ?_)
  · refine lv_aload_n hx hb d_M_put_19 rfl (lv_at hl 1 rfl) ?_
    refine m_get (v := .ref (q 1)) hx hb hts hown hK hP rfl 0 (Nat.le_of_ble_eq_true rfl) m1_168 rfl rfl d_M_put_20 ?_
    refine lv_aload_n hx hb d_M_put_23 rfl (lv_at hl 1 rfl) ?_
    refine m_get (v := .int (nI (LB.length))) hx hb hts hown hK hP rfl 1 (Nat.le_of_ble_eq_true rfl) m1_169 rfl rfl d_M_put_24 ?_
    refine lv_iload_n hx hb d_M_put_27 rfl (lv_at hl 0 rfl) ?_
    refine lv_ldc (v := nI 55296) hx hb hown (hts _ m1_199) d_M_put_28 ?_
    refine k_icmp_ge (tgt := 37) hx hb d_M_put_30 (by decide) (by omega) (by omega) (fun c_30 => ?_) (fun c_30 => ?_)
    · refine lv_iload_n hx hb d_M_put_37 rfl (lv_at hl 0 rfl) ?_
      refine lv_sipush (v := nI (2048)) hx hb d_M_put_38 (by decide) ?_
      refine k_iadd hx hb d_M_put_41 ?_
      have ev : sp_sg x = ((sp_c31 x) % 1112064) + 2048 := by unfold sp_sg; first | rw [if_pos (by omega)] | rw [if_neg (by omega)]
      refine k_iast hx hb hK hP hD hS 1 0 rfl rfl (by omega) (by omega) d_M_put_42 (fun H locs hP hD hS => ?_)
      have hP : va_P D classes (mW cI q (upd sg (LB.length) (nI (((sp_c31 x) % 1112064) + 2048))) ou li ba (nI (LB.length)) (nI (LT.length)) (nI (LN.length)) (nI (KP.length))) H := hP
      have hD : va_D A (mW cI q (upd sg (LB.length) (nI (((sp_c31 x) % 1112064) + 2048))) ou li ba (nI (LB.length)) (nI (LT.length)) (nI (LN.length)) (nI (KP.length))) := hD
      refine lv_aload_n hx hb d_M_put_43 rfl (lv_at hl 1 rfl) ?_
      refine lv_aload_n hx hb d_M_put_44 rfl (lv_at hl 1 rfl) ?_
      refine m_get (v := .int (nI (LB.length))) hx hb hts hown hK hP rfl 1 (Nat.le_of_ble_eq_true rfl) m1_169 rfl rfl d_M_put_45 ?_
      refine lv_iconst (v := nI (1)) hx hb d_M_put_48 (by decide) ?_
      refine k_iadd hx hb d_M_put_49 ?_
      refine m_put hx hb hts hown hK hP hD hS rfl 1 (Nat.le_of_ble_eq_true rfl) m1_169 rfl rfl rfl (Nat.le_of_ble_eq_true rfl) d_M_put_50 (fun H locs hP hD hS => ?_)
      have hP : va_P D classes (mW cI q (upd sg (LB.length) (nI (((sp_c31 x) % 1112064) + 2048))) ou li ba (nI ((LB.length) + 1)) (nI (LT.length)) (nI (LN.length)) (nI (KP.length))) H := hP
      have hD : va_D A (mW cI q (upd sg (LB.length) (nI (((sp_c31 x) % 1112064) + 2048))) ou li ba (nI ((LB.length) + 1)) (nI (LT.length)) (nI (LN.length)) (nI (KP.length))) := hD
      refine lv_iconst (v := nI (1)) hx hb d_M_put_53 (by decide) ?_
      rw [show sp_add LB (sp_sg x) = LB ++ [sp_sg x] from (sp_add_n c_14 _).1, show sp_addb LB = 1 from (sp_add_n c_14 0).2] at hQ
      rw [ev] at hQ
      exact k_retz hx hb hr hlk hQ hK hP hD hS rfl (mP_mk rfl (sp_len1 _ _) rfl rfl rfl (sp_rep_app hsg _) hou hli hba) d_M_put_54
    · refine lv_iload_n hx hb d_M_put_33 rfl (lv_at hl 0 rfl) ?_
      refine lv_goto (tgt := 42) hx hb d_M_put_34 (by decide) ?_
      have ev : sp_sg x = (sp_c31 x) % 1112064 := by unfold sp_sg; first | rw [if_pos (by omega)] | rw [if_neg (by omega)]
      refine k_iast hx hb hK hP hD hS 1 0 rfl rfl (by omega) (by omega) d_M_put_42 (fun H locs hP hD hS => ?_)
      have hP : va_P D classes (mW cI q (upd sg (LB.length) (nI ((sp_c31 x) % 1112064))) ou li ba (nI (LB.length)) (nI (LT.length)) (nI (LN.length)) (nI (KP.length))) H := hP
      have hD : va_D A (mW cI q (upd sg (LB.length) (nI ((sp_c31 x) % 1112064))) ou li ba (nI (LB.length)) (nI (LT.length)) (nI (LN.length)) (nI (KP.length))) := hD
      refine lv_aload_n hx hb d_M_put_43 rfl (lv_at hl 1 rfl) ?_
      refine lv_aload_n hx hb d_M_put_44 rfl (lv_at hl 1 rfl) ?_
      refine m_get (v := .int (nI (LB.length))) hx hb hts hown hK hP rfl 1 (Nat.le_of_ble_eq_true rfl) m1_169 rfl rfl d_M_put_45 ?_
      refine lv_iconst (v := nI (1)) hx hb d_M_put_48 (by decide) ?_
      refine k_iadd hx hb d_M_put_49 ?_
      refine m_put hx hb hts hown hK hP hD hS rfl 1 (Nat.le_of_ble_eq_true rfl) m1_169 rfl rfl rfl (Nat.le_of_ble_eq_true rfl) d_M_put_50 (fun H locs hP hD hS => ?_)
      have hP : va_P D classes (mW cI q (upd sg (LB.length) (nI ((sp_c31 x) % 1112064))) ou li ba (nI ((LB.length) + 1)) (nI (LT.length)) (nI (LN.length)) (nI (KP.length))) H := hP
      have hD : va_D A (mW cI q (upd sg (LB.length) (nI ((sp_c31 x) % 1112064))) ou li ba (nI ((LB.length) + 1)) (nI (LT.length)) (nI (LN.length)) (nI (KP.length))) := hD
      refine lv_iconst (v := nI (1)) hx hb d_M_put_53 (by decide) ?_
      rw [show sp_add LB (sp_sg x) = LB ++ [sp_sg x] from (sp_add_n c_14 _).1, show sp_addb LB = 1 from (sp_add_n c_14 0).2] at hQ
      rw [ev] at hQ
      exact k_retz hx hb hr hlk hQ hK hP hD hS rfl (mP_mk rfl (sp_len1 _ _) rfl rfl rfl (sp_rep_app hsg _) hou hli hba) d_M_put_54
  · refine lv_iconst (v := nI (0)) hx hb d_M_put_17 (by decide) ?_
    rw [show sp_add LB (sp_sg x) = LB from (sp_add_f c_14 _).1, show sp_addb LB = 0 from (sp_add_f c_14 0).2] at hQ
    exact k_retz hx hb hr hlk hQ hK hP hD hS rfl (mP_mk rfl rfl rfl rfl rfl hsg hou hli hba) d_M_put_18
abbrev r_M_plain : Room := { frames := 0, cells := 0, slots := 0, locals := 0 }
set_option maxHeartbeats 4000000 in
set_option maxRecDepth 100000 in
/-- plain(c) -/
theorem c_M_plain (l : Launch) (D : va_G) (cI cZ : ClassId) (q : Nat → Nat) (sz0 : Nat) (sg ou li ba : Nat → Int32) (LB LT LN KP : List Nat) (hsg : sp_rep sg LB) (hou : sp_rep ou LT) (hli : sp_rep li LN) (hba : sp_rep ba KP) (x : Int32) (hL : LB.length ≤ 24) : kM l y_M_plain b_M_plain 2 (some .boolean) r_M_plain D (k_tys cI cZ) [.ref (q 0), .int (x)] (mW cI q sg ou li ba (nI (LB.length)) (nI (LT.length)) (nI (LN.length)) (nI (KP.length))) sz0 (mP cI q (sp_add LB (97 + sp_c31 x % 26)) LT LN KP (some (.int (nI (sp_addb LB))))) := by
  refine k_met (by decide) (Nat.le_of_ble_eq_true rfl) ?_
  intro p e s m args below meth c A Q C0 hr hlk hnm hA hK hP hD hS hQ ls hl
  obtain ⟨hx, hb, hml, hown, hts⟩ := id C0
  have hl : lv_has ls 2 [(0, .ref (q 0)), (1, .int (x))] := hl
  have h2 := sp_c31_lt x
  refine lv_aload_n hx hb d_M_plain_0 rfl (lv_at hl 0 rfl) ?_
  refine m_get (v := .int (nI (LB.length))) hx hb hts hown hK hP rfl 1 (Nat.le_of_ble_eq_true rfl) m1_169 rfl rfl d_M_plain_1 ?_
  refine lv_bipush (v := nI (24)) hx hb d_M_plain_4 (by decide) ?_
  refine k_icmp_ne (tgt := 11) hx hb d_M_plain_6 (by decide) (by omega) (by omega) (fun c_6 => ?_) (fun c_6 => ?_)
  · refine lv_aload_n hx hb d_M_plain_11 rfl (lv_at hl 0 rfl) ?_
    refine m_get (v := .ref (q 1)) hx hb hts hown hK hP rfl 0 (Nat.le_of_ble_eq_true rfl) m1_168 rfl rfl d_M_plain_12 ?_
    refine lv_aload_n hx hb d_M_plain_15 rfl (lv_at hl 0 rfl) ?_
    refine m_get (v := .int (nI (LB.length))) hx hb hts hown hK hP rfl 1 (Nat.le_of_ble_eq_true rfl) m1_169 rfl rfl d_M_plain_16 ?_
    refine lv_bipush (v := nI (97)) hx hb d_M_plain_19 (by decide) ?_
    refine lv_iload_n hx hb d_M_plain_21 rfl (lv_at hl 1 rfl) ?_
    refine lv_ldc (v := nI 2147483647) hx hb hown (hts _ m1_197) d_M_plain_22 ?_
    refine lv_iand hx hb d_M_plain_24 ?_
    refine k_cvi (show _ = nI (sp_c31 x) from sp_c31_eq x) ?_
    refine lv_bipush (v := nI (26)) hx hb d_M_plain_25 (by decide) ?_
    refine k_irem hx hb (by omega) (by omega) (by omega) d_M_plain_27 ?_
    refine k_iadd hx hb d_M_plain_28 ?_
    refine k_iast hx hb hK hP hD hS 1 0 rfl rfl (by omega) (by omega) d_M_plain_29 (fun H locs hP hD hS => ?_)
    have hP : va_P D classes (mW cI q (upd sg (LB.length) (nI (97 + ((sp_c31 x) % 26)))) ou li ba (nI (LB.length)) (nI (LT.length)) (nI (LN.length)) (nI (KP.length))) H := hP
    have hD : va_D A (mW cI q (upd sg (LB.length) (nI (97 + ((sp_c31 x) % 26)))) ou li ba (nI (LB.length)) (nI (LT.length)) (nI (LN.length)) (nI (KP.length))) := hD
    refine lv_aload_n hx hb d_M_plain_30 rfl (lv_at hl 0 rfl) ?_
    refine lv_aload_n hx hb d_M_plain_31 rfl (lv_at hl 0 rfl) ?_
    refine m_get (v := .int (nI (LB.length))) hx hb hts hown hK hP rfl 1 (Nat.le_of_ble_eq_true rfl) m1_169 rfl rfl d_M_plain_32 ?_
    refine lv_iconst (v := nI (1)) hx hb d_M_plain_35 (by decide) ?_
    refine k_iadd hx hb d_M_plain_36 ?_
    refine m_put hx hb hts hown hK hP hD hS rfl 1 (Nat.le_of_ble_eq_true rfl) m1_169 rfl rfl rfl (Nat.le_of_ble_eq_true rfl) d_M_plain_37 (fun H locs hP hD hS => ?_)
    have hP : va_P D classes (mW cI q (upd sg (LB.length) (nI (97 + ((sp_c31 x) % 26)))) ou li ba (nI ((LB.length) + 1)) (nI (LT.length)) (nI (LN.length)) (nI (KP.length))) H := hP
    have hD : va_D A (mW cI q (upd sg (LB.length) (nI (97 + ((sp_c31 x) % 26)))) ou li ba (nI ((LB.length) + 1)) (nI (LT.length)) (nI (LN.length)) (nI (KP.length))) := hD
    refine lv_iconst (v := nI (1)) hx hb d_M_plain_40 (by decide) ?_
    rw [show sp_add LB (97 + sp_c31 x % 26) = LB ++ [97 + sp_c31 x % 26] from (sp_add_n c_6 _).1, show sp_addb LB = 1 from (sp_add_n c_6 0).2] at hQ
    exact k_retz hx hb hr hlk hQ hK hP hD hS rfl (mP_mk rfl (sp_len1 _ _) rfl rfl rfl (sp_rep_app hsg _) hou hli hba) d_M_plain_41
  · refine lv_iconst (v := nI (0)) hx hb d_M_plain_9 (by decide) ?_
    rw [show sp_add LB (97 + sp_c31 x % 26) = LB from (sp_add_f c_6 _).1, show sp_addb LB = 0 from (sp_add_f c_6 0).2] at hQ
    exact k_retz hx hb hr hlk hQ hK hP hD hS rfl (mP_mk rfl rfl rfl rfl rfl hsg hou hli hba) d_M_plain_10
abbrev r_M_letter : Room := { frames := 0, cells := 0, slots := 0, locals := 0 }
set_option maxHeartbeats 4000000 in
set_option maxRecDepth 100000 in
/-- M_letter -/
theorem c_M_letter (l : Launch) (D : va_G) (cI cZ : ClassId) (q : Nat → Nat) (sz0 : Nat) (sg ou li ba : Nat → Int32) (LB LT LN KP : List Nat) (hsg : sp_rep sg LB) (hou : sp_rep ou LT) (hli : sp_rep li LN) (hba : sp_rep ba KP) (x : Int32) (hL : LT.length ≤ 160) : kM l y_M_letter b_M_letter 2 (some .int) r_M_letter D (k_tys cI cZ) [.ref (q 0), .int (x)] (mW cI q sg ou li ba (nI (LB.length)) (nI (LT.length)) (nI (LN.length)) (nI (KP.length))) sz0 (mP cI q LB LT LN KP (some (.int (sp_pick LT x)))) := by
  refine k_met (by decide) (Nat.le_of_ble_eq_true rfl) ?_
  intro p e s m args below meth c A Q C0 hr hlk hnm hA hK hP hD hS hQ ls hl
  obtain ⟨hx, hb, hml, hown, hts⟩ := id C0
  have hl : lv_has ls 2 [(0, .ref (q 0)), (1, .int (x))] := hl
  have h2 := sp_c31_lt x
  refine lv_aload_n hx hb d_M_letter_0 rfl (lv_at hl 0 rfl) ?_
  refine m_get (v := .int (nI (LT.length))) hx hb hts hown hK hP rfl 3 (Nat.le_of_ble_eq_true rfl) m1_171 rfl rfl d_M_letter_1 ?_
  refine k_if_ne (tgt := 11) hx hb d_M_letter_4 (by decide) (by omega) (fun c_4 => ?_) (fun c_4 => ?_)
  · refine lv_aload_n hx hb d_M_letter_11 rfl (lv_at hl 0 rfl) ?_
    refine m_get (v := .ref (q 2)) hx hb hts hown hK hP rfl 2 (Nat.le_of_ble_eq_true rfl) m1_170 rfl rfl d_M_letter_12 ?_
    refine lv_iload_n hx hb d_M_letter_15 rfl (lv_at hl 1 rfl) ?_
    refine lv_ldc (v := nI 2147483647) hx hb hown (hts _ m1_197) d_M_letter_16 ?_
    refine lv_iand hx hb d_M_letter_18 ?_
    refine k_cvi (show _ = nI (sp_c31 x) from sp_c31_eq x) ?_
    refine lv_aload_n hx hb d_M_letter_19 rfl (lv_at hl 0 rfl) ?_
    refine m_get (v := .int (nI (LT.length))) hx hb hts hown hK hP rfl 3 (Nat.le_of_ble_eq_true rfl) m1_171 rfl rfl d_M_letter_20 ?_
    refine k_irem hx hb (by omega) (by omega) (by omega) d_M_letter_23 ?_
    have hm : sp_c31 x % LT.length < LT.length := Nat.mod_lt _ (by omega)
    refine k_iald hx hb hK hP 2 0 rfl rfl (by omega) (by omega) d_M_letter_24 ?_
    refine k_cvi (show _ = nI (LT.getD ((sp_c31 x) % (LT.length)) 0) from hou _ (by omega)) ?_
    have ev : sp_pick LT x = nI (LT.getD ((sp_c31 x) % (LT.length)) 0) := by unfold sp_pick; first | rw [if_pos (by omega)] | rw [if_neg (by omega)]
    rw [ev] at hQ
    exact k_reti hx hb hr hlk hQ hK hP hD hS (mP_mk rfl rfl rfl rfl rfl hsg hou hli hba) d_M_letter_25
  · refine lv_iconst (v := -1) hx hb d_M_letter_7 (by decide) ?_
    refine lv_goto (tgt := 25) hx hb d_M_letter_8 (by decide) ?_
    have ev : sp_pick LT x = -1 := by unfold sp_pick; first | rw [if_pos (by omega)] | rw [if_neg (by omega)]
    rw [ev] at hQ
    exact k_reti hx hb hr hlk hQ hK hP hD hS (mP_mk rfl rfl rfl rfl rfl hsg hou hli hba) d_M_letter_25
abbrev r_M_sign : Room := { frames := 0, cells := 0, slots := 0, locals := 0 }
set_option maxHeartbeats 4000000 in
set_option maxRecDepth 100000 in
/-- M_sign -/
theorem c_M_sign (l : Launch) (D : va_G) (cI cZ : ClassId) (q : Nat → Nat) (sz0 : Nat) (sg ou li ba : Nat → Int32) (LB LT LN KP : List Nat) (hsg : sp_rep sg LB) (hou : sp_rep ou LT) (hli : sp_rep li LN) (hba : sp_rep ba KP) (x : Int32) (hL : KP.length ≤ 64) : kM l y_M_sign b_M_sign 2 (some .int) r_M_sign D (k_tys cI cZ) [.ref (q 0), .int (x)] (mW cI q sg ou li ba (nI (LB.length)) (nI (LT.length)) (nI (LN.length)) (nI (KP.length))) sz0 (mP cI q LB LT LN KP (some (.int (sp_pick KP x)))) := by
  refine k_met (by decide) (Nat.le_of_ble_eq_true rfl) ?_
  intro p e s m args below meth c A Q C0 hr hlk hnm hA hK hP hD hS hQ ls hl
  obtain ⟨hx, hb, hml, hown, hts⟩ := id C0
  have hl : lv_has ls 2 [(0, .ref (q 0)), (1, .int (x))] := hl
  have h2 := sp_c31_lt x
  refine lv_aload_n hx hb d_M_sign_0 rfl (lv_at hl 0 rfl) ?_
  refine m_get (v := .int (nI (KP.length))) hx hb hts hown hK hP rfl 7 (Nat.le_of_ble_eq_true rfl) m1_175 rfl rfl d_M_sign_1 ?_
  refine k_if_ne (tgt := 11) hx hb d_M_sign_4 (by decide) (by omega) (fun c_4 => ?_) (fun c_4 => ?_)
  · refine lv_aload_n hx hb d_M_sign_11 rfl (lv_at hl 0 rfl) ?_
    refine m_get (v := .ref (q 4)) hx hb hts hown hK hP rfl 6 (Nat.le_of_ble_eq_true rfl) m1_174 rfl rfl d_M_sign_12 ?_
    refine lv_iload_n hx hb d_M_sign_15 rfl (lv_at hl 1 rfl) ?_
    refine lv_ldc (v := nI 2147483647) hx hb hown (hts _ m1_197) d_M_sign_16 ?_
    refine lv_iand hx hb d_M_sign_18 ?_
    refine k_cvi (show _ = nI (sp_c31 x) from sp_c31_eq x) ?_
    refine lv_aload_n hx hb d_M_sign_19 rfl (lv_at hl 0 rfl) ?_
    refine m_get (v := .int (nI (KP.length))) hx hb hts hown hK hP rfl 7 (Nat.le_of_ble_eq_true rfl) m1_175 rfl rfl d_M_sign_20 ?_
    refine k_irem hx hb (by omega) (by omega) (by omega) d_M_sign_23 ?_
    have hm : sp_c31 x % KP.length < KP.length := Nat.mod_lt _ (by omega)
    refine k_iald hx hb hK hP 4 0 rfl rfl (by omega) (by omega) d_M_sign_24 ?_
    refine k_cvi (show _ = nI (KP.getD ((sp_c31 x) % (KP.length)) 0) from hba _ (by omega)) ?_
    have ev : sp_pick KP x = nI (KP.getD ((sp_c31 x) % (KP.length)) 0) := by unfold sp_pick; first | rw [if_pos (by omega)] | rw [if_neg (by omega)]
    rw [ev] at hQ
    exact k_reti hx hb hr hlk hQ hK hP hD hS (mP_mk rfl rfl rfl rfl rfl hsg hou hli hba) d_M_sign_25
  · refine lv_iconst (v := -1) hx hb d_M_sign_7 (by decide) ?_
    refine lv_goto (tgt := 25) hx hb d_M_sign_8 (by decide) ?_
    have ev : sp_pick KP x = -1 := by unfold sp_pick; first | rw [if_pos (by omega)] | rw [if_neg (by omega)]
    rw [ev] at hQ
    exact k_reti hx hb hr hlk hQ hK hP hD hS (mP_mk rfl rfl rfl rfl rfl hsg hou hli hba) d_M_sign_25
abbrev r_M_line : Room := { frames := 1, cells := 0, slots := 0, locals := 20 }
set_option maxHeartbeats 4000000 in
set_option maxRecDepth 100000 in
/-- line(a, b, c, d) -/
theorem c_M_line (l : Launch) (D : va_G) (cI cZ : ClassId) (q : Nat → Nat) (sz0 : Nat) (sg ou li ba : Nat → Int32) (LB LT LN KP : List Nat) (hsg : sp_rep sg LB) (hou : sp_rep ou LT) (hli : sp_rep li LN) (hba : sp_rep ba KP) (x1 x2 x3 x4 : Int32) (hL : LN.length ≤ 64) : kM l y_M_line b_M_line 7 (some .boolean) r_M_line D (k_tys cI cZ) [.ref (q 0), .int (x1), .int (x2), .int (x3), .int (x4)] (mW cI q sg ou li ba (nI (LB.length)) (nI (LT.length)) (nI (LN.length)) (nI (KP.length))) sz0 (mP cI q LB LT (sp_line LN x1 x2 x3 x4) KP (some (.int (nI (sp_lineb LN))))) := by
  refine k_met (by decide) (Nat.le_of_ble_eq_true rfl) ?_
  intro p e s m args below meth c A Q C0 hr hlk hnm hA hK hP hD hS hQ ls hl
  obtain ⟨hx, hb, hml, hown, hts⟩ := id C0
  have hl : lv_has ls 7 [(0, .ref (q 0)), (1, .int (x1)), (2, .int (x2)), (3, .int (x3)), (4, .int (x4))] := hl
  refine lv_aload_n hx hb d_M_line_0 rfl (lv_at hl 0 rfl) ?_
  refine m_get (v := .int (nI (LN.length))) hx hb hts hown hK hP rfl 5 (Nat.le_of_ble_eq_true rfl) m1_173 rfl rfl d_M_line_1 ?_
  refine lv_iconst (v := nI (4)) hx hb d_M_line_4 (by decide) ?_
  refine k_iadd hx hb d_M_line_5 ?_
  refine lv_bipush (v := nI (64)) hx hb d_M_line_6 (by decide) ?_
  refine k_icmp_le (tgt := 13) hx hb d_M_line_8 (by decide) (by omega) (by omega) (fun c_8 => ?_) (fun c_8 => ?_)
  · refine lv_iconst (v := nI (0)) hx hb d_M_line_13 (by decide) ?_
    refine lv_istore (lv' := [(5, .int (nI (0))), (0, .ref (q 0)), (1, .int (x1)), (2, .int (x2)), (3, .int (x3)), (4, .int (x4))]) hx hb d_M_line_14 hl (Nat.le_of_ble_eq_true rfl) rfl (fun ls hl => ?_)
    have S4 : ∀ (li : Nat → Int32), (sp_rep li (LN ++ [sp_bc x1] ++ [sp_bc x2] ++ [sp_bc x3] ++ [sp_bc x4])) → ∀ (H : Heap) (locs : List Loc), va_P D classes (mW cI q sg ou li ba (nI (LB.length)) (nI (LT.length)) (nI ((LN ++ [sp_bc x1] ++ [sp_bc x2] ++ [sp_bc x3] ++ [sp_bc x4]).length)) (nI (KP.length))) H → va_D A (mW cI q sg ou li ba (nI (LB.length)) (nI (LT.length)) (nI ((LN ++ [sp_bc x1] ++ [sp_bc x2] ++ [sp_bc x3] ++ [sp_bc x4]).length)) (nI (KP.length))) → va_S A s.heap H locs → ∀ ls : Array Slot, lv_has ls 7 [(0, .ref (q 0)), (1, .int (x1)), (2, .int (x2)), (3, .int (x3)), (4, .int (x4)), (5, .int (nI (4)))] → W p l e r_M_line s m args below meth c H locs 0 0 Q (F0 m 16 ls []) := by
      intro li hli H locs hP hD hS ls hl
      refine lv_iload hx hb d_M_line_16 (lv_at hl 5 rfl) ?_
      refine lv_iconst (v := nI (4)) hx hb d_M_line_18 (by decide) ?_
      refine k_icmp_ge (tgt := 103) hx hb d_M_line_19 (by decide) (by omega) (by omega) (fun c_19 => ?_) (fun c_19 => ?_)
      · refine lv_iconst (v := nI (1)) hx hb d_M_line_103 (by decide) ?_
        rw [show sp_line LN x1 x2 x3 x4 = LN ++ [sp_bc x1] ++ [sp_bc x2] ++ [sp_bc x3] ++ [sp_bc x4] from by unfold sp_line; rw [if_neg (by omega)], show sp_lineb LN = 1 from by unfold sp_lineb; rw [if_neg (by omega)]] at hQ
        exact k_retz hx hb hr hlk hQ hK hP hD hS rfl (mP_mk rfl rfl rfl rfl rfl hsg hou hli hba) d_M_line_104
      · exact absurd c_19 (by omega)
    have S3 : ∀ (li : Nat → Int32), (sp_rep li (LN ++ [sp_bc x1] ++ [sp_bc x2] ++ [sp_bc x3])) → ∀ (H : Heap) (locs : List Loc), va_P D classes (mW cI q sg ou li ba (nI (LB.length)) (nI (LT.length)) (nI ((LN ++ [sp_bc x1] ++ [sp_bc x2] ++ [sp_bc x3]).length)) (nI (KP.length))) H → va_D A (mW cI q sg ou li ba (nI (LB.length)) (nI (LT.length)) (nI ((LN ++ [sp_bc x1] ++ [sp_bc x2] ++ [sp_bc x3]).length)) (nI (KP.length))) → va_S A s.heap H locs → ∀ ls : Array Slot, lv_has ls 7 [(0, .ref (q 0)), (1, .int (x1)), (2, .int (x2)), (3, .int (x3)), (4, .int (x4)), (5, .int (nI (3)))] → W p l e r_M_line s m args below meth c H locs 0 0 Q (F0 m 16 ls []) := by
      intro li hli H locs hP hD hS ls hl
      have h2 := sp_c31_lt x4
      have hlk : (LN ++ [sp_bc x1] ++ [sp_bc x2] ++ [sp_bc x3]).length = LN.length + 3 := by simp only [List.length_append, List.length_singleton]
      refine lv_iload hx hb d_M_line_16 (lv_at hl 5 rfl) ?_
      refine lv_iconst (v := nI (4)) hx hb d_M_line_18 (by decide) ?_
      refine k_icmp_ge (tgt := 103) hx hb d_M_line_19 (by decide) (by omega) (by omega) (fun c_19 => ?_) (fun c_19 => ?_)
      · exact absurd c_19 (by omega)
      · refine lv_iload hx hb d_M_line_22 (lv_at hl 5 rfl) ?_
        refine k_if_ne (tgt := 31) hx hb d_M_line_24 (by decide) (by omega) (fun c_24 => ?_) (fun c_24 => ?_)
        · refine lv_iload hx hb d_M_line_31 (lv_at hl 5 rfl) ?_
          refine lv_iconst (v := nI (1)) hx hb d_M_line_33 (by decide) ?_
          refine k_icmp_ne (tgt := 41) hx hb d_M_line_34 (by decide) (by omega) (by omega) (fun c_34 => ?_) (fun c_34 => ?_)
          · refine lv_iload hx hb d_M_line_41 (lv_at hl 5 rfl) ?_
            refine lv_iconst (v := nI (2)) hx hb d_M_line_43 (by decide) ?_
            refine k_icmp_ne (tgt := 51) hx hb d_M_line_44 (by decide) (by omega) (by omega) (fun c_44 => ?_) (fun c_44 => ?_)
            · refine lv_iload hx hb d_M_line_51 (lv_at hl 4 rfl) ?_
              refine lv_ldc (v := nI 2147483647) hx hb hown (hts _ m1_197) d_M_line_53 ?_
              refine lv_iand hx hb d_M_line_55 ?_
              refine k_cvi (show _ = nI (sp_c31 x4) from sp_c31_eq x4) ?_
              refine lv_bipush (v := nI (37)) hx hb d_M_line_56 (by decide) ?_
              refine k_irem hx hb (by omega) (by omega) (by omega) d_M_line_58 ?_
              refine lv_istore (lv' := [(6, .int (nI ((sp_c31 x4) % 37))), (0, .ref (q 0)), (1, .int (x1)), (2, .int (x2)), (3, .int (x3)), (4, .int (x4)), (5, .int (nI (3)))]) hx hb d_M_line_59 hl (Nat.le_of_ble_eq_true rfl) rfl (fun ls hl => ?_)
              refine lv_aload_n hx hb d_M_line_61 rfl (lv_at hl 1 rfl) ?_
              refine m_get (v := .ref (q 3)) hx hb hts hown hK hP rfl 4 (Nat.le_of_ble_eq_true rfl) m1_172 rfl rfl d_M_line_62 ?_
              refine lv_aload_n hx hb d_M_line_65 rfl (lv_at hl 1 rfl) ?_
              refine m_get (v := .int (nI ((LN ++ [sp_bc x1] ++ [sp_bc x2] ++ [sp_bc x3]).length))) hx hb hts hown hK hP rfl 5 (Nat.le_of_ble_eq_true rfl) m1_173 rfl rfl d_M_line_66 ?_
              refine lv_iload hx hb d_M_line_69 (lv_at hl 0 rfl) ?_
              refine lv_bipush (v := nI (36)) hx hb d_M_line_71 (by decide) ?_
              refine k_icmp_ne (tgt := 81) hx hb d_M_line_73 (by decide) (by omega) (by omega) (fun c_73 => ?_) (fun c_73 => ?_)
              · refine lv_iload hx hb d_M_line_81 (lv_at hl 0 rfl) ?_
                refine k_callR [.int (nI ((sp_c31 x4) % 37))] C0 (c_M_digit l ((sp_c31 x4) % 37) (by omega)) m1_215 m1_213 m1_2 m1_214 hd_M_digit ⟨(Nat.le_of_ble_eq_true rfl), (Nat.le_of_ble_eq_true rfl)⟩ rfl rfl rfl hl.1 (Nat.le_of_ble_eq_true rfl) d_M_line_83 ⟨Nat.zero_le _, Nat.zero_le _⟩ ?_
                refine k_cvi (show _ = nI (sp_bc x4) from by unfold sp_bc; first | rw [if_pos (by omega)] | rw [if_neg (by omega)]) ?_
                refine k_iast hx hb hK hP hD hS 3 0 rfl rfl (by omega) (by omega) d_M_line_86 (fun H locs hP hD hS => ?_)
                have hP : va_P D classes (mW cI q sg ou (upd li ((LN ++ [sp_bc x1] ++ [sp_bc x2] ++ [sp_bc x3]).length) (nI (sp_bc x4))) ba (nI (LB.length)) (nI (LT.length)) (nI ((LN ++ [sp_bc x1] ++ [sp_bc x2] ++ [sp_bc x3]).length)) (nI (KP.length))) H := hP
                have hD : va_D A (mW cI q sg ou (upd li ((LN ++ [sp_bc x1] ++ [sp_bc x2] ++ [sp_bc x3]).length) (nI (sp_bc x4))) ba (nI (LB.length)) (nI (LT.length)) (nI ((LN ++ [sp_bc x1] ++ [sp_bc x2] ++ [sp_bc x3]).length)) (nI (KP.length))) := hD
                refine lv_aload_n hx hb d_M_line_87 rfl (lv_at hl 1 rfl) ?_
                refine lv_aload_n hx hb d_M_line_88 rfl (lv_at hl 1 rfl) ?_
                refine m_get (v := .int (nI ((LN ++ [sp_bc x1] ++ [sp_bc x2] ++ [sp_bc x3]).length))) hx hb hts hown hK hP rfl 5 (Nat.le_of_ble_eq_true rfl) m1_173 rfl rfl d_M_line_89 ?_
                refine lv_iconst (v := nI (1)) hx hb d_M_line_92 (by decide) ?_
                refine k_iadd hx hb d_M_line_93 ?_
                refine m_put hx hb hts hown hK hP hD hS rfl 5 (Nat.le_of_ble_eq_true rfl) m1_173 rfl rfl rfl (Nat.le_of_ble_eq_true rfl) d_M_line_94 (fun H locs hP hD hS => ?_)
                have hP : va_P D classes (mW cI q sg ou (upd li ((LN ++ [sp_bc x1] ++ [sp_bc x2] ++ [sp_bc x3]).length) (nI (sp_bc x4))) ba (nI (LB.length)) (nI (LT.length)) (nI (((LN ++ [sp_bc x1] ++ [sp_bc x2] ++ [sp_bc x3]).length) + 1)) (nI (KP.length))) H := hP
                have hD : va_D A (mW cI q sg ou (upd li ((LN ++ [sp_bc x1] ++ [sp_bc x2] ++ [sp_bc x3]).length) (nI (sp_bc x4))) ba (nI (LB.length)) (nI (LT.length)) (nI (((LN ++ [sp_bc x1] ++ [sp_bc x2] ++ [sp_bc x3]).length) + 1)) (nI (KP.length))) := hD
                refine lv_iinc (v := nI (4)) (lv' := [(5, .int (nI (4))), (6, .int (nI ((sp_c31 x4) % 37))), (0, .ref (q 0)), (1, .int (x1)), (2, .int (x2)), (3, .int (x3)), (4, .int (x4))]) hx hb d_M_line_97 hl (k := 6) rfl (by decide) (Nat.le_of_ble_eq_true rfl) rfl (fun ls hl => ?_)
                refine lv_goto (tgt := 16) hx hb d_M_line_100 (by decide) ?_
                rw [sp_len1 (LN ++ [sp_bc x1] ++ [sp_bc x2] ++ [sp_bc x3]) (sp_bc x4)] at hP hD
                exact S4 (upd li ((LN ++ [sp_bc x1] ++ [sp_bc x2] ++ [sp_bc x3]).length) (nI (sp_bc x4))) (sp_rep_app hli _) H locs hP hD hS ls (lv_sub hl [2, 3, 4, 5, 6, 0] rfl)
              · refine lv_bipush (v := nI (45)) hx hb d_M_line_76 (by decide) ?_
                refine lv_goto (tgt := 86) hx hb d_M_line_78 (by decide) ?_
                refine k_cvi (show _ = nI (sp_bc x4) from by unfold sp_bc; first | rw [if_pos (by omega)] | rw [if_neg (by omega)]) ?_
                refine k_iast hx hb hK hP hD hS 3 0 rfl rfl (by omega) (by omega) d_M_line_86 (fun H locs hP hD hS => ?_)
                have hP : va_P D classes (mW cI q sg ou (upd li ((LN ++ [sp_bc x1] ++ [sp_bc x2] ++ [sp_bc x3]).length) (nI (sp_bc x4))) ba (nI (LB.length)) (nI (LT.length)) (nI ((LN ++ [sp_bc x1] ++ [sp_bc x2] ++ [sp_bc x3]).length)) (nI (KP.length))) H := hP
                have hD : va_D A (mW cI q sg ou (upd li ((LN ++ [sp_bc x1] ++ [sp_bc x2] ++ [sp_bc x3]).length) (nI (sp_bc x4))) ba (nI (LB.length)) (nI (LT.length)) (nI ((LN ++ [sp_bc x1] ++ [sp_bc x2] ++ [sp_bc x3]).length)) (nI (KP.length))) := hD
                refine lv_aload_n hx hb d_M_line_87 rfl (lv_at hl 1 rfl) ?_
                refine lv_aload_n hx hb d_M_line_88 rfl (lv_at hl 1 rfl) ?_
                refine m_get (v := .int (nI ((LN ++ [sp_bc x1] ++ [sp_bc x2] ++ [sp_bc x3]).length))) hx hb hts hown hK hP rfl 5 (Nat.le_of_ble_eq_true rfl) m1_173 rfl rfl d_M_line_89 ?_
                refine lv_iconst (v := nI (1)) hx hb d_M_line_92 (by decide) ?_
                refine k_iadd hx hb d_M_line_93 ?_
                refine m_put hx hb hts hown hK hP hD hS rfl 5 (Nat.le_of_ble_eq_true rfl) m1_173 rfl rfl rfl (Nat.le_of_ble_eq_true rfl) d_M_line_94 (fun H locs hP hD hS => ?_)
                have hP : va_P D classes (mW cI q sg ou (upd li ((LN ++ [sp_bc x1] ++ [sp_bc x2] ++ [sp_bc x3]).length) (nI (sp_bc x4))) ba (nI (LB.length)) (nI (LT.length)) (nI (((LN ++ [sp_bc x1] ++ [sp_bc x2] ++ [sp_bc x3]).length) + 1)) (nI (KP.length))) H := hP
                have hD : va_D A (mW cI q sg ou (upd li ((LN ++ [sp_bc x1] ++ [sp_bc x2] ++ [sp_bc x3]).length) (nI (sp_bc x4))) ba (nI (LB.length)) (nI (LT.length)) (nI (((LN ++ [sp_bc x1] ++ [sp_bc x2] ++ [sp_bc x3]).length) + 1)) (nI (KP.length))) := hD
                refine lv_iinc (v := nI (4)) (lv' := [(5, .int (nI (4))), (6, .int (nI ((sp_c31 x4) % 37))), (0, .ref (q 0)), (1, .int (x1)), (2, .int (x2)), (3, .int (x3)), (4, .int (x4))]) hx hb d_M_line_97 hl (k := 6) rfl (by decide) (Nat.le_of_ble_eq_true rfl) rfl (fun ls hl => ?_)
                refine lv_goto (tgt := 16) hx hb d_M_line_100 (by decide) ?_
                rw [sp_len1 (LN ++ [sp_bc x1] ++ [sp_bc x2] ++ [sp_bc x3]) (sp_bc x4)] at hP hD
                exact S4 (upd li ((LN ++ [sp_bc x1] ++ [sp_bc x2] ++ [sp_bc x3]).length) (nI (sp_bc x4))) (sp_rep_app hli _) H locs hP hD hS ls (lv_sub hl [2, 3, 4, 5, 6, 0] rfl)
            · exact absurd c_44 (by omega)
          · exact absurd c_34 (by omega)
        · exact absurd c_24 (by omega)
    have S2 : ∀ (li : Nat → Int32), (sp_rep li (LN ++ [sp_bc x1] ++ [sp_bc x2])) → ∀ (H : Heap) (locs : List Loc), va_P D classes (mW cI q sg ou li ba (nI (LB.length)) (nI (LT.length)) (nI ((LN ++ [sp_bc x1] ++ [sp_bc x2]).length)) (nI (KP.length))) H → va_D A (mW cI q sg ou li ba (nI (LB.length)) (nI (LT.length)) (nI ((LN ++ [sp_bc x1] ++ [sp_bc x2]).length)) (nI (KP.length))) → va_S A s.heap H locs → ∀ ls : Array Slot, lv_has ls 7 [(0, .ref (q 0)), (1, .int (x1)), (2, .int (x2)), (3, .int (x3)), (4, .int (x4)), (5, .int (nI (2)))] → W p l e r_M_line s m args below meth c H locs 0 0 Q (F0 m 16 ls []) := by
      intro li hli H locs hP hD hS ls hl
      have h2 := sp_c31_lt x3
      have hlk : (LN ++ [sp_bc x1] ++ [sp_bc x2]).length = LN.length + 2 := by simp only [List.length_append, List.length_singleton]
      refine lv_iload hx hb d_M_line_16 (lv_at hl 5 rfl) ?_
      refine lv_iconst (v := nI (4)) hx hb d_M_line_18 (by decide) ?_
      refine k_icmp_ge (tgt := 103) hx hb d_M_line_19 (by decide) (by omega) (by omega) (fun c_19 => ?_) (fun c_19 => ?_)
      · exact absurd c_19 (by omega)
      · refine lv_iload hx hb d_M_line_22 (lv_at hl 5 rfl) ?_
        refine k_if_ne (tgt := 31) hx hb d_M_line_24 (by decide) (by omega) (fun c_24 => ?_) (fun c_24 => ?_)
        · refine lv_iload hx hb d_M_line_31 (lv_at hl 5 rfl) ?_
          refine lv_iconst (v := nI (1)) hx hb d_M_line_33 (by decide) ?_
          refine k_icmp_ne (tgt := 41) hx hb d_M_line_34 (by decide) (by omega) (by omega) (fun c_34 => ?_) (fun c_34 => ?_)
          · refine lv_iload hx hb d_M_line_41 (lv_at hl 5 rfl) ?_
            refine lv_iconst (v := nI (2)) hx hb d_M_line_43 (by decide) ?_
            refine k_icmp_ne (tgt := 51) hx hb d_M_line_44 (by decide) (by omega) (by omega) (fun c_44 => ?_) (fun c_44 => ?_)
            · exact absurd c_44 (by omega)
            · refine lv_iload_n hx hb d_M_line_47 rfl (lv_at hl 3 rfl) ?_
              refine lv_goto (tgt := 53) hx hb d_M_line_48 (by decide) ?_
              refine lv_ldc (v := nI 2147483647) hx hb hown (hts _ m1_197) d_M_line_53 ?_
              refine lv_iand hx hb d_M_line_55 ?_
              refine k_cvi (show _ = nI (sp_c31 x3) from sp_c31_eq x3) ?_
              refine lv_bipush (v := nI (37)) hx hb d_M_line_56 (by decide) ?_
              refine k_irem hx hb (by omega) (by omega) (by omega) d_M_line_58 ?_
              refine lv_istore (lv' := [(6, .int (nI ((sp_c31 x3) % 37))), (0, .ref (q 0)), (1, .int (x1)), (2, .int (x2)), (3, .int (x3)), (4, .int (x4)), (5, .int (nI (2)))]) hx hb d_M_line_59 hl (Nat.le_of_ble_eq_true rfl) rfl (fun ls hl => ?_)
              refine lv_aload_n hx hb d_M_line_61 rfl (lv_at hl 1 rfl) ?_
              refine m_get (v := .ref (q 3)) hx hb hts hown hK hP rfl 4 (Nat.le_of_ble_eq_true rfl) m1_172 rfl rfl d_M_line_62 ?_
              refine lv_aload_n hx hb d_M_line_65 rfl (lv_at hl 1 rfl) ?_
              refine m_get (v := .int (nI ((LN ++ [sp_bc x1] ++ [sp_bc x2]).length))) hx hb hts hown hK hP rfl 5 (Nat.le_of_ble_eq_true rfl) m1_173 rfl rfl d_M_line_66 ?_
              refine lv_iload hx hb d_M_line_69 (lv_at hl 0 rfl) ?_
              refine lv_bipush (v := nI (36)) hx hb d_M_line_71 (by decide) ?_
              refine k_icmp_ne (tgt := 81) hx hb d_M_line_73 (by decide) (by omega) (by omega) (fun c_73 => ?_) (fun c_73 => ?_)
              · refine lv_iload hx hb d_M_line_81 (lv_at hl 0 rfl) ?_
                refine k_callR [.int (nI ((sp_c31 x3) % 37))] C0 (c_M_digit l ((sp_c31 x3) % 37) (by omega)) m1_215 m1_213 m1_2 m1_214 hd_M_digit ⟨(Nat.le_of_ble_eq_true rfl), (Nat.le_of_ble_eq_true rfl)⟩ rfl rfl rfl hl.1 (Nat.le_of_ble_eq_true rfl) d_M_line_83 ⟨Nat.zero_le _, Nat.zero_le _⟩ ?_
                refine k_cvi (show _ = nI (sp_bc x3) from by unfold sp_bc; first | rw [if_pos (by omega)] | rw [if_neg (by omega)]) ?_
                refine k_iast hx hb hK hP hD hS 3 0 rfl rfl (by omega) (by omega) d_M_line_86 (fun H locs hP hD hS => ?_)
                have hP : va_P D classes (mW cI q sg ou (upd li ((LN ++ [sp_bc x1] ++ [sp_bc x2]).length) (nI (sp_bc x3))) ba (nI (LB.length)) (nI (LT.length)) (nI ((LN ++ [sp_bc x1] ++ [sp_bc x2]).length)) (nI (KP.length))) H := hP
                have hD : va_D A (mW cI q sg ou (upd li ((LN ++ [sp_bc x1] ++ [sp_bc x2]).length) (nI (sp_bc x3))) ba (nI (LB.length)) (nI (LT.length)) (nI ((LN ++ [sp_bc x1] ++ [sp_bc x2]).length)) (nI (KP.length))) := hD
                refine lv_aload_n hx hb d_M_line_87 rfl (lv_at hl 1 rfl) ?_
                refine lv_aload_n hx hb d_M_line_88 rfl (lv_at hl 1 rfl) ?_
                refine m_get (v := .int (nI ((LN ++ [sp_bc x1] ++ [sp_bc x2]).length))) hx hb hts hown hK hP rfl 5 (Nat.le_of_ble_eq_true rfl) m1_173 rfl rfl d_M_line_89 ?_
                refine lv_iconst (v := nI (1)) hx hb d_M_line_92 (by decide) ?_
                refine k_iadd hx hb d_M_line_93 ?_
                refine m_put hx hb hts hown hK hP hD hS rfl 5 (Nat.le_of_ble_eq_true rfl) m1_173 rfl rfl rfl (Nat.le_of_ble_eq_true rfl) d_M_line_94 (fun H locs hP hD hS => ?_)
                have hP : va_P D classes (mW cI q sg ou (upd li ((LN ++ [sp_bc x1] ++ [sp_bc x2]).length) (nI (sp_bc x3))) ba (nI (LB.length)) (nI (LT.length)) (nI (((LN ++ [sp_bc x1] ++ [sp_bc x2]).length) + 1)) (nI (KP.length))) H := hP
                have hD : va_D A (mW cI q sg ou (upd li ((LN ++ [sp_bc x1] ++ [sp_bc x2]).length) (nI (sp_bc x3))) ba (nI (LB.length)) (nI (LT.length)) (nI (((LN ++ [sp_bc x1] ++ [sp_bc x2]).length) + 1)) (nI (KP.length))) := hD
                refine lv_iinc (v := nI (3)) (lv' := [(5, .int (nI (3))), (6, .int (nI ((sp_c31 x3) % 37))), (0, .ref (q 0)), (1, .int (x1)), (2, .int (x2)), (3, .int (x3)), (4, .int (x4))]) hx hb d_M_line_97 hl (k := 6) rfl (by decide) (Nat.le_of_ble_eq_true rfl) rfl (fun ls hl => ?_)
                refine lv_goto (tgt := 16) hx hb d_M_line_100 (by decide) ?_
                rw [sp_len1 (LN ++ [sp_bc x1] ++ [sp_bc x2]) (sp_bc x3)] at hP hD
                exact S3 (upd li ((LN ++ [sp_bc x1] ++ [sp_bc x2]).length) (nI (sp_bc x3))) (sp_rep_app hli _) H locs hP hD hS ls (lv_sub hl [2, 3, 4, 5, 6, 0] rfl)
              · refine lv_bipush (v := nI (45)) hx hb d_M_line_76 (by decide) ?_
                refine lv_goto (tgt := 86) hx hb d_M_line_78 (by decide) ?_
                refine k_cvi (show _ = nI (sp_bc x3) from by unfold sp_bc; first | rw [if_pos (by omega)] | rw [if_neg (by omega)]) ?_
                refine k_iast hx hb hK hP hD hS 3 0 rfl rfl (by omega) (by omega) d_M_line_86 (fun H locs hP hD hS => ?_)
                have hP : va_P D classes (mW cI q sg ou (upd li ((LN ++ [sp_bc x1] ++ [sp_bc x2]).length) (nI (sp_bc x3))) ba (nI (LB.length)) (nI (LT.length)) (nI ((LN ++ [sp_bc x1] ++ [sp_bc x2]).length)) (nI (KP.length))) H := hP
                have hD : va_D A (mW cI q sg ou (upd li ((LN ++ [sp_bc x1] ++ [sp_bc x2]).length) (nI (sp_bc x3))) ba (nI (LB.length)) (nI (LT.length)) (nI ((LN ++ [sp_bc x1] ++ [sp_bc x2]).length)) (nI (KP.length))) := hD
                refine lv_aload_n hx hb d_M_line_87 rfl (lv_at hl 1 rfl) ?_
                refine lv_aload_n hx hb d_M_line_88 rfl (lv_at hl 1 rfl) ?_
                refine m_get (v := .int (nI ((LN ++ [sp_bc x1] ++ [sp_bc x2]).length))) hx hb hts hown hK hP rfl 5 (Nat.le_of_ble_eq_true rfl) m1_173 rfl rfl d_M_line_89 ?_
                refine lv_iconst (v := nI (1)) hx hb d_M_line_92 (by decide) ?_
                refine k_iadd hx hb d_M_line_93 ?_
                refine m_put hx hb hts hown hK hP hD hS rfl 5 (Nat.le_of_ble_eq_true rfl) m1_173 rfl rfl rfl (Nat.le_of_ble_eq_true rfl) d_M_line_94 (fun H locs hP hD hS => ?_)
                have hP : va_P D classes (mW cI q sg ou (upd li ((LN ++ [sp_bc x1] ++ [sp_bc x2]).length) (nI (sp_bc x3))) ba (nI (LB.length)) (nI (LT.length)) (nI (((LN ++ [sp_bc x1] ++ [sp_bc x2]).length) + 1)) (nI (KP.length))) H := hP
                have hD : va_D A (mW cI q sg ou (upd li ((LN ++ [sp_bc x1] ++ [sp_bc x2]).length) (nI (sp_bc x3))) ba (nI (LB.length)) (nI (LT.length)) (nI (((LN ++ [sp_bc x1] ++ [sp_bc x2]).length) + 1)) (nI (KP.length))) := hD
                refine lv_iinc (v := nI (3)) (lv' := [(5, .int (nI (3))), (6, .int (nI ((sp_c31 x3) % 37))), (0, .ref (q 0)), (1, .int (x1)), (2, .int (x2)), (3, .int (x3)), (4, .int (x4))]) hx hb d_M_line_97 hl (k := 6) rfl (by decide) (Nat.le_of_ble_eq_true rfl) rfl (fun ls hl => ?_)
                refine lv_goto (tgt := 16) hx hb d_M_line_100 (by decide) ?_
                rw [sp_len1 (LN ++ [sp_bc x1] ++ [sp_bc x2]) (sp_bc x3)] at hP hD
                exact S3 (upd li ((LN ++ [sp_bc x1] ++ [sp_bc x2]).length) (nI (sp_bc x3))) (sp_rep_app hli _) H locs hP hD hS ls (lv_sub hl [2, 3, 4, 5, 6, 0] rfl)
          · exact absurd c_34 (by omega)
        · exact absurd c_24 (by omega)
    have S1 : ∀ (li : Nat → Int32), (sp_rep li (LN ++ [sp_bc x1])) → ∀ (H : Heap) (locs : List Loc), va_P D classes (mW cI q sg ou li ba (nI (LB.length)) (nI (LT.length)) (nI ((LN ++ [sp_bc x1]).length)) (nI (KP.length))) H → va_D A (mW cI q sg ou li ba (nI (LB.length)) (nI (LT.length)) (nI ((LN ++ [sp_bc x1]).length)) (nI (KP.length))) → va_S A s.heap H locs → ∀ ls : Array Slot, lv_has ls 7 [(0, .ref (q 0)), (1, .int (x1)), (2, .int (x2)), (3, .int (x3)), (4, .int (x4)), (5, .int (nI (1)))] → W p l e r_M_line s m args below meth c H locs 0 0 Q (F0 m 16 ls []) := by
      intro li hli H locs hP hD hS ls hl
      have h2 := sp_c31_lt x2
      have hlk : (LN ++ [sp_bc x1]).length = LN.length + 1 := by simp only [List.length_append, List.length_singleton]
      refine lv_iload hx hb d_M_line_16 (lv_at hl 5 rfl) ?_
      refine lv_iconst (v := nI (4)) hx hb d_M_line_18 (by decide) ?_
      refine k_icmp_ge (tgt := 103) hx hb d_M_line_19 (by decide) (by omega) (by omega) (fun c_19 => ?_) (fun c_19 => ?_)
      · exact absurd c_19 (by omega)
      · refine lv_iload hx hb d_M_line_22 (lv_at hl 5 rfl) ?_
        refine k_if_ne (tgt := 31) hx hb d_M_line_24 (by decide) (by omega) (fun c_24 => ?_) (fun c_24 => ?_)
        · refine lv_iload hx hb d_M_line_31 (lv_at hl 5 rfl) ?_
          refine lv_iconst (v := nI (1)) hx hb d_M_line_33 (by decide) ?_
          refine k_icmp_ne (tgt := 41) hx hb d_M_line_34 (by decide) (by omega) (by omega) (fun c_34 => ?_) (fun c_34 => ?_)
          · exact absurd c_34 (by omega)
          · refine lv_iload_n hx hb d_M_line_37 rfl (lv_at hl 2 rfl) ?_
            refine lv_goto (tgt := 53) hx hb d_M_line_38 (by decide) ?_
            refine lv_ldc (v := nI 2147483647) hx hb hown (hts _ m1_197) d_M_line_53 ?_
            refine lv_iand hx hb d_M_line_55 ?_
            refine k_cvi (show _ = nI (sp_c31 x2) from sp_c31_eq x2) ?_
            refine lv_bipush (v := nI (37)) hx hb d_M_line_56 (by decide) ?_
            refine k_irem hx hb (by omega) (by omega) (by omega) d_M_line_58 ?_
            refine lv_istore (lv' := [(6, .int (nI ((sp_c31 x2) % 37))), (0, .ref (q 0)), (1, .int (x1)), (2, .int (x2)), (3, .int (x3)), (4, .int (x4)), (5, .int (nI (1)))]) hx hb d_M_line_59 hl (Nat.le_of_ble_eq_true rfl) rfl (fun ls hl => ?_)
            refine lv_aload_n hx hb d_M_line_61 rfl (lv_at hl 1 rfl) ?_
            refine m_get (v := .ref (q 3)) hx hb hts hown hK hP rfl 4 (Nat.le_of_ble_eq_true rfl) m1_172 rfl rfl d_M_line_62 ?_
            refine lv_aload_n hx hb d_M_line_65 rfl (lv_at hl 1 rfl) ?_
            refine m_get (v := .int (nI ((LN ++ [sp_bc x1]).length))) hx hb hts hown hK hP rfl 5 (Nat.le_of_ble_eq_true rfl) m1_173 rfl rfl d_M_line_66 ?_
            refine lv_iload hx hb d_M_line_69 (lv_at hl 0 rfl) ?_
            refine lv_bipush (v := nI (36)) hx hb d_M_line_71 (by decide) ?_
            refine k_icmp_ne (tgt := 81) hx hb d_M_line_73 (by decide) (by omega) (by omega) (fun c_73 => ?_) (fun c_73 => ?_)
            · refine lv_iload hx hb d_M_line_81 (lv_at hl 0 rfl) ?_
              refine k_callR [.int (nI ((sp_c31 x2) % 37))] C0 (c_M_digit l ((sp_c31 x2) % 37) (by omega)) m1_215 m1_213 m1_2 m1_214 hd_M_digit ⟨(Nat.le_of_ble_eq_true rfl), (Nat.le_of_ble_eq_true rfl)⟩ rfl rfl rfl hl.1 (Nat.le_of_ble_eq_true rfl) d_M_line_83 ⟨Nat.zero_le _, Nat.zero_le _⟩ ?_
              refine k_cvi (show _ = nI (sp_bc x2) from by unfold sp_bc; first | rw [if_pos (by omega)] | rw [if_neg (by omega)]) ?_
              refine k_iast hx hb hK hP hD hS 3 0 rfl rfl (by omega) (by omega) d_M_line_86 (fun H locs hP hD hS => ?_)
              have hP : va_P D classes (mW cI q sg ou (upd li ((LN ++ [sp_bc x1]).length) (nI (sp_bc x2))) ba (nI (LB.length)) (nI (LT.length)) (nI ((LN ++ [sp_bc x1]).length)) (nI (KP.length))) H := hP
              have hD : va_D A (mW cI q sg ou (upd li ((LN ++ [sp_bc x1]).length) (nI (sp_bc x2))) ba (nI (LB.length)) (nI (LT.length)) (nI ((LN ++ [sp_bc x1]).length)) (nI (KP.length))) := hD
              refine lv_aload_n hx hb d_M_line_87 rfl (lv_at hl 1 rfl) ?_
              refine lv_aload_n hx hb d_M_line_88 rfl (lv_at hl 1 rfl) ?_
              refine m_get (v := .int (nI ((LN ++ [sp_bc x1]).length))) hx hb hts hown hK hP rfl 5 (Nat.le_of_ble_eq_true rfl) m1_173 rfl rfl d_M_line_89 ?_
              refine lv_iconst (v := nI (1)) hx hb d_M_line_92 (by decide) ?_
              refine k_iadd hx hb d_M_line_93 ?_
              refine m_put hx hb hts hown hK hP hD hS rfl 5 (Nat.le_of_ble_eq_true rfl) m1_173 rfl rfl rfl (Nat.le_of_ble_eq_true rfl) d_M_line_94 (fun H locs hP hD hS => ?_)
              have hP : va_P D classes (mW cI q sg ou (upd li ((LN ++ [sp_bc x1]).length) (nI (sp_bc x2))) ba (nI (LB.length)) (nI (LT.length)) (nI (((LN ++ [sp_bc x1]).length) + 1)) (nI (KP.length))) H := hP
              have hD : va_D A (mW cI q sg ou (upd li ((LN ++ [sp_bc x1]).length) (nI (sp_bc x2))) ba (nI (LB.length)) (nI (LT.length)) (nI (((LN ++ [sp_bc x1]).length) + 1)) (nI (KP.length))) := hD
              refine lv_iinc (v := nI (2)) (lv' := [(5, .int (nI (2))), (6, .int (nI ((sp_c31 x2) % 37))), (0, .ref (q 0)), (1, .int (x1)), (2, .int (x2)), (3, .int (x3)), (4, .int (x4))]) hx hb d_M_line_97 hl (k := 6) rfl (by decide) (Nat.le_of_ble_eq_true rfl) rfl (fun ls hl => ?_)
              refine lv_goto (tgt := 16) hx hb d_M_line_100 (by decide) ?_
              rw [sp_len1 (LN ++ [sp_bc x1]) (sp_bc x2)] at hP hD
              exact S2 (upd li ((LN ++ [sp_bc x1]).length) (nI (sp_bc x2))) (sp_rep_app hli _) H locs hP hD hS ls (lv_sub hl [2, 3, 4, 5, 6, 0] rfl)
            · refine lv_bipush (v := nI (45)) hx hb d_M_line_76 (by decide) ?_
              refine lv_goto (tgt := 86) hx hb d_M_line_78 (by decide) ?_
              refine k_cvi (show _ = nI (sp_bc x2) from by unfold sp_bc; first | rw [if_pos (by omega)] | rw [if_neg (by omega)]) ?_
              refine k_iast hx hb hK hP hD hS 3 0 rfl rfl (by omega) (by omega) d_M_line_86 (fun H locs hP hD hS => ?_)
              have hP : va_P D classes (mW cI q sg ou (upd li ((LN ++ [sp_bc x1]).length) (nI (sp_bc x2))) ba (nI (LB.length)) (nI (LT.length)) (nI ((LN ++ [sp_bc x1]).length)) (nI (KP.length))) H := hP
              have hD : va_D A (mW cI q sg ou (upd li ((LN ++ [sp_bc x1]).length) (nI (sp_bc x2))) ba (nI (LB.length)) (nI (LT.length)) (nI ((LN ++ [sp_bc x1]).length)) (nI (KP.length))) := hD
              refine lv_aload_n hx hb d_M_line_87 rfl (lv_at hl 1 rfl) ?_
              refine lv_aload_n hx hb d_M_line_88 rfl (lv_at hl 1 rfl) ?_
              refine m_get (v := .int (nI ((LN ++ [sp_bc x1]).length))) hx hb hts hown hK hP rfl 5 (Nat.le_of_ble_eq_true rfl) m1_173 rfl rfl d_M_line_89 ?_
              refine lv_iconst (v := nI (1)) hx hb d_M_line_92 (by decide) ?_
              refine k_iadd hx hb d_M_line_93 ?_
              refine m_put hx hb hts hown hK hP hD hS rfl 5 (Nat.le_of_ble_eq_true rfl) m1_173 rfl rfl rfl (Nat.le_of_ble_eq_true rfl) d_M_line_94 (fun H locs hP hD hS => ?_)
              have hP : va_P D classes (mW cI q sg ou (upd li ((LN ++ [sp_bc x1]).length) (nI (sp_bc x2))) ba (nI (LB.length)) (nI (LT.length)) (nI (((LN ++ [sp_bc x1]).length) + 1)) (nI (KP.length))) H := hP
              have hD : va_D A (mW cI q sg ou (upd li ((LN ++ [sp_bc x1]).length) (nI (sp_bc x2))) ba (nI (LB.length)) (nI (LT.length)) (nI (((LN ++ [sp_bc x1]).length) + 1)) (nI (KP.length))) := hD
              refine lv_iinc (v := nI (2)) (lv' := [(5, .int (nI (2))), (6, .int (nI ((sp_c31 x2) % 37))), (0, .ref (q 0)), (1, .int (x1)), (2, .int (x2)), (3, .int (x3)), (4, .int (x4))]) hx hb d_M_line_97 hl (k := 6) rfl (by decide) (Nat.le_of_ble_eq_true rfl) rfl (fun ls hl => ?_)
              refine lv_goto (tgt := 16) hx hb d_M_line_100 (by decide) ?_
              rw [sp_len1 (LN ++ [sp_bc x1]) (sp_bc x2)] at hP hD
              exact S2 (upd li ((LN ++ [sp_bc x1]).length) (nI (sp_bc x2))) (sp_rep_app hli _) H locs hP hD hS ls (lv_sub hl [2, 3, 4, 5, 6, 0] rfl)
        · exact absurd c_24 (by omega)
    have S0 : ∀ (li : Nat → Int32), (sp_rep li (LN)) → ∀ (H : Heap) (locs : List Loc), va_P D classes (mW cI q sg ou li ba (nI (LB.length)) (nI (LT.length)) (nI ((LN).length)) (nI (KP.length))) H → va_D A (mW cI q sg ou li ba (nI (LB.length)) (nI (LT.length)) (nI ((LN).length)) (nI (KP.length))) → va_S A s.heap H locs → ∀ ls : Array Slot, lv_has ls 7 [(0, .ref (q 0)), (1, .int (x1)), (2, .int (x2)), (3, .int (x3)), (4, .int (x4)), (5, .int (nI (0)))] → W p l e r_M_line s m args below meth c H locs 0 0 Q (F0 m 16 ls []) := by
      intro li hli H locs hP hD hS ls hl
      have h2 := sp_c31_lt x1
      have hlk : LN.length = LN.length + 0 := rfl
      refine lv_iload hx hb d_M_line_16 (lv_at hl 5 rfl) ?_
      refine lv_iconst (v := nI (4)) hx hb d_M_line_18 (by decide) ?_
      refine k_icmp_ge (tgt := 103) hx hb d_M_line_19 (by decide) (by omega) (by omega) (fun c_19 => ?_) (fun c_19 => ?_)
      · exact absurd c_19 (by omega)
      · refine lv_iload hx hb d_M_line_22 (lv_at hl 5 rfl) ?_
        refine k_if_ne (tgt := 31) hx hb d_M_line_24 (by decide) (by omega) (fun c_24 => ?_) (fun c_24 => ?_)
        · exact absurd c_24 (by omega)
        · refine lv_iload_n hx hb d_M_line_27 rfl (lv_at hl 1 rfl) ?_
          refine lv_goto (tgt := 53) hx hb d_M_line_28 (by decide) ?_
          refine lv_ldc (v := nI 2147483647) hx hb hown (hts _ m1_197) d_M_line_53 ?_
          refine lv_iand hx hb d_M_line_55 ?_
          refine k_cvi (show _ = nI (sp_c31 x1) from sp_c31_eq x1) ?_
          refine lv_bipush (v := nI (37)) hx hb d_M_line_56 (by decide) ?_
          refine k_irem hx hb (by omega) (by omega) (by omega) d_M_line_58 ?_
          refine lv_istore (lv' := [(6, .int (nI ((sp_c31 x1) % 37))), (0, .ref (q 0)), (1, .int (x1)), (2, .int (x2)), (3, .int (x3)), (4, .int (x4)), (5, .int (nI (0)))]) hx hb d_M_line_59 hl (Nat.le_of_ble_eq_true rfl) rfl (fun ls hl => ?_)
          refine lv_aload_n hx hb d_M_line_61 rfl (lv_at hl 1 rfl) ?_
          refine m_get (v := .ref (q 3)) hx hb hts hown hK hP rfl 4 (Nat.le_of_ble_eq_true rfl) m1_172 rfl rfl d_M_line_62 ?_
          refine lv_aload_n hx hb d_M_line_65 rfl (lv_at hl 1 rfl) ?_
          refine m_get (v := .int (nI ((LN).length))) hx hb hts hown hK hP rfl 5 (Nat.le_of_ble_eq_true rfl) m1_173 rfl rfl d_M_line_66 ?_
          refine lv_iload hx hb d_M_line_69 (lv_at hl 0 rfl) ?_
          refine lv_bipush (v := nI (36)) hx hb d_M_line_71 (by decide) ?_
          refine k_icmp_ne (tgt := 81) hx hb d_M_line_73 (by decide) (by omega) (by omega) (fun c_73 => ?_) (fun c_73 => ?_)
          · refine lv_iload hx hb d_M_line_81 (lv_at hl 0 rfl) ?_
            refine k_callR [.int (nI ((sp_c31 x1) % 37))] C0 (c_M_digit l ((sp_c31 x1) % 37) (by omega)) m1_215 m1_213 m1_2 m1_214 hd_M_digit ⟨(Nat.le_of_ble_eq_true rfl), (Nat.le_of_ble_eq_true rfl)⟩ rfl rfl rfl hl.1 (Nat.le_of_ble_eq_true rfl) d_M_line_83 ⟨Nat.zero_le _, Nat.zero_le _⟩ ?_
            refine k_cvi (show _ = nI (sp_bc x1) from by unfold sp_bc; first | rw [if_pos (by omega)] | rw [if_neg (by omega)]) ?_
            refine k_iast hx hb hK hP hD hS 3 0 rfl rfl (by omega) (by omega) d_M_line_86 (fun H locs hP hD hS => ?_)
            have hP : va_P D classes (mW cI q sg ou (upd li ((LN).length) (nI (sp_bc x1))) ba (nI (LB.length)) (nI (LT.length)) (nI ((LN).length)) (nI (KP.length))) H := hP
            have hD : va_D A (mW cI q sg ou (upd li ((LN).length) (nI (sp_bc x1))) ba (nI (LB.length)) (nI (LT.length)) (nI ((LN).length)) (nI (KP.length))) := hD
            refine lv_aload_n hx hb d_M_line_87 rfl (lv_at hl 1 rfl) ?_
            refine lv_aload_n hx hb d_M_line_88 rfl (lv_at hl 1 rfl) ?_
            refine m_get (v := .int (nI ((LN).length))) hx hb hts hown hK hP rfl 5 (Nat.le_of_ble_eq_true rfl) m1_173 rfl rfl d_M_line_89 ?_
            refine lv_iconst (v := nI (1)) hx hb d_M_line_92 (by decide) ?_
            refine k_iadd hx hb d_M_line_93 ?_
            refine m_put hx hb hts hown hK hP hD hS rfl 5 (Nat.le_of_ble_eq_true rfl) m1_173 rfl rfl rfl (Nat.le_of_ble_eq_true rfl) d_M_line_94 (fun H locs hP hD hS => ?_)
            have hP : va_P D classes (mW cI q sg ou (upd li ((LN).length) (nI (sp_bc x1))) ba (nI (LB.length)) (nI (LT.length)) (nI (((LN).length) + 1)) (nI (KP.length))) H := hP
            have hD : va_D A (mW cI q sg ou (upd li ((LN).length) (nI (sp_bc x1))) ba (nI (LB.length)) (nI (LT.length)) (nI (((LN).length) + 1)) (nI (KP.length))) := hD
            refine lv_iinc (v := nI (1)) (lv' := [(5, .int (nI (1))), (6, .int (nI ((sp_c31 x1) % 37))), (0, .ref (q 0)), (1, .int (x1)), (2, .int (x2)), (3, .int (x3)), (4, .int (x4))]) hx hb d_M_line_97 hl (k := 6) rfl (by decide) (Nat.le_of_ble_eq_true rfl) rfl (fun ls hl => ?_)
            refine lv_goto (tgt := 16) hx hb d_M_line_100 (by decide) ?_
            rw [sp_len1 (LN) (sp_bc x1)] at hP hD
            exact S1 (upd li ((LN).length) (nI (sp_bc x1))) (sp_rep_app hli _) H locs hP hD hS ls (lv_sub hl [2, 3, 4, 5, 6, 0] rfl)
          · refine lv_bipush (v := nI (45)) hx hb d_M_line_76 (by decide) ?_
            refine lv_goto (tgt := 86) hx hb d_M_line_78 (by decide) ?_
            refine k_cvi (show _ = nI (sp_bc x1) from by unfold sp_bc; first | rw [if_pos (by omega)] | rw [if_neg (by omega)]) ?_
            refine k_iast hx hb hK hP hD hS 3 0 rfl rfl (by omega) (by omega) d_M_line_86 (fun H locs hP hD hS => ?_)
            have hP : va_P D classes (mW cI q sg ou (upd li ((LN).length) (nI (sp_bc x1))) ba (nI (LB.length)) (nI (LT.length)) (nI ((LN).length)) (nI (KP.length))) H := hP
            have hD : va_D A (mW cI q sg ou (upd li ((LN).length) (nI (sp_bc x1))) ba (nI (LB.length)) (nI (LT.length)) (nI ((LN).length)) (nI (KP.length))) := hD
            refine lv_aload_n hx hb d_M_line_87 rfl (lv_at hl 1 rfl) ?_
            refine lv_aload_n hx hb d_M_line_88 rfl (lv_at hl 1 rfl) ?_
            refine m_get (v := .int (nI ((LN).length))) hx hb hts hown hK hP rfl 5 (Nat.le_of_ble_eq_true rfl) m1_173 rfl rfl d_M_line_89 ?_
            refine lv_iconst (v := nI (1)) hx hb d_M_line_92 (by decide) ?_
            refine k_iadd hx hb d_M_line_93 ?_
            refine m_put hx hb hts hown hK hP hD hS rfl 5 (Nat.le_of_ble_eq_true rfl) m1_173 rfl rfl rfl (Nat.le_of_ble_eq_true rfl) d_M_line_94 (fun H locs hP hD hS => ?_)
            have hP : va_P D classes (mW cI q sg ou (upd li ((LN).length) (nI (sp_bc x1))) ba (nI (LB.length)) (nI (LT.length)) (nI (((LN).length) + 1)) (nI (KP.length))) H := hP
            have hD : va_D A (mW cI q sg ou (upd li ((LN).length) (nI (sp_bc x1))) ba (nI (LB.length)) (nI (LT.length)) (nI (((LN).length) + 1)) (nI (KP.length))) := hD
            refine lv_iinc (v := nI (1)) (lv' := [(5, .int (nI (1))), (6, .int (nI ((sp_c31 x1) % 37))), (0, .ref (q 0)), (1, .int (x1)), (2, .int (x2)), (3, .int (x3)), (4, .int (x4))]) hx hb d_M_line_97 hl (k := 6) rfl (by decide) (Nat.le_of_ble_eq_true rfl) rfl (fun ls hl => ?_)
            refine lv_goto (tgt := 16) hx hb d_M_line_100 (by decide) ?_
            rw [sp_len1 (LN) (sp_bc x1)] at hP hD
            exact S1 (upd li ((LN).length) (nI (sp_bc x1))) (sp_rep_app hli _) H locs hP hD hS ls (lv_sub hl [2, 3, 4, 5, 6, 0] rfl)
    exact S0 li hli s.heap [] hP hD hS ls (lv_sub hl [1, 2, 3, 4, 5, 0] rfl)
  · refine lv_iconst (v := nI (0)) hx hb d_M_line_11 (by decide) ?_
    rw [show sp_line LN x1 x2 x3 x4 = LN from by unfold sp_line; rw [if_pos (by omega)], show sp_lineb LN = 0 from by unfold sp_lineb; rw [if_pos (by omega)]] at hQ
    exact k_retz hx hb hr hlk hQ hK hP hD hS rfl (mP_mk rfl rfl rfl rfl rfl hsg hou hli hba) d_M_line_12
abbrev r_M_copy : Room := { frames := 0, cells := 0, slots := 0, locals := 0 }
set_option maxHeartbeats 4000000 in
set_option maxRecDepth 100000 in
/-- copy() -/
theorem c_M_copy (l : Launch) (D : va_G) (cI cZ : ClassId) (q : Nat → Nat) (sz0 : Nat) (sg ou li ba : Nat → Int32) (LB LT LN KP : List Nat) (hsg : sp_rep sg LB) (hou : sp_rep ou LT) (hli : sp_rep li LN) (hba : sp_rep ba KP) (hL : LT.length ≤ 160) : kM l y_M_copy b_M_copy 2 none r_M_copy D (k_tys cI cZ) [.ref (q 0)] (mW cI q sg ou li ba (nI (LB.length)) (nI (LT.length)) (nI (LN.length)) (nI (KP.length))) sz0 (mP cI q LB LT (LT.take 64) KP none) := by
  refine k_met (by decide) (Nat.le_of_ble_eq_true rfl) ?_
  intro p e s m args below meth c A Q C0 hr hlk hnm hA hK hP hD hS hQ ls hl
  obtain ⟨hx, hb, hml, hown, hts⟩ := id C0
  have hl : lv_has ls 2 [(0, .ref (q 0))] := hl
  refine lv_aload_n hx hb d_M_copy_0 rfl (lv_at hl 0 rfl) ?_
  refine lv_iconst (v := nI (0)) hx hb d_M_copy_1 (by decide) ?_
  refine m_put hx hb hts hown hK hP hD hS rfl 5 (Nat.le_of_ble_eq_true rfl) m1_173 rfl rfl rfl (Nat.le_of_ble_eq_true rfl) d_M_copy_2 (fun H locs hP hD hS => ?_)
  have hP : va_P D classes (mW cI q sg ou li ba (nI (LB.length)) (nI (LT.length)) (nI (0)) (nI (KP.length))) H := hP
  have hD : va_D A (mW cI q sg ou li ba (nI (LB.length)) (nI (LT.length)) (nI (0)) (nI (KP.length))) := hD
  refine lv_iconst (v := nI (0)) hx hb d_M_copy_5 (by decide) ?_
  refine lv_istore_n (lv' := [(1, .int (nI (0))), (0, .ref (q 0))]) hx hb d_M_copy_6 rfl hl (Nat.le_of_ble_eq_true rfl) rfl (fun ls hl => ?_)
  have lp : ∀ (f : Nat) (k : Nat) (li : Nat → Int32), min (LT.length) 64 - k < f → (k ≤ min (LT.length) 64) → (sp_rep li (LT.take k)) → ∀ (H : Heap) (locs : List Loc), va_P D classes (mW cI q sg ou li ba (nI (LB.length)) (nI (LT.length)) (nI (k)) (nI (KP.length))) H → va_D A (mW cI q sg ou li ba (nI (LB.length)) (nI (LT.length)) (nI (k)) (nI (KP.length))) → va_S A s.heap H locs → ∀ ls : Array Slot, lv_has ls 2 [(1, .int (nI (k))), (0, .ref (q 0))] → W p l e r_M_copy s m args below meth c H locs 0 0 Q (F0 m 7 ls []) := by
    intro f
    induction f with
    | zero => intro k li h; exact absurd h (Nat.not_lt_zero _)
    | succ f ih =>
      intro k li hf hk hli H locs hP hD hS ls hl
      refine lv_iload_n hx hb d_M_copy_7 rfl (lv_at hl 0 rfl) ?_
      refine lv_aload_n hx hb d_M_copy_8 rfl (lv_at hl 1 rfl) ?_
      refine m_get (v := .int (nI (LT.length))) hx hb hts hown hK hP rfl 3 (Nat.le_of_ble_eq_true rfl) m1_171 rfl rfl d_M_copy_9 ?_
      refine k_icmp_ge (tgt := 52) hx hb d_M_copy_12 (by decide) (by omega) (by omega) (fun c_12 => ?_) (fun c_12 => ?_)
      · have ek : k = min (LT.length) 64 := by omega
        subst ek
        exact k_retv hx hb hr hlk hQ hK hP hD hS (mP_mk rfl rfl rfl (by rw [List.length_take, Nat.min_comm]) rfl hsg hou (sp_rep_tm hli) hba) d_M_copy_52
      · refine lv_iload_n hx hb d_M_copy_15 rfl (lv_at hl 0 rfl) ?_
        refine lv_bipush (v := nI (64)) hx hb d_M_copy_16 (by decide) ?_
        refine k_icmp_ge (tgt := 52) hx hb d_M_copy_18 (by decide) (by omega) (by omega) (fun c_18 => ?_) (fun c_18 => ?_)
        · have ek : k = min (LT.length) 64 := by omega
          subst ek
          exact k_retv hx hb hr hlk hQ hK hP hD hS (mP_mk rfl rfl rfl (by rw [List.length_take, Nat.min_comm]) rfl hsg hou (sp_rep_tm hli) hba) d_M_copy_52
        · refine lv_aload_n hx hb d_M_copy_21 rfl (lv_at hl 1 rfl) ?_
          refine m_get (v := .ref (q 3)) hx hb hts hown hK hP rfl 4 (Nat.le_of_ble_eq_true rfl) m1_172 rfl rfl d_M_copy_22 ?_
          refine lv_aload_n hx hb d_M_copy_25 rfl (lv_at hl 1 rfl) ?_
          refine m_get (v := .int (nI (k))) hx hb hts hown hK hP rfl 5 (Nat.le_of_ble_eq_true rfl) m1_173 rfl rfl d_M_copy_26 ?_
          refine lv_aload_n hx hb d_M_copy_29 rfl (lv_at hl 1 rfl) ?_
          refine m_get (v := .ref (q 2)) hx hb hts hown hK hP rfl 2 (Nat.le_of_ble_eq_true rfl) m1_170 rfl rfl d_M_copy_30 ?_
          refine lv_iload_n hx hb d_M_copy_33 rfl (lv_at hl 0 rfl) ?_
          refine k_iald hx hb hK hP 2 0 rfl rfl (by omega) (by omega) d_M_copy_34 ?_
          refine k_cvi (show _ = nI (LT.getD (k) 0) from hou _ (by omega)) ?_
          refine k_iast hx hb hK hP hD hS 3 0 rfl rfl (by omega) (by omega) d_M_copy_35 (fun H locs hP hD hS => ?_)
          have hP : va_P D classes (mW cI q sg ou (upd li (k) (nI (LT.getD (k) 0))) ba (nI (LB.length)) (nI (LT.length)) (nI (k)) (nI (KP.length))) H := hP
          have hD : va_D A (mW cI q sg ou (upd li (k) (nI (LT.getD (k) 0))) ba (nI (LB.length)) (nI (LT.length)) (nI (k)) (nI (KP.length))) := hD
          refine lv_aload_n hx hb d_M_copy_36 rfl (lv_at hl 1 rfl) ?_
          refine lv_aload_n hx hb d_M_copy_37 rfl (lv_at hl 1 rfl) ?_
          refine m_get (v := .int (nI (k))) hx hb hts hown hK hP rfl 5 (Nat.le_of_ble_eq_true rfl) m1_173 rfl rfl d_M_copy_38 ?_
          refine lv_iconst (v := nI (1)) hx hb d_M_copy_41 (by decide) ?_
          refine k_iadd hx hb d_M_copy_42 ?_
          refine m_put hx hb hts hown hK hP hD hS rfl 5 (Nat.le_of_ble_eq_true rfl) m1_173 rfl rfl rfl (Nat.le_of_ble_eq_true rfl) d_M_copy_43 (fun H locs hP hD hS => ?_)
          have hP : va_P D classes (mW cI q sg ou (upd li (k) (nI (LT.getD (k) 0))) ba (nI (LB.length)) (nI (LT.length)) (nI (k + 1)) (nI (KP.length))) H := hP
          have hD : va_D A (mW cI q sg ou (upd li (k) (nI (LT.getD (k) 0))) ba (nI (LB.length)) (nI (LT.length)) (nI (k + 1)) (nI (KP.length))) := hD
          refine lv_iinc (v := nI (k + 1)) (lv' := [(1, .int (nI (k + 1))), (0, .ref (q 0))]) hx hb d_M_copy_46 hl (k := 0) rfl (k_inc (by decide)) (Nat.le_of_ble_eq_true rfl) rfl (fun ls hl => ?_)
          refine lv_goto (tgt := 7) hx hb d_M_copy_49 (by decide) ?_
          have hli2 : sp_rep (upd li k (nI (LT.getD k 0))) (LT.take (k + 1)) := sp_rep_tk hli (by omega)
          exact ih (k + 1) (upd li (k) (nI (LT.getD (k) 0))) (by omega) (by omega) hli2 H locs hP hD hS ls (lv_sub hl [0, 1] rfl)
  exact lp (min (LT.length) 64 + 1) 0 li (by omega) (by omega) (sp_rep_nil _) H locs hP hD hS ls (lv_sub hl [0, 1] rfl)
end
section
/-! the reference's write -/
theorem sp_prod1 {a b c h : Nat} (h1 : a ≤ b) (h2 : b ≤ c) : (b - a) * h + (c - b) * h = (c - a) * h := by
  rw [← Nat.add_mul, show b - a + (c - b) = c - a by omega]
theorem sp_prod2 {a b h : Nat} (h1 : a ≤ b) : (b + 1 - a) * h = (b - a) * h + h := by
  rw [show b + 1 - a = (b - a) + 1 by omega, Nat.add_mul, Nat.one_mul]
theorem sp_cnt_lt {dn : Nat → Bool} {n i : Nat} (hi : i < n) (h : dn i = false) : sp_cnt dn n < n := by
  have h1 := sp_cnt_hi dn h n hi
  have h2 := sp_cnt_le (sp_mark dn i) n
  omega
theorem sp_db0 (f : Nat → Nat) (n : Nat) : ∀ j, j < n → (decide (f j < 128) = true ↔ f j < 128) := fun j _ => decide_eq_true_iff
theorem sp_db_next {f : Nat → Nat} {db : Nat → Bool} {n p pn : Nat} (h : ∀ j, j < n → (db j = true ↔ f j < p)) (hm : ∀ j, j < n → p ≤ f j → pn ≤ f j) (hp : p ≤ pn) : ∀ j, j < n → (db j = true ↔ f j < pn ∨ (f j = pn ∧ j < 0)) := by
  intro j hj
  rw [h j hj]
  have := hm j hj
  omega
theorem sp_db_skip {f : Nat → Nat} {db : Nat → Bool} {n pn i : Nat} (h : ∀ j, j < n → (db j = true ↔ f j < pn ∨ (f j = pn ∧ j < i))) (hi : f i ≠ pn) : ∀ j, j < n → (db j = true ↔ f j < pn ∨ (f j = pn ∧ j < i + 1)) := by
  intro j hj
  rw [h j hj]
  by_cases e : j = i
  · subst e; omega
  · omega
theorem sp_db_mark {f : Nat → Nat} {db : Nat → Bool} {n pn i : Nat} (h : ∀ j, j < n → (db j = true ↔ f j < pn ∨ (f j = pn ∧ j < i))) (hi : f i = pn) : ∀ j, j < n → (sp_mark db i j = true ↔ f j < pn ∨ (f j = pn ∧ j < i + 1)) := by
  intro j hj
  by_cases e : j = i
  · subst e
    rw [sp_mark_k]
    constructor
    · intro _; omega
    · intro _; rfl
  · rw [sp_mark_n db e, h j hj]
    omega
theorem sp_db_end {f : Nat → Nat} {db : Nat → Bool} {n pn : Nat} (h : ∀ j, j < n → (db j = true ↔ f j < pn ∨ (f j = pn ∧ j < n))) : ∀ j, j < n → (db j = true ↔ f j < pn + 1) := by
  intro j hj
  rw [h j hj]
  omega
theorem sp_bool_f {b : Bool} (h : ¬ b = true) : b = false := by cases b <;> simp_all
abbrev r_M_write : Room := { frames := 1, cells := 0, slots := 0, locals := 24 }
set_option maxHeartbeats 4000000 in
set_option maxRecDepth 100000 in
/-- write() -/
theorem c_M_write (l : Launch) (D : va_G) (cI cZ : ClassId) (q : Nat → Nat) (sz0 : Nat) (sg ou li ba : Nat → Int32) (LB LT LN KP : List Nat) (hsg : sp_rep sg LB) (hou : sp_rep ou LT) (hli : sp_rep li LN) (hba : sp_rep ba KP) (hok : sp_ok LB) (hLT : LT.length ≤ 160) : kM l y_M_write b_M_write 14 (some .int) r_M_write D (k_tys cI cZ) [.ref (q 0)] (mW cI q sg ou li ba (nI (LB.length)) (nI (LT.length)) (nI (LN.length)) (nI (KP.length))) sz0 (mP cI q LB (sp_enc LB) LN KP (some (.int (nI ((sp_enc LB).length))))) := by
  refine k_met (by decide) (Nat.le_of_ble_eq_true rfl) ?_
  intro p e s m args below meth c A Q C0 hr hlk hnm hA hK hP hD hS hQ ls hl
  obtain ⟨hx, hb, hml, hown, hts⟩ := id C0
  have hl : lv_has ls 14 [(0, .ref (q 0))] := hl
  have hok1 := hok.1
  have hok2 := hok.2
  have hB := sp_bas_le LB
  have lp2 : ∀ (f2 : Nat) (point delta : Nat) (t : Nat) (db : Nat → Bool) (pt fr bias : Nat) (out : List Nat) (ou : Nat → Int32), 1114113 - point < f2 → ((sp_bas (sp_ef LB) LB.length).length + t ≤ LB.length) → (sp_en (sp_ef LB) LB.length (sp_bas (sp_ef LB) LB.length).length (sp_o (sp_ef LB) LB.length) t = (db, pt, fr, bias, out)) → (sp_Inv (sp_ef LB) LB.length (sp_bas (sp_ef LB) LB.length).length t (sp_o (sp_ef LB) LB.length) db pt fr bias out) → (∀ j, j < LB.length → (db j = true ↔ sp_ef LB j < point)) → (delta + fr = (point - pt) * ((sp_bas (sp_ef LB) LB.length).length + t + 1)) → (pt ≤ point) → (point ≤ 1114112) → (sp_rep ou out) → ∀ (H : Heap) (locs : List Loc), va_P D classes (mW cI q sg ou li ba (nI (LB.length)) (nI (out.length)) (nI (LN.length)) (nI (KP.length))) H → va_D A (mW cI q sg ou li ba (nI (LB.length)) (nI (out.length)) (nI (LN.length)) (nI (KP.length))) → va_S A s.heap H locs → ∀ ls : Array Slot, lv_has ls 14 [(0, .ref (q 0)), (1, .int (nI ((sp_bas (sp_ef LB) LB.length).length))), (2, .int (nI ((sp_bas (sp_ef LB) LB.length).length + t))), (3, .int (nI (bias))), (4, .int (nI (point))), (5, .long (lN (delta)))] → W p l e r_M_write s m args below meth c H locs 0 0 Q (F0 m 104 ls []) := by
    intro f2
    induction f2 with
    | zero => intro point delta t db pt fr bias out ou h; exact absurd h (Nat.not_lt_zero _)
    | succ f2 ih2 =>
      intro point delta t db pt fr bias out ou hf2 hbt hen hI hdb hdl hpp hpo hou H locs hP hD hS ls hl
      have hfit := sp_fit hI hok1 (sp_o_len _ _) hbt
      have hIp := hI.2.2.2.2.1
      have hIb := hI.2.2.2.2.2.1
      have hIf := hI.2.2.1
      refine lv_iload_n hx hb d_M_write_104 rfl (lv_at hl 2 rfl) ?_
      refine lv_aload_n hx hb d_M_write_105 rfl (lv_at hl 0 rfl) ?_
      refine m_get (v := .int (nI (LB.length))) hx hb hts hown hK hP rfl 1 (Nat.le_of_ble_eq_true rfl) m1_169 rfl rfl d_M_write_106 ?_
      refine k_icmp_ge (tgt := 428) hx hb d_M_write_109 (by decide) (by omega) (by omega) (fun c_109 => ?_) (fun c_109 => ?_)
      · refine lv_aload_n hx hb d_M_write_428 rfl (lv_at hl 0 rfl) ?_
        refine m_get (v := .int (nI (out.length))) hx hb hts hown hK hP rfl 3 (Nat.le_of_ble_eq_true rfl) m1_171 rfl rfl d_M_write_429 ?_
        have eo : sp_enc LB = out := by unfold sp_enc; rw [show LB.length - (sp_bas (sp_ef LB) LB.length).length = t by omega, hen]
        rw [eo] at hQ
        exact k_reti hx hb hr hlk hQ hK hP hD hS (mP_mk rfl rfl rfl rfl rfl hsg hou hli hba) d_M_write_432
      · obtain ⟨j0, -, j1, j2, -⟩ := sp_step hI (by omega) hok1 hok2
        have j3 : point ≤ LB.getD j0 0 := Nat.not_lt.mp (fun z => by rw [(hdb j0 j1).mpr z] at j2; cases j2)
        have j4 := hok2 j0 j1
        refine lv_ldc (v := nI 1114112) hx hb hown (hts _ m1_212) d_M_write_112 ?_
        refine lv_istore (lv' := [(7, .int (nI (1114112))), (0, .ref (q 0)), (1, .int (nI ((sp_bas (sp_ef LB) LB.length).length))), (2, .int (nI ((sp_bas (sp_ef LB) LB.length).length + t))), (3, .int (nI (bias))), (4, .int (nI (point))), (5, .long (lN (delta)))]) hx hb d_M_write_114 hl (Nat.le_of_ble_eq_true rfl) rfl (fun ls hl => ?_)
        refine lv_iconst (v := nI (0)) hx hb d_M_write_116 (by decide) ?_
        refine lv_istore (lv' := [(8, .int (nI (0))), (7, .int (nI (1114112))), (0, .ref (q 0)), (1, .int (nI ((sp_bas (sp_ef LB) LB.length).length))), (2, .int (nI ((sp_bas (sp_ef LB) LB.length).length + t))), (3, .int (nI (bias))), (4, .int (nI (point))), (5, .long (lN (delta)))]) hx hb d_M_write_117 hl (Nat.le_of_ble_eq_true rfl) rfl (fun ls hl => ?_)
        have lp3 : ∀ (f3 : Nat) (i nx : Nat), LB.length - i < f3 → (i ≤ LB.length) → (∀ j, j < i → point ≤ LB.getD j 0 → nx ≤ LB.getD j 0) → (point ≤ nx) → (nx ≤ 1114112) → ∀ ls : Array Slot, lv_has ls 14 [(0, .ref (q 0)), (1, .int (nI ((sp_bas (sp_ef LB) LB.length).length))), (2, .int (nI ((sp_bas (sp_ef LB) LB.length).length + t))), (3, .int (nI (bias))), (4, .int (nI (point))), (5, .long (lN (delta))), (7, .int (nI (nx))), (8, .int (nI (i)))] → W p l e r_M_write s m args below meth c H locs 0 0 Q (F0 m 119 ls []) := by
          intro f3
          induction f3 with
          | zero => intro i nx h; exact absurd h (Nat.not_lt_zero _)
          | succ f3 ih3 =>
            intro i nx hf3 hi hn1 hn2 hn4 ls hl
            refine lv_iload hx hb d_M_write_119 (lv_at hl 7 rfl) ?_
            refine lv_aload_n hx hb d_M_write_121 rfl (lv_at hl 0 rfl) ?_
            refine m_get (v := .int (nI (LB.length))) hx hb hts hown hK hP rfl 1 (Nat.le_of_ble_eq_true rfl) m1_169 rfl rfl d_M_write_122 ?_
            refine k_icmp_ge (tgt := 167) hx hb d_M_write_125 (by decide) (by omega) (by omega) (fun c_125 => ?_) (fun c_125 => ?_)
            · have ei : i = LB.length := by omega
              subst ei
              have hnx := hn1 j0 j1 j3
              have hdb4 := sp_db_next (f := sp_ef LB) hdb hn1 hn2
              have hdl4 : delta + (nx - point) * ((sp_bas (sp_ef LB) LB.length).length + t + 1) + fr = (nx - pt) * ((sp_bas (sp_ef LB) LB.length).length + t + 1) + sp_cnt db 0 := by
                have e1 := sp_prod1 (h := ((sp_bas (sp_ef LB) LB.length).length + t + 1)) hpp hn2
                have e2 : sp_cnt db 0 = 0 := rfl
                omega
              refine lv_lload hx hb d_M_write_167 (lv_at hl 5 rfl) ?_
              refine lv_iload hx hb d_M_write_169 (lv_at hl 6 rfl) ?_
              refine lv_iload hx hb d_M_write_171 (lv_at hl 4 rfl) ?_
              refine k_isub hx hb (by omega) d_M_write_173 ?_
              refine k_i2l hx hb (by omega) d_M_write_174 ?_
              refine lv_iload_n hx hb d_M_write_175 rfl (lv_at hl 2 rfl) ?_
              refine lv_iconst (v := nI (1)) hx hb d_M_write_176 (by decide) ?_
              refine k_iadd hx hb d_M_write_177 ?_
              refine k_i2l hx hb (by omega) d_M_write_178 ?_
              refine k_lmul hx hb d_M_write_179 ?_
              refine k_ladd hx hb d_M_write_180 ?_
              refine lv_lstore (lv' := [(5, .long (lN (delta + ((nx - point) * (((sp_bas (sp_ef LB) LB.length).length + t) + 1))))), (0, .ref (q 0)), (1, .int (nI ((sp_bas (sp_ef LB) LB.length).length))), (2, .int (nI ((sp_bas (sp_ef LB) LB.length).length + t))), (3, .int (nI (bias))), (4, .int (nI (point))), (7, .int (nI (nx))), (8, .int (nI (LB.length)))]) hx hb d_M_write_181 hl (Nat.le_of_ble_eq_true rfl) rfl (fun ls hl => ?_)
              refine lv_iload hx hb d_M_write_183 (lv_at hl 6 rfl) ?_
              refine lv_istore (lv' := [(4, .int (nI (nx))), (5, .long (lN (delta + ((nx - point) * (((sp_bas (sp_ef LB) LB.length).length + t) + 1))))), (0, .ref (q 0)), (1, .int (nI ((sp_bas (sp_ef LB) LB.length).length))), (2, .int (nI ((sp_bas (sp_ef LB) LB.length).length + t))), (3, .int (nI (bias))), (7, .int (nI (nx))), (8, .int (nI (LB.length)))]) hx hb d_M_write_185 hl (Nat.le_of_ble_eq_true rfl) rfl (fun ls hl => ?_)
              refine lv_iconst (v := nI (0)) hx hb d_M_write_187 (by decide) ?_
              refine lv_istore (lv' := [(8, .int (nI (0))), (4, .int (nI (nx))), (5, .long (lN (delta + ((nx - point) * (((sp_bas (sp_ef LB) LB.length).length + t) + 1))))), (0, .ref (q 0)), (1, .int (nI ((sp_bas (sp_ef LB) LB.length).length))), (2, .int (nI ((sp_bas (sp_ef LB) LB.length).length + t))), (3, .int (nI (bias))), (7, .int (nI (nx)))]) hx hb d_M_write_188 hl (Nat.le_of_ble_eq_true rfl) rfl (fun ls hl => ?_)
              have lp4 : ∀ (f4 : Nat) (i delta : Nat) (t : Nat) (db : Nat → Bool) (pt fr bias : Nat) (out : List Nat) (ou : Nat → Int32), LB.length - i < f4 → (i ≤ LB.length) → ((sp_bas (sp_ef LB) LB.length).length + t ≤ LB.length) → (sp_en (sp_ef LB) LB.length (sp_bas (sp_ef LB) LB.length).length (sp_o (sp_ef LB) LB.length) t = (db, pt, fr, bias, out)) → (sp_Inv (sp_ef LB) LB.length (sp_bas (sp_ef LB) LB.length).length t (sp_o (sp_ef LB) LB.length) db pt fr bias out) → (∀ j, j < LB.length → (db j = true ↔ sp_ef LB j < nx ∨ (sp_ef LB j = nx ∧ j < i))) → (delta + fr = (nx - pt) * ((sp_bas (sp_ef LB) LB.length).length + t + 1) + sp_cnt db i) → (pt ≤ nx) → (sp_rep ou out) → ∀ (H : Heap) (locs : List Loc), va_P D classes (mW cI q sg ou li ba (nI (LB.length)) (nI (out.length)) (nI (LN.length)) (nI (KP.length))) H → va_D A (mW cI q sg ou li ba (nI (LB.length)) (nI (out.length)) (nI (LN.length)) (nI (KP.length))) → va_S A s.heap H locs → ∀ ls : Array Slot, lv_has ls 14 [(0, .ref (q 0)), (1, .int (nI ((sp_bas (sp_ef LB) LB.length).length))), (2, .int (nI ((sp_bas (sp_ef LB) LB.length).length + t))), (3, .int (nI (bias))), (4, .int (nI (nx))), (5, .long (lN (delta))), (8, .int (nI (i)))] → W p l e r_M_write s m args below meth c H locs 0 0 Q (F0 m 190 ls []) := by
                intro f4
                induction f4 with
                | zero => intro i delta t db pt fr bias out ou h; exact absurd h (Nat.not_lt_zero _)
                | succ f4 ih4 =>
                  intro i delta t db pt fr bias out ou hf4 hi hbt hen hI hdb hdl hpp hou H locs hP hD hS ls hl
                  have hfit := sp_fit hI hok1 (sp_o_len _ _) hbt
                  have hIp := hI.2.2.2.2.1
                  have hIb := hI.2.2.2.2.2.1
                  have hIf := hI.2.2.1
                  have hcl := sp_cnt_le db i
                  refine lv_iload hx hb d_M_write_190 (lv_at hl 6 rfl) ?_
                  refine lv_aload_n hx hb d_M_write_192 rfl (lv_at hl 0 rfl) ?_
                  refine m_get (v := .int (nI (LB.length))) hx hb hts hown hK hP rfl 1 (Nat.le_of_ble_eq_true rfl) m1_169 rfl rfl d_M_write_193 ?_
                  refine k_icmp_ge (tgt := 413) hx hb d_M_write_196 (by decide) (by omega) (by omega) (fun c_196 => ?_) (fun c_196 => ?_)
                  · have ei : i = LB.length := by omega
                    subst ei
                    have hdb6 := sp_db_end (f := sp_ef LB) hdb
                    have e1 := sp_prod2 (h := ((sp_bas (sp_ef LB) LB.length).length + t + 1)) hpp
                    have e2 := hI.1
                    refine lv_lload hx hb d_M_write_413 (lv_at hl 5 rfl) ?_
                    refine lv_lconst (v := lN 1) hx hb d_M_write_415 rfl ?_
                    refine k_ladd hx hb d_M_write_416 ?_
                    refine lv_lstore (lv' := [(5, .long (lN (delta + 1))), (0, .ref (q 0)), (1, .int (nI ((sp_bas (sp_ef LB) LB.length).length))), (2, .int (nI ((sp_bas (sp_ef LB) LB.length).length + t))), (3, .int (nI (bias))), (4, .int (nI (nx))), (8, .int (nI (LB.length)))]) hx hb d_M_write_417 hl (Nat.le_of_ble_eq_true rfl) rfl (fun ls hl => ?_)
                    refine lv_iload hx hb d_M_write_419 (lv_at hl 5 rfl) ?_
                    refine lv_iconst (v := nI (1)) hx hb d_M_write_421 (by decide) ?_
                    refine k_iadd hx hb d_M_write_422 ?_
                    refine lv_istore (lv' := [(4, .int (nI (nx + 1))), (5, .long (lN (delta + 1))), (0, .ref (q 0)), (1, .int (nI ((sp_bas (sp_ef LB) LB.length).length))), (2, .int (nI ((sp_bas (sp_ef LB) LB.length).length + t))), (3, .int (nI (bias))), (8, .int (nI (LB.length)))]) hx hb d_M_write_423 hl (Nat.le_of_ble_eq_true rfl) rfl (fun ls hl => ?_)
                    refine lv_goto (tgt := 104) hx hb d_M_write_425 (by decide) ?_
                    exact ih2 (nx + 1) (delta + 1) t db pt fr bias out ou (by omega) hbt hen hI hdb6 (by omega) (by omega) (by omega) hou H locs hP hD hS ls (lv_sub hl [2, 3, 4, 5, 0, 1] rfl)
                  · have hi9 := hok2 i c_196
                    refine lv_aload_n hx hb d_M_write_199 rfl (lv_at hl 0 rfl) ?_
                    refine m_get (v := .ref (q 1)) hx hb hts hown hK hP rfl 0 (Nat.le_of_ble_eq_true rfl) m1_168 rfl rfl d_M_write_200 ?_
                    refine lv_iload hx hb d_M_write_203 (lv_at hl 6 rfl) ?_
                    refine k_iald hx hb hK hP 1 0 rfl rfl (by omega) (by omega) d_M_write_205 ?_
                    refine k_cvi (show _ = nI (LB.getD (i) 0) from hsg _ (by omega)) ?_
                    refine lv_iload hx hb d_M_write_206 (lv_at hl 4 rfl) ?_
                    refine k_icmp_ge (tgt := 217) hx hb d_M_write_208 (by decide) (by omega) (by omega) (fun c_208 => ?_) (fun c_208 => ?_)
                    · refine lv_aload_n hx hb d_M_write_217 rfl (lv_at hl 0 rfl) ?_
                      refine m_get (v := .ref (q 1)) hx hb hts hown hK hP rfl 0 (Nat.le_of_ble_eq_true rfl) m1_168 rfl rfl d_M_write_218 ?_
                      refine lv_iload hx hb d_M_write_221 (lv_at hl 6 rfl) ?_
                      refine k_iald hx hb hK hP 1 0 rfl rfl (by omega) (by omega) d_M_write_223 ?_
                      refine k_cvi (show _ = nI (LB.getD (i) 0) from hsg _ (by omega)) ?_
                      refine lv_iload hx hb d_M_write_224 (lv_at hl 4 rfl) ?_
                      refine k_icmp_ne (tgt := 407) hx hb d_M_write_226 (by decide) (by omega) (by omega) (fun c_226 => ?_) (fun c_226 => ?_)
                      · refine lv_iinc (v := nI (i + 1)) (lv' := [(8, .int (nI (i + 1))), (0, .ref (q 0)), (1, .int (nI ((sp_bas (sp_ef LB) LB.length).length))), (2, .int (nI ((sp_bas (sp_ef LB) LB.length).length + t))), (3, .int (nI (bias))), (4, .int (nI (nx))), (5, .long (lN (delta)))]) hx hb d_M_write_407 hl (k := 6) rfl (k_inc (by decide)) (Nat.le_of_ble_eq_true rfl) rfl (fun ls hl => ?_)
                        refine lv_goto (tgt := 190) hx hb d_M_write_410 (by decide) ?_
                        have hdb5 := sp_db_skip (f := sp_ef LB) hdb (show LB.getD i 0 ≠ nx by omega)
                        have hc5 := sp_cnt_f (sp_bool_f (fun z => absurd ((hdb i c_196).mp z) (by show ¬ (LB.getD i 0 < nx ∨ (LB.getD i 0 = nx ∧ i < i)); omega)))
                        exact ih4 (i + 1) delta t db pt fr bias out ou (by omega) (by omega) hbt hen hI hdb5 (by omega) hpp hou H locs hP hD hS ls (lv_sub hl [1, 2, 3, 4, 5, 6, 0] rfl)
                      · have hls := sp_least_at (f := sp_ef LB) c_196 c_226 hdb
                        have hdf : db i = false := (sp_least_some _ _ hls).2.1
                        have hlt9 := sp_cnt_lt c_196 hdf
                        rw [hI.1] at hlt9
                        obtain ⟨kk, k1, k2, k3, k4, k5, k6, k7, k8, k9, k10⟩ := sp_step hI hlt9 hok1 hok2
                        have ekk : kk = i := Option.some.inj (k1.symm.trans hls)
                        subst ekk
                        have efn : sp_ef LB kk = nx := c_226
                        rw [efn] at k4 k5 k6 k9 k10
                        have est : (nx - pt) * ((sp_bas (sp_ef LB) LB.length).length + t + 1) + sp_cnt db kk - fr = delta := by omega
                        have hen2 := sp_en_s hen k1
                        rw [efn] at hen2
                        rw [est] at k9 k10 hen2
                        have hfit2 := sp_fit k10 hok1 (sp_o_len _ _) (by omega)
                        rw [List.length_append] at hfit2
                        have hdb7 := sp_db_mark (f := sp_ef LB) hdb efn
                        have hdl7 : 0 + (sp_cnt db kk + 1) = (nx - nx) * ((sp_bas (sp_ef LB) LB.length).length + (t + 1) + 1) + sp_cnt (sp_mark db kk) (kk + 1) := by rw [sp_cnt_t (sp_mark_k db kk), sp_cnt_lo db kk kk (Nat.le_refl _), Nat.sub_self, Nat.zero_mul]
                        refine lv_lload hx hb d_M_write_229 (lv_at hl 5 rfl) ?_
                        refine lv_lstore (lv' := [(9, .long (lN (delta))), (0, .ref (q 0)), (1, .int (nI ((sp_bas (sp_ef LB) LB.length).length))), (2, .int (nI ((sp_bas (sp_ef LB) LB.length).length + t))), (3, .int (nI (bias))), (4, .int (nI (nx))), (5, .long (lN (delta))), (8, .int (nI (kk)))]) hx hb d_M_write_231 hl (Nat.le_of_ble_eq_true rfl) rfl (fun ls hl => ?_)
                        refine lv_bipush (v := nI (36)) hx hb d_M_write_233 (by decide) ?_
                        refine lv_istore (lv' := [(11, .int (nI (36))), (9, .long (lN (delta))), (0, .ref (q 0)), (1, .int (nI ((sp_bas (sp_ef LB) LB.length).length))), (2, .int (nI ((sp_bas (sp_ef LB) LB.length).length + t))), (3, .int (nI (bias))), (4, .int (nI (nx))), (5, .long (lN (delta))), (8, .int (nI (kk)))]) hx hb d_M_write_235 hl (Nat.le_of_ble_eq_true rfl) rfl (fun ls hl => ?_)
                        refine lv_iconst (v := nI (1)) hx hb d_M_write_237 (by decide) ?_
                        refine lv_istore (lv' := [(12, .int (nI (1))), (11, .int (nI (36))), (9, .long (lN (delta))), (0, .ref (q 0)), (1, .int (nI ((sp_bas (sp_ef LB) LB.length).length))), (2, .int (nI ((sp_bas (sp_ef LB) LB.length).length + t))), (3, .int (nI (bias))), (4, .int (nI (nx))), (5, .long (lN (delta))), (8, .int (nI (kk)))]) hx hb d_M_write_238 hl (Nat.le_of_ble_eq_true rfl) rfl (fun ls hl => ?_)
                        have lp5 : ∀ (f5 : Nat) (v0 k : Nat) (Lc : List Nat) (ou : Nat → Int32), v0 < f5 → (k + 36 * v0 ≤ 36 + 36 * delta) → (sp_rep ou Lc) → (Lc ++ sp_digs v0 k bias = out ++ sp_digs delta 36 bias) → ∀ (H : Heap) (locs : List Loc), va_P D classes (mW cI q sg ou li ba (nI (LB.length)) (nI (Lc.length)) (nI (LN.length)) (nI (KP.length))) H → va_D A (mW cI q sg ou li ba (nI (LB.length)) (nI (Lc.length)) (nI (LN.length)) (nI (KP.length))) → va_S A s.heap H locs → ∀ ls : Array Slot, lv_has ls 14 [(0, .ref (q 0)), (1, .int (nI ((sp_bas (sp_ef LB) LB.length).length))), (2, .int (nI ((sp_bas (sp_ef LB) LB.length).length + t))), (3, .int (nI (bias))), (4, .int (nI (nx))), (5, .long (lN (delta))), (8, .int (nI (kk))), (9, .long (lN (v0))), (11, .int (nI (k))), (12, .int (nI (1)))] → W p l e r_M_write s m args below meth c H locs 0 0 Q (F0 m 240 ls []) := by
                          intro f5
                          induction f5 with
                          | zero => intro v0 k Lc ou h; exact absurd h (Nat.not_lt_zero _)
                          | succ f5 ih5 =>
                            intro v0 k Lc ou hf5 hk hou he H locs hP hD hS ls hl
                            have h1 := sp_thr_pos k bias
                            have h2 := sp_thr_le k bias
                            have h3 := sp_digs_pos v0 k bias
                            have hlen := congrArg List.length he
                            simp only [List.length_append] at hlen
                            have hmod := Nat.mod_lt (v0 - sp_thr k bias) (show 36 - sp_thr k bias > 0 by omega)
                            have hdiv := Nat.div_le_self (v0 - sp_thr k bias) (36 - sp_thr k bias)
                            have J5 : ∀ ls : Array Slot, lv_has ls 14 [(0, .ref (q 0)), (1, .int (nI ((sp_bas (sp_ef LB) LB.length).length))), (2, .int (nI ((sp_bas (sp_ef LB) LB.length).length + t))), (3, .int (nI (bias))), (4, .int (nI (nx))), (5, .long (lN (delta))), (8, .int (nI (kk))), (9, .long (lN (v0))), (11, .int (nI (k))), (12, .int (nI (1)))] → W p l e r_M_write s m args below meth c H locs 0 0 Q (F0 m 273 ls [.int (nI (sp_thr k bias))]) := by
                              intro   ls hl
                              refine lv_istore (lv' := [(13, .int (nI (sp_thr k bias))), (0, .ref (q 0)), (1, .int (nI ((sp_bas (sp_ef LB) LB.length).length))), (2, .int (nI ((sp_bas (sp_ef LB) LB.length).length + t))), (3, .int (nI (bias))), (4, .int (nI (nx))), (5, .long (lN (delta))), (8, .int (nI (kk))), (9, .long (lN (v0))), (11, .int (nI (k))), (12, .int (nI (1)))]) hx hb d_M_write_273 hl (Nat.le_of_ble_eq_true rfl) rfl (fun ls hl => ?_)
                              refine lv_lload hx hb d_M_write_275 (lv_at hl 8 rfl) ?_
                              refine lv_iload hx hb d_M_write_277 (lv_at hl 0 rfl) ?_
                              refine k_i2l hx hb (by omega) d_M_write_279 ?_
                              refine k_lc_ge (tgt := 290) hx hb d_M_write_280 d_M_write_281 (by decide) (by omega) (by omega) (fun c_280 => ?_) (fun c_280 => ?_)
                              · refine lv_aload_n hx hb d_M_write_290 rfl (lv_at hl 1 rfl) ?_
                                refine m_get (v := .ref (q 2)) hx hb hts hown hK hP rfl 2 (Nat.le_of_ble_eq_true rfl) m1_170 rfl rfl d_M_write_291 ?_
                                refine lv_aload_n hx hb d_M_write_294 rfl (lv_at hl 1 rfl) ?_
                                refine m_get (v := .int (nI (Lc.length))) hx hb hts hown hK hP rfl 3 (Nat.le_of_ble_eq_true rfl) m1_171 rfl rfl d_M_write_295 ?_
                                refine lv_iload hx hb d_M_write_298 (lv_at hl 0 rfl) ?_
                                refine k_i2l hx hb (by omega) d_M_write_300 ?_
                                refine lv_lload hx hb d_M_write_301 (lv_at hl 8 rfl) ?_
                                refine lv_iload hx hb d_M_write_303 (lv_at hl 0 rfl) ?_
                                refine k_i2l hx hb (by omega) d_M_write_305 ?_
                                refine k_lsub hx hb (by omega) d_M_write_306 ?_
                                refine lv_bipush (v := nI (36)) hx hb d_M_write_307 (by decide) ?_
                                refine lv_iload hx hb d_M_write_309 (lv_at hl 0 rfl) ?_
                                refine k_isub hx hb (by omega) d_M_write_311 ?_
                                refine k_i2l hx hb (by omega) d_M_write_312 ?_
                                refine k_lrem hx hb (by omega) (by omega) (by omega) d_M_write_313 ?_
                                refine k_ladd hx hb d_M_write_314 ?_
                                refine k_l2i hx hb d_M_write_315 ?_
                                refine k_callR [.int (nI ((sp_thr k bias) + ((v0 - (sp_thr k bias)) % (36 - (sp_thr k bias)))))] C0 (c_M_digit l ((sp_thr k bias) + ((v0 - (sp_thr k bias)) % (36 - (sp_thr k bias)))) (by omega)) m1_215 m1_213 m1_2 m1_214 hd_M_digit ⟨(Nat.le_of_ble_eq_true rfl), (Nat.le_of_ble_eq_true rfl)⟩ rfl rfl rfl hl.1 (Nat.le_of_ble_eq_true rfl) d_M_write_316 ⟨Nat.zero_le _, Nat.zero_le _⟩ ?_
                                refine k_iast hx hb hK hP hD hS 2 0 rfl rfl (by omega) (by omega) d_M_write_319 (fun H locs hP hD hS => ?_)
                                have hP : va_P D classes (mW cI q sg (upd ou (Lc.length) (nI (sp_let ((sp_thr k bias) + ((v0 - (sp_thr k bias)) % (36 - (sp_thr k bias))))))) li ba (nI (LB.length)) (nI (Lc.length)) (nI (LN.length)) (nI (KP.length))) H := hP
                                have hD : va_D A (mW cI q sg (upd ou (Lc.length) (nI (sp_let ((sp_thr k bias) + ((v0 - (sp_thr k bias)) % (36 - (sp_thr k bias))))))) li ba (nI (LB.length)) (nI (Lc.length)) (nI (LN.length)) (nI (KP.length))) := hD
                                refine lv_aload_n hx hb d_M_write_320 rfl (lv_at hl 1 rfl) ?_
                                refine lv_aload_n hx hb d_M_write_321 rfl (lv_at hl 1 rfl) ?_
                                refine m_get (v := .int (nI (Lc.length))) hx hb hts hown hK hP rfl 3 (Nat.le_of_ble_eq_true rfl) m1_171 rfl rfl d_M_write_322 ?_
                                refine lv_iconst (v := nI (1)) hx hb d_M_write_325 (by decide) ?_
                                refine k_iadd hx hb d_M_write_326 ?_
                                refine m_put hx hb hts hown hK hP hD hS rfl 3 (Nat.le_of_ble_eq_true rfl) m1_171 rfl rfl rfl (Nat.le_of_ble_eq_true rfl) d_M_write_327 (fun H locs hP hD hS => ?_)
                                have hP : va_P D classes (mW cI q sg (upd ou (Lc.length) (nI (sp_let ((sp_thr k bias) + ((v0 - (sp_thr k bias)) % (36 - (sp_thr k bias))))))) li ba (nI (LB.length)) (nI ((Lc.length) + 1)) (nI (LN.length)) (nI (KP.length))) H := hP
                                have hD : va_D A (mW cI q sg (upd ou (Lc.length) (nI (sp_let ((sp_thr k bias) + ((v0 - (sp_thr k bias)) % (36 - (sp_thr k bias))))))) li ba (nI (LB.length)) (nI ((Lc.length) + 1)) (nI (LN.length)) (nI (KP.length))) := hD
                                refine lv_lload hx hb d_M_write_330 (lv_at hl 8 rfl) ?_
                                refine lv_iload hx hb d_M_write_332 (lv_at hl 0 rfl) ?_
                                refine k_i2l hx hb (by omega) d_M_write_334 ?_
                                refine k_lsub hx hb (by omega) d_M_write_335 ?_
                                refine lv_bipush (v := nI (36)) hx hb d_M_write_336 (by decide) ?_
                                refine lv_iload hx hb d_M_write_338 (lv_at hl 0 rfl) ?_
                                refine k_isub hx hb (by omega) d_M_write_340 ?_
                                refine k_i2l hx hb (by omega) d_M_write_341 ?_
                                refine k_ldiv hx hb (by omega) (by omega) (by omega) d_M_write_342 ?_
                                refine lv_lstore (lv' := [(9, .long (lN ((v0 - (sp_thr k bias)) / (36 - (sp_thr k bias))))), (13, .int (nI (sp_thr k bias))), (0, .ref (q 0)), (1, .int (nI ((sp_bas (sp_ef LB) LB.length).length))), (2, .int (nI ((sp_bas (sp_ef LB) LB.length).length + t))), (3, .int (nI (bias))), (4, .int (nI (nx))), (5, .long (lN (delta))), (8, .int (nI (kk))), (11, .int (nI (k))), (12, .int (nI (1)))]) hx hb d_M_write_343 hl (Nat.le_of_ble_eq_true rfl) rfl (fun ls hl => ?_)
                                refine lv_iload hx hb d_M_write_345 (lv_at hl 9 rfl) ?_
                                refine lv_bipush (v := nI (36)) hx hb d_M_write_347 (by decide) ?_
                                refine k_iadd hx hb d_M_write_349 ?_
                                refine lv_istore (lv' := [(11, .int (nI (k + 36))), (9, .long (lN ((v0 - (sp_thr k bias)) / (36 - (sp_thr k bias))))), (13, .int (nI (sp_thr k bias))), (0, .ref (q 0)), (1, .int (nI ((sp_bas (sp_ef LB) LB.length).length))), (2, .int (nI ((sp_bas (sp_ef LB) LB.length).length + t))), (3, .int (nI (bias))), (4, .int (nI (nx))), (5, .long (lN (delta))), (8, .int (nI (kk))), (12, .int (nI (1)))]) hx hb d_M_write_350 hl (Nat.le_of_ble_eq_true rfl) rfl (fun ls hl => ?_)
                                refine lv_goto (tgt := 240) hx hb d_M_write_352 (by decide) ?_
                                have he2 : (Lc ++ [sp_let (sp_thr k bias + (v0 - sp_thr k bias) % (36 - sp_thr k bias))]) ++ sp_digs ((v0 - sp_thr k bias) / (36 - sp_thr k bias)) (k + 36) bias = out ++ sp_digs delta 36 bias := by rw [← he, sp_digs_go c_280, List.append_assoc]; rfl
                                have hou2 := sp_rep_app hou (sp_let (sp_thr k bias + (v0 - sp_thr k bias) % (36 - sp_thr k bias)))
                                rw [sp_len1 Lc (sp_let (sp_thr k bias + (v0 - sp_thr k bias) % (36 - sp_thr k bias)))] at hP hD
                                exact ih5 ((v0 - sp_thr k bias) / (36 - sp_thr k bias)) (k + 36) (Lc ++ [sp_let (sp_thr k bias + (v0 - sp_thr k bias) % (36 - sp_thr k bias))]) (upd ou (Lc.length) (nI (sp_let ((sp_thr k bias) + ((v0 - (sp_thr k bias)) % (36 - (sp_thr k bias))))))) (by omega) (by omega) hou2 he2 H locs hP hD hS ls (lv_sub hl [3, 4, 5, 6, 7, 8, 9, 1, 0, 10] rfl)
                              · refine lv_iconst (v := nI (0)) hx hb d_M_write_284 (by decide) ?_
                                refine lv_istore (lv' := [(12, .int (nI (0))), (13, .int (nI (sp_thr k bias))), (0, .ref (q 0)), (1, .int (nI ((sp_bas (sp_ef LB) LB.length).length))), (2, .int (nI ((sp_bas (sp_ef LB) LB.length).length + t))), (3, .int (nI (bias))), (4, .int (nI (nx))), (5, .long (lN (delta))), (8, .int (nI (kk))), (9, .long (lN (v0))), (11, .int (nI (k)))]) hx hb d_M_write_285 hl (Nat.le_of_ble_eq_true rfl) rfl (fun ls hl => ?_)
                                refine lv_goto (tgt := 352) hx hb d_M_write_287 (by decide) ?_
                                refine lv_goto (tgt := 240) hx hb d_M_write_352 (by decide) ?_
                                refine lv_iload hx hb d_M_write_240 (lv_at hl 0 rfl) ?_
                                refine k_if_eq (tgt := 355) hx hb d_M_write_242 (by decide) (by omega) (fun c_242 => ?_) (fun c_242 => ?_)
                                · refine lv_aload_n hx hb d_M_write_355 rfl (lv_at hl 2 rfl) ?_
                                  refine m_get (v := .ref (q 2)) hx hb hts hown hK hP rfl 2 (Nat.le_of_ble_eq_true rfl) m1_170 rfl rfl d_M_write_356 ?_
                                  refine lv_aload_n hx hb d_M_write_359 rfl (lv_at hl 2 rfl) ?_
                                  refine m_get (v := .int (nI (Lc.length))) hx hb hts hown hK hP rfl 3 (Nat.le_of_ble_eq_true rfl) m1_171 rfl rfl d_M_write_360 ?_
                                  refine lv_lload hx hb d_M_write_363 (lv_at hl 9 rfl) ?_
                                  refine k_l2i hx hb d_M_write_365 ?_
                                  refine k_callR [.int (nI (v0))] C0 (c_M_digit l v0 (by omega)) m1_215 m1_213 m1_2 m1_214 hd_M_digit ⟨(Nat.le_of_ble_eq_true rfl), (Nat.le_of_ble_eq_true rfl)⟩ rfl rfl rfl hl.1 (Nat.le_of_ble_eq_true rfl) d_M_write_366 ⟨Nat.zero_le _, Nat.zero_le _⟩ ?_
                                  refine k_iast hx hb hK hP hD hS 2 0 rfl rfl (by omega) (by omega) d_M_write_369 (fun H locs hP hD hS => ?_)
                                  have hP : va_P D classes (mW cI q sg (upd ou (Lc.length) (nI (sp_let v0))) li ba (nI (LB.length)) (nI (Lc.length)) (nI (LN.length)) (nI (KP.length))) H := hP
                                  have hD : va_D A (mW cI q sg (upd ou (Lc.length) (nI (sp_let v0))) li ba (nI (LB.length)) (nI (Lc.length)) (nI (LN.length)) (nI (KP.length))) := hD
                                  refine lv_aload_n hx hb d_M_write_370 rfl (lv_at hl 2 rfl) ?_
                                  refine lv_aload_n hx hb d_M_write_371 rfl (lv_at hl 2 rfl) ?_
                                  refine m_get (v := .int (nI (Lc.length))) hx hb hts hown hK hP rfl 3 (Nat.le_of_ble_eq_true rfl) m1_171 rfl rfl d_M_write_372 ?_
                                  refine lv_iconst (v := nI (1)) hx hb d_M_write_375 (by decide) ?_
                                  refine k_iadd hx hb d_M_write_376 ?_
                                  refine m_put hx hb hts hown hK hP hD hS rfl 3 (Nat.le_of_ble_eq_true rfl) m1_171 rfl rfl rfl (Nat.le_of_ble_eq_true rfl) d_M_write_377 (fun H locs hP hD hS => ?_)
                                  have hP : va_P D classes (mW cI q sg (upd ou (Lc.length) (nI (sp_let v0))) li ba (nI (LB.length)) (nI ((Lc.length) + 1)) (nI (LN.length)) (nI (KP.length))) H := hP
                                  have hD : va_D A (mW cI q sg (upd ou (Lc.length) (nI (sp_let v0))) li ba (nI (LB.length)) (nI ((Lc.length) + 1)) (nI (LN.length)) (nI (KP.length))) := hD
                                  refine lv_lload hx hb d_M_write_380 (lv_at hl 7 rfl) ?_
                                  refine k_l2i hx hb d_M_write_382 ?_
                                  refine lv_iload_n hx hb d_M_write_383 rfl (lv_at hl 4 rfl) ?_
                                  refine lv_iconst (v := nI (1)) hx hb d_M_write_384 (by decide) ?_
                                  refine k_iadd hx hb d_M_write_385 ?_
                                  refine lv_iload_n hx hb d_M_write_386 rfl (lv_at hl 4 rfl) ?_
                                  refine lv_iload_n hx hb d_M_write_387 rfl (lv_at hl 3 rfl) ?_
                                  refine k_icmp_ne (tgt := 395) hx hb d_M_write_388 (by decide) (by omega) (by omega) (fun c_388 => ?_) (fun c_388 => ?_)
                                  · refine lv_iconst (v := nI (0)) hx hb d_M_write_395 (by decide) ?_
                                    have ht0 : (t == 0) = false := beq_eq_false_iff_ne.mpr (by omega)
                                    refine k_callR [.int (nI (delta)), .int (nI (((sp_bas (sp_ef LB) LB.length).length + t) + 1)), .int (nI (0))] C0 (c_M_adapt l delta ((sp_bas (sp_ef LB) LB.length).length + t + 1) false (by omega) (by omega) (by omega)) m1_218 m1_216 m1_2 m1_217 hd_M_adapt ⟨(Nat.le_of_ble_eq_true rfl), (Nat.le_of_ble_eq_true rfl)⟩ rfl rfl rfl hl.1 (Nat.le_of_ble_eq_true rfl) d_M_write_396 ⟨Nat.zero_le _, Nat.zero_le _⟩ ?_
                                    refine k_cvi (show _ = nI (sp_adapt delta ((sp_bas (sp_ef LB) LB.length).length + t + 1) (t == 0)) from by rw [ht0]) ?_
                                    refine lv_istore_n (lv' := [(3, .int (nI (sp_adapt delta ((sp_bas (sp_ef LB) LB.length).length + t + 1) (t == 0)))), (12, .int (nI (0))), (13, .int (nI (sp_thr k bias))), (0, .ref (q 0)), (1, .int (nI ((sp_bas (sp_ef LB) LB.length).length))), (2, .int (nI ((sp_bas (sp_ef LB) LB.length).length + t))), (4, .int (nI (nx))), (5, .long (lN (delta))), (8, .int (nI (kk))), (9, .long (lN (v0))), (11, .int (nI (k)))]) hx hb d_M_write_399 rfl hl (Nat.le_of_ble_eq_true rfl) rfl (fun ls hl => ?_)
                                    refine lv_lconst (v := lN 0) hx hb d_M_write_400 rfl ?_
                                    refine lv_lstore (lv' := [(5, .long (lN (0))), (3, .int (nI (sp_adapt delta ((sp_bas (sp_ef LB) LB.length).length + t + 1) (t == 0)))), (12, .int (nI (0))), (13, .int (nI (sp_thr k bias))), (0, .ref (q 0)), (1, .int (nI ((sp_bas (sp_ef LB) LB.length).length))), (2, .int (nI ((sp_bas (sp_ef LB) LB.length).length + t))), (4, .int (nI (nx))), (8, .int (nI (kk))), (9, .long (lN (v0))), (11, .int (nI (k)))]) hx hb d_M_write_401 hl (Nat.le_of_ble_eq_true rfl) rfl (fun ls hl => ?_)
                                    refine lv_iload_n hx hb d_M_write_403 rfl (lv_at hl 6 rfl) ?_
                                    refine lv_iconst (v := nI (1)) hx hb d_M_write_404 (by decide) ?_
                                    refine k_iadd hx hb d_M_write_405 ?_
                                    refine lv_istore_n (lv' := [(2, .int (nI (((sp_bas (sp_ef LB) LB.length).length + t) + 1))), (5, .long (lN (0))), (3, .int (nI (sp_adapt delta ((sp_bas (sp_ef LB) LB.length).length + t + 1) (t == 0)))), (12, .int (nI (0))), (13, .int (nI (sp_thr k bias))), (0, .ref (q 0)), (1, .int (nI ((sp_bas (sp_ef LB) LB.length).length))), (4, .int (nI (nx))), (8, .int (nI (kk))), (9, .long (lN (v0))), (11, .int (nI (k)))]) hx hb d_M_write_406 rfl hl (Nat.le_of_ble_eq_true rfl) rfl (fun ls hl => ?_)
                                    refine lv_iinc (v := nI (kk + 1)) (lv' := [(8, .int (nI (kk + 1))), (2, .int (nI (((sp_bas (sp_ef LB) LB.length).length + t) + 1))), (5, .long (lN (0))), (3, .int (nI (sp_adapt delta ((sp_bas (sp_ef LB) LB.length).length + t + 1) (t == 0)))), (12, .int (nI (0))), (13, .int (nI (sp_thr k bias))), (0, .ref (q 0)), (1, .int (nI ((sp_bas (sp_ef LB) LB.length).length))), (4, .int (nI (nx))), (9, .long (lN (v0))), (11, .int (nI (k)))]) hx hb d_M_write_407 hl (k := 8) rfl (k_inc (by decide)) (Nat.le_of_ble_eq_true rfl) rfl (fun ls hl => ?_)
                                    refine lv_goto (tgt := 190) hx hb d_M_write_410 (by decide) ?_
                                    have he2 : Lc ++ [sp_let v0] = out ++ sp_digs delta 36 bias := by rw [← he, sp_digs_end c_280]
                                    have hou2 := sp_rep_app hou (sp_let v0)
                                    rw [he2] at hou2
                                    rw [sp_len1 Lc (sp_let v0), he2] at hP hD
                                    exact ih4 (kk + 1) 0 (t + 1) (sp_mark db kk) nx (sp_cnt db kk + 1) (sp_adapt delta ((sp_bas (sp_ef LB) LB.length).length + t + 1) (t == 0)) (out ++ sp_digs delta 36 bias) (upd ou (Lc.length) (nI (sp_let v0))) (by omega) (by omega) (by omega) hen2 k10 hdb7 hdl7 (Nat.le_refl _) hou2 H locs hP hD hS ls (lv_sub hl [6, 7, 1, 3, 8, 2, 0] rfl)
                                  · refine lv_iconst (v := nI (1)) hx hb d_M_write_391 (by decide) ?_
                                    refine lv_goto (tgt := 396) hx hb d_M_write_392 (by decide) ?_
                                    have ht0 : (t == 0) = true := by rw [show t = 0 by omega]; rfl
                                    refine k_callR [.int (nI (delta)), .int (nI (((sp_bas (sp_ef LB) LB.length).length + t) + 1)), .int (nI (1))] C0 (c_M_adapt l delta ((sp_bas (sp_ef LB) LB.length).length + t + 1) true (by omega) (by omega) (by omega)) m1_218 m1_216 m1_2 m1_217 hd_M_adapt ⟨(Nat.le_of_ble_eq_true rfl), (Nat.le_of_ble_eq_true rfl)⟩ rfl rfl rfl hl.1 (Nat.le_of_ble_eq_true rfl) d_M_write_396 ⟨Nat.zero_le _, Nat.zero_le _⟩ ?_
                                    refine k_cvi (show _ = nI (sp_adapt delta ((sp_bas (sp_ef LB) LB.length).length + t + 1) (t == 0)) from by rw [ht0]) ?_
                                    refine lv_istore_n (lv' := [(3, .int (nI (sp_adapt delta ((sp_bas (sp_ef LB) LB.length).length + t + 1) (t == 0)))), (12, .int (nI (0))), (13, .int (nI (sp_thr k bias))), (0, .ref (q 0)), (1, .int (nI ((sp_bas (sp_ef LB) LB.length).length))), (2, .int (nI ((sp_bas (sp_ef LB) LB.length).length + t))), (4, .int (nI (nx))), (5, .long (lN (delta))), (8, .int (nI (kk))), (9, .long (lN (v0))), (11, .int (nI (k)))]) hx hb d_M_write_399 rfl hl (Nat.le_of_ble_eq_true rfl) rfl (fun ls hl => ?_)
                                    refine lv_lconst (v := lN 0) hx hb d_M_write_400 rfl ?_
                                    refine lv_lstore (lv' := [(5, .long (lN (0))), (3, .int (nI (sp_adapt delta ((sp_bas (sp_ef LB) LB.length).length + t + 1) (t == 0)))), (12, .int (nI (0))), (13, .int (nI (sp_thr k bias))), (0, .ref (q 0)), (1, .int (nI ((sp_bas (sp_ef LB) LB.length).length))), (2, .int (nI ((sp_bas (sp_ef LB) LB.length).length + t))), (4, .int (nI (nx))), (8, .int (nI (kk))), (9, .long (lN (v0))), (11, .int (nI (k)))]) hx hb d_M_write_401 hl (Nat.le_of_ble_eq_true rfl) rfl (fun ls hl => ?_)
                                    refine lv_iload_n hx hb d_M_write_403 rfl (lv_at hl 6 rfl) ?_
                                    refine lv_iconst (v := nI (1)) hx hb d_M_write_404 (by decide) ?_
                                    refine k_iadd hx hb d_M_write_405 ?_
                                    refine lv_istore_n (lv' := [(2, .int (nI (((sp_bas (sp_ef LB) LB.length).length + t) + 1))), (5, .long (lN (0))), (3, .int (nI (sp_adapt delta ((sp_bas (sp_ef LB) LB.length).length + t + 1) (t == 0)))), (12, .int (nI (0))), (13, .int (nI (sp_thr k bias))), (0, .ref (q 0)), (1, .int (nI ((sp_bas (sp_ef LB) LB.length).length))), (4, .int (nI (nx))), (8, .int (nI (kk))), (9, .long (lN (v0))), (11, .int (nI (k)))]) hx hb d_M_write_406 rfl hl (Nat.le_of_ble_eq_true rfl) rfl (fun ls hl => ?_)
                                    refine lv_iinc (v := nI (kk + 1)) (lv' := [(8, .int (nI (kk + 1))), (2, .int (nI (((sp_bas (sp_ef LB) LB.length).length + t) + 1))), (5, .long (lN (0))), (3, .int (nI (sp_adapt delta ((sp_bas (sp_ef LB) LB.length).length + t + 1) (t == 0)))), (12, .int (nI (0))), (13, .int (nI (sp_thr k bias))), (0, .ref (q 0)), (1, .int (nI ((sp_bas (sp_ef LB) LB.length).length))), (4, .int (nI (nx))), (9, .long (lN (v0))), (11, .int (nI (k)))]) hx hb d_M_write_407 hl (k := 8) rfl (k_inc (by decide)) (Nat.le_of_ble_eq_true rfl) rfl (fun ls hl => ?_)
                                    refine lv_goto (tgt := 190) hx hb d_M_write_410 (by decide) ?_
                                    have he2 : Lc ++ [sp_let v0] = out ++ sp_digs delta 36 bias := by rw [← he, sp_digs_end c_280]
                                    have hou2 := sp_rep_app hou (sp_let v0)
                                    rw [he2] at hou2
                                    rw [sp_len1 Lc (sp_let v0), he2] at hP hD
                                    exact ih4 (kk + 1) 0 (t + 1) (sp_mark db kk) nx (sp_cnt db kk + 1) (sp_adapt delta ((sp_bas (sp_ef LB) LB.length).length + t + 1) (t == 0)) (out ++ sp_digs delta 36 bias) (upd ou (Lc.length) (nI (sp_let v0))) (by omega) (by omega) (by omega) hen2 k10 hdb7 hdl7 (Nat.le_refl _) hou2 H locs hP hD hS ls (lv_sub hl [6, 7, 1, 3, 8, 2, 0] rfl)
                                · exact absurd c_242 (by omega)
                            refine lv_iload hx hb d_M_write_240 (lv_at hl 9 rfl) ?_
                            refine k_if_eq (tgt := 355) hx hb d_M_write_242 (by decide) (by omega) (fun c_242 => ?_) (fun c_242 => ?_)
                            · exact absurd c_242 (by omega)
                            · refine lv_iload hx hb d_M_write_245 (lv_at hl 8 rfl) ?_
                              refine lv_iload_n hx hb d_M_write_247 rfl (lv_at hl 3 rfl) ?_
                              refine k_icmp_gt (tgt := 255) hx hb d_M_write_248 (by decide) (by omega) (by omega) (fun c_248 => ?_) (fun c_248 => ?_)
                              · refine lv_iload hx hb d_M_write_255 (lv_at hl 8 rfl) ?_
                                refine lv_iload_n hx hb d_M_write_257 rfl (lv_at hl 3 rfl) ?_
                                refine lv_bipush (v := nI (26)) hx hb d_M_write_258 (by decide) ?_
                                refine k_iadd hx hb d_M_write_260 ?_
                                refine k_icmp_lt (tgt := 269) hx hb d_M_write_261 (by decide) (by omega) (by omega) (fun c_261 => ?_) (fun c_261 => ?_)
                                · refine lv_iload hx hb d_M_write_269 (lv_at hl 8 rfl) ?_
                                  refine lv_iload_n hx hb d_M_write_271 rfl (lv_at hl 3 rfl) ?_
                                  refine k_isub hx hb (by omega) d_M_write_272 ?_
                                  refine k_cvi (show _ = nI (sp_thr k bias) from by first | rw [sp_thr_1 (by omega)] | rw [sp_thr_26 (by omega)] | rw [sp_thr_mid (by omega) (by omega)]) ?_
                                  exact J5   ls (lv_sub hl [0, 1, 2, 3, 4, 5, 6, 7, 8, 9] rfl)
                                · refine lv_bipush (v := nI (26)) hx hb d_M_write_264 (by decide) ?_
                                  refine lv_goto (tgt := 273) hx hb d_M_write_266 (by decide) ?_
                                  refine k_cvi (show _ = nI (sp_thr k bias) from by first | rw [sp_thr_1 (by omega)] | rw [sp_thr_26 (by omega)] | rw [sp_thr_mid (by omega) (by omega)]) ?_
                                  exact J5   ls (lv_sub hl [0, 1, 2, 3, 4, 5, 6, 7, 8, 9] rfl)
                              · refine lv_iconst (v := nI (1)) hx hb d_M_write_251 (by decide) ?_
                                refine lv_goto (tgt := 273) hx hb d_M_write_252 (by decide) ?_
                                refine k_cvi (show _ = nI (sp_thr k bias) from by first | rw [sp_thr_1 (by omega)] | rw [sp_thr_26 (by omega)] | rw [sp_thr_mid (by omega) (by omega)]) ?_
                                exact J5   ls (lv_sub hl [0, 1, 2, 3, 4, 5, 6, 7, 8, 9] rfl)
                        exact lp5 (delta + 1) delta 36 out ou (by omega) (by omega) hou rfl H locs hP hD hS ls (lv_sub hl [3, 4, 5, 6, 7, 8, 9, 2, 1, 0] rfl)
                    · refine lv_lload hx hb d_M_write_211 (lv_at hl 5 rfl) ?_
                      refine lv_lconst (v := lN 1) hx hb d_M_write_213 rfl ?_
                      refine k_ladd hx hb d_M_write_214 ?_
                      refine lv_lstore (lv' := [(5, .long (lN (delta + 1))), (0, .ref (q 0)), (1, .int (nI ((sp_bas (sp_ef LB) LB.length).length))), (2, .int (nI ((sp_bas (sp_ef LB) LB.length).length + t))), (3, .int (nI (bias))), (4, .int (nI (nx))), (8, .int (nI (i)))]) hx hb d_M_write_215 hl (Nat.le_of_ble_eq_true rfl) rfl (fun ls hl => ?_)
                      refine lv_aload_n hx hb d_M_write_217 rfl (lv_at hl 1 rfl) ?_
                      refine m_get (v := .ref (q 1)) hx hb hts hown hK hP rfl 0 (Nat.le_of_ble_eq_true rfl) m1_168 rfl rfl d_M_write_218 ?_
                      refine lv_iload hx hb d_M_write_221 (lv_at hl 6 rfl) ?_
                      refine k_iald hx hb hK hP 1 0 rfl rfl (by omega) (by omega) d_M_write_223 ?_
                      refine k_cvi (show _ = nI (LB.getD (i) 0) from hsg _ (by omega)) ?_
                      refine lv_iload hx hb d_M_write_224 (lv_at hl 5 rfl) ?_
                      refine k_icmp_ne (tgt := 407) hx hb d_M_write_226 (by decide) (by omega) (by omega) (fun c_226 => ?_) (fun c_226 => ?_)
                      · refine lv_iinc (v := nI (i + 1)) (lv' := [(8, .int (nI (i + 1))), (5, .long (lN (delta + 1))), (0, .ref (q 0)), (1, .int (nI ((sp_bas (sp_ef LB) LB.length).length))), (2, .int (nI ((sp_bas (sp_ef LB) LB.length).length + t))), (3, .int (nI (bias))), (4, .int (nI (nx)))]) hx hb d_M_write_407 hl (k := 6) rfl (k_inc (by decide)) (Nat.le_of_ble_eq_true rfl) rfl (fun ls hl => ?_)
                        refine lv_goto (tgt := 190) hx hb d_M_write_410 (by decide) ?_
                        have hdb5 := sp_db_skip (f := sp_ef LB) hdb (show LB.getD i 0 ≠ nx by omega)
                        have hc5 := sp_cnt_t ((hdb i c_196).mpr (Or.inl c_208))
                        exact ih4 (i + 1) (delta + 1) t db pt fr bias out ou (by omega) (by omega) hbt hen hI hdb5 (by omega) hpp hou H locs hP hD hS ls (lv_sub hl [2, 3, 4, 5, 6, 1, 0] rfl)
                      · exact absurd c_226 (by omega)
              exact lp4 (LB.length + 1) 0 (delta + (nx - point) * ((sp_bas (sp_ef LB) LB.length).length + t + 1)) t db pt fr bias out ou (by omega) (by omega) hbt hen hI hdb4 hdl4 (by omega) hou H locs hP hD hS ls (lv_sub hl [3, 4, 5, 6, 1, 2, 0] rfl)
            · have hi9 := hok2 i c_125
              refine lv_aload_n hx hb d_M_write_128 rfl (lv_at hl 0 rfl) ?_
              refine m_get (v := .ref (q 1)) hx hb hts hown hK hP rfl 0 (Nat.le_of_ble_eq_true rfl) m1_168 rfl rfl d_M_write_129 ?_
              refine lv_iload hx hb d_M_write_132 (lv_at hl 7 rfl) ?_
              refine k_iald hx hb hK hP 1 0 rfl rfl (by omega) (by omega) d_M_write_134 ?_
              refine k_cvi (show _ = nI (LB.getD (i) 0) from hsg _ (by omega)) ?_
              refine lv_iload hx hb d_M_write_135 (lv_at hl 4 rfl) ?_
              refine k_icmp_lt (tgt := 161) hx hb d_M_write_137 (by decide) (by omega) (by omega) (fun c_137 => ?_) (fun c_137 => ?_)
              · refine lv_iinc (v := nI (i + 1)) (lv' := [(8, .int (nI (i + 1))), (0, .ref (q 0)), (1, .int (nI ((sp_bas (sp_ef LB) LB.length).length))), (2, .int (nI ((sp_bas (sp_ef LB) LB.length).length + t))), (3, .int (nI (bias))), (4, .int (nI (point))), (5, .long (lN (delta))), (7, .int (nI (nx)))]) hx hb d_M_write_161 hl (k := 7) rfl (k_inc (by decide)) (Nat.le_of_ble_eq_true rfl) rfl (fun ls hl => ?_)
                refine lv_goto (tgt := 119) hx hb d_M_write_164 (by decide) ?_
                have hn3 : ∀ j, j < i + 1 → point ≤ LB.getD j 0 → nx ≤ LB.getD j 0 := by
                  intro j hj hjp
                  by_cases ej : j = i
                  · subst ej; omega
                  · have := hn1 j (by omega) hjp
                    omega
                exact ih3 (i + 1) nx (by omega) (by omega) hn3 (by omega) (by omega) ls (lv_sub hl [1, 2, 3, 4, 5, 6, 7, 0] rfl)
              · refine lv_aload_n hx hb d_M_write_140 rfl (lv_at hl 0 rfl) ?_
                refine m_get (v := .ref (q 1)) hx hb hts hown hK hP rfl 0 (Nat.le_of_ble_eq_true rfl) m1_168 rfl rfl d_M_write_141 ?_
                refine lv_iload hx hb d_M_write_144 (lv_at hl 7 rfl) ?_
                refine k_iald hx hb hK hP 1 0 rfl rfl (by omega) (by omega) d_M_write_146 ?_
                refine k_cvi (show _ = nI (LB.getD (i) 0) from hsg _ (by omega)) ?_
                refine lv_iload hx hb d_M_write_147 (lv_at hl 6 rfl) ?_
                refine k_icmp_ge (tgt := 161) hx hb d_M_write_149 (by decide) (by omega) (by omega) (fun c_149 => ?_) (fun c_149 => ?_)
                · refine lv_iinc (v := nI (i + 1)) (lv' := [(8, .int (nI (i + 1))), (0, .ref (q 0)), (1, .int (nI ((sp_bas (sp_ef LB) LB.length).length))), (2, .int (nI ((sp_bas (sp_ef LB) LB.length).length + t))), (3, .int (nI (bias))), (4, .int (nI (point))), (5, .long (lN (delta))), (7, .int (nI (nx)))]) hx hb d_M_write_161 hl (k := 7) rfl (k_inc (by decide)) (Nat.le_of_ble_eq_true rfl) rfl (fun ls hl => ?_)
                  refine lv_goto (tgt := 119) hx hb d_M_write_164 (by decide) ?_
                  have hn3 : ∀ j, j < i + 1 → point ≤ LB.getD j 0 → nx ≤ LB.getD j 0 := by
                    intro j hj hjp
                    by_cases ej : j = i
                    · subst ej; omega
                    · have := hn1 j (by omega) hjp
                      omega
                  exact ih3 (i + 1) nx (by omega) (by omega) hn3 (by omega) (by omega) ls (lv_sub hl [1, 2, 3, 4, 5, 6, 7, 0] rfl)
                · refine lv_aload_n hx hb d_M_write_152 rfl (lv_at hl 0 rfl) ?_
                  refine m_get (v := .ref (q 1)) hx hb hts hown hK hP rfl 0 (Nat.le_of_ble_eq_true rfl) m1_168 rfl rfl d_M_write_153 ?_
                  refine lv_iload hx hb d_M_write_156 (lv_at hl 7 rfl) ?_
                  refine k_iald hx hb hK hP 1 0 rfl rfl (by omega) (by omega) d_M_write_158 ?_
                  refine k_cvi (show _ = nI (LB.getD (i) 0) from hsg _ (by omega)) ?_
                  refine lv_istore (lv' := [(7, .int (nI (LB.getD (i) 0))), (0, .ref (q 0)), (1, .int (nI ((sp_bas (sp_ef LB) LB.length).length))), (2, .int (nI ((sp_bas (sp_ef LB) LB.length).length + t))), (3, .int (nI (bias))), (4, .int (nI (point))), (5, .long (lN (delta))), (8, .int (nI (i)))]) hx hb d_M_write_159 hl (Nat.le_of_ble_eq_true rfl) rfl (fun ls hl => ?_)
                  refine lv_iinc (v := nI (i + 1)) (lv' := [(8, .int (nI (i + 1))), (7, .int (nI (LB.getD (i) 0))), (0, .ref (q 0)), (1, .int (nI ((sp_bas (sp_ef LB) LB.length).length))), (2, .int (nI ((sp_bas (sp_ef LB) LB.length).length + t))), (3, .int (nI (bias))), (4, .int (nI (point))), (5, .long (lN (delta)))]) hx hb d_M_write_161 hl (k := 7) rfl (k_inc (by decide)) (Nat.le_of_ble_eq_true rfl) rfl (fun ls hl => ?_)
                  refine lv_goto (tgt := 119) hx hb d_M_write_164 (by decide) ?_
                  have hn3 : ∀ j, j < i + 1 → point ≤ LB.getD j 0 → LB.getD (i) 0 ≤ LB.getD j 0 := by
                    intro j hj hjp
                    by_cases ej : j = i
                    · subst ej; omega
                    · have := hn1 j (by omega) hjp
                      omega
                  exact ih3 (i + 1) (LB.getD (i) 0) (by omega) (by omega) hn3 (by omega) (by omega) ls (lv_sub hl [2, 3, 4, 5, 6, 7, 1, 0] rfl)
        exact lp3 (LB.length + 1) 0 1114112 (by omega) (by omega) (fun j h => absurd h (Nat.not_lt_zero _)) (by omega) (by omega) ls (lv_sub hl [2, 3, 4, 5, 6, 7, 1, 0] rfl)
  refine lv_aload_n hx hb d_M_write_0 rfl (lv_at hl 0 rfl) ?_
  refine lv_iconst (v := nI (0)) hx hb d_M_write_1 (by decide) ?_
  refine m_put hx hb hts hown hK hP hD hS rfl 3 (Nat.le_of_ble_eq_true rfl) m1_171 rfl rfl rfl (Nat.le_of_ble_eq_true rfl) d_M_write_2 (fun H locs hP hD hS => ?_)
  have hP : va_P D classes (mW cI q sg ou li ba (nI (LB.length)) (nI (0)) (nI (LN.length)) (nI (KP.length))) H := hP
  have hD : va_D A (mW cI q sg ou li ba (nI (LB.length)) (nI (0)) (nI (LN.length)) (nI (KP.length))) := hD
  refine lv_iconst (v := nI (0)) hx hb d_M_write_5 (by decide) ?_
  refine lv_istore_n (lv' := [(1, .int (nI (0))), (0, .ref (q 0))]) hx hb d_M_write_6 rfl hl (Nat.le_of_ble_eq_true rfl) rfl (fun ls hl => ?_)
  have lp1 : ∀ (f1 : Nat) (k : Nat) (ou : Nat → Int32), LB.length - k < f1 → (k ≤ LB.length) → (sp_rep ou (sp_bas (sp_ef LB) k)) → ∀ (H : Heap) (locs : List Loc), va_P D classes (mW cI q sg ou li ba (nI (LB.length)) (nI ((sp_bas (sp_ef LB) k).length)) (nI (LN.length)) (nI (KP.length))) H → va_D A (mW cI q sg ou li ba (nI (LB.length)) (nI ((sp_bas (sp_ef LB) k).length)) (nI (LN.length)) (nI (KP.length))) → va_S A s.heap H locs → ∀ ls : Array Slot, lv_has ls 14 [(0, .ref (q 0)), (1, .int (nI (k)))] → W p l e r_M_write s m args below meth c H locs 0 0 Q (F0 m 7 ls []) := by
    intro f1
    induction f1 with
    | zero => intro k ou h; exact absurd h (Nat.not_lt_zero _)
    | succ f1 ih1 =>
      intro k ou hf1 hk hou H locs hP hD hS ls hl
      have hb1 := sp_cnt_le (fun j => decide (sp_ef LB j < 128)) k
      rw [← sp_bas_len] at hb1
      refine lv_iload_n hx hb d_M_write_7 rfl (lv_at hl 1 rfl) ?_
      refine lv_aload_n hx hb d_M_write_8 rfl (lv_at hl 0 rfl) ?_
      refine m_get (v := .int (nI (LB.length))) hx hb hts hown hK hP rfl 1 (Nat.le_of_ble_eq_true rfl) m1_169 rfl rfl d_M_write_9 ?_
      refine k_icmp_ge (tgt := 58) hx hb d_M_write_12 (by decide) (by omega) (by omega) (fun c_12 => ?_) (fun c_12 => ?_)
      · have ek : k = LB.length := by omega
        subst ek
        have hP : va_P D classes (mW cI q sg ou li ba (nI (LB.length)) (nI ((sp_bas (sp_ef LB) LB.length).length)) (nI (LN.length)) (nI (KP.length))) H := hP
        have hD : va_D A (mW cI q sg ou li ba (nI (LB.length)) (nI ((sp_bas (sp_ef LB) LB.length).length)) (nI (LN.length)) (nI (KP.length))) := hD
        refine lv_aload_n hx hb d_M_write_58 rfl (lv_at hl 0 rfl) ?_
        refine m_get (v := .int (nI ((sp_bas (sp_ef LB) LB.length).length))) hx hb hts hown hK hP rfl 3 (Nat.le_of_ble_eq_true rfl) m1_171 rfl rfl d_M_write_59 ?_
        refine lv_istore_n (lv' := [(1, .int (nI ((sp_bas (sp_ef LB) LB.length).length))), (0, .ref (q 0))]) hx hb d_M_write_62 rfl hl (Nat.le_of_ble_eq_true rfl) rfl (fun ls hl => ?_)
        refine lv_aload_n hx hb d_M_write_63 rfl (lv_at hl 1 rfl) ?_
        refine m_get (v := .int (nI ((sp_bas (sp_ef LB) LB.length).length))) hx hb hts hown hK hP rfl 3 (Nat.le_of_ble_eq_true rfl) m1_171 rfl rfl d_M_write_64 ?_
        refine lv_istore_n (lv' := [(2, .int (nI ((sp_bas (sp_ef LB) LB.length).length))), (1, .int (nI ((sp_bas (sp_ef LB) LB.length).length))), (0, .ref (q 0))]) hx hb d_M_write_67 rfl hl (Nat.le_of_ble_eq_true rfl) rfl (fun ls hl => ?_)
        refine lv_bipush (v := nI (72)) hx hb d_M_write_68 (by decide) ?_
        refine lv_istore_n (lv' := [(3, .int (nI (72))), (2, .int (nI ((sp_bas (sp_ef LB) LB.length).length))), (1, .int (nI ((sp_bas (sp_ef LB) LB.length).length))), (0, .ref (q 0))]) hx hb d_M_write_70 rfl hl (Nat.le_of_ble_eq_true rfl) rfl (fun ls hl => ?_)
        refine lv_sipush (v := nI (128)) hx hb d_M_write_71 (by decide) ?_
        refine lv_istore (lv' := [(4, .int (nI (128))), (3, .int (nI (72))), (2, .int (nI ((sp_bas (sp_ef LB) LB.length).length))), (1, .int (nI ((sp_bas (sp_ef LB) LB.length).length))), (0, .ref (q 0))]) hx hb d_M_write_74 hl (Nat.le_of_ble_eq_true rfl) rfl (fun ls hl => ?_)
        refine lv_lconst (v := lN 0) hx hb d_M_write_76 rfl ?_
        refine lv_lstore (lv' := [(5, .long (lN (0))), (4, .int (nI (128))), (3, .int (nI (72))), (2, .int (nI ((sp_bas (sp_ef LB) LB.length).length))), (1, .int (nI ((sp_bas (sp_ef LB) LB.length).length))), (0, .ref (q 0))]) hx hb d_M_write_77 hl (Nat.le_of_ble_eq_true rfl) rfl (fun ls hl => ?_)
        refine lv_iload_n hx hb d_M_write_79 rfl (lv_at hl 4 rfl) ?_
        refine k_if_le (tgt := 104) hx hb d_M_write_80 (by decide) (by omega) (fun c_80 => ?_) (fun c_80 => ?_)
        · have ho : (sp_o (sp_ef LB) LB.length) = sp_bas (sp_ef LB) LB.length := by unfold sp_o; rw [if_neg (by omega), List.append_nil]
          have hou2 : sp_rep (ou) (sp_o (sp_ef LB) LB.length) := by rw [ho]; exact hou
          rw [show nI ((sp_bas (sp_ef LB) LB.length).length) = nI ((sp_o (sp_ef LB) LB.length)).length from by rw [ho]] at hP hD
          have hP : va_P D classes (mW cI q sg ou li ba (nI (LB.length)) (nI (((sp_o (sp_ef LB) LB.length)).length)) (nI (LN.length)) (nI (KP.length))) H := hP
          have hD : va_D A (mW cI q sg ou li ba (nI (LB.length)) (nI (((sp_o (sp_ef LB) LB.length)).length)) (nI (LN.length)) (nI (KP.length))) := hD
          exact lp2 (1114114) 128 0 0 ((fun j => decide (sp_ef LB j < 128))) 128 0 72 ((sp_o (sp_ef LB) LB.length)) ou (by omega) (by omega) rfl (sp_inv0 _ _ _ _ (sp_bas_len _ _).symm) (sp_db0 _ _) (by omega) (by omega) (by omega) hou2 H locs hP hD hS ls (lv_sub hl [5, 4, 3, 2, 1, 0] rfl)
        · refine lv_aload_n hx hb d_M_write_83 rfl (lv_at hl 5 rfl) ?_
          refine m_get (v := .ref (q 2)) hx hb hts hown hK hP rfl 2 (Nat.le_of_ble_eq_true rfl) m1_170 rfl rfl d_M_write_84 ?_
          refine lv_aload_n hx hb d_M_write_87 rfl (lv_at hl 5 rfl) ?_
          refine m_get (v := .int (nI ((sp_bas (sp_ef LB) LB.length).length))) hx hb hts hown hK hP rfl 3 (Nat.le_of_ble_eq_true rfl) m1_171 rfl rfl d_M_write_88 ?_
          refine lv_bipush (v := nI (45)) hx hb d_M_write_91 (by decide) ?_
          refine k_iast hx hb hK hP hD hS 2 0 rfl rfl (by omega) (by omega) d_M_write_93 (fun H locs hP hD hS => ?_)
          have hP : va_P D classes (mW cI q sg (upd ou ((sp_bas (sp_ef LB) LB.length).length) (nI (45))) li ba (nI (LB.length)) (nI ((sp_bas (sp_ef LB) LB.length).length)) (nI (LN.length)) (nI (KP.length))) H := hP
          have hD : va_D A (mW cI q sg (upd ou ((sp_bas (sp_ef LB) LB.length).length) (nI (45))) li ba (nI (LB.length)) (nI ((sp_bas (sp_ef LB) LB.length).length)) (nI (LN.length)) (nI (KP.length))) := hD
          refine lv_aload_n hx hb d_M_write_94 rfl (lv_at hl 5 rfl) ?_
          refine lv_aload_n hx hb d_M_write_95 rfl (lv_at hl 5 rfl) ?_
          refine m_get (v := .int (nI ((sp_bas (sp_ef LB) LB.length).length))) hx hb hts hown hK hP rfl 3 (Nat.le_of_ble_eq_true rfl) m1_171 rfl rfl d_M_write_96 ?_
          refine lv_iconst (v := nI (1)) hx hb d_M_write_99 (by decide) ?_
          refine k_iadd hx hb d_M_write_100 ?_
          refine m_put hx hb hts hown hK hP hD hS rfl 3 (Nat.le_of_ble_eq_true rfl) m1_171 rfl rfl rfl (Nat.le_of_ble_eq_true rfl) d_M_write_101 (fun H locs hP hD hS => ?_)
          have hP : va_P D classes (mW cI q sg (upd ou ((sp_bas (sp_ef LB) LB.length).length) (nI (45))) li ba (nI (LB.length)) (nI (((sp_bas (sp_ef LB) LB.length).length) + 1)) (nI (LN.length)) (nI (KP.length))) H := hP
          have hD : va_D A (mW cI q sg (upd ou ((sp_bas (sp_ef LB) LB.length).length) (nI (45))) li ba (nI (LB.length)) (nI (((sp_bas (sp_ef LB) LB.length).length) + 1)) (nI (LN.length)) (nI (KP.length))) := hD
          have ho : (sp_o (sp_ef LB) LB.length) = sp_bas (sp_ef LB) LB.length ++ [45] := by unfold sp_o; rw [if_pos (by omega)]
          have hou2 : sp_rep (upd ou ((sp_bas (sp_ef LB) LB.length).length) (nI (45))) (sp_o (sp_ef LB) LB.length) := by rw [ho]; exact sp_rep_app hou 45
          rw [show nI ((sp_bas (sp_ef LB) LB.length).length + 1) = nI ((sp_o (sp_ef LB) LB.length)).length from by rw [ho]; exact sp_len1 _ _] at hP hD
          have hP : va_P D classes (mW cI q sg (upd ou ((sp_bas (sp_ef LB) LB.length).length) (nI (45))) li ba (nI (LB.length)) (nI (((sp_o (sp_ef LB) LB.length)).length)) (nI (LN.length)) (nI (KP.length))) H := hP
          have hD : va_D A (mW cI q sg (upd ou ((sp_bas (sp_ef LB) LB.length).length) (nI (45))) li ba (nI (LB.length)) (nI (((sp_o (sp_ef LB) LB.length)).length)) (nI (LN.length)) (nI (KP.length))) := hD
          exact lp2 (1114114) 128 0 0 ((fun j => decide (sp_ef LB j < 128))) 128 0 72 ((sp_o (sp_ef LB) LB.length)) (upd ou ((sp_bas (sp_ef LB) LB.length).length) (nI (45))) (by omega) (by omega) rfl (sp_inv0 _ _ _ _ (sp_bas_len _ _).symm) (sp_db0 _ _) (by omega) (by omega) (by omega) hou2 H locs hP hD hS ls (lv_sub hl [5, 4, 3, 2, 1, 0] rfl)
      · have hbk := hok2 k c_12
        refine lv_aload_n hx hb d_M_write_15 rfl (lv_at hl 0 rfl) ?_
        refine m_get (v := .ref (q 1)) hx hb hts hown hK hP rfl 0 (Nat.le_of_ble_eq_true rfl) m1_168 rfl rfl d_M_write_16 ?_
        refine lv_iload_n hx hb d_M_write_19 rfl (lv_at hl 1 rfl) ?_
        refine k_iald hx hb hK hP 1 0 rfl rfl (by omega) (by omega) d_M_write_20 ?_
        refine k_cvi (show _ = nI (LB.getD (k) 0) from hsg _ (by omega)) ?_
        refine lv_sipush (v := nI (128)) hx hb d_M_write_21 (by decide) ?_
        refine k_icmp_ge (tgt := 52) hx hb d_M_write_24 (by decide) (by omega) (by omega) (fun c_24 => ?_) (fun c_24 => ?_)
        · refine lv_iinc (v := nI (k + 1)) (lv' := [(1, .int (nI (k + 1))), (0, .ref (q 0))]) hx hb d_M_write_52 hl (k := 1) rfl (k_inc (by decide)) (Nat.le_of_ble_eq_true rfl) rfl (fun ls hl => ?_)
          refine lv_goto (tgt := 7) hx hb d_M_write_55 (by decide) ?_
          have eb := sp_bas_no (f := sp_ef LB) (k := k) (show ¬ sp_ef LB k < 128 from by show ¬ LB.getD k 0 < 128; omega)
          rw [← eb] at hP hD hou
          exact ih1 (k + 1) ou (by omega) (by omega) hou H locs hP hD hS ls (lv_sub hl [1, 0] rfl)
        · refine lv_aload_n hx hb d_M_write_27 rfl (lv_at hl 0 rfl) ?_
          refine m_get (v := .ref (q 2)) hx hb hts hown hK hP rfl 2 (Nat.le_of_ble_eq_true rfl) m1_170 rfl rfl d_M_write_28 ?_
          refine lv_aload_n hx hb d_M_write_31 rfl (lv_at hl 0 rfl) ?_
          refine m_get (v := .int (nI ((sp_bas (sp_ef LB) k).length))) hx hb hts hown hK hP rfl 3 (Nat.le_of_ble_eq_true rfl) m1_171 rfl rfl d_M_write_32 ?_
          refine lv_aload_n hx hb d_M_write_35 rfl (lv_at hl 0 rfl) ?_
          refine m_get (v := .ref (q 1)) hx hb hts hown hK hP rfl 0 (Nat.le_of_ble_eq_true rfl) m1_168 rfl rfl d_M_write_36 ?_
          refine lv_iload_n hx hb d_M_write_39 rfl (lv_at hl 1 rfl) ?_
          refine k_iald hx hb hK hP 1 0 rfl rfl (by omega) (by omega) d_M_write_40 ?_
          refine k_cvi (show _ = nI (LB.getD (k) 0) from hsg _ (by omega)) ?_
          refine k_iast hx hb hK hP hD hS 2 0 rfl rfl (by omega) (by omega) d_M_write_41 (fun H locs hP hD hS => ?_)
          have hP : va_P D classes (mW cI q sg (upd ou ((sp_bas (sp_ef LB) k).length) (nI (LB.getD (k) 0))) li ba (nI (LB.length)) (nI ((sp_bas (sp_ef LB) k).length)) (nI (LN.length)) (nI (KP.length))) H := hP
          have hD : va_D A (mW cI q sg (upd ou ((sp_bas (sp_ef LB) k).length) (nI (LB.getD (k) 0))) li ba (nI (LB.length)) (nI ((sp_bas (sp_ef LB) k).length)) (nI (LN.length)) (nI (KP.length))) := hD
          refine lv_aload_n hx hb d_M_write_42 rfl (lv_at hl 0 rfl) ?_
          refine lv_aload_n hx hb d_M_write_43 rfl (lv_at hl 0 rfl) ?_
          refine m_get (v := .int (nI ((sp_bas (sp_ef LB) k).length))) hx hb hts hown hK hP rfl 3 (Nat.le_of_ble_eq_true rfl) m1_171 rfl rfl d_M_write_44 ?_
          refine lv_iconst (v := nI (1)) hx hb d_M_write_47 (by decide) ?_
          refine k_iadd hx hb d_M_write_48 ?_
          refine m_put hx hb hts hown hK hP hD hS rfl 3 (Nat.le_of_ble_eq_true rfl) m1_171 rfl rfl rfl (Nat.le_of_ble_eq_true rfl) d_M_write_49 (fun H locs hP hD hS => ?_)
          have hP : va_P D classes (mW cI q sg (upd ou ((sp_bas (sp_ef LB) k).length) (nI (LB.getD (k) 0))) li ba (nI (LB.length)) (nI (((sp_bas (sp_ef LB) k).length) + 1)) (nI (LN.length)) (nI (KP.length))) H := hP
          have hD : va_D A (mW cI q sg (upd ou ((sp_bas (sp_ef LB) k).length) (nI (LB.getD (k) 0))) li ba (nI (LB.length)) (nI (((sp_bas (sp_ef LB) k).length) + 1)) (nI (LN.length)) (nI (KP.length))) := hD
          refine lv_iinc (v := nI (k + 1)) (lv' := [(1, .int (nI (k + 1))), (0, .ref (q 0))]) hx hb d_M_write_52 hl (k := 1) rfl (k_inc (by decide)) (Nat.le_of_ble_eq_true rfl) rfl (fun ls hl => ?_)
          refine lv_goto (tgt := 7) hx hb d_M_write_55 (by decide) ?_
          obtain ⟨hou2, hw2⟩ := sp_bas_rep (f := sp_ef LB) hou (show sp_ef LB k < 128 from c_24)
          rw [hw2] at hP hD
          exact ih1 (k + 1) (upd ou ((sp_bas (sp_ef LB) k).length) (nI (LB.getD (k) 0))) (by omega) (by omega) hou2 H locs hP hD hS ls (lv_sub hl [1, 0] rfl)
  exact lp1 (LB.length + 1) 0 ou (by omega) (by omega) (sp_rep_nil _) H locs hP hD hS ls (lv_sub hl [1, 0] rfl)
end
section
/-! the reference's read -/
abbrev r_M_read : Room := { frames := 1, cells := 0, slots := 0, locals := 24 }
set_option maxHeartbeats 4000000 in
set_option maxRecDepth 100000 in
/-- read() -/
theorem c_M_read (l : Launch) (D : va_G) (cI cZ : ClassId) (q : Nat → Nat) (sz0 : Nat) (sg ou li ba : Nat → Int32) (LB LT LN KP : List Nat) (hsg : sp_rep sg LB) (hou : sp_rep ou LT) (hli : sp_rep li LN) (hba : sp_rep ba KP) (hLN : LN.length ≤ 64) (hcn : sp_ch LN) (hwf : sp_wf LN) : kM l y_M_read b_M_read 18 (some .int) r_M_read D (k_tys cI cZ) [.ref (q 0)] (mW cI q sg ou li ba (nI (LB.length)) (nI (LT.length)) (nI (LN.length)) (nI (KP.length))) sz0 (mP cI q LB LT LN (sp_rdK LN) (some (.int (sp_rdV LN)))) := by
  refine k_met (by decide) (Nat.le_of_ble_eq_true rfl) ?_
  intro p e s m args below meth c A Q C0 hr hlk hnm hA hK hP hD hS hQ ls hl
  obtain ⟨hx, hb, hml, hown, hts⟩ := id C0
  have hl : lv_has ls 18 [(0, .ref (q 0))] := hl
  obtain ⟨hp0a, hp0b, hp0c⟩ := sp_p0_le LN
  have lp3 : ∀ (f3 : Nat) (r p0 : Nat) (acc : List Nat) (i pt bias : Nat) (ba : Nat → Int32), r < f3 → (LN.length ≤ p0 + r) → (p0 ≤ LN.length) → (sp_p0 LN ≤ p0) → (acc.length ≤ p0) → (i ≤ acc.length) → (pt ≤ 1114111) → (bias < 268435456) → (sp_rep ba acc) → (sp_dc (sp_ef LN) LN.length r p0 acc i pt bias = sp_dec LN) → ∀ (H : Heap) (locs : List Loc), va_P D classes (mW cI q sg ou li ba (nI (LB.length)) (nI (LT.length)) (nI (LN.length)) (nI (([] : List Nat).length))) H → va_D A (mW cI q sg ou li ba (nI (LB.length)) (nI (LT.length)) (nI (LN.length)) (nI (([] : List Nat).length))) → va_S A s.heap H locs → ∀ ls : Array Slot, lv_has ls 18 [(0, .ref (q 0)), (2, .int (nI (acc.length))), (3, .int (nI (p0))), (4, .int (nI (bias))), (5, .long (lN (pt))), (7, .long (lN (i)))] → W p l e r_M_read s m args below meth c H locs 0 0 Q (F0 m 91 ls []) := by
    intro f3
    induction f3 with
    | zero => intro r p0 acc i pt bias ba h; exact absurd h (Nat.not_lt_zero _)
    | succ f3 ih3 =>
      intro r p0 acc i pt bias ba hf3 hr0 hp hp1 hacc hi hpt hbi hba hd H locs hP hD hS ls hl
      refine lv_iload_n hx hb d_M_read_91 rfl (lv_at hl 2 rfl) ?_
      refine lv_aload_n hx hb d_M_read_92 rfl (lv_at hl 0 rfl) ?_
      refine m_get (v := .int (nI (LN.length))) hx hb hts hown hK hP rfl 5 (Nat.le_of_ble_eq_true rfl) m1_173 rfl rfl d_M_read_93 ?_
      refine k_icmp_ge (tgt := 424) hx hb d_M_read_96 (by decide) (by omega) (by omega) (fun c_96 => ?_) (fun c_96 => ?_)
      · have hds : sp_dec LN = some acc := by rw [← hd]; exact sp_dc_end c_96
        rw [(sp_rd_s hds).1, (sp_rd_s hds).2] at hQ
        refine lv_aload_n hx hb d_M_read_424 rfl (lv_at hl 0 rfl) ?_
        refine lv_iload_n hx hb d_M_read_425 rfl (lv_at hl 1 rfl) ?_
        refine m_put hx hb hts hown hK hP hD hS rfl 7 (Nat.le_of_ble_eq_true rfl) m1_175 rfl rfl rfl (Nat.le_of_ble_eq_true rfl) d_M_read_426 (fun H locs hP hD hS => ?_)
        have hP : va_P D classes (mW cI q sg ou li ba (nI (LB.length)) (nI (LT.length)) (nI (LN.length)) (nI (acc.length))) H := hP
        have hD : va_D A (mW cI q sg ou li ba (nI (LB.length)) (nI (LT.length)) (nI (LN.length)) (nI (acc.length))) := hD
        refine lv_iload_n hx hb d_M_read_429 rfl (lv_at hl 1 rfl) ?_
        exact k_reti hx hb hr hlk hQ hK hP hD hS (mP_mk rfl rfl rfl rfl rfl hsg hou hli hba) d_M_read_430
      · have hr1 : 1 ≤ r := by omega
        refine lv_lload hx hb d_M_read_99 (lv_at hl 5 rfl) ?_
        refine lv_lstore (lv' := [(9, .long (lN (i))), (0, .ref (q 0)), (2, .int (nI (acc.length))), (3, .int (nI (p0))), (4, .int (nI (bias))), (5, .long (lN (pt))), (7, .long (lN (i)))]) hx hb d_M_read_101 hl (Nat.le_of_ble_eq_true rfl) rfl (fun ls hl => ?_)
        refine lv_lconst (v := lN 1) hx hb d_M_read_103 rfl ?_
        refine lv_lstore (lv' := [(11, .long (lN (1))), (9, .long (lN (i))), (0, .ref (q 0)), (2, .int (nI (acc.length))), (3, .int (nI (p0))), (4, .int (nI (bias))), (5, .long (lN (pt))), (7, .long (lN (i)))]) hx hb d_M_read_104 hl (Nat.le_of_ble_eq_true rfl) rfl (fun ls hl => ?_)
        refine lv_bipush (v := nI (36)) hx hb d_M_read_106 (by decide) ?_
        refine lv_istore (lv' := [(13, .int (nI (36))), (11, .long (lN (1))), (9, .long (lN (i))), (0, .ref (q 0)), (2, .int (nI (acc.length))), (3, .int (nI (p0))), (4, .int (nI (bias))), (5, .long (lN (pt))), (7, .long (lN (i)))]) hx hb d_M_read_108 hl (Nat.le_of_ble_eq_true rfl) rfl (fun ls hl => ?_)
        refine lv_iconst (v := nI (1)) hx hb d_M_read_110 (by decide) ?_
        refine lv_istore (lv' := [(14, .int (nI (1))), (13, .int (nI (36))), (11, .long (lN (1))), (9, .long (lN (i))), (0, .ref (q 0)), (2, .int (nI (acc.length))), (3, .int (nI (p0))), (4, .int (nI (bias))), (5, .long (lN (pt))), (7, .long (lN (i)))]) hx hb d_M_read_111 hl (Nat.le_of_ble_eq_true rfl) rfl (fun ls hl => ?_)
        have lp4 : ∀ (f4 : Nat) (pp ii w k : Nat), LN.length - pp < f4 → (pp ≤ LN.length) → (p0 ≤ pp) → (ii ≤ 2147483647) → (i ≤ ii) → (w ≤ 2147483647) → (k ≤ 36 * (pp + 1)) → (sp_told (sp_ef LN) bias (LN.length - pp) pp ii w k = sp_told (sp_ef LN) bias (LN.length - p0) p0 i 1 36) → ∀ ls : Array Slot, lv_has ls 18 [(0, .ref (q 0)), (2, .int (nI (acc.length))), (3, .int (nI (pp))), (4, .int (nI (bias))), (5, .long (lN (pt))), (7, .long (lN (ii))), (9, .long (lN (i))), (11, .long (lN (w))), (13, .int (nI (k))), (14, .int (nI (1)))] → W p l e r_M_read s m args below meth c H locs 0 0 Q (F0 m 113 ls []) := by
          intro f4
          induction f4 with
          | zero => intro pp ii w k h; exact absurd h (Nat.not_lt_zero _)
          | succ f4 ih4 =>
            intro pp ii w k hf4 hpp hpq hii hio hw hk he ls hl
            have h1 := sp_thr_pos k bias
            have h2 := sp_thr_le k bias
            refine lv_iload hx hb d_M_read_113 (lv_at hl 9 rfl) ?_
            refine k_if_eq (tgt := 290) hx hb d_M_read_115 (by decide) (by omega) (fun c_115 => ?_) (fun c_115 => ?_)
            · exact absurd c_115 (by omega)
            · refine lv_iload_n hx hb d_M_read_118 rfl (lv_at hl 2 rfl) ?_
              refine lv_aload_n hx hb d_M_read_119 rfl (lv_at hl 0 rfl) ?_
              refine m_get (v := .int (nI (LN.length))) hx hb hts hown hK hP rfl 5 (Nat.le_of_ble_eq_true rfl) m1_173 rfl rfl d_M_read_120 ?_
              refine k_icmp_ne (tgt := 128) hx hb d_M_read_123 (by decide) (by omega) (by omega) (fun c_123 => ?_) (fun c_123 => ?_)
              · have hlt : pp < LN.length := by omega
                refine lv_aload_n hx hb d_M_read_128 rfl (lv_at hl 0 rfl) ?_
                refine m_get (v := .ref (q 3)) hx hb hts hown hK hP rfl 4 (Nat.le_of_ble_eq_true rfl) m1_172 rfl rfl d_M_read_129 ?_
                refine lv_iload_n hx hb d_M_read_132 rfl (lv_at hl 2 rfl) ?_
                refine k_iald hx hb hK hP 3 0 rfl rfl (by omega) (by omega) d_M_read_133 ?_
                refine k_cvi (show _ = nI (LN.getD (pp) 0) from hli _ (by omega)) ?_
                refine lv_istore (lv' := [(15, .int (nI (LN.getD (pp) 0))), (0, .ref (q 0)), (2, .int (nI (acc.length))), (3, .int (nI (pp))), (4, .int (nI (bias))), (5, .long (lN (pt))), (7, .long (lN (ii))), (9, .long (lN (i))), (11, .long (lN (w))), (13, .int (nI (k))), (14, .int (nI (1)))]) hx hb d_M_read_134 hl (Nat.le_of_ble_eq_true rfl) rfl (fun ls hl => ?_)
                have hc9 := sp_wf_at hwf (show sp_p0 LN ≤ pp by omega) hlt
                have JD : ∀ (d : Nat), ((sp_dig (LN.getD pp 0) = some d ∧ d < 36) ∨ (sp_dig (LN.getD pp 0) = none ∧ d = 36)) → ∀ ls : Array Slot, lv_has ls 18 [(15, .int (nI (LN.getD pp 0))), (0, .ref (q 0)), (2, .int (nI (acc.length))), (3, .int (nI (pp))), (4, .int (nI (bias))), (5, .long (lN (pt))), (7, .long (lN (ii))), (9, .long (lN (i))), (11, .long (lN (w))), (13, .int (nI (k))), (14, .int (nI (1)))] → W p l e r_M_read s m args below meth c H locs 0 0 Q (F0 m 175 ls [.int (nI (d))]) := by
                  intro d hdd ls hl
                  have hd37 : d ≤ 36 := by omega
                  refine lv_istore (lv' := [(16, .int (nI (d))), (15, .int (nI (LN.getD pp 0))), (0, .ref (q 0)), (2, .int (nI (acc.length))), (3, .int (nI (pp))), (4, .int (nI (bias))), (5, .long (lN (pt))), (7, .long (lN (ii))), (9, .long (lN (i))), (11, .long (lN (w))), (13, .int (nI (k))), (14, .int (nI (1)))]) hx hb d_M_read_175 hl (Nat.le_of_ble_eq_true rfl) rfl (fun ls hl => ?_)
                  refine lv_iload_n hx hb d_M_read_177 rfl (lv_at hl 4 rfl) ?_
                  refine lv_iconst (v := nI (1)) hx hb d_M_read_178 (by decide) ?_
                  refine k_iadd hx hb d_M_read_179 ?_
                  refine lv_istore_n (lv' := [(3, .int (nI (pp + 1))), (16, .int (nI (d))), (15, .int (nI (LN.getD pp 0))), (0, .ref (q 0)), (2, .int (nI (acc.length))), (4, .int (nI (bias))), (5, .long (lN (pt))), (7, .long (lN (ii))), (9, .long (lN (i))), (11, .long (lN (w))), (13, .int (nI (k))), (14, .int (nI (1)))]) hx hb d_M_read_180 rfl hl (Nat.le_of_ble_eq_true rfl) rfl (fun ls hl => ?_)
                  refine lv_iload hx hb d_M_read_181 (lv_at hl 1 rfl) ?_
                  refine lv_bipush (v := nI (36)) hx hb d_M_read_183 (by decide) ?_
                  refine k_icmp_ne (tgt := 190) hx hb d_M_read_185 (by decide) (by omega) (by omega) (fun c_185 => ?_) (fun c_185 => ?_)
                  · have ed : sp_dig (LN.getD pp 0) = some d := hdd.elim (fun a => a.1) (fun a => absurd a.2 c_185)
                    have hd36 := sp_dig_lt ed
                    have hdw : d * w ≤ 35 * 2147483647 := Nat.mul_le_mul (by omega) hw
                    have hww : w * (36 - sp_thr k bias) ≤ 2147483647 * 36 := Nat.mul_le_mul hw (by omega)
                    refine lv_lload hx hb d_M_read_190 (lv_at hl 7 rfl) ?_
                    refine lv_iload hx hb d_M_read_192 (lv_at hl 1 rfl) ?_
                    refine k_i2l hx hb (by omega) d_M_read_194 ?_
                    refine lv_lload hx hb d_M_read_195 (lv_at hl 9 rfl) ?_
                    refine k_lmul hx hb d_M_read_197 ?_
                    refine k_ladd hx hb d_M_read_198 ?_
                    refine lv_lstore (lv' := [(7, .long (lN (ii + (d * w)))), (3, .int (nI (pp + 1))), (16, .int (nI (d))), (15, .int (nI (LN.getD pp 0))), (0, .ref (q 0)), (2, .int (nI (acc.length))), (4, .int (nI (bias))), (5, .long (lN (pt))), (9, .long (lN (i))), (11, .long (lN (w))), (13, .int (nI (k))), (14, .int (nI (1)))]) hx hb d_M_read_199 hl (Nat.le_of_ble_eq_true rfl) rfl (fun ls hl => ?_)
                    refine lv_lload hx hb d_M_read_201 (lv_at hl 0 rfl) ?_
                    refine lv_ldc2 (v := lN (2147483647)) hx hb hown (hts _ m2_0) d_M_read_203 ?_
                    refine k_lc_le (tgt := 212) hx hb d_M_read_206 d_M_read_207 (by decide) (by omega) (by omega) (fun c_206 => ?_) (fun c_206 => ?_)
                    · have J4 : ∀ ls : Array Slot, lv_has ls 18 [(7, .long (lN (ii + (d * w)))), (3, .int (nI (pp + 1))), (16, .int (nI (d))), (15, .int (nI (LN.getD pp 0))), (0, .ref (q 0)), (2, .int (nI (acc.length))), (4, .int (nI (bias))), (5, .long (lN (pt))), (9, .long (lN (i))), (11, .long (lN (w))), (13, .int (nI (k))), (14, .int (nI (1)))] → W p l e r_M_read s m args below meth c H locs 0 0 Q (F0 m 243 ls [.int (nI (sp_thr k bias))]) := by
                        intro   ls hl
                        refine lv_istore (lv' := [(17, .int (nI (sp_thr k bias))), (7, .long (lN (ii + (d * w)))), (3, .int (nI (pp + 1))), (16, .int (nI (d))), (15, .int (nI (LN.getD pp 0))), (0, .ref (q 0)), (2, .int (nI (acc.length))), (4, .int (nI (bias))), (5, .long (lN (pt))), (9, .long (lN (i))), (11, .long (lN (w))), (13, .int (nI (k))), (14, .int (nI (1)))]) hx hb d_M_read_243 hl (Nat.le_of_ble_eq_true rfl) rfl (fun ls hl => ?_)
                        refine lv_iload hx hb d_M_read_245 (lv_at hl 3 rfl) ?_
                        refine lv_iload hx hb d_M_read_247 (lv_at hl 0 rfl) ?_
                        refine k_icmp_ge (tgt := 258) hx hb d_M_read_249 (by decide) (by omega) (by omega) (fun c_249 => ?_) (fun c_249 => ?_)
                        · refine lv_lload hx hb d_M_read_258 (lv_at hl 10 rfl) ?_
                          refine lv_bipush (v := nI (36)) hx hb d_M_read_260 (by decide) ?_
                          refine lv_iload hx hb d_M_read_262 (lv_at hl 0 rfl) ?_
                          refine k_isub hx hb (by omega) d_M_read_264 ?_
                          refine k_i2l hx hb (by omega) d_M_read_265 ?_
                          refine k_lmul hx hb d_M_read_266 ?_
                          refine lv_lstore (lv' := [(11, .long (lN (w * (36 - (sp_thr k bias))))), (17, .int (nI (sp_thr k bias))), (7, .long (lN (ii + (d * w)))), (3, .int (nI (pp + 1))), (16, .int (nI (d))), (15, .int (nI (LN.getD pp 0))), (0, .ref (q 0)), (2, .int (nI (acc.length))), (4, .int (nI (bias))), (5, .long (lN (pt))), (9, .long (lN (i))), (13, .int (nI (k))), (14, .int (nI (1)))]) hx hb d_M_read_267 hl (Nat.le_of_ble_eq_true rfl) rfl (fun ls hl => ?_)
                          refine lv_lload hx hb d_M_read_269 (lv_at hl 0 rfl) ?_
                          refine lv_ldc2 (v := lN (2147483647)) hx hb hown (hts _ m2_0) d_M_read_271 ?_
                          refine k_lc_le (tgt := 280) hx hb d_M_read_274 d_M_read_275 (by decide) (by omega) (by omega) (fun c_274 => ?_) (fun c_274 => ?_)
                          · refine lv_iload hx hb d_M_read_280 (lv_at hl 11 rfl) ?_
                            refine lv_bipush (v := nI (36)) hx hb d_M_read_282 (by decide) ?_
                            refine k_iadd hx hb d_M_read_284 ?_
                            refine lv_istore (lv' := [(13, .int (nI (k + 36))), (11, .long (lN (w * (36 - (sp_thr k bias))))), (17, .int (nI (sp_thr k bias))), (7, .long (lN (ii + (d * w)))), (3, .int (nI (pp + 1))), (16, .int (nI (d))), (15, .int (nI (LN.getD pp 0))), (0, .ref (q 0)), (2, .int (nI (acc.length))), (4, .int (nI (bias))), (5, .long (lN (pt))), (9, .long (lN (i))), (14, .int (nI (1)))]) hx hb d_M_read_285 hl (Nat.le_of_ble_eq_true rfl) rfl (fun ls hl => ?_)
                            refine lv_goto (tgt := 113) hx hb d_M_read_287 (by decide) ?_
                            have he2 : sp_told (sp_ef LN) bias (LN.length - (pp + 1)) (pp + 1) (ii + d * w) (w * (36 - sp_thr k bias)) (k + 36) = sp_told (sp_ef LN) bias (LN.length - p0) p0 i 1 36 := by
                              rw [← he, show LN.length - pp = (LN.length - (pp + 1)) + 1 by omega, sp_told_g (show sp_dig (sp_ef LN pp) = some d from ed) (by omega) (by omega) (by omega)]
                            exact ih4 (pp + 1) (ii + d * w) (w * (36 - sp_thr k bias)) (k + 36) (by omega) (by omega) (by omega) (by omega) (by omega) (by omega) (by omega) he2 ls (lv_sub hl [7, 8, 4, 9, 10, 3, 11, 1, 0, 12] rfl)
                          · refine lv_iconst (v := -1) hx hb d_M_read_278 (by decide) ?_
                            have hT : sp_told (sp_ef LN) bias (LN.length - p0) p0 i 1 36 = none := by rw [← he, show LN.length - pp = (LN.length - (pp + 1)) + 1 by omega]; exact sp_told_w (show sp_dig (sp_ef LN pp) = some d from ed) (by omega) (by omega) (by omega)
                            have hdn : sp_dec LN = none := by rw [← hd, show r = (r - 1) + 1 by omega]; exact sp_dc_no (by omega) hT
                            rw [(sp_rd_n hdn).1, (sp_rd_n hdn).2] at hQ
                            exact k_reti hx hb hr hlk hQ hK hP hD hS (mP_mk rfl rfl rfl rfl rfl hsg hou hli (sp_rep_nil _)) d_M_read_279
                        · refine lv_iconst (v := nI (0)) hx hb d_M_read_252 (by decide) ?_
                          refine lv_istore (lv' := [(14, .int (nI (0))), (17, .int (nI (sp_thr k bias))), (7, .long (lN (ii + (d * w)))), (3, .int (nI (pp + 1))), (16, .int (nI (d))), (15, .int (nI (LN.getD pp 0))), (0, .ref (q 0)), (2, .int (nI (acc.length))), (4, .int (nI (bias))), (5, .long (lN (pt))), (9, .long (lN (i))), (11, .long (lN (w))), (13, .int (nI (k)))]) hx hb d_M_read_253 hl (Nat.le_of_ble_eq_true rfl) rfl (fun ls hl => ?_)
                          refine lv_goto (tgt := 287) hx hb d_M_read_255 (by decide) ?_
                          refine lv_goto (tgt := 113) hx hb d_M_read_287 (by decide) ?_
                          refine lv_iload hx hb d_M_read_113 (lv_at hl 0 rfl) ?_
                          refine k_if_eq (tgt := 290) hx hb d_M_read_115 (by decide) (by omega) (fun c_115 => ?_) (fun c_115 => ?_)
                          · obtain ⟨p', ep'⟩ : ∃ z, z = pp + 1 := ⟨_, rfl⟩
                            obtain ⟨i', ei'⟩ : ∃ z, z = ii + d * w := ⟨_, rfl⟩
                            have hT : sp_told (sp_ef LN) bias (LN.length - p0) p0 i 1 36 = some (p', i') := by rw [ep', ei', ← he, show LN.length - pp = (LN.length - (pp + 1)) + 1 by omega]; exact sp_told_e (show sp_dig (sp_ef LN pp) = some d from ed) (by omega) (by omega)
                            have hl : lv_has ls 18 [(14, .int (nI (0))), (17, .int (nI (sp_thr k bias))), (7, .long (lN (i'))), (3, .int (nI (p'))), (16, .int (nI (d))), (15, .int (nI (LN.getD pp 0))), (0, .ref (q 0)), (2, .int (nI (acc.length))), (4, .int (nI (bias))), (5, .long (lN (pt))), (9, .long (lN (i))), (11, .long (lN (w))), (13, .int (nI (k)))] := by rw [ep', ei']; exact hl
                            obtain ⟨a1, a2, a3, a4⟩ := sp_told_p _ _ _ _ _ _ _ hT
                            have hdv := Nat.div_le_self i' (acc.length + 1)
                            have hmd := Nat.mod_lt i' (show acc.length + 1 > 0 by omega)
                            refine lv_lload hx hb d_M_read_290 (lv_at hl 2 rfl) ?_
                            refine lv_lload hx hb d_M_read_292 (lv_at hl 10 rfl) ?_
                            refine k_lsub hx hb (by omega) d_M_read_294 ?_
                            refine k_l2i hx hb d_M_read_295 ?_
                            refine lv_iload_n hx hb d_M_read_296 rfl (lv_at hl 7 rfl) ?_
                            refine lv_iconst (v := nI (1)) hx hb d_M_read_297 (by decide) ?_
                            refine k_iadd hx hb d_M_read_298 ?_
                            refine lv_lload hx hb d_M_read_299 (lv_at hl 10 rfl) ?_
                            refine lv_lconst (v := lN 0) hx hb d_M_read_301 rfl ?_
                            refine k_lc_ne (tgt := 310) hx hb d_M_read_302 d_M_read_303 (by decide) (by omega) (by omega) (fun c_302 => ?_) (fun c_302 => ?_)
                            · refine lv_iconst (v := nI (0)) hx hb d_M_read_310 (by decide) ?_
                              have ht0 : (i == 0) = false := beq_eq_false_iff_ne.mpr (by omega)
                              refine k_callR [.int (nI (i' - i)), .int (nI ((acc.length) + 1)), .int (nI (0))] C0 (c_M_adapt l (i' - i) (acc.length + 1) false (by omega) (by omega) (by omega)) m1_218 m1_216 m1_2 m1_217 hd_M_adapt ⟨(Nat.le_of_ble_eq_true rfl), (Nat.le_of_ble_eq_true rfl)⟩ rfl rfl rfl hl.1 (Nat.le_of_ble_eq_true rfl) d_M_read_311 ⟨Nat.zero_le _, Nat.zero_le _⟩ ?_
                              refine k_cvi (show _ = nI (sp_adapt (i' - i) (acc.length + 1) (i == 0)) from by rw [ht0]) ?_
                              refine lv_istore (lv' := [(4, .int (nI (sp_adapt (i' - i) (acc.length + 1) (i == 0)))), (14, .int (nI (0))), (17, .int (nI (sp_thr k bias))), (7, .long (lN (i'))), (3, .int (nI (p'))), (16, .int (nI (d))), (15, .int (nI (LN.getD pp 0))), (0, .ref (q 0)), (2, .int (nI (acc.length))), (5, .long (lN (pt))), (9, .long (lN (i))), (11, .long (lN (w))), (13, .int (nI (k)))]) hx hb d_M_read_314 hl (Nat.le_of_ble_eq_true rfl) rfl (fun ls hl => ?_)
                              refine lv_lload hx hb d_M_read_316 (lv_at hl 9 rfl) ?_
                              refine lv_lload hx hb d_M_read_318 (lv_at hl 3 rfl) ?_
                              refine lv_iload_n hx hb d_M_read_320 rfl (lv_at hl 8 rfl) ?_
                              refine lv_iconst (v := nI (1)) hx hb d_M_read_321 (by decide) ?_
                              refine k_iadd hx hb d_M_read_322 ?_
                              refine k_i2l hx hb (by omega) d_M_read_323 ?_
                              refine k_ldiv hx hb (by omega) (by omega) (by omega) d_M_read_324 ?_
                              refine k_ladd hx hb d_M_read_325 ?_
                              refine lv_lstore (lv' := [(5, .long (lN (pt + (i' / ((acc.length) + 1))))), (4, .int (nI (sp_adapt (i' - i) (acc.length + 1) (i == 0)))), (14, .int (nI (0))), (17, .int (nI (sp_thr k bias))), (7, .long (lN (i'))), (3, .int (nI (p'))), (16, .int (nI (d))), (15, .int (nI (LN.getD pp 0))), (0, .ref (q 0)), (2, .int (nI (acc.length))), (9, .long (lN (i))), (11, .long (lN (w))), (13, .int (nI (k)))]) hx hb d_M_read_326 hl (Nat.le_of_ble_eq_true rfl) rfl (fun ls hl => ?_)
                              refine lv_lload hx hb d_M_read_328 (lv_at hl 4 rfl) ?_
                              refine lv_iload_n hx hb d_M_read_330 rfl (lv_at hl 9 rfl) ?_
                              refine lv_iconst (v := nI (1)) hx hb d_M_read_331 (by decide) ?_
                              refine k_iadd hx hb d_M_read_332 ?_
                              refine k_i2l hx hb (by omega) d_M_read_333 ?_
                              refine k_lrem hx hb (by omega) (by omega) (by omega) d_M_read_334 ?_
                              refine lv_lstore (lv' := [(7, .long (lN (i' % ((acc.length) + 1)))), (5, .long (lN (pt + (i' / ((acc.length) + 1))))), (4, .int (nI (sp_adapt (i' - i) (acc.length + 1) (i == 0)))), (14, .int (nI (0))), (17, .int (nI (sp_thr k bias))), (3, .int (nI (p'))), (16, .int (nI (d))), (15, .int (nI (LN.getD pp 0))), (0, .ref (q 0)), (2, .int (nI (acc.length))), (9, .long (lN (i))), (11, .long (lN (w))), (13, .int (nI (k)))]) hx hb d_M_read_335 hl (Nat.le_of_ble_eq_true rfl) rfl (fun ls hl => ?_)
                              refine lv_lload hx hb d_M_read_337 (lv_at hl 1 rfl) ?_
                              refine lv_ldc2 (v := lN (1114111)) hx hb hown (hts _ m2_1) d_M_read_339 ?_
                              refine k_lc_gt (tgt := 364) hx hb d_M_read_342 d_M_read_343 (by decide) (by omega) (by omega) (fun c_342 => ?_) (fun c_342 => ?_)
                              · refine lv_iconst (v := -1) hx hb d_M_read_364 (by decide) ?_
                                have hdn : sp_dec LN = none := by rw [← hd, show r = (r - 1) + 1 by omega]; exact sp_dc_bad (by omega) hT (by omega)
                                rw [(sp_rd_n hdn).1, (sp_rd_n hdn).2] at hQ
                                exact k_reti hx hb hr hlk hQ hK hP hD hS (mP_mk rfl rfl rfl rfl rfl hsg hou hli (sp_rep_nil _)) d_M_read_365
                              · refine lv_lload hx hb d_M_read_346 (lv_at hl 1 rfl) ?_
                                refine lv_ldc2 (v := lN (55296)) hx hb hown (hts _ m2_2) d_M_read_348 ?_
                                refine k_lc_lt (tgt := 366) hx hb d_M_read_351 d_M_read_352 (by decide) (by omega) (by omega) (fun c_351 => ?_) (fun c_351 => ?_)
                                · refine lv_iload_n hx hb d_M_read_366 rfl (lv_at hl 9 rfl) ?_
                                  refine lv_istore (lv' := [(15, .int (nI (acc.length))), (7, .long (lN (i' % ((acc.length) + 1)))), (5, .long (lN (pt + (i' / ((acc.length) + 1))))), (4, .int (nI (sp_adapt (i' - i) (acc.length + 1) (i == 0)))), (14, .int (nI (0))), (17, .int (nI (sp_thr k bias))), (3, .int (nI (p'))), (16, .int (nI (d))), (0, .ref (q 0)), (2, .int (nI (acc.length))), (9, .long (lN (i))), (11, .long (lN (w))), (13, .int (nI (k)))]) hx hb d_M_read_367 hl (Nat.le_of_ble_eq_true rfl) rfl (fun ls hl => ?_)
                                  have lp5 : ∀ (f5 : Nat) (j : Nat) (ba1 : Nat → Int32), j < f5 → (i' % (acc.length + 1) ≤ j) → (j ≤ acc.length) → (∀ x, x ≤ acc.length → (j < x → ba1 x = ba (x - 1)) ∧ (x ≤ j → ba1 x = ba x)) → ∀ (H : Heap) (locs : List Loc), va_P D classes (mW cI q sg ou li ba1 (nI (LB.length)) (nI (LT.length)) (nI (LN.length)) (nI (([] : List Nat).length))) H → va_D A (mW cI q sg ou li ba1 (nI (LB.length)) (nI (LT.length)) (nI (LN.length)) (nI (([] : List Nat).length))) → va_S A s.heap H locs → ∀ ls : Array Slot, lv_has ls 18 [(0, .ref (q 0)), (2, .int (nI (acc.length))), (3, .int (nI (p'))), (4, .int (nI (sp_adapt (i' - i) (acc.length + 1) (i == 0)))), (5, .long (lN (pt + i' / (acc.length + 1)))), (7, .long (lN (i' % (acc.length + 1)))), (15, .int (nI (j)))] → W p l e r_M_read s m args below meth c H locs 0 0 Q (F0 m 369 ls []) := by
                                    intro f5
                                    induction f5 with
                                    | zero => intro j ba1 h; exact absurd h (Nat.not_lt_zero _)
                                    | succ f5 ih5 =>
                                      intro j ba1 hf5 hj1 hj2 hs H locs hP hD hS ls hl
                                      refine lv_iload hx hb d_M_read_369 (lv_at hl 6 rfl) ?_
                                      refine k_i2l hx hb (by omega) d_M_read_371 ?_
                                      refine lv_lload hx hb d_M_read_372 (lv_at hl 5 rfl) ?_
                                      refine k_lc_le (tgt := 400) hx hb d_M_read_374 d_M_read_375 (by decide) (by omega) (by omega) (fun c_374 => ?_) (fun c_374 => ?_)
                                      · refine lv_aload_n hx hb d_M_read_400 rfl (lv_at hl 0 rfl) ?_
                                        refine m_get (v := .ref (q 4)) hx hb hts hown hK hP rfl 6 (Nat.le_of_ble_eq_true rfl) m1_174 rfl rfl d_M_read_401 ?_
                                        refine lv_lload hx hb d_M_read_404 (lv_at hl 5 rfl) ?_
                                        refine k_l2i hx hb d_M_read_406 ?_
                                        refine lv_lload hx hb d_M_read_407 (lv_at hl 4 rfl) ?_
                                        refine k_l2i hx hb d_M_read_409 ?_
                                        refine k_iast hx hb hK hP hD hS 4 0 rfl rfl (by omega) (by omega) d_M_read_410 (fun H locs hP hD hS => ?_)
                                        have hP : va_P D classes (mW cI q sg ou li (upd ba1 (i' % (acc.length + 1)) (nI (pt + i' / (acc.length + 1)))) (nI (LB.length)) (nI (LT.length)) (nI (LN.length)) (nI (([] : List Nat).length))) H := hP
                                        have hD : va_D A (mW cI q sg ou li (upd ba1 (i' % (acc.length + 1)) (nI (pt + i' / (acc.length + 1)))) (nI (LB.length)) (nI (LT.length)) (nI (LN.length)) (nI (([] : List Nat).length))) := hD
                                        refine lv_iload_n hx hb d_M_read_411 rfl (lv_at hl 1 rfl) ?_
                                        refine lv_iconst (v := nI (1)) hx hb d_M_read_412 (by decide) ?_
                                        refine k_iadd hx hb d_M_read_413 ?_
                                        refine lv_istore_n (lv' := [(2, .int (nI ((acc.length) + 1))), (0, .ref (q 0)), (3, .int (nI (p'))), (4, .int (nI (sp_adapt (i' - i) (acc.length + 1) (i == 0)))), (5, .long (lN (pt + i' / (acc.length + 1)))), (7, .long (lN (i' % (acc.length + 1)))), (15, .int (nI (j)))]) hx hb d_M_read_414 rfl hl (Nat.le_of_ble_eq_true rfl) rfl (fun ls hl => ?_)
                                        refine lv_lload hx hb d_M_read_415 (lv_at hl 5 rfl) ?_
                                        refine lv_lconst (v := lN 1) hx hb d_M_read_417 rfl ?_
                                        refine k_ladd hx hb d_M_read_418 ?_
                                        refine lv_lstore (lv' := [(7, .long (lN ((i' % (acc.length + 1)) + 1))), (2, .int (nI ((acc.length) + 1))), (0, .ref (q 0)), (3, .int (nI (p'))), (4, .int (nI (sp_adapt (i' - i) (acc.length + 1) (i == 0)))), (5, .long (lN (pt + i' / (acc.length + 1)))), (15, .int (nI (j)))]) hx hb d_M_read_419 hl (Nat.le_of_ble_eq_true rfl) rfl (fun ls hl => ?_)
                                        refine lv_goto (tgt := 91) hx hb d_M_read_421 (by decide) ?_
                                        have ej : j = i' % (acc.length + 1) := by omega
                                        have hba2 : sp_rep (upd ba1 (i' % (acc.length + 1)) (nI (pt + i' / (acc.length + 1)))) (sp_ins acc (i' % (acc.length + 1)) (pt + i' / (acc.length + 1))) := sp_shift hba (by omega) (fun x hx9 => (hs x (by omega)).2 (by omega)) (fun x h1 h2 => (hs x h2).1 (by omega))
                                        have hd2 : sp_dc (sp_ef LN) LN.length (r - 1) p' (sp_ins acc (i' % (acc.length + 1)) (pt + i' / (acc.length + 1))) (i' % (acc.length + 1) + 1) (pt + i' / (acc.length + 1)) (sp_adapt (i' - i) (acc.length + 1) (i == 0)) = sp_dec LN := (sp_dc_go (r := r - 1) (by omega) hT (by omega)).symm.trans ((congrArg (fun z => sp_dc (sp_ef LN) LN.length z p0 acc i pt bias) (show r - 1 + 1 = r by omega)).trans hd)
                                        have hba9 := sp_adapt_le (i' - i) (acc.length + 1) (i == 0)
                                        have hln := sp_ins_len acc (i' % (acc.length + 1)) (pt + i' / (acc.length + 1))
                                        exact ih3 (r - 1) p' (sp_ins acc (i' % (acc.length + 1)) (pt + i' / (acc.length + 1))) (i' % (acc.length + 1) + 1) (pt + i' / (acc.length + 1)) (sp_adapt (i' - i) (acc.length + 1) (i == 0)) (upd ba1 (i' % (acc.length + 1)) (nI (pt + i' / (acc.length + 1)))) (by omega) (by omega) (by omega) (by omega) (by omega) (by omega) (by omega) (by omega) hba2 hd2 H locs hP hD hS ls (by rw [hln]; exact (lv_sub hl [2, 1, 3, 4, 5, 0] rfl))
                                      · refine lv_aload_n hx hb d_M_read_378 rfl (lv_at hl 0 rfl) ?_
                                        refine m_get (v := .ref (q 4)) hx hb hts hown hK hP rfl 6 (Nat.le_of_ble_eq_true rfl) m1_174 rfl rfl d_M_read_379 ?_
                                        refine lv_iload hx hb d_M_read_382 (lv_at hl 6 rfl) ?_
                                        refine lv_aload_n hx hb d_M_read_384 rfl (lv_at hl 0 rfl) ?_
                                        refine m_get (v := .ref (q 4)) hx hb hts hown hK hP rfl 6 (Nat.le_of_ble_eq_true rfl) m1_174 rfl rfl d_M_read_385 ?_
                                        refine lv_iload hx hb d_M_read_388 (lv_at hl 6 rfl) ?_
                                        refine lv_iconst (v := nI (1)) hx hb d_M_read_390 (by decide) ?_
                                        refine k_isub hx hb (by omega) d_M_read_391 ?_
                                        refine k_iald hx hb hK hP 4 0 rfl rfl (by omega) (by omega) d_M_read_392 ?_
                                        refine k_iast hx hb hK hP hD hS 4 0 rfl rfl (by omega) (by omega) d_M_read_393 (fun H locs hP hD hS => ?_)
                                        have hP : va_P D classes (mW cI q sg ou li (upd ba1 (j) (ba1 (j - 1))) (nI (LB.length)) (nI (LT.length)) (nI (LN.length)) (nI (([] : List Nat).length))) H := hP
                                        have hD : va_D A (mW cI q sg ou li (upd ba1 (j) (ba1 (j - 1))) (nI (LB.length)) (nI (LT.length)) (nI (LN.length)) (nI (([] : List Nat).length))) := hD
                                        refine lv_iinc (v := nI (j - 1)) (lv' := [(15, .int (nI (j - 1))), (0, .ref (q 0)), (2, .int (nI (acc.length))), (3, .int (nI (p'))), (4, .int (nI (sp_adapt (i' - i) (acc.length + 1) (i == 0)))), (5, .long (lN (pt + i' / (acc.length + 1)))), (7, .long (lN (i' % (acc.length + 1))))]) hx hb d_M_read_394 hl (k := 6) rfl (k_dec (by omega)) (Nat.le_of_ble_eq_true rfl) rfl (fun ls hl => ?_)
                                        refine lv_goto (tgt := 369) hx hb d_M_read_397 (by decide) ?_
                                        have hs2 : ∀ x, x ≤ acc.length → (j - 1 < x → upd ba1 j (ba1 (j - 1)) x = ba (x - 1)) ∧ (x ≤ j - 1 → upd ba1 j (ba1 (j - 1)) x = ba x) := by
                                          intro x hx9
                                          have g1 := hs x hx9
                                          have g2 := hs (j - 1) (by omega)
                                          unfold upd
                                          by_cases ex : x = j
                                          · subst ex
                                            rw [if_pos rfl]
                                            exact ⟨fun _ => g2.2 (by omega), fun h => absurd h (by omega)⟩
                                          · rw [if_neg ex]
                                            exact ⟨fun h => g1.1 (by omega), fun h => g1.2 (by omega)⟩
                                        exact ih5 (j - 1) (upd ba1 (j) (ba1 (j - 1))) (by omega) (by omega) (by omega) hs2 H locs hP hD hS ls (lv_sub hl [1, 2, 3, 4, 5, 6, 0] rfl)
                                  exact lp5 (acc.length + 1) (acc.length) ba (by omega) (by omega) (by omega) (fun x hx9 => ⟨fun h => absurd h (by omega), fun _ => rfl⟩) H locs hP hD hS ls (lv_sub hl [8, 9, 6, 3, 2, 1, 0] rfl)
                                · refine lv_lload hx hb d_M_read_355 (lv_at hl 1 rfl) ?_
                                  refine lv_ldc2 (v := lN (57344)) hx hb hown (hts _ m2_3) d_M_read_357 ?_
                                  refine k_lc_ge (tgt := 366) hx hb d_M_read_360 d_M_read_361 (by decide) (by omega) (by omega) (fun c_360 => ?_) (fun c_360 => ?_)
                                  · refine lv_iload_n hx hb d_M_read_366 rfl (lv_at hl 9 rfl) ?_
                                    refine lv_istore (lv' := [(15, .int (nI (acc.length))), (7, .long (lN (i' % ((acc.length) + 1)))), (5, .long (lN (pt + (i' / ((acc.length) + 1))))), (4, .int (nI (sp_adapt (i' - i) (acc.length + 1) (i == 0)))), (14, .int (nI (0))), (17, .int (nI (sp_thr k bias))), (3, .int (nI (p'))), (16, .int (nI (d))), (0, .ref (q 0)), (2, .int (nI (acc.length))), (9, .long (lN (i))), (11, .long (lN (w))), (13, .int (nI (k)))]) hx hb d_M_read_367 hl (Nat.le_of_ble_eq_true rfl) rfl (fun ls hl => ?_)
                                    have lp5 : ∀ (f5 : Nat) (j : Nat) (ba1 : Nat → Int32), j < f5 → (i' % (acc.length + 1) ≤ j) → (j ≤ acc.length) → (∀ x, x ≤ acc.length → (j < x → ba1 x = ba (x - 1)) ∧ (x ≤ j → ba1 x = ba x)) → ∀ (H : Heap) (locs : List Loc), va_P D classes (mW cI q sg ou li ba1 (nI (LB.length)) (nI (LT.length)) (nI (LN.length)) (nI (([] : List Nat).length))) H → va_D A (mW cI q sg ou li ba1 (nI (LB.length)) (nI (LT.length)) (nI (LN.length)) (nI (([] : List Nat).length))) → va_S A s.heap H locs → ∀ ls : Array Slot, lv_has ls 18 [(0, .ref (q 0)), (2, .int (nI (acc.length))), (3, .int (nI (p'))), (4, .int (nI (sp_adapt (i' - i) (acc.length + 1) (i == 0)))), (5, .long (lN (pt + i' / (acc.length + 1)))), (7, .long (lN (i' % (acc.length + 1)))), (15, .int (nI (j)))] → W p l e r_M_read s m args below meth c H locs 0 0 Q (F0 m 369 ls []) := by
                                      intro f5
                                      induction f5 with
                                      | zero => intro j ba1 h; exact absurd h (Nat.not_lt_zero _)
                                      | succ f5 ih5 =>
                                        intro j ba1 hf5 hj1 hj2 hs H locs hP hD hS ls hl
                                        refine lv_iload hx hb d_M_read_369 (lv_at hl 6 rfl) ?_
                                        refine k_i2l hx hb (by omega) d_M_read_371 ?_
                                        refine lv_lload hx hb d_M_read_372 (lv_at hl 5 rfl) ?_
                                        refine k_lc_le (tgt := 400) hx hb d_M_read_374 d_M_read_375 (by decide) (by omega) (by omega) (fun c_374 => ?_) (fun c_374 => ?_)
                                        · refine lv_aload_n hx hb d_M_read_400 rfl (lv_at hl 0 rfl) ?_
                                          refine m_get (v := .ref (q 4)) hx hb hts hown hK hP rfl 6 (Nat.le_of_ble_eq_true rfl) m1_174 rfl rfl d_M_read_401 ?_
                                          refine lv_lload hx hb d_M_read_404 (lv_at hl 5 rfl) ?_
                                          refine k_l2i hx hb d_M_read_406 ?_
                                          refine lv_lload hx hb d_M_read_407 (lv_at hl 4 rfl) ?_
                                          refine k_l2i hx hb d_M_read_409 ?_
                                          refine k_iast hx hb hK hP hD hS 4 0 rfl rfl (by omega) (by omega) d_M_read_410 (fun H locs hP hD hS => ?_)
                                          have hP : va_P D classes (mW cI q sg ou li (upd ba1 (i' % (acc.length + 1)) (nI (pt + i' / (acc.length + 1)))) (nI (LB.length)) (nI (LT.length)) (nI (LN.length)) (nI (([] : List Nat).length))) H := hP
                                          have hD : va_D A (mW cI q sg ou li (upd ba1 (i' % (acc.length + 1)) (nI (pt + i' / (acc.length + 1)))) (nI (LB.length)) (nI (LT.length)) (nI (LN.length)) (nI (([] : List Nat).length))) := hD
                                          refine lv_iload_n hx hb d_M_read_411 rfl (lv_at hl 1 rfl) ?_
                                          refine lv_iconst (v := nI (1)) hx hb d_M_read_412 (by decide) ?_
                                          refine k_iadd hx hb d_M_read_413 ?_
                                          refine lv_istore_n (lv' := [(2, .int (nI ((acc.length) + 1))), (0, .ref (q 0)), (3, .int (nI (p'))), (4, .int (nI (sp_adapt (i' - i) (acc.length + 1) (i == 0)))), (5, .long (lN (pt + i' / (acc.length + 1)))), (7, .long (lN (i' % (acc.length + 1)))), (15, .int (nI (j)))]) hx hb d_M_read_414 rfl hl (Nat.le_of_ble_eq_true rfl) rfl (fun ls hl => ?_)
                                          refine lv_lload hx hb d_M_read_415 (lv_at hl 5 rfl) ?_
                                          refine lv_lconst (v := lN 1) hx hb d_M_read_417 rfl ?_
                                          refine k_ladd hx hb d_M_read_418 ?_
                                          refine lv_lstore (lv' := [(7, .long (lN ((i' % (acc.length + 1)) + 1))), (2, .int (nI ((acc.length) + 1))), (0, .ref (q 0)), (3, .int (nI (p'))), (4, .int (nI (sp_adapt (i' - i) (acc.length + 1) (i == 0)))), (5, .long (lN (pt + i' / (acc.length + 1)))), (15, .int (nI (j)))]) hx hb d_M_read_419 hl (Nat.le_of_ble_eq_true rfl) rfl (fun ls hl => ?_)
                                          refine lv_goto (tgt := 91) hx hb d_M_read_421 (by decide) ?_
                                          have ej : j = i' % (acc.length + 1) := by omega
                                          have hba2 : sp_rep (upd ba1 (i' % (acc.length + 1)) (nI (pt + i' / (acc.length + 1)))) (sp_ins acc (i' % (acc.length + 1)) (pt + i' / (acc.length + 1))) := sp_shift hba (by omega) (fun x hx9 => (hs x (by omega)).2 (by omega)) (fun x h1 h2 => (hs x h2).1 (by omega))
                                          have hd2 : sp_dc (sp_ef LN) LN.length (r - 1) p' (sp_ins acc (i' % (acc.length + 1)) (pt + i' / (acc.length + 1))) (i' % (acc.length + 1) + 1) (pt + i' / (acc.length + 1)) (sp_adapt (i' - i) (acc.length + 1) (i == 0)) = sp_dec LN := (sp_dc_go (r := r - 1) (by omega) hT (by omega)).symm.trans ((congrArg (fun z => sp_dc (sp_ef LN) LN.length z p0 acc i pt bias) (show r - 1 + 1 = r by omega)).trans hd)
                                          have hba9 := sp_adapt_le (i' - i) (acc.length + 1) (i == 0)
                                          have hln := sp_ins_len acc (i' % (acc.length + 1)) (pt + i' / (acc.length + 1))
                                          exact ih3 (r - 1) p' (sp_ins acc (i' % (acc.length + 1)) (pt + i' / (acc.length + 1))) (i' % (acc.length + 1) + 1) (pt + i' / (acc.length + 1)) (sp_adapt (i' - i) (acc.length + 1) (i == 0)) (upd ba1 (i' % (acc.length + 1)) (nI (pt + i' / (acc.length + 1)))) (by omega) (by omega) (by omega) (by omega) (by omega) (by omega) (by omega) (by omega) hba2 hd2 H locs hP hD hS ls (by rw [hln]; exact (lv_sub hl [2, 1, 3, 4, 5, 0] rfl))
                                        · refine lv_aload_n hx hb d_M_read_378 rfl (lv_at hl 0 rfl) ?_
                                          refine m_get (v := .ref (q 4)) hx hb hts hown hK hP rfl 6 (Nat.le_of_ble_eq_true rfl) m1_174 rfl rfl d_M_read_379 ?_
                                          refine lv_iload hx hb d_M_read_382 (lv_at hl 6 rfl) ?_
                                          refine lv_aload_n hx hb d_M_read_384 rfl (lv_at hl 0 rfl) ?_
                                          refine m_get (v := .ref (q 4)) hx hb hts hown hK hP rfl 6 (Nat.le_of_ble_eq_true rfl) m1_174 rfl rfl d_M_read_385 ?_
                                          refine lv_iload hx hb d_M_read_388 (lv_at hl 6 rfl) ?_
                                          refine lv_iconst (v := nI (1)) hx hb d_M_read_390 (by decide) ?_
                                          refine k_isub hx hb (by omega) d_M_read_391 ?_
                                          refine k_iald hx hb hK hP 4 0 rfl rfl (by omega) (by omega) d_M_read_392 ?_
                                          refine k_iast hx hb hK hP hD hS 4 0 rfl rfl (by omega) (by omega) d_M_read_393 (fun H locs hP hD hS => ?_)
                                          have hP : va_P D classes (mW cI q sg ou li (upd ba1 (j) (ba1 (j - 1))) (nI (LB.length)) (nI (LT.length)) (nI (LN.length)) (nI (([] : List Nat).length))) H := hP
                                          have hD : va_D A (mW cI q sg ou li (upd ba1 (j) (ba1 (j - 1))) (nI (LB.length)) (nI (LT.length)) (nI (LN.length)) (nI (([] : List Nat).length))) := hD
                                          refine lv_iinc (v := nI (j - 1)) (lv' := [(15, .int (nI (j - 1))), (0, .ref (q 0)), (2, .int (nI (acc.length))), (3, .int (nI (p'))), (4, .int (nI (sp_adapt (i' - i) (acc.length + 1) (i == 0)))), (5, .long (lN (pt + i' / (acc.length + 1)))), (7, .long (lN (i' % (acc.length + 1))))]) hx hb d_M_read_394 hl (k := 6) rfl (k_dec (by omega)) (Nat.le_of_ble_eq_true rfl) rfl (fun ls hl => ?_)
                                          refine lv_goto (tgt := 369) hx hb d_M_read_397 (by decide) ?_
                                          have hs2 : ∀ x, x ≤ acc.length → (j - 1 < x → upd ba1 j (ba1 (j - 1)) x = ba (x - 1)) ∧ (x ≤ j - 1 → upd ba1 j (ba1 (j - 1)) x = ba x) := by
                                            intro x hx9
                                            have g1 := hs x hx9
                                            have g2 := hs (j - 1) (by omega)
                                            unfold upd
                                            by_cases ex : x = j
                                            · subst ex
                                              rw [if_pos rfl]
                                              exact ⟨fun _ => g2.2 (by omega), fun h => absurd h (by omega)⟩
                                            · rw [if_neg ex]
                                              exact ⟨fun h => g1.1 (by omega), fun h => g1.2 (by omega)⟩
                                          exact ih5 (j - 1) (upd ba1 (j) (ba1 (j - 1))) (by omega) (by omega) (by omega) hs2 H locs hP hD hS ls (lv_sub hl [1, 2, 3, 4, 5, 6, 0] rfl)
                                    exact lp5 (acc.length + 1) (acc.length) ba (by omega) (by omega) (by omega) (fun x hx9 => ⟨fun h => absurd h (by omega), fun _ => rfl⟩) H locs hP hD hS ls (lv_sub hl [8, 9, 6, 3, 2, 1, 0] rfl)
                                  · refine lv_iconst (v := -1) hx hb d_M_read_364 (by decide) ?_
                                    have hdn : sp_dec LN = none := by rw [← hd, show r = (r - 1) + 1 by omega]; exact sp_dc_bad (by omega) hT (by omega)
                                    rw [(sp_rd_n hdn).1, (sp_rd_n hdn).2] at hQ
                                    exact k_reti hx hb hr hlk hQ hK hP hD hS (mP_mk rfl rfl rfl rfl rfl hsg hou hli (sp_rep_nil _)) d_M_read_365
                            · refine lv_iconst (v := nI (1)) hx hb d_M_read_306 (by decide) ?_
                              refine lv_goto (tgt := 311) hx hb d_M_read_307 (by decide) ?_
                              have ht0 : (i == 0) = true := by rw [show i = 0 by omega]; rfl
                              refine k_callR [.int (nI (i' - i)), .int (nI ((acc.length) + 1)), .int (nI (1))] C0 (c_M_adapt l (i' - i) (acc.length + 1) true (by omega) (by omega) (by omega)) m1_218 m1_216 m1_2 m1_217 hd_M_adapt ⟨(Nat.le_of_ble_eq_true rfl), (Nat.le_of_ble_eq_true rfl)⟩ rfl rfl rfl hl.1 (Nat.le_of_ble_eq_true rfl) d_M_read_311 ⟨Nat.zero_le _, Nat.zero_le _⟩ ?_
                              refine k_cvi (show _ = nI (sp_adapt (i' - i) (acc.length + 1) (i == 0)) from by rw [ht0]) ?_
                              refine lv_istore (lv' := [(4, .int (nI (sp_adapt (i' - i) (acc.length + 1) (i == 0)))), (14, .int (nI (0))), (17, .int (nI (sp_thr k bias))), (7, .long (lN (i'))), (3, .int (nI (p'))), (16, .int (nI (d))), (15, .int (nI (LN.getD pp 0))), (0, .ref (q 0)), (2, .int (nI (acc.length))), (5, .long (lN (pt))), (9, .long (lN (i))), (11, .long (lN (w))), (13, .int (nI (k)))]) hx hb d_M_read_314 hl (Nat.le_of_ble_eq_true rfl) rfl (fun ls hl => ?_)
                              refine lv_lload hx hb d_M_read_316 (lv_at hl 9 rfl) ?_
                              refine lv_lload hx hb d_M_read_318 (lv_at hl 3 rfl) ?_
                              refine lv_iload_n hx hb d_M_read_320 rfl (lv_at hl 8 rfl) ?_
                              refine lv_iconst (v := nI (1)) hx hb d_M_read_321 (by decide) ?_
                              refine k_iadd hx hb d_M_read_322 ?_
                              refine k_i2l hx hb (by omega) d_M_read_323 ?_
                              refine k_ldiv hx hb (by omega) (by omega) (by omega) d_M_read_324 ?_
                              refine k_ladd hx hb d_M_read_325 ?_
                              refine lv_lstore (lv' := [(5, .long (lN (pt + (i' / ((acc.length) + 1))))), (4, .int (nI (sp_adapt (i' - i) (acc.length + 1) (i == 0)))), (14, .int (nI (0))), (17, .int (nI (sp_thr k bias))), (7, .long (lN (i'))), (3, .int (nI (p'))), (16, .int (nI (d))), (15, .int (nI (LN.getD pp 0))), (0, .ref (q 0)), (2, .int (nI (acc.length))), (9, .long (lN (i))), (11, .long (lN (w))), (13, .int (nI (k)))]) hx hb d_M_read_326 hl (Nat.le_of_ble_eq_true rfl) rfl (fun ls hl => ?_)
                              refine lv_lload hx hb d_M_read_328 (lv_at hl 4 rfl) ?_
                              refine lv_iload_n hx hb d_M_read_330 rfl (lv_at hl 9 rfl) ?_
                              refine lv_iconst (v := nI (1)) hx hb d_M_read_331 (by decide) ?_
                              refine k_iadd hx hb d_M_read_332 ?_
                              refine k_i2l hx hb (by omega) d_M_read_333 ?_
                              refine k_lrem hx hb (by omega) (by omega) (by omega) d_M_read_334 ?_
                              refine lv_lstore (lv' := [(7, .long (lN (i' % ((acc.length) + 1)))), (5, .long (lN (pt + (i' / ((acc.length) + 1))))), (4, .int (nI (sp_adapt (i' - i) (acc.length + 1) (i == 0)))), (14, .int (nI (0))), (17, .int (nI (sp_thr k bias))), (3, .int (nI (p'))), (16, .int (nI (d))), (15, .int (nI (LN.getD pp 0))), (0, .ref (q 0)), (2, .int (nI (acc.length))), (9, .long (lN (i))), (11, .long (lN (w))), (13, .int (nI (k)))]) hx hb d_M_read_335 hl (Nat.le_of_ble_eq_true rfl) rfl (fun ls hl => ?_)
                              refine lv_lload hx hb d_M_read_337 (lv_at hl 1 rfl) ?_
                              refine lv_ldc2 (v := lN (1114111)) hx hb hown (hts _ m2_1) d_M_read_339 ?_
                              refine k_lc_gt (tgt := 364) hx hb d_M_read_342 d_M_read_343 (by decide) (by omega) (by omega) (fun c_342 => ?_) (fun c_342 => ?_)
                              · refine lv_iconst (v := -1) hx hb d_M_read_364 (by decide) ?_
                                have hdn : sp_dec LN = none := by rw [← hd, show r = (r - 1) + 1 by omega]; exact sp_dc_bad (by omega) hT (by omega)
                                rw [(sp_rd_n hdn).1, (sp_rd_n hdn).2] at hQ
                                exact k_reti hx hb hr hlk hQ hK hP hD hS (mP_mk rfl rfl rfl rfl rfl hsg hou hli (sp_rep_nil _)) d_M_read_365
                              · refine lv_lload hx hb d_M_read_346 (lv_at hl 1 rfl) ?_
                                refine lv_ldc2 (v := lN (55296)) hx hb hown (hts _ m2_2) d_M_read_348 ?_
                                refine k_lc_lt (tgt := 366) hx hb d_M_read_351 d_M_read_352 (by decide) (by omega) (by omega) (fun c_351 => ?_) (fun c_351 => ?_)
                                · refine lv_iload_n hx hb d_M_read_366 rfl (lv_at hl 9 rfl) ?_
                                  refine lv_istore (lv' := [(15, .int (nI (acc.length))), (7, .long (lN (i' % ((acc.length) + 1)))), (5, .long (lN (pt + (i' / ((acc.length) + 1))))), (4, .int (nI (sp_adapt (i' - i) (acc.length + 1) (i == 0)))), (14, .int (nI (0))), (17, .int (nI (sp_thr k bias))), (3, .int (nI (p'))), (16, .int (nI (d))), (0, .ref (q 0)), (2, .int (nI (acc.length))), (9, .long (lN (i))), (11, .long (lN (w))), (13, .int (nI (k)))]) hx hb d_M_read_367 hl (Nat.le_of_ble_eq_true rfl) rfl (fun ls hl => ?_)
                                  have lp5 : ∀ (f5 : Nat) (j : Nat) (ba1 : Nat → Int32), j < f5 → (i' % (acc.length + 1) ≤ j) → (j ≤ acc.length) → (∀ x, x ≤ acc.length → (j < x → ba1 x = ba (x - 1)) ∧ (x ≤ j → ba1 x = ba x)) → ∀ (H : Heap) (locs : List Loc), va_P D classes (mW cI q sg ou li ba1 (nI (LB.length)) (nI (LT.length)) (nI (LN.length)) (nI (([] : List Nat).length))) H → va_D A (mW cI q sg ou li ba1 (nI (LB.length)) (nI (LT.length)) (nI (LN.length)) (nI (([] : List Nat).length))) → va_S A s.heap H locs → ∀ ls : Array Slot, lv_has ls 18 [(0, .ref (q 0)), (2, .int (nI (acc.length))), (3, .int (nI (p'))), (4, .int (nI (sp_adapt (i' - i) (acc.length + 1) (i == 0)))), (5, .long (lN (pt + i' / (acc.length + 1)))), (7, .long (lN (i' % (acc.length + 1)))), (15, .int (nI (j)))] → W p l e r_M_read s m args below meth c H locs 0 0 Q (F0 m 369 ls []) := by
                                    intro f5
                                    induction f5 with
                                    | zero => intro j ba1 h; exact absurd h (Nat.not_lt_zero _)
                                    | succ f5 ih5 =>
                                      intro j ba1 hf5 hj1 hj2 hs H locs hP hD hS ls hl
                                      refine lv_iload hx hb d_M_read_369 (lv_at hl 6 rfl) ?_
                                      refine k_i2l hx hb (by omega) d_M_read_371 ?_
                                      refine lv_lload hx hb d_M_read_372 (lv_at hl 5 rfl) ?_
                                      refine k_lc_le (tgt := 400) hx hb d_M_read_374 d_M_read_375 (by decide) (by omega) (by omega) (fun c_374 => ?_) (fun c_374 => ?_)
                                      · refine lv_aload_n hx hb d_M_read_400 rfl (lv_at hl 0 rfl) ?_
                                        refine m_get (v := .ref (q 4)) hx hb hts hown hK hP rfl 6 (Nat.le_of_ble_eq_true rfl) m1_174 rfl rfl d_M_read_401 ?_
                                        refine lv_lload hx hb d_M_read_404 (lv_at hl 5 rfl) ?_
                                        refine k_l2i hx hb d_M_read_406 ?_
                                        refine lv_lload hx hb d_M_read_407 (lv_at hl 4 rfl) ?_
                                        refine k_l2i hx hb d_M_read_409 ?_
                                        refine k_iast hx hb hK hP hD hS 4 0 rfl rfl (by omega) (by omega) d_M_read_410 (fun H locs hP hD hS => ?_)
                                        have hP : va_P D classes (mW cI q sg ou li (upd ba1 (i' % (acc.length + 1)) (nI (pt + i' / (acc.length + 1)))) (nI (LB.length)) (nI (LT.length)) (nI (LN.length)) (nI (([] : List Nat).length))) H := hP
                                        have hD : va_D A (mW cI q sg ou li (upd ba1 (i' % (acc.length + 1)) (nI (pt + i' / (acc.length + 1)))) (nI (LB.length)) (nI (LT.length)) (nI (LN.length)) (nI (([] : List Nat).length))) := hD
                                        refine lv_iload_n hx hb d_M_read_411 rfl (lv_at hl 1 rfl) ?_
                                        refine lv_iconst (v := nI (1)) hx hb d_M_read_412 (by decide) ?_
                                        refine k_iadd hx hb d_M_read_413 ?_
                                        refine lv_istore_n (lv' := [(2, .int (nI ((acc.length) + 1))), (0, .ref (q 0)), (3, .int (nI (p'))), (4, .int (nI (sp_adapt (i' - i) (acc.length + 1) (i == 0)))), (5, .long (lN (pt + i' / (acc.length + 1)))), (7, .long (lN (i' % (acc.length + 1)))), (15, .int (nI (j)))]) hx hb d_M_read_414 rfl hl (Nat.le_of_ble_eq_true rfl) rfl (fun ls hl => ?_)
                                        refine lv_lload hx hb d_M_read_415 (lv_at hl 5 rfl) ?_
                                        refine lv_lconst (v := lN 1) hx hb d_M_read_417 rfl ?_
                                        refine k_ladd hx hb d_M_read_418 ?_
                                        refine lv_lstore (lv' := [(7, .long (lN ((i' % (acc.length + 1)) + 1))), (2, .int (nI ((acc.length) + 1))), (0, .ref (q 0)), (3, .int (nI (p'))), (4, .int (nI (sp_adapt (i' - i) (acc.length + 1) (i == 0)))), (5, .long (lN (pt + i' / (acc.length + 1)))), (15, .int (nI (j)))]) hx hb d_M_read_419 hl (Nat.le_of_ble_eq_true rfl) rfl (fun ls hl => ?_)
                                        refine lv_goto (tgt := 91) hx hb d_M_read_421 (by decide) ?_
                                        have ej : j = i' % (acc.length + 1) := by omega
                                        have hba2 : sp_rep (upd ba1 (i' % (acc.length + 1)) (nI (pt + i' / (acc.length + 1)))) (sp_ins acc (i' % (acc.length + 1)) (pt + i' / (acc.length + 1))) := sp_shift hba (by omega) (fun x hx9 => (hs x (by omega)).2 (by omega)) (fun x h1 h2 => (hs x h2).1 (by omega))
                                        have hd2 : sp_dc (sp_ef LN) LN.length (r - 1) p' (sp_ins acc (i' % (acc.length + 1)) (pt + i' / (acc.length + 1))) (i' % (acc.length + 1) + 1) (pt + i' / (acc.length + 1)) (sp_adapt (i' - i) (acc.length + 1) (i == 0)) = sp_dec LN := (sp_dc_go (r := r - 1) (by omega) hT (by omega)).symm.trans ((congrArg (fun z => sp_dc (sp_ef LN) LN.length z p0 acc i pt bias) (show r - 1 + 1 = r by omega)).trans hd)
                                        have hba9 := sp_adapt_le (i' - i) (acc.length + 1) (i == 0)
                                        have hln := sp_ins_len acc (i' % (acc.length + 1)) (pt + i' / (acc.length + 1))
                                        exact ih3 (r - 1) p' (sp_ins acc (i' % (acc.length + 1)) (pt + i' / (acc.length + 1))) (i' % (acc.length + 1) + 1) (pt + i' / (acc.length + 1)) (sp_adapt (i' - i) (acc.length + 1) (i == 0)) (upd ba1 (i' % (acc.length + 1)) (nI (pt + i' / (acc.length + 1)))) (by omega) (by omega) (by omega) (by omega) (by omega) (by omega) (by omega) (by omega) hba2 hd2 H locs hP hD hS ls (by rw [hln]; exact (lv_sub hl [2, 1, 3, 4, 5, 0] rfl))
                                      · refine lv_aload_n hx hb d_M_read_378 rfl (lv_at hl 0 rfl) ?_
                                        refine m_get (v := .ref (q 4)) hx hb hts hown hK hP rfl 6 (Nat.le_of_ble_eq_true rfl) m1_174 rfl rfl d_M_read_379 ?_
                                        refine lv_iload hx hb d_M_read_382 (lv_at hl 6 rfl) ?_
                                        refine lv_aload_n hx hb d_M_read_384 rfl (lv_at hl 0 rfl) ?_
                                        refine m_get (v := .ref (q 4)) hx hb hts hown hK hP rfl 6 (Nat.le_of_ble_eq_true rfl) m1_174 rfl rfl d_M_read_385 ?_
                                        refine lv_iload hx hb d_M_read_388 (lv_at hl 6 rfl) ?_
                                        refine lv_iconst (v := nI (1)) hx hb d_M_read_390 (by decide) ?_
                                        refine k_isub hx hb (by omega) d_M_read_391 ?_
                                        refine k_iald hx hb hK hP 4 0 rfl rfl (by omega) (by omega) d_M_read_392 ?_
                                        refine k_iast hx hb hK hP hD hS 4 0 rfl rfl (by omega) (by omega) d_M_read_393 (fun H locs hP hD hS => ?_)
                                        have hP : va_P D classes (mW cI q sg ou li (upd ba1 (j) (ba1 (j - 1))) (nI (LB.length)) (nI (LT.length)) (nI (LN.length)) (nI (([] : List Nat).length))) H := hP
                                        have hD : va_D A (mW cI q sg ou li (upd ba1 (j) (ba1 (j - 1))) (nI (LB.length)) (nI (LT.length)) (nI (LN.length)) (nI (([] : List Nat).length))) := hD
                                        refine lv_iinc (v := nI (j - 1)) (lv' := [(15, .int (nI (j - 1))), (0, .ref (q 0)), (2, .int (nI (acc.length))), (3, .int (nI (p'))), (4, .int (nI (sp_adapt (i' - i) (acc.length + 1) (i == 0)))), (5, .long (lN (pt + i' / (acc.length + 1)))), (7, .long (lN (i' % (acc.length + 1))))]) hx hb d_M_read_394 hl (k := 6) rfl (k_dec (by omega)) (Nat.le_of_ble_eq_true rfl) rfl (fun ls hl => ?_)
                                        refine lv_goto (tgt := 369) hx hb d_M_read_397 (by decide) ?_
                                        have hs2 : ∀ x, x ≤ acc.length → (j - 1 < x → upd ba1 j (ba1 (j - 1)) x = ba (x - 1)) ∧ (x ≤ j - 1 → upd ba1 j (ba1 (j - 1)) x = ba x) := by
                                          intro x hx9
                                          have g1 := hs x hx9
                                          have g2 := hs (j - 1) (by omega)
                                          unfold upd
                                          by_cases ex : x = j
                                          · subst ex
                                            rw [if_pos rfl]
                                            exact ⟨fun _ => g2.2 (by omega), fun h => absurd h (by omega)⟩
                                          · rw [if_neg ex]
                                            exact ⟨fun h => g1.1 (by omega), fun h => g1.2 (by omega)⟩
                                        exact ih5 (j - 1) (upd ba1 (j) (ba1 (j - 1))) (by omega) (by omega) (by omega) hs2 H locs hP hD hS ls (lv_sub hl [1, 2, 3, 4, 5, 6, 0] rfl)
                                  exact lp5 (acc.length + 1) (acc.length) ba (by omega) (by omega) (by omega) (fun x hx9 => ⟨fun h => absurd h (by omega), fun _ => rfl⟩) H locs hP hD hS ls (lv_sub hl [8, 9, 6, 3, 2, 1, 0] rfl)
                                · refine lv_lload hx hb d_M_read_355 (lv_at hl 1 rfl) ?_
                                  refine lv_ldc2 (v := lN (57344)) hx hb hown (hts _ m2_3) d_M_read_357 ?_
                                  refine k_lc_ge (tgt := 366) hx hb d_M_read_360 d_M_read_361 (by decide) (by omega) (by omega) (fun c_360 => ?_) (fun c_360 => ?_)
                                  · refine lv_iload_n hx hb d_M_read_366 rfl (lv_at hl 9 rfl) ?_
                                    refine lv_istore (lv' := [(15, .int (nI (acc.length))), (7, .long (lN (i' % ((acc.length) + 1)))), (5, .long (lN (pt + (i' / ((acc.length) + 1))))), (4, .int (nI (sp_adapt (i' - i) (acc.length + 1) (i == 0)))), (14, .int (nI (0))), (17, .int (nI (sp_thr k bias))), (3, .int (nI (p'))), (16, .int (nI (d))), (0, .ref (q 0)), (2, .int (nI (acc.length))), (9, .long (lN (i))), (11, .long (lN (w))), (13, .int (nI (k)))]) hx hb d_M_read_367 hl (Nat.le_of_ble_eq_true rfl) rfl (fun ls hl => ?_)
                                    have lp5 : ∀ (f5 : Nat) (j : Nat) (ba1 : Nat → Int32), j < f5 → (i' % (acc.length + 1) ≤ j) → (j ≤ acc.length) → (∀ x, x ≤ acc.length → (j < x → ba1 x = ba (x - 1)) ∧ (x ≤ j → ba1 x = ba x)) → ∀ (H : Heap) (locs : List Loc), va_P D classes (mW cI q sg ou li ba1 (nI (LB.length)) (nI (LT.length)) (nI (LN.length)) (nI (([] : List Nat).length))) H → va_D A (mW cI q sg ou li ba1 (nI (LB.length)) (nI (LT.length)) (nI (LN.length)) (nI (([] : List Nat).length))) → va_S A s.heap H locs → ∀ ls : Array Slot, lv_has ls 18 [(0, .ref (q 0)), (2, .int (nI (acc.length))), (3, .int (nI (p'))), (4, .int (nI (sp_adapt (i' - i) (acc.length + 1) (i == 0)))), (5, .long (lN (pt + i' / (acc.length + 1)))), (7, .long (lN (i' % (acc.length + 1)))), (15, .int (nI (j)))] → W p l e r_M_read s m args below meth c H locs 0 0 Q (F0 m 369 ls []) := by
                                      intro f5
                                      induction f5 with
                                      | zero => intro j ba1 h; exact absurd h (Nat.not_lt_zero _)
                                      | succ f5 ih5 =>
                                        intro j ba1 hf5 hj1 hj2 hs H locs hP hD hS ls hl
                                        refine lv_iload hx hb d_M_read_369 (lv_at hl 6 rfl) ?_
                                        refine k_i2l hx hb (by omega) d_M_read_371 ?_
                                        refine lv_lload hx hb d_M_read_372 (lv_at hl 5 rfl) ?_
                                        refine k_lc_le (tgt := 400) hx hb d_M_read_374 d_M_read_375 (by decide) (by omega) (by omega) (fun c_374 => ?_) (fun c_374 => ?_)
                                        · refine lv_aload_n hx hb d_M_read_400 rfl (lv_at hl 0 rfl) ?_
                                          refine m_get (v := .ref (q 4)) hx hb hts hown hK hP rfl 6 (Nat.le_of_ble_eq_true rfl) m1_174 rfl rfl d_M_read_401 ?_
                                          refine lv_lload hx hb d_M_read_404 (lv_at hl 5 rfl) ?_
                                          refine k_l2i hx hb d_M_read_406 ?_
                                          refine lv_lload hx hb d_M_read_407 (lv_at hl 4 rfl) ?_
                                          refine k_l2i hx hb d_M_read_409 ?_
                                          refine k_iast hx hb hK hP hD hS 4 0 rfl rfl (by omega) (by omega) d_M_read_410 (fun H locs hP hD hS => ?_)
                                          have hP : va_P D classes (mW cI q sg ou li (upd ba1 (i' % (acc.length + 1)) (nI (pt + i' / (acc.length + 1)))) (nI (LB.length)) (nI (LT.length)) (nI (LN.length)) (nI (([] : List Nat).length))) H := hP
                                          have hD : va_D A (mW cI q sg ou li (upd ba1 (i' % (acc.length + 1)) (nI (pt + i' / (acc.length + 1)))) (nI (LB.length)) (nI (LT.length)) (nI (LN.length)) (nI (([] : List Nat).length))) := hD
                                          refine lv_iload_n hx hb d_M_read_411 rfl (lv_at hl 1 rfl) ?_
                                          refine lv_iconst (v := nI (1)) hx hb d_M_read_412 (by decide) ?_
                                          refine k_iadd hx hb d_M_read_413 ?_
                                          refine lv_istore_n (lv' := [(2, .int (nI ((acc.length) + 1))), (0, .ref (q 0)), (3, .int (nI (p'))), (4, .int (nI (sp_adapt (i' - i) (acc.length + 1) (i == 0)))), (5, .long (lN (pt + i' / (acc.length + 1)))), (7, .long (lN (i' % (acc.length + 1)))), (15, .int (nI (j)))]) hx hb d_M_read_414 rfl hl (Nat.le_of_ble_eq_true rfl) rfl (fun ls hl => ?_)
                                          refine lv_lload hx hb d_M_read_415 (lv_at hl 5 rfl) ?_
                                          refine lv_lconst (v := lN 1) hx hb d_M_read_417 rfl ?_
                                          refine k_ladd hx hb d_M_read_418 ?_
                                          refine lv_lstore (lv' := [(7, .long (lN ((i' % (acc.length + 1)) + 1))), (2, .int (nI ((acc.length) + 1))), (0, .ref (q 0)), (3, .int (nI (p'))), (4, .int (nI (sp_adapt (i' - i) (acc.length + 1) (i == 0)))), (5, .long (lN (pt + i' / (acc.length + 1)))), (15, .int (nI (j)))]) hx hb d_M_read_419 hl (Nat.le_of_ble_eq_true rfl) rfl (fun ls hl => ?_)
                                          refine lv_goto (tgt := 91) hx hb d_M_read_421 (by decide) ?_
                                          have ej : j = i' % (acc.length + 1) := by omega
                                          have hba2 : sp_rep (upd ba1 (i' % (acc.length + 1)) (nI (pt + i' / (acc.length + 1)))) (sp_ins acc (i' % (acc.length + 1)) (pt + i' / (acc.length + 1))) := sp_shift hba (by omega) (fun x hx9 => (hs x (by omega)).2 (by omega)) (fun x h1 h2 => (hs x h2).1 (by omega))
                                          have hd2 : sp_dc (sp_ef LN) LN.length (r - 1) p' (sp_ins acc (i' % (acc.length + 1)) (pt + i' / (acc.length + 1))) (i' % (acc.length + 1) + 1) (pt + i' / (acc.length + 1)) (sp_adapt (i' - i) (acc.length + 1) (i == 0)) = sp_dec LN := (sp_dc_go (r := r - 1) (by omega) hT (by omega)).symm.trans ((congrArg (fun z => sp_dc (sp_ef LN) LN.length z p0 acc i pt bias) (show r - 1 + 1 = r by omega)).trans hd)
                                          have hba9 := sp_adapt_le (i' - i) (acc.length + 1) (i == 0)
                                          have hln := sp_ins_len acc (i' % (acc.length + 1)) (pt + i' / (acc.length + 1))
                                          exact ih3 (r - 1) p' (sp_ins acc (i' % (acc.length + 1)) (pt + i' / (acc.length + 1))) (i' % (acc.length + 1) + 1) (pt + i' / (acc.length + 1)) (sp_adapt (i' - i) (acc.length + 1) (i == 0)) (upd ba1 (i' % (acc.length + 1)) (nI (pt + i' / (acc.length + 1)))) (by omega) (by omega) (by omega) (by omega) (by omega) (by omega) (by omega) (by omega) hba2 hd2 H locs hP hD hS ls (by rw [hln]; exact (lv_sub hl [2, 1, 3, 4, 5, 0] rfl))
                                        · refine lv_aload_n hx hb d_M_read_378 rfl (lv_at hl 0 rfl) ?_
                                          refine m_get (v := .ref (q 4)) hx hb hts hown hK hP rfl 6 (Nat.le_of_ble_eq_true rfl) m1_174 rfl rfl d_M_read_379 ?_
                                          refine lv_iload hx hb d_M_read_382 (lv_at hl 6 rfl) ?_
                                          refine lv_aload_n hx hb d_M_read_384 rfl (lv_at hl 0 rfl) ?_
                                          refine m_get (v := .ref (q 4)) hx hb hts hown hK hP rfl 6 (Nat.le_of_ble_eq_true rfl) m1_174 rfl rfl d_M_read_385 ?_
                                          refine lv_iload hx hb d_M_read_388 (lv_at hl 6 rfl) ?_
                                          refine lv_iconst (v := nI (1)) hx hb d_M_read_390 (by decide) ?_
                                          refine k_isub hx hb (by omega) d_M_read_391 ?_
                                          refine k_iald hx hb hK hP 4 0 rfl rfl (by omega) (by omega) d_M_read_392 ?_
                                          refine k_iast hx hb hK hP hD hS 4 0 rfl rfl (by omega) (by omega) d_M_read_393 (fun H locs hP hD hS => ?_)
                                          have hP : va_P D classes (mW cI q sg ou li (upd ba1 (j) (ba1 (j - 1))) (nI (LB.length)) (nI (LT.length)) (nI (LN.length)) (nI (([] : List Nat).length))) H := hP
                                          have hD : va_D A (mW cI q sg ou li (upd ba1 (j) (ba1 (j - 1))) (nI (LB.length)) (nI (LT.length)) (nI (LN.length)) (nI (([] : List Nat).length))) := hD
                                          refine lv_iinc (v := nI (j - 1)) (lv' := [(15, .int (nI (j - 1))), (0, .ref (q 0)), (2, .int (nI (acc.length))), (3, .int (nI (p'))), (4, .int (nI (sp_adapt (i' - i) (acc.length + 1) (i == 0)))), (5, .long (lN (pt + i' / (acc.length + 1)))), (7, .long (lN (i' % (acc.length + 1))))]) hx hb d_M_read_394 hl (k := 6) rfl (k_dec (by omega)) (Nat.le_of_ble_eq_true rfl) rfl (fun ls hl => ?_)
                                          refine lv_goto (tgt := 369) hx hb d_M_read_397 (by decide) ?_
                                          have hs2 : ∀ x, x ≤ acc.length → (j - 1 < x → upd ba1 j (ba1 (j - 1)) x = ba (x - 1)) ∧ (x ≤ j - 1 → upd ba1 j (ba1 (j - 1)) x = ba x) := by
                                            intro x hx9
                                            have g1 := hs x hx9
                                            have g2 := hs (j - 1) (by omega)
                                            unfold upd
                                            by_cases ex : x = j
                                            · subst ex
                                              rw [if_pos rfl]
                                              exact ⟨fun _ => g2.2 (by omega), fun h => absurd h (by omega)⟩
                                            · rw [if_neg ex]
                                              exact ⟨fun h => g1.1 (by omega), fun h => g1.2 (by omega)⟩
                                          exact ih5 (j - 1) (upd ba1 (j) (ba1 (j - 1))) (by omega) (by omega) (by omega) hs2 H locs hP hD hS ls (lv_sub hl [1, 2, 3, 4, 5, 6, 0] rfl)
                                    exact lp5 (acc.length + 1) (acc.length) ba (by omega) (by omega) (by omega) (fun x hx9 => ⟨fun h => absurd h (by omega), fun _ => rfl⟩) H locs hP hD hS ls (lv_sub hl [8, 9, 6, 3, 2, 1, 0] rfl)
                                  · refine lv_iconst (v := -1) hx hb d_M_read_364 (by decide) ?_
                                    have hdn : sp_dec LN = none := by rw [← hd, show r = (r - 1) + 1 by omega]; exact sp_dc_bad (by omega) hT (by omega)
                                    rw [(sp_rd_n hdn).1, (sp_rd_n hdn).2] at hQ
                                    exact k_reti hx hb hr hlk hQ hK hP hD hS (mP_mk rfl rfl rfl rfl rfl hsg hou hli (sp_rep_nil _)) d_M_read_365
                          · exact absurd c_115 (by omega)
                      refine lv_iload hx hb d_M_read_212 (lv_at hl 10 rfl) ?_
                      refine lv_iload hx hb d_M_read_214 (lv_at hl 6 rfl) ?_
                      refine k_icmp_gt (tgt := 223) hx hb d_M_read_216 (by decide) (by omega) (by omega) (fun c_216 => ?_) (fun c_216 => ?_)
                      · refine lv_iload hx hb d_M_read_223 (lv_at hl 10 rfl) ?_
                        refine lv_iload hx hb d_M_read_225 (lv_at hl 6 rfl) ?_
                        refine lv_bipush (v := nI (26)) hx hb d_M_read_227 (by decide) ?_
                        refine k_iadd hx hb d_M_read_229 ?_
                        refine k_icmp_lt (tgt := 238) hx hb d_M_read_230 (by decide) (by omega) (by omega) (fun c_230 => ?_) (fun c_230 => ?_)
                        · refine lv_iload hx hb d_M_read_238 (lv_at hl 10 rfl) ?_
                          refine lv_iload hx hb d_M_read_240 (lv_at hl 6 rfl) ?_
                          refine k_isub hx hb (by omega) d_M_read_242 ?_
                          refine k_cvi (show _ = nI (sp_thr k bias) from by first | rw [sp_thr_1 (by omega)] | rw [sp_thr_26 (by omega)] | rw [sp_thr_mid (by omega) (by omega)]) ?_
                          exact J4   ls (lv_sub hl [0, 1, 2, 3, 4, 5, 6, 7, 8, 9, 10, 11] rfl)
                        · refine lv_bipush (v := nI (26)) hx hb d_M_read_233 (by decide) ?_
                          refine lv_goto (tgt := 243) hx hb d_M_read_235 (by decide) ?_
                          refine k_cvi (show _ = nI (sp_thr k bias) from by first | rw [sp_thr_1 (by omega)] | rw [sp_thr_26 (by omega)] | rw [sp_thr_mid (by omega) (by omega)]) ?_
                          exact J4   ls (lv_sub hl [0, 1, 2, 3, 4, 5, 6, 7, 8, 9, 10, 11] rfl)
                      · refine lv_iconst (v := nI (1)) hx hb d_M_read_219 (by decide) ?_
                        refine lv_goto (tgt := 243) hx hb d_M_read_220 (by decide) ?_
                        refine k_cvi (show _ = nI (sp_thr k bias) from by first | rw [sp_thr_1 (by omega)] | rw [sp_thr_26 (by omega)] | rw [sp_thr_mid (by omega) (by omega)]) ?_
                        exact J4   ls (lv_sub hl [0, 1, 2, 3, 4, 5, 6, 7, 8, 9, 10, 11] rfl)
                    · refine lv_iconst (v := -1) hx hb d_M_read_210 (by decide) ?_
                      have hT : sp_told (sp_ef LN) bias (LN.length - p0) p0 i 1 36 = none := by rw [← he, show LN.length - pp = (LN.length - (pp + 1)) + 1 by omega]; exact sp_told_b (show sp_dig (sp_ef LN pp) = some d from ed) (by omega)
                      have hdn : sp_dec LN = none := by rw [← hd, show r = (r - 1) + 1 by omega]; exact sp_dc_no (by omega) hT
                      rw [(sp_rd_n hdn).1, (sp_rd_n hdn).2] at hQ
                      exact k_reti hx hb hr hlk hQ hK hP hD hS (mP_mk rfl rfl rfl rfl rfl hsg hou hli (sp_rep_nil _)) d_M_read_211
                  · have ed : sp_dig (LN.getD pp 0) = none := hdd.elim (fun a => absurd c_185 (Nat.ne_of_lt a.2)) (fun a => a.1)
                    refine lv_iconst (v := -1) hx hb d_M_read_188 (by decide) ?_
                    have hT : sp_told (sp_ef LN) bias (LN.length - p0) p0 i 1 36 = none := by rw [← he, show LN.length - pp = (LN.length - (pp + 1)) + 1 by omega]; exact sp_told_n (show sp_dig (sp_ef LN pp) = none from ed)
                    have hdn : sp_dec LN = none := by rw [← hd, show r = (r - 1) + 1 by omega]; exact sp_dc_no (by omega) hT
                    rw [(sp_rd_n hdn).1, (sp_rd_n hdn).2] at hQ
                    exact k_reti hx hb hr hlk hQ hK hP hD hS (mP_mk rfl rfl rfl rfl rfl hsg hou hli (sp_rep_nil _)) d_M_read_189
                refine lv_iload hx hb d_M_read_136 (lv_at hl 0 rfl) ?_
                refine lv_bipush (v := nI (97)) hx hb d_M_read_138 (by decide) ?_
                refine k_icmp_lt (tgt := 151) hx hb d_M_read_140 (by decide) (by omega) (by omega) (fun c_140 => ?_) (fun c_140 => ?_)
                · refine lv_iload hx hb d_M_read_151 (lv_at hl 0 rfl) ?_
                  refine lv_bipush (v := nI (48)) hx hb d_M_read_153 (by decide) ?_
                  refine k_icmp_lt (tgt := 173) hx hb d_M_read_155 (by decide) (by omega) (by omega) (fun c_155 => ?_) (fun c_155 => ?_)
                  · refine lv_bipush (v := nI (36)) hx hb d_M_read_173 (by decide) ?_
                    exact JD 36 (Or.inr ⟨sp_dig_n (by omega) (by omega), rfl⟩) ls (lv_sub hl [0, 1, 2, 3, 4, 5, 6, 7, 8, 9, 10] rfl)
                  · refine lv_iload hx hb d_M_read_158 (lv_at hl 0 rfl) ?_
                    refine lv_bipush (v := nI (58)) hx hb d_M_read_160 (by decide) ?_
                    refine k_icmp_ge (tgt := 173) hx hb d_M_read_162 (by decide) (by omega) (by omega) (fun c_162 => ?_) (fun c_162 => ?_)
                    · refine lv_bipush (v := nI (36)) hx hb d_M_read_173 (by decide) ?_
                      exact JD 36 (Or.inr ⟨sp_dig_n (by omega) (by omega), rfl⟩) ls (lv_sub hl [0, 1, 2, 3, 4, 5, 6, 7, 8, 9, 10] rfl)
                    · refine lv_iload hx hb d_M_read_165 (lv_at hl 0 rfl) ?_
                      refine lv_bipush (v := nI (22)) hx hb d_M_read_167 (by decide) ?_
                      refine k_isub hx hb (by omega) d_M_read_169 ?_
                      refine lv_goto (tgt := 175) hx hb d_M_read_170 (by decide) ?_
                      exact JD ((LN.getD (pp) 0) - 22) (Or.inl ⟨sp_dig_9 (by omega) (by omega), by omega⟩) ls (lv_sub hl [0, 1, 2, 3, 4, 5, 6, 7, 8, 9, 10] rfl)
                · refine lv_iload hx hb d_M_read_143 (lv_at hl 0 rfl) ?_
                  refine lv_bipush (v := nI (97)) hx hb d_M_read_145 (by decide) ?_
                  refine k_isub hx hb (by omega) d_M_read_147 ?_
                  refine lv_goto (tgt := 175) hx hb d_M_read_148 (by decide) ?_
                  exact JD ((LN.getD (pp) 0) - 97) (Or.inl ⟨sp_dig_a (by omega) (by omega), by omega⟩) ls (lv_sub hl [0, 1, 2, 3, 4, 5, 6, 7, 8, 9, 10] rfl)
              · refine lv_iconst (v := -1) hx hb d_M_read_126 (by decide) ?_
                have hT : sp_told (sp_ef LN) bias (LN.length - p0) p0 i 1 36 = none := by rw [← he, show LN.length - pp = 0 by omega]; rfl
                have hdn : sp_dec LN = none := by rw [← hd, show r = (r - 1) + 1 by omega]; exact sp_dc_no (by omega) hT
                rw [(sp_rd_n hdn).1, (sp_rd_n hdn).2] at hQ
                exact k_reti hx hb hr hlk hQ hK hP hD hS (mP_mk rfl rfl rfl rfl rfl hsg hou hli (sp_rep_nil _)) d_M_read_127
        exact lp4 (LN.length + 1) p0 i 1 36 (by omega) (by omega) (by omega) (by omega) (by omega) (by omega) (by omega) rfl ls (lv_sub hl [4, 5, 6, 7, 8, 9, 3, 2, 1, 0] rfl)
  have hhy := sp_hyp_lt (sp_ef LN) LN.length
  have lp2 : ∀ (f2 : Nat) (n : Nat) (ba : Nat → Int32), sp_hyp (sp_ef LN) LN.length - n < f2 → (n ≤ sp_hyp (sp_ef LN) LN.length) → (sp_rep ba (LN.take n)) → ∀ (H : Heap) (locs : List Loc), va_P D classes (mW cI q sg ou li ba (nI (LB.length)) (nI (LT.length)) (nI (LN.length)) (nI (([] : List Nat).length))) H → va_D A (mW cI q sg ou li ba (nI (LB.length)) (nI (LT.length)) (nI (LN.length)) (nI (([] : List Nat).length))) → va_S A s.heap H locs → ∀ ls : Array Slot, lv_has ls 18 [(0, .ref (q 0)), (1, .int (nI (sp_hyp (sp_ef LN) LN.length))), (2, .int (nI (n))), (3, .int (nI (n)))] → W p l e r_M_read s m args below meth c H locs 0 0 Q (F0 m 40 ls []) := by
    intro f2
    induction f2 with
    | zero => intro n ba h; exact absurd h (Nat.not_lt_zero _)
    | succ f2 ih2 =>
      intro n ba hf2 hn hba H locs hP hD hS ls hl
      refine lv_iload_n hx hb d_M_read_40 rfl (lv_at hl 3 rfl) ?_
      refine lv_iload_n hx hb d_M_read_41 rfl (lv_at hl 1 rfl) ?_
      refine k_icmp_ge (tgt := 67) hx hb d_M_read_42 (by decide) (by omega) (by omega) (fun c_42 => ?_) (fun c_42 => ?_)
      · have en : n = sp_hyp (sp_ef LN) LN.length := by omega
        subst en
        refine lv_iload_n hx hb d_M_read_67 rfl (lv_at hl 1 rfl) ?_
        refine k_if_le (tgt := 77) hx hb d_M_read_68 (by decide) (by omega) (fun c_68 => ?_) (fun c_68 => ?_)
        · refine lv_iconst (v := nI (0)) hx hb d_M_read_77 (by decide) ?_
          refine k_cvi (show _ = nI (sp_p0 LN) from by unfold sp_p0; first | rw [if_pos (by omega)] | rw [if_neg (by omega)]) ?_
          refine lv_istore_n (lv' := [(3, .int (nI (sp_p0 LN))), (0, .ref (q 0)), (1, .int (nI (sp_hyp (sp_ef LN) LN.length))), (2, .int (nI (sp_hyp (sp_ef LN) LN.length)))]) hx hb d_M_read_78 rfl hl (Nat.le_of_ble_eq_true rfl) rfl (fun ls hl => ?_)
          refine lv_bipush (v := nI (72)) hx hb d_M_read_79 (by decide) ?_
          refine lv_istore (lv' := [(4, .int (nI (72))), (3, .int (nI (sp_p0 LN))), (0, .ref (q 0)), (1, .int (nI (sp_hyp (sp_ef LN) LN.length))), (2, .int (nI (sp_hyp (sp_ef LN) LN.length)))]) hx hb d_M_read_81 hl (Nat.le_of_ble_eq_true rfl) rfl (fun ls hl => ?_)
          refine lv_ldc2 (v := lN (128)) hx hb hown (hts _ m1_239) d_M_read_83 ?_
          refine lv_lstore (lv' := [(5, .long (lN (128))), (4, .int (nI (72))), (3, .int (nI (sp_p0 LN))), (0, .ref (q 0)), (1, .int (nI (sp_hyp (sp_ef LN) LN.length))), (2, .int (nI (sp_hyp (sp_ef LN) LN.length)))]) hx hb d_M_read_86 hl (Nat.le_of_ble_eq_true rfl) rfl (fun ls hl => ?_)
          refine lv_lconst (v := lN 0) hx hb d_M_read_88 rfl ?_
          refine lv_lstore (lv' := [(7, .long (lN (0))), (5, .long (lN (128))), (4, .int (nI (72))), (3, .int (nI (sp_p0 LN))), (0, .ref (q 0)), (1, .int (nI (sp_hyp (sp_ef LN) LN.length))), (2, .int (nI (sp_hyp (sp_ef LN) LN.length)))]) hx hb d_M_read_89 hl (Nat.le_of_ble_eq_true rfl) rfl (fun ls hl => ?_)
          have hln : (LN.take (sp_hyp (sp_ef LN) LN.length)).length = sp_hyp (sp_ef LN) LN.length := hp0c
          exact lp3 (LN.length + 1) (LN.length) (sp_p0 LN) (LN.take (sp_hyp (sp_ef LN) LN.length)) 0 128 72 ba (by omega) (by omega) (by omega) (Nat.le_refl _) hp0b (by omega) (by omega) (by omega) hba rfl H locs hP hD hS ls (by rw [hln]; exact (lv_sub hl [4, 6, 3, 2, 1, 0] rfl))
        · refine lv_iload_n hx hb d_M_read_71 rfl (lv_at hl 1 rfl) ?_
          refine lv_iconst (v := nI (1)) hx hb d_M_read_72 (by decide) ?_
          refine k_iadd hx hb d_M_read_73 ?_
          refine lv_goto (tgt := 78) hx hb d_M_read_74 (by decide) ?_
          refine k_cvi (show _ = nI (sp_p0 LN) from by unfold sp_p0; first | rw [if_pos (by omega)] | rw [if_neg (by omega)]) ?_
          refine lv_istore_n (lv' := [(3, .int (nI (sp_p0 LN))), (0, .ref (q 0)), (1, .int (nI (sp_hyp (sp_ef LN) LN.length))), (2, .int (nI (sp_hyp (sp_ef LN) LN.length)))]) hx hb d_M_read_78 rfl hl (Nat.le_of_ble_eq_true rfl) rfl (fun ls hl => ?_)
          refine lv_bipush (v := nI (72)) hx hb d_M_read_79 (by decide) ?_
          refine lv_istore (lv' := [(4, .int (nI (72))), (3, .int (nI (sp_p0 LN))), (0, .ref (q 0)), (1, .int (nI (sp_hyp (sp_ef LN) LN.length))), (2, .int (nI (sp_hyp (sp_ef LN) LN.length)))]) hx hb d_M_read_81 hl (Nat.le_of_ble_eq_true rfl) rfl (fun ls hl => ?_)
          refine lv_ldc2 (v := lN (128)) hx hb hown (hts _ m1_239) d_M_read_83 ?_
          refine lv_lstore (lv' := [(5, .long (lN (128))), (4, .int (nI (72))), (3, .int (nI (sp_p0 LN))), (0, .ref (q 0)), (1, .int (nI (sp_hyp (sp_ef LN) LN.length))), (2, .int (nI (sp_hyp (sp_ef LN) LN.length)))]) hx hb d_M_read_86 hl (Nat.le_of_ble_eq_true rfl) rfl (fun ls hl => ?_)
          refine lv_lconst (v := lN 0) hx hb d_M_read_88 rfl ?_
          refine lv_lstore (lv' := [(7, .long (lN (0))), (5, .long (lN (128))), (4, .int (nI (72))), (3, .int (nI (sp_p0 LN))), (0, .ref (q 0)), (1, .int (nI (sp_hyp (sp_ef LN) LN.length))), (2, .int (nI (sp_hyp (sp_ef LN) LN.length)))]) hx hb d_M_read_89 hl (Nat.le_of_ble_eq_true rfl) rfl (fun ls hl => ?_)
          have hln : (LN.take (sp_hyp (sp_ef LN) LN.length)).length = sp_hyp (sp_ef LN) LN.length := hp0c
          exact lp3 (LN.length + 1) (LN.length) (sp_p0 LN) (LN.take (sp_hyp (sp_ef LN) LN.length)) 0 128 72 ba (by omega) (by omega) (by omega) (Nat.le_refl _) hp0b (by omega) (by omega) (by omega) hba rfl H locs hP hD hS ls (by rw [hln]; exact (lv_sub hl [4, 6, 3, 2, 1, 0] rfl))
      · refine lv_aload_n hx hb d_M_read_45 rfl (lv_at hl 0 rfl) ?_
        refine m_get (v := .ref (q 4)) hx hb hts hown hK hP rfl 6 (Nat.le_of_ble_eq_true rfl) m1_174 rfl rfl d_M_read_46 ?_
        refine lv_iload_n hx hb d_M_read_49 rfl (lv_at hl 2 rfl) ?_
        refine lv_aload_n hx hb d_M_read_50 rfl (lv_at hl 0 rfl) ?_
        refine m_get (v := .ref (q 3)) hx hb hts hown hK hP rfl 4 (Nat.le_of_ble_eq_true rfl) m1_172 rfl rfl d_M_read_51 ?_
        refine lv_iload_n hx hb d_M_read_54 rfl (lv_at hl 3 rfl) ?_
        refine k_iald hx hb hK hP 3 0 rfl rfl (by omega) (by omega) d_M_read_55 ?_
        refine k_cvi (show _ = nI (LN.getD (n) 0) from hli _ (by omega)) ?_
        refine k_iast hx hb hK hP hD hS 4 0 rfl rfl (by omega) (by omega) d_M_read_56 (fun H locs hP hD hS => ?_)
        have hP : va_P D classes (mW cI q sg ou li (upd ba (n) (nI (LN.getD (n) 0))) (nI (LB.length)) (nI (LT.length)) (nI (LN.length)) (nI (([] : List Nat).length))) H := hP
        have hD : va_D A (mW cI q sg ou li (upd ba (n) (nI (LN.getD (n) 0))) (nI (LB.length)) (nI (LT.length)) (nI (LN.length)) (nI (([] : List Nat).length))) := hD
        refine lv_iload_n hx hb d_M_read_57 rfl (lv_at hl 2 rfl) ?_
        refine lv_iconst (v := nI (1)) hx hb d_M_read_58 (by decide) ?_
        refine k_iadd hx hb d_M_read_59 ?_
        refine lv_istore_n (lv' := [(2, .int (nI (n + 1))), (0, .ref (q 0)), (1, .int (nI (sp_hyp (sp_ef LN) LN.length))), (3, .int (nI (n)))]) hx hb d_M_read_60 rfl hl (Nat.le_of_ble_eq_true rfl) rfl (fun ls hl => ?_)
        refine lv_iinc (v := nI (n + 1)) (lv' := [(3, .int (nI (n + 1))), (2, .int (nI (n + 1))), (0, .ref (q 0)), (1, .int (nI (sp_hyp (sp_ef LN) LN.length)))]) hx hb d_M_read_61 hl (k := 3) rfl (k_inc (by decide)) (Nat.le_of_ble_eq_true rfl) rfl (fun ls hl => ?_)
        refine lv_goto (tgt := 40) hx hb d_M_read_64 (by decide) ?_
        have hba2 := sp_rep_tk hba (show n < LN.length by omega)
        exact ih2 (n + 1) (upd ba (n) (nI (LN.getD (n) 0))) (by omega) (by omega) hba2 H locs hP hD hS ls (lv_sub hl [2, 3, 1, 0] rfl)
  refine lv_iconst (v := nI (0)) hx hb d_M_read_0 (by decide) ?_
  refine lv_istore_n (lv' := [(1, .int (nI (0))), (0, .ref (q 0))]) hx hb d_M_read_1 rfl hl (Nat.le_of_ble_eq_true rfl) rfl (fun ls hl => ?_)
  refine lv_iconst (v := nI (0)) hx hb d_M_read_2 (by decide) ?_
  refine lv_istore_n (lv' := [(2, .int (nI (0))), (1, .int (nI (0))), (0, .ref (q 0))]) hx hb d_M_read_3 rfl hl (Nat.le_of_ble_eq_true rfl) rfl (fun ls hl => ?_)
  have lp1 : ∀ (f1 : Nat) (n : Nat), LN.length - n < f1 → (n ≤ LN.length) → ∀ ls : Array Slot, lv_has ls 18 [(0, .ref (q 0)), (1, .int (nI (sp_hyp (sp_ef LN) n))), (2, .int (nI (n)))] → W p l e r_M_read s m args below meth c s.heap [] 0 0 Q (F0 m 4 ls []) := by
    intro f1
    induction f1 with
    | zero => intro n h; exact absurd h (Nat.not_lt_zero _)
    | succ f1 ih1 =>
      intro n hf1 hn ls hl
      have hh1 := sp_hyp_lt (sp_ef LN) n
      refine lv_iload_n hx hb d_M_read_4 rfl (lv_at hl 2 rfl) ?_
      refine lv_aload_n hx hb d_M_read_5 rfl (lv_at hl 0 rfl) ?_
      refine m_get (v := .int (nI (LN.length))) hx hb hts hown hK hP rfl 5 (Nat.le_of_ble_eq_true rfl) m1_173 rfl rfl d_M_read_6 ?_
      refine k_icmp_ge (tgt := 31) hx hb d_M_read_9 (by decide) (by omega) (by omega) (fun c_9 => ?_) (fun c_9 => ?_)
      · have en : n = LN.length := by omega
        subst en
        refine lv_aload_n hx hb d_M_read_31 rfl (lv_at hl 0 rfl) ?_
        refine lv_iconst (v := nI (0)) hx hb d_M_read_32 (by decide) ?_
        refine m_put hx hb hts hown hK hP hD hS rfl 7 (Nat.le_of_ble_eq_true rfl) m1_175 rfl rfl rfl (Nat.le_of_ble_eq_true rfl) d_M_read_33 (fun H locs hP hD hS => ?_)
        have hP : va_P D classes (mW cI q sg ou li ba (nI (LB.length)) (nI (LT.length)) (nI (LN.length)) (nI (0))) H := hP
        have hD : va_D A (mW cI q sg ou li ba (nI (LB.length)) (nI (LT.length)) (nI (LN.length)) (nI (0))) := hD
        refine lv_iconst (v := nI (0)) hx hb d_M_read_36 (by decide) ?_
        refine lv_istore_n (lv' := [(2, .int (nI (0))), (0, .ref (q 0)), (1, .int (nI (sp_hyp (sp_ef LN) LN.length)))]) hx hb d_M_read_37 rfl hl (Nat.le_of_ble_eq_true rfl) rfl (fun ls hl => ?_)
        refine lv_iconst (v := nI (0)) hx hb d_M_read_38 (by decide) ?_
        refine lv_istore_n (lv' := [(3, .int (nI (0))), (2, .int (nI (0))), (0, .ref (q 0)), (1, .int (nI (sp_hyp (sp_ef LN) LN.length)))]) hx hb d_M_read_39 rfl hl (Nat.le_of_ble_eq_true rfl) rfl (fun ls hl => ?_)
        have hsh : va_P D classes (mW cI q sg ou li ba (nI (LB.length)) (nI (LT.length)) (nI (LN.length)) (nI (([] : List Nat).length))) H := hP
        exact lp2 (sp_hyp (sp_ef LN) LN.length + 1) 0 ba (by omega) (by omega) (sp_rep_nil _) H locs hP hD hS ls (lv_sub hl [2, 3, 1, 0] rfl)
      · have hc9 := sp_ch_at hcn c_9
        refine lv_aload_n hx hb d_M_read_12 rfl (lv_at hl 0 rfl) ?_
        refine m_get (v := .ref (q 3)) hx hb hts hown hK hP rfl 4 (Nat.le_of_ble_eq_true rfl) m1_172 rfl rfl d_M_read_13 ?_
        refine lv_iload_n hx hb d_M_read_16 rfl (lv_at hl 2 rfl) ?_
        refine k_iald hx hb hK hP 3 0 rfl rfl (by omega) (by omega) d_M_read_17 ?_
        refine k_cvi (show _ = nI (LN.getD (n) 0) from hli _ (by omega)) ?_
        refine lv_bipush (v := nI (45)) hx hb d_M_read_18 (by decide) ?_
        refine k_icmp_ne (tgt := 25) hx hb d_M_read_20 (by decide) (by omega) (by omega) (fun c_20 => ?_) (fun c_20 => ?_)
        · refine lv_iinc (v := nI (n + 1)) (lv' := [(2, .int (nI (n + 1))), (0, .ref (q 0)), (1, .int (nI (sp_hyp (sp_ef LN) n)))]) hx hb d_M_read_25 hl (k := 2) rfl (k_inc (by decide)) (Nat.le_of_ble_eq_true rfl) rfl (fun ls hl => ?_)
          refine lv_goto (tgt := 4) hx hb d_M_read_28 (by decide) ?_
          exact ih1 (n + 1) (by omega) (by omega) ls (by rw [sp_hyp_n (show ¬ sp_ef LN n = 45 from c_20)]; exact (lv_sub hl [1, 2, 0] rfl))
        · refine lv_iload_n hx hb d_M_read_23 rfl (lv_at hl 2 rfl) ?_
          refine lv_istore_n (lv' := [(1, .int (nI (n))), (0, .ref (q 0)), (2, .int (nI (n)))]) hx hb d_M_read_24 rfl hl (Nat.le_of_ble_eq_true rfl) rfl (fun ls hl => ?_)
          refine lv_iinc (v := nI (n + 1)) (lv' := [(2, .int (nI (n + 1))), (1, .int (nI (n))), (0, .ref (q 0))]) hx hb d_M_read_25 hl (k := 2) rfl (k_inc (by decide)) (Nat.le_of_ble_eq_true rfl) rfl (fun ls hl => ?_)
          refine lv_goto (tgt := 4) hx hb d_M_read_28 (by decide) ?_
          exact ih1 (n + 1) (by omega) (by omega) ls (by rw [sp_hyp_y (show sp_ef LN n = 45 from c_20)]; exact (lv_sub hl [2, 1, 0] rfl))
  exact lp1 (LN.length + 1) 0 (by omega) (by omega) ls (lv_sub hl [2, 1, 0] rfl)
end
section
/-! the constructors -/
theorem k_arr {s : State} {args : Array Value} {ty : FieldType} (h : (Cond.arrayClass ty).before args s = true) : ∃ cA : ClassId, ArrOfT s cA ty ∧ s.vm.findClass ("[" ++ ty.toString) = some cA := by
  obtain ⟨cA, kA, comp, h1, h2, h3⟩ := Cond.arrayClass_spec h
  exact ⟨cA, fun n z => ⟨fun k h => (by cases h), kA, h2, comp, h3⟩, h1⟩
theorem k_cI {D : va_G} {cI cZ cA : ClassId} {s : State} (hK : va_K D classes (k_tys cI cZ ++ [(cA, .int)]) s) : cA = cI := by
  have e1 : s.vm.findClass ("[" ++ FieldType.int.toString) = some cA := (hK.2 2 _ rfl).2
  have e2 : s.vm.findClass ("[" ++ FieldType.int.toString) = some cI := (hK.2 0 _ rfl).2
  exact Option.some.inj (e1.symm.trans e2)
theorem k_cZ {D : va_G} {cI cZ cA : ClassId} {s : State} (hK : va_K D classes (k_tys cI cZ ++ [(cA, .boolean)]) s) : cA = cZ := by
  have e1 : s.vm.findClass ("[" ++ FieldType.boolean.toString) = some cA := (hK.2 2 _ rfl).2
  have e2 : s.vm.findClass ("[" ++ FieldType.boolean.toString) = some cZ := (hK.2 1 _ rfl).2
  exact Option.some.inj (e1.symm.trans e2)
def k_q8 (a0 a1 a2 a3 a4 a5 a6 a7 : Nat) : Nat → Nat := fun k => match k with
  | 0 => a0
  | 1 => a1
  | 2 => a2
  | 3 => a3
  | 4 => a4
  | 5 => a5
  | 6 => a6
  | _ => a7
abbrev r_X_init : Room := { frames := 1, cells := 7, slots := 561, locals := 16 }
set_option maxHeartbeats 4000000 in
set_option maxRecDepth 100000 in
theorem c_X_init (l : Launch) (D : va_G) (cI cZ : ClassId) (h0 : Nat) (sz0 : Nat) : kM l y_X_init b_X_init 1 none r_X_init D (k_tys cI cZ) [.ref h0] [(h0, .inr (0, [.null, .null, .null, .null, .null, .null, .null, .int (nI 0), .int (nI 0), .int (nI 0), .int (nI 0), .int (nI 0)]))] sz0 (fun v ws => ∃ q : Nat → Nat, q 0 = h0 ∧ xP cI cZ q [] [] [] [] none v ws) := by
  refine k_met (by decide) (Nat.le_of_ble_eq_true rfl) ?_
  intro p e s m args below meth c A Q C0 hr hlk hnm hA hK hP hD hS hQ ls hl
  obtain ⟨hx, hb, hml, hown, hts⟩ := id C0
  have hin : meth.name = "<init>" := hnm
  have hl : lv_has ls 1 [(0, .ref h0)] := hl
  refine lv_aload_n hx hb d_X_init_0 rfl (lv_at hl 0 rfl) ?_
  refine W.objInit hx hb hown (hts _ m1_9) (hts _ m1_10) (hts _ m1_11) rfl (by rw [hml]; exact hl.1) rfl d_X_init_1 (Nat.le_of_ble_eq_true rfl) (Nat.le_of_ble_eq_true rfl) ?_
  show W p l e r_X_init s m args below meth c s.heap [] 0 0 Q (F0 m 4 ls [])
  refine lv_aload_n hx hb d_X_init_4 rfl (lv_at hl 0 rfl) ?_
  refine lv_bipush (v := nI 24) hx hb d_X_init_5 (by decide) ?_
  refine va_newa (atype := .int) (ty := .int) (a0 := (24, .inl (fun _ => 0))) (N' := 24) hx hb (hts _ m1_49) rfl hK hP hD hS hA (fun _ => rfl) (by decide) (by decide) (by decide) (Nat.le_of_ble_eq_true rfl) (Nat.le_of_ble_eq_true rfl) d_X_init_7 (fun q1 cA H hK hP hD hS => ?_)
  rw [k_cI hK] at hP hD hK
  have hK : va_K D classes (k_tys cI cZ) s := hK.sub [0, 1] rfl
  have hP : va_P D classes [(h0, .inr (0, [.null, .null, .null, .null, .null, .null, .null, .int (nI 0), .int (nI 0), .int (nI 0), .int (nI 0), .int (nI 0)])), (q1, .inl (cI, 24, .inl (fun _ => 0)))] H := hP
  have hD : va_D A [(h0, .inr (0, [.null, .null, .null, .null, .null, .null, .null, .int (nI 0), .int (nI 0), .int (nI 0), .int (nI 0), .int (nI 0)])), (q1, .inl (cI, 24, .inl (fun _ => 0)))] := hD
  show W p l e r_X_init s m args below meth c H [] 1 24 Q (F0 m 9 ls [.ref q1, .ref h0])
  refine va_putF (D := D) (ci := 0) (v := .ref q1) (ty := .array .int) (C := R_X) (T := F_X) (N := 12) hx hb hts i_X t_X t_X_ok n_X hown hK hP hD hS 0 rfl rfl 0 (Nat.le_of_ble_eq_true rfl) (hts _ m1_12) (fun _ h9 => h9) rfl hin rfl (by decide +kernel) rfl rfl (Nat.le_of_ble_eq_true rfl) d_X_init_9 (fun H locs hP hD hS => ?_)
  have hP : va_P D classes [(h0, .inr (0, [.ref q1, .null, .null, .null, .null, .null, .null, .int (nI 0), .int (nI 0), .int (nI 0), .int (nI 0), .int (nI 0)])), (q1, .inl (cI, 24, .inl (fun _ => 0)))] H := hP
  have hD : va_D A [(h0, .inr (0, [.ref q1, .null, .null, .null, .null, .null, .null, .int (nI 0), .int (nI 0), .int (nI 0), .int (nI 0), .int (nI 0)])), (q1, .inl (cI, 24, .inl (fun _ => 0)))] := hD
  refine lv_aload_n hx hb d_X_init_12 rfl (lv_at hl 0 rfl) ?_
  refine lv_sipush (v := nI 256) hx hb d_X_init_13 (by decide) ?_
  refine va_newa (atype := .int) (ty := .int) (a0 := (256, .inl (fun _ => 0))) (N' := 256) hx hb (hts _ m1_49) rfl hK hP hD hS hA (fun _ => rfl) (by decide) (by decide) (by decide) (Nat.le_of_ble_eq_true rfl) (Nat.le_of_ble_eq_true rfl) d_X_init_16 (fun q2 cA H hK hP hD hS => ?_)
  rw [k_cI hK] at hP hD hK
  have hK : va_K D classes (k_tys cI cZ) s := hK.sub [0, 1] rfl
  have hP : va_P D classes [(h0, .inr (0, [.ref q1, .null, .null, .null, .null, .null, .null, .int (nI 0), .int (nI 0), .int (nI 0), .int (nI 0), .int (nI 0)])), (q1, .inl (cI, 24, .inl (fun _ => 0))), (q2, .inl (cI, 256, .inl (fun _ => 0)))] H := hP
  have hD : va_D A [(h0, .inr (0, [.ref q1, .null, .null, .null, .null, .null, .null, .int (nI 0), .int (nI 0), .int (nI 0), .int (nI 0), .int (nI 0)])), (q1, .inl (cI, 24, .inl (fun _ => 0))), (q2, .inl (cI, 256, .inl (fun _ => 0)))] := hD
  show W p l e r_X_init s m args below meth c H locs 2 280 Q (F0 m 18 ls [.ref q2, .ref h0])
  refine va_putF (D := D) (ci := 0) (v := .ref q2) (ty := .array .int) (C := R_X) (T := F_X) (N := 12) hx hb hts i_X t_X t_X_ok n_X hown hK hP hD hS 0 rfl rfl 1 (Nat.le_of_ble_eq_true rfl) (hts _ m1_13) (fun _ h9 => h9) rfl hin rfl (by decide +kernel) rfl rfl (Nat.le_of_ble_eq_true rfl) d_X_init_18 (fun H locs hP hD hS => ?_)
  have hP : va_P D classes [(h0, .inr (0, [.ref q1, .ref q2, .null, .null, .null, .null, .null, .int (nI 0), .int (nI 0), .int (nI 0), .int (nI 0), .int (nI 0)])), (q1, .inl (cI, 24, .inl (fun _ => 0))), (q2, .inl (cI, 256, .inl (fun _ => 0)))] H := hP
  have hD : va_D A [(h0, .inr (0, [.ref q1, .ref q2, .null, .null, .null, .null, .null, .int (nI 0), .int (nI 0), .int (nI 0), .int (nI 0), .int (nI 0)])), (q1, .inl (cI, 24, .inl (fun _ => 0))), (q2, .inl (cI, 256, .inl (fun _ => 0)))] := hD
  refine lv_aload_n hx hb d_X_init_21 rfl (lv_at hl 0 rfl) ?_
  refine lv_bipush (v := nI 64) hx hb d_X_init_22 (by decide) ?_
  refine va_newa (atype := .int) (ty := .int) (a0 := (64, .inl (fun _ => 0))) (N' := 64) hx hb (hts _ m1_49) rfl hK hP hD hS hA (fun _ => rfl) (by decide) (by decide) (by decide) (Nat.le_of_ble_eq_true rfl) (Nat.le_of_ble_eq_true rfl) d_X_init_24 (fun q3 cA H hK hP hD hS => ?_)
  rw [k_cI hK] at hP hD hK
  have hK : va_K D classes (k_tys cI cZ) s := hK.sub [0, 1] rfl
  have hP : va_P D classes [(h0, .inr (0, [.ref q1, .ref q2, .null, .null, .null, .null, .null, .int (nI 0), .int (nI 0), .int (nI 0), .int (nI 0), .int (nI 0)])), (q1, .inl (cI, 24, .inl (fun _ => 0))), (q2, .inl (cI, 256, .inl (fun _ => 0))), (q3, .inl (cI, 64, .inl (fun _ => 0)))] H := hP
  have hD : va_D A [(h0, .inr (0, [.ref q1, .ref q2, .null, .null, .null, .null, .null, .int (nI 0), .int (nI 0), .int (nI 0), .int (nI 0), .int (nI 0)])), (q1, .inl (cI, 24, .inl (fun _ => 0))), (q2, .inl (cI, 256, .inl (fun _ => 0))), (q3, .inl (cI, 64, .inl (fun _ => 0)))] := hD
  show W p l e r_X_init s m args below meth c H locs 3 344 Q (F0 m 26 ls [.ref q3, .ref h0])
  refine va_putF (D := D) (ci := 0) (v := .ref q3) (ty := .array .int) (C := R_X) (T := F_X) (N := 12) hx hb hts i_X t_X t_X_ok n_X hown hK hP hD hS 0 rfl rfl 2 (Nat.le_of_ble_eq_true rfl) (hts _ m1_14) (fun _ h9 => h9) rfl hin rfl (by decide +kernel) rfl rfl (Nat.le_of_ble_eq_true rfl) d_X_init_26 (fun H locs hP hD hS => ?_)
  have hP : va_P D classes [(h0, .inr (0, [.ref q1, .ref q2, .ref q3, .null, .null, .null, .null, .int (nI 0), .int (nI 0), .int (nI 0), .int (nI 0), .int (nI 0)])), (q1, .inl (cI, 24, .inl (fun _ => 0))), (q2, .inl (cI, 256, .inl (fun _ => 0))), (q3, .inl (cI, 64, .inl (fun _ => 0)))] H := hP
  have hD : va_D A [(h0, .inr (0, [.ref q1, .ref q2, .ref q3, .null, .null, .null, .null, .int (nI 0), .int (nI 0), .int (nI 0), .int (nI 0), .int (nI 0)])), (q1, .inl (cI, 24, .inl (fun _ => 0))), (q2, .inl (cI, 256, .inl (fun _ => 0))), (q3, .inl (cI, 64, .inl (fun _ => 0)))] := hD
  refine lv_aload_n hx hb d_X_init_29 rfl (lv_at hl 0 rfl) ?_
  refine lv_bipush (v := nI 64) hx hb d_X_init_30 (by decide) ?_
  refine va_newa (atype := .int) (ty := .int) (a0 := (64, .inl (fun _ => 0))) (N' := 64) hx hb (hts _ m1_49) rfl hK hP hD hS hA (fun _ => rfl) (by decide) (by decide) (by decide) (Nat.le_of_ble_eq_true rfl) (Nat.le_of_ble_eq_true rfl) d_X_init_32 (fun q4 cA H hK hP hD hS => ?_)
  rw [k_cI hK] at hP hD hK
  have hK : va_K D classes (k_tys cI cZ) s := hK.sub [0, 1] rfl
  have hP : va_P D classes [(h0, .inr (0, [.ref q1, .ref q2, .ref q3, .null, .null, .null, .null, .int (nI 0), .int (nI 0), .int (nI 0), .int (nI 0), .int (nI 0)])), (q1, .inl (cI, 24, .inl (fun _ => 0))), (q2, .inl (cI, 256, .inl (fun _ => 0))), (q3, .inl (cI, 64, .inl (fun _ => 0))), (q4, .inl (cI, 64, .inl (fun _ => 0)))] H := hP
  have hD : va_D A [(h0, .inr (0, [.ref q1, .ref q2, .ref q3, .null, .null, .null, .null, .int (nI 0), .int (nI 0), .int (nI 0), .int (nI 0), .int (nI 0)])), (q1, .inl (cI, 24, .inl (fun _ => 0))), (q2, .inl (cI, 256, .inl (fun _ => 0))), (q3, .inl (cI, 64, .inl (fun _ => 0))), (q4, .inl (cI, 64, .inl (fun _ => 0)))] := hD
  show W p l e r_X_init s m args below meth c H locs 4 408 Q (F0 m 34 ls [.ref q4, .ref h0])
  refine va_putF (D := D) (ci := 0) (v := .ref q4) (ty := .array .int) (C := R_X) (T := F_X) (N := 12) hx hb hts i_X t_X t_X_ok n_X hown hK hP hD hS 0 rfl rfl 3 (Nat.le_of_ble_eq_true rfl) (hts _ m1_15) (fun _ h9 => h9) rfl hin rfl (by decide +kernel) rfl rfl (Nat.le_of_ble_eq_true rfl) d_X_init_34 (fun H locs hP hD hS => ?_)
  have hP : va_P D classes [(h0, .inr (0, [.ref q1, .ref q2, .ref q3, .ref q4, .null, .null, .null, .int (nI 0), .int (nI 0), .int (nI 0), .int (nI 0), .int (nI 0)])), (q1, .inl (cI, 24, .inl (fun _ => 0))), (q2, .inl (cI, 256, .inl (fun _ => 0))), (q3, .inl (cI, 64, .inl (fun _ => 0))), (q4, .inl (cI, 64, .inl (fun _ => 0)))] H := hP
  have hD : va_D A [(h0, .inr (0, [.ref q1, .ref q2, .ref q3, .ref q4, .null, .null, .null, .int (nI 0), .int (nI 0), .int (nI 0), .int (nI 0), .int (nI 0)])), (q1, .inl (cI, 24, .inl (fun _ => 0))), (q2, .inl (cI, 256, .inl (fun _ => 0))), (q3, .inl (cI, 64, .inl (fun _ => 0))), (q4, .inl (cI, 64, .inl (fun _ => 0)))] := hD
  refine lv_aload_n hx hb d_X_init_37 rfl (lv_at hl 0 rfl) ?_
  refine lv_bipush (v := nI 24) hx hb d_X_init_38 (by decide) ?_
  refine va_newa (atype := .boolean) (ty := .boolean) (a0 := (24, .inl (fun _ => 0))) (N' := 24) hx hb (hts _ m1_50) rfl hK hP hD hS hA (fun _ => rfl) (by decide) (by decide) (by decide) (Nat.le_of_ble_eq_true rfl) (Nat.le_of_ble_eq_true rfl) d_X_init_40 (fun q5 cA H hK hP hD hS => ?_)
  rw [k_cZ hK] at hP hD hK
  have hK : va_K D classes (k_tys cI cZ) s := hK.sub [0, 1] rfl
  have hP : va_P D classes [(h0, .inr (0, [.ref q1, .ref q2, .ref q3, .ref q4, .null, .null, .null, .int (nI 0), .int (nI 0), .int (nI 0), .int (nI 0), .int (nI 0)])), (q1, .inl (cI, 24, .inl (fun _ => 0))), (q2, .inl (cI, 256, .inl (fun _ => 0))), (q3, .inl (cI, 64, .inl (fun _ => 0))), (q4, .inl (cI, 64, .inl (fun _ => 0))), (q5, .inl (cZ, 24, .inl (fun _ => 0)))] H := hP
  have hD : va_D A [(h0, .inr (0, [.ref q1, .ref q2, .ref q3, .ref q4, .null, .null, .null, .int (nI 0), .int (nI 0), .int (nI 0), .int (nI 0), .int (nI 0)])), (q1, .inl (cI, 24, .inl (fun _ => 0))), (q2, .inl (cI, 256, .inl (fun _ => 0))), (q3, .inl (cI, 64, .inl (fun _ => 0))), (q4, .inl (cI, 64, .inl (fun _ => 0))), (q5, .inl (cZ, 24, .inl (fun _ => 0)))] := hD
  show W p l e r_X_init s m args below meth c H locs 5 432 Q (F0 m 42 ls [.ref q5, .ref h0])
  refine va_putF (D := D) (ci := 0) (v := .ref q5) (ty := .array .boolean) (C := R_X) (T := F_X) (N := 12) hx hb hts i_X t_X t_X_ok n_X hown hK hP hD hS 0 rfl rfl 4 (Nat.le_of_ble_eq_true rfl) (hts _ m1_16) (fun _ h9 => h9) rfl hin rfl (by decide +kernel) rfl rfl (Nat.le_of_ble_eq_true rfl) d_X_init_42 (fun H locs hP hD hS => ?_)
  have hP : va_P D classes [(h0, .inr (0, [.ref q1, .ref q2, .ref q3, .ref q4, .ref q5, .null, .null, .int (nI 0), .int (nI 0), .int (nI 0), .int (nI 0), .int (nI 0)])), (q1, .inl (cI, 24, .inl (fun _ => 0))), (q2, .inl (cI, 256, .inl (fun _ => 0))), (q3, .inl (cI, 64, .inl (fun _ => 0))), (q4, .inl (cI, 64, .inl (fun _ => 0))), (q5, .inl (cZ, 24, .inl (fun _ => 0)))] H := hP
  have hD : va_D A [(h0, .inr (0, [.ref q1, .ref q2, .ref q3, .ref q4, .ref q5, .null, .null, .int (nI 0), .int (nI 0), .int (nI 0), .int (nI 0), .int (nI 0)])), (q1, .inl (cI, 24, .inl (fun _ => 0))), (q2, .inl (cI, 256, .inl (fun _ => 0))), (q3, .inl (cI, 64, .inl (fun _ => 0))), (q4, .inl (cI, 64, .inl (fun _ => 0))), (q5, .inl (cZ, 24, .inl (fun _ => 0)))] := hD
  refine lv_aload_n hx hb d_X_init_45 rfl (lv_at hl 0 rfl) ?_
  refine lv_bipush (v := nI 64) hx hb d_X_init_46 (by decide) ?_
  refine va_newa (atype := .int) (ty := .int) (a0 := (64, .inl (fun _ => 0))) (N' := 64) hx hb (hts _ m1_49) rfl hK hP hD hS hA (fun _ => rfl) (by decide) (by decide) (by decide) (Nat.le_of_ble_eq_true rfl) (Nat.le_of_ble_eq_true rfl) d_X_init_48 (fun q6 cA H hK hP hD hS => ?_)
  rw [k_cI hK] at hP hD hK
  have hK : va_K D classes (k_tys cI cZ) s := hK.sub [0, 1] rfl
  have hP : va_P D classes [(h0, .inr (0, [.ref q1, .ref q2, .ref q3, .ref q4, .ref q5, .null, .null, .int (nI 0), .int (nI 0), .int (nI 0), .int (nI 0), .int (nI 0)])), (q1, .inl (cI, 24, .inl (fun _ => 0))), (q2, .inl (cI, 256, .inl (fun _ => 0))), (q3, .inl (cI, 64, .inl (fun _ => 0))), (q4, .inl (cI, 64, .inl (fun _ => 0))), (q5, .inl (cZ, 24, .inl (fun _ => 0))), (q6, .inl (cI, 64, .inl (fun _ => 0)))] H := hP
  have hD : va_D A [(h0, .inr (0, [.ref q1, .ref q2, .ref q3, .ref q4, .ref q5, .null, .null, .int (nI 0), .int (nI 0), .int (nI 0), .int (nI 0), .int (nI 0)])), (q1, .inl (cI, 24, .inl (fun _ => 0))), (q2, .inl (cI, 256, .inl (fun _ => 0))), (q3, .inl (cI, 64, .inl (fun _ => 0))), (q4, .inl (cI, 64, .inl (fun _ => 0))), (q5, .inl (cZ, 24, .inl (fun _ => 0))), (q6, .inl (cI, 64, .inl (fun _ => 0)))] := hD
  show W p l e r_X_init s m args below meth c H locs 6 496 Q (F0 m 50 ls [.ref q6, .ref h0])
  refine va_putF (D := D) (ci := 0) (v := .ref q6) (ty := .array .int) (C := R_X) (T := F_X) (N := 12) hx hb hts i_X t_X t_X_ok n_X hown hK hP hD hS 0 rfl rfl 5 (Nat.le_of_ble_eq_true rfl) (hts _ m1_17) (fun _ h9 => h9) rfl hin rfl (by decide +kernel) rfl rfl (Nat.le_of_ble_eq_true rfl) d_X_init_50 (fun H locs hP hD hS => ?_)
  have hP : va_P D classes [(h0, .inr (0, [.ref q1, .ref q2, .ref q3, .ref q4, .ref q5, .ref q6, .null, .int (nI 0), .int (nI 0), .int (nI 0), .int (nI 0), .int (nI 0)])), (q1, .inl (cI, 24, .inl (fun _ => 0))), (q2, .inl (cI, 256, .inl (fun _ => 0))), (q3, .inl (cI, 64, .inl (fun _ => 0))), (q4, .inl (cI, 64, .inl (fun _ => 0))), (q5, .inl (cZ, 24, .inl (fun _ => 0))), (q6, .inl (cI, 64, .inl (fun _ => 0)))] H := hP
  have hD : va_D A [(h0, .inr (0, [.ref q1, .ref q2, .ref q3, .ref q4, .ref q5, .ref q6, .null, .int (nI 0), .int (nI 0), .int (nI 0), .int (nI 0), .int (nI 0)])), (q1, .inl (cI, 24, .inl (fun _ => 0))), (q2, .inl (cI, 256, .inl (fun _ => 0))), (q3, .inl (cI, 64, .inl (fun _ => 0))), (q4, .inl (cI, 64, .inl (fun _ => 0))), (q5, .inl (cZ, 24, .inl (fun _ => 0))), (q6, .inl (cI, 64, .inl (fun _ => 0)))] := hD
  refine lv_aload_n hx hb d_X_init_53 rfl (lv_at hl 0 rfl) ?_
  refine lv_bipush (v := nI 65) hx hb d_X_init_54 (by decide) ?_
  refine va_newa (atype := .int) (ty := .int) (a0 := (65, .inl (fun _ => 0))) (N' := 65) hx hb (hts _ m1_49) rfl hK hP hD hS hA (fun _ => rfl) (by decide) (by decide) (by decide) (Nat.le_of_ble_eq_true rfl) (Nat.le_of_ble_eq_true rfl) d_X_init_56 (fun q7 cA H hK hP hD hS => ?_)
  rw [k_cI hK] at hP hD hK
  have hK : va_K D classes (k_tys cI cZ) s := hK.sub [0, 1] rfl
  have hP : va_P D classes [(h0, .inr (0, [.ref q1, .ref q2, .ref q3, .ref q4, .ref q5, .ref q6, .null, .int (nI 0), .int (nI 0), .int (nI 0), .int (nI 0), .int (nI 0)])), (q1, .inl (cI, 24, .inl (fun _ => 0))), (q2, .inl (cI, 256, .inl (fun _ => 0))), (q3, .inl (cI, 64, .inl (fun _ => 0))), (q4, .inl (cI, 64, .inl (fun _ => 0))), (q5, .inl (cZ, 24, .inl (fun _ => 0))), (q6, .inl (cI, 64, .inl (fun _ => 0))), (q7, .inl (cI, 65, .inl (fun _ => 0)))] H := hP
  have hD : va_D A [(h0, .inr (0, [.ref q1, .ref q2, .ref q3, .ref q4, .ref q5, .ref q6, .null, .int (nI 0), .int (nI 0), .int (nI 0), .int (nI 0), .int (nI 0)])), (q1, .inl (cI, 24, .inl (fun _ => 0))), (q2, .inl (cI, 256, .inl (fun _ => 0))), (q3, .inl (cI, 64, .inl (fun _ => 0))), (q4, .inl (cI, 64, .inl (fun _ => 0))), (q5, .inl (cZ, 24, .inl (fun _ => 0))), (q6, .inl (cI, 64, .inl (fun _ => 0))), (q7, .inl (cI, 65, .inl (fun _ => 0)))] := hD
  show W p l e r_X_init s m args below meth c H locs 7 561 Q (F0 m 58 ls [.ref q7, .ref h0])
  refine va_putF (D := D) (ci := 0) (v := .ref q7) (ty := .array .int) (C := R_X) (T := F_X) (N := 12) hx hb hts i_X t_X t_X_ok n_X hown hK hP hD hS 0 rfl rfl 6 (Nat.le_of_ble_eq_true rfl) (hts _ m1_18) (fun _ h9 => h9) rfl hin rfl (by decide +kernel) rfl rfl (Nat.le_of_ble_eq_true rfl) d_X_init_58 (fun H locs hP hD hS => ?_)
  have hP : va_P D classes [(h0, .inr (0, [.ref q1, .ref q2, .ref q3, .ref q4, .ref q5, .ref q6, .ref q7, .int (nI 0), .int (nI 0), .int (nI 0), .int (nI 0), .int (nI 0)])), (q1, .inl (cI, 24, .inl (fun _ => 0))), (q2, .inl (cI, 256, .inl (fun _ => 0))), (q3, .inl (cI, 64, .inl (fun _ => 0))), (q4, .inl (cI, 64, .inl (fun _ => 0))), (q5, .inl (cZ, 24, .inl (fun _ => 0))), (q6, .inl (cI, 64, .inl (fun _ => 0))), (q7, .inl (cI, 65, .inl (fun _ => 0)))] H := hP
  have hD : va_D A [(h0, .inr (0, [.ref q1, .ref q2, .ref q3, .ref q4, .ref q5, .ref q6, .ref q7, .int (nI 0), .int (nI 0), .int (nI 0), .int (nI 0), .int (nI 0)])), (q1, .inl (cI, 24, .inl (fun _ => 0))), (q2, .inl (cI, 256, .inl (fun _ => 0))), (q3, .inl (cI, 64, .inl (fun _ => 0))), (q4, .inl (cI, 64, .inl (fun _ => 0))), (q5, .inl (cZ, 24, .inl (fun _ => 0))), (q6, .inl (cI, 64, .inl (fun _ => 0))), (q7, .inl (cI, 65, .inl (fun _ => 0)))] := hD
  exact k_retv hx hb hr hlk hQ hK hP hD hS (⟨k_q8 h0 q1 q2 q3 q4 q5 q6 q7, rfl, rfl, (fun _ => 0), (fun _ => 0), (fun _ => 0), (fun _ => 0), (fun _ => 0), (fun _ => 0), (fun _ => 0), nI 0, rfl, sp_rep_nil _, sp_rep_nil _, sp_rep_nil _, sp_rep_nil _⟩) d_X_init_61
abbrev r_M_init : Room := { frames := 1, cells := 4, slots := 312, locals := 16 }
set_option maxHeartbeats 4000000 in
set_option maxRecDepth 100000 in
theorem c_M_init (l : Launch) (D : va_G) (cI cZ : ClassId) (h0 : Nat) (sz0 : Nat) : kM l y_M_init b_M_init 1 none r_M_init D (k_tys cI cZ) [.ref h0] [(h0, .inr (1, [.null, .int (nI 0), .null, .int (nI 0), .null, .int (nI 0), .null, .int (nI 0)]))] sz0 (fun v ws => ∃ q : Nat → Nat, q 0 = h0 ∧ mP cI q [] [] [] [] none v ws) := by
  refine k_met (by decide) (Nat.le_of_ble_eq_true rfl) ?_
  intro p e s m args below meth c A Q C0 hr hlk hnm hA hK hP hD hS hQ ls hl
  obtain ⟨hx, hb, hml, hown, hts⟩ := id C0
  have hin : meth.name = "<init>" := hnm
  have hl : lv_has ls 1 [(0, .ref h0)] := hl
  refine lv_aload_n hx hb d_M_init_0 rfl (lv_at hl 0 rfl) ?_
  refine W.objInit hx hb hown (hts _ m1_167) (hts _ m1_10) (hts _ m1_11) rfl (by rw [hml]; exact hl.1) rfl d_M_init_1 (Nat.le_of_ble_eq_true rfl) (Nat.le_of_ble_eq_true rfl) ?_
  show W p l e r_M_init s m args below meth c s.heap [] 0 0 Q (F0 m 4 ls [])
  refine lv_aload_n hx hb d_M_init_4 rfl (lv_at hl 0 rfl) ?_
  refine lv_bipush (v := nI 24) hx hb d_M_init_5 (by decide) ?_
  refine va_newa (atype := .int) (ty := .int) (a0 := (24, .inl (fun _ => 0))) (N' := 24) hx hb (hts _ m1_49) rfl hK hP hD hS hA (fun _ => rfl) (by decide) (by decide) (by decide) (Nat.le_of_ble_eq_true rfl) (Nat.le_of_ble_eq_true rfl) d_M_init_7 (fun q1 cA H hK hP hD hS => ?_)
  rw [k_cI hK] at hP hD hK
  have hK : va_K D classes (k_tys cI cZ) s := hK.sub [0, 1] rfl
  have hP : va_P D classes [(h0, .inr (1, [.null, .int (nI 0), .null, .int (nI 0), .null, .int (nI 0), .null, .int (nI 0)])), (q1, .inl (cI, 24, .inl (fun _ => 0)))] H := hP
  have hD : va_D A [(h0, .inr (1, [.null, .int (nI 0), .null, .int (nI 0), .null, .int (nI 0), .null, .int (nI 0)])), (q1, .inl (cI, 24, .inl (fun _ => 0)))] := hD
  show W p l e r_M_init s m args below meth c H [] 1 24 Q (F0 m 9 ls [.ref q1, .ref h0])
  refine va_putF (D := D) (ci := 1) (v := .ref q1) (ty := .array .int) (C := R_M) (T := F_M) (N := 8) hx hb hts i_M t_M t_M_ok n_M hown hK hP hD hS 0 rfl rfl 0 (Nat.le_of_ble_eq_true rfl) (hts _ m1_168) (fun _ h9 => h9) rfl hin rfl (by decide +kernel) rfl rfl (Nat.le_of_ble_eq_true rfl) d_M_init_9 (fun H locs hP hD hS => ?_)
  have hP : va_P D classes [(h0, .inr (1, [.ref q1, .int (nI 0), .null, .int (nI 0), .null, .int (nI 0), .null, .int (nI 0)])), (q1, .inl (cI, 24, .inl (fun _ => 0)))] H := hP
  have hD : va_D A [(h0, .inr (1, [.ref q1, .int (nI 0), .null, .int (nI 0), .null, .int (nI 0), .null, .int (nI 0)])), (q1, .inl (cI, 24, .inl (fun _ => 0)))] := hD
  refine lv_aload_n hx hb d_M_init_12 rfl (lv_at hl 0 rfl) ?_
  refine lv_sipush (v := nI 160) hx hb d_M_init_13 (by decide) ?_
  refine va_newa (atype := .int) (ty := .int) (a0 := (160, .inl (fun _ => 0))) (N' := 160) hx hb (hts _ m1_49) rfl hK hP hD hS hA (fun _ => rfl) (by decide) (by decide) (by decide) (Nat.le_of_ble_eq_true rfl) (Nat.le_of_ble_eq_true rfl) d_M_init_16 (fun q2 cA H hK hP hD hS => ?_)
  rw [k_cI hK] at hP hD hK
  have hK : va_K D classes (k_tys cI cZ) s := hK.sub [0, 1] rfl
  have hP : va_P D classes [(h0, .inr (1, [.ref q1, .int (nI 0), .null, .int (nI 0), .null, .int (nI 0), .null, .int (nI 0)])), (q1, .inl (cI, 24, .inl (fun _ => 0))), (q2, .inl (cI, 160, .inl (fun _ => 0)))] H := hP
  have hD : va_D A [(h0, .inr (1, [.ref q1, .int (nI 0), .null, .int (nI 0), .null, .int (nI 0), .null, .int (nI 0)])), (q1, .inl (cI, 24, .inl (fun _ => 0))), (q2, .inl (cI, 160, .inl (fun _ => 0)))] := hD
  show W p l e r_M_init s m args below meth c H locs 2 184 Q (F0 m 18 ls [.ref q2, .ref h0])
  refine va_putF (D := D) (ci := 1) (v := .ref q2) (ty := .array .int) (C := R_M) (T := F_M) (N := 8) hx hb hts i_M t_M t_M_ok n_M hown hK hP hD hS 0 rfl rfl 2 (Nat.le_of_ble_eq_true rfl) (hts _ m1_170) (fun _ h9 => h9) rfl hin rfl (by decide +kernel) rfl rfl (Nat.le_of_ble_eq_true rfl) d_M_init_18 (fun H locs hP hD hS => ?_)
  have hP : va_P D classes [(h0, .inr (1, [.ref q1, .int (nI 0), .ref q2, .int (nI 0), .null, .int (nI 0), .null, .int (nI 0)])), (q1, .inl (cI, 24, .inl (fun _ => 0))), (q2, .inl (cI, 160, .inl (fun _ => 0)))] H := hP
  have hD : va_D A [(h0, .inr (1, [.ref q1, .int (nI 0), .ref q2, .int (nI 0), .null, .int (nI 0), .null, .int (nI 0)])), (q1, .inl (cI, 24, .inl (fun _ => 0))), (q2, .inl (cI, 160, .inl (fun _ => 0)))] := hD
  refine lv_aload_n hx hb d_M_init_21 rfl (lv_at hl 0 rfl) ?_
  refine lv_bipush (v := nI 64) hx hb d_M_init_22 (by decide) ?_
  refine va_newa (atype := .int) (ty := .int) (a0 := (64, .inl (fun _ => 0))) (N' := 64) hx hb (hts _ m1_49) rfl hK hP hD hS hA (fun _ => rfl) (by decide) (by decide) (by decide) (Nat.le_of_ble_eq_true rfl) (Nat.le_of_ble_eq_true rfl) d_M_init_24 (fun q3 cA H hK hP hD hS => ?_)
  rw [k_cI hK] at hP hD hK
  have hK : va_K D classes (k_tys cI cZ) s := hK.sub [0, 1] rfl
  have hP : va_P D classes [(h0, .inr (1, [.ref q1, .int (nI 0), .ref q2, .int (nI 0), .null, .int (nI 0), .null, .int (nI 0)])), (q1, .inl (cI, 24, .inl (fun _ => 0))), (q2, .inl (cI, 160, .inl (fun _ => 0))), (q3, .inl (cI, 64, .inl (fun _ => 0)))] H := hP
  have hD : va_D A [(h0, .inr (1, [.ref q1, .int (nI 0), .ref q2, .int (nI 0), .null, .int (nI 0), .null, .int (nI 0)])), (q1, .inl (cI, 24, .inl (fun _ => 0))), (q2, .inl (cI, 160, .inl (fun _ => 0))), (q3, .inl (cI, 64, .inl (fun _ => 0)))] := hD
  show W p l e r_M_init s m args below meth c H locs 3 248 Q (F0 m 26 ls [.ref q3, .ref h0])
  refine va_putF (D := D) (ci := 1) (v := .ref q3) (ty := .array .int) (C := R_M) (T := F_M) (N := 8) hx hb hts i_M t_M t_M_ok n_M hown hK hP hD hS 0 rfl rfl 4 (Nat.le_of_ble_eq_true rfl) (hts _ m1_172) (fun _ h9 => h9) rfl hin rfl (by decide +kernel) rfl rfl (Nat.le_of_ble_eq_true rfl) d_M_init_26 (fun H locs hP hD hS => ?_)
  have hP : va_P D classes [(h0, .inr (1, [.ref q1, .int (nI 0), .ref q2, .int (nI 0), .ref q3, .int (nI 0), .null, .int (nI 0)])), (q1, .inl (cI, 24, .inl (fun _ => 0))), (q2, .inl (cI, 160, .inl (fun _ => 0))), (q3, .inl (cI, 64, .inl (fun _ => 0)))] H := hP
  have hD : va_D A [(h0, .inr (1, [.ref q1, .int (nI 0), .ref q2, .int (nI 0), .ref q3, .int (nI 0), .null, .int (nI 0)])), (q1, .inl (cI, 24, .inl (fun _ => 0))), (q2, .inl (cI, 160, .inl (fun _ => 0))), (q3, .inl (cI, 64, .inl (fun _ => 0)))] := hD
  refine lv_aload_n hx hb d_M_init_29 rfl (lv_at hl 0 rfl) ?_
  refine lv_bipush (v := nI 64) hx hb d_M_init_30 (by decide) ?_
  refine va_newa (atype := .int) (ty := .int) (a0 := (64, .inl (fun _ => 0))) (N' := 64) hx hb (hts _ m1_49) rfl hK hP hD hS hA (fun _ => rfl) (by decide) (by decide) (by decide) (Nat.le_of_ble_eq_true rfl) (Nat.le_of_ble_eq_true rfl) d_M_init_32 (fun q4 cA H hK hP hD hS => ?_)
  rw [k_cI hK] at hP hD hK
  have hK : va_K D classes (k_tys cI cZ) s := hK.sub [0, 1] rfl
  have hP : va_P D classes [(h0, .inr (1, [.ref q1, .int (nI 0), .ref q2, .int (nI 0), .ref q3, .int (nI 0), .null, .int (nI 0)])), (q1, .inl (cI, 24, .inl (fun _ => 0))), (q2, .inl (cI, 160, .inl (fun _ => 0))), (q3, .inl (cI, 64, .inl (fun _ => 0))), (q4, .inl (cI, 64, .inl (fun _ => 0)))] H := hP
  have hD : va_D A [(h0, .inr (1, [.ref q1, .int (nI 0), .ref q2, .int (nI 0), .ref q3, .int (nI 0), .null, .int (nI 0)])), (q1, .inl (cI, 24, .inl (fun _ => 0))), (q2, .inl (cI, 160, .inl (fun _ => 0))), (q3, .inl (cI, 64, .inl (fun _ => 0))), (q4, .inl (cI, 64, .inl (fun _ => 0)))] := hD
  show W p l e r_M_init s m args below meth c H locs 4 312 Q (F0 m 34 ls [.ref q4, .ref h0])
  refine va_putF (D := D) (ci := 1) (v := .ref q4) (ty := .array .int) (C := R_M) (T := F_M) (N := 8) hx hb hts i_M t_M t_M_ok n_M hown hK hP hD hS 0 rfl rfl 6 (Nat.le_of_ble_eq_true rfl) (hts _ m1_174) (fun _ h9 => h9) rfl hin rfl (by decide +kernel) rfl rfl (Nat.le_of_ble_eq_true rfl) d_M_init_34 (fun H locs hP hD hS => ?_)
  have hP : va_P D classes [(h0, .inr (1, [.ref q1, .int (nI 0), .ref q2, .int (nI 0), .ref q3, .int (nI 0), .ref q4, .int (nI 0)])), (q1, .inl (cI, 24, .inl (fun _ => 0))), (q2, .inl (cI, 160, .inl (fun _ => 0))), (q3, .inl (cI, 64, .inl (fun _ => 0))), (q4, .inl (cI, 64, .inl (fun _ => 0)))] H := hP
  have hD : va_D A [(h0, .inr (1, [.ref q1, .int (nI 0), .ref q2, .int (nI 0), .ref q3, .int (nI 0), .ref q4, .int (nI 0)])), (q1, .inl (cI, 24, .inl (fun _ => 0))), (q2, .inl (cI, 160, .inl (fun _ => 0))), (q3, .inl (cI, 64, .inl (fun _ => 0))), (q4, .inl (cI, 64, .inl (fun _ => 0)))] := hD
  exact k_retv hx hb hr hlk hQ hK hP hD hS (⟨k_q8 h0 q1 q2 q3 q4 0 0 0, rfl, rfl, (fun _ => 0), (fun _ => 0), (fun _ => 0), (fun _ => 0), rfl, sp_rep_nil _, sp_rep_nil _, sp_rep_nil _, sp_rep_nil _⟩) d_M_init_37
end
section
/-! THE CLAIM OUT OF ONE WALK OF THE LAW'S BODY. Your part is whole_start (and what it stands on); all else here is the same for every law, but numbers. -/
def lw_P (b : Addr) (xs : List Int32) (args : Array Value) (s : State) : Prop := args = #[.ref b] ∧ s.IntsAt b xs ∧ xs.length ≤ 2560 ∧ (Jvm.Cond.and given_1 narrow_1).before args s = true
def lw_Q (_ : Array Value) (s : State) (o : Outcome) (t : State) : Prop := o = .returned (some (.int 1)) ∧ Framed s o t [] 13 893
def lw_Z (below : List Frame) (a : Array Value) (s : State) : State → Prop := fun t => ∃ o, t.status = .running ∧ Ended t below o ∧ lw_Q a s o t
/-- the law's own end, with 1 on the stack, nothing written that was there before, its room as the claim has it -/
theorem lw_ret {p : Program} {l : Launch} {e : Env} {s : State} {m : MethodId} {below : List Frame} {meth : Method} {c : Code} {b : Nat} (hx : p.tables.exec = Jvm.exec) (hb : c.code = code) (hr : meth.sig.returnType = ret) (hlocks : meth.locks = false) {pc : Nat} {H : Heap} {ls : Array Slot} (hdg : decode code pc = .ok (.ireturn, 1)) : W p l e room_1 s m #[Value.ref b] below meth c H [] 13 893 (lw_Z below #[Value.ref b] s) (F0 m pc ls [.int 1]) := by
  intro T hT X
  obtain ⟨fs, hret, hrun, hended, hW, hframe⟩ := X.leave (v := some (.int 1)) (hlocks := hlocks) (fun h => by rw [hr] at h; cases h)
  have hmeth' : T.vm.method? m = some meth := X.method'
  refine ⟨T.setFrames fs, ?_, .returned (some (.int 1)), hrun, hended, rfl, ⟨_, rfl⟩, hW, hframe⟩
  jvm_step X.here [X.here.top, hx, hb, hdg, hmeth', hr, ret, narrow_b1]
  (try refine ⟨rfl, ?_⟩); (try refine ⟨rfl, ?_⟩)
  first | (intro acts; rw [hret _ acts rfl rfl rfl]) | rw [hret _ _ rfl rfl rfl]
  exact Steps.refl _
/-- what holds at the law's entry: the machine, the code, the tables' words (any of lw_tbl by 'hts w (by decide +kernel)'), the script of L ints xs at the cell b, what the Statement gives of the start (any of its parts by flat_of_before) -/
def lw_At (p : Program) (s : State) (m : MethodId) (meth : Method) (c : Code) (b L : Nat) (xs : Nat → Int32) : Prop :=
  p.tables.exec = Jvm.exec ∧ c.code = code ∧ meth.sig.returnType = ret ∧ c.maxLocals = 4 ∧ s.vm.findClass R_law = some m.cls ∧ (∀ w ∈ lw_tbl, w.before #[Value.ref b] s = true) ∧ va_X b L xs s s.heap ∧ b < s.heap.size ∧ meth.locks = false ∧ (Jvm.Cond.and given_1 narrow_1).before #[Value.ref b] s = true
/-- what the desk and the reference hold, between two steps of the law -/
def lw_I (LB LT LN KP : List Nat) : Prop := sp_ok LB ∧ LT.length ≤ 160 ∧ sp_ch LT ∧ sp_wf (LT.take 64) ∧ LN.length ≤ 64 ∧ sp_ch LN ∧ sp_wf LN ∧ KP.length ≤ 64
theorem sp_ok_add {L : List Nat} (h : sp_ok L) {v : Nat} (hv : v ≤ 1114111) : sp_ok (sp_add L v) := by
  by_cases e : L.length = 24
  · rw [(sp_add_f e v).1]; exact h
  · rw [(sp_add_n e v).1]
    obtain ⟨h1, h2⟩ := h
    refine ⟨by rw [List.length_append, List.length_singleton]; omega, fun j hj => ?_⟩
    rw [List.length_append, List.length_singleton] at hj
    by_cases ej : j = L.length
    · subst ej; rw [sp_g0]; exact hv
    · rw [sp_gl (by omega)]; exact h2 j (by omega)
theorem sp_ok_nil : sp_ok [] := ⟨by simp, fun j h => absurd h (by simp)⟩
theorem lw_I_add {LB LT LN KP : List Nat} (h : lw_I LB LT LN KP) {v : Nat} (hv : v ≤ 1114111) : lw_I (sp_add LB v) LT LN KP := ⟨sp_ok_add h.1 hv, h.2⟩
theorem lw_I_wipe {LB LT LN KP : List Nat} (h : lw_I LB LT LN KP) : lw_I [] LT LN KP := ⟨sp_ok_nil, h.2⟩
theorem lw_I_write {LB LT LN KP : List Nat} (h : lw_I LB LT LN KP) : lw_I LB (sp_enc LB) LN KP := ⟨h.1, Nat.le_trans (sp_enc_end h.1).1 (by omega), sp_enc_ch h.1, sp_enc_wf h.1, h.2.2.2.2⟩
theorem lw_I_line {LB LT LN KP : List Nat} (h : lw_I LB LT LN KP) (x1 x2 x3 x4 : Int32) : lw_I LB LT (sp_line LN x1 x2 x3 x4) KP := by
  obtain ⟨h1, h2, h3, h4, h5, h6, h7, h8⟩ := h
  unfold sp_line
  split
  · exact ⟨h1, h2, h3, h4, h5, h6, h7, h8⟩
  · have b1 := sp_bc_le x1
    have b2 := sp_bc_le x2
    have b3 := sp_bc_le x3
    have b4 := sp_bc_le x4
    refine ⟨h1, h2, h3, h4, ?_, sp_ch_app (sp_ch_app (sp_ch_app (sp_ch_app h6 (by omega)) (by omega)) (by omega)) (by omega), sp_wf_app (sp_wf_app (sp_wf_app (sp_wf_app h7 b1) b2) b3) b4, h8⟩
    simp only [List.length_append, List.length_singleton]
    omega
theorem lw_I_clear {LB LT LN KP : List Nat} (h : lw_I LB LT LN KP) : lw_I LB LT [] KP := ⟨h.1, h.2.1, h.2.2.1, h.2.2.2.1, by simp, sp_ch_nil, sp_wf_nil, h.2.2.2.2.2.2.2⟩
theorem lw_I_copy {LB LT LN KP : List Nat} (h : lw_I LB LT LN KP) : lw_I LB LT (LT.take 64) KP := ⟨h.1, h.2.1, h.2.2.1, h.2.2.2.1, by rw [List.length_take]; omega, sp_ch_take h.2.2.1 64, h.2.2.2.1, h.2.2.2.2.2.2.2⟩
theorem lw_I_read {LB LT LN KP : List Nat} (h : lw_I LB LT LN KP) : lw_I LB LT LN (sp_rdK LN) := by
  refine ⟨h.1, h.2.1, h.2.2.1, h.2.2.2.1, h.2.2.2.2.1, h.2.2.2.2.2.1, h.2.2.2.2.2.2.1, ?_⟩
  cases e : sp_dec LN with
  | none => rw [(sp_rd_n e).1]; simp
  | some a =>
    rw [(sp_rd_s e).1]
    have h1 := sp_dec_len e
    have h2 := h.2.2.2.2.1
    omega
def sp_op (x : Int32) : Nat := x.toBitVec.toNat % 2 ^ 4
theorem sp_op_eq (x : Int32) : x &&& nI 15 = nI (sp_op x) := pk_and x 4 (by decide)
theorem sp_op_lt (x : Int32) : sp_op x < 16 := Nat.mod_lt _ (by omega)
theorem k_lt5 {L i : Nat} (hL : L < 2 ^ 30) (hi : i < 2 ^ 30) : nI L - nI 5 < nI i ↔ L < i + 5 := by
  rw [Int32.lt_iff_toInt_lt, pk_sub_toInt hL (by omega), nI_toInt (by omega)]
  omega
set_option maxHeartbeats 4000000 in
set_option maxRecDepth 100000 in
/-- THE LAW'S LOOP -/
theorem law_loop {p : Program} {l : Launch} {e : Env} {s : State} {m : MethodId} {below : List Frame} {meth : Method} {c : Code} {D : va_G} {cI cZ : ClassId} {qx qm : Nat → Nat} {b L : Nat} {xs : Nat → Int32} (hL : L ≤ 2560) (C0 : lw_At p s m meth c b L xs) (hK : va_K D classes (k_tys cI cZ) s) :
    ∀ (f i : Nat), L + 5 - i < f → i ≤ L + 5 → ∀ (LB LT LN KP : List Nat) (la le li ke dn ca ne : Nat → Int32) (at_ : Int32) (sg ou lj ba : Nat → Int32), lw_I LB LT LN KP → sp_rep la LB → sp_rep le LT → sp_rep li LN → sp_rep ke KP → sp_rep sg LB → sp_rep ou LT → sp_rep lj LN → sp_rep ba KP → ∀ (H : Heap) (locs : List Loc), va_P D classes (xW cI cZ qx la le li ke dn ca ne (nI (LB.length)) (nI (LT.length)) (nI (LN.length)) (nI (KP.length)) at_ ++ mW cI qm sg ou lj ba (nI (LB.length)) (nI (LT.length)) (nI (LN.length)) (nI (KP.length))) H → va_D (fun q : Nat => s.heap.size ≤ q) (xW cI cZ qx la le li ke dn ca ne (nI (LB.length)) (nI (LT.length)) (nI (LN.length)) (nI (KP.length)) at_ ++ mW cI qm sg ou lj ba (nI (LB.length)) (nI (LT.length)) (nI (LN.length)) (nI (KP.length))) → va_S (fun q : Nat => s.heap.size ≤ q) s.heap H locs → ∀ ls : Array Slot, lv_has ls 4 [(0, .ref (b)), (1, .ref (qx 0)), (2, .ref (qm 0)), (3, .int (nI (i)))] → W p l e room_1 s m #[Value.ref b] below meth c H locs 13 893 (lw_Z below #[Value.ref b] s) (F0 m 18 ls []) := by
  obtain ⟨hx, hb, hr, hml, hown, htsA, hX, hbl, hlocks, hgv⟩ := C0
  have hts : ∀ w ∈ lw_g, w.before #[Value.ref b] s = true := fun w hw => htsA w (List.mem_filter.mp hw).1
  have C1 : CallFix p m c code 4 s #[Value.ref b] lw_g R_law := ⟨hx, hb, hml, hown, hts⟩
  have hA : ∀ q : Nat, s.heap.size ≤ q → (fun q : Nat => s.heap.size ≤ q) q := fun _ h => h
  have hbA : ¬ (fun q : Nat => s.heap.size ≤ q) b := Nat.not_le.mpr hbl
  intro f
  induction f with
  | zero => intro i h; exact absurd h (Nat.not_lt_zero _)
  | succ f ih =>
    intro i hf hi LB LT LN KP la le li ke dn ca ne at_ sg ou lj ba hI hla hle hli hke hsg hou hlj hba H locs hP hD hS ls hl
    refine lv_iload_n hx hb d_L_law_18 rfl (lv_at hl 3 rfl) ?_
    refine lv_aload_n hx hb d_L_law_19 rfl (lv_at hl 0 rfl) ?_
    refine va_slen hx hb hX hbl hbA hS d_L_law_20 ?_
    refine k_cvi (show _ = nI (L) from rfl) ?_
    refine lv_iconst (v := nI (5)) hx hb d_L_law_21 (by decide) ?_
    refine lv_isub hx hb d_L_law_22 ?_
    refine lv_icmp_gt (tgt := 298) hx hb d_L_law_23 (by decide) (fun c_23 => ?_) (fun c_23 => ?_)
    · refine lv_iconst (v := 1) hx hb d_L_law_298 (by decide) ?_
      refine va_forget (fun q hq => hS.2.2 q hq) ?_
      exact lw_ret hx hb hr hlocks d_L_law_299
    · have hlt : i + 5 ≤ L := by rw [k_lt5 (by omega) (by omega)] at c_23; omega
      refine lv_aload_n hx hb d_L_law_26 rfl (lv_at hl 0 rfl) ?_
      refine lv_iload_n hx hb d_L_law_27 rfl (lv_at hl 3 rfl) ?_
      refine va_sld hx hb hX hbl hbA hS (vp_in_nI (show i < L by omega) (by omega)) d_L_law_28 ?_
      refine k_cvi (show _ = xs (i) from by rw [nI_clamp (by omega)]) ?_
      refine lv_bipush (v := nI (15)) hx hb d_L_law_29 (by decide) ?_
      refine lv_iand hx hb d_L_law_31 ?_
      refine k_cvi (show _ = nI (sp_op (xs (i))) from sp_op_eq _) ?_
      have hop := sp_op_lt (xs i)
      have K292 : ∀ (LB LT LN KP : List Nat) (la le li ke dn ca ne : Nat → Int32) (at_ : Int32) (sg ou lj ba : Nat → Int32), lw_I LB LT LN KP → sp_rep la LB → sp_rep le LT → sp_rep li LN → sp_rep ke KP → sp_rep sg LB → sp_rep ou LT → sp_rep lj LN → sp_rep ba KP → ∀ (H : Heap) (locs : List Loc), va_P D classes (xW cI cZ qx la le li ke dn ca ne (nI (LB.length)) (nI (LT.length)) (nI (LN.length)) (nI (KP.length)) at_ ++ mW cI qm sg ou lj ba (nI (LB.length)) (nI (LT.length)) (nI (LN.length)) (nI (KP.length))) H → va_D (fun q : Nat => s.heap.size ≤ q) (xW cI cZ qx la le li ke dn ca ne (nI (LB.length)) (nI (LT.length)) (nI (LN.length)) (nI (KP.length)) at_ ++ mW cI qm sg ou lj ba (nI (LB.length)) (nI (LT.length)) (nI (LN.length)) (nI (KP.length))) → va_S (fun q : Nat => s.heap.size ≤ q) s.heap H locs → W p l e room_1 s m #[Value.ref b] below meth c H locs 13 893 (lw_Z below #[Value.ref b] s) (F0 m 292 ls []) := by
        intro LB LT LN KP la le li ke dn ca ne at_ sg ou lj ba hI hla hle hli hke hsg hou hlj hba H locs hP hD hS
        refine lv_iinc (v := nI (i + 5)) (lv' := [(3, .int (nI (i + 5))), (0, .ref (b)), (1, .ref (qx 0)), (2, .ref (qm 0))]) hx hb d_L_law_292 hl (k := 3) rfl (k_inc (by decide)) (Nat.le_of_ble_eq_true rfl) rfl (fun ls hl => ?_)
        refine lv_goto (tgt := 18) hx hb d_L_law_295 (by decide) ?_
        exact ih (i + 5) (by omega) (by omega) LB LT LN KP la le li ke dn ca ne at_ sg ou lj ba hI hla hle hli hke hsg hou hlj hba H locs hP hD hS ls (lv_sub hl [1, 2, 3, 0] rfl)
      rcases (show sp_op (xs i) = 0 ∨ sp_op (xs i) = 1 ∨ sp_op (xs i) = 2 ∨ sp_op (xs i) = 3 ∨ sp_op (xs i) = 4 ∨ sp_op (xs i) = 5 ∨ sp_op (xs i) = 6 ∨ sp_op (xs i) = 7 ∨ sp_op (xs i) = 8 ∨ sp_op (xs i) = 9 ∨ 10 ≤ sp_op (xs i) by omega) with ho | ho | ho | ho | ho | ho | ho | ho | ho | ho | ho
      · rw [ho]
        refine lv_tableIn (tgt := 88) (off := 56) hx hb d_L_law_32 (by decide) (by decide) (by decide) (by decide) ?_
        refine lv_aload_n hx hb d_L_law_88 rfl (lv_at hl 1 rfl) ?_
        refine lv_aload_n hx hb d_L_law_89 rfl (lv_at hl 0 rfl) ?_
        refine lv_iload_n hx hb d_L_law_90 rfl (lv_at hl 3 rfl) ?_
        refine lv_iconst (v := nI (1)) hx hb d_L_law_91 (by decide) ?_
        refine k_iadd hx hb d_L_law_92 ?_
        refine va_sld hx hb hX hbl hbA hS (vp_in_nI (show i + 1 < L by omega) (by omega)) d_L_law_93 ?_
        refine k_cvi (show _ = xs (i + 1) from by rw [nI_clamp (by omega)]) ?_
        refine k_callP (wr := mW cI qm sg ou lj ba (nI (LB.length)) (nI (LT.length)) (nI (LN.length)) (nI (KP.length))) [.int (xs (i + 1))] C1 (c_X_put l D cI cZ qx H.size la le li ke dn ca ne at_ LB LT LN KP hla hle hli hke (xs (i + 1)) hI.1.1) m1_54 m1_51 m1_1 m1_52 m1_53 hd_X_put ⟨(Nat.le_of_ble_eq_true rfl), (Nat.le_of_ble_eq_true rfl)⟩ hK hP hD hS hA [0, 1, 2, 3, 4, 5, 6, 7] [8, 9, 10, 11, 12] rfl rfl (by decide) (by decide) (by decide) (hP.sub (ws' := xW cI cZ qx la le li ke dn ca ne (nI (LB.length)) (nI (LT.length)) (nI (LN.length)) (nI (KP.length)) at_) [0, 1, 2, 3, 4, 5, 6, 7] rfl) (ci := 0) rfl rfl rfl rfl hl.1 (Nat.le_of_ble_eq_true rfl) d_L_law_94 ⟨(Nat.le_of_ble_eq_true rfl), (Nat.le_of_ble_eq_true rfl)⟩ (fun v ws H locs hw hP hD hS => ?_)
        obtain ⟨rfl, la, le, li, ke, dn, ca, ne, at_, rfl, hla, hle, hli, hke⟩ := hw
        show W p l e room_1 s m #[Value.ref b] below meth c H locs 13 893 (lw_Z below #[Value.ref b] s) (F0 m 97 ls [.int (nI (sp_addb LB))])
        have hP : va_P D classes (mW cI qm sg ou lj ba (nI (LB.length)) (nI (LT.length)) (nI (LN.length)) (nI (KP.length)) ++ xW cI cZ qx la le li ke dn ca ne (nI ((sp_add LB (sp_sg (xs (i + 1)))).length)) (nI (LT.length)) (nI (LN.length)) (nI (KP.length)) at_) H := hP
        have hD : va_D (fun q : Nat => s.heap.size ≤ q) (mW cI qm sg ou lj ba (nI (LB.length)) (nI (LT.length)) (nI (LN.length)) (nI (KP.length)) ++ xW cI cZ qx la le li ke dn ca ne (nI ((sp_add LB (sp_sg (xs (i + 1)))).length)) (nI (LT.length)) (nI (LN.length)) (nI (KP.length)) at_) := hD
        refine lv_aload_n hx hb d_L_law_97 rfl (lv_at hl 2 rfl) ?_
        refine lv_aload_n hx hb d_L_law_98 rfl (lv_at hl 0 rfl) ?_
        refine lv_iload_n hx hb d_L_law_99 rfl (lv_at hl 3 rfl) ?_
        refine lv_iconst (v := nI (1)) hx hb d_L_law_100 (by decide) ?_
        refine k_iadd hx hb d_L_law_101 ?_
        refine va_sld hx hb hX hbl hbA hS (vp_in_nI (show i + 1 < L by omega) (by omega)) d_L_law_102 ?_
        refine k_cvi (show _ = xs (i + 1) from by rw [nI_clamp (by omega)]) ?_
        refine k_callP (wr := xW cI cZ qx la le li ke dn ca ne (nI ((sp_add LB (sp_sg (xs (i + 1)))).length)) (nI (LT.length)) (nI (LN.length)) (nI (KP.length)) at_) [.int (xs (i + 1))] C1 (c_M_put l D cI cZ qm H.size sg ou lj ba LB LT LN KP hsg hou hlj hba (xs (i + 1)) hI.1.1) m1_196 m1_193 m1_2 m1_194 m1_195 hd_M_put ⟨(Nat.le_of_ble_eq_true rfl), (Nat.le_of_ble_eq_true rfl)⟩ hK hP hD hS hA [0, 1, 2, 3, 4] [5, 6, 7, 8, 9, 10, 11, 12] rfl rfl (by decide) (by decide) (by decide) (hP.sub (ws' := mW cI qm sg ou lj ba (nI (LB.length)) (nI (LT.length)) (nI (LN.length)) (nI (KP.length))) [0, 1, 2, 3, 4] rfl) (ci := 1) rfl rfl rfl rfl hl.1 (Nat.le_of_ble_eq_true rfl) d_L_law_103 ⟨(Nat.le_of_ble_eq_true rfl), (Nat.le_of_ble_eq_true rfl)⟩ (fun v ws H locs hw hP hD hS => ?_)
        obtain ⟨rfl, sg, ou, lj, ba, rfl, hsg, hou, hlj, hba⟩ := hw
        show W p l e room_1 s m #[Value.ref b] below meth c H locs 13 893 (lw_Z below #[Value.ref b] s) (F0 m 106 ls [.int (nI (sp_addb LB)), .int (nI (sp_addb LB))])
        have hP : va_P D classes (xW cI cZ qx la le li ke dn ca ne (nI ((sp_add LB (sp_sg (xs (i + 1)))).length)) (nI (LT.length)) (nI (LN.length)) (nI (KP.length)) at_ ++ mW cI qm sg ou lj ba (nI ((sp_add LB (sp_sg (xs (i + 1)))).length)) (nI (LT.length)) (nI (LN.length)) (nI (KP.length))) H := hP
        have hD : va_D (fun q : Nat => s.heap.size ≤ q) (xW cI cZ qx la le li ke dn ca ne (nI ((sp_add LB (sp_sg (xs (i + 1)))).length)) (nI (LT.length)) (nI (LN.length)) (nI (KP.length)) at_ ++ mW cI qm sg ou lj ba (nI ((sp_add LB (sp_sg (xs (i + 1)))).length)) (nI (LT.length)) (nI (LN.length)) (nI (KP.length))) := hD
        refine lv_icmp_eq (tgt := 292) hx hb d_L_law_106 (by decide) (fun _ => ?_) (fun q => absurd rfl q)
        exact K292 (sp_add LB (sp_sg (xs (i + 1)))) LT LN KP la le li ke dn ca ne at_ sg ou lj ba (lw_I_add hI (sp_sg_le _)) hla hle hli hke hsg hou hlj hba H locs hP hD hS
      · rw [ho]
        refine lv_tableIn (tgt := 111) (off := 79) hx hb d_L_law_32 (by decide) (by decide) (by decide) (by decide) ?_
        refine lv_aload_n hx hb d_L_law_111 rfl (lv_at hl 1 rfl) ?_
        refine lv_aload_n hx hb d_L_law_112 rfl (lv_at hl 0 rfl) ?_
        refine lv_iload_n hx hb d_L_law_113 rfl (lv_at hl 3 rfl) ?_
        refine lv_iconst (v := nI (1)) hx hb d_L_law_114 (by decide) ?_
        refine k_iadd hx hb d_L_law_115 ?_
        refine va_sld hx hb hX hbl hbA hS (vp_in_nI (show i + 1 < L by omega) (by omega)) d_L_law_116 ?_
        refine k_cvi (show _ = xs (i + 1) from by rw [nI_clamp (by omega)]) ?_
        refine k_callP (wr := mW cI qm sg ou lj ba (nI (LB.length)) (nI (LT.length)) (nI (LN.length)) (nI (KP.length))) [.int (xs (i + 1))] C1 (c_X_plain l D cI cZ qx H.size la le li ke dn ca ne at_ LB LT LN KP hla hle hli hke (xs (i + 1)) hI.1.1) m1_68 m1_65 m1_1 m1_66 m1_67 hd_X_plain ⟨(Nat.le_of_ble_eq_true rfl), (Nat.le_of_ble_eq_true rfl)⟩ hK hP hD hS hA [0, 1, 2, 3, 4, 5, 6, 7] [8, 9, 10, 11, 12] rfl rfl (by decide) (by decide) (by decide) (hP.sub (ws' := xW cI cZ qx la le li ke dn ca ne (nI (LB.length)) (nI (LT.length)) (nI (LN.length)) (nI (KP.length)) at_) [0, 1, 2, 3, 4, 5, 6, 7] rfl) (ci := 0) rfl rfl rfl rfl hl.1 (Nat.le_of_ble_eq_true rfl) d_L_law_117 ⟨(Nat.le_of_ble_eq_true rfl), (Nat.le_of_ble_eq_true rfl)⟩ (fun v ws H locs hw hP hD hS => ?_)
        obtain ⟨rfl, la, le, li, ke, dn, ca, ne, at_, rfl, hla, hle, hli, hke⟩ := hw
        show W p l e room_1 s m #[Value.ref b] below meth c H locs 13 893 (lw_Z below #[Value.ref b] s) (F0 m 120 ls [.int (nI (sp_addb LB))])
        have hP : va_P D classes (mW cI qm sg ou lj ba (nI (LB.length)) (nI (LT.length)) (nI (LN.length)) (nI (KP.length)) ++ xW cI cZ qx la le li ke dn ca ne (nI ((sp_add LB (97 + sp_c31 (xs (i + 1)) % 26)).length)) (nI (LT.length)) (nI (LN.length)) (nI (KP.length)) at_) H := hP
        have hD : va_D (fun q : Nat => s.heap.size ≤ q) (mW cI qm sg ou lj ba (nI (LB.length)) (nI (LT.length)) (nI (LN.length)) (nI (KP.length)) ++ xW cI cZ qx la le li ke dn ca ne (nI ((sp_add LB (97 + sp_c31 (xs (i + 1)) % 26)).length)) (nI (LT.length)) (nI (LN.length)) (nI (KP.length)) at_) := hD
        refine lv_aload_n hx hb d_L_law_120 rfl (lv_at hl 2 rfl) ?_
        refine lv_aload_n hx hb d_L_law_121 rfl (lv_at hl 0 rfl) ?_
        refine lv_iload_n hx hb d_L_law_122 rfl (lv_at hl 3 rfl) ?_
        refine lv_iconst (v := nI (1)) hx hb d_L_law_123 (by decide) ?_
        refine k_iadd hx hb d_L_law_124 ?_
        refine va_sld hx hb hX hbl hbA hS (vp_in_nI (show i + 1 < L by omega) (by omega)) d_L_law_125 ?_
        refine k_cvi (show _ = xs (i + 1) from by rw [nI_clamp (by omega)]) ?_
        refine k_callP (wr := xW cI cZ qx la le li ke dn ca ne (nI ((sp_add LB (97 + sp_c31 (xs (i + 1)) % 26)).length)) (nI (LT.length)) (nI (LN.length)) (nI (KP.length)) at_) [.int (xs (i + 1))] C1 (c_M_plain l D cI cZ qm H.size sg ou lj ba LB LT LN KP hsg hou hlj hba (xs (i + 1)) hI.1.1) m1_203 m1_200 m1_2 m1_201 m1_202 hd_M_plain ⟨(Nat.le_of_ble_eq_true rfl), (Nat.le_of_ble_eq_true rfl)⟩ hK hP hD hS hA [0, 1, 2, 3, 4] [5, 6, 7, 8, 9, 10, 11, 12] rfl rfl (by decide) (by decide) (by decide) (hP.sub (ws' := mW cI qm sg ou lj ba (nI (LB.length)) (nI (LT.length)) (nI (LN.length)) (nI (KP.length))) [0, 1, 2, 3, 4] rfl) (ci := 1) rfl rfl rfl rfl hl.1 (Nat.le_of_ble_eq_true rfl) d_L_law_126 ⟨(Nat.le_of_ble_eq_true rfl), (Nat.le_of_ble_eq_true rfl)⟩ (fun v ws H locs hw hP hD hS => ?_)
        obtain ⟨rfl, sg, ou, lj, ba, rfl, hsg, hou, hlj, hba⟩ := hw
        show W p l e room_1 s m #[Value.ref b] below meth c H locs 13 893 (lw_Z below #[Value.ref b] s) (F0 m 129 ls [.int (nI (sp_addb LB)), .int (nI (sp_addb LB))])
        have hP : va_P D classes (xW cI cZ qx la le li ke dn ca ne (nI ((sp_add LB (97 + sp_c31 (xs (i + 1)) % 26)).length)) (nI (LT.length)) (nI (LN.length)) (nI (KP.length)) at_ ++ mW cI qm sg ou lj ba (nI ((sp_add LB (97 + sp_c31 (xs (i + 1)) % 26)).length)) (nI (LT.length)) (nI (LN.length)) (nI (KP.length))) H := hP
        have hD : va_D (fun q : Nat => s.heap.size ≤ q) (xW cI cZ qx la le li ke dn ca ne (nI ((sp_add LB (97 + sp_c31 (xs (i + 1)) % 26)).length)) (nI (LT.length)) (nI (LN.length)) (nI (KP.length)) at_ ++ mW cI qm sg ou lj ba (nI ((sp_add LB (97 + sp_c31 (xs (i + 1)) % 26)).length)) (nI (LT.length)) (nI (LN.length)) (nI (KP.length))) := hD
        refine lv_icmp_eq (tgt := 292) hx hb d_L_law_129 (by decide) (fun _ => ?_) (fun q => absurd rfl q)
        exact K292 (sp_add LB (97 + sp_c31 (xs (i + 1)) % 26)) LT LN KP la le li ke dn ca ne at_ sg ou lj ba (lw_I_add hI (by omega)) hla hle hli hke hsg hou hlj hba H locs hP hD hS
      · rw [ho]
        refine lv_tableIn (tgt := 134) (off := 102) hx hb d_L_law_32 (by decide) (by decide) (by decide) (by decide) ?_
        refine lv_aload_n hx hb d_L_law_134 rfl (lv_at hl 1 rfl) ?_
        refine k_callP (wr := mW cI qm sg ou lj ba (nI (LB.length)) (nI (LT.length)) (nI (LN.length)) (nI (KP.length))) [] C1 (c_X_wipe l D cI cZ qx H.size la le li ke dn ca ne at_ LB LT LN KP hla hle hli hke ) m1_72 m1_69 m1_1 m1_70 m1_71 hd_X_wipe ⟨(Nat.le_of_ble_eq_true rfl), (Nat.le_of_ble_eq_true rfl)⟩ hK hP hD hS hA [0, 1, 2, 3, 4, 5, 6, 7] [8, 9, 10, 11, 12] rfl rfl (by decide) (by decide) (by decide) (hP.sub (ws' := xW cI cZ qx la le li ke dn ca ne (nI (LB.length)) (nI (LT.length)) (nI (LN.length)) (nI (KP.length)) at_) [0, 1, 2, 3, 4, 5, 6, 7] rfl) (ci := 0) rfl rfl rfl rfl hl.1 (Nat.le_of_ble_eq_true rfl) d_L_law_135 ⟨(Nat.le_of_ble_eq_true rfl), (Nat.le_of_ble_eq_true rfl)⟩ (fun v ws H locs hw hP hD hS => ?_)
        obtain ⟨rfl, la, le, li, ke, dn, ca, ne, at_, rfl, hla, hle, hli, hke⟩ := hw
        show W p l e room_1 s m #[Value.ref b] below meth c H locs 13 893 (lw_Z below #[Value.ref b] s) (F0 m 138 ls [])
        have hP : va_P D classes (mW cI qm sg ou lj ba (nI (LB.length)) (nI (LT.length)) (nI (LN.length)) (nI (KP.length)) ++ xW cI cZ qx la le li ke dn ca ne (nI ((([] : List Nat)).length)) (nI (LT.length)) (nI (LN.length)) (nI (KP.length)) at_) H := hP
        have hD : va_D (fun q : Nat => s.heap.size ≤ q) (mW cI qm sg ou lj ba (nI (LB.length)) (nI (LT.length)) (nI (LN.length)) (nI (KP.length)) ++ xW cI cZ qx la le li ke dn ca ne (nI ((([] : List Nat)).length)) (nI (LT.length)) (nI (LN.length)) (nI (KP.length)) at_) := hD
        refine lv_aload_n hx hb d_L_law_138 rfl (lv_at hl 2 rfl) ?_
        refine k_callP (wr := xW cI cZ qx la le li ke dn ca ne (nI ((([] : List Nat)).length)) (nI (LT.length)) (nI (LN.length)) (nI (KP.length)) at_) [] C1 (c_M_wipe l D cI cZ qm H.size sg ou lj ba LB LT LN KP hsg hou hlj hba ) m1_207 m1_204 m1_2 m1_205 m1_206 hd_M_wipe ⟨(Nat.le_of_ble_eq_true rfl), (Nat.le_of_ble_eq_true rfl)⟩ hK hP hD hS hA [0, 1, 2, 3, 4] [5, 6, 7, 8, 9, 10, 11, 12] rfl rfl (by decide) (by decide) (by decide) (hP.sub (ws' := mW cI qm sg ou lj ba (nI (LB.length)) (nI (LT.length)) (nI (LN.length)) (nI (KP.length))) [0, 1, 2, 3, 4] rfl) (ci := 1) rfl rfl rfl rfl hl.1 (Nat.le_of_ble_eq_true rfl) d_L_law_139 ⟨(Nat.le_of_ble_eq_true rfl), (Nat.le_of_ble_eq_true rfl)⟩ (fun v ws H locs hw hP hD hS => ?_)
        obtain ⟨rfl, sg, ou, lj, ba, rfl, hsg, hou, hlj, hba⟩ := hw
        show W p l e room_1 s m #[Value.ref b] below meth c H locs 13 893 (lw_Z below #[Value.ref b] s) (F0 m 142 ls [])
        have hP : va_P D classes (xW cI cZ qx la le li ke dn ca ne (nI ((([] : List Nat)).length)) (nI (LT.length)) (nI (LN.length)) (nI (KP.length)) at_ ++ mW cI qm sg ou lj ba (nI ((([] : List Nat)).length)) (nI (LT.length)) (nI (LN.length)) (nI (KP.length))) H := hP
        have hD : va_D (fun q : Nat => s.heap.size ≤ q) (xW cI cZ qx la le li ke dn ca ne (nI ((([] : List Nat)).length)) (nI (LT.length)) (nI (LN.length)) (nI (KP.length)) at_ ++ mW cI qm sg ou lj ba (nI ((([] : List Nat)).length)) (nI (LT.length)) (nI (LN.length)) (nI (KP.length))) := hD
        refine lv_goto (tgt := 292) hx hb d_L_law_142 (by decide) ?_
        exact K292 (([] : List Nat)) LT LN KP la le li ke dn ca ne at_ sg ou lj ba (lw_I_wipe hI) hla hle hli hke hsg hou hlj hba H locs hP hD hS
      · rw [ho]
        refine lv_tableIn (tgt := 145) (off := 113) hx hb d_L_law_32 (by decide) (by decide) (by decide) (by decide) ?_
        refine lv_aload_n hx hb d_L_law_145 rfl (lv_at hl 1 rfl) ?_
        refine k_callP (wr := mW cI qm sg ou lj ba (nI (LB.length)) (nI (LT.length)) (nI (LN.length)) (nI (KP.length))) [] C1 (c_X_write l D cI cZ qx H.size la le li ke dn ca ne at_ LB LT LN KP hla hle hli hke hI.1 (by have := hI.2.1; omega)) m1_76 m1_73 m1_1 m1_74 m1_75 hd_X_write ⟨(Nat.le_of_ble_eq_true rfl), (Nat.le_of_ble_eq_true rfl)⟩ hK hP hD hS hA [0, 1, 2, 3, 4, 5, 6, 7] [8, 9, 10, 11, 12] rfl rfl (by decide) (by decide) (by decide) (hP.sub (ws' := xW cI cZ qx la le li ke dn ca ne (nI (LB.length)) (nI (LT.length)) (nI (LN.length)) (nI (KP.length)) at_) [0, 1, 2, 3, 4, 5, 6, 7] rfl) (ci := 0) rfl rfl rfl rfl hl.1 (Nat.le_of_ble_eq_true rfl) d_L_law_146 ⟨(Nat.le_of_ble_eq_true rfl), (Nat.le_of_ble_eq_true rfl)⟩ (fun v ws H locs hw hP hD hS => ?_)
        obtain ⟨rfl, la, le, li, ke, dn, ca, ne, at_, rfl, hla, hle, hli, hke⟩ := hw
        show W p l e room_1 s m #[Value.ref b] below meth c H locs 13 893 (lw_Z below #[Value.ref b] s) (F0 m 149 ls [.int (nI ((sp_enc LB).length))])
        have hP : va_P D classes (mW cI qm sg ou lj ba (nI (LB.length)) (nI (LT.length)) (nI (LN.length)) (nI (KP.length)) ++ xW cI cZ qx la le li ke dn ca ne (nI (LB.length)) (nI ((sp_enc LB).length)) (nI (LN.length)) (nI (KP.length)) at_) H := hP
        have hD : va_D (fun q : Nat => s.heap.size ≤ q) (mW cI qm sg ou lj ba (nI (LB.length)) (nI (LT.length)) (nI (LN.length)) (nI (KP.length)) ++ xW cI cZ qx la le li ke dn ca ne (nI (LB.length)) (nI ((sp_enc LB).length)) (nI (LN.length)) (nI (KP.length)) at_) := hD
        refine lv_aload_n hx hb d_L_law_149 rfl (lv_at hl 2 rfl) ?_
        refine k_callP (wr := xW cI cZ qx la le li ke dn ca ne (nI (LB.length)) (nI ((sp_enc LB).length)) (nI (LN.length)) (nI (KP.length)) at_) [] C1 (c_M_write l D cI cZ qm H.size sg ou lj ba LB LT LN KP hsg hou hlj hba hI.1 (by have := hI.2.1; omega)) m1_211 m1_208 m1_2 m1_209 m1_210 hd_M_write ⟨(Nat.le_of_ble_eq_true rfl), (Nat.le_of_ble_eq_true rfl)⟩ hK hP hD hS hA [0, 1, 2, 3, 4] [5, 6, 7, 8, 9, 10, 11, 12] rfl rfl (by decide) (by decide) (by decide) (hP.sub (ws' := mW cI qm sg ou lj ba (nI (LB.length)) (nI (LT.length)) (nI (LN.length)) (nI (KP.length))) [0, 1, 2, 3, 4] rfl) (ci := 1) rfl rfl rfl rfl hl.1 (Nat.le_of_ble_eq_true rfl) d_L_law_150 ⟨(Nat.le_of_ble_eq_true rfl), (Nat.le_of_ble_eq_true rfl)⟩ (fun v ws H locs hw hP hD hS => ?_)
        obtain ⟨rfl, sg, ou, lj, ba, rfl, hsg, hou, hlj, hba⟩ := hw
        show W p l e room_1 s m #[Value.ref b] below meth c H locs 13 893 (lw_Z below #[Value.ref b] s) (F0 m 153 ls [.int (nI ((sp_enc LB).length)), .int (nI ((sp_enc LB).length))])
        have hP : va_P D classes (xW cI cZ qx la le li ke dn ca ne (nI (LB.length)) (nI ((sp_enc LB).length)) (nI (LN.length)) (nI (KP.length)) at_ ++ mW cI qm sg ou lj ba (nI (LB.length)) (nI ((sp_enc LB).length)) (nI (LN.length)) (nI (KP.length))) H := hP
        have hD : va_D (fun q : Nat => s.heap.size ≤ q) (xW cI cZ qx la le li ke dn ca ne (nI (LB.length)) (nI ((sp_enc LB).length)) (nI (LN.length)) (nI (KP.length)) at_ ++ mW cI qm sg ou lj ba (nI (LB.length)) (nI ((sp_enc LB).length)) (nI (LN.length)) (nI (KP.length))) := hD
        refine lv_icmp_eq (tgt := 292) hx hb d_L_law_153 (by decide) (fun _ => ?_) (fun q => absurd rfl q)
        exact K292 LB (sp_enc LB) LN KP la le li ke dn ca ne at_ sg ou lj ba (lw_I_write hI) hla hle hli hke hsg hou hlj hba H locs hP hD hS
      · rw [ho]
        refine lv_tableIn (tgt := 158) (off := 126) hx hb d_L_law_32 (by decide) (by decide) (by decide) (by decide) ?_
        refine lv_aload_n hx hb d_L_law_158 rfl (lv_at hl 1 rfl) ?_
        refine lv_aload_n hx hb d_L_law_159 rfl (lv_at hl 0 rfl) ?_
        refine lv_iload_n hx hb d_L_law_160 rfl (lv_at hl 3 rfl) ?_
        refine lv_iconst (v := nI (1)) hx hb d_L_law_161 (by decide) ?_
        refine k_iadd hx hb d_L_law_162 ?_
        refine va_sld hx hb hX hbl hbA hS (vp_in_nI (show i + 1 < L by omega) (by omega)) d_L_law_163 ?_
        refine k_cvi (show _ = xs (i + 1) from by rw [nI_clamp (by omega)]) ?_
        refine k_callP (wr := mW cI qm sg ou lj ba (nI (LB.length)) (nI (LT.length)) (nI (LN.length)) (nI (KP.length))) [.int (xs (i + 1))] C1 (c_X_letter l D cI cZ qx H.size la le li ke dn ca ne at_ LB LT LN KP hla hle hli hke (xs (i + 1)) (by have := hI.2.1; omega)) m1_107 m1_104 m1_1 m1_105 m1_106 hd_X_letter ⟨(Nat.le_of_ble_eq_true rfl), (Nat.le_of_ble_eq_true rfl)⟩ hK hP hD hS hA [0, 1, 2, 3, 4, 5, 6, 7] [8, 9, 10, 11, 12] rfl rfl (by decide) (by decide) (by decide) (hP.sub (ws' := xW cI cZ qx la le li ke dn ca ne (nI (LB.length)) (nI (LT.length)) (nI (LN.length)) (nI (KP.length)) at_) [0, 1, 2, 3, 4, 5, 6, 7] rfl) (ci := 0) rfl rfl rfl rfl hl.1 (Nat.le_of_ble_eq_true rfl) d_L_law_164 ⟨(Nat.le_of_ble_eq_true rfl), (Nat.le_of_ble_eq_true rfl)⟩ (fun v ws H locs hw hP hD hS => ?_)
        obtain ⟨rfl, la, le, li, ke, dn, ca, ne, at_, rfl, hla, hle, hli, hke⟩ := hw
        show W p l e room_1 s m #[Value.ref b] below meth c H locs 13 893 (lw_Z below #[Value.ref b] s) (F0 m 167 ls [.int (sp_pick LT (xs (i + 1)))])
        have hP : va_P D classes (mW cI qm sg ou lj ba (nI (LB.length)) (nI (LT.length)) (nI (LN.length)) (nI (KP.length)) ++ xW cI cZ qx la le li ke dn ca ne (nI (LB.length)) (nI (LT.length)) (nI (LN.length)) (nI (KP.length)) at_) H := hP
        have hD : va_D (fun q : Nat => s.heap.size ≤ q) (mW cI qm sg ou lj ba (nI (LB.length)) (nI (LT.length)) (nI (LN.length)) (nI (KP.length)) ++ xW cI cZ qx la le li ke dn ca ne (nI (LB.length)) (nI (LT.length)) (nI (LN.length)) (nI (KP.length)) at_) := hD
        refine lv_aload_n hx hb d_L_law_167 rfl (lv_at hl 2 rfl) ?_
        refine lv_aload_n hx hb d_L_law_168 rfl (lv_at hl 0 rfl) ?_
        refine lv_iload_n hx hb d_L_law_169 rfl (lv_at hl 3 rfl) ?_
        refine lv_iconst (v := nI (1)) hx hb d_L_law_170 (by decide) ?_
        refine k_iadd hx hb d_L_law_171 ?_
        refine va_sld hx hb hX hbl hbA hS (vp_in_nI (show i + 1 < L by omega) (by omega)) d_L_law_172 ?_
        refine k_cvi (show _ = xs (i + 1) from by rw [nI_clamp (by omega)]) ?_
        refine k_callP (wr := xW cI cZ qx la le li ke dn ca ne (nI (LB.length)) (nI (LT.length)) (nI (LN.length)) (nI (KP.length)) at_) [.int (xs (i + 1))] C1 (c_M_letter l D cI cZ qm H.size sg ou lj ba LB LT LN KP hsg hou hlj hba (xs (i + 1)) (by have := hI.2.1; omega)) m1_222 m1_219 m1_2 m1_220 m1_221 hd_M_letter ⟨(Nat.le_of_ble_eq_true rfl), (Nat.le_of_ble_eq_true rfl)⟩ hK hP hD hS hA [0, 1, 2, 3, 4] [5, 6, 7, 8, 9, 10, 11, 12] rfl rfl (by decide) (by decide) (by decide) (hP.sub (ws' := mW cI qm sg ou lj ba (nI (LB.length)) (nI (LT.length)) (nI (LN.length)) (nI (KP.length))) [0, 1, 2, 3, 4] rfl) (ci := 1) rfl rfl rfl rfl hl.1 (Nat.le_of_ble_eq_true rfl) d_L_law_173 ⟨(Nat.le_of_ble_eq_true rfl), (Nat.le_of_ble_eq_true rfl)⟩ (fun v ws H locs hw hP hD hS => ?_)
        obtain ⟨rfl, sg, ou, lj, ba, rfl, hsg, hou, hlj, hba⟩ := hw
        show W p l e room_1 s m #[Value.ref b] below meth c H locs 13 893 (lw_Z below #[Value.ref b] s) (F0 m 176 ls [.int (sp_pick LT (xs (i + 1))), .int (sp_pick LT (xs (i + 1)))])
        have hP : va_P D classes (xW cI cZ qx la le li ke dn ca ne (nI (LB.length)) (nI (LT.length)) (nI (LN.length)) (nI (KP.length)) at_ ++ mW cI qm sg ou lj ba (nI (LB.length)) (nI (LT.length)) (nI (LN.length)) (nI (KP.length))) H := hP
        have hD : va_D (fun q : Nat => s.heap.size ≤ q) (xW cI cZ qx la le li ke dn ca ne (nI (LB.length)) (nI (LT.length)) (nI (LN.length)) (nI (KP.length)) at_ ++ mW cI qm sg ou lj ba (nI (LB.length)) (nI (LT.length)) (nI (LN.length)) (nI (KP.length))) := hD
        refine lv_icmp_eq (tgt := 292) hx hb d_L_law_176 (by decide) (fun _ => ?_) (fun q => absurd rfl q)
        exact K292 LB LT LN KP la le li ke dn ca ne at_ sg ou lj ba (hI) hla hle hli hke hsg hou hlj hba H locs hP hD hS
      · rw [ho]
        refine lv_tableIn (tgt := 181) (off := 149) hx hb d_L_law_32 (by decide) (by decide) (by decide) (by decide) ?_
        refine lv_aload_n hx hb d_L_law_181 rfl (lv_at hl 1 rfl) ?_
        refine lv_aload_n hx hb d_L_law_182 rfl (lv_at hl 0 rfl) ?_
        refine lv_iload_n hx hb d_L_law_183 rfl (lv_at hl 3 rfl) ?_
        refine lv_iconst (v := nI (1)) hx hb d_L_law_184 (by decide) ?_
        refine k_iadd hx hb d_L_law_185 ?_
        refine va_sld hx hb hX hbl hbA hS (vp_in_nI (show i + 1 < L by omega) (by omega)) d_L_law_186 ?_
        refine k_cvi (show _ = xs (i + 1) from by rw [nI_clamp (by omega)]) ?_
        refine lv_aload_n hx hb d_L_law_187 rfl (lv_at hl 0 rfl) ?_
        refine lv_iload_n hx hb d_L_law_188 rfl (lv_at hl 3 rfl) ?_
        refine lv_iconst (v := nI (2)) hx hb d_L_law_189 (by decide) ?_
        refine k_iadd hx hb d_L_law_190 ?_
        refine va_sld hx hb hX hbl hbA hS (vp_in_nI (show i + 2 < L by omega) (by omega)) d_L_law_191 ?_
        refine k_cvi (show _ = xs (i + 2) from by rw [nI_clamp (by omega)]) ?_
        refine lv_aload_n hx hb d_L_law_192 rfl (lv_at hl 0 rfl) ?_
        refine lv_iload_n hx hb d_L_law_193 rfl (lv_at hl 3 rfl) ?_
        refine lv_iconst (v := nI (3)) hx hb d_L_law_194 (by decide) ?_
        refine k_iadd hx hb d_L_law_195 ?_
        refine va_sld hx hb hX hbl hbA hS (vp_in_nI (show i + 3 < L by omega) (by omega)) d_L_law_196 ?_
        refine k_cvi (show _ = xs (i + 3) from by rw [nI_clamp (by omega)]) ?_
        refine lv_aload_n hx hb d_L_law_197 rfl (lv_at hl 0 rfl) ?_
        refine lv_iload_n hx hb d_L_law_198 rfl (lv_at hl 3 rfl) ?_
        refine lv_iconst (v := nI (4)) hx hb d_L_law_199 (by decide) ?_
        refine k_iadd hx hb d_L_law_200 ?_
        refine va_sld hx hb hX hbl hbA hS (vp_in_nI (show i + 4 < L by omega) (by omega)) d_L_law_201 ?_
        refine k_cvi (show _ = xs (i + 4) from by rw [nI_clamp (by omega)]) ?_
        refine k_callP (wr := mW cI qm sg ou lj ba (nI (LB.length)) (nI (LT.length)) (nI (LN.length)) (nI (KP.length))) [.int (xs (i + 1)), .int (xs (i + 2)), .int (xs (i + 3)), .int (xs (i + 4))] C1 (c_X_line l D cI cZ qx H.size la le li ke dn ca ne at_ LB LT LN KP hla hle hli hke (xs (i + 1)) (xs (i + 2)) (xs (i + 3)) (xs (i + 4)) hI.2.2.2.2.1) m1_114 m1_111 m1_1 m1_112 m1_113 hd_X_line ⟨(Nat.le_of_ble_eq_true rfl), (Nat.le_of_ble_eq_true rfl)⟩ hK hP hD hS hA [0, 1, 2, 3, 4, 5, 6, 7] [8, 9, 10, 11, 12] rfl rfl (by decide) (by decide) (by decide) (hP.sub (ws' := xW cI cZ qx la le li ke dn ca ne (nI (LB.length)) (nI (LT.length)) (nI (LN.length)) (nI (KP.length)) at_) [0, 1, 2, 3, 4, 5, 6, 7] rfl) (ci := 0) rfl rfl rfl rfl hl.1 (Nat.le_of_ble_eq_true rfl) d_L_law_202 ⟨(Nat.le_of_ble_eq_true rfl), (Nat.le_of_ble_eq_true rfl)⟩ (fun v ws H locs hw hP hD hS => ?_)
        obtain ⟨rfl, la, le, li, ke, dn, ca, ne, at_, rfl, hla, hle, hli, hke⟩ := hw
        show W p l e room_1 s m #[Value.ref b] below meth c H locs 13 893 (lw_Z below #[Value.ref b] s) (F0 m 205 ls [.int (nI (sp_lineb LN))])
        have hP : va_P D classes (mW cI qm sg ou lj ba (nI (LB.length)) (nI (LT.length)) (nI (LN.length)) (nI (KP.length)) ++ xW cI cZ qx la le li ke dn ca ne (nI (LB.length)) (nI (LT.length)) (nI ((sp_line LN (xs (i + 1)) (xs (i + 2)) (xs (i + 3)) (xs (i + 4))).length)) (nI (KP.length)) at_) H := hP
        have hD : va_D (fun q : Nat => s.heap.size ≤ q) (mW cI qm sg ou lj ba (nI (LB.length)) (nI (LT.length)) (nI (LN.length)) (nI (KP.length)) ++ xW cI cZ qx la le li ke dn ca ne (nI (LB.length)) (nI (LT.length)) (nI ((sp_line LN (xs (i + 1)) (xs (i + 2)) (xs (i + 3)) (xs (i + 4))).length)) (nI (KP.length)) at_) := hD
        refine lv_aload_n hx hb d_L_law_205 rfl (lv_at hl 2 rfl) ?_
        refine lv_aload_n hx hb d_L_law_206 rfl (lv_at hl 0 rfl) ?_
        refine lv_iload_n hx hb d_L_law_207 rfl (lv_at hl 3 rfl) ?_
        refine lv_iconst (v := nI (1)) hx hb d_L_law_208 (by decide) ?_
        refine k_iadd hx hb d_L_law_209 ?_
        refine va_sld hx hb hX hbl hbA hS (vp_in_nI (show i + 1 < L by omega) (by omega)) d_L_law_210 ?_
        refine k_cvi (show _ = xs (i + 1) from by rw [nI_clamp (by omega)]) ?_
        refine lv_aload_n hx hb d_L_law_211 rfl (lv_at hl 0 rfl) ?_
        refine lv_iload_n hx hb d_L_law_212 rfl (lv_at hl 3 rfl) ?_
        refine lv_iconst (v := nI (2)) hx hb d_L_law_213 (by decide) ?_
        refine k_iadd hx hb d_L_law_214 ?_
        refine va_sld hx hb hX hbl hbA hS (vp_in_nI (show i + 2 < L by omega) (by omega)) d_L_law_215 ?_
        refine k_cvi (show _ = xs (i + 2) from by rw [nI_clamp (by omega)]) ?_
        refine lv_aload_n hx hb d_L_law_216 rfl (lv_at hl 0 rfl) ?_
        refine lv_iload_n hx hb d_L_law_217 rfl (lv_at hl 3 rfl) ?_
        refine lv_iconst (v := nI (3)) hx hb d_L_law_218 (by decide) ?_
        refine k_iadd hx hb d_L_law_219 ?_
        refine va_sld hx hb hX hbl hbA hS (vp_in_nI (show i + 3 < L by omega) (by omega)) d_L_law_220 ?_
        refine k_cvi (show _ = xs (i + 3) from by rw [nI_clamp (by omega)]) ?_
        refine lv_aload_n hx hb d_L_law_221 rfl (lv_at hl 0 rfl) ?_
        refine lv_iload_n hx hb d_L_law_222 rfl (lv_at hl 3 rfl) ?_
        refine lv_iconst (v := nI (4)) hx hb d_L_law_223 (by decide) ?_
        refine k_iadd hx hb d_L_law_224 ?_
        refine va_sld hx hb hX hbl hbA hS (vp_in_nI (show i + 4 < L by omega) (by omega)) d_L_law_225 ?_
        refine k_cvi (show _ = xs (i + 4) from by rw [nI_clamp (by omega)]) ?_
        refine k_callP (wr := xW cI cZ qx la le li ke dn ca ne (nI (LB.length)) (nI (LT.length)) (nI ((sp_line LN (xs (i + 1)) (xs (i + 2)) (xs (i + 3)) (xs (i + 4))).length)) (nI (KP.length)) at_) [.int (xs (i + 1)), .int (xs (i + 2)), .int (xs (i + 3)), .int (xs (i + 4))] C1 (c_M_line l D cI cZ qm H.size sg ou lj ba LB LT LN KP hsg hou hlj hba (xs (i + 1)) (xs (i + 2)) (xs (i + 3)) (xs (i + 4)) hI.2.2.2.2.1) m1_226 m1_223 m1_2 m1_224 m1_225 hd_M_line ⟨(Nat.le_of_ble_eq_true rfl), (Nat.le_of_ble_eq_true rfl)⟩ hK hP hD hS hA [0, 1, 2, 3, 4] [5, 6, 7, 8, 9, 10, 11, 12] rfl rfl (by decide) (by decide) (by decide) (hP.sub (ws' := mW cI qm sg ou lj ba (nI (LB.length)) (nI (LT.length)) (nI (LN.length)) (nI (KP.length))) [0, 1, 2, 3, 4] rfl) (ci := 1) rfl rfl rfl rfl hl.1 (Nat.le_of_ble_eq_true rfl) d_L_law_226 ⟨(Nat.le_of_ble_eq_true rfl), (Nat.le_of_ble_eq_true rfl)⟩ (fun v ws H locs hw hP hD hS => ?_)
        obtain ⟨rfl, sg, ou, lj, ba, rfl, hsg, hou, hlj, hba⟩ := hw
        show W p l e room_1 s m #[Value.ref b] below meth c H locs 13 893 (lw_Z below #[Value.ref b] s) (F0 m 229 ls [.int (nI (sp_lineb LN)), .int (nI (sp_lineb LN))])
        have hP : va_P D classes (xW cI cZ qx la le li ke dn ca ne (nI (LB.length)) (nI (LT.length)) (nI ((sp_line LN (xs (i + 1)) (xs (i + 2)) (xs (i + 3)) (xs (i + 4))).length)) (nI (KP.length)) at_ ++ mW cI qm sg ou lj ba (nI (LB.length)) (nI (LT.length)) (nI ((sp_line LN (xs (i + 1)) (xs (i + 2)) (xs (i + 3)) (xs (i + 4))).length)) (nI (KP.length))) H := hP
        have hD : va_D (fun q : Nat => s.heap.size ≤ q) (xW cI cZ qx la le li ke dn ca ne (nI (LB.length)) (nI (LT.length)) (nI ((sp_line LN (xs (i + 1)) (xs (i + 2)) (xs (i + 3)) (xs (i + 4))).length)) (nI (KP.length)) at_ ++ mW cI qm sg ou lj ba (nI (LB.length)) (nI (LT.length)) (nI ((sp_line LN (xs (i + 1)) (xs (i + 2)) (xs (i + 3)) (xs (i + 4))).length)) (nI (KP.length))) := hD
        refine lv_icmp_eq (tgt := 292) hx hb d_L_law_229 (by decide) (fun _ => ?_) (fun q => absurd rfl q)
        exact K292 LB LT (sp_line LN (xs (i + 1)) (xs (i + 2)) (xs (i + 3)) (xs (i + 4))) KP la le li ke dn ca ne at_ sg ou lj ba (lw_I_line hI _ _ _ _) hla hle hli hke hsg hou hlj hba H locs hP hD hS
      · rw [ho]
        refine lv_tableIn (tgt := 234) (off := 202) hx hb d_L_law_32 (by decide) (by decide) (by decide) (by decide) ?_
        refine lv_aload_n hx hb d_L_law_234 rfl (lv_at hl 1 rfl) ?_
        refine k_callP (wr := mW cI qm sg ou lj ba (nI (LB.length)) (nI (LT.length)) (nI (LN.length)) (nI (KP.length))) [] C1 (c_X_clear l D cI cZ qx H.size la le li ke dn ca ne at_ LB LT LN KP hla hle hli hke ) m1_122 m1_119 m1_1 m1_120 m1_121 hd_X_clear ⟨(Nat.le_of_ble_eq_true rfl), (Nat.le_of_ble_eq_true rfl)⟩ hK hP hD hS hA [0, 1, 2, 3, 4, 5, 6, 7] [8, 9, 10, 11, 12] rfl rfl (by decide) (by decide) (by decide) (hP.sub (ws' := xW cI cZ qx la le li ke dn ca ne (nI (LB.length)) (nI (LT.length)) (nI (LN.length)) (nI (KP.length)) at_) [0, 1, 2, 3, 4, 5, 6, 7] rfl) (ci := 0) rfl rfl rfl rfl hl.1 (Nat.le_of_ble_eq_true rfl) d_L_law_235 ⟨(Nat.le_of_ble_eq_true rfl), (Nat.le_of_ble_eq_true rfl)⟩ (fun v ws H locs hw hP hD hS => ?_)
        obtain ⟨rfl, la, le, li, ke, dn, ca, ne, at_, rfl, hla, hle, hli, hke⟩ := hw
        show W p l e room_1 s m #[Value.ref b] below meth c H locs 13 893 (lw_Z below #[Value.ref b] s) (F0 m 238 ls [])
        have hP : va_P D classes (mW cI qm sg ou lj ba (nI (LB.length)) (nI (LT.length)) (nI (LN.length)) (nI (KP.length)) ++ xW cI cZ qx la le li ke dn ca ne (nI (LB.length)) (nI (LT.length)) (nI ((([] : List Nat)).length)) (nI (KP.length)) at_) H := hP
        have hD : va_D (fun q : Nat => s.heap.size ≤ q) (mW cI qm sg ou lj ba (nI (LB.length)) (nI (LT.length)) (nI (LN.length)) (nI (KP.length)) ++ xW cI cZ qx la le li ke dn ca ne (nI (LB.length)) (nI (LT.length)) (nI ((([] : List Nat)).length)) (nI (KP.length)) at_) := hD
        refine lv_aload_n hx hb d_L_law_238 rfl (lv_at hl 2 rfl) ?_
        refine k_callP (wr := xW cI cZ qx la le li ke dn ca ne (nI (LB.length)) (nI (LT.length)) (nI ((([] : List Nat)).length)) (nI (KP.length)) at_) [] C1 (c_M_clear l D cI cZ qm H.size sg ou lj ba LB LT LN KP hsg hou hlj hba ) m1_230 m1_227 m1_2 m1_228 m1_229 hd_M_clear ⟨(Nat.le_of_ble_eq_true rfl), (Nat.le_of_ble_eq_true rfl)⟩ hK hP hD hS hA [0, 1, 2, 3, 4] [5, 6, 7, 8, 9, 10, 11, 12] rfl rfl (by decide) (by decide) (by decide) (hP.sub (ws' := mW cI qm sg ou lj ba (nI (LB.length)) (nI (LT.length)) (nI (LN.length)) (nI (KP.length))) [0, 1, 2, 3, 4] rfl) (ci := 1) rfl rfl rfl rfl hl.1 (Nat.le_of_ble_eq_true rfl) d_L_law_239 ⟨(Nat.le_of_ble_eq_true rfl), (Nat.le_of_ble_eq_true rfl)⟩ (fun v ws H locs hw hP hD hS => ?_)
        obtain ⟨rfl, sg, ou, lj, ba, rfl, hsg, hou, hlj, hba⟩ := hw
        show W p l e room_1 s m #[Value.ref b] below meth c H locs 13 893 (lw_Z below #[Value.ref b] s) (F0 m 242 ls [])
        have hP : va_P D classes (xW cI cZ qx la le li ke dn ca ne (nI (LB.length)) (nI (LT.length)) (nI ((([] : List Nat)).length)) (nI (KP.length)) at_ ++ mW cI qm sg ou lj ba (nI (LB.length)) (nI (LT.length)) (nI ((([] : List Nat)).length)) (nI (KP.length))) H := hP
        have hD : va_D (fun q : Nat => s.heap.size ≤ q) (xW cI cZ qx la le li ke dn ca ne (nI (LB.length)) (nI (LT.length)) (nI ((([] : List Nat)).length)) (nI (KP.length)) at_ ++ mW cI qm sg ou lj ba (nI (LB.length)) (nI (LT.length)) (nI ((([] : List Nat)).length)) (nI (KP.length))) := hD
        refine lv_goto (tgt := 292) hx hb d_L_law_242 (by decide) ?_
        exact K292 LB LT (([] : List Nat)) KP la le li ke dn ca ne at_ sg ou lj ba (lw_I_clear hI) hla hle hli hke hsg hou hlj hba H locs hP hD hS
      · rw [ho]
        refine lv_tableIn (tgt := 245) (off := 213) hx hb d_L_law_32 (by decide) (by decide) (by decide) (by decide) ?_
        refine lv_aload_n hx hb d_L_law_245 rfl (lv_at hl 1 rfl) ?_
        refine k_callP (wr := mW cI qm sg ou lj ba (nI (LB.length)) (nI (LT.length)) (nI (LN.length)) (nI (KP.length))) [] C1 (c_X_copy l D cI cZ qx H.size la le li ke dn ca ne at_ LB LT LN KP hla hle hli hke (by have := hI.2.1; omega)) m1_126 m1_123 m1_1 m1_124 m1_125 hd_X_copy ⟨(Nat.le_of_ble_eq_true rfl), (Nat.le_of_ble_eq_true rfl)⟩ hK hP hD hS hA [0, 1, 2, 3, 4, 5, 6, 7] [8, 9, 10, 11, 12] rfl rfl (by decide) (by decide) (by decide) (hP.sub (ws' := xW cI cZ qx la le li ke dn ca ne (nI (LB.length)) (nI (LT.length)) (nI (LN.length)) (nI (KP.length)) at_) [0, 1, 2, 3, 4, 5, 6, 7] rfl) (ci := 0) rfl rfl rfl rfl hl.1 (Nat.le_of_ble_eq_true rfl) d_L_law_246 ⟨(Nat.le_of_ble_eq_true rfl), (Nat.le_of_ble_eq_true rfl)⟩ (fun v ws H locs hw hP hD hS => ?_)
        obtain ⟨rfl, la, le, li, ke, dn, ca, ne, at_, rfl, hla, hle, hli, hke⟩ := hw
        show W p l e room_1 s m #[Value.ref b] below meth c H locs 13 893 (lw_Z below #[Value.ref b] s) (F0 m 249 ls [])
        have hP : va_P D classes (mW cI qm sg ou lj ba (nI (LB.length)) (nI (LT.length)) (nI (LN.length)) (nI (KP.length)) ++ xW cI cZ qx la le li ke dn ca ne (nI (LB.length)) (nI (LT.length)) (nI ((LT.take 64).length)) (nI (KP.length)) at_) H := hP
        have hD : va_D (fun q : Nat => s.heap.size ≤ q) (mW cI qm sg ou lj ba (nI (LB.length)) (nI (LT.length)) (nI (LN.length)) (nI (KP.length)) ++ xW cI cZ qx la le li ke dn ca ne (nI (LB.length)) (nI (LT.length)) (nI ((LT.take 64).length)) (nI (KP.length)) at_) := hD
        refine lv_aload_n hx hb d_L_law_249 rfl (lv_at hl 2 rfl) ?_
        refine k_callP (wr := xW cI cZ qx la le li ke dn ca ne (nI (LB.length)) (nI (LT.length)) (nI ((LT.take 64).length)) (nI (KP.length)) at_) [] C1 (c_M_copy l D cI cZ qm H.size sg ou lj ba LB LT LN KP hsg hou hlj hba (by have := hI.2.1; omega)) m1_234 m1_231 m1_2 m1_232 m1_233 hd_M_copy ⟨(Nat.le_of_ble_eq_true rfl), (Nat.le_of_ble_eq_true rfl)⟩ hK hP hD hS hA [0, 1, 2, 3, 4] [5, 6, 7, 8, 9, 10, 11, 12] rfl rfl (by decide) (by decide) (by decide) (hP.sub (ws' := mW cI qm sg ou lj ba (nI (LB.length)) (nI (LT.length)) (nI (LN.length)) (nI (KP.length))) [0, 1, 2, 3, 4] rfl) (ci := 1) rfl rfl rfl rfl hl.1 (Nat.le_of_ble_eq_true rfl) d_L_law_250 ⟨(Nat.le_of_ble_eq_true rfl), (Nat.le_of_ble_eq_true rfl)⟩ (fun v ws H locs hw hP hD hS => ?_)
        obtain ⟨rfl, sg, ou, lj, ba, rfl, hsg, hou, hlj, hba⟩ := hw
        show W p l e room_1 s m #[Value.ref b] below meth c H locs 13 893 (lw_Z below #[Value.ref b] s) (F0 m 253 ls [])
        have hP : va_P D classes (xW cI cZ qx la le li ke dn ca ne (nI (LB.length)) (nI (LT.length)) (nI ((LT.take 64).length)) (nI (KP.length)) at_ ++ mW cI qm sg ou lj ba (nI (LB.length)) (nI (LT.length)) (nI ((LT.take 64).length)) (nI (KP.length))) H := hP
        have hD : va_D (fun q : Nat => s.heap.size ≤ q) (xW cI cZ qx la le li ke dn ca ne (nI (LB.length)) (nI (LT.length)) (nI ((LT.take 64).length)) (nI (KP.length)) at_ ++ mW cI qm sg ou lj ba (nI (LB.length)) (nI (LT.length)) (nI ((LT.take 64).length)) (nI (KP.length))) := hD
        refine lv_goto (tgt := 292) hx hb d_L_law_253 (by decide) ?_
        exact K292 LB LT (LT.take 64) KP la le li ke dn ca ne at_ sg ou lj ba (lw_I_copy hI) hla hle hli hke hsg hou hlj hba H locs hP hD hS
      · rw [ho]
        refine lv_tableIn (tgt := 256) (off := 224) hx hb d_L_law_32 (by decide) (by decide) (by decide) (by decide) ?_
        refine lv_aload_n hx hb d_L_law_256 rfl (lv_at hl 1 rfl) ?_
        refine k_callP (wr := mW cI qm sg ou lj ba (nI (LB.length)) (nI (LT.length)) (nI (LN.length)) (nI (KP.length))) [] C1 (c_X_read l D cI cZ qx H.size la le li ke dn ca ne at_ LB LT LN KP hla hle hli hke hI.2.2.2.2.1 hI.2.2.2.2.2.1) m1_133 m1_130 m1_1 m1_131 m1_132 hd_X_read ⟨(Nat.le_of_ble_eq_true rfl), (Nat.le_of_ble_eq_true rfl)⟩ hK hP hD hS hA [0, 1, 2, 3, 4, 5, 6, 7] [8, 9, 10, 11, 12] rfl rfl (by decide) (by decide) (by decide) (hP.sub (ws' := xW cI cZ qx la le li ke dn ca ne (nI (LB.length)) (nI (LT.length)) (nI (LN.length)) (nI (KP.length)) at_) [0, 1, 2, 3, 4, 5, 6, 7] rfl) (ci := 0) rfl rfl rfl rfl hl.1 (Nat.le_of_ble_eq_true rfl) d_L_law_257 ⟨(Nat.le_of_ble_eq_true rfl), (Nat.le_of_ble_eq_true rfl)⟩ (fun v ws H locs hw hP hD hS => ?_)
        obtain ⟨rfl, la, le, li, ke, dn, ca, ne, at_, rfl, hla, hle, hli, hke⟩ := hw
        show W p l e room_1 s m #[Value.ref b] below meth c H locs 13 893 (lw_Z below #[Value.ref b] s) (F0 m 260 ls [.int (sp_rdV LN)])
        have hP : va_P D classes (mW cI qm sg ou lj ba (nI (LB.length)) (nI (LT.length)) (nI (LN.length)) (nI (KP.length)) ++ xW cI cZ qx la le li ke dn ca ne (nI (LB.length)) (nI (LT.length)) (nI (LN.length)) (nI ((sp_rdK LN).length)) at_) H := hP
        have hD : va_D (fun q : Nat => s.heap.size ≤ q) (mW cI qm sg ou lj ba (nI (LB.length)) (nI (LT.length)) (nI (LN.length)) (nI (KP.length)) ++ xW cI cZ qx la le li ke dn ca ne (nI (LB.length)) (nI (LT.length)) (nI (LN.length)) (nI ((sp_rdK LN).length)) at_) := hD
        refine lv_aload_n hx hb d_L_law_260 rfl (lv_at hl 2 rfl) ?_
        refine k_callP (wr := xW cI cZ qx la le li ke dn ca ne (nI (LB.length)) (nI (LT.length)) (nI (LN.length)) (nI ((sp_rdK LN).length)) at_) [] C1 (c_M_read l D cI cZ qm H.size sg ou lj ba LB LT LN KP hsg hou hlj hba hI.2.2.2.2.1 hI.2.2.2.2.2.1 hI.2.2.2.2.2.2.1) m1_238 m1_235 m1_2 m1_236 m1_237 hd_M_read ⟨(Nat.le_of_ble_eq_true rfl), (Nat.le_of_ble_eq_true rfl)⟩ hK hP hD hS hA [0, 1, 2, 3, 4] [5, 6, 7, 8, 9, 10, 11, 12] rfl rfl (by decide) (by decide) (by decide) (hP.sub (ws' := mW cI qm sg ou lj ba (nI (LB.length)) (nI (LT.length)) (nI (LN.length)) (nI (KP.length))) [0, 1, 2, 3, 4] rfl) (ci := 1) rfl rfl rfl rfl hl.1 (Nat.le_of_ble_eq_true rfl) d_L_law_261 ⟨(Nat.le_of_ble_eq_true rfl), (Nat.le_of_ble_eq_true rfl)⟩ (fun v ws H locs hw hP hD hS => ?_)
        obtain ⟨rfl, sg, ou, lj, ba, rfl, hsg, hou, hlj, hba⟩ := hw
        show W p l e room_1 s m #[Value.ref b] below meth c H locs 13 893 (lw_Z below #[Value.ref b] s) (F0 m 264 ls [.int (sp_rdV LN), .int (sp_rdV LN)])
        have hP : va_P D classes (xW cI cZ qx la le li ke dn ca ne (nI (LB.length)) (nI (LT.length)) (nI (LN.length)) (nI ((sp_rdK LN).length)) at_ ++ mW cI qm sg ou lj ba (nI (LB.length)) (nI (LT.length)) (nI (LN.length)) (nI ((sp_rdK LN).length))) H := hP
        have hD : va_D (fun q : Nat => s.heap.size ≤ q) (xW cI cZ qx la le li ke dn ca ne (nI (LB.length)) (nI (LT.length)) (nI (LN.length)) (nI ((sp_rdK LN).length)) at_ ++ mW cI qm sg ou lj ba (nI (LB.length)) (nI (LT.length)) (nI (LN.length)) (nI ((sp_rdK LN).length))) := hD
        refine lv_icmp_eq (tgt := 292) hx hb d_L_law_264 (by decide) (fun _ => ?_) (fun q => absurd rfl q)
        exact K292 LB LT LN (sp_rdK LN) la le li ke dn ca ne at_ sg ou lj ba (lw_I_read hI) hla hle hli hke hsg hou hlj hba H locs hP hD hS
      · rw [ho]
        refine lv_tableIn (tgt := 269) (off := 237) hx hb d_L_law_32 (by decide) (by decide) (by decide) (by decide) ?_
        refine lv_aload_n hx hb d_L_law_269 rfl (lv_at hl 1 rfl) ?_
        refine lv_aload_n hx hb d_L_law_270 rfl (lv_at hl 0 rfl) ?_
        refine lv_iload_n hx hb d_L_law_271 rfl (lv_at hl 3 rfl) ?_
        refine lv_iconst (v := nI (1)) hx hb d_L_law_272 (by decide) ?_
        refine k_iadd hx hb d_L_law_273 ?_
        refine va_sld hx hb hX hbl hbA hS (vp_in_nI (show i + 1 < L by omega) (by omega)) d_L_law_274 ?_
        refine k_cvi (show _ = xs (i + 1) from by rw [nI_clamp (by omega)]) ?_
        refine k_callP (wr := mW cI qm sg ou lj ba (nI (LB.length)) (nI (LT.length)) (nI (LN.length)) (nI (KP.length))) [.int (xs (i + 1))] C1 (c_X_sign l D cI cZ qx H.size la le li ke dn ca ne at_ LB LT LN KP hla hle hli hke (xs (i + 1)) hI.2.2.2.2.2.2.2) m1_161 m1_158 m1_1 m1_159 m1_160 hd_X_sign ⟨(Nat.le_of_ble_eq_true rfl), (Nat.le_of_ble_eq_true rfl)⟩ hK hP hD hS hA [0, 1, 2, 3, 4, 5, 6, 7] [8, 9, 10, 11, 12] rfl rfl (by decide) (by decide) (by decide) (hP.sub (ws' := xW cI cZ qx la le li ke dn ca ne (nI (LB.length)) (nI (LT.length)) (nI (LN.length)) (nI (KP.length)) at_) [0, 1, 2, 3, 4, 5, 6, 7] rfl) (ci := 0) rfl rfl rfl rfl hl.1 (Nat.le_of_ble_eq_true rfl) d_L_law_275 ⟨(Nat.le_of_ble_eq_true rfl), (Nat.le_of_ble_eq_true rfl)⟩ (fun v ws H locs hw hP hD hS => ?_)
        obtain ⟨rfl, la, le, li, ke, dn, ca, ne, at_, rfl, hla, hle, hli, hke⟩ := hw
        show W p l e room_1 s m #[Value.ref b] below meth c H locs 13 893 (lw_Z below #[Value.ref b] s) (F0 m 278 ls [.int (sp_pick KP (xs (i + 1)))])
        have hP : va_P D classes (mW cI qm sg ou lj ba (nI (LB.length)) (nI (LT.length)) (nI (LN.length)) (nI (KP.length)) ++ xW cI cZ qx la le li ke dn ca ne (nI (LB.length)) (nI (LT.length)) (nI (LN.length)) (nI (KP.length)) at_) H := hP
        have hD : va_D (fun q : Nat => s.heap.size ≤ q) (mW cI qm sg ou lj ba (nI (LB.length)) (nI (LT.length)) (nI (LN.length)) (nI (KP.length)) ++ xW cI cZ qx la le li ke dn ca ne (nI (LB.length)) (nI (LT.length)) (nI (LN.length)) (nI (KP.length)) at_) := hD
        refine lv_aload_n hx hb d_L_law_278 rfl (lv_at hl 2 rfl) ?_
        refine lv_aload_n hx hb d_L_law_279 rfl (lv_at hl 0 rfl) ?_
        refine lv_iload_n hx hb d_L_law_280 rfl (lv_at hl 3 rfl) ?_
        refine lv_iconst (v := nI (1)) hx hb d_L_law_281 (by decide) ?_
        refine k_iadd hx hb d_L_law_282 ?_
        refine va_sld hx hb hX hbl hbA hS (vp_in_nI (show i + 1 < L by omega) (by omega)) d_L_law_283 ?_
        refine k_cvi (show _ = xs (i + 1) from by rw [nI_clamp (by omega)]) ?_
        refine k_callP (wr := xW cI cZ qx la le li ke dn ca ne (nI (LB.length)) (nI (LT.length)) (nI (LN.length)) (nI (KP.length)) at_) [.int (xs (i + 1))] C1 (c_M_sign l D cI cZ qm H.size sg ou lj ba LB LT LN KP hsg hou hlj hba (xs (i + 1)) hI.2.2.2.2.2.2.2) m2_7 m2_4 m1_2 m2_5 m2_6 hd_M_sign ⟨(Nat.le_of_ble_eq_true rfl), (Nat.le_of_ble_eq_true rfl)⟩ hK hP hD hS hA [0, 1, 2, 3, 4] [5, 6, 7, 8, 9, 10, 11, 12] rfl rfl (by decide) (by decide) (by decide) (hP.sub (ws' := mW cI qm sg ou lj ba (nI (LB.length)) (nI (LT.length)) (nI (LN.length)) (nI (KP.length))) [0, 1, 2, 3, 4] rfl) (ci := 1) rfl rfl rfl rfl hl.1 (Nat.le_of_ble_eq_true rfl) d_L_law_284 ⟨(Nat.le_of_ble_eq_true rfl), (Nat.le_of_ble_eq_true rfl)⟩ (fun v ws H locs hw hP hD hS => ?_)
        obtain ⟨rfl, sg, ou, lj, ba, rfl, hsg, hou, hlj, hba⟩ := hw
        show W p l e room_1 s m #[Value.ref b] below meth c H locs 13 893 (lw_Z below #[Value.ref b] s) (F0 m 287 ls [.int (sp_pick KP (xs (i + 1))), .int (sp_pick KP (xs (i + 1)))])
        have hP : va_P D classes (xW cI cZ qx la le li ke dn ca ne (nI (LB.length)) (nI (LT.length)) (nI (LN.length)) (nI (KP.length)) at_ ++ mW cI qm sg ou lj ba (nI (LB.length)) (nI (LT.length)) (nI (LN.length)) (nI (KP.length))) H := hP
        have hD : va_D (fun q : Nat => s.heap.size ≤ q) (xW cI cZ qx la le li ke dn ca ne (nI (LB.length)) (nI (LT.length)) (nI (LN.length)) (nI (KP.length)) at_ ++ mW cI qm sg ou lj ba (nI (LB.length)) (nI (LT.length)) (nI (LN.length)) (nI (KP.length))) := hD
        refine lv_icmp_eq (tgt := 292) hx hb d_L_law_287 (by decide) (fun _ => ?_) (fun q => absurd rfl q)
        exact K292 LB LT LN KP la le li ke dn ca ne at_ sg ou lj ba (hI) hla hle hli hke hsg hou hlj hba H locs hP hD hS
      · refine lv_tableOut (tgt := 292) hx hb d_L_law_32 (Or.inr (by rw [nI_toInt (by omega)]; omega)) (by decide) ?_
        exact K292 LB LT LN KP la le li ke dn ca ne at_ sg ou lj ba hI hla hle hli hke hsg hou hlj hba H locs hP hD hS
set_option maxHeartbeats 4000000 in
set_option maxRecDepth 100000 in
/-- THE LAW, from its entry -/
theorem whole_start {p : Program} {e : Env} {s : State} {m : MethodId} {below : List Frame} {meth : Method} {c : Code} (l : Launch) {b L : Nat} {xs : Nat → Int32} (hL : L ≤ 2560) (C0 : lw_At p s m meth c b L xs) : W p l e room_1 s m #[Value.ref b] below meth c s.heap [] 0 0 (lw_Z below #[Value.ref b] s) (entryFrame m ([Value.ref b] : List Value).toArray 4) := by
  obtain ⟨hx, hb, hr, hml, hown, htsA, hX, hbl, hlocks, hgv⟩ := id C0
  have hts : ∀ w ∈ lw_g, w.before #[Value.ref b] s = true := fun w hw => htsA w (List.mem_filter.mp hw).1
  have C1 : CallFix p m c code 4 s #[Value.ref b] lw_g R_law := ⟨hx, hb, hml, hown, hts⟩
  have hA : ∀ q : Nat, s.heap.size ≤ q → (fun q : Nat => s.heap.size ≤ q) q := fun _ h => h
  obtain ⟨c0, iS0, hKn0⟩ := u_known (C := R_X) (T := F_X) (N := 12) (n := 12) hts i_X (hts _ m1_5)
  obtain ⟨c1, iS1, hKn1⟩ := u_known (C := R_M) (T := F_M) (N := 8) (n := 8) hts i_M (hts _ m1_163)
  obtain ⟨D, hKc⟩ : ∃ D : va_G, ∀ (k : Nat) (q : vw_C), classes[k]? = some q → u_Kn s q.1 q.2.1 q.2.2 (D.1 k) (D.2 k) := by
    refine ⟨(fun k => if k = 0 then c0 else c1, fun k => if k = 0 then iS0 else iS1), ?_⟩
    intro k q hq
    match k, hq with
    | 0, hq => cases hq; exact hKn0
    | 1, hq => cases hq; exact hKn1
    | k + 2, hq => simp [classes] at hq
  obtain ⟨cI, hcI1, hcI2⟩ := k_arr (hts _ m1_49)
  obtain ⟨cZ, hcZ1, hcZ2⟩ := k_arr (hts _ m1_50)
  have hK : va_K D classes (k_tys cI cZ) s := by
    refine ⟨hKc, fun k q h => ?_⟩
    match k, h with
    | 0, h => cases h; exact ⟨hcI1, hcI2⟩
    | 1, h => cases h; exact ⟨hcZ1, hcZ2⟩
    | k + 2, h => simp [k_tys] at h
  have hS : va_S (fun q : Nat => s.heap.size ≤ q) s.heap s.heap [] := va_S.rf
  have hP : va_P D classes [] s.heap := fun k q h => by simp at h
  have hD : va_D (fun q : Nat => s.heap.size ≤ q) [] := ⟨fun i j p q h => by simp at h, fun k q h => by simp at h⟩
  have hl := lv_entry ([.ref b]) (n := 4) (Nat.le_of_ble_eq_true rfl)
  rw [lg_entry_eq]
  generalize (lg_sl ([.ref b]) ++ List.replicate (4 - (lg_sl ([.ref b])).length) Slot.unset).toArray = ls at hl ⊢
  have hl : lv_has ls 4 [(0, .ref b)] := hl
  refine va_new (ci := 0) (fs := [.null, .null, .null, .null, .null, .null, .null, .int (nI 0), .int (nI 0), .int (nI 0), .int (nI 0), .int (nI 0)]) (C := R_X) (T := F_X) (N := 12) hx hb hts i_X t_X t_X_ok hown (hts _ m1_4) (hts _ m1_5) (hts _ m1_1) hK hP hD hS hA rfl (fun j hj => by rcases (show j = 0 ∨ j = 1 ∨ j = 2 ∨ j = 3 ∨ j = 4 ∨ j = 5 ∨ j = 6 ∨ j = 7 ∨ j = 8 ∨ j = 9 ∨ j = 10 ∨ j = 11 by omega) with rfl | rfl | rfl | rfl | rfl | rfl | rfl | rfl | rfl | rfl | rfl | rfl <;> rfl) (Nat.le_of_ble_eq_true rfl) (Nat.le_of_ble_eq_true rfl) d_L_law_0 (fun x0 H hP hD hS => ?_)
  have hP : va_P D classes [(x0, .inr (0, [.null, .null, .null, .null, .null, .null, .null, .int (nI 0), .int (nI 0), .int (nI 0), .int (nI 0), .int (nI 0)]))] H := hP
  have hD : va_D (fun q : Nat => s.heap.size ≤ q) [(x0, .inr (0, [.null, .null, .null, .null, .null, .null, .null, .int (nI 0), .int (nI 0), .int (nI 0), .int (nI 0), .int (nI 0)]))] := hD
  refine lv_dup hx hb d_L_law_3 rfl ?_
  refine k_callI (wr := []) [] C1 (c_X_init l D cI cZ x0 H.size) m1_8 m1_6 m1_1 m1_7 rfl hd_X_init ⟨(Nat.le_of_ble_eq_true rfl), (Nat.le_of_ble_eq_true rfl)⟩ hK hP hD hS hA [0] [] rfl rfl (by decide) (by decide) (by decide) hP rfl hl.1 (Nat.le_of_ble_eq_true rfl) d_L_law_4 ⟨(Nat.le_of_ble_eq_true rfl), (Nat.le_of_ble_eq_true rfl)⟩ (fun v ws H locs hw hP2 hD2 hS => ?_)
  obtain ⟨qx, hqx, rfl, la, le, li, ke, dn, ca, ne, at_, rfl, hla, hle, hli, hke⟩ := hw
  subst hqx
  have hP : va_P D classes (xW cI cZ qx la le li ke dn ca ne (nI ((([] : List Nat)).length)) (nI ((([] : List Nat)).length)) (nI ((([] : List Nat)).length)) (nI ((([] : List Nat)).length)) at_) H := hP2
  have hD : va_D (fun q : Nat => s.heap.size ≤ q) (xW cI cZ qx la le li ke dn ca ne (nI ((([] : List Nat)).length)) (nI ((([] : List Nat)).length)) (nI ((([] : List Nat)).length)) (nI ((([] : List Nat)).length)) at_) := hD2
  show W p l e room_1 s m #[Value.ref b] below meth c H locs 8 573 (lw_Z below #[Value.ref b] s) (F0 m 7 ls [.ref (qx 0)])
  refine lv_astore_n (lv' := [(1, .ref (qx 0)), (0, .ref b)]) hx hb d_L_law_7 rfl hl (Nat.le_of_ble_eq_true rfl) rfl (fun ls hl => ?_)
  refine va_new (ci := 1) (fs := [.null, .int (nI 0), .null, .int (nI 0), .null, .int (nI 0), .null, .int (nI 0)]) (C := R_M) (T := F_M) (N := 8) hx hb hts i_M t_M t_M_ok hown (hts _ m1_162) (hts _ m1_163) (hts _ m1_2) hK hP hD hS hA rfl (fun j hj => by rcases (show j = 0 ∨ j = 1 ∨ j = 2 ∨ j = 3 ∨ j = 4 ∨ j = 5 ∨ j = 6 ∨ j = 7 by omega) with rfl | rfl | rfl | rfl | rfl | rfl | rfl | rfl <;> rfl) (Nat.le_of_ble_eq_true rfl) (Nat.le_of_ble_eq_true rfl) d_L_law_8 (fun x0 H hP hD hS => ?_)
  have hP : va_P D classes (xW cI cZ qx la le li ke dn ca ne (nI ((([] : List Nat)).length)) (nI ((([] : List Nat)).length)) (nI ((([] : List Nat)).length)) (nI ((([] : List Nat)).length)) at_ ++ [(x0, .inr (1, [.null, .int (nI 0), .null, .int (nI 0), .null, .int (nI 0), .null, .int (nI 0)]))]) H := hP
  have hD : va_D (fun q : Nat => s.heap.size ≤ q) (xW cI cZ qx la le li ke dn ca ne (nI ((([] : List Nat)).length)) (nI ((([] : List Nat)).length)) (nI ((([] : List Nat)).length)) (nI ((([] : List Nat)).length)) at_ ++ [(x0, .inr (1, [.null, .int (nI 0), .null, .int (nI 0), .null, .int (nI 0), .null, .int (nI 0)]))]) := hD
  refine lv_dup hx hb d_L_law_11 rfl ?_
  refine k_callI (wr := xW cI cZ qx la le li ke dn ca ne (nI ((([] : List Nat)).length)) (nI ((([] : List Nat)).length)) (nI ((([] : List Nat)).length)) (nI ((([] : List Nat)).length)) at_) [] C1 (c_M_init l D cI cZ x0 H.size) m1_166 m1_164 m1_2 m1_165 rfl hd_M_init ⟨(Nat.le_of_ble_eq_true rfl), (Nat.le_of_ble_eq_true rfl)⟩ hK hP hD hS hA [8] [0, 1, 2, 3, 4, 5, 6, 7] rfl rfl (by decide) (by decide) (by decide) (hP.sub (ws' := [(x0, .inr (1, [.null, .int (nI 0), .null, .int (nI 0), .null, .int (nI 0), .null, .int (nI 0)]))]) [8] rfl) rfl hl.1 (Nat.le_of_ble_eq_true rfl) d_L_law_12 ⟨(Nat.le_of_ble_eq_true rfl), (Nat.le_of_ble_eq_true rfl)⟩ (fun v ws H locs hw hP2 hD2 hS => ?_)
  obtain ⟨qm, hqm, rfl, sg, ou, lj, ba, rfl, hsg, hou, hlj, hba⟩ := hw
  subst hqm
  have hP : va_P D classes (xW cI cZ qx la le li ke dn ca ne (nI ((([] : List Nat)).length)) (nI ((([] : List Nat)).length)) (nI ((([] : List Nat)).length)) (nI ((([] : List Nat)).length)) at_ ++ mW cI qm sg ou lj ba (nI ((([] : List Nat)).length)) (nI ((([] : List Nat)).length)) (nI ((([] : List Nat)).length)) (nI ((([] : List Nat)).length))) H := hP2
  have hD : va_D (fun q : Nat => s.heap.size ≤ q) (xW cI cZ qx la le li ke dn ca ne (nI ((([] : List Nat)).length)) (nI ((([] : List Nat)).length)) (nI ((([] : List Nat)).length)) (nI ((([] : List Nat)).length)) at_ ++ mW cI qm sg ou lj ba (nI ((([] : List Nat)).length)) (nI ((([] : List Nat)).length)) (nI ((([] : List Nat)).length)) (nI ((([] : List Nat)).length))) := hD2
  show W p l e room_1 s m #[Value.ref b] below meth c H locs 13 893 (lw_Z below #[Value.ref b] s) (F0 m 15 ls [.ref (qm 0)])
  refine lv_astore_n (lv' := [(2, .ref (qm 0)), (1, .ref (qx 0)), (0, .ref b)]) hx hb d_L_law_15 rfl hl (Nat.le_of_ble_eq_true rfl) rfl (fun ls hl => ?_)
  refine lv_iconst (v := nI 0) hx hb d_L_law_16 (by decide) ?_
  refine lv_istore_n (lv' := [(3, .int (nI 0)), (2, .ref (qm 0)), (1, .ref (qx 0)), (0, .ref b)]) hx hb d_L_law_17 rfl hl (Nat.le_of_ble_eq_true rfl) rfl (fun ls hl => ?_)
  exact law_loop hL C0 hK (L + 6) 0 (by omega) (by omega) [] [] [] [] la le li ke dn ca ne at_ sg ou lj ba ⟨sp_ok_nil, by simp, sp_ch_nil, sp_wf_nil, by simp, sp_ch_nil, sp_wf_nil, by simp⟩ hla hle hli hke hsg hou hlj hba H locs hP hD hS ls (lv_sub hl [3, 2, 1, 0] rfl)
end
section
-- ===== YOUR PART ENDS =====
set_option maxHeartbeats 4000000 in
theorem lw_walk (l : Launch) (b : Addr) (xs : List Int32) : MetFree l x (headSpec (Jvm.Cond.code x code maxLocals ret :: tables_1) room_1) (lw_P b xs) (fun _ _ _ _ _ => True) lw_Q := by
  refine MetFree.of_bodyS (code := code) (maxLocals := maxLocals) (ret := ret) (by decide) ?_ ?_
  · intro args s m h hn
    obtain ⟨meth, c, h1, h2, h3, h4, h5, h6, -, -⟩ := Cond.code_spec hn (atoms_spec (ws := Jvm.Cond.code x code maxLocals ret :: tables_1) h _ List.mem_cons_self)
    exact ⟨meth, c, h1, h2, h3, h4, h5, h6⟩
  · intro p e s m args below meth c s₁ B hml0 hP _
    obtain ⟨rfl, hx, hbd, hgv⟩ := hP
    obtain ⟨scr, harrAt, hlist, hof, hsmall⟩ := hx
    obtain ⟨hcb, hkn, -, -⟩ := State.arrayAt?_spec harrAt
    have hown : s.vm.findClass R_law = some m.cls := findClass_of_methodNamed B.named
    have hts0 : ∀ c ∈ (Jvm.Cond.code x code maxLocals ret :: tables_1), c.before #[Value.ref b] s = true := atoms_spec (ws := Jvm.Cond.code x code maxLocals ret :: tables_1) B.pre
    have hts : ∀ w ∈ lw_tbl, w.before #[Value.ref b] s = true := k2_hts_sels lw_privs (fun w hw => hts0 w (List.mem_cons_of_mem _ hw)) lw_privs_ok
    have hml : c.maxLocals = 4 := B.maxLocals_eq (hts0 _ List.mem_cons_self)
    have X₀ : Stand p l e room_1 s m #[Value.ref b] below meth c s₁ [] 0 0 := Stand.of_body B
    have hh0 : s₁.heap = s.heap := by rw [B.state]; rfl
    have hsz : scr.slots.size = xs.length := by rw [← Array.length_toList, hlist, List.length_map]
    have hval : ∀ j : Nat, j < xs.length → scr.slots[j]? = some (.int (xs.getD j 0)) := fun j hj => by
      rw [← Array.getElem?_toList, hlist]
      simp [hj]
    have hbl : b < s.heap.size := (Array.getElem?_eq_some_iff.mp hcb).1
    have hX : va_X b xs.length (fun j => xs.getD j 0) s s.heap := ⟨scr, hcb, hof, hkn, hsz, hval⟩
    have K : W p l e room_1 s m #[Value.ref b] below meth c s₁.heap [] 0 0 (lw_Z below #[Value.ref b] s) (entryFrame m ([Value.ref b] : List Value).toArray 4) := by
      rw [hh0]
      exact whole_start l hbd ⟨B.exec, B.bytes, B.returns, hml, hown, hts, hX, hbl, B.notSynchronized, hgv⟩
    obtain ⟨t, a1, o, b1, b2, b3⟩ := K s₁ rfl X₀
    exact ⟨t, o, a1, b1, b2, b3⟩
theorem lw_pre_spec {args : Array Value} {s : State} (h : (Jvm.Cond.and given_1 narrow_1).before args s = true) (hr : rest_1_c.before args s = true) : ∃ (b : Addr) (xs : List Int32), lw_P b xs args s := by
  have hs := flat_of_before _ h
  have hq := flat_of_before _ hr
  have hc : (Cond.count 1).before args s = true := hs _ (by decide +kernel)
  have harr : (Cond.arrayOf (.arg 0) .int).before args s = true := hs _ (by decide +kernel)
  have hle : (Cond.le (.length (.arg 0)) (.int 2560)).before args s = true := hs _ (by decide +kernel)
  have hlen : (Cond.isInt (.length (.arg 0))).before args s = true := hq _ (by decide +kernel)
  have hall : (Cond.all (.arg 0) (.isInt (.elem (.arg 0) (.index 0)))).before args s = true := hq _ (by decide +kernel)
  obtain ⟨b, xs, hb, hx⟩ := State.ints_of_pre rfl harr hlen hall
  have hsm : xs.length < 2 ^ 31 := hx.choose_spec.2.2.2
  have hev : (Term.length (.arg 0)).eval args s none [] s = some (.int xs.length.toInt32) := hx.length_eval hb
  have hv := Cond.le_ints hev (show (Term.int 2560).eval args s none [] s = some (.int 2560) from rfl)
  have hd : xs.length.toInt32 ≤ 2560 := by
    simpa [Cond.before, Cond.holds, hv] using hle
  have hN : xs.length ≤ 2560 := (Int32.ofNat_le_ofNat hsm (by decide)).mp (show Int32.ofNat xs.length ≤ Int32.ofNat 2560 from hd)
  exact ⟨b, xs, Cond.one_arg hc (show args[0]? = some (.ref b) from hb), hx, hN, h⟩
theorem lw_comes (l : Launch) : Comes l x (Jvm.Cond.code x code maxLocals ret :: tables_1) room_1 (fun tb e args s => Calls_1 tb e args s ∧ rest_1 tb e args s ∧ Pre_1 tb e args s)
    (fun _ _ args s o t => lw_Q args s o t) := by
  intro p e ha hc hk s m args below hf hfit hheap happ hpre
  obtain ⟨b, xs, hP⟩ := lw_pre_spec hpre.2.2 hpre.2.1
  obtain ⟨k, o, h1, h2, h3, hQ⟩ := lw_walk l b xs p e ha hc hk s m args below hf ((Spec.applies_iff_loose hf).mp happ).1 hP trivial
  exact ⟨k, o, h1, h2, h3, hQ⟩
theorem lw_frame {s t : State} {o : Outcome} {args : Array Value} (h : Framed s o t [] 13 893) :
    Framed s o t (fieldLocs frame_1_writes args s ++ arrayLocs frame_1_arrays args s ++ staticLocs frame_1_statics s) 13 893 := h
theorem lw_limb (L : Cond) (hL : ∀ (args : Array Value) (s t : State), L.after args s (.returned (some (.int 1))) t = true) :
    ArmFor flags0 classFile x code maxLocals ret World_1 tables_1 room_1 Calls_1 rest_1 Pre_1
      (fun tb e a s o t => postC L tb e a s o t ∧ Framed s o t (fieldLocs frame_1_writes a s ++ arrayLocs frame_1_arrays a s ++ staticLocs frame_1_statics s) 13 893) := by
  intro l _ _ _ p e ha hc hk s m args below hf hfit hheap happ hpre
  obtain ⟨k, o, h1, h2, h3, rfl, hF⟩ := lw_comes l p e ha hc hk s m args below hf hfit hheap happ hpre
  exact ⟨k, _, h1, h2, h3, hL args s _, lw_frame hF⟩
theorem i_vc : Claimed_1_1 ∧ Claimed_1_2 := ⟨lw_limb limb_1_1 (fun args s t => by simp [limb_1_1, Cond.after, Cond.holds, Cond.value]), lw_limb limb_1_2 (fun args s t => Cond.after_iff.mpr (by
  first | (rw [show limb_1_2 = Cond.eq .result (.int 1) from rfl, Cond.eq_ints (x := 1) (y := 1) rfl rfl]; simp; done) | (simp [limb_1_2, Cond.value, Term.eval]; done)))⟩
end
