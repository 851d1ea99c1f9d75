section
/-! plain: letters of numbers, good numbers, the place of the search -/
def cw_val (g : Nat → Nat) : Nat → Nat
  | 0 => 0
  | d + 1 => cw_val g d * 2 + g d
def cw_set (g : Nat → Nat) (d v : Nat) : Nat → Nat := fun i => if i = d then v else g i
def cw_dig (N m d : Nat) : Nat := m / 2 ^ (N - 1 - d) % 2
theorem cw_set_s (g : Nat → Nat) (d v : Nat) : cw_set g d v d = v := by
  unfold cw_set
  rw [if_pos rfl]
theorem cw_set_n {g : Nat → Nat} {d v i : Nat} (h : i ≠ d) : cw_set g d v i = g i := by
  unfold cw_set
  rw [if_neg h]
theorem cw_val_congr {g h : Nat → Nat} : ∀ d, (∀ i, i < d → g i = h i) → cw_val g d = cw_val h d
  | 0, _ => rfl
  | d + 1, H => by
    show cw_val g d * 2 + g d = cw_val h d * 2 + h d
    rw [cw_val_congr d (fun i hi => H i (by omega)), H d (by omega)]
theorem cw_val_set (g : Nat → Nat) (d v : Nat) : cw_val (cw_set g d v) (d + 1) = cw_val g d * 2 + v := by
  show cw_val (cw_set g d v) d * 2 + cw_set g d v d = _
  rw [cw_set_s, cw_val_congr d (fun i hi => cw_set_n (by omega))]
theorem cw_val_lt {g : Nat → Nat} : ∀ d, (∀ i, i < d → g i < 2) → cw_val g d < 2 ^ d
  | 0, _ => Nat.one_pos
  | d + 1, H => by
    have h1 := cw_val_lt d (fun i hi => H i (by omega))
    have h2 := H d (by omega)
    show cw_val g d * 2 + g d < 2 ^ (d + 1)
    rw [Nat.pow_succ]
    omega
theorem cw_val_div {g : Nat → Nat} {d : Nat} (H : ∀ i, i < d → g i < 2) : ∀ e, e ≤ d → cw_val g (d - e) = cw_val g d / 2 ^ e
  | 0, _ => by rw [Nat.sub_zero, Nat.pow_zero, Nat.div_one]
  | e + 1, he => by
    have ih := cw_val_div H e (by omega)
    have hs : d - e = (d - (e + 1)) + 1 := by omega
    rw [hs] at ih
    have h1 : cw_val g (d - (e + 1)) * 2 + g (d - (e + 1)) = cw_val g d / 2 ^ e := ih
    have h2 := H (d - (e + 1)) (by omega)
    rw [Nat.pow_succ, ← Nat.div_div_eq_div_mul, ← h1]
    omega
/-- the letters of a number whose head is g -/
theorem cw_dig_g {g : Nat → Nat} {N m d : Nat} (H : ∀ i, i < d → g i < 2) (hd : d ≤ N) (hm : m / 2 ^ (N - d) = cw_val g d) : ∀ i, i < d → cw_dig N m i = g i := by
  intro i hi
  have h1 := cw_val_div H (d - (i + 1)) (by omega)
  rw [show d - (d - (i + 1)) = i + 1 by omega, ← hm, Nat.div_div_eq_div_mul, ← Nat.pow_add, show N - d + (d - (i + 1)) = N - 1 - i by omega] at h1
  have h2 : cw_val g i * 2 + g i = m / 2 ^ (N - 1 - i) := h1
  have h3 := H i hi
  unfold cw_dig
  rw [← h2]
  omega
/-! what is answered over the good numbers below x -/
def cw_cnt (P : Nat → Bool) : Nat → Nat
  | 0 => 0
  | m + 1 => if P m = true then cw_cnt P m + 1 else cw_cnt P m
def cw_lst (P : Nat → Bool) : Nat → Int32
  | 0 => -1
  | m + 1 => if P m = true then nI m else cw_lst P m
def cw_all (P : Nat → Bool) (e : Int32) : Nat → Int32
  | 0 => e
  | m + 1 => if P m = true then cw_all P e m &&& nI m else cw_all P e m
def cw_any (P : Nat → Bool) : Nat → Int32
  | 0 => 0
  | m + 1 => if P m = true then cw_any P m ||| nI m else cw_any P m
theorem cw_bf {b : Bool} (h : b = false) : ¬ b = true := by
  rw [h]
  exact Bool.false_ne_true
theorem cw_cnt_t {P : Nat → Bool} {m : Nat} (h : P m = true) : cw_cnt P (m + 1) = cw_cnt P m + 1 := by
  show (if P m = true then cw_cnt P m + 1 else cw_cnt P m) = _
  rw [if_pos h]
theorem cw_cnt_f {P : Nat → Bool} {m : Nat} (h : P m = false) : cw_cnt P (m + 1) = cw_cnt P m := by
  show (if P m = true then cw_cnt P m + 1 else cw_cnt P m) = _
  rw [if_neg (cw_bf h)]
theorem cw_lst_t {P : Nat → Bool} {m : Nat} (h : P m = true) : cw_lst P (m + 1) = nI m := by
  show (if P m = true then nI m else cw_lst P m) = _
  rw [if_pos h]
theorem cw_lst_f {P : Nat → Bool} {m : Nat} (h : P m = false) : cw_lst P (m + 1) = cw_lst P m := by
  show (if P m = true then nI m else cw_lst P m) = _
  rw [if_neg (cw_bf h)]
theorem cw_all_t {P : Nat → Bool} {e : Int32} {m : Nat} (h : P m = true) : cw_all P e (m + 1) = cw_all P e m &&& nI m := by
  show (if P m = true then cw_all P e m &&& nI m else cw_all P e m) = _
  rw [if_pos h]
theorem cw_all_f {P : Nat → Bool} {e : Int32} {m : Nat} (h : P m = false) : cw_all P e (m + 1) = cw_all P e m := by
  show (if P m = true then cw_all P e m &&& nI m else cw_all P e m) = _
  rw [if_neg (cw_bf h)]
theorem cw_any_t {P : Nat → Bool} {m : Nat} (h : P m = true) : cw_any P (m + 1) = cw_any P m ||| nI m := by
  show (if P m = true then cw_any P m ||| nI m else cw_any P m) = _
  rw [if_pos h]
theorem cw_any_f {P : Nat → Bool} {m : Nat} (h : P m = false) : cw_any P (m + 1) = cw_any P m := by
  show (if P m = true then cw_any P m ||| nI m else cw_any P m) = _
  rw [if_neg (cw_bf h)]
theorem cw_cnt_add (P : Nat → Bool) (x : Nat) : ∀ k, cw_cnt P x ≤ cw_cnt P (x + k)
  | 0 => Nat.le_refl _
  | k + 1 => by
    have ih := cw_cnt_add P x k
    show cw_cnt P x ≤ cw_cnt P ((x + k) + 1)
    cases hP : P (x + k) with
    | true =>
      rw [cw_cnt_t hP]
      omega
    | false =>
      rw [cw_cnt_f hP]
      exact ih
theorem cw_cnt_mono {P : Nat → Bool} {x y : Nat} (h : x ≤ y) : cw_cnt P x ≤ cw_cnt P y := by
  have h1 := cw_cnt_add P x (y - x)
  rw [show x + (y - x) = y by omega] at h1
  exact h1
theorem cw_cnt_lt {P : Nat → Bool} {x y : Nat} (h : x < y) (hP : P x = true) : cw_cnt P x < cw_cnt P y := by
  have h1 := cw_cnt_mono (P := P) (show x + 1 ≤ y from h)
  rw [cw_cnt_t hP] at h1
  omega
theorem cw_cnt_le (P : Nat → Bool) : ∀ m, cw_cnt P m ≤ m
  | 0 => Nat.le_refl _
  | m + 1 => by
    have ih := cw_cnt_le P m
    cases hP : P m with
    | true =>
      rw [cw_cnt_t hP]
      omega
    | false =>
      rw [cw_cnt_f hP]
      omega
theorem cw_same_add (P : Nat → Bool) (e : Int32) (x : Nat) : ∀ k, cw_cnt P (x + k) = cw_cnt P x → cw_lst P (x + k) = cw_lst P x ∧ cw_all P e (x + k) = cw_all P e x ∧ cw_any P (x + k) = cw_any P x
  | 0, _ => ⟨rfl, rfl, rfl⟩
  | k + 1, h => by
    have hm := cw_cnt_add P x k
    have h' : cw_cnt P ((x + k) + 1) = cw_cnt P x := h
    cases hP : P (x + k) with
    | true =>
      rw [cw_cnt_t hP] at h'
      omega
    | false =>
      rw [cw_cnt_f hP] at h'
      have ih := cw_same_add P e x k h'
      exact ⟨(cw_lst_f hP).trans ih.1, (cw_all_f hP).trans ih.2.1, (cw_any_f hP).trans ih.2.2⟩
/-- the same count: the same answers -/
theorem cw_same {P : Nat → Bool} (e : Int32) {x y : Nat} (h : cw_cnt P x = cw_cnt P y) : cw_lst P x = cw_lst P y ∧ cw_all P e x = cw_all P e y ∧ cw_any P x = cw_any P y := by
  rcases Nat.le_total x y with hl | hl
  · have h1 := cw_same_add P e x (y - x) (by rw [show x + (y - x) = y by omega]; exact h.symm)
    rw [show x + (y - x) = y by omega] at h1
    exact ⟨h1.1.symm, h1.2.1.symm, h1.2.2.symm⟩
  · have h1 := cw_same_add P e y (x - y) (by rw [show y + (x - y) = x by omega]; exact h)
    rw [show y + (x - y) = x by omega] at h1
    exact h1
theorem cw_skip_add (P : Nat → Bool) (x : Nat) : ∀ k, (∀ j, x ≤ j → j < x + k → P j = false) → cw_cnt P (x + k) = cw_cnt P x
  | 0, _ => rfl
  | k + 1, h => by
    show cw_cnt P ((x + k) + 1) = _
    rw [cw_cnt_f (h (x + k) (by omega) (by omega))]
    exact cw_skip_add P x k (fun j h1 h2 => h j h1 (by omega))
theorem cw_skip {P : Nat → Bool} {x y : Nat} (hl : x ≤ y) (h : ∀ j, x ≤ j → j < y → P j = false) : cw_cnt P y = cw_cnt P x := by
  have h1 := cw_skip_add P x (y - x) (fun j h1 h2 => h j h1 (by omega))
  rw [show x + (y - x) = y by omega] at h1
  exact h1
/-- the four answers after the good numbers below x -/
def cw_Q (P : Nat → Bool) (x : Nat) (fd nm al an : Int32) : Prop := fd = nI (cw_cnt P x) ∧ nm = cw_lst P x ∧ al = cw_all P 4095 x ∧ an = cw_any P x
theorem cw_Q_0 (P : Nat → Bool) : cw_Q P 0 0 (-1) 4095 0 := ⟨rfl, rfl, rfl, rfl⟩
theorem cw_Q_eq {P : Nat → Bool} {x y : Nat} {fd nm al an : Int32} (h : cw_cnt P y = cw_cnt P x) (q : cw_Q P x fd nm al an) : cw_Q P y fd nm al an := by
  obtain ⟨q1, q2, q3, q4⟩ := q
  obtain ⟨s1, s2, s3⟩ := cw_same 4095 h
  exact ⟨by rw [q1, h], by rw [q2, s1], by rw [q3, s2], by rw [q4, s3]⟩
theorem cw_Q_hit {P : Nat → Bool} {x : Nat} {fd nm al an : Int32} (h : P x = true) (q : cw_Q P x fd nm al an) : cw_Q P (x + 1) (fd + 1) (nI x) (al &&& nI x) (an ||| nI x) := by
  obtain ⟨q1, q2, q3, q4⟩ := q
  exact ⟨by rw [q1, cw_cnt_t h, nI_1], (cw_lst_t h).symm, by rw [q3, cw_all_t h], by rw [q4, cw_any_t h]⟩
/-- the last good number below x -/
theorem cw_lst_or (P : Nat → Bool) : ∀ x, cw_lst P x = -1 ∨ ∃ j, j < x ∧ P j = true ∧ cw_lst P x = nI j
  | 0 => Or.inl rfl
  | x + 1 => by
    cases hP : P x with
    | true => exact Or.inr ⟨x, by omega, hP, cw_lst_t hP⟩
    | false =>
      rcases cw_lst_or P x with h | ⟨j, h1, h2, h3⟩
      · exact Or.inl ((cw_lst_f hP).trans h)
      · exact Or.inr ⟨j, by omega, h2, (cw_lst_f hP).trans h3⟩
/-! good numbers: every letter fits -/
def cw_P (ok : (Nat → Nat) → Nat → Bool) (N m : Nat) : Bool := (List.range N).all (fun d => ok (cw_dig N m) d)
theorem cw_P_iff {ok : (Nat → Nat) → Nat → Bool} {N m : Nat} : cw_P ok N m = true ↔ ∀ d, d < N → ok (cw_dig N m) d = true := by
  unfold cw_P
  rw [List.all_eq_true]
  exact ⟨fun h d hd => h d (List.mem_range.mpr hd), fun h d hd => h d (List.mem_range.mp hd)⟩
/-- whether a letter fits hangs on it and on those ahead of it alone -/
def cw_loc (ok : (Nat → Nat) → Nat → Bool) : Prop := ∀ (g h : Nat → Nat) (d : Nat), (∀ i, i ≤ d → g i = h i) → ok g d = ok h d
/-- the place of the search: no number below it is still to come -/
def cw_pos (N : Nat) (g : Nat → Nat) (d t : Nat) : Nat := (cw_val g d * 2 + t) * 2 ^ (N - 1 - d)
theorem cw_ar1 (a p : Nat) : (a * 2 + 2) * p = (a + 1) * (p * 2) := by
  rw [Nat.mul_comm p 2, ← Nat.mul_assoc, show (a + 1) * 2 = a * 2 + 2 by omega]
theorem cw_ar2 (a p : Nat) : (a * 2 + 0) * p = a * (p * 2) := by
  rw [Nat.mul_comm p 2, ← Nat.mul_assoc, Nat.add_zero]
theorem cw_pos_pop {N : Nat} {g : Nat → Nat} {e : Nat} (he : e + 1 < N) : cw_pos N g (e + 1) 2 = cw_pos N g e (g e + 1) := by
  show ((cw_val g e * 2 + g e) * 2 + 2) * 2 ^ (N - 1 - (e + 1)) = (cw_val g e * 2 + g e + 1) * 2 ^ (N - 1 - e)
  rw [show N - 1 - e = (N - 1 - (e + 1)) + 1 by omega, Nat.pow_succ]
  exact cw_ar1 _ _
theorem cw_pos_push {N : Nat} {g : Nat → Nat} {d v : Nat} (hd : d + 1 < N) : cw_pos N (cw_set g d v) (d + 1) 0 = cw_pos N g d v := by
  unfold cw_pos
  rw [cw_val_set, show N - 1 - d = (N - 1 - (d + 1)) + 1 by omega, Nat.pow_succ]
  exact cw_ar2 _ _
theorem cw_pos_next (N : Nat) (g : Nat → Nat) (d t : Nat) : cw_pos N g d (t + 1) = cw_pos N g d t + 2 ^ (N - 1 - d) := by
  unfold cw_pos
  rw [← Nat.add_assoc, Nat.succ_mul]
theorem cw_pos_end {N : Nat} (g : Nat → Nat) (hN : 0 < N) : cw_pos N g 0 2 = 2 ^ N := by
  show (0 * 2 + 2) * 2 ^ (N - 1 - 0) = 2 ^ N
  obtain ⟨k, rfl⟩ : ∃ k, N = k + 1 := ⟨N - 1, by omega⟩
  rw [Nat.pow_succ, show k + 1 - 1 - 0 = k by omega]
  omega
theorem cw_pos_last {N : Nat} (g : Nat → Nat) (t : Nat) : cw_pos N g (N - 1) t = cw_val g (N - 1) * 2 + t := by
  unfold cw_pos
  rw [Nat.sub_self, Nat.pow_zero, Nat.mul_one]
theorem cw_pos_le {N : Nat} {g : Nat → Nat} {d t : Nat} (hg : ∀ i, i < d → g i < 2) (hd : d < N) (ht : t ≤ 2) : cw_pos N g d t ≤ 2 ^ N := by
  have h1 := cw_val_lt d hg
  have h2 : cw_val g d * 2 + t ≤ 2 ^ (d + 1) := by
    rw [Nat.pow_succ]
    omega
  have h3 : (cw_val g d * 2 + t) * 2 ^ (N - 1 - d) ≤ 2 ^ (d + 1) * 2 ^ (N - 1 - d) := Nat.mul_le_mul_right _ h2
  rw [← Nat.pow_add, show d + 1 + (N - 1 - d) = N by omega] at h3
  exact h3
theorem cw_two_pos (k : Nat) : 1 ≤ 2 ^ k := Nat.one_le_two_pow
theorem cw_fail {ok : (Nat → Nat) → Nat → Bool} {N : Nat} {g : Nat → Nat} {d t : Nat} (hloc : cw_loc ok) (hg : ∀ i, i < d → g i < 2) (ht : t < 2) (hd : d < N) (hf : ok (cw_set g d t) d = false) :
    ∀ j, cw_pos N g d t ≤ j → j < cw_pos N g d (t + 1) → cw_P ok N j = false := by
  intro j h1 h2
  have hdiv : j / 2 ^ (N - (d + 1)) = cw_val (cw_set g d t) (d + 1) := by
    rw [cw_val_set, show N - (d + 1) = N - 1 - d by omega]
    exact Nat.div_eq_of_lt_le h1 h2
  have hs : ∀ i, i < d + 1 → cw_set g d t i < 2 := by
    intro i hi
    by_cases e : i = d
    · rw [e, cw_set_s]
      exact ht
    · rw [cw_set_n e]
      exact hg i (by omega)
  have hdig := cw_dig_g hs (show d + 1 ≤ N by omega) hdiv
  cases hP : cw_P ok N j with
  | false => rfl
  | true =>
    have h3 := cw_P_iff.mp hP d hd
    rw [hloc _ _ d (fun i hi => hdig i (by omega)), hf] at h3
    exact h3.symm
theorem cw_hit {ok : (Nat → Nat) → Nat → Bool} {N : Nat} {g : Nat → Nat} (hloc : cw_loc ok) (hg : ∀ i, i < N → g i < 2) (hok : ∀ i, i < N → ok g i = true) : cw_P ok N (cw_val g N) = true := by
  refine cw_P_iff.mpr (fun d hd => ?_)
  have hdig := cw_dig_g hg (Nat.le_refl N) (show cw_val g N / 2 ^ (N - N) = cw_val g N by rw [Nat.sub_self, Nat.pow_zero, Nat.div_one])
  rw [hloc _ _ d (fun i hi => hdig i (by omega))]
  exact hok d hd
/-! rounds still to come -/
def cw_mu (N x d t : Nat) : Nat := (2 ^ N - x) * (2 * N + 1) + (if t = 2 then N + d + 1 else N - d)
theorem cw_mu_pos {N x d t : Nat} (hd : d < N) : 1 ≤ cw_mu N x d t := by
  unfold cw_mu
  generalize (2 ^ N - x) * (2 * N + 1) = K
  split <;> omega
theorem cw_pow9 {N : Nat} (h : N ≤ 9) : 2 ^ N ≤ 512 := Nat.pow_le_pow_right (by omega) h
theorem cw_mu_0 {N : Nat} (h : N ≤ 9) : cw_mu N 0 0 0 ≤ 20000 := by
  unfold cw_mu
  have h1 : (2 ^ N - 0) * (2 * N + 1) ≤ 512 * 19 := Nat.mul_le_mul (by have := cw_pow9 h; omega) (by omega)
  rw [if_neg (by omega)]
  omega
theorem cw_mu_pop {N x e t : Nat} (ht : t ≤ 2) : cw_mu N x e t < cw_mu N x (e + 1) 2 := by
  unfold cw_mu
  generalize (2 ^ N - x) * (2 * N + 1) = K
  rw [if_pos rfl]
  split <;> omega
theorem cw_mu_push {N x d t : Nat} (ht : t < 2) (hd : d + 1 < N) : cw_mu N x (d + 1) 0 < cw_mu N x d t := by
  unfold cw_mu
  generalize (2 ^ N - x) * (2 * N + 1) = K
  rw [if_neg (by omega), if_neg (by omega)]
  omega
theorem cw_mu_adv {N x x' d t t' : Nat} (hx : x < x') (hx' : x' ≤ 2 ^ N) (hd : d < N) : cw_mu N x' d t' < cw_mu N x d t := by
  unfold cw_mu
  have h1 : (2 ^ N - x' + 1) * (2 * N + 1) ≤ (2 ^ N - x) * (2 * N + 1) := Nat.mul_le_mul_right _ (by omega)
  rw [Nat.succ_mul] at h1
  generalize (2 ^ N - x') * (2 * N + 1) = K at *
  generalize (2 ^ N - x) * (2 * N + 1) = K' at *
  have h2 : (if t' = 2 then N + d + 1 else N - d) ≤ 2 * N := by split <;> omega
  have h3 : 1 ≤ (if t = 2 then N + d + 1 else N - d) := by split <;> omega
  omega
/-- where a scan may end -/
def cw_End (P : Nat → Bool) (N stop bound x : Nat) : Prop :=
  (∀ j, j < x → P j = true → j < bound) ∧ ((x = 2 ^ N ∧ cw_cnt P x < stop) ∨ (cw_cnt P x = stop ∧ ∃ m, m < 2 ^ N ∧ x = m + 1 ∧ P m = true) ∨ (x < 2 ^ N ∧ P x = true ∧ bound ≤ x ∧ cw_cnt P x < stop))
/-! bits (turned from the kit's rows to paste) -/
def cb_t (x : Int32) (i : Nat) : Bool := x.toBitVec.getLsbD i
theorem cb_ext {x y : Int32} (h : ∀ i, i < 32 → cb_t x i = cb_t y i) : x = y := Int32.toBitVec_inj.mp (BitVec.eq_of_getLsbD_eq (fun i hi => h i hi))
theorem cb_or (x y : Int32) (i : Nat) : cb_t (x ||| y) i = (cb_t x i || cb_t y i) := by
  unfold cb_t
  rw [Int32.toBitVec_or, BitVec.getLsbD_or]
theorem cb_and (x y : Int32) (i : Nat) : cb_t (x &&& y) i = (cb_t x i && cb_t y i) := by
  unfold cb_t
  rw [Int32.toBitVec_and, BitVec.getLsbD_and]
theorem cb_m1 : ∀ i, i < 32 → cb_t (-1) i = true := by decide +kernel
theorem cb_0 (i : Nat) : cb_t 0 i = false := BitVec.getLsbD_zero
theorem cb_1 : ∀ i, i < 32 → cb_t 1 i = decide (i = 0) := by decide +kernel
theorem cb_4095 : ∀ i, i < 12 → cb_t 4095 i = true := by decide +kernel
theorem cb_sl : ∀ n, n < 32 → ((nI n &&& 31).toBitVec.smod 32).toNat = n := by decide +kernel
theorem cb_sshr (n : Nat) (hn : n < 32) (x : Int32) {i : Nat} (hi : i < 32) : cb_t (x >>> (nI n &&& 31)) i = if n + i < 32 then cb_t x (n + i) else cb_t x 31 := by
  unfold cb_t
  rw [Int32.toBitVec_shiftRight]
  show (x.toBitVec.sshiftRight ((nI n &&& 31).toBitVec.smod 32).toNat).getLsbD i = _
  rw [cb_sl n hn, BitVec.getLsbD_sshiftRight, BitVec.msb_eq_getLsbD_last]
  simp [hi]
/-- one bit of a number -/
theorem cb_bit (x : Int32) {b : Nat} (hb : b < 32) : (x >>> (nI b &&& 31)) &&& 1 = if cb_t x b = true then 1 else 0 := by
  apply cb_ext
  intro i hi
  rw [cb_and, cb_sshr b hb x hi, cb_1 i hi]
  by_cases e : i = 0
  · subst e
    rw [Nat.add_zero, if_pos hb]
    cases h : cb_t x b with
    | true => decide
    | false => decide
  · rw [decide_eq_false e, Bool.and_false]
    cases h : cb_t x b with
    | true =>
      rw [if_pos rfl, cb_1 i hi, decide_eq_false e]
    | false =>
      rw [if_neg Bool.false_ne_true, cb_0]
theorem cb_all (P : Nat → Bool) (e : Int32) (b : Nat) : ∀ x, cb_t (cw_all P e x) b = true ↔ cb_t e b = true ∧ ∀ j, j < x → P j = true → cb_t (nI j) b = true
  | 0 => ⟨fun h => ⟨h, fun j hj => absurd hj (by omega)⟩, fun h => h.1⟩
  | x + 1 => by
    have ih := cb_all P e b x
    cases hP : P x with
    | true =>
      rw [cw_all_t hP, cb_and, Bool.and_eq_true, ih]
      constructor
      · intro h
        refine ⟨h.1.1, fun j hj hp => ?_⟩
        by_cases e : j = x
        · rw [e]
          exact h.2
        · exact h.1.2 j (by omega) hp
      · intro h
        exact ⟨⟨h.1, fun j hj hp => h.2 j (by omega) hp⟩, h.2 x (by omega) hP⟩
    | false =>
      rw [cw_all_f hP, ih]
      constructor
      · intro h
        refine ⟨h.1, fun j hj hp => ?_⟩
        by_cases e : j = x
        · rw [e, hP] at hp
          exact absurd hp Bool.false_ne_true
        · exact h.2 j (by omega) hp
      · intro h
        exact ⟨h.1, fun j hj hp => h.2 j (by omega) hp⟩
theorem cb_any (P : Nat → Bool) (b : Nat) : ∀ x j, j < x → P j = true → cb_t (nI j) b = true → cb_t (cw_any P x) b = true
  | 0, j, hj, _, _ => absurd hj (by omega)
  | x + 1, j, hj, hp, hb => by
    by_cases e : j = x
    · rw [e] at hp hb
      rw [cw_any_t hp, cb_or, hb, Bool.or_true]
    · have ih := cb_any P b x j (by omega) hp hb
      cases hP : P x with
      | true => rw [cw_any_t hP, cb_or, ih, Bool.true_or]
      | false =>
        rw [cw_any_f hP]
        exact ih
theorem cw_cnt_ex {P : Nat → Bool} : ∀ x, 0 < cw_cnt P x → ∃ j, j < x ∧ P j = true
  | 0, h => absurd h (Nat.lt_irrefl 0)
  | x + 1, h => by
    cases hP : P x with
    | true => exact ⟨x, by omega, hP⟩
    | false =>
      rw [cw_cnt_f hP] at h
      obtain ⟨j, h1, h2⟩ := cw_cnt_ex x h
      exact ⟨j, by omega, h2⟩
/-- what forced answers, and what is due -/
def cw_due (P : Nat → Bool) (M b : Nat) : Int32 := if cw_cnt P M = 0 then -4 else if cb_t (cw_all P 4095 M) b = true then 1 else if cb_t (cw_any P M) b = true then 2 else 0
theorem cb_same {P : Nat → Bool} {M b : Nat} (hb : b < 12) : cb_t (cw_all P (-1) M) b = cb_t (cw_all P 4095 M) b := by
  have h : cb_t (cw_all P (-1) M) b = true ↔ cb_t (cw_all P 4095 M) b = true := by
    rw [cb_all, cb_all, cb_m1 b (by omega), cb_4095 b hb]
  cases h1 : cb_t (cw_all P (-1) M) b with
  | true => exact (h.mp h1).symm
  | false =>
    cases h2 : cb_t (cw_all P 4095 M) b with
    | true =>
      rw [h.mpr h2] at h1
      exact h1.symm
    | false => rfl
theorem cb_low {P : Nat → Bool} {M b : Nat} (hc : 0 < cw_cnt P M) (h : cb_t (cw_all P 4095 M) b = true) : cb_t (cw_any P M) b = true := by
  obtain ⟨j, h1, h2⟩ := cw_cnt_ex M hc
  exact cb_any P b M j h1 h2 (((cb_all P 4095 b M).mp h).2 j h1 h2)
end
section
/-! the turns: what they keep -/
def cw_X (R C : Nat) (f1 f2 f3 f4 : Int32) (a1 a2 : Nat → Int32) : Prop := (1 ≤ R ∧ R ≤ 3 ∧ 1 ≤ C ∧ C ≤ 3) ∧ f1 = nI R ∧ f2 = nI C ∧ f3 = nI (R + C) ∧ f4 = nI (R * C) ∧ ∀ i, i < R * C → a1 i = nI (i / C) ∧ a2 i = nI (i % C)
def cw_low (a : Nat → Int32) (h p : Nat) : Prop := ∃ lo : Nat → Nat, (∀ i, i < h → a i = nI (lo i) ∧ lo i ≤ p) ∧ ∀ i j, i ≤ j → j < h → lo i ≤ lo j
def cw_Y (f5 f6 : Int32) (a4 : Nat → Int32) : Prop := ∃ h p : Nat, f5 = nI h ∧ f6 = nI p ∧ h ≤ 6 ∧ p ≤ 8 ∧ cw_low a4 h p
def cw_I (R C : Nat) (u : St2) : Prop := match u with
  | (f1, f2, f3, f4, f5, f6, f7, f8, f9, f10, f11, a1, a2, a3, a4, a5, a6, a7, a8, a9, a10, a11, a12, a13, a14, a15, a16, a17, a18, a19, a20, a21) => cw_X R C f1 f2 f3 f4 a1 a2 ∧ cw_Y f5 f6 a4
theorem cw_mk {R C : Nat} {f1 f2 f3 f4 f5 f6 f7 f8 f9 f10 f11 : Int32} {a1 a2 a3 a4 a5 a6 a7 a8 a9 a10 a11 a12 a13 a14 a15 a16 a17 a18 a19 a20 a21 : Nat → Int32} (hX : cw_X R C f1 f2 f3 f4 a1 a2) (hY : cw_Y f5 f6 a4) : cw_I R C (f1, f2, f3, f4, f5, f6, f7, f8, f9, f10, f11, a1, a2, a3, a4, a5, a6, a7, a8, a9, a10, a11, a12, a13, a14, a15, a16, a17, a18, a19, a20, a21) := And.intro hX hY
theorem cw_low_pop {a : Nat → Int32} {h p : Nat} (H : cw_low a (h + 1) p) : cw_low a h p := by
  obtain ⟨lo, h1, h2⟩ := H
  exact ⟨lo, fun i hi => h1 i (by omega), fun i j hij hj => h2 i j hij (by omega)⟩
theorem cw_low_more {a : Nat → Int32} {h p q : Nat} (H : cw_low a h p) (hq : p ≤ q) : cw_low a h q := by
  obtain ⟨lo, h1, h2⟩ := H
  exact ⟨lo, fun i hi => ⟨(h1 i hi).1, Nat.le_trans (h1 i hi).2 hq⟩, h2⟩
theorem cw_low_push {a : Nat → Int32} {h p : Nat} (H : cw_low a h p) : cw_low (upd a h (nI p)) (h + 1) p := by
  obtain ⟨lo, h1, h2⟩ := H
  refine ⟨cw_set lo h p, fun i hi => ?_, fun i j hij hj => ?_⟩
  · by_cases e : i = h
    · rw [e, pk_us, cw_set_s]
      exact ⟨rfl, Nat.le_refl p⟩
    · rw [pk_un e, cw_set_n e]
      exact h1 i (by omega)
  · by_cases e : j = h
    · rw [e, cw_set_s]
      by_cases e' : i = h
      · rw [e', cw_set_s]
        exact Nat.le_refl p
      · rw [cw_set_n e']
        exact (h1 i (by omega)).2
    · rw [cw_set_n e, cw_set_n (show i ≠ h by omega)]
      exact h2 i j hij (by omega)
theorem cw_low_top {a : Nat → Int32} {h p : Nat} (H : cw_low a (h + 1) p) : ∃ q, a h = nI q ∧ q ≤ p ∧ cw_low a h q := by
  obtain ⟨lo, h1, h2⟩ := H
  exact ⟨lo h, (h1 h (by omega)).1, (h1 h (by omega)).2, lo, fun i hi => ⟨(h1 i (by omega)).1, h2 i h (by omega) (by omega)⟩, fun i j hij hj => h2 i j hij (by omega)⟩
theorem cw_8 (l i : Nat) : nI l * 8 + nI i = nI (l * 8 + i) := by
  rw [show (8 : Int32) = nI 8 from rfl, pk_mul, nI_add]
theorem cw_5 (l i : Nat) : nI l * 5 + nI i = nI (l * 5 + i) := by
  rw [show (5 : Int32) = nI 5 from rfl, pk_mul, nI_add]
theorem cw_p2 (k : Nat) : nI (k + 2) - 2 = nI k := pk_sub (a := k + 2) (b := 2) (by omega)
theorem cw_push {post : St2 → Prop} {f1 f2 f3 f4 f6 f7 f8 f9 f10 f11 : Int32} {a1 a2 a3 a4 a5 a6 a7 a8 a9 a10 a11 a12 a13 a14 a15 a16 a17 a18 a19 a20 a21 : Nat → Int32} {h : Nat} {p0 p1 p2 : Int32} (hh : h < 6) (H : ∀ b5 b6 b7 : Nat → Int32, post (f1, f2, f3, f4, nI (h + 1), f6, f7, f8, f9, f10, f11, a1, a2, a3, upd a4 h f6, b5, b6, b7, a8, a9, a10, a11, a12, a13, a14, a15, a16, a17, a18, a19, a20, a21)) : wpX_push post (f1, f2, f3, f4, nI h, f6, f7, f8, f9, f10, f11, a1, a2, a3, a4, a5, a6, a7, a8, a9, a10, a11, a12, a13, a14, a15, a16, a17, a18, a19, a20, a21) p0 p1 p2 := by
  have e : (nI h).toNatClampNeg = h := nI_clamp (by omega)
  have hv : vp_in (nI h) 6 := vp_in_nI hh (by omega)
  exact And.intro hv (nm_r (by rw [e]) ⟨hv, nm_e ⟨hv, nm_e ⟨hv, nm_e (nm_r (nI_1 h) (H _ _ _))⟩⟩⟩)
theorem cw_unit {post : Int32 → St2 → Prop} {R C : Nat} {f1 f2 f3 f4 f5 f6 f7 f8 f9 f10 f11 : Int32} {a1 a2 a3 a4 a5 a6 a7 a8 a9 a10 a11 a12 a13 a14 a15 a16 a17 a18 a19 a20 a21 : Nat → Int32} (hX : cw_X R C f1 f2 f3 f4 a1 a2) (hY : cw_Y f5 f6 a4) (H : ∀ r u, cw_I R C u → post r u) : wpX_unit post (f1, f2, f3, f4, f5, f6, f7, f8, f9, f10, f11, a1, a2, a3, a4, a5, a6, a7, a8, a9, a10, a11, a12, a13, a14, a15, a16, a17, a18, a19, a20, a21) := by
  obtain ⟨h, p, rfl, rfl, hh, hp, hl⟩ := hY
  refine pk_eq h 6 (fun z => H _ _ (cw_mk hX ⟨h, p, rfl, rfl, hh, hp, hl⟩)) (fun z => ?_)
  exact cw_push (by omega) (fun b5 b6 b7 => H _ _ (cw_mk hX ⟨h + 1, p, rfl, rfl, by omega, hp, cw_low_push hl⟩))
theorem cw_letter {post : Int32 → St2 → Prop} {R C : Nat} {f1 f2 f3 f4 f5 f6 f7 f8 f9 f10 f11 : Int32} {a1 a2 a3 a4 a5 a6 a7 a8 a9 a10 a11 a12 a13 a14 a15 a16 a17 a18 a19 a20 a21 : Nat → Int32} {x : Int32} (hX : cw_X R C f1 f2 f3 f4 a1 a2) (hY : cw_Y f5 f6 a4) (H : ∀ r u, cw_I R C u → post r u) : wpX_letter post (f1, f2, f3, f4, f5, f6, f7, f8, f9, f10, f11, a1, a2, a3, a4, a5, a6, a7, a8, a9, a10, a11, a12, a13, a14, a15, a16, a17, a18, a19, a20, a21) x := by
  obtain ⟨h, p, rfl, rfl, hh, hp, hl⟩ := hY
  have hI := cw_mk (f7 := f7) (f8 := f8) (f9 := f9) (f10 := f10) (f11 := f11) (a3 := a3) (a5 := a5) (a6 := a6) (a7 := a7) (a8 := a8) (a9 := a9) (a10 := a10) (a11 := a11) (a12 := a12) (a13 := a13) (a14 := a14) (a15 := a15) (a16 := a16) (a17 := a17) (a18 := a18) (a19 := a19) (a20 := a20) (a21 := a21) hX ⟨h, p, rfl, rfl, hh, hp, hl⟩
  refine br_c (fun _ => H _ _ hI) (fun _ => br_c (fun _ => pk_eq h 6 (fun _ => H _ _ hI) (fun z => pk_eq p 8 (fun _ => H _ _ hI) (fun z' => nm_e ?_))) (fun _ => H _ _ hI))
  exact cw_push (by omega) (fun b5 b6 b7 => And.intro (pk_in p 8 (by omega)) (nm_e ⟨pk_in p 8 (by omega), nm_e (nm_r (nI_1 p) (H _ _ (cw_mk hX ⟨h + 1, p + 1, rfl, rfl, by omega, by omega, cw_low_more (cw_low_push hl) (by omega)⟩)))⟩))
theorem cw_link {post : St2 → Prop} {f1 f2 f3 f4 f5 f6 f7 f8 f9 f10 f11 : Int32} {a1 a2 a3 a4 a5 a6 a7 a8 a9 a10 a11 a12 a13 a14 a15 a16 a17 a18 a19 a20 a21 : Nat → Int32} {x1 x2 : Int32} (H : ∀ s : Nat → Int32, post (f1, f2, f3, f4, f5, f6, f7, f8, f9, f10, f11, a1, a2, a3, a4, a5, a6, a7, a8, s, a10, a11, a12, a13, a14, a15, a16, a17, a18, a19, a20, a21)) : wpX_link post (f1, f2, f3, f4, f5, f6, f7, f8, f9, f10, f11, a1, a2, a3, a4, a5, a6, a7, a8, a9, a10, a11, a12, a13, a14, a15, a16, a17, a18, a19, a20, a21) x1 x2 :=
  pk_loop (fun n i s => wX_link_2 post x1 x2 f1 f2 f3 f4 f5 f6 f7 f8 f9 f10 f11 n (nI i) a1 a2 a3 a4 a5 a6 a7 a8 s a10 a11 a12 a13 a14 a15 a16 a17 a18 a19 a20 a21) (fun _ _ => True) 8 0 a9 (by omega) trivial
    (fun n s _ => pk_le 8 8 (fun _ => H s) (fun z => absurd z (by omega)))
    (fun n i s hi _ hw => pk_le 8 i (fun z => absurd z (by omega)) (fun _ => br_c (fun _ => ⟨pk_in i 8 hi, pk_in i 8 hi, nm_e (nm_r (nI_1 i) (hw _ trivial))⟩) (fun _ => nm_r (nI_1 i) (hw _ trivial))))
theorem cw_cat139 {post : Int32 → St2 → Prop} {f1 f2 f3 f4 f5 f6 f7 f8 f9 f10 f11 : Int32} {a1 a2 a3 a4 a5 a6 a7 a8 a9 a10 a11 a12 a13 a14 a15 a16 a17 a18 a19 a20 a21 : Nat → Int32} {k : Nat} {x : Int32} (hk : k < 6) (H : ∀ b7 : Nat → Int32, post x (f1, f2, f3, f4, x, f6, f7, f8, f9, f10, f11, a1, a2, a3, a4, a5, a6, b7, a8, a9, a10, a11, a12, a13, a14, a15, a16, a17, a18, a19, a20, a21)) : wX_cat_139 post x (nI k) f1 f2 f3 f4 f5 f6 f7 f8 f9 f10 f11 a1 a2 a3 a4 a5 a6 a7 a8 a9 a10 a11 a12 a13 a14 a15 a16 a17 a18 a19 a20 a21 :=
  And.intro (pk_in k 6 hk) (nm_e (H _))
theorem cw_cat112 {post : Int32 → St2 → Prop} {f1 f2 f3 f4 f5 f6 f7 f8 f9 f10 f11 : Int32} {a1 a2 a3 a4 a5 a6 a7 a8 a9 a10 a11 a12 a13 a14 a15 a16 a17 a18 a19 a20 a21 : Nat → Int32} {k j : Nat} (hk : k < 6) (hj : j < 6) (H : ∀ b7 : Nat → Int32, post (nI j) (f1, f2, f3, f4, nI j, f6, f7, f8, f9, f10, f11, a1, a2, a3, a4, a5, a6, b7, a8, a9, a10, a11, a12, a13, a14, a15, a16, a17, a18, a19, a20, a21)) : wX_cat_112 post (nI j) (nI k) f1 f2 f3 f4 f5 f6 f7 f8 f9 f10 f11 a1 a2 a3 a4 a5 a6 a7 a8 a9 a10 a11 a12 a13 a14 a15 a16 a17 a18 a19 a20 a21 :=
  And.intro (pk_in k 6 hk) (br_c (fun _ => cw_cat139 hk H) (fun _ => ⟨pk_in j 6 hj, br_c (fun _ => cw_cat139 hk H) (fun _ => ⟨pk_in k 6 hk, nm_e (H _)⟩)⟩))
theorem cw_cat69 {post : Int32 → St2 → Prop} {f1 f2 f3 f4 f5 f6 f7 f8 f9 f10 f11 : Int32} {a1 a2 a3 a4 a5 a6 a7 a8 a9 a10 a11 a12 a13 a14 a15 a16 a17 a18 a19 a20 a21 : Nat → Int32} {k j : Nat} (hk : k < 6) (hj : j < 6) (H : ∀ b6 b7 : Nat → Int32, post (nI j) (f1, f2, f3, f4, nI j, f6, f7, f8, f9, f10, f11, a1, a2, a3, a4, a5, b6, b7, a8, a9, a10, a11, a12, a13, a14, a15, a16, a17, a18, a19, a20, a21)) : wX_cat_69 post (nI j) (nI k) f1 f2 f3 f4 f5 f6 f7 f8 f9 f10 f11 a1 a2 a3 a4 a5 a6 a7 a8 a9 a10 a11 a12 a13 a14 a15 a16 a17 a18 a19 a20 a21 :=
  And.intro (pk_in j 6 hj) (br_c (fun _ => ⟨pk_in j 6 hj, pk_in k 6 hk, nm_e (cw_cat112 hk hj (H _))⟩) (fun _ => ⟨pk_in k 6 hk, pk_in j 6 hj, pk_in k 6 hk, nm_e (cw_cat112 hk hj (H _))⟩))
theorem cw_cat {post : Int32 → St2 → Prop} {R C : Nat} {f1 f2 f3 f4 f5 f6 f7 f8 f9 f10 f11 : Int32} {a1 a2 a3 a4 a5 a6 a7 a8 a9 a10 a11 a12 a13 a14 a15 a16 a17 a18 a19 a20 a21 : Nat → Int32} (hX : cw_X R C f1 f2 f3 f4 a1 a2) (hY : cw_Y f5 f6 a4) (H : ∀ r u, cw_I R C u → post r u) : wpX_cat post (f1, f2, f3, f4, f5, f6, f7, f8, f9, f10, f11, a1, a2, a3, a4, a5, a6, a7, a8, a9, a10, a11, a12, a13, a14, a15, a16, a17, a18, a19, a20, a21) := by
  obtain ⟨h, p, rfl, rfl, hh, hp, hl⟩ := hY
  refine pk_le 2 h (fun z => ?_) (fun z => H _ _ (cw_mk hX ⟨h, p, rfl, rfl, hh, hp, hl⟩))
  obtain ⟨k, rfl⟩ : ∃ k, h = k + 2 := ⟨h - 2, by omega⟩
  have hk : k < 6 := by omega
  have hj : k + 1 < 6 := by omega
  have hE : cw_Y (nI (k + 1)) (nI p) a4 := ⟨k + 1, p, rfl, rfl, by omega, hp, cw_low_pop hl⟩
  refine nm_r (nI_pred (k + 1)) (nm_r (cw_p2 k) ⟨pk_in k 6 hk, pk_in (k + 1) 6 hj, cw_link (fun s => ?_)⟩)
  exact And.intro (pk_in k 6 hk) (br_c (fun _ => cw_cat69 hk hj (fun b6 b7 => H _ _ (cw_mk hX hE))) (fun _ => ⟨pk_in k 6 hk, pk_in (k + 1) 6 hj, pk_in k 6 hk, nm_e (cw_cat69 hk hj (fun b6 b7 => H _ _ (cw_mk hX hE)))⟩))
theorem cw_alt86 {post : Int32 → St2 → Prop} {f1 f2 f3 f4 f5 f6 f7 f8 f9 f10 f11 : Int32} {a1 a2 a3 a4 a5 a6 a7 a8 a9 a10 a11 a12 a13 a14 a15 a16 a17 a18 a19 a20 a21 : Nat → Int32} {k : Nat} {x : Int32} (hk : k < 6) (H : ∀ b7 : Nat → Int32, post x (f1, f2, f3, f4, x, f6, f7, f8, f9, f10, f11, a1, a2, a3, a4, a5, a6, b7, a8, a9, a10, a11, a12, a13, a14, a15, a16, a17, a18, a19, a20, a21)) : wX_alt_86 post x (nI k) f1 f2 f3 f4 f5 f6 f7 f8 f9 f10 f11 a1 a2 a3 a4 a5 a6 a7 a8 a9 a10 a11 a12 a13 a14 a15 a16 a17 a18 a19 a20 a21 :=
  And.intro (pk_in k 6 hk) (nm_e (H _))
theorem cw_alt {post : Int32 → St2 → Prop} {R C : Nat} {f1 f2 f3 f4 f5 f6 f7 f8 f9 f10 f11 : Int32} {a1 a2 a3 a4 a5 a6 a7 a8 a9 a10 a11 a12 a13 a14 a15 a16 a17 a18 a19 a20 a21 : Nat → Int32} (hX : cw_X R C f1 f2 f3 f4 a1 a2) (hY : cw_Y f5 f6 a4) (H : ∀ r u, cw_I R C u → post r u) : wpX_alt post (f1, f2, f3, f4, f5, f6, f7, f8, f9, f10, f11, a1, a2, a3, a4, a5, a6, a7, a8, a9, a10, a11, a12, a13, a14, a15, a16, a17, a18, a19, a20, a21) := by
  obtain ⟨h, p, rfl, rfl, hh, hp, hl⟩ := hY
  refine pk_le 2 h (fun z => ?_) (fun z => H _ _ (cw_mk hX ⟨h, p, rfl, rfl, hh, hp, hl⟩))
  obtain ⟨k, rfl⟩ : ∃ k, h = k + 2 := ⟨h - 2, by omega⟩
  have hk : vp_in (nI k) 6 := pk_in k 6 (by omega)
  have hj : vp_in (nI (k + 1)) 6 := pk_in (k + 1) 6 (by omega)
  have hE : cw_Y (nI (k + 1)) (nI p) a4 := ⟨k + 1, p, rfl, rfl, by omega, hp, cw_low_pop hl⟩
  refine nm_r (nI_pred (k + 1)) (nm_r (cw_p2 k) ⟨hk, hj, hk, nm_e ⟨hk, hj, hk, nm_e ⟨hk, ?_⟩⟩⟩)
  exact br_c (fun _ => ⟨hj, br_c (fun _ => ⟨hk, nm_e (H _ _ (cw_mk hX hE))⟩) (fun _ => cw_alt86 (by omega) (fun b7 => H _ _ (cw_mk hX hE)))⟩) (fun _ => cw_alt86 (by omega) (fun b7 => H _ _ (cw_mk hX hE)))
theorem cw_star {post : Int32 → St2 → Prop} {R C : Nat} {f1 f2 f3 f4 f5 f6 f7 f8 f9 f10 f11 : Int32} {a1 a2 a3 a4 a5 a6 a7 a8 a9 a10 a11 a12 a13 a14 a15 a16 a17 a18 a19 a20 a21 : Nat → Int32} (hX : cw_X R C f1 f2 f3 f4 a1 a2) (hY : cw_Y f5 f6 a4) (H : ∀ r u, cw_I R C u → post r u) : wpX_star post (f1, f2, f3, f4, f5, f6, f7, f8, f9, f10, f11, a1, a2, a3, a4, a5, a6, a7, a8, a9, a10, a11, a12, a13, a14, a15, a16, a17, a18, a19, a20, a21) := by
  obtain ⟨h, p, rfl, rfl, hh, hp, hl⟩ := hY
  refine pk_le 1 h (fun z => ?_) (fun z => H _ _ (cw_mk hX ⟨h, p, rfl, rfl, hh, hp, hl⟩))
  obtain ⟨k, rfl⟩ : ∃ k, h = k + 1 := ⟨h - 1, by omega⟩
  have hk : vp_in (nI k) 6 := pk_in k 6 (by omega)
  exact nm_r (nI_pred k) ⟨hk, hk, cw_link (fun s => And.intro hk (nm_e (H _ _ (cw_mk hX ⟨k + 1, p, rfl, rfl, hh, hp, hl⟩))))⟩
theorem cw_turnX {post : St2 → Prop} {f1 f2 f3 f4 f5 f6 f7 f8 f9 f10 f11 : Int32} {a1 a2 a3 a4 a5 a6 a7 a8 a9 a10 a11 a12 a13 a14 a15 a16 a17 a18 a19 a20 a21 : Nat → Int32} {q : Nat} (hq : q < 8) (H : ∀ s : Nat → Int32, post (f1, f2, f3, f4, f5, f6, f7, f8, f9, f10, f11, a1, a2, a3, a4, a5, a6, a7, a8, a9, s, a11, a12, a13, a14, a15, a16, a17, a18, a19, a20, a21)) : wpX_turn post (f1, f2, f3, f4, f5, f6, f7, f8, f9, f10, f11, a1, a2, a3, a4, a5, a6, a7, a8, a9, a10, a11, a12, a13, a14, a15, a16, a17, a18, a19, a20, a21) (nI q) :=
  pk_loop (fun n i s => wX_turn_2 post (nI q) f1 f2 f3 f4 f5 f6 f7 f8 f9 f10 f11 n (nI i) a1 a2 a3 a4 a5 a6 a7 a8 a9 s a11 a12 a13 a14 a15 a16 a17 a18 a19 a20 a21) (fun _ _ => True) 8 0 a10 (by omega) trivial
    (fun n s _ => pk_le 8 8 (fun _ => H s) (fun z => absurd z (by omega)))
    (fun n i s hi _ hw => pk_le 8 i (fun z => absurd z (by omega)) (fun _ => ⟨pk_in q 8 hq, br_c (fun _ => ⟨pk_in i 8 hi, pk_in i 8 hi, nm_e (nm_r (nI_1 i) (hw _ trivial))⟩) (fun _ => nm_r (nI_1 i) (hw _ trivial))⟩))
theorem cw_rev72 {post : Int32 → St2 → Prop} {f1 f2 f3 f4 f5 f7 f8 f9 f10 f11 : Int32} {a1 a2 a3 a4 a5 a6 a7 a8 a9 a10 a11 a12 a13 a14 a15 a16 a17 a18 a19 a20 a21 : Nat → Int32} {x lo p : Nat} (hx : x < 6) (hlo : lo ≤ p) (hp : p ≤ 8) (H : ∀ b5 b6 b9 : Nat → Int32, post f5 (f1, f2, f3, f4, f5, nI p, f7, f8, f9, f10, f11, a1, a2, a3, a4, b5, b6, a7, a8, b9, a10, a11, a12, a13, a14, a15, a16, a17, a18, a19, a20, a21)) : ∃ n, wX_reverse_72 post (nI x) f1 f2 f3 f4 f5 (nI p) f7 f8 f9 f10 f11 n (nI lo) a1 a2 a3 a4 a5 a6 a7 a8 a9 a10 a11 a12 a13 a14 a15 a16 a17 a18 a19 a20 a21 :=
  pk_loop (fun n i s => wX_reverse_72 post (nI x) f1 f2 f3 f4 f5 (nI p) f7 f8 f9 f10 f11 n (nI i) a1 a2 a3 a4 a5 a6 a7 a8 s a10 a11 a12 a13 a14 a15 a16 a17 a18 a19 a20 a21) (fun _ _ => True) p lo a9 hlo trivial
    (fun n s _ => pk_le p p (fun _ => ⟨pk_in x 6 hx, nm_e ⟨pk_in x 6 hx, pk_in x 6 hx, nm_e ⟨pk_in x 6 hx, nm_e (H _ _ _)⟩⟩⟩) (fun z => absurd z (by omega)))
    (fun n i s hi _ hw => pk_le p i (fun z => absurd z (by omega)) (fun _ => ⟨pk_in i 8 (by omega), pk_in i 8 (by omega), nm_e (nm_r (nI_1 i) (hw _ trivial))⟩))
theorem cw_rev46 {post : Int32 → St2 → Prop} {f1 f2 f3 f4 f5 f7 f8 f9 f10 f11 : Int32} {a1 a2 a3 a4 a5 a6 a7 a8 a9 a10 a11 a12 a13 a14 a15 a16 a17 a18 a19 a20 a21 : Nat → Int32} {x lo p : Nat} (hx : x < 6) (hlo : lo ≤ p) (hp : p ≤ 8) (h4 : a4 x = nI lo) (H : ∀ b5 b6 b9 b10 : Nat → Int32, post f5 (f1, f2, f3, f4, f5, nI p, f7, f8, f9, f10, f11, a1, a2, a3, a4, b5, b6, a7, a8, b9, b10, a11, a12, a13, a14, a15, a16, a17, a18, a19, a20, a21)) : ∃ n, wX_reverse_46 post (nI x) n (nI lo) f1 f2 f3 f4 f5 (nI p) f7 f8 f9 f10 f11 a1 a2 a3 a4 a5 a6 a7 a8 a9 a10 a11 a12 a13 a14 a15 a16 a17 a18 a19 a20 a21 :=
  pk_loop (fun n i s => wX_reverse_46 post (nI x) n (nI i) f1 f2 f3 f4 f5 (nI p) f7 f8 f9 f10 f11 a1 a2 a3 a4 a5 a6 a7 a8 a9 s a11 a12 a13 a14 a15 a16 a17 a18 a19 a20 a21) (fun _ _ => True) p lo a10 hlo trivial
    (fun n s _ => pk_le p p (fun _ => ⟨pk_in x 6 hx, nm_r (by rw [nI_clamp (by omega)]; exact h4) (cw_rev72 hx hlo hp (fun b5 b6 b9 => H b5 b6 b9 s))⟩) (fun z => absurd z (by omega)))
    (fun n i s hi _ hw => pk_le p i (fun z => absurd z (by omega)) (fun _ => cw_turnX (by omega) (fun s' => nm_r (nI_1 i) (hw s' trivial))))
theorem cw_rev20 {post : Int32 → St2 → Prop} {f1 f2 f3 f4 f5 f7 f8 f9 f10 f11 : Int32} {a1 a2 a3 a4 a5 a6 a7 a8 a9 a10 a11 a12 a13 a14 a15 a16 a17 a18 a19 a20 a21 : Nat → Int32} {x lo p : Nat} (hx : x < 6) (hlo : lo ≤ p) (hp : p ≤ 8) (h4 : a4 x = nI lo) (H : ∀ b5 b6 b9 b10 : Nat → Int32, post f5 (f1, f2, f3, f4, f5, nI p, f7, f8, f9, f10, f11, a1, a2, a3, a4, b5, b6, a7, a8, b9, b10, a11, a12, a13, a14, a15, a16, a17, a18, a19, a20, a21)) : ∃ n, wX_reverse_20 post (nI x) f1 f2 f3 f4 f5 (nI p) f7 f8 f9 f10 f11 n 0 a1 a2 a3 a4 a5 a6 a7 a8 a9 a10 a11 a12 a13 a14 a15 a16 a17 a18 a19 a20 a21 :=
  pk_loop (fun n i s => wX_reverse_20 post (nI x) f1 f2 f3 f4 f5 (nI p) f7 f8 f9 f10 f11 n (nI i) a1 a2 a3 a4 a5 a6 a7 a8 a9 s a11 a12 a13 a14 a15 a16 a17 a18 a19 a20 a21) (fun _ _ => True) 8 0 a10 (by omega) trivial
    (fun n s _ => pk_le 8 8 (fun _ => ⟨pk_in x 6 hx, nm_r (by rw [nI_clamp (by omega)]; exact h4) (cw_rev46 hx hlo hp h4 H)⟩) (fun z => absurd z (by omega)))
    (fun n i s hi _ hw => pk_le 8 i (fun z => absurd z (by omega)) (fun _ => ⟨pk_in i 8 hi, nm_e (nm_r (nI_1 i) (hw _ trivial))⟩))
theorem cw_reverse {post : Int32 → St2 → Prop} {R C : Nat} {f1 f2 f3 f4 f5 f6 f7 f8 f9 f10 f11 : Int32} {a1 a2 a3 a4 a5 a6 a7 a8 a9 a10 a11 a12 a13 a14 a15 a16 a17 a18 a19 a20 a21 : Nat → Int32} (hX : cw_X R C f1 f2 f3 f4 a1 a2) (hY : cw_Y f5 f6 a4) (H : ∀ r u, cw_I R C u → post r u) : wpX_reverse post (f1, f2, f3, f4, f5, f6, f7, f8, f9, f10, f11, a1, a2, a3, a4, a5, a6, a7, a8, a9, a10, a11, a12, a13, a14, a15, a16, a17, a18, a19, a20, a21) := by
  obtain ⟨h, p, rfl, rfl, hh, hp, hl⟩ := hY
  refine pk_le 1 h (fun z => ?_) (fun z => H _ _ (cw_mk hX ⟨h, p, rfl, rfl, hh, hp, hl⟩))
  obtain ⟨k, rfl⟩ : ∃ k, h = k + 1 := ⟨h - 1, by omega⟩
  obtain ⟨lo, h4, hlo, _⟩ := cw_low_top hl
  exact nm_r (nI_pred k) (cw_rev20 (by omega) hlo hp h4 (fun b5 b6 b9 b10 => H _ _ (cw_mk hX ⟨k + 1, p, rfl, rfl, hh, hp, hl⟩)))
theorem cw_anyWord {post : St2 → Prop} {f1 f2 f3 f4 f5 f6 f7 f8 f9 f10 f11 : Int32} {a1 a2 a3 a4 a5 a6 a7 a8 a9 a10 a11 a12 a13 a14 a15 a16 a17 a18 a19 a20 a21 : Nat → Int32} {l : Nat} (hl : l < 7) (H : ∀ b11 b12 b13 b14 b15 b16 : Nat → Int32, post (f1, f2, f3, f4, f5, f6, 0, f8, f9, f10, f11, a1, a2, a3, a4, a5, a6, a7, a8, a9, a10, b11, b12, b13, b14, b15, b16, a17, a18, a19, a20, a21)) : wpX_anyWord post (f1, f2, f3, f4, f5, f6, f7, f8, f9, f10, f11, a1, a2, a3, a4, a5, a6, a7, a8, a9, a10, a11, a12, a13, a14, a15, a16, a17, a18, a19, a20, a21) (nI l) := by
  have hv : vp_in (nI l) 7 := vp_in_nI hl (by omega)
  have L : ∀ b11 b12 b13 b14 b15 : Nat → Int32, ∃ n, wX_anyWord_37 post (nI l) f1 f2 f3 f4 f5 f6 f7 f8 f9 f10 f11 n 0 a1 a2 a3 a4 a5 a6 a7 a8 a9 a10 b11 b12 b13 b14 b15 a16 a17 a18 a19 a20 a21 := fun b11 b12 b13 b14 b15 =>
    pk_loop (fun n i s => wX_anyWord_37 post (nI l) f1 f2 f3 f4 f5 f6 f7 f8 f9 f10 f11 n (nI i) a1 a2 a3 a4 a5 a6 a7 a8 a9 a10 b11 b12 b13 b14 b15 s a17 a18 a19 a20 a21) (fun _ _ => True) 8 0 a16 (by omega) trivial
      (fun n s _ => pk_le 8 8 (fun _ => ⟨pk_in (l * 8) 56 (by omega) (pk_mul l 8), nm_e (H _ _ _ _ _ _)⟩) (fun z => absurd z (by omega)))
      (fun n i s hi _ hw => pk_le 8 i (fun z => absurd z (by omega)) (fun _ => ⟨pk_in (l * 8 + i) 56 (by omega) (cw_8 l i), nm_e (nm_r (nI_1 i) (hw _ trivial))⟩))
  exact And.intro hv (nm_e ⟨hv, nm_e ⟨hv, nm_e ⟨hv, nm_e ⟨hv, nm_e (L _ _ _ _ _)⟩⟩⟩⟩)
theorem cw_freeLine {post : Int32 → St2 → Prop} {R C : Nat} {f1 f2 f3 f4 f5 f6 f7 f8 f9 f10 f11 : Int32} {a1 a2 a3 a4 a5 a6 a7 a8 a9 a10 a11 a12 a13 a14 a15 a16 a17 a18 a19 a20 a21 : Nat → Int32} {l : Nat} (hX : cw_X R C f1 f2 f3 f4 a1 a2) (hY : cw_Y f5 f6 a4) (hl : l < 8) (H : ∀ r u, cw_I R C u → post r u) : wpX_freeLine post (f1, f2, f3, f4, f5, f6, f7, f8, f9, f10, f11, a1, a2, a3, a4, a5, a6, a7, a8, a9, a10, a11, a12, a13, a14, a15, a16, a17, a18, a19, a20, a21) (nI l) := by
  have hX' := hX
  obtain ⟨hb, rfl, rfl, rfl, rfl, h12⟩ := hX
  refine br_f (nI_pos (by omega)) (pk_lt l (R + C) (fun z => ?_) (fun z => H _ _ (cw_mk hX' hY)))
  exact cw_anyWord (by omega) (fun b11 b12 b13 b14 b15 b16 => H _ _ (cw_mk hX' hY))
theorem cw_inGrid {post : Int32 → Prop} {f3 f4 f5 f6 f7 f8 f9 f10 f11 : Int32} {a1 a2 a3 a4 a5 a6 a7 a8 a9 a10 a11 a12 a13 a14 a15 a16 a17 a18 a19 a20 a21 : Nat → Int32} {R C r c : Nat} (hb : R ≤ 3 ∧ C ≤ 3) (hr : r < 4) (hc : c < 4) (H0 : post 0) (H1 : r < R → c < C → post 1) : wpX_inGrid post (nI R, nI C, f3, f4, f5, f6, f7, f8, f9, f10, f11, a1, a2, a3, a4, a5, a6, a7, a8, a9, a10, a11, a12, a13, a14, a15, a16, a17, a18, a19, a20, a21) (nI r) (nI c) :=
  br_f (nI_pos (by omega)) (pk_le R r (fun _ => H0) (fun z => br_f (nI_pos (by omega)) (pk_le C c (fun _ => H0) (fun z' => H1 z z'))))
theorem cw_cell {R C r c : Nat} (hr : r < R) (hc : c < C) : r * C + c < R * C := by
  have h : (r + 1) * C ≤ R * C := Nat.mul_le_mul_right _ (by omega)
  rw [Nat.succ_mul] at h
  omega
theorem cw_nine {R C : Nat} (hR : R ≤ 3) (hC : C ≤ 3) : R * C ≤ 9 := Nat.mul_le_mul hR hC
theorem cw_rc (r C c : Nat) : nI r * nI C + nI c = nI (r * C + c) := by rw [pk_mul, nI_add]
theorem cw_pin {post : Int32 → St2 → Prop} {R C : Nat} {f1 f2 f3 f4 f5 f6 f7 f8 f9 f10 f11 : Int32} {a1 a2 a3 a4 a5 a6 a7 a8 a9 a10 a11 a12 a13 a14 a15 a16 a17 a18 a19 a20 a21 : Nat → Int32} {r c : Nat} {v : Int32} (hX : cw_X R C f1 f2 f3 f4 a1 a2) (hY : cw_Y f5 f6 a4) (hr : r < 4) (hc : c < 4) (H : ∀ r u, cw_I R C u → post r u) : wpX_pin post (f1, f2, f3, f4, f5, f6, f7, f8, f9, f10, f11, a1, a2, a3, a4, a5, a6, a7, a8, a9, a10, a11, a12, a13, a14, a15, a16, a17, a18, a19, a20, a21) (nI r) (nI c) v := by
  have hX' := hX
  obtain ⟨hb, rfl, rfl, rfl, rfl, h12⟩ := hX
  unfold wpX_pin
  dsimp only
  refine cw_inGrid ⟨hb.2.1, hb.2.2.2⟩ hr hc (br_t rfl (H _ _ (cw_mk hX' hY))) (fun z z' => br_f (show ¬ (1 : Int32) = 0 by decide) (br_c (fun _ => H _ _ (cw_mk hX' hY)) (fun _ => br_c (fun _ => ?_) (fun _ => H _ _ (cw_mk hX' hY)))))
  have hi := cw_cell z z'
  have h9 := cw_nine hb.2.1 hb.2.2.2
  exact nm_r (cw_rc r C c) ⟨pk_in (r * C + c) 12 (by omega), nm_e ⟨pk_in (r * C + c) 12 (by omega), nm_e (H _ _ (cw_mk hX' hY))⟩⟩
theorem cw_sl164 {post : Int32 → St2 → Prop} {J : Int32 → (Nat → Int32) → (Nat → Int32) → (Nat → Int32) → (Nat → Int32) → (Nat → Int32) → (Nat → Int32) → (Nat → Int32) → (Nat → Int32) → (Nat → Int32) → (Nat → Int32) → (Nat → Int32) → (Nat → Int32) → (Nat → Int32) → (Nat → Int32) → (Nat → Int32) → (Nat → Int32) → (Nat → Int32) → (Nat → Int32) → (Nat → Int32) → (Nat → Int32) → (Nat → Int32) → Prop} {f1 f2 f3 f4 f5 f6 f7 f8 f9 f10 f11 : Int32} {a1 a2 a3 a4 a5 a6 a7 a8 a9 a10 a11 a12 a13 a14 a15 a16 a17 a18 a19 a20 a21 : Nat → Int32} {l i lo : Nat} {x2 : Int32} (hl : l < 7) (hi : i < 8) (ho : lo ≤ i) (H : ∀ b16 : Nat → Int32, J (nI (i + 1)) a1 a2 a3 a4 a5 a6 a7 a8 a9 a10 a11 a12 a13 a14 a15 b16 a17 a18 a19 a20 a21) : wX_setLine_164 post J (nI l) x2 (nI lo) (nI i) f1 f2 f3 f4 f5 f6 f7 f8 f9 f10 f11 a1 a2 a3 a4 a5 a6 a7 a8 a9 a10 a11 a12 a13 a14 a15 a16 a17 a18 a19 a20 a21 :=
  And.intro (pk_in i 8 hi) ⟨pk_in (l * 8 + i - lo) 56 (by omega) (by rw [cw_8, pk_sub (by omega)]), nm_e (nm_r (nI_1 i) (H _))⟩
theorem cw_sl139 {post : Int32 → St2 → Prop} {J : Int32 → (Nat → Int32) → (Nat → Int32) → (Nat → Int32) → (Nat → Int32) → (Nat → Int32) → (Nat → Int32) → (Nat → Int32) → (Nat → Int32) → (Nat → Int32) → (Nat → Int32) → (Nat → Int32) → (Nat → Int32) → (Nat → Int32) → (Nat → Int32) → (Nat → Int32) → (Nat → Int32) → (Nat → Int32) → (Nat → Int32) → (Nat → Int32) → (Nat → Int32) → (Nat → Int32) → Prop} {f1 f2 f3 f4 f5 f6 f7 f8 f9 f10 f11 : Int32} {a1 a2 a3 a4 a5 a6 a7 a8 a9 a10 a11 a12 a13 a14 a15 a16 a17 a18 a19 a20 a21 : Nat → Int32} {l i lo : Nat} {x2 x5 : Int32} (hl : l < 7) (hi : i < 8) (ho : lo ≤ i) (H : ∀ b15 b16 : Nat → Int32, J (nI (i + 1)) a1 a2 a3 a4 a5 a6 a7 a8 a9 a10 a11 a12 a13 a14 b15 b16 a17 a18 a19 a20 a21) : wX_setLine_139 post J (nI l) x2 (nI lo) (nI i) x5 f1 f2 f3 f4 f5 f6 f7 f8 f9 f10 f11 a1 a2 a3 a4 a5 a6 a7 a8 a9 a10 a11 a12 a13 a14 a15 a16 a17 a18 a19 a20 a21 :=
  And.intro (pk_in i 8 hi) (br_c (fun _ => cw_sl164 hl hi ho (H _)) (fun _ => ⟨pk_in l 7 hl, pk_in l 7 hl, nm_e (cw_sl164 hl hi ho (H _))⟩))
theorem cw_sl96 {post : Int32 → St2 → Prop} {f1 f2 f3 f4 f5 f7 f8 f9 f10 f11 : Int32} {a1 a2 a3 a4 a5 a6 a7 a8 a9 a10 a11 a12 a13 a14 a15 a16 a17 a18 a19 a20 a21 : Nat → Int32} {l lo p : Nat} {x2 : Int32} (hl : l < 7) (hlo : lo ≤ p) (hp : p ≤ 8) (H : ∀ b14 b15 b16 : Nat → Int32, post x2 (f1, f2, f3, f4, x2, nI lo, 0, f8, f9, f10, f11, a1, a2, a3, a4, a5, a6, a7, a8, a9, a10, a11, a12, a13, b14, b15, b16, a17, a18, a19, a20, a21)) : ∃ n, wX_setLine_96 post (nI l) x2 (nI lo) f1 f2 f3 f4 f5 (nI p) f7 f8 f9 f10 f11 n (nI lo) a1 a2 a3 a4 a5 a6 a7 a8 a9 a10 a11 a12 a13 a14 a15 a16 a17 a18 a19 a20 a21 :=
  pk_loop (σ := (Nat → Int32) × (Nat → Int32) × (Nat → Int32)) (fun n i s => wX_setLine_96 post (nI l) x2 (nI lo) f1 f2 f3 f4 f5 (nI p) f7 f8 f9 f10 f11 n (nI i) a1 a2 a3 a4 a5 a6 a7 a8 a9 a10 a11 a12 a13 s.1 s.2.1 s.2.2 a17 a18 a19 a20 a21) (fun i _ => lo ≤ i) p lo (a14, a15, a16) hlo (Nat.le_refl lo)
    (fun n s _ => pk_le p p (fun _ => H s.1 s.2.1 s.2.2) (fun z => absurd z (by omega)))
    (fun n i s hi ho hw => pk_le p i (fun z => absurd z (by omega)) (fun _ => nm_e ⟨pk_in i 8 (by omega), br_c
      (fun _ => cw_sl139 hl (by omega) ho (fun b15 b16 => hw (s.1, b15, b16) (by omega)))
      (fun _ => ⟨pk_in l 7 hl, pk_in l 7 hl, nm_e (cw_sl139 hl (by omega) ho (fun b15 b16 => hw (_, b15, b16) (by omega)))⟩)⟩))
theorem cw_setLine {post : Int32 → St2 → Prop} {R C : Nat} {f1 f2 f3 f4 f5 f6 f7 f8 f9 f10 f11 : Int32} {a1 a2 a3 a4 a5 a6 a7 a8 a9 a10 a11 a12 a13 a14 a15 a16 a17 a18 a19 a20 a21 : Nat → Int32} {l : Nat} (hX : cw_X R C f1 f2 f3 f4 a1 a2) (hY : cw_Y f5 f6 a4) (hl8 : l < 8) (H : ∀ r u, cw_I R C u → post r u) : wpX_setLine post (f1, f2, f3, f4, f5, f6, f7, f8, f9, f10, f11, a1, a2, a3, a4, a5, a6, a7, a8, a9, a10, a11, a12, a13, a14, a15, a16, a17, a18, a19, a20, a21) (nI l) := by
  have hX' := hX
  have hY' := hY
  obtain ⟨hb, rfl, rfl, rfl, rfl, h12⟩ := hX
  obtain ⟨h, p, rfl, rfl, hh, hp, hl⟩ := hY
  refine br_f (nI_pos (by omega)) (pk_lt l (R + C) (fun z => pk_le 1 h (fun z' => ?_) (fun z' => H _ _ (cw_mk hX' hY'))) (fun z => H _ _ (cw_mk hX' hY')))
  obtain ⟨k, rfl⟩ : ∃ k, h = k + 1 := ⟨h - 1, by omega⟩
  obtain ⟨lo, h4, hlo, hl2⟩ := cw_low_top hl
  have hk : vp_in (nI k) 6 := pk_in k 6 (by omega)
  have hv : vp_in (nI l) 7 := pk_in l 7 (by omega)
  refine nm_r (nI_pred k) ⟨hk, nm_r (show a4 (nI k).toNatClampNeg = nI lo by rw [nI_clamp (by omega)]; exact h4) ⟨hk, hv, nm_e ⟨hk, hv, nm_e ⟨hk, hv, nm_e ⟨hv, nm_e ⟨hv, nm_e ?_⟩⟩⟩⟩⟩⟩
  exact cw_sl96 (by omega) hlo hp (fun b14 b15 b16 => H _ _ (cw_mk hX' ⟨k, lo, rfl, rfl, by omega, by omega, hl2⟩))
theorem cw_turn {post : St2 → Prop} {R C : Nat} {u : St2} (hu : cw_I R C u) (x y : Int32) (H : ∀ u, cw_I R C u → post u) : wpL_turn post u x y := by
  obtain ⟨f1, f2, f3, f4, f5, f6, f7, f8, f9, f10, f11, a1, a2, a3, a4, a5, a6, a7, a8, a9, a10, a11, a12, a13, a14, a15, a16, a17, a18, a19, a20, a21⟩ := u
  obtain ⟨hX, hY⟩ := hu
  have h7 : ∃ l : Nat, l < 8 ∧ y &&& 7 = nI l := pk_andE y (m := 7) 3 (by decide)
  have h3 : ∀ z : Int32, ∃ l : Nat, l < 4 ∧ z &&& 3 = nI l := fun z => pk_andE z (m := 3) 2 (by decide)
  obtain ⟨l, hl, el⟩ := h7
  obtain ⟨r, hr, er⟩ := h3 y
  obtain ⟨c, hc, ec⟩ := h3 (y >>> ((2 : Int32) &&& 31))
  unfold wpL_turn
  dsimp only
  rw [el, er, ec]
  intro x3 _
  refine br_c (fun _ => br_c (fun _ => ?_) (fun _ => br_c (fun _ => br_c (fun _ => ?_) (fun _ => br_c (fun _ => br_c (fun _ => ?_) (fun _ => br_c (fun _ => br_c (fun _ => ?_) (fun _ => ?_)) (fun _ => ?_))) (fun _ => ?_))) (fun _ => ?_))) (fun _ => ?_)
  · exact cw_unit hX hY (fun r u hu => by
      obtain ⟨f1, f2, f3, f4, f5, f6, f7, f8, f9, f10, f11, a1, a2, a3, a4, a5, a6, a7, a8, a9, a10, a11, a12, a13, a14, a15, a16, a17, a18, a19, a20, a21⟩ := u
      exact H _ hu)
  · exact cw_alt hX hY (fun r u hu => by
      obtain ⟨f1, f2, f3, f4, f5, f6, f7, f8, f9, f10, f11, a1, a2, a3, a4, a5, a6, a7, a8, a9, a10, a11, a12, a13, a14, a15, a16, a17, a18, a19, a20, a21⟩ := u
      exact H _ hu)
  · exact cw_reverse hX hY (fun r u hu => by
      obtain ⟨f1, f2, f3, f4, f5, f6, f7, f8, f9, f10, f11, a1, a2, a3, a4, a5, a6, a7, a8, a9, a10, a11, a12, a13, a14, a15, a16, a17, a18, a19, a20, a21⟩ := u
      exact H _ hu)
  · exact cw_freeLine hX hY hl (fun r u hu => by
      obtain ⟨f1, f2, f3, f4, f5, f6, f7, f8, f9, f10, f11, a1, a2, a3, a4, a5, a6, a7, a8, a9, a10, a11, a12, a13, a14, a15, a16, a17, a18, a19, a20, a21⟩ := u
      exact H _ hu)
  · exact cw_pin hX hY hr hc (fun r u hu => by
      obtain ⟨f1, f2, f3, f4, f5, f6, f7, f8, f9, f10, f11, a1, a2, a3, a4, a5, a6, a7, a8, a9, a10, a11, a12, a13, a14, a15, a16, a17, a18, a19, a20, a21⟩ := u
      exact H _ hu)
  · exact cw_setLine hX hY hl (fun r u hu => by
      obtain ⟨f1, f2, f3, f4, f5, f6, f7, f8, f9, f10, f11, a1, a2, a3, a4, a5, a6, a7, a8, a9, a10, a11, a12, a13, a14, a15, a16, a17, a18, a19, a20, a21⟩ := u
      exact H _ hu)
  · exact cw_star hX hY (fun r u hu => by
      obtain ⟨f1, f2, f3, f4, f5, f6, f7, f8, f9, f10, f11, a1, a2, a3, a4, a5, a6, a7, a8, a9, a10, a11, a12, a13, a14, a15, a16, a17, a18, a19, a20, a21⟩ := u
      exact H _ hu)
  · exact cw_cat hX hY (fun r u hu => by
      obtain ⟨f1, f2, f3, f4, f5, f6, f7, f8, f9, f10, f11, a1, a2, a3, a4, a5, a6, a7, a8, a9, a10, a11, a12, a13, a14, a15, a16, a17, a18, a19, a20, a21⟩ := u
      exact H _ hu)
  · exact cw_letter hX hY (fun r u hu => by
      obtain ⟨f1, f2, f3, f4, f5, f6, f7, f8, f9, f10, f11, a1, a2, a3, a4, a5, a6, a7, a8, a9, a10, a11, a12, a13, a14, a15, a16, a17, a18, a19, a20, a21⟩ := u
      exact H _ hu)
end
section
/-! the constructor -/
theorem cw_dm {i C j : Nat} (h1 : 1 ≤ C) (h3 : C ≤ 3) (hj : j < C) : (C * i + j) / C = i ∧ (C * i + j) % C = j := by
  rcases (show C = 1 ∨ C = 2 ∨ C = 3 by omega) with rfl | rfl | rfl
  · constructor <;> omega
  · constructor <;> omega
  · constructor <;> omega
theorem cw_init302 {post : St2 → Prop} {mc ms kc ks R C : Nat} {f1 f2 f3 f4 f5 f6 f7 f8 f9 f10 f11 : Int32} {a1 a2 a3 a4 a5 a6 a7 a8 a9 a10 a11 a12 a13 a14 a15 a16 a17 a18 a19 a20 a21 : Nat → Int32} (hR : R ≤ 3) (hC : C ≤ 3) (H : ∀ (r7 : Int32) (b11 b12 b13 b14 b15 b16 : Nat → Int32), post (f1, f2, f3, f4, f5, f6, r7, f8, f9, f10, f11, a1, a2, a3, a4, a5, a6, a7, a8, a9, a10, b11, b12, b13, b14, b15, b16, a17, a18, a19, a20, a21)) : ∃ n, wX_init_302 post mc ms (nI R) (nI C) kc ks n 0 f1 f2 f3 f4 f5 f6 f7 f8 f9 f10 f11 a1 a2 a3 a4 a5 a6 a7 a8 a9 a10 a11 a12 a13 a14 a15 a16 a17 a18 a19 a20 a21 :=
  pk_loop (σ := Int32 × (Nat → Int32) × (Nat → Int32) × (Nat → Int32) × (Nat → Int32) × (Nat → Int32) × (Nat → Int32)) (fun n i s => wX_init_302 post mc ms (nI R) (nI C) kc ks n (nI i) f1 f2 f3 f4 f5 f6 s.1 f8 f9 f10 f11 a1 a2 a3 a4 a5 a6 a7 a8 a9 a10 s.2.1 s.2.2.1 s.2.2.2.1 s.2.2.2.2.1 s.2.2.2.2.2.1 s.2.2.2.2.2.2 a17 a18 a19 a20 a21) (fun _ _ => True) (R + C) 0 (f7, a11, a12, a13, a14, a15, a16) (by omega) trivial
    (fun n s _ => pk_le (R + C) (R + C) (fun _ => H _ _ _ _ _ _ _) (fun z => absurd z (by omega)) (nI_add R C))
    (fun n i s hi _ hw => pk_le (R + C) i (fun z => absurd z (by omega)) (fun _ => cw_anyWord (by omega) (fun b11 b12 b13 b14 b15 b16 => nm_r (nI_1 i) (hw (0, b11, b12, b13, b14, b15, b16) trivial))) (nI_add R C))
theorem cw_init251 {post : St2 → Prop} {mc ms kc ks : Nat} {J : Int32 → Int32 → (Nat → Int32) → (Nat → Int32) → (Nat → Int32) → (Nat → Int32) → (Nat → Int32) → (Nat → Int32) → (Nat → Int32) → (Nat → Int32) → (Nat → Int32) → (Nat → Int32) → (Nat → Int32) → (Nat → Int32) → (Nat → Int32) → (Nat → Int32) → (Nat → Int32) → (Nat → Int32) → (Nat → Int32) → (Nat → Int32) → (Nat → Int32) → (Nat → Int32) → (Nat → Int32) → Prop} {C i : Nat} {x3 : Int32} {f1 f2 f3 f4 f5 f6 f7 f8 f9 f10 f11 : Int32} {a1 a2 a3 a4 a5 a6 a7 a8 a9 a10 a11 a12 a13 a14 a15 a16 a17 a18 a19 a20 a21 : Nat → Int32} (h1 : 1 ≤ C) (h3 : C ≤ 3) (hi3 : i < 3) (h0 : ∀ k, k < C * i → a1 k = nI (k / C) ∧ a2 k = nI (k % C))
    (H : ∀ b1 b2 b3 : Nat → Int32, (∀ k, k < C * (i + 1) → b1 k = nI (k / C) ∧ b2 k = nI (k % C)) → J (nI (C * (i + 1))) (nI (i + 1)) b1 b2 b3 a4 a5 a6 a7 a8 a9 a10 a11 a12 a13 a14 a15 a16 a17 a18 a19 a20 a21) : ∃ n, wX_init_251 post mc ms J x3 (nI C) (nI i) kc ks f1 f2 f3 f4 f5 f6 f7 f8 f9 f10 f11 n (nI (C * i)) 0 a1 a2 a3 a4 a5 a6 a7 a8 a9 a10 a11 a12 a13 a14 a15 a16 a17 a18 a19 a20 a21 := by
  have hci : C * i ≤ 6 := Nat.mul_le_mul h3 (show i ≤ 2 by omega)
  refine pk_loop (σ := (Nat → Int32) × (Nat → Int32) × (Nat → Int32)) (fun n j s => wX_init_251 post mc ms J x3 (nI C) (nI i) kc ks f1 f2 f3 f4 f5 f6 f7 f8 f9 f10 f11 n (nI (C * i + j)) (nI j) s.1 s.2.1 s.2.2 a4 a5 a6 a7 a8 a9 a10 a11 a12 a13 a14 a15 a16 a17 a18 a19 a20 a21) (fun j s => ∀ k, k < C * i + j → s.1 k = nI (k / C) ∧ s.2.1 k = nI (k % C)) C 0 (a1, a2, a3) (by omega) h0
    (fun n s h => pk_le C C (fun _ => nm_r (nI_1 i) (H s.1 s.2.1 s.2.2 h)) (fun z => absurd z (by omega)))
    (fun n j s hj h hw => pk_le C j (fun z => absurd z (by omega)) (fun _ => ⟨pk_in (C * i + j) 12 (by omega), nm_e ⟨pk_in (C * i + j) 12 (by omega), nm_e ⟨pk_in (C * i + j) 12 (by omega), nm_e (nm_r (nI_1 (C * i + j)) (nm_r (nI_1 j) (hw (_, _, _) ?_)))⟩⟩⟩))
  intro k hk
  show upd s.1 (nI (C * i + j)).toNatClampNeg (nI i) k = _ ∧ upd s.2.1 (nI (C * i + j)).toNatClampNeg (nI j) k = _
  rw [nI_clamp (by omega)]
  by_cases e : k = C * i + j
  · rw [e, pk_us, pk_us, (cw_dm h1 h3 hj).1, (cw_dm h1 h3 hj).2]
    exact ⟨rfl, rfl⟩
  · rw [pk_un e, pk_un e]
    exact h k (by omega)
theorem cw_init242 {post : St2 → Prop} {mc ms kc ks R C : Nat} {f1 f2 f3 f4 f5 f6 f7 f8 f9 f10 f11 : Int32} {a1 a2 a3 a4 a5 a6 a7 a8 a9 a10 a11 a12 a13 a14 a15 a16 a17 a18 a19 a20 a21 : Nat → Int32} (hR : R ≤ 3) (h1 : 1 ≤ C) (h3 : C ≤ 3)
    (H : ∀ (r7 : Int32) (b1 b2 b3 b11 b12 b13 b14 b15 b16 : Nat → Int32), (∀ k, k < C * R → b1 k = nI (k / C) ∧ b2 k = nI (k % C)) → post (f1, f2, f3, f4, f5, f6, r7, f8, f9, f10, f11, b1, b2, b3, a4, a5, a6, a7, a8, a9, a10, b11, b12, b13, b14, b15, b16, a17, a18, a19, a20, a21)) : ∃ n, wX_init_242 post mc ms (nI R) (nI C) kc ks f1 f2 f3 f4 f5 f6 f7 f8 f9 f10 f11 n 0 0 a1 a2 a3 a4 a5 a6 a7 a8 a9 a10 a11 a12 a13 a14 a15 a16 a17 a18 a19 a20 a21 :=
  pk_loop (σ := (Nat → Int32) × (Nat → Int32) × (Nat → Int32)) (fun n i s => wX_init_242 post mc ms (nI R) (nI C) kc ks f1 f2 f3 f4 f5 f6 f7 f8 f9 f10 f11 n (nI (C * i)) (nI i) s.1 s.2.1 s.2.2 a4 a5 a6 a7 a8 a9 a10 a11 a12 a13 a14 a15 a16 a17 a18 a19 a20 a21) (fun i s => ∀ k, k < C * i → s.1 k = nI (k / C) ∧ s.2.1 k = nI (k % C)) R 0 (a1, a2, a3) (by omega) (fun k hk => absurd hk (Nat.not_lt_zero k))
    (fun n s h => pk_le R R (fun _ => cw_init302 hR h3 (fun r7 b11 b12 b13 b14 b15 b16 => H r7 s.1 s.2.1 s.2.2 b11 b12 b13 b14 b15 b16 h)) (fun z => absurd z (by omega)))
    (fun n i s hi h hw => pk_le R i (fun z => absurd z (by omega)) (fun _ => cw_init251 h1 h3 (by omega) h (fun b1 b2 b3 hb => hw (b1, b2, b3) hb)))
theorem cw_init {post : St2 → Prop} {R C : Nat} (hb : 1 ≤ R ∧ R ≤ 3 ∧ 1 ≤ C ∧ C ≤ 3) (H : ∀ u, cw_I R C u → post u) : wpX_init post 21 258 (0, 0, 0, 0, 0, 0, 0, 0, 0, 0, 0) (nI R) (nI C) := by
  have h1 := hb.1
  have h2 := hb.2.1
  have h3 := hb.2.2.1
  have h4 := hb.2.2.2
  refine And.intro (by decide) ⟨by decide, by decide, by decide, by decide, by decide, by decide, by decide, by decide, by decide, by decide, by decide, by decide, by decide, by decide, by decide, by decide, by decide, by decide, by decide, by decide, by decide, by decide, by decide, by decide, by decide, by decide, by decide, by decide, by decide, by decide, by decide, by decide, by decide, by decide, by decide, by decide, by decide, by decide, by decide, by decide, by decide, ?_⟩
  refine pk_le 1 R (fun _ => pk_le R 3 (fun _ => pk_le 1 C (fun _ => pk_le C 4 (fun _ => nm_r (nI_add R C) (nm_r (pk_mul R C) ?_)) (fun z => absurd z (by omega))) (fun z => absurd z (by omega))) (fun z => absurd z (by omega))) (fun z => absurd z (by omega))
  refine cw_init242 h2 h3 h4 (fun r7 b1 b2 b3 b11 b12 b13 b14 b15 b16 h12 => H _ (cw_mk ⟨hb, rfl, rfl, rfl, rfl, fun i hi => h12 i ?_⟩ ⟨0, 0, rfl, rfl, by omega, by omega, fun _ => 0, fun i hi => absurd hi (by omega), fun i j _ hj => absurd hj (by omega)⟩))
  rw [Nat.mul_comm]
  exact hi
end
section
/-! the machines of the lines -/
theorem cw_before {post : Int32 → Prop} {f1 f2 f3 f4 f5 f6 f7 f8 f9 f10 f11 : Int32} {a1 a2 a3 a4 a5 a6 a7 a8 a9 a10 a11 a12 a13 a14 a15 a16 a17 a18 a19 a20 a21 : Nat → Int32} {l : Nat} {x v : Int32} (hl : l < 7) (H : ∀ r, post r) : wpX_before post (f1, f2, f3, f4, f5, f6, f7, f8, f9, f10, f11, a1, a2, a3, a4, a5, a6, a7, a8, a9, a10, a11, a12, a13, a14, a15, a16, a17, a18, a19, a20, a21) (nI l) x v := by
  have L : ∀ z r0 : Int32, ∃ n, wX_before_48 post (nI l) z f1 f2 f3 f4 f5 f6 f7 f8 f9 f10 f11 a1 a2 a3 a4 a5 a6 a7 a8 a9 a10 a11 a12 a13 a14 a15 a16 a17 a18 a19 a20 a21 n r0 0 := fun z r0 =>
    pk_loop (fun n i s => wX_before_48 post (nI l) z f1 f2 f3 f4 f5 f6 f7 f8 f9 f10 f11 a1 a2 a3 a4 a5 a6 a7 a8 a9 a10 a11 a12 a13 a14 a15 a16 a17 a18 a19 a20 a21 n s (nI i)) (fun _ _ => True) 8 0 r0 (by omega) trivial
      (fun n s _ => pk_le 8 8 (fun _ => H s) (fun z => absurd z (by omega)))
      (fun n i s hi _ hw => pk_le 8 i (fun z => absurd z (by omega)) (fun _ => ⟨pk_in (l * 8 + i) 56 (by omega) (cw_8 l i), br_c (fun _ => nm_r (nI_1 i) (hw _ trivial)) (fun _ => nm_e (nm_r (nI_1 i) (hw _ trivial)))⟩))
  have hv : vp_in (nI l) 7 := vp_in_nI hl (by omega)
  have B : ∀ z : Int32, wX_before_23 post (nI l) z f1 f2 f3 f4 f5 f6 f7 f8 f9 f10 f11 a1 a2 a3 a4 a5 a6 a7 a8 a9 a10 a11 a12 a13 a14 a15 a16 a17 a18 a19 a20 a21 := fun z => And.intro hv (br_c (fun _ => L z 0) (fun _ => L z 256))
  exact br_c (fun _ => ⟨hv, B _⟩) (fun _ => ⟨hv, B _⟩)
theorem cw_pl107 {post : St2 → Prop} {J : Int32 → Int32 → (Nat → Int32) → (Nat → Int32) → (Nat → Int32) → (Nat → Int32) → (Nat → Int32) → (Nat → Int32) → (Nat → Int32) → (Nat → Int32) → (Nat → Int32) → (Nat → Int32) → (Nat → Int32) → (Nat → Int32) → (Nat → Int32) → (Nat → Int32) → (Nat → Int32) → (Nat → Int32) → (Nat → Int32) → (Nat → Int32) → (Nat → Int32) → (Nat → Int32) → (Nat → Int32) → Prop} {f1 f2 f3 f4 f5 f6 f7 f8 f9 f10 f11 : Int32} {a1 a2 a3 a4 a5 a6 a7 a8 a9 a10 a11 a12 a13 a14 a15 a16 a17 a18 a19 a20 a21 : Nat → Int32} {l t : Nat} {x6 : Int32} (hl : l < 7) (ht : t < 5) (H : ∀ b17 : Nat → Int32, J x6 (nI t + (-1)) a1 a2 a3 a4 a5 a6 a7 a8 a9 a10 a11 a12 a13 a14 a15 a16 b17 a18 a19 a20 a21) : wX_prepareLine_107 post J (nI l) (nI t) x6 f1 f2 f3 f4 f5 f6 f7 f8 f9 f10 f11 a1 a2 a3 a4 a5 a6 a7 a8 a9 a10 a11 a12 a13 a14 a15 a16 a17 a18 a19 a20 a21 :=
  And.intro (pk_in (l * 5 + t) 35 (by omega) (cw_5 l t)) (nm_e (nm_e (H _)))
theorem cw_pl81 {post : St2 → Prop} {J : Int32 → Int32 → (Nat → Int32) → (Nat → Int32) → (Nat → Int32) → (Nat → Int32) → (Nat → Int32) → (Nat → Int32) → (Nat → Int32) → (Nat → Int32) → (Nat → Int32) → (Nat → Int32) → (Nat → Int32) → (Nat → Int32) → (Nat → Int32) → (Nat → Int32) → (Nat → Int32) → (Nat → Int32) → (Nat → Int32) → (Nat → Int32) → (Nat → Int32) → (Nat → Int32) → (Nat → Int32) → Prop} {f1 f2 f3 f4 f5 f6 f7 f8 f9 f10 f11 : Int32} {a1 a2 a3 a4 a5 a6 a7 a8 a9 a10 a11 a12 a13 a14 a15 a16 a17 a18 a19 a20 a21 : Nat → Int32} {l t c : Nat} {x3 x6 : Int32} (hl : l < 7) (ht : t < 5) (hc : c < 12) (H : ∀ (x6 : Int32) (b17 : Nat → Int32), J x6 (nI t + (-1)) a1 a2 a3 a4 a5 a6 a7 a8 a9 a10 a11 a12 a13 a14 a15 a16 b17 a18 a19 a20 a21) : wX_prepareLine_81 post J (nI l) x3 (nI t) (nI c) x6 f1 f2 f3 f4 f5 f6 f7 f8 f9 f10 f11 a1 a2 a3 a4 a5 a6 a7 a8 a9 a10 a11 a12 a13 a14 a15 a16 a17 a18 a19 a20 a21 :=
  And.intro (pk_in c 12 hc) (br_c (fun _ => cw_pl107 hl ht (H _)) (fun _ => cw_before hl (fun r => nm_e (cw_pl107 hl ht (H _)))))
theorem cw_cellOf {post : Int32 → Prop} {f3 f4 f5 f6 f7 f8 f9 f10 f11 : Int32} {a1 a2 a3 a4 a5 a6 a7 a8 a9 a10 a11 a12 a13 a14 a15 a16 a17 a18 a19 a20 a21 : Nat → Int32} {R C l t : Nat} (hR : R ≤ 3) (hC : C ≤ 3) (hl : l < R + C) (h1 : l < R → t < C) (h2 : R ≤ l → t < R) (H : ∀ c, c < 12 → post (nI c)) : wpX_cellOf post (nI R, nI C, f3, f4, f5, f6, f7, f8, f9, f10, f11, a1, a2, a3, a4, a5, a6, a7, a8, a9, a10, a11, a12, a13, a14, a15, a16, a17, a18, a19, a20, a21) (nI l) (nI t) := by
  have h9 := cw_nine hR hC
  refine pk_le R l (fun z => ?_) (fun z => ?_)
  · have hc := cw_cell (h2 z) (show l - R < C by omega)
    have e : nI t * nI C + nI l - nI R = nI (t * C + (l - R)) := by
      rw [cw_rc, pk_sub (by omega), show t * C + l - R = t * C + (l - R) by omega]
    exact ek_v (P := post) e (H _ (by omega))
  · have hc := cw_cell z (h1 z)
    exact ek_v (P := post) (cw_rc l C t) (H _ (by omega))
theorem cw_pl44 {post : St2 → Prop} {f3 f4 f5 f6 f7 f8 f9 f10 f11 : Int32} {a1 a2 a3 a4 a5 a6 a7 a8 a9 a10 a11 a12 a13 a14 a15 a16 a17 a18 a19 a20 a21 : Nat → Int32} {R C l : Nat} (hR : R ≤ 3) (hC : C ≤ 3) (hl : l < R + C) (H : ∀ b17 : Nat → Int32, post (nI R, nI C, f3, f4, f5, f6, f7, f8, f9, f10, f11, a1, a2, a3, a4, a5, a6, a7, a8, a9, a10, a11, a12, a13, a14, a15, a16, b17, a18, a19, a20, a21)) (e : Nat) (x : Int32) (he : (l < R → e ≤ C) ∧ (R ≤ l → e ≤ R)) : wX_prepareLine_44 post (nI l) (nI R) (nI C) f3 f4 f5 f6 f7 f8 f9 f10 f11 (e + 1) x (nI e + (-1)) a1 a2 a3 a4 a5 a6 a7 a8 a9 a10 a11 a12 a13 a14 a15 a16 a17 a18 a19 a20 a21 := by
  refine pk_loopD (σ := Int32 × (Nat → Int32)) (fun n i s => wX_prepareLine_44 post (nI l) (nI R) (nI C) f3 f4 f5 f6 f7 f8 f9 f10 f11 n s.1 (nI i + (-1)) a1 a2 a3 a4 a5 a6 a7 a8 a9 a10 a11 a12 a13 a14 a15 a16 s.2 a18 a19 a20 a21) (fun i _ => (l < R → i ≤ C) ∧ (R ≤ l → i ≤ R)) (fun n s _ => ?_) (fun n i s hI hw => ?_) e (x, a17) he
  · exact br_t (by decide) (H _)
  · show wX_prepareLine_44 post (nI l) (nI R) (nI C) f3 f4 f5 f6 f7 f8 f9 f10 f11 (n + 1) s.1 (nI (i + 1) + (-1)) a1 a2 a3 a4 a5 a6 a7 a8 a9 a10 a11 a12 a13 a14 a15 a16 s.2 a18 a19 a20 a21
    rw [pk_m1]
    have hi : i < 3 := by omega
    have K : ∀ (x6 : Int32) (b17 : Nat → Int32), wX_prepareLine_44 post (nI l) (nI R) (nI C) f3 f4 f5 f6 f7 f8 f9 f10 f11 n x6 (nI i + (-1)) a1 a2 a3 a4 a5 a6 a7 a8 a9 a10 a11 a12 a13 a14 a15 a16 b17 a18 a19 a20 a21 := fun x6 b17 => hw (x6, b17) ⟨fun z => by have := hI.1 z; omega, fun z => by have := hI.2 z; omega⟩
    exact br_f (nI_pos (by omega)) (cw_cellOf hR hC hl (fun z => hI.1 z) (fun z => hI.2 z) (fun c hc => And.intro (pk_in c 12 hc) (br_c (fun _ => cw_pl81 (by omega) (by omega) hc K) (fun _ => cw_before (by omega) (fun r => cw_pl81 (by omega) (by omega) hc K)))))
theorem cw_m1 {n : Nat} (h : 1 ≤ n) : nI n - 1 = nI n + (-1) := by
  obtain ⟨k, rfl⟩ : ∃ k, n = k + 1 := ⟨n - 1, by omega⟩
  rw [pk_m1, nI_pred]
theorem cw_pl28 {post : St2 → Prop} {f3 f4 f5 f6 f7 f8 f9 f10 f11 : Int32} {a1 a2 a3 a4 a5 a6 a7 a8 a9 a10 a11 a12 a13 a14 a15 a16 a17 a18 a19 a20 a21 : Nat → Int32} {R C l e : Nat} {x : Int32} (hR : R ≤ 3) (hC : C ≤ 3) (hl : l < R + C) (H : ∀ b17 : Nat → Int32, post (nI R, nI C, f3, f4, f5, f6, f7, f8, f9, f10, f11, a1, a2, a3, a4, a5, a6, a7, a8, a9, a10, a11, a12, a13, a14, a15, a16, b17, a18, a19, a20, a21)) (h1 : 1 ≤ e) (he : (l < R → e ≤ C) ∧ (R ≤ l → e ≤ R)) : wX_prepareLine_28 post (nI l) (nI e) x (nI R) (nI C) f3 f4 f5 f6 f7 f8 f9 f10 f11 a1 a2 a3 a4 a5 a6 a7 a8 a9 a10 a11 a12 a13 a14 a15 a16 a17 a18 a19 a20 a21 :=
  And.intro (pk_in (l * 5 + e) 35 (by omega) (cw_5 l e)) (nm_e (nm_r (cw_m1 h1) ⟨e + 1, cw_pl44 hR hC hl H e x he⟩))
theorem cw_prepareLine {post : St2 → Prop} {f3 f4 f5 f6 f7 f8 f9 f10 f11 : Int32} {a1 a2 a3 a4 a5 a6 a7 a8 a9 a10 a11 a12 a13 a14 a15 a16 a17 a18 a19 a20 a21 : Nat → Int32} {R C l : Nat} (hb : 1 ≤ R ∧ R ≤ 3 ∧ 1 ≤ C ∧ C ≤ 3) (hl : l < R + C) (H : ∀ b17 : Nat → Int32, post (nI R, nI C, f3, f4, f5, f6, f7, f8, f9, f10, f11, a1, a2, a3, a4, a5, a6, a7, a8, a9, a10, a11, a12, a13, a14, a15, a16, b17, a18, a19, a20, a21)) : wpX_prepareLine post (nI R, nI C, f3, f4, f5, f6, f7, f8, f9, f10, f11, a1, a2, a3, a4, a5, a6, a7, a8, a9, a10, a11, a12, a13, a14, a15, a16, a17, a18, a19, a20, a21) (nI l) := by
  obtain ⟨hR1, hR, hC1, hC⟩ := hb
  have hv : vp_in (nI l) 7 := vp_in_nI (by omega) (by omega)
  unfold wpX_prepareLine
  dsimp only
  refine pk_le R l (fun z => ?_) (fun z => ?_)
  · exact And.intro hv (nm_e ⟨hv, br_c (fun _ => cw_pl28 hR hC hl H hR1 ⟨fun z' => absurd z' (by omega), fun _ => Nat.le_refl R⟩) (fun _ => nm_e (cw_pl28 hR hC hl H hR1 ⟨fun z' => absurd z' (by omega), fun _ => Nat.le_refl R⟩))⟩)
  · exact And.intro hv (nm_e ⟨hv, br_c (fun _ => cw_pl28 hR hC hl H hC1 ⟨fun _ => Nat.le_refl C, fun z' => absurd z' (by omega)⟩) (fun _ => nm_e (cw_pl28 hR hC hl H hC1 ⟨fun _ => Nat.le_refl C, fun z' => absurd z' (by omega)⟩))⟩)
theorem cw_prepare {post : St2 → Prop} {f4 f5 f6 f7 f8 f9 f10 f11 : Int32} {a1 a2 a3 a4 a5 a6 a7 a8 a9 a10 a11 a12 a13 a14 a15 a16 a17 a18 a19 a20 a21 : Nat → Int32} {R C : Nat} (hb : 1 ≤ R ∧ R ≤ 3 ∧ 1 ≤ C ∧ C ≤ 3) (H : ∀ (r7 : Int32) (b17 : Nat → Int32), ¬ r7 = 0 → post (nI R, nI C, nI (R + C), f4, f5, f6, r7, f8, f9, f10, f11, a1, a2, a3, a4, a5, a6, a7, a8, a9, a10, a11, a12, a13, a14, a15, a16, b17, a18, a19, a20, a21)) : wpX_prepare post (nI R, nI C, nI (R + C), f4, f5, f6, f7, f8, f9, f10, f11, a1, a2, a3, a4, a5, a6, a7, a8, a9, a10, a11, a12, a13, a14, a15, a16, a17, a18, a19, a20, a21) := by
  have hR := hb.2.1
  have hC := hb.2.2.2
  refine br_c (fun _ => ?_) (fun h => H _ _ h)
  exact pk_loop (fun n i s => wX_prepare_10 post n (nI i) (nI R) (nI C) (nI (R + C)) f4 f5 f6 f7 f8 f9 f10 f11 a1 a2 a3 a4 a5 a6 a7 a8 a9 a10 a11 a12 a13 a14 a15 a16 s a18 a19 a20 a21) (fun _ _ => True) (R + C) 0 a17 (by omega) trivial
    (fun n s _ => pk_le (R + C) (R + C) (fun _ => H 1 s (by decide)) (fun z => absurd z (by omega)))
    (fun n i s hi _ hw => pk_le (R + C) i (fun z => absurd z (by omega)) (fun _ => cw_prepareLine hb hi (fun b17 => nm_r (nI_1 i) (hw b17 trivial))))
/-! one step of a line's machine -/
def cw_rs (a16 : Nat → Int32) (l : Nat) (set r0 : Int32) : Nat → Int32
  | 0 => r0
  | k + 1 => if (set >>> (nI k &&& 31)) &&& 1 = 1 then cw_rs a16 l set r0 k ||| a16 (l * 8 + k) else cw_rs a16 l set r0 k
def cw_st (a11 a14 a15 a16 : Nat → Int32) (l : Nat) (set v : Int32) : Int32 := cw_rs a16 l set (if set &&& 256 = 0 then 0 else a11 l) 8 &&& (if v = 0 then a14 l else a15 l)
theorem cw_stepL {post : Int32 → Prop} {f1 f2 f3 f4 f5 f6 f7 f8 f9 f10 f11 : Int32} {a1 a2 a3 a4 a5 a6 a7 a8 a9 a10 a11 a12 a13 a14 a15 a16 a17 a18 a19 a20 a21 : Nat → Int32} {l : Nat} {x v r0 : Int32} (hl : l < 7) (H : post (cw_rs a16 l x r0 8 &&& (if v = 0 then a14 l else a15 l))) : ∃ n, wX_step_22 post (nI l) x v f1 f2 f3 f4 f5 f6 f7 f8 f9 f10 f11 a1 a2 a3 a4 a5 a6 a7 a8 a9 a10 a11 a12 a13 a14 a15 a16 a17 a18 a19 a20 a21 n r0 0 := by
  have hv : vp_in (nI l) 7 := vp_in_nI hl (by omega)
  have ec : (nI l).toNatClampNeg = l := nI_clamp (by omega)
  refine pk_loop (fun n i s => wX_step_22 post (nI l) x v f1 f2 f3 f4 f5 f6 f7 f8 f9 f10 f11 a1 a2 a3 a4 a5 a6 a7 a8 a9 a10 a11 a12 a13 a14 a15 a16 a17 a18 a19 a20 a21 n s (nI i)) (fun i s => s = cw_rs a16 l x r0 i) 8 0 r0 (by omega) rfl
    (fun n s h => pk_le 8 8 (fun _ => br_c (fun h0 => ⟨hv, ?_⟩) (fun h0 => ⟨hv, ?_⟩)) (fun z => absurd z (by omega)))
    (fun n i s hi h hw => pk_le 8 i (fun z => absurd z (by omega)) (fun _ => br_c (fun h0 => ⟨pk_in (l * 8 + i) 56 (by omega) (cw_8 l i), nm_e (nm_r (nI_1 i) (hw _ ?_))⟩) (fun h0 => nm_r (nI_1 i) (hw _ ?_))))
  · rw [if_pos h0] at H
    rw [ec, h]
    exact H
  · rw [if_neg h0] at H
    rw [ec, h]
    exact H
  · show _ = (if (x >>> (nI i &&& 31)) &&& 1 = 1 then cw_rs a16 l x r0 i ||| a16 (l * 8 + i) else cw_rs a16 l x r0 i)
    rw [if_pos h0, h, cw_8, nI_clamp (by omega)]
  · show _ = (if (x >>> (nI i &&& 31)) &&& 1 = 1 then cw_rs a16 l x r0 i ||| a16 (l * 8 + i) else cw_rs a16 l x r0 i)
    rw [if_neg h0, h]
theorem cw_step {post : Int32 → Prop} {f1 f2 f3 f4 f5 f6 f7 f8 f9 f10 f11 : Int32} {a1 a2 a3 a4 a5 a6 a7 a8 a9 a10 a11 a12 a13 a14 a15 a16 a17 a18 a19 a20 a21 : Nat → Int32} {l : Nat} {x v : Int32} (hl : l < 7) (H : post (cw_st a11 a14 a15 a16 l x v)) : wpX_step post (f1, f2, f3, f4, f5, f6, f7, f8, f9, f10, f11, a1, a2, a3, a4, a5, a6, a7, a8, a9, a10, a11, a12, a13, a14, a15, a16, a17, a18, a19, a20, a21) (nI l) x v := by
  unfold cw_st at H
  refine br_c (fun h => ?_) (fun h => ⟨vp_in_nI hl (by omega), nm_r (show a11 (nI l).toNatClampNeg = a11 l by rw [nI_clamp (by omega)]) ?_⟩)
  · rw [if_pos h] at H
    exact cw_stepL hl H
  · rw [if_neg h] at H
    exact cw_stepL hl H
end
section
/-! the sets of places after each cell, and whether a letter fits -/
def cw_RS (C : Nat) (st : Nat → Int32 → Int32 → Int32) (a17 : Nat → Int32) (g : Nat → Nat) (r : Nat) : Nat → Int32
  | 0 => st r 256 (nI (g (r * C))) &&& a17 (r * 5 + 0 + 1)
  | c + 1 => st r (cw_RS C st a17 g r c) (nI (g (r * C + (c + 1)))) &&& a17 (r * 5 + (c + 1) + 1)
def cw_CS (R C : Nat) (st : Nat → Int32 → Int32 → Int32) (a17 : Nat → Int32) (g : Nat → Nat) (c : Nat) : Nat → Int32
  | 0 => st (R + c) 256 (nI (g c)) &&& a17 ((R + c) * 5 + 0 + 1)
  | r + 1 => st (R + c) (cw_CS R C st a17 g c r) (nI (g ((r + 1) * C + c))) &&& a17 ((R + c) * 5 + (r + 1) + 1)
theorem cw_RS_loc {C : Nat} {st : Nat → Int32 → Int32 → Int32} {a17 : Nat → Int32} {g h : Nat → Nat} {r : Nat} : ∀ c, (∀ i, i ≤ r * C + c → g i = h i) → cw_RS C st a17 g r c = cw_RS C st a17 h r c
  | 0, H => by
    show st r 256 (nI (g (r * C))) &&& a17 (r * 5 + 0 + 1) = st r 256 (nI (h (r * C))) &&& a17 (r * 5 + 0 + 1)
    rw [H (r * C) (by omega)]
  | c + 1, H => by
    show st r (cw_RS C st a17 g r c) (nI (g (r * C + (c + 1)))) &&& a17 (r * 5 + (c + 1) + 1) = st r (cw_RS C st a17 h r c) (nI (h (r * C + (c + 1)))) &&& a17 (r * 5 + (c + 1) + 1)
    rw [H (r * C + (c + 1)) (by omega), cw_RS_loc c (fun i hi => H i (by omega))]
theorem cw_CS_loc {R C : Nat} {st : Nat → Int32 → Int32 → Int32} {a17 : Nat → Int32} {g h : Nat → Nat} {c : Nat} : ∀ r, (∀ i, i ≤ r * C + c → g i = h i) → cw_CS R C st a17 g c r = cw_CS R C st a17 h c r
  | 0, H => by
    show st (R + c) 256 (nI (g c)) &&& a17 ((R + c) * 5 + 0 + 1) = st (R + c) 256 (nI (h c)) &&& a17 ((R + c) * 5 + 0 + 1)
    rw [H c (by omega)]
  | r + 1, H => by
    show st (R + c) (cw_CS R C st a17 g c r) (nI (g ((r + 1) * C + c))) &&& a17 ((R + c) * 5 + (r + 1) + 1) = st (R + c) (cw_CS R C st a17 h c r) (nI (h ((r + 1) * C + c))) &&& a17 ((R + c) * 5 + (r + 1) + 1)
    rw [H ((r + 1) * C + c) (by omega), cw_CS_loc r (fun i hi => H i (by rw [Nat.succ_mul]; omega))]
/-- the row's set after cell d, the column's -/
def cw_rw (C : Nat) (a11 a14 a15 a16 a17 : Nat → Int32) (g : Nat → Nat) (d : Nat) : Int32 := cw_RS C (cw_st a11 a14 a15 a16) a17 g (d / C) (d % C)
def cw_cl (R C : Nat) (a11 a14 a15 a16 a17 : Nat → Int32) (g : Nat → Nat) (d : Nat) : Int32 := cw_CS R C (cw_st a11 a14 a15 a16) a17 g (d % C) (d / C)
def cw_ok (R C : Nat) (a3 a11 a14 a15 a16 a17 : Nat → Int32) (g : Nat → Nat) (d : Nat) : Bool :=
  (decide (a3 d = 2) || decide (a3 d = nI (g d))) && (decide (¬ cw_rw C a11 a14 a15 a16 a17 g d = 0) && decide (¬ cw_cl R C a11 a14 a15 a16 a17 g d = 0))
theorem cw_dcm (C d : Nat) : d / C * C + d % C = d := by
  rw [Nat.mul_comm]
  exact Nat.div_add_mod d C
theorem cw_rw_loc {C : Nat} {a11 a14 a15 a16 a17 : Nat → Int32} {g h : Nat → Nat} {d : Nat} (H : ∀ i, i ≤ d → g i = h i) : cw_rw C a11 a14 a15 a16 a17 g d = cw_rw C a11 a14 a15 a16 a17 h d := by
  refine cw_RS_loc (d % C) (fun i hi => H i ?_)
  rw [cw_dcm] at hi
  exact hi
theorem cw_cl_loc {R C : Nat} {a11 a14 a15 a16 a17 : Nat → Int32} {g h : Nat → Nat} {d : Nat} (H : ∀ i, i ≤ d → g i = h i) : cw_cl R C a11 a14 a15 a16 a17 g d = cw_cl R C a11 a14 a15 a16 a17 h d := by
  refine cw_CS_loc (d / C) (fun i hi => H i ?_)
  rw [cw_dcm] at hi
  exact hi
theorem cw_ok_loc (R C : Nat) (a3 a11 a14 a15 a16 a17 : Nat → Int32) : cw_loc (cw_ok R C a3 a11 a14 a15 a16 a17) := by
  intro g h d H
  unfold cw_ok
  rw [cw_rw_loc H, cw_cl_loc H, H d (Nat.le_refl d)]
theorem cw_prev {C d : Nat} (h1 : 1 ≤ C) (h3 : C ≤ 3) : (∀ c, d % C = c + 1 → (d - 1) / C = d / C ∧ (d - 1) % C = c) ∧ (∀ r, d / C = r + 1 → (d - C) / C = r ∧ (d - C) % C = d % C ∧ C ≤ d) := by
  rcases (show C = 1 ∨ C = 2 ∨ C = 3 by omega) with rfl | rfl | rfl
  · exact ⟨fun c h => by omega, fun r h => by omega⟩
  · exact ⟨fun c h => by omega, fun r h => by omega⟩
  · exact ⟨fun c h => by omega, fun r h => by omega⟩
theorem cw_rw_eq {C : Nat} {a11 a14 a15 a16 a17 : Nat → Int32} {g : Nat → Nat} {d : Nat} (h1 : 1 ≤ C) (h3 : C ≤ 3) : cw_rw C a11 a14 a15 a16 a17 g d = cw_st a11 a14 a15 a16 (d / C) (if d % C = 0 then 256 else cw_rw C a11 a14 a15 a16 a17 g (d - 1)) (nI (g d)) &&& a17 (d / C * 5 + d % C + 1) := by
  have e := cw_dcm C d
  have p := (cw_prev (d := d) h1 h3).1
  unfold cw_rw
  cases hc : d % C with
  | zero =>
    rw [hc, Nat.add_zero] at e
    rw [if_pos rfl]
    show cw_st a11 a14 a15 a16 (d / C) 256 (nI (g (d / C * C))) &&& a17 (d / C * 5 + 0 + 1) = _
    rw [e]
  | succ c =>
    rw [hc] at e
    rw [if_neg (Nat.succ_ne_zero c), (p c hc).1, (p c hc).2]
    show cw_st a11 a14 a15 a16 (d / C) (cw_RS C (cw_st a11 a14 a15 a16) a17 g (d / C) c) (nI (g (d / C * C + (c + 1)))) &&& a17 (d / C * 5 + (c + 1) + 1) = _
    rw [e]
theorem cw_cl_eq {R C : Nat} {a11 a14 a15 a16 a17 : Nat → Int32} {g : Nat → Nat} {d : Nat} (h1 : 1 ≤ C) (h3 : C ≤ 3) : cw_cl R C a11 a14 a15 a16 a17 g d = cw_st a11 a14 a15 a16 (R + d % C) (if d / C = 0 then 256 else cw_cl R C a11 a14 a15 a16 a17 g (d - C)) (nI (g d)) &&& a17 ((R + d % C) * 5 + d / C + 1) := by
  have e := cw_dcm C d
  have p := (cw_prev (d := d) h1 h3).2
  unfold cw_cl
  cases hc : d / C with
  | zero =>
    rw [hc, Nat.zero_mul, Nat.zero_add] at e
    rw [if_pos rfl]
    show cw_st a11 a14 a15 a16 (R + d % C) 256 (nI (g (d % C))) &&& a17 ((R + d % C) * 5 + 0 + 1) = _
    rw [e]
  | succ r =>
    rw [hc] at e
    rw [if_neg (Nat.succ_ne_zero r), (p r hc).1, (p r hc).2.1]
    show cw_st a11 a14 a15 a16 (R + d % C) (cw_CS R C (cw_st a11 a14 a15 a16) a17 g (d % C) r) (nI (g ((r + 1) * C + d % C))) &&& a17 ((R + d % C) * 5 + (r + 1) + 1) = _
    rw [e]
/-! place: the walk -/
theorem cw_place114 {post : Int32 → St2 → Prop} {f2 f3 f4 f5 f6 f7 f8 f9 f10 f11 : Int32} {a1 a2 a3 a4 a5 a6 a7 a8 a9 a10 a11 a12 a13 a14 a15 a16 a17 a18 a19 a20 a21 : Nat → Int32} {R r c d : Nat} {v x6 x7 : Int32} (hR : R ≤ 3) (hr : r < 3) (hc : c < 3) (hd : d < 12)
    (H0 : cw_st a11 a14 a15 a16 (R + c) x7 v &&& a17 ((R + c) * 5 + r + 1) = 0 → post 0 (nI R, f2, f3, f4, f5, f6, f7, f8, f9, f10, f11, a1, a2, a3, a4, a5, a6, a7, a8, a9, a10, a11, a12, a13, a14, a15, a16, a17, a18, a19, a20, a21))
    (H1 : ¬ cw_st a11 a14 a15 a16 (R + c) x7 v &&& a17 ((R + c) * 5 + r + 1) = 0 → post 1 (nI R, f2, f3, f4, f5, f6, f7, f8, f9, f10, f11, a1, a2, a3, a4, a5, a6, a7, a8, a9, a10, a11, a12, a13, a14, a15, a16, a17, upd a18 d v, a19, upd a20 d x6, upd a21 d (cw_st a11 a14 a15 a16 (R + c) x7 v &&& a17 ((R + c) * 5 + r + 1)))) :
    wX_place_114 post (nI d) v (nI r) (nI c) x6 x7 (nI R) f2 f3 f4 f5 f6 f7 f8 f9 f10 f11 a1 a2 a3 a4 a5 a6 a7 a8 a9 a10 a11 a12 a13 a14 a15 a16 a17 a18 a19 a20 a21 := by
  have e : nI (R + c) * 5 + nI r + 1 = nI ((R + c) * 5 + r + 1) := by rw [cw_5, nI_1]
  have hv : vp_in (nI d) 12 := vp_in_nI hd (by omega)
  unfold wX_place_114
  rw [nI_add R c, e, nI_clamp (show (R + c) * 5 + r + 1 < 2 ^ 31 by omega), nI_clamp (show d < 2 ^ 31 by omega)]
  exact cw_step (by omega) (And.intro (vp_in_nI (by omega) (by omega)) (nm_e (br_c H0 (fun h => ⟨hv, nm_e ⟨hv, nm_e ⟨hv, nm_e (H1 h)⟩⟩⟩))))
theorem cw_place57 {post : Int32 → St2 → Prop} {f3 f4 f5 f6 f7 f8 f9 f10 f11 : Int32} {a1 a2 a3 a4 a5 a6 a7 a8 a9 a10 a11 a12 a13 a14 a15 a16 a17 a18 a19 a20 a21 : Nat → Int32} {R C r c d : Nat} {v x5 : Int32} (hR : R ≤ 3) (hC : C ≤ 3) (hr : r < 3) (hc : c < 3) (hd : d < 12) (hrd : ¬ r = 0 → C ≤ d)
    (H0 : cw_st a11 a14 a15 a16 r x5 v &&& a17 (r * 5 + c + 1) = 0 → post 0 (nI R, nI C, f3, f4, f5, f6, f7, f8, f9, f10, f11, a1, a2, a3, a4, a5, a6, a7, a8, a9, a10, a11, a12, a13, a14, a15, a16, a17, a18, a19, a20, a21))
    (H1 : ¬ cw_st a11 a14 a15 a16 r x5 v &&& a17 (r * 5 + c + 1) = 0 → wX_place_114 post (nI d) v (nI r) (nI c) (cw_st a11 a14 a15 a16 r x5 v &&& a17 (r * 5 + c + 1)) (if r = 0 then 256 else a21 (d - C)) (nI R) (nI C) f3 f4 f5 f6 f7 f8 f9 f10 f11 a1 a2 a3 a4 a5 a6 a7 a8 a9 a10 a11 a12 a13 a14 a15 a16 a17 a18 a19 a20 a21) :
    wX_place_57 post (nI d) v (nI r) (nI c) x5 (nI R) (nI C) f3 f4 f5 f6 f7 f8 f9 f10 f11 a1 a2 a3 a4 a5 a6 a7 a8 a9 a10 a11 a12 a13 a14 a15 a16 a17 a18 a19 a20 a21 := by
  have e : nI r * 5 + nI c + 1 = nI (r * 5 + c + 1) := by rw [cw_5, nI_1]
  unfold wX_place_57
  rw [e, nI_clamp (show r * 5 + c + 1 < 2 ^ 31 by omega)]
  refine cw_step (by omega) (And.intro (vp_in_nI (by omega) (by omega)) (nm_e (br_c H0 (fun h => ?_))))
  have K := H1 h
  refine pk_le r 0 (fun z => ?_) (fun z => ?_)
  · rw [if_pos (by omega)] at K
    exact K
  · rw [if_neg (by omega)] at K
    have hCd := hrd (by omega)
    refine ⟨pk_in (d - C) 12 (by omega) (pk_sub hCd), nm_r ?_ K⟩
    rw [pk_sub hCd, nI_clamp (by omega)]
theorem cw_place22 {post : Int32 → St2 → Prop} {f3 f4 f5 f6 f7 f8 f9 f10 f11 : Int32} {a1 a2 a3 a4 a5 a6 a7 a8 a9 a10 a11 a12 a13 a14 a15 a16 a17 a18 a19 a20 a21 : Nat → Int32} {R C d : Nat} {v : Int32} (hb : 1 ≤ R ∧ R ≤ 3 ∧ 1 ≤ C ∧ C ≤ 3) (h12 : ∀ i, i < R * C → a1 i = nI (i / C) ∧ a2 i = nI (i % C)) (hd : d < R * C)
    (H : wX_place_57 post (nI d) v (nI (d / C)) (nI (d % C)) (if d % C = 0 then 256 else a20 (d - 1)) (nI R) (nI C) f3 f4 f5 f6 f7 f8 f9 f10 f11 a1 a2 a3 a4 a5 a6 a7 a8 a9 a10 a11 a12 a13 a14 a15 a16 a17 a18 a19 a20 a21) : wX_place_22 post (nI d) v (nI R) (nI C) f3 f4 f5 f6 f7 f8 f9 f10 f11 a1 a2 a3 a4 a5 a6 a7 a8 a9 a10 a11 a12 a13 a14 a15 a16 a17 a18 a19 a20 a21 := by
  have h9 := cw_nine hb.2.1 hb.2.2.2
  have hm : d % C < C := Nat.mod_lt d (by omega)
  have hC := hb.2.2.2
  have hv : vp_in (nI d) 12 := vp_in_nI (by omega) (by omega)
  have hle : d % C ≤ d := Nat.mod_le d C
  refine And.intro hv (nm_r (show a1 (nI d).toNatClampNeg = nI (d / C) by rw [nI_clamp (by omega)]; exact (h12 d hd).1) ⟨hv, nm_r (show a2 (nI d).toNatClampNeg = nI (d % C) by rw [nI_clamp (by omega)]; exact (h12 d hd).2) (pk_le (d % C) 0 (fun z => ?_) (fun z => ?_))⟩)
  · rw [if_pos (by omega)] at H
    exact H
  · rw [if_neg (by omega)] at H
    refine ⟨pk_in (d - 1) 12 (by omega) (pk_sub (a := d) (b := 1) (by omega)), nm_r ?_ H⟩
    rw [show nI d - 1 = nI (d - 1) from pk_sub (a := d) (b := 1) (by omega), nI_clamp (by omega)]
theorem cw_place {post : Int32 → St2 → Prop} {f3 f4 f5 f6 f7 f8 f9 f10 f11 : Int32} {a1 a2 a3 a4 a5 a6 a7 a8 a9 a10 a11 a12 a13 a14 a15 a16 a17 a18 a19 a20 a21 : Nat → Int32} {R C d t : Nat} {g : Nat → Nat} (hb : 1 ≤ R ∧ R ≤ 3 ∧ 1 ≤ C ∧ C ≤ 3) (h12 : ∀ i, i < R * C → a1 i = nI (i / C) ∧ a2 i = nI (i % C)) (hd : d < R * C)
    (hpre : ∀ i, i < d → a20 i = cw_rw C a11 a14 a15 a16 a17 g i ∧ a21 i = cw_cl R C a11 a14 a15 a16 a17 g i)
    (H0 : cw_ok R C a3 a11 a14 a15 a16 a17 (cw_set g d t) d = false → post 0 (nI R, nI C, f3, f4, f5, f6, f7, f8, f9, f10, f11, a1, a2, a3, a4, a5, a6, a7, a8, a9, a10, a11, a12, a13, a14, a15, a16, a17, a18, a19, a20, a21))
    (H1 : cw_ok R C a3 a11 a14 a15 a16 a17 (cw_set g d t) d = true → post 1 (nI R, nI C, f3, f4, f5, f6, f7, f8, f9, f10, f11, a1, a2, a3, a4, a5, a6, a7, a8, a9, a10, a11, a12, a13, a14, a15, a16, a17, upd a18 d (nI t), a19, upd a20 d (cw_rw C a11 a14 a15 a16 a17 (cw_set g d t) d), upd a21 d (cw_cl R C a11 a14 a15 a16 a17 (cw_set g d t) d))) :
    wpX_place post (nI R, nI C, f3, f4, f5, f6, f7, f8, f9, f10, f11, a1, a2, a3, a4, a5, a6, a7, a8, a9, a10, a11, a12, a13, a14, a15, a16, a17, a18, a19, a20, a21) (nI d) (nI t) := by
  have h9 := cw_nine hb.2.1 hb.2.2.2
  obtain ⟨hR1, hR, hC1, hC⟩ := hb
  have hv : vp_in (nI d) 12 := vp_in_nI (by omega) (by omega)
  have ec : (nI d).toNatClampNeg = d := nI_clamp (by omega)
  have hm : d % C < C := Nat.mod_lt d (by omega)
  have hq : d / C < R := (Nat.div_lt_iff_lt_mul (by omega)).mpr hd
  have hmle : d % C ≤ d := Nat.mod_le d C
  have hrd : ¬ d / C = 0 → C ≤ d := by
    intro h
    obtain ⟨r, hr⟩ : ∃ r, d / C = r + 1 := Nat.exists_eq_add_one_of_ne_zero h
    exact ((cw_prev hC1 hC).2 r hr).2.2
  have loc : ∀ j, j < d → ∀ i, i ≤ j → cw_set g d t i = g i := fun j hj i hi => cw_set_n (by omega)
  have e1 : cw_st a11 a14 a15 a16 (d / C) (if d % C = 0 then 256 else a20 (d - 1)) (nI t) &&& a17 (d / C * 5 + d % C + 1) = cw_rw C a11 a14 a15 a16 a17 (cw_set g d t) d := by
    rw [cw_rw_eq hC1 hC, cw_set_s]
    by_cases hz : d % C = 0
    · rw [if_pos hz, if_pos hz]
    · rw [if_neg hz, if_neg hz, cw_rw_loc (loc (d - 1) (by omega)), (hpre (d - 1) (by omega)).1]
  have e2 : cw_st a11 a14 a15 a16 (R + d % C) (if d / C = 0 then 256 else a21 (d - C)) (nI t) &&& a17 ((R + d % C) * 5 + d / C + 1) = cw_cl R C a11 a14 a15 a16 a17 (cw_set g d t) d := by
    rw [cw_cl_eq hC1 hC, cw_set_s]
    by_cases hz : d / C = 0
    · rw [if_pos hz, if_pos hz]
    · have hCd := hrd hz
      rw [if_neg hz, if_neg hz, cw_cl_loc (loc (d - C) (by omega)), (hpre (d - C) (by omega)).2]
  have hok : cw_ok R C a3 a11 a14 a15 a16 a17 (cw_set g d t) d = true ↔ (a3 d = 2 ∨ a3 d = nI t) ∧ ¬ cw_rw C a11 a14 a15 a16 a17 (cw_set g d t) d = 0 ∧ ¬ cw_cl R C a11 a14 a15 a16 a17 (cw_set g d t) d = 0 := by
    unfold cw_ok
    rw [Bool.and_eq_true, Bool.and_eq_true, Bool.or_eq_true, decide_eq_true_eq, decide_eq_true_eq, decide_eq_true_eq, decide_eq_true_eq, cw_set_s]
  have hno : ¬ ((a3 d = 2 ∨ a3 d = nI t) ∧ ¬ cw_rw C a11 a14 a15 a16 a17 (cw_set g d t) d = 0 ∧ ¬ cw_cl R C a11 a14 a15 a16 a17 (cw_set g d t) d = 0) → post 0 (nI R, nI C, f3, f4, f5, f6, f7, f8, f9, f10, f11, a1, a2, a3, a4, a5, a6, a7, a8, a9, a10, a11, a12, a13, a14, a15, a16, a17, a18, a19, a20, a21) := by
    intro h
    refine H0 ?_
    cases hk : cw_ok R C a3 a11 a14 a15 a16 a17 (cw_set g d t) d with
    | false => rfl
    | true => exact absurd (hok.mp hk) h
  have main : (a3 d = 2 ∨ a3 d = nI t) → wX_place_22 post (nI d) (nI t) (nI R) (nI C) f3 f4 f5 f6 f7 f8 f9 f10 f11 a1 a2 a3 a4 a5 a6 a7 a8 a9 a10 a11 a12 a13 a14 a15 a16 a17 a18 a19 a20 a21 := by
    intro hp
    refine cw_place22 ⟨hR1, hR, hC1, hC⟩ h12 hd (cw_place57 hR hC (by omega) (by omega) (by omega) hrd ?_ ?_)
    · rw [e1]
      exact fun h => hno (fun k => k.2.1 h)
    · rw [e1]
      intro h
      refine cw_place114 hR (by omega) (by omega) (by omega) ?_ ?_
      · rw [e2]
        exact fun h' => hno (fun k => k.2.2 h')
      · rw [e2]
        exact fun h' => H1 (hok.mpr ⟨hp, h, h'⟩)
  refine And.intro hv (br_c (fun h => main (Or.inl ?_)) (fun h => ⟨hv, br_c (fun h' => main (Or.inr ?_)) (fun h' => hno (fun k => ?_))⟩))
  · rw [ec] at h
    exact h
  · rw [ec] at h'
    exact h'
  · rw [ec] at h h'
    exact k.1.elim h h'
end
section
/-! enter, scan -/
theorem cw_enter {post : Int32 → St2 → Prop} {f1 f2 f3 f5 f6 f7 f8 f9 f10 f11 : Int32} {a1 a2 a3 a4 a5 a6 a7 a8 a9 a10 a11 a12 a13 a14 a15 a16 a17 a18 a19 a20 a21 : Nat → Int32} {N bound : Nat} {g : Nat → Nat} {x1 : Int32} (hN : N ≤ 9) (hg : ∀ i, i < N → g i < 2 ∧ a18 i = nI (g i)) (hb : bound < 2 ^ 31)
    (H0 : bound ≤ cw_val g N → post 1 (f1, f2, f3, nI N, f5, f6, f7, f8, f9, f10, f11, a1, a2, a3, a4, a5, a6, a7, a8, a9, a10, a11, a12, a13, a14, a15, a16, a17, a18, a19, a20, a21))
    (H1 : cw_val g N < bound → f8 + 1 = x1 → post 1 (f1, f2, f3, nI N, f5, f6, f7, f8 + 1, nI (cw_val g N), f10 &&& nI (cw_val g N), f11 ||| nI (cw_val g N), a1, a2, a3, a4, a5, a6, a7, a8, a9, a10, a11, a12, a13, a14, a15, a16, a17, a18, a19, a20, a21))
    (H2 : cw_val g N < bound → ¬ f8 + 1 = x1 → post 0 (f1, f2, f3, nI N, f5, f6, f7, f8 + 1, nI (cw_val g N), f10 &&& nI (cw_val g N), f11 ||| nI (cw_val g N), a1, a2, a3, a4, a5, a6, a7, a8, a9, a10, a11, a12, a13, a14, a15, a16, a17, a18, a19, a20, a21)) :
    wpX_enter post (f1, f2, f3, nI N, f5, f6, f7, f8, f9, f10, f11, a1, a2, a3, a4, a5, a6, a7, a8, a9, a10, a11, a12, a13, a14, a15, a16, a17, a18, a19, a20, a21) x1 (nI bound) := by
  have h1 := cw_val_lt N (fun i hi => (hg i hi).1)
  have h2 := cw_pow9 hN
  refine pk_loop (fun n i s => wX_enter_5 post x1 (nI bound) f1 f2 f3 (nI N) f5 f6 f7 f8 f9 f10 f11 a1 a2 a3 a4 a5 a6 a7 a8 a9 a10 a11 a12 a13 a14 a15 a16 a17 a18 a19 a20 a21 n s (nI i)) (fun i s => s = nI (cw_val g i)) N 0 0 (by omega) rfl
    (fun n s h => pk_le N N (fun _ => ?_) (fun z => absurd z (by omega)))
    (fun n i s hi h hw => pk_le N i (fun z => absurd z (by omega)) (fun _ => ⟨pk_in i 12 (by omega), nm_r ?_ (nm_r (nI_1 i) (hw _ rfl))⟩))
  · subst h
    exact pk_lt (cw_val g N) bound (fun z => nm_e (nm_e (nm_e (br_c (H1 z) (H2 z))))) (fun z => H0 z)
  · rw [h, nI_clamp (by omega), (hg i hi).2, show (2 : Int32) = nI 2 from rfl, pk_mul, nI_add]
    rfl
/-- the letters that stand: their arrays, and all fit -/
def cw_pre (R C : Nat) (a3 a11 a14 a15 a16 a17 : Nat → Int32) (g : Nat → Nat) (d : Nat) (b18 b19 b20 b21 : Nat → Int32) : Prop :=
  ∀ i, i < d → g i < 2 ∧ b18 i = nI (g i) ∧ b19 i = nI (g i + 1) ∧ b20 i = cw_rw C a11 a14 a15 a16 a17 g i ∧ b21 i = cw_cl R C a11 a14 a15 a16 a17 g i ∧ cw_ok R C a3 a11 a14 a15 a16 a17 g i = true
theorem cw_pre_19 {R C : Nat} {a3 a11 a14 a15 a16 a17 : Nat → Int32} {g : Nat → Nat} {d : Nat} {b18 b19 b20 b21 : Nat → Int32} {x : Int32} (h : cw_pre R C a3 a11 a14 a15 a16 a17 g d b18 b19 b20 b21) : cw_pre R C a3 a11 a14 a15 a16 a17 g d b18 (upd b19 d x) b20 b21 := by
  intro i hi
  rw [pk_un (show i ≠ d by omega)]
  exact h i hi
theorem cw_pre_set {R C : Nat} {a3 a11 a14 a15 a16 a17 : Nat → Int32} {g : Nat → Nat} {d t : Nat} {b18 b19 b20 b21 : Nat → Int32} (ht : t < 2) (hok : cw_ok R C a3 a11 a14 a15 a16 a17 (cw_set g d t) d = true) (h : cw_pre R C a3 a11 a14 a15 a16 a17 g d b18 b19 b20 b21) :
    cw_pre R C a3 a11 a14 a15 a16 a17 (cw_set g d t) (d + 1) (upd b18 d (nI t)) (upd b19 d (nI (t + 1))) (upd b20 d (cw_rw C a11 a14 a15 a16 a17 (cw_set g d t) d)) (upd b21 d (cw_cl R C a11 a14 a15 a16 a17 (cw_set g d t) d)) := by
  intro i hi
  by_cases e : i = d
  · rw [e, pk_us, pk_us, pk_us, pk_us, cw_set_s]
    exact ⟨ht, rfl, rfl, rfl, rfl, hok⟩
  · have loc : ∀ j, j ≤ i → cw_set g d t j = g j := fun j hj => cw_set_n (by omega)
    rw [pk_un e, pk_un e, pk_un e, pk_un e, cw_rw_loc loc, cw_cl_loc loc, cw_ok_loc R C a3 a11 a14 a15 a16 a17 _ _ i loc, cw_set_n e]
    exact h i (by omega)
/-- the good numbers of a state -/
def cw_G (R C : Nat) (a3 a11 a14 a15 a16 a17 : Nat → Int32) : Nat → Bool := cw_P (cw_ok R C a3 a11 a14 a15 a16 a17) (R * C)
/-- the scan's loop -/
def cw_J (R C : Nat) (a3 a11 a14 a15 a16 a17 : Nat → Int32) (stop bound : Nat) (d ov k fd nm al an : Int32) (b18 b19 b20 b21 : Nat → Int32) : Prop :=
  ∃ x kk : Nat, k = nI kk ∧ kk ≤ 20000 ∧ cw_Q (cw_G R C a3 a11 a14 a15 a16 a17) x fd nm al an ∧
    (((d < 0 ∨ ¬ ov = 0) ∧ cw_End (cw_G R C a3 a11 a14 a15 a16 a17) (R * C) stop bound x) ∨
     (ov = 0 ∧ (∀ j, j < x → cw_G R C a3 a11 a14 a15 a16 a17 j = true → j < bound) ∧ cw_cnt (cw_G R C a3 a11 a14 a15 a16 a17) x < stop ∧
      ∃ (dn t : Nat) (g : Nat → Nat), d = nI dn ∧ dn < R * C ∧ t ≤ 2 ∧ b19 dn = nI t ∧ cw_pre R C a3 a11 a14 a15 a16 a17 g dn b18 b19 b20 b21 ∧ x = cw_pos (R * C) g dn t ∧ kk + cw_mu (R * C) x dn t ≤ 20000))
theorem cw_scan_out {post : St2 → Prop} {f1 f2 f3 f4 f5 f6 f7 f8 f9 f10 f11 : Int32} {a1 a2 a3 a4 a5 a6 a7 a8 a9 a10 a11 a12 a13 a14 a15 a16 a17 a18 a19 a20 a21 : Nat → Int32} {x1 x2 d ov k : Int32} {n : Nat} (h : d < 0 ∨ ¬ ov = 0) (H : post (f1, f2, f3, f4, f5, f6, f7, f8, f9, f10, f11, a1, a2, a3, a4, a5, a6, a7, a8, a9, a10, a11, a12, a13, a14, a15, a16, a17, a18, a19, a20, a21)) : wX_scan_49 post x1 x2 (n + 1) d ov k f1 f2 f3 f4 f5 f6 f7 f8 f9 f10 f11 a1 a2 a3 a4 a5 a6 a7 a8 a9 a10 a11 a12 a13 a14 a15 a16 a17 a18 a19 a20 a21 :=
  br_c (fun _ => H) (fun _ => br_c (fun _ => H) (fun h1 => br_f (h.resolve_left h1) H))
theorem cw_scan_run {post : St2 → Prop} {f3 f5 f6 f7 f8 f9 f10 f11 : Int32} {a1 a2 a3 a4 a5 a6 a7 a8 a9 a10 a11 a12 a13 a14 a15 a16 a17 a18 a19 a20 a21 : Nat → Int32} {R C stop bound n x kk dn t : Nat} {g : Nat → Nat} (hb : 1 ≤ R ∧ R ≤ 3 ∧ 1 ≤ C ∧ C ≤ 3) (h12 : ∀ i, i < R * C → a1 i = nI (i / C) ∧ a2 i = nI (i % C)) (hs : stop < 2 ^ 31) (hbd : bound < 2 ^ 31)
    (hkk : kk ≤ 20000) (hQ : cw_Q (cw_G R C a3 a11 a14 a15 a16 a17) x f8 f9 f10 f11) (hB : ∀ j, j < x → cw_G R C a3 a11 a14 a15 a16 a17 j = true → j < bound) (hc : cw_cnt (cw_G R C a3 a11 a14 a15 a16 a17) x < stop)
    (hd : dn < R * C) (ht : t ≤ 2) (h19 : a19 dn = nI t) (hp : cw_pre R C a3 a11 a14 a15 a16 a17 g dn a18 a19 a20 a21) (hx : x = cw_pos (R * C) g dn t) (hm : kk + cw_mu (R * C) x dn t ≤ 20000)
    (hw : ∀ (d ov k fd nm al an : Int32) (b18 b19 b20 b21 : Nat → Int32), cw_J R C a3 a11 a14 a15 a16 a17 stop bound d ov k fd nm al an b18 b19 b20 b21 → 20001 - k.toNatClampNeg < 20001 - (nI kk).toNatClampNeg → wX_scan_49 post (nI stop) (nI bound) n d ov k (nI R) (nI C) f3 (nI (R * C)) f5 f6 f7 fd nm al an a1 a2 a3 a4 a5 a6 a7 a8 a9 a10 a11 a12 a13 a14 a15 a16 a17 b18 b19 b20 b21) :
    wX_scan_49 post (nI stop) (nI bound) (n + 1) (nI dn) 0 (nI kk) (nI R) (nI C) f3 (nI (R * C)) f5 f6 f7 f8 f9 f10 f11 a1 a2 a3 a4 a5 a6 a7 a8 a9 a10 a11 a12 a13 a14 a15 a16 a17 a18 a19 a20 a21 := by
  have h9 := cw_nine hb.2.1 hb.2.2.2
  have hR1 := hb.1
  have hC1 := hb.2.2.1
  have hpos := cw_mu_pos (x := x) (t := t) hd
  have h512 := cw_pow9 h9
  have hmu : 20001 - (nI (kk + 1)).toNatClampNeg < 20001 - (nI kk).toNatClampNeg := by
    rw [nI_clamp (by omega), nI_clamp (by omega)]
    omega
  have ec : (nI dn).toNatClampNeg = dn := nI_clamp (by omega)
  have hv : vp_in (nI dn) 12 := vp_in_nI (by omega) (by omega)
  have hg2 : ∀ i, i < dn → g i < 2 := fun i hi => (hp i hi).1
  have loc := cw_ok_loc R C a3 a11 a14 a15 a16 a17
  refine pk_le 20000 kk (fun z => absurd z (by omega)) (fun _ => br_f (nI_pos (by omega)) (br_t rfl ⟨hv, nm_r (show a19 (nI dn).toNatClampNeg = nI t by rw [ec]; exact h19) (pk_eq t 2 (fun z => ?_) (fun z => ?_))⟩))
  · subst z
    cases dn with
    | zero =>
      have hN : 0 < R * C := hd
      rw [cw_pos_end g hN] at hx
      exact nm_e (nm_r (nI_1 kk) (hw _ _ _ _ _ _ _ _ _ _ _ ⟨x, kk + 1, rfl, by omega, hQ, Or.inl ⟨Or.inl (by decide), hB, Or.inl ⟨hx, hc⟩⟩⟩ hmu))
    | succ e =>
      have hge := hg2 e (by omega)
      rw [cw_pos_pop hd] at hx
      have hmm := cw_mu_pop (N := R * C) (x := x) (e := e) (t := g e + 1) (by omega)
      exact nm_r (pk_m1 e) (nm_r (nI_1 kk) (hw _ _ _ _ _ _ _ _ _ _ _ ⟨x, kk + 1, rfl, by omega, hQ, Or.inr ⟨rfl, hB, hc, e, g e + 1, g, rfl, by omega, by omega, (hp e (by omega)).2.2.1, fun i hi => hp i (by omega), hx, by omega⟩⟩ hmu))
  · have ht2 : t < 2 := by omega
    have hpos2 := cw_two_pos (R * C - 1 - dn)
    have hnx := cw_pos_next (R * C) g dn t
    have hle := cw_pos_le (N := R * C) (t := t + 1) hg2 hd (by omega)
    refine ⟨hv, nm_r (show upd a19 (nI dn).toNatClampNeg (nI t + 1) = upd a19 dn (nI (t + 1)) by rw [ec, nI_1]) ?_⟩
    refine cw_place hb h12 hd (fun i hi => ⟨(hp i hi).2.2.2.1, (hp i hi).2.2.2.2.1⟩) (fun hf => ?_) (fun hok => ?_)
    · -- the letter doesn't fit
      have hno := cw_fail loc hg2 ht2 hd hf
      rw [← hx] at hno
      have hcn : cw_cnt (cw_G R C a3 a11 a14 a15 a16 a17) (cw_pos (R * C) g dn (t + 1)) = cw_cnt (cw_G R C a3 a11 a14 a15 a16 a17) x := cw_skip (by omega) hno
      have hmm := cw_mu_adv (N := R * C) (x := x) (x' := cw_pos (R * C) g dn (t + 1)) (d := dn) (t := t) (t' := t + 1) (by omega) hle hd
      refine br_t rfl (br_t rfl (nm_r (nI_1 kk) (hw _ _ _ _ _ _ _ _ _ _ _ ⟨cw_pos (R * C) g dn (t + 1), kk + 1, rfl, by omega, cw_Q_eq hcn hQ, Or.inr ⟨rfl, fun j hj hG => ?_, by omega, dn, t + 1, g, rfl, hd, by omega, pk_us, cw_pre_19 hp, rfl, by omega⟩⟩ hmu)))
      rcases Nat.lt_or_ge j x with h | h
      · exact hB j h hG
      · have h0 : cw_G R C a3 a11 a14 a15 a16 a17 j = false := hno j h hj
        rw [h0] at hG
        exact absurd hG Bool.false_ne_true
    · -- the letter fits
      have hp' := cw_pre_set ht2 hok hp
      refine br_f (show ¬ (1 : Int32) = 0 by decide) (pk_eq dn (R * C - 1) (fun zl => ?_) (fun zl => ?_) rfl (pk_sub (a := R * C) (b := 1) (by omega)))
      · -- the last cell
        have hdn : dn + 1 = R * C := by omega
        have hval : cw_val (cw_set g dn t) (R * C) = x := by
          rw [← hdn, cw_val_set, hx, zl, cw_pos_last]
        have hG : cw_G R C a3 a11 a14 a15 a16 a17 x = true := by
          rw [← hval]
          exact cw_hit loc (fun i hi => (hp' i (by omega)).1) (fun i hi => (hp' i (by omega)).2.2.2.2.2)
        have hx1 : cw_pos (R * C) g dn (t + 1) = x + 1 := by
          rw [hnx, hx, zl, Nat.sub_self, Nat.pow_zero]
        rw [hx1] at hle
        have hQ' := cw_Q_hit hG hQ
        have hct := cw_cnt_t hG
        have hcl := cw_cnt_le (cw_G R C a3 a11 a14 a15 a16 a17) x
        have hB' : x < bound → ∀ j, j < x + 1 → cw_G R C a3 a11 a14 a15 a16 a17 j = true → j < bound := by
          intro hxb j hj hGj
          rcases Nat.lt_or_ge j x with h | h
          · exact hB j h hGj
          · omega
        refine cw_enter (g := cw_set g dn t) h9 (fun i hi => ⟨(hp' i (by omega)).1, (hp' i (by omega)).2.1⟩) hbd ?_ ?_ ?_
        · rw [hval]
          intro hge
          exact nm_r (nI_1 kk) (hw _ _ _ _ _ _ _ _ _ _ _ ⟨x, kk + 1, rfl, by omega, hQ, Or.inl ⟨Or.inr (by decide), hB, Or.inr (Or.inr ⟨by omega, hG, hge, hc⟩)⟩⟩ hmu)
        · rw [hval]
          intro hlt heq
          have hst : cw_cnt (cw_G R C a3 a11 a14 a15 a16 a17) (x + 1) = stop := by
            rw [hQ.1, nI_1, nI_eq (by omega) hs] at heq
            omega
          exact nm_r (nI_1 kk) (hw _ _ _ _ _ _ _ _ _ _ _ ⟨x + 1, kk + 1, rfl, by omega, hQ', Or.inl ⟨Or.inr (by decide), hB' hlt, Or.inr (Or.inl ⟨hst, x, by omega, rfl, hG⟩)⟩⟩ hmu)
        · rw [hval]
          intro hlt hne
          have hst : cw_cnt (cw_G R C a3 a11 a14 a15 a16 a17) (x + 1) < stop := by
            rw [hQ.1, nI_1, nI_eq (by omega) hs] at hne
            omega
          have hmm := cw_mu_adv (N := R * C) (x := x) (x' := x + 1) (d := dn) (t := t) (t' := t + 1) (by omega) hle hd
          refine nm_r (nI_1 kk) (hw _ _ _ _ _ _ _ _ _ _ _ ⟨x + 1, kk + 1, rfl, by omega, hQ', Or.inr ⟨rfl, hB' hlt, hst, dn, t + 1, cw_set g dn t, rfl, hd, by omega, pk_us, fun i hi => hp' i (by omega), ?_, by omega⟩⟩ hmu)
          rw [← hx1]
          unfold cw_pos
          rw [cw_val_congr (g := cw_set g dn t) (h := g) dn (fun i hi => cw_set_n (by omega))]
      · -- on to the next cell
        have hd' : dn + 1 < R * C := by omega
        have hmm := cw_mu_push (N := R * C) (x := x) ht2 hd'
        refine br_f (show ¬ (1 : Int32) = 0 by decide) (nm_r (nI_1 dn) ⟨pk_in (dn + 1) 12 (by omega), nm_r (show upd _ (nI (dn + 1)).toNatClampNeg 0 = upd _ (dn + 1) (nI 0) by rw [nI_clamp (by omega)]; rfl) (nm_r (nI_1 kk) (hw _ _ _ _ _ _ _ _ _ _ _ ⟨x, kk + 1, rfl, by omega, hQ, Or.inr ⟨rfl, hB, hc, dn + 1, 0, cw_set g dn t, rfl, hd', by omega, pk_us, cw_pre_19 hp', ?_, by omega⟩⟩ hmu))⟩)
        rw [cw_pos_push hd']
        exact hx
/-- the scan from its start -/
theorem cw_scan_core {post : St2 → Prop} {f3 f5 f6 f7 : Int32} {a1 a2 a3 a4 a5 a6 a7 a8 a9 a10 a11 a12 a13 a14 a15 a16 a17 a18 a19 a20 a21 : Nat → Int32} {R C stop bound : Nat} (hb : 1 ≤ R ∧ R ≤ 3 ∧ 1 ≤ C ∧ C ≤ 3) (h12 : ∀ i, i < R * C → a1 i = nI (i / C) ∧ a2 i = nI (i % C)) (hs0 : 0 < stop) (hs : stop < 2 ^ 31) (hbd : bound < 2 ^ 31) (h19 : a19 0 = 0)
    (H : ∀ (x : Nat) (fd nm al an : Int32) (b18 b19 b20 b21 : Nat → Int32), cw_Q (cw_G R C a3 a11 a14 a15 a16 a17) x fd nm al an → cw_End (cw_G R C a3 a11 a14 a15 a16 a17) (R * C) stop bound x → post (nI R, nI C, f3, nI (R * C), f5, f6, f7, fd, nm, al, an, a1, a2, a3, a4, a5, a6, a7, a8, a9, a10, a11, a12, a13, a14, a15, a16, a17, b18, b19, b20, b21)) :
    ∃ n, wX_scan_49 post (nI stop) (nI bound) n 0 0 0 (nI R) (nI C) f3 (nI (R * C)) f5 f6 f7 0 (-1) 4095 0 a1 a2 a3 a4 a5 a6 a7 a8 a9 a10 a11 a12 a13 a14 a15 a16 a17 a18 a19 a20 a21 := by
  have h9 := cw_nine hb.2.1 hb.2.2.2
  have hN : 0 < R * C := Nat.mul_pos hb.1 hb.2.2.1
  refine lp11 (fun n d ov k fd nm al an b18 b19 b20 b21 => wX_scan_49 post (nI stop) (nI bound) n d ov k (nI R) (nI C) f3 (nI (R * C)) f5 f6 f7 fd nm al an a1 a2 a3 a4 a5 a6 a7 a8 a9 a10 a11 a12 a13 a14 a15 a16 a17 b18 b19 b20 b21)
    (cw_J R C a3 a11 a14 a15 a16 a17 stop bound) (fun _ _ k _ _ _ _ _ _ _ _ => 20001 - k.toNatClampNeg) (fun n d ov k fd nm al an b18 b19 b20 b21 hJ hw => ?_) 0 0 0 0 (-1) 4095 0 a18 a19 a20 a21 ?_
  · obtain ⟨x, kk, rfl, hkk, hQ, ⟨ho, hE⟩ | ⟨rfl, hB, hc, dn, t, g, rfl, hd, ht, e19, hp, hx, hm⟩⟩ := hJ
    · exact cw_scan_out ho (H x _ _ _ _ _ _ _ _ hQ hE)
    · exact cw_scan_run hb h12 hs hbd hkk hQ hB hc hd ht e19 hp hx hm hw
  · have h0 : cw_pos (R * C) (fun _ => 0) 0 0 = 0 := by
      show 0 * 2 ^ (R * C - 1 - 0) = 0
      exact Nat.zero_mul _
    exact ⟨0, 0, rfl, by omega, cw_Q_0 _, Or.inr ⟨rfl, fun j hj => absurd hj (Nat.not_lt_zero j), hs0, 0, 0, fun _ => 0, rfl, hN, by omega, h19, fun i hi => absurd hi (Nat.not_lt_zero i), h0.symm, by have := cw_mu_0 h9; omega⟩⟩
end
section
/-! the questions -/
theorem cw_scan {post : St2 → Prop} {f1 f2 f3 f4 f5 f6 f7 f8 f9 f10 f11 : Int32} {a1 a2 a3 a4 a5 a6 a7 a8 a9 a10 a11 a12 a13 a14 a15 a16 a17 a18 a19 a20 a21 : Nat → Int32} {R C stop bound : Nat} {p0 p1 : Int32} (hX : cw_X R C f1 f2 f3 f4 a1 a2) (hs0 : 0 < stop) (hs : stop < 2 ^ 31) (hbd : bound < 2 ^ 31) (e0 : p0 = nI stop) (e1 : p1 = nI bound)
    (H : ∀ (r7 : Int32) (b17 : Nat → Int32), ¬ r7 = 0 → ∀ (x : Nat) (fd nm al an : Int32) (b18 b19 b20 b21 : Nat → Int32), cw_Q (cw_G R C a3 a11 a14 a15 a16 b17) x fd nm al an → cw_End (cw_G R C a3 a11 a14 a15 a16 b17) (R * C) stop bound x → post (f1, f2, f3, f4, f5, f6, r7, fd, nm, al, an, a1, a2, a3, a4, a5, a6, a7, a8, a9, a10, a11, a12, a13, a14, a15, a16, b17, b18, b19, b20, b21)) :
    wpX_scan post (f1, f2, f3, f4, f5, f6, f7, f8, f9, f10, f11, a1, a2, a3, a4, a5, a6, a7, a8, a9, a10, a11, a12, a13, a14, a15, a16, a17, a18, a19, a20, a21) p0 p1 := by
  subst e0 e1
  obtain ⟨hb, rfl, rfl, rfl, rfl, h12⟩ := hX
  unfold wpX_scan
  dsimp only
  refine cw_prepare hb (fun r7 b17 hr => ?_)
  exact nm_e (pk_lt 0 stop (fun _ => cw_scan_core hb h12 hs0 hs hbd pk_us (H r7 b17 hr)) (fun z => absurd z (by omega)))
theorem cw_scan_r {post : St2 → Prop} {f1 f2 f3 f4 f5 f6 f7 f8 f9 f10 f11 : Int32} {a1 a2 a3 a4 a5 a6 a7 a8 a9 a10 a11 a12 a13 a14 a15 a16 a17 a18 a19 a20 a21 : Nat → Int32} {R C stop bound : Nat} {p0 p1 : Int32} (hX : cw_X R C f1 f2 f3 f4 a1 a2) (hr : ¬ f7 = 0) (hs0 : 0 < stop) (hs : stop < 2 ^ 31) (hbd : bound < 2 ^ 31) (e0 : p0 = nI stop) (e1 : p1 = nI bound)
    (H : ∀ (x : Nat) (fd nm al an : Int32) (b18 b19 b20 b21 : Nat → Int32), cw_Q (cw_G R C a3 a11 a14 a15 a16 a17) x fd nm al an → cw_End (cw_G R C a3 a11 a14 a15 a16 a17) (R * C) stop bound x → post (f1, f2, f3, f4, f5, f6, f7, fd, nm, al, an, a1, a2, a3, a4, a5, a6, a7, a8, a9, a10, a11, a12, a13, a14, a15, a16, a17, b18, b19, b20, b21)) :
    wpX_scan post (f1, f2, f3, f4, f5, f6, f7, f8, f9, f10, f11, a1, a2, a3, a4, a5, a6, a7, a8, a9, a10, a11, a12, a13, a14, a15, a16, a17, a18, a19, a20, a21) p0 p1 := by
  subst e0 e1
  obtain ⟨hb, rfl, rfl, rfl, rfl, h12⟩ := hX
  unfold wpX_scan
  dsimp only
  refine br_f hr ?_
  exact nm_e (pk_lt 0 stop (fun _ => cw_scan_core hb h12 hs0 hs hbd pk_us H) (fun z => absurd z (by omega)))
theorem cw_End_full {P : Nat → Bool} {N x : Nat} (hN : N ≤ 9) (h : cw_End P N 4096 4096 x) : x = 2 ^ N := by
  have h9 := cw_pow9 hN
  obtain ⟨_, h | ⟨h, m, hm, rfl, _⟩ | ⟨h, _, hb, _⟩⟩ := h
  · exact h.1
  · have := cw_cnt_le P (m + 1)
    omega
  · omega
theorem cw_fillings {post : Int32 → St2 → Prop} {f1 f2 f3 f4 f5 f6 f7 f8 f9 f10 f11 : Int32} {a1 a2 a3 a4 a5 a6 a7 a8 a9 a10 a11 a12 a13 a14 a15 a16 a17 a18 a19 a20 a21 : Nat → Int32} {R C : Nat} (hX : cw_X R C f1 f2 f3 f4 a1 a2)
    (H : ∀ (r7 : Int32) (b17 : Nat → Int32), ¬ r7 = 0 → ∀ (fd nm al an : Int32) (b18 b19 b20 b21 : Nat → Int32), post (nI (cw_cnt (cw_G R C a3 a11 a14 a15 a16 b17) (2 ^ (R * C)))) (f1, f2, f3, f4, f5, f6, r7, fd, nm, al, an, a1, a2, a3, a4, a5, a6, a7, a8, a9, a10, a11, a12, a13, a14, a15, a16, b17, b18, b19, b20, b21)) : wpX_fillings post (f1, f2, f3, f4, f5, f6, f7, f8, f9, f10, f11, a1, a2, a3, a4, a5, a6, a7, a8, a9, a10, a11, a12, a13, a14, a15, a16, a17, a18, a19, a20, a21) := by
  have h9 := cw_nine hX.1.2.1 hX.1.2.2.2
  unfold wpX_fillings
  dsimp only
  refine cw_scan (stop := 4096) (bound := 4096) hX (by omega) (by omega) (by omega) rfl rfl (fun r7 b17 hr x fd nm al an b18 b19 b20 b21 hQ hE => ?_)
  have hx := cw_End_full h9 hE
  have h1 := hQ.1
  rw [hx] at h1
  have h2 := H r7 b17 hr fd nm al an b18 b19 b20 b21
  rw [← h1] at h2
  exact h2
theorem cw_filling {post : Int32 → St2 → Prop} {f1 f2 f3 f4 f5 f6 f7 f8 f9 f10 f11 : Int32} {a1 a2 a3 a4 a5 a6 a7 a8 a9 a10 a11 a12 a13 a14 a15 a16 a17 a18 a19 a20 a21 : Nat → Int32} {R C k : Nat} (hX : cw_X R C f1 f2 f3 f4 a1 a2) (hr : ¬ f7 = 0) (hk : k < 4096)
    (H1 : ∀ m, m < 2 ^ (R * C) → cw_G R C a3 a11 a14 a15 a16 a17 m = true → cw_cnt (cw_G R C a3 a11 a14 a15 a16 a17) m = k → ∀ (fd nm al an : Int32) (b18 b19 b20 b21 : Nat → Int32), post (nI m) (f1, f2, f3, f4, f5, f6, f7, fd, nm, al, an, a1, a2, a3, a4, a5, a6, a7, a8, a9, a10, a11, a12, a13, a14, a15, a16, a17, b18, b19, b20, b21))
    (H2 : cw_cnt (cw_G R C a3 a11 a14 a15 a16 a17) (2 ^ (R * C)) ≤ k → ∀ (fd nm al an : Int32) (b18 b19 b20 b21 : Nat → Int32), post (-4) (f1, f2, f3, f4, f5, f6, f7, fd, nm, al, an, a1, a2, a3, a4, a5, a6, a7, a8, a9, a10, a11, a12, a13, a14, a15, a16, a17, b18, b19, b20, b21)) : wpX_filling post (f1, f2, f3, f4, f5, f6, f7, f8, f9, f10, f11, a1, a2, a3, a4, a5, a6, a7, a8, a9, a10, a11, a12, a13, a14, a15, a16, a17, a18, a19, a20, a21) (nI k) := by
  have h9 := cw_nine hX.1.2.1 hX.1.2.2.2
  have h512 := cw_pow9 h9
  refine pk_le 0 k (fun _ => pk_lt k 4096 (fun _ => ?_) (fun z => absurd z (by omega))) (fun z => absurd z (by omega))
  refine cw_scan_r (stop := k + 1) (bound := 4096) hX hr (by omega) (by omega) (by omega) (nI_1 k) rfl (fun x fd nm al an b18 b19 b20 b21 hQ hE => ?_)
  obtain ⟨_, ⟨hx, hc⟩ | ⟨hc, m, hm, hx, hG⟩ | ⟨hx, _, hb, _⟩⟩ := hE
  · have hl := cw_cnt_le (cw_G R C a3 a11 a14 a15 a16 a17) x
    rw [hx] at hc hl
    exact pk_eq (cw_cnt (cw_G R C a3 a11 a14 a15 a16 a17) (2 ^ (R * C))) (k + 1) (fun z => absurd z (by omega)) (fun z => H2 (by omega) _ _ _ _ _ _ _ _) (by rw [hQ.1, hx]) (nI_1 k)
  · have h1 := hQ.1
    have h2 := hQ.2.1
    rw [hx, cw_lst_t hG] at h2
    rw [hc] at h1
    rw [hx, cw_cnt_t hG] at hc
    have h3 := H1 m hm hG (by omega) fd nm al an b18 b19 b20 b21
    rw [← h2] at h3
    exact pk_eq (k + 1) (k + 1) (fun _ => h3) (fun z => absurd rfl z) h1 (nI_1 k)
  · omega
theorem cw_below {post : Int32 → St2 → Prop} {f1 f2 f3 f4 f5 f6 f7 f8 f9 f10 f11 : Int32} {a1 a2 a3 a4 a5 a6 a7 a8 a9 a10 a11 a12 a13 a14 a15 a16 a17 a18 a19 a20 a21 : Nat → Int32} {R C m : Nat} (hX : cw_X R C f1 f2 f3 f4 a1 a2) (hr : ¬ f7 = 0) (hm : m < 2 ^ (R * C)) (hG : cw_G R C a3 a11 a14 a15 a16 a17 m = true)
    (H : ∀ (fd nm al an : Int32) (b18 b19 b20 b21 : Nat → Int32), post (nI (cw_cnt (cw_G R C a3 a11 a14 a15 a16 a17) m)) (f1, f2, f3, f4, f5, f6, f7, fd, nm, al, an, a1, a2, a3, a4, a5, a6, a7, a8, a9, a10, a11, a12, a13, a14, a15, a16, a17, b18, b19, b20, b21)) : wpX_below post (f1, f2, f3, f4, f5, f6, f7, f8, f9, f10, f11, a1, a2, a3, a4, a5, a6, a7, a8, a9, a10, a11, a12, a13, a14, a15, a16, a17, a18, a19, a20, a21) (nI m) := by
  have h9 := cw_nine hX.1.2.1 hX.1.2.2.2
  have h512 := cw_pow9 h9
  unfold wpX_below
  dsimp only
  refine cw_scan_r (stop := 4096) (bound := m) hX hr (by omega) (by omega) (by omega) rfl rfl (fun x fd nm al an b18 b19 b20 b21 hQ hE => ?_)
  obtain ⟨hB, ⟨hx, hc⟩ | ⟨hc, j, hj, hx, _⟩ | ⟨hx, hGx, hb, _⟩⟩ := hE
  · exact absurd (hB m (by omega) hG) (Nat.lt_irrefl m)
  · have := cw_cnt_le (cw_G R C a3 a11 a14 a15 a16 a17) x
    omega
  · have hxm : x = m := by
      rcases Nat.lt_or_ge m x with h | h
      · exact absurd (hB m h hG) (Nat.lt_irrefl m)
      · omega
    have h1 := hQ.1
    rw [hxm] at h1
    have h2 := H fd nm al an b18 b19 b20 b21
    rw [← h1] at h2
    exact h2
theorem cw_inGrid1 {post : Int32 → Prop} {f3 f4 f5 f6 f7 f8 f9 f10 f11 : Int32} {a1 a2 a3 a4 a5 a6 a7 a8 a9 a10 a11 a12 a13 a14 a15 a16 a17 a18 a19 a20 a21 : Nat → Int32} {R C r c : Nat} (hb : R ≤ 3 ∧ C ≤ 3) (hr : r < R) (hc : c < C) (H1 : post 1) : wpX_inGrid post (nI R, nI C, f3, f4, f5, f6, f7, f8, f9, f10, f11, a1, a2, a3, a4, a5, a6, a7, a8, a9, a10, a11, a12, a13, a14, a15, a16, a17, a18, a19, a20, a21) (nI r) (nI c) :=
  br_f (nI_pos (by omega)) (pk_le R r (fun z => absurd z (by omega)) (fun z => br_f (nI_pos (by omega)) (pk_le C c (fun z => absurd z (by omega)) (fun z' => H1))))
theorem cb_one (x : Int32) {b : Nat} (hb : b < 32) : (x >>> (nI b &&& 31)) &&& 1 = 1 ↔ cb_t x b = true := by
  rw [cb_bit x hb]
  cases cb_t x b with
  | true => decide
  | false => decide
theorem cw_bx {R C r c : Nat} (hr : r < R) (hc : c < C) : nI (R * C) - 1 - nI r * nI C - nI c = nI (R * C - 1 - (r * C + c)) := by
  have h := cw_cell hr hc
  rw [show nI (R * C) - 1 = nI (R * C - 1) from pk_sub (a := R * C) (b := 1) (by omega), pk_mul, pk_sub (by omega), pk_sub (by omega), show R * C - 1 - r * C - c = R * C - 1 - (r * C + c) by omega]
theorem cw_forced {post : Int32 → St2 → Prop} {f1 f2 f3 f4 f5 f6 f7 f8 f9 f10 f11 : Int32} {a1 a2 a3 a4 a5 a6 a7 a8 a9 a10 a11 a12 a13 a14 a15 a16 a17 a18 a19 a20 a21 : Nat → Int32} {R C r c : Nat} (hX : cw_X R C f1 f2 f3 f4 a1 a2) (hr : ¬ f7 = 0) (hrR : r < R) (hcC : c < C)
    (H : ∀ (fd nm al an : Int32) (b18 b19 b20 b21 : Nat → Int32), post (cw_due (cw_G R C a3 a11 a14 a15 a16 a17) (2 ^ (R * C)) (R * C - 1 - (r * C + c))) (f1, f2, f3, f4, f5, f6, f7, fd, nm, al, an, a1, a2, a3, a4, a5, a6, a7, a8, a9, a10, a11, a12, a13, a14, a15, a16, a17, b18, b19, b20, b21)) : wpX_forced post (f1, f2, f3, f4, f5, f6, f7, f8, f9, f10, f11, a1, a2, a3, a4, a5, a6, a7, a8, a9, a10, a11, a12, a13, a14, a15, a16, a17, a18, a19, a20, a21) (nI r) (nI c) := by
  have h9 := cw_nine hX.1.2.1 hX.1.2.2.2
  have h512 := cw_pow9 h9
  have hX' := hX
  obtain ⟨hb, rfl, rfl, rfl, rfl, h12⟩ := hX
  unfold wpX_forced
  dsimp only
  refine cw_inGrid1 ⟨hb.2.1, hb.2.2.2⟩ hrR hcC (br_f (show ¬ (1 : Int32) = 0 by decide) ?_)
  refine cw_scan_r (stop := 4096) (bound := 4096) hX' hr (by omega) (by omega) (by omega) rfl rfl (fun x fd nm al an b18 b19 b20 b21 hQ hE => ?_)
  have hx := cw_End_full h9 hE
  subst hx
  obtain ⟨q1, q2, q3, q4⟩ := hQ
  have hl := cw_cnt_le (cw_G R C a3 a11 a14 a15 a16 a17) (2 ^ (R * C))
  have hH := H fd nm al an b18 b19 b20 b21
  unfold cw_due at hH
  refine pk_eq (cw_cnt (cw_G R C a3 a11 a14 a15 a16 a17) (2 ^ (R * C))) 0 (fun z => ?_) (fun z => nm_r (cw_bx hrR hcC) (ek_if (cb_one al (by omega)) (fun h => ?_) (fun h => ek_if (cb_one an (by omega)) (fun h' => ?_) (fun h' => ?_)))) q1
  · rw [if_pos z] at hH
    exact hH
  · rw [q3] at h
    rw [if_neg z, if_pos h] at hH
    exact hH
  · rw [q3] at h
    rw [q4] at h'
    rw [if_neg z, if_neg h, if_pos h'] at hH
    exact hH
  · rw [q3] at h
    rw [q4] at h'
    rw [if_neg z, if_neg h, if_neg h'] at hH
    exact hH
theorem cw_pinned {post : Int32 → Prop} {f3 f4 f5 f6 f7 f8 f9 f10 f11 : Int32} {a1 a2 a3 a4 a5 a6 a7 a8 a9 a10 a11 a12 a13 a14 a15 a16 a17 a18 a19 a20 a21 : Nat → Int32} {R C r c : Nat} (hb : R ≤ 3 ∧ C ≤ 3) (hr : r < R) (hc : c < C) (H : post (a3 (r * C + c))) : wpX_pinned post (nI R, nI C, f3, f4, f5, f6, f7, f8, f9, f10, f11, a1, a2, a3, a4, a5, a6, a7, a8, a9, a10, a11, a12, a13, a14, a15, a16, a17, a18, a19, a20, a21) (nI r) (nI c) := by
  have h := cw_cell hr hc
  have h9 := cw_nine hb.1 hb.2
  unfold wpX_pinned
  dsimp only
  refine cw_inGrid1 hb hr hc (br_f (show ¬ (1 : Int32) = 0 by decide) ⟨pk_in (r * C + c) 12 (by omega) (cw_rc r C c), ?_⟩)
  rw [cw_rc, nI_clamp (by omega)]
  exact H
theorem cw_digit {post : Int32 → Prop} {R C r c : Nat} {x : Int32} (hr : r < R) (hc : c < C) (H : post ((x >>> (nI (R * C - 1 - (r * C + c)) &&& 31)) &&& 1)) : wpL_digit post () x (nI r) (nI c) (nI R) (nI C) := by
  have h := cw_cell hr hc
  unfold wpL_digit
  rw [pk_mul, show nI (R * C) - 1 = nI (R * C - 1) from pk_sub (a := R * C) (b := 1) (by omega), cw_rc, pk_sub (by omega)]
  exact H
theorem cw_dig_bit {N m d : Nat} (hN : N ≤ 9) (hm : m < 512) : (nI m >>> (nI (N - 1 - d) &&& 31)) &&& 1 = nI (cw_dig N m d) := by
  rw [pk_shrN (by omega) _ (N - 1 - d) (cb_sl (N - 1 - d) (by omega)), pk_andN (n := m / 2 ^ (N - 1 - d)) (Nat.lt_of_le_of_lt (Nat.div_le_self _ _) (by omega)) 1 (by decide)]
  rfl
end
section
/-! the law's own checks -/
theorem cw_kp18 {post : Int32 → Prop} {J : Int32 → Prop} {f3 f4 f5 f6 f7 f8 f9 f10 f11 : Int32} {a1 a2 a3 a4 a5 a6 a7 a8 a9 a10 a11 a12 a13 a14 a15 a16 a17 a18 a19 a20 a21 : Nat → Int32} {R C r m : Nat} (hb : R ≤ 3 ∧ C ≤ 3) (hr : r < R) (hm : m < 512) (hp : ∀ d, d < R * C → a3 d = 2 ∨ a3 d = nI (cw_dig (R * C) m d)) (H : J (nI (r + 1))) : ∃ n, wL_keepsPins_18 post J (nI m) (nI R) (nI C) (nI r) (nI R) (nI C) f3 f4 f5 f6 f7 f8 f9 f10 f11 a1 a2 a3 a4 a5 a6 a7 a8 a9 a10 a11 a12 a13 a14 a15 a16 a17 a18 a19 a20 a21 n 0 := by
  have h9 := cw_nine hb.1 hb.2
  have hC := hb.2
  refine pk_loop (σ := Unit) (fun n i _ => wL_keepsPins_18 post J (nI m) (nI R) (nI C) (nI r) (nI R) (nI C) f3 f4 f5 f6 f7 f8 f9 f10 f11 a1 a2 a3 a4 a5 a6 a7 a8 a9 a10 a11 a12 a13 a14 a15 a16 a17 a18 a19 a20 a21 n (nI i)) (fun _ _ => True) C 0 () (by omega) trivial
    (fun n _ _ => pk_le 4 C (fun z => absurd z (by omega)) (fun _ => pk_le C C (fun _ => nm_r (nI_1 r) H) (fun z => absurd z (by omega))))
    (fun n i _ hi _ hw => pk_le 4 i (fun z => absurd z (by omega)) (fun _ => pk_le C i (fun z => absurd z (by omega)) (fun _ => cw_pinned hb hr hi (br_c (fun _ => nm_r (nI_1 i) (hw () trivial)) (fun h2 => cw_digit hr hi (br_t ?_ (nm_r (nI_1 i) (hw () trivial))))))))
  rw [cw_dig_bit h9 hm]
  exact (hp (r * C + i) (cw_cell hr hi)).resolve_left h2
theorem cw_keepsPins {post : Int32 → Prop} {f3 f4 f5 f6 f7 f8 f9 f10 f11 : Int32} {a1 a2 a3 a4 a5 a6 a7 a8 a9 a10 a11 a12 a13 a14 a15 a16 a17 a18 a19 a20 a21 : Nat → Int32} {R C m : Nat} (hb : R ≤ 3 ∧ C ≤ 3) (hm : m < 512) (hp : ∀ d, d < R * C → a3 d = 2 ∨ a3 d = nI (cw_dig (R * C) m d)) (H : post 1) : wpL_keepsPins post (nI R, nI C, f3, f4, f5, f6, f7, f8, f9, f10, f11, a1, a2, a3, a4, a5, a6, a7, a8, a9, a10, a11, a12, a13, a14, a15, a16, a17, a18, a19, a20, a21) (nI m) (nI R) (nI C) := by
  have hR := hb.1
  exact pk_loop (σ := Unit) (fun n i _ => wL_keepsPins_3 post (nI m) (nI R) (nI C) (nI R) (nI C) f3 f4 f5 f6 f7 f8 f9 f10 f11 a1 a2 a3 a4 a5 a6 a7 a8 a9 a10 a11 a12 a13 a14 a15 a16 a17 a18 a19 a20 a21 n (nI i)) (fun _ _ => True) R 0 () (by omega) trivial
    (fun n _ _ => pk_le 3 R (fun _ => H) (fun _ => pk_le R R (fun _ => H) (fun z => absurd z (by omega))))
    (fun n i _ hi _ hw => pk_le 3 i (fun z => absurd z (by omega)) (fun _ => pk_le R i (fun z => absurd z (by omega)) (fun _ => cw_kp18 hb hi hm hp (hw () trivial))))
theorem cw_G_pin {R C : Nat} {a3 a11 a14 a15 a16 a17 : Nat → Int32} {m : Nat} (h : cw_G R C a3 a11 a14 a15 a16 a17 m = true) : ∀ d, d < R * C → a3 d = 2 ∨ a3 d = nI (cw_dig (R * C) m d) := by
  intro d hd
  have h1 := cw_P_iff.mp h d hd
  unfold cw_ok at h1
  rw [Bool.and_eq_true, Bool.or_eq_true, decide_eq_true_eq, decide_eq_true_eq] at h1
  exact h1.1
theorem cw_fa82 {post : Int32 → St2 → Prop} {J3 J19 : Int32 → Int32 → Int32 → Int32 → Int32 → Int32 → Int32 → Int32 → Int32 → Int32 → Int32 → Int32 → (Nat → Int32) → (Nat → Int32) → (Nat → Int32) → (Nat → Int32) → (Nat → Int32) → (Nat → Int32) → (Nat → Int32) → (Nat → Int32) → (Nat → Int32) → (Nat → Int32) → (Nat → Int32) → (Nat → Int32) → (Nat → Int32) → (Nat → Int32) → (Nat → Int32) → (Nat → Int32) → (Nat → Int32) → (Nat → Int32) → (Nat → Int32) → (Nat → Int32) → (Nat → Int32) → Prop} {f1 f2 f3 f4 f5 f6 f7 f8 f9 f10 f11 : Int32} {a1 a2 a3 a4 a5 a6 a7 a8 a9 a10 a11 a12 a13 a14 a15 a16 a17 a18 a19 a20 a21 : Nat → Int32} {R C r c : Nat} {x1 x2 x3 x4 x5 z0 : Int32} (hX : cw_X R C f1 f2 f3 f4 a1 a2) (hr : ¬ f7 = 0) (hrR : r < R) (hcC : c < C)
    (hz : z0 = cw_due (cw_G R C a3 a11 a14 a15 a16 a17) (2 ^ (R * C)) (R * C - 1 - (r * C + c)))
    (H : ∀ (fd nm al an : Int32) (b18 b19 b20 b21 : Nat → Int32), J19 (nI (c + 1)) f1 f2 f3 f4 f5 f6 f7 fd nm al an a1 a2 a3 a4 a5 a6 a7 a8 a9 a10 a11 a12 a13 a14 a15 a16 a17 b18 b19 b20 b21) : wL_forcedAgree_82 post J3 J19 x1 x2 x3 x4 x5 (nI r) (nI c) z0 f1 f2 f3 f4 f5 f6 f7 f8 f9 f10 f11 a1 a2 a3 a4 a5 a6 a7 a8 a9 a10 a11 a12 a13 a14 a15 a16 a17 a18 a19 a20 a21 := by
  subst hz
  exact cw_forced hX hr hrR hcC (fun fd nm al an b18 b19 b20 b21 => br_t rfl (nm_r (nI_1 c) (H fd nm al an b18 b19 b20 b21)))
theorem cw_due_0 {P : Nat → Bool} {M b : Nat} (h : cw_cnt P M = 0) : -4 = cw_due P M b := by
  unfold cw_due
  rw [if_pos h]
theorem cw_due_eq {P : Nat → Bool} {M b : Nat} (hb : b < 12) (h : cw_cnt P M ≠ 0) (e : (cw_all P (-1) M >>> (nI b &&& 31)) &&& 1 = (cw_any P M >>> (nI b &&& 31)) &&& 1) : (cw_all P (-1) M >>> (nI b &&& 31)) &&& 1 = cw_due P M b := by
  rw [cb_bit _ (by omega), cb_bit _ (by omega), cb_same hb] at e
  rw [cb_bit _ (by omega), cb_same hb]
  unfold cw_due
  rw [if_neg h]
  cases h1 : cb_t (cw_all P 4095 M) b with
  | true => rfl
  | false =>
    cases h2 : cb_t (cw_any P M) b with
    | true =>
      rw [h1, h2] at e
      exact absurd e (by decide)
    | false => rfl
theorem cw_due_2 {P : Nat → Bool} {M b : Nat} (hb : b < 12) (h : cw_cnt P M ≠ 0) (e : ¬ (cw_all P (-1) M >>> (nI b &&& 31)) &&& 1 = (cw_any P M >>> (nI b &&& 31)) &&& 1) : 2 = cw_due P M b := by
  rw [cb_bit _ (by omega), cb_bit _ (by omega), cb_same hb] at e
  unfold cw_due
  rw [if_neg h]
  cases h1 : cb_t (cw_all P 4095 M) b with
  | true =>
    rw [h1, cb_low (by omega) h1] at e
    exact absurd rfl e
  | false =>
    cases h2 : cb_t (cw_any P M) b with
    | true => rfl
    | false =>
      rw [h1, h2] at e
      exact absurd rfl e
theorem cw_fa19 {post : Int32 → St2 → Prop} {J3 : Int32 → Int32 → Int32 → Int32 → Int32 → Int32 → Int32 → Int32 → Int32 → Int32 → Int32 → Int32 → (Nat → Int32) → (Nat → Int32) → (Nat → Int32) → (Nat → Int32) → (Nat → Int32) → (Nat → Int32) → (Nat → Int32) → (Nat → Int32) → (Nat → Int32) → (Nat → Int32) → (Nat → Int32) → (Nat → Int32) → (Nat → Int32) → (Nat → Int32) → (Nat → Int32) → (Nat → Int32) → (Nat → Int32) → (Nat → Int32) → (Nat → Int32) → (Nat → Int32) → (Nat → Int32) → Prop} {f1 f2 f3 f4 f5 f6 f7 f8 f9 f10 f11 : Int32} {a1 a2 a3 a4 a5 a6 a7 a8 a9 a10 a11 a12 a13 a14 a15 a16 a17 a18 a19 a20 a21 : Nat → Int32} {R C r : Nat} (hX : cw_X R C f1 f2 f3 f4 a1 a2) (hr : ¬ f7 = 0) (hrR : r < R)
    (H : ∀ (fd nm al an : Int32) (b18 b19 b20 b21 : Nat → Int32), J3 (nI (r + 1)) f1 f2 f3 f4 f5 f6 f7 fd nm al an a1 a2 a3 a4 a5 a6 a7 a8 a9 a10 a11 a12 a13 a14 a15 a16 a17 b18 b19 b20 b21) :
    ∃ n, wL_forcedAgree_19 post J3 (cw_all (cw_G R C a3 a11 a14 a15 a16 a17) (-1) (2 ^ (R * C))) (cw_any (cw_G R C a3 a11 a14 a15 a16 a17) (2 ^ (R * C))) (nI (cw_cnt (cw_G R C a3 a11 a14 a15 a16 a17) (2 ^ (R * C)))) (nI R) (nI C) (nI r) n 0 f1 f2 f3 f4 f5 f6 f7 f8 f9 f10 f11 a1 a2 a3 a4 a5 a6 a7 a8 a9 a10 a11 a12 a13 a14 a15 a16 a17 a18 a19 a20 a21 := by
  have h9 := cw_nine hX.1.2.1 hX.1.2.2.2
  have h512 := cw_pow9 h9
  have hC := hX.1.2.2.2
  have hl := cw_cnt_le (cw_G R C a3 a11 a14 a15 a16 a17) (2 ^ (R * C))
  refine pk_loop (σ := Int32 × Int32 × Int32 × Int32 × (Nat → Int32) × (Nat → Int32) × (Nat → Int32) × (Nat → Int32)) (fun n i s => wL_forcedAgree_19 post J3 (cw_all (cw_G R C a3 a11 a14 a15 a16 a17) (-1) (2 ^ (R * C))) (cw_any (cw_G R C a3 a11 a14 a15 a16 a17) (2 ^ (R * C))) (nI (cw_cnt (cw_G R C a3 a11 a14 a15 a16 a17) (2 ^ (R * C)))) (nI R) (nI C) (nI r) n (nI i) f1 f2 f3 f4 f5 f6 f7 s.1 s.2.1 s.2.2.1 s.2.2.2.1 a1 a2 a3 a4 a5 a6 a7 a8 a9 a10 a11 a12 a13 a14 a15 a16 a17 s.2.2.2.2.1 s.2.2.2.2.2.1 s.2.2.2.2.2.2.1 s.2.2.2.2.2.2.2) (fun _ _ => True) C 0 (f8, f9, f10, f11, a18, a19, a20, a21) (by omega) trivial
    (fun n s _ => pk_le 4 C (fun z => absurd z (by omega)) (fun _ => pk_le C C (fun _ => nm_r (nI_1 r) (H _ _ _ _ _ _ _ _)) (fun z => absurd z (by omega))))
    (fun n i s hi _ hw => pk_le 4 i (fun z => absurd z (by omega)) (fun _ => pk_le C i (fun z => absurd z (by omega)) (fun _ => cw_digit hrR hi (cw_digit hrR hi (pk_eq (cw_cnt (cw_G R C a3 a11 a14 a15 a16 a17) (2 ^ (R * C))) 0
      (fun z => cw_fa82 hX hr hrR hi (cw_due_0 z) (fun fd nm al an b18 b19 b20 b21 => hw (fd, nm, al, an, b18, b19, b20, b21) trivial))
      (fun z => br_c (fun e => cw_fa82 hX hr hrR hi (cw_due_eq (by omega) z e) (fun fd nm al an b18 b19 b20 b21 => hw (fd, nm, al, an, b18, b19, b20, b21) trivial))
        (fun e => cw_fa82 hX hr hrR hi (cw_due_2 (by omega) z e) (fun fd nm al an b18 b19 b20 b21 => hw (fd, nm, al, an, b18, b19, b20, b21) trivial))))))))
theorem cw_forcedAgree {post : Int32 → St2 → Prop} {f1 f2 f3 f4 f5 f6 f7 f8 f9 f10 f11 : Int32} {a1 a2 a3 a4 a5 a6 a7 a8 a9 a10 a11 a12 a13 a14 a15 a16 a17 a18 a19 a20 a21 : Nat → Int32} {R C : Nat} (hX : cw_X R C f1 f2 f3 f4 a1 a2) (hr : ¬ f7 = 0)
    (H : ∀ (fd nm al an : Int32) (b18 b19 b20 b21 : Nat → Int32), post 1 (f1, f2, f3, f4, f5, f6, f7, fd, nm, al, an, a1, a2, a3, a4, a5, a6, a7, a8, a9, a10, a11, a12, a13, a14, a15, a16, a17, b18, b19, b20, b21)) :
    wpL_forcedAgree post (f1, f2, f3, f4, f5, f6, f7, f8, f9, f10, f11, a1, a2, a3, a4, a5, a6, a7, a8, a9, a10, a11, a12, a13, a14, a15, a16, a17, a18, a19, a20, a21) (cw_all (cw_G R C a3 a11 a14 a15 a16 a17) (-1) (2 ^ (R * C))) (cw_any (cw_G R C a3 a11 a14 a15 a16 a17) (2 ^ (R * C))) (nI (cw_cnt (cw_G R C a3 a11 a14 a15 a16 a17) (2 ^ (R * C)))) (nI R) (nI C) := by
  have hR := hX.1.2.1
  exact pk_loop (σ := Int32 × Int32 × Int32 × Int32 × (Nat → Int32) × (Nat → Int32) × (Nat → Int32) × (Nat → Int32)) (fun n i s => wL_forcedAgree_3 post (cw_all (cw_G R C a3 a11 a14 a15 a16 a17) (-1) (2 ^ (R * C))) (cw_any (cw_G R C a3 a11 a14 a15 a16 a17) (2 ^ (R * C))) (nI (cw_cnt (cw_G R C a3 a11 a14 a15 a16 a17) (2 ^ (R * C)))) (nI R) (nI C) n (nI i) f1 f2 f3 f4 f5 f6 f7 s.1 s.2.1 s.2.2.1 s.2.2.2.1 a1 a2 a3 a4 a5 a6 a7 a8 a9 a10 a11 a12 a13 a14 a15 a16 a17 s.2.2.2.2.1 s.2.2.2.2.2.1 s.2.2.2.2.2.2.1 s.2.2.2.2.2.2.2) (fun _ _ => True) R 0 (f8, f9, f10, f11, a18, a19, a20, a21) (by omega) trivial
    (fun n s _ => pk_le 3 R (fun _ => H _ _ _ _ _ _ _ _) (fun _ => pk_le R R (fun _ => H _ _ _ _ _ _ _ _) (fun z => absurd z (by omega))))
    (fun n i s hi _ hw => pk_le 3 i (fun z => absurd z (by omega)) (fun _ => pk_le R i (fun z => absurd z (by omega)) (fun _ => cw_fa19 hX hr hi (fun fd nm al an b18 b19 b20 b21 => hw (fd, nm, al, an, b18, b19, b20, b21) trivial))))
/-! the law's loops -/
theorem cw_law162 {post : Int32 → Prop} {L : Nat} {xs : Nat → Int32} {kc ks : Nat} {f1 f2 f3 f4 f5 f6 f7 f8 f9 f10 f11 : Int32} {a1 a2 a3 a4 a5 a6 a7 a8 a9 a10 a11 a12 a13 a14 a15 a16 a17 a18 a19 a20 a21 : Nat → Int32} {R C : Nat} (hX : cw_X R C f1 f2 f3 f4 a1 a2) (hr : ¬ f7 = 0) (H : post 1) :
    wL_law_162 post L xs (nI R) (nI C) (nI (cw_cnt (cw_G R C a3 a11 a14 a15 a16 a17) (2 ^ (R * C)))) (cw_all (cw_G R C a3 a11 a14 a15 a16 a17) (-1) (2 ^ (R * C))) (cw_any (cw_G R C a3 a11 a14 a15 a16 a17) (2 ^ (R * C))) kc ks f1 f2 f3 f4 f5 f6 f7 f8 f9 f10 f11 a1 a2 a3 a4 a5 a6 a7 a8 a9 a10 a11 a12 a13 a14 a15 a16 a17 a18 a19 a20 a21 := by
  have h9 := cw_nine hX.1.2.1 hX.1.2.2.2
  have h512 := cw_pow9 h9
  have hl := cw_cnt_le (cw_G R C a3 a11 a14 a15 a16 a17) (2 ^ (R * C))
  refine br_f (nI_pos (by omega)) (pk_lt 512 (cw_cnt (cw_G R C a3 a11 a14 a15 a16 a17) (2 ^ (R * C))) (fun z => absurd z (by omega)) (fun _ => ?_))
  refine cw_filling hX hr (by omega) (fun m hm hG hcm => ?_) (fun _ fd nm al an b18 b19 b20 b21 => ?_)
  · have := cw_cnt_lt hm hG
    omega
  · exact br_t rfl (cw_forcedAgree hX hr (fun fd nm al an b18 b19 b20 b21 => br_f (show ¬ (1 : Int32) = 0 by decide) H))
theorem cw_gt {P : Nat → Bool} {y m : Nat} (hm : m < 2 ^ 31) (hc : cw_cnt P m = cw_cnt P y) : ¬ nI m ≤ cw_lst P y := by
  rcases cw_lst_or P y with h | ⟨j, hj, hP, h⟩
  · rw [h, Int32.le_iff_toInt_le, nI_toInt hm]
    have e : (-1 : Int32).toInt = -1 := by decide
    rw [e]
    omega
  · have h1 := cw_cnt_lt hj hP
    rw [h]
    refine nI_ge ?_ hm
    rcases Nat.lt_or_ge j m with h2 | h2
    · exact h2
    · have := cw_cnt_mono (P := P) h2
      omega
theorem cw_law84 {post : Int32 → Prop} {L : Nat} {xs : Nat → Int32} {kc ks : Nat} {f1 f2 f3 f4 f5 f6 f7 f8 f9 f10 f11 : Int32} {a1 a2 a3 a4 a5 a6 a7 a8 a9 a10 a11 a12 a13 a14 a15 a16 a17 a18 a19 a20 a21 : Nat → Int32} {R C : Nat} (hX : cw_X R C f1 f2 f3 f4 a1 a2) (hr : ¬ f7 = 0) (H : post 1) :
    ∃ n, wL_law_84 post L xs (nI R) (nI C) (nI (cw_cnt (cw_G R C a3 a11 a14 a15 a16 a17) (2 ^ (R * C)))) kc ks n (-1) (-1) 0 0 f1 f2 f3 f4 f5 f6 f7 f8 f9 f10 f11 a1 a2 a3 a4 a5 a6 a7 a8 a9 a10 a11 a12 a13 a14 a15 a16 a17 a18 a19 a20 a21 := by
  have h9 := cw_nine hX.1.2.1 hX.1.2.2.2
  have h512 := cw_pow9 h9
  have hl := cw_cnt_le (cw_G R C a3 a11 a14 a15 a16 a17) (2 ^ (R * C))
  refine lp12 (fun n x5 x6 x7 x8 fd nm al an b18 b19 b20 b21 => wL_law_84 post L xs (nI R) (nI C) (nI (cw_cnt (cw_G R C a3 a11 a14 a15 a16 a17) (2 ^ (R * C)))) kc ks n x5 x6 x7 x8 f1 f2 f3 f4 f5 f6 f7 fd nm al an a1 a2 a3 a4 a5 a6 a7 a8 a9 a10 a11 a12 a13 a14 a15 a16 a17 b18 b19 b20 b21)
    (fun x5 x6 x7 x8 _ _ _ _ _ _ _ _ => ∃ k y : Nat, x8 = nI k ∧ k ≤ cw_cnt (cw_G R C a3 a11 a14 a15 a16 a17) (2 ^ (R * C)) ∧ cw_cnt (cw_G R C a3 a11 a14 a15 a16 a17) y = k ∧ x5 = cw_lst (cw_G R C a3 a11 a14 a15 a16 a17) y ∧ x6 = cw_all (cw_G R C a3 a11 a14 a15 a16 a17) (-1) y ∧ x7 = cw_any (cw_G R C a3 a11 a14 a15 a16 a17) y)
    (fun _ _ _ x8 _ _ _ _ _ _ _ _ => 600 - x8.toNatClampNeg) (fun n x5 x6 x7 x8 fd nm al an b18 b19 b20 b21 hI hw => ?_) (-1) (-1) 0 0 f8 f9 f10 f11 a18 a19 a20 a21 ⟨0, 0, rfl, Nat.zero_le _, rfl, rfl, rfl, rfl⟩
  obtain ⟨k, y, rfl, hk, hy, rfl, rfl, rfl⟩ := hI
  by_cases hkc : k = cw_cnt (cw_G R C a3 a11 a14 a15 a16 a17) (2 ^ (R * C))
  · have hs := cw_same (-1) (hy.trans hkc)
    rw [hs.1, hs.2.1, hs.2.2]
    exact pk_le 512 k (fun _ => cw_law162 hX hr H) (fun _ => pk_le (cw_cnt (cw_G R C a3 a11 a14 a15 a16 a17) (2 ^ (R * C))) k (fun _ => cw_law162 hX hr H) (fun z => absurd z (by omega)))
  · refine pk_le 512 k (fun z => absurd z (by omega)) (fun _ => pk_le (cw_cnt (cw_G R C a3 a11 a14 a15 a16 a17) (2 ^ (R * C))) k (fun z => absurd z (by omega)) (fun _ => ?_))
    refine cw_filling hX hr (by omega) (fun m hm hG hcm fd nm al an b18 b19 b20 b21 => ?_) (fun z => absurd z (by omega))
    refine br_f (cw_gt (by omega) (by omega)) (cw_below hX hr hm hG (fun fd nm al an b18 b19 b20 b21 => br_t (by rw [hcm]) ?_))
    have hs := cw_same (-1) (show cw_cnt (cw_G R C a3 a11 a14 a15 a16 a17) y = cw_cnt (cw_G R C a3 a11 a14 a15 a16 a17) m by omega)
    have hX' := hX
    obtain ⟨hb, rfl, rfl, rfl, rfl, h12⟩ := hX
    refine cw_keepsPins ⟨hb.2.1, hb.2.2.2⟩ (by omega) (cw_G_pin hG) (br_f (show ¬ (1 : Int32) = 0 by decide) (nm_e (nm_e (nm_r (nI_1 k) (hw _ _ _ _ _ _ _ _ _ _ _ _ ⟨k + 1, m + 1, rfl, by omega, ?_, (cw_lst_t hG).symm, ?_, ?_⟩ ?_)))))
    · rw [cw_cnt_t hG, hcm]
    · rw [cw_all_t hG, hs.2.1]
    · rw [cw_any_t hG, hs.2.2]
    · rw [nI_clamp (by omega), nI_clamp (by omega)]
      omega
theorem cw_law37 {post : Int32 → Prop} {L : Nat} {xs : Nat → Int32} {kc ks R C : Nat} (hL : L ≤ 260) (H : post 1) {u : St2} (hu : cw_I R C u) :
    ∃ n, wL_law_37 post L xs (nI R) (nI C) kc ks n 2 u.1 u.2.1 u.2.2.1 u.2.2.2.1 u.2.2.2.2.1 u.2.2.2.2.2.1 u.2.2.2.2.2.2.1 u.2.2.2.2.2.2.2.1 u.2.2.2.2.2.2.2.2.1 u.2.2.2.2.2.2.2.2.2.1 u.2.2.2.2.2.2.2.2.2.2.1 u.2.2.2.2.2.2.2.2.2.2.2.1 u.2.2.2.2.2.2.2.2.2.2.2.2.1 u.2.2.2.2.2.2.2.2.2.2.2.2.2.1 u.2.2.2.2.2.2.2.2.2.2.2.2.2.2.1 u.2.2.2.2.2.2.2.2.2.2.2.2.2.2.2.1 u.2.2.2.2.2.2.2.2.2.2.2.2.2.2.2.2.1 u.2.2.2.2.2.2.2.2.2.2.2.2.2.2.2.2.2.1 u.2.2.2.2.2.2.2.2.2.2.2.2.2.2.2.2.2.2.1 u.2.2.2.2.2.2.2.2.2.2.2.2.2.2.2.2.2.2.2.1 u.2.2.2.2.2.2.2.2.2.2.2.2.2.2.2.2.2.2.2.2.1 u.2.2.2.2.2.2.2.2.2.2.2.2.2.2.2.2.2.2.2.2.2.1 u.2.2.2.2.2.2.2.2.2.2.2.2.2.2.2.2.2.2.2.2.2.2.1 u.2.2.2.2.2.2.2.2.2.2.2.2.2.2.2.2.2.2.2.2.2.2.2.1 u.2.2.2.2.2.2.2.2.2.2.2.2.2.2.2.2.2.2.2.2.2.2.2.2.1 u.2.2.2.2.2.2.2.2.2.2.2.2.2.2.2.2.2.2.2.2.2.2.2.2.2.1 u.2.2.2.2.2.2.2.2.2.2.2.2.2.2.2.2.2.2.2.2.2.2.2.2.2.2.1 u.2.2.2.2.2.2.2.2.2.2.2.2.2.2.2.2.2.2.2.2.2.2.2.2.2.2.2.1 u.2.2.2.2.2.2.2.2.2.2.2.2.2.2.2.2.2.2.2.2.2.2.2.2.2.2.2.2.1 u.2.2.2.2.2.2.2.2.2.2.2.2.2.2.2.2.2.2.2.2.2.2.2.2.2.2.2.2.2.1 u.2.2.2.2.2.2.2.2.2.2.2.2.2.2.2.2.2.2.2.2.2.2.2.2.2.2.2.2.2.2.1 u.2.2.2.2.2.2.2.2.2.2.2.2.2.2.2.2.2.2.2.2.2.2.2.2.2.2.2.2.2.2.2 := by
  refine loop_m (σ := Nat × St2) (fun n s => wL_law_37 post L xs (nI R) (nI C) kc ks n (nI s.1) s.2.1 s.2.2.1 s.2.2.2.1 s.2.2.2.2.1 s.2.2.2.2.2.1 s.2.2.2.2.2.2.1 s.2.2.2.2.2.2.2.1 s.2.2.2.2.2.2.2.2.1 s.2.2.2.2.2.2.2.2.2.1 s.2.2.2.2.2.2.2.2.2.2.1 s.2.2.2.2.2.2.2.2.2.2.2.1 s.2.2.2.2.2.2.2.2.2.2.2.2.1 s.2.2.2.2.2.2.2.2.2.2.2.2.2.1 s.2.2.2.2.2.2.2.2.2.2.2.2.2.2.1 s.2.2.2.2.2.2.2.2.2.2.2.2.2.2.2.1 s.2.2.2.2.2.2.2.2.2.2.2.2.2.2.2.2.1 s.2.2.2.2.2.2.2.2.2.2.2.2.2.2.2.2.2.1 s.2.2.2.2.2.2.2.2.2.2.2.2.2.2.2.2.2.2.1 s.2.2.2.2.2.2.2.2.2.2.2.2.2.2.2.2.2.2.2.1 s.2.2.2.2.2.2.2.2.2.2.2.2.2.2.2.2.2.2.2.2.1 s.2.2.2.2.2.2.2.2.2.2.2.2.2.2.2.2.2.2.2.2.2.1 s.2.2.2.2.2.2.2.2.2.2.2.2.2.2.2.2.2.2.2.2.2.2.1 s.2.2.2.2.2.2.2.2.2.2.2.2.2.2.2.2.2.2.2.2.2.2.2.1 s.2.2.2.2.2.2.2.2.2.2.2.2.2.2.2.2.2.2.2.2.2.2.2.2.1 s.2.2.2.2.2.2.2.2.2.2.2.2.2.2.2.2.2.2.2.2.2.2.2.2.2.1 s.2.2.2.2.2.2.2.2.2.2.2.2.2.2.2.2.2.2.2.2.2.2.2.2.2.2.1 s.2.2.2.2.2.2.2.2.2.2.2.2.2.2.2.2.2.2.2.2.2.2.2.2.2.2.2.1 s.2.2.2.2.2.2.2.2.2.2.2.2.2.2.2.2.2.2.2.2.2.2.2.2.2.2.2.2.1 s.2.2.2.2.2.2.2.2.2.2.2.2.2.2.2.2.2.2.2.2.2.2.2.2.2.2.2.2.2.1 s.2.2.2.2.2.2.2.2.2.2.2.2.2.2.2.2.2.2.2.2.2.2.2.2.2.2.2.2.2.2.1 s.2.2.2.2.2.2.2.2.2.2.2.2.2.2.2.2.2.2.2.2.2.2.2.2.2.2.2.2.2.2.2.1 s.2.2.2.2.2.2.2.2.2.2.2.2.2.2.2.2.2.2.2.2.2.2.2.2.2.2.2.2.2.2.2.2) (fun s => s.1 ≤ 262 ∧ cw_I R C s.2) (fun s => 300 - s.1) (fun n s hs hw => ?_) (2, u) ⟨by omega, hu⟩
  obtain ⟨k, u⟩ := s
  obtain ⟨f1, f2, f3, f4, f5, f6, f7, f8, f9, f10, f11, a1, a2, a3, a4, a5, a6, a7, a8, a9, a10, a11, a12, a13, a14, a15, a16, a17, a18, a19, a20, a21⟩ := u
  obtain ⟨hk, hX, hY⟩ := hs
  have hk' : k ≤ 262 := hk
  refine pk_le L (k + 1) (fun _ => ?_) (fun z => ⟨pk_in k L (by omega), pk_in (k + 1) L (by omega) (nI_1 k), ?_⟩) rfl (nI_1 k)
  · exact cw_fillings hX (fun r7 b17 h7 fd nm al an b18 b19 b20 b21 => cw_law84 hX h7 H)
  · refine cw_turn (cw_mk hX hY) _ _ (fun u hu => ?_)
    obtain ⟨f1, f2, f3, f4, f5, f6, f7, f8, f9, f10, f11, a1, a2, a3, a4, a5, a6, a7, a8, a9, a10, a11, a12, a13, a14, a15, a16, a17, a18, a19, a20, a21⟩ := u
    exact nm_r (nI_add k 2) (hw (k + 2, (f1, f2, f3, f4, f5, f6, f7, f8, f9, f10, f11, a1, a2, a3, a4, a5, a6, a7, a8, a9, a10, a11, a12, a13, a14, a15, a16, a17, a18, a19, a20, a21)) ⟨show k + 2 ≤ 262 by omega, hu⟩ (show 300 - (k + 2) < 300 - k by omega))
theorem cw_cellL {post : Int32 → Prop} {L : Nat} {xs : Nat → Int32} (hL : L ≤ 260) {k : Nat} (hk : k ≤ 1) (H : ∀ r, post r) : wpL_cell post L xs () (nI k) :=
  pk_le L k (fun _ => H _) (fun z => ⟨pk_in k L z, H _⟩)
theorem cw_dim (x : Int32) : ∃ R : Nat, 1 ≤ R ∧ R ≤ 3 ∧ 1 + ((x &&& 3) - (x &&& 3) / 3 * 3) = nI R := by
  obtain ⟨j, hj, e⟩ := pk_andE x (m := 3) 2 (by decide)
  refine ⟨1 + j % 3, by omega, by omega, ?_⟩
  rw [e, show nI j - nI j / 3 * 3 = nI (j % 3) from pk_rem (a := j) (d := 3) (by omega) (by omega) (by omega)]
  exact nI_add 1 (j % 3)
theorem i_vc (xs : Nat → Int32) (L : Nat) (hL : L ≤ 260) : wpL_law (fun r => r = 1) L xs := by
  refine cw_cellL (k := 0) hL (by omega) (fun r1 => And.intro (by decide) ?_)
  obtain ⟨R, hR1, hR3, eR⟩ := cw_dim r1
  refine nm_r eR (cw_cellL (k := 1) hL (by omega) (fun r4 => And.intro (by decide) ?_))
  obtain ⟨C, hC1, hC3, eC⟩ := cw_dim r4
  refine nm_r eC ⟨21, 258, by omega, by omega, cw_init ⟨hR1, hR3, hC1, hC3⟩ (fun u hu => ?_)⟩
  have h := cw_law37 (L := L) (xs := xs) (kc := 1 + 21) (ks := 32 + 258) hL (post := fun r => r = 1) rfl hu
  obtain ⟨f1, f2, f3, f4, f5, f6, f7, f8, f9, f10, f11, a1, a2, a3, a4, a5, a6, a7, a8, a9, a10, a11, a12, a13, a14, a15, a16, a17, a18, a19, a20, a21⟩ := u
  exact h
end
