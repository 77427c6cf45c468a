section
/-! the run v, v + d, v + 2 d, ..: its places, sums, weighted sums, greatest and least -/
def sy_w (v d : Int32) (n : Nat) : Int32 := v + nI n * d
def sy_S (v d : Int32) : Nat → Int32
  | 0 => 0
  | n + 1 => sy_S v d n + sy_w v d n
def sy_H (v d : Int32) : Nat → Int32
  | 0 => 0
  | n + 1 => sy_H v d n + nI (n + 1) * sy_w v d n
def sy_mx (a b : Int32) : Int32 := if a ≤ b then b else a
def sy_mn (a b : Int32) : Int32 := if b ≤ a then b else a
def sy_hi (v d : Int32) (n : Nat) : Int32 := if n = 0 then -2000000 else if d ≤ 0 then v else sy_w v d (n - 1)
def sy_lo (v d : Int32) (n : Nat) : Int32 := if n = 0 then 2000000 else if d ≤ 0 then sy_w v d (n - 1) else v
def sy_ok (v d : Int32) (n : Nat) : Prop := n ≤ 48 ∧ -1000000 ≤ v.toInt ∧ v.toInt ≤ 1000000 ∧ -1000000 ≤ d.toInt ∧ d.toInt ≤ 1000000 ∧ ∀ j : Nat, j < n → -1000000 ≤ v.toInt + (j : Int) * d.toInt ∧ v.toInt + (j : Int) * d.toInt ≤ 1000000
theorem sy_ok_le {v d : Int32} {n m : Nat} (h : sy_ok v d n) (hm : m ≤ n) : sy_ok v d m := by
  obtain ⟨h1, h2, h3, h4, h5, h6⟩ := h
  exact ⟨by omega, h2, h3, h4, h5, fun j hj => h6 j (by omega)⟩
theorem sy_mxI (a b : Int32) : (sy_mx a b).toInt = max a.toInt b.toInt := by
  unfold sy_mx
  by_cases h : a ≤ b
  · rw [if_pos h]
    have := Int32.le_iff_toInt_le.mp h
    omega
  · rw [if_neg h]
    have : ¬ a.toInt ≤ b.toInt := fun z => h (Int32.le_iff_toInt_le.mpr z)
    omega
theorem sy_mnI (a b : Int32) : (sy_mn a b).toInt = min a.toInt b.toInt := by
  unfold sy_mn
  by_cases h : b ≤ a
  · rw [if_pos h]
    have := Int32.le_iff_toInt_le.mp h
    omega
  · rw [if_neg h]
    have : ¬ b.toInt ≤ a.toInt := fun z => h (Int32.le_iff_toInt_le.mpr z)
    omega
theorem sy_jd (D : Int) (h1 : -1000000 ≤ D) (h2 : D ≤ 1000000) (j : Nat) : -((j : Int) * 1000000) ≤ (j : Int) * D ∧ (j : Int) * D ≤ (j : Int) * 1000000 := by
  induction j with
  | zero => simp
  | succ j ih =>
    have e1 : ((j + 1 : Nat) : Int) * D = (j : Int) * D + D := by
      rw [Int.natCast_add, Int.add_mul]
      simp
    have e2 : ((j + 1 : Nat) : Int) * 1000000 = (j : Int) * 1000000 + 1000000 := by omega
    rw [e1, e2]
    omega
theorem sy_bm {x : Int} (h1 : -2147483648 ≤ x) (h2 : x < 2147483648) : x.bmod (2 ^ 32) = x := by
  apply Int.bmod_eq_of_le <;> omega
/-- the value at a place, as a whole number -/
theorem sy_wI {v d : Int32} (h2 : -1000000 ≤ v.toInt) (h3 : v.toInt ≤ 1000000) (h4 : -1000000 ≤ d.toInt) (h5 : d.toInt ≤ 1000000) {j : Nat} (hj : j ≤ 48) : (sy_w v d j).toInt = v.toInt + (j : Int) * d.toInt := by
  have b := sy_jd d.toInt h4 h5 j
  have hm : (nI j * d).toInt = (j : Int) * d.toInt := by
    rw [Int32.toInt_mul, nI_toInt (by omega)]
    exact sy_bm (by omega) (by omega)
  unfold sy_w
  rw [Int32.toInt_add, hm]
  exact sy_bm (by omega) (by omega)
theorem sy_mono (D : Int) (h : D ≤ 0) (i j : Nat) (hij : i ≤ j) : (j : Int) * D ≤ (i : Int) * D := by
  induction j with
  | zero => rw [show i = 0 by omega]; exact Int.le_refl _
  | succ j ih =>
    by_cases e : i = j + 1
    · rw [e]; exact Int.le_refl _
    · have := ih (by omega)
      have e1 : ((j + 1 : Nat) : Int) * D = (j : Int) * D + D := by
        rw [Int.natCast_add, Int.add_mul]
        simp
      rw [e1]
      omega
theorem sy_monp (D : Int) (h : 0 < D) (i j : Nat) (hij : i < j) : (i : Int) * D < (j : Int) * D := by
  induction j with
  | zero => omega
  | succ j ih =>
    have e1 : ((j + 1 : Nat) : Int) * D = (j : Int) * D + D := by
      rw [Int.natCast_add, Int.add_mul]
      simp
    by_cases e : i = j
    · rw [e1, e]
      omega
    · have := ih (by omega)
      rw [e1]
      omega
/-- what is known of the value at place j -/
theorem sy_at {v d : Int32} {n : Nat} (h : sy_ok v d n) {j : Nat} (hj : j < n) : -1000000 ≤ (sy_w v d j).toInt ∧ (sy_w v d j).toInt ≤ 1000000 ∧ (d ≤ 0 → (sy_w v d j).toInt ≤ v.toInt) ∧ (¬ d ≤ 0 → v.toInt ≤ (sy_w v d j).toInt) ∧ (¬ d ≤ 0 → 0 < j → v.toInt < (sy_w v d j).toInt) := by
  obtain ⟨h1, h2, h3, h4, h5, h6⟩ := h
  rw [sy_wI h2 h3 h4 h5 (by omega)]
  refine ⟨(h6 j hj).1, (h6 j hj).2, fun z => ?_, fun z => ?_, fun z z0 => ?_⟩
  · have z' : d.toInt ≤ 0 := Int32.le_iff_toInt_le.mp z
    have := sy_mono d.toInt z' 0 j (by omega)
    simp at this
    omega
  · have z' : 0 < d.toInt := by
      have : ¬ d.toInt ≤ (0 : Int32).toInt := fun t => z (Int32.le_iff_toInt_le.mpr t)
      have e : (0 : Int32).toInt = 0 := by decide
      omega
    by_cases e : j = 0
    · subst e
      simp
    · have := sy_monp d.toInt z' 0 j (by omega)
      simp at this
      omega
  · have z' : 0 < d.toInt := by
      have : ¬ d.toInt ≤ (0 : Int32).toInt := fun t => z (Int32.le_iff_toInt_le.mpr t)
      have e : (0 : Int32).toInt = 0 := by decide
      omega
    have := sy_monp d.toInt z' 0 j (by omega)
    simp at this
    omega
/-- two places -/
theorem sy_at2 {v d : Int32} {n : Nat} (h : sy_ok v d n) {i j : Nat} (hij : i < j) (hj : j < n) : (d ≤ 0 → (sy_w v d j).toInt ≤ (sy_w v d i).toInt) ∧ (¬ d ≤ 0 → (sy_w v d i).toInt < (sy_w v d j).toInt) := by
  obtain ⟨h1, h2, h3, h4, h5, h6⟩ := h
  rw [sy_wI h2 h3 h4 h5 (show i ≤ 48 by omega), sy_wI h2 h3 h4 h5 (show j ≤ 48 by omega)]
  refine ⟨fun z => ?_, fun z => ?_⟩
  · have z' : d.toInt ≤ 0 := Int32.le_iff_toInt_le.mp z
    have := sy_mono d.toInt z' i j (by omega)
    omega
  · have z' : 0 < d.toInt := by
      have : ¬ d.toInt ≤ (0 : Int32).toInt := fun t => z (Int32.le_iff_toInt_le.mpr t)
      have e : (0 : Int32).toInt = 0 := by decide
      omega
    have := sy_monp d.toInt z' i j hij
    omega
theorem sy_w0 (v d : Int32) : sy_w v d 0 = v := by
  unfold sy_w
  rw [nI_0]
  grind
theorem sy_c1 : (-2000000 : Int32).toInt = -2000000 := by decide
theorem sy_c2 : (2000000 : Int32).toInt = 2000000 := by decide
theorem sy_hi0 (v d : Int32) : sy_hi v d 0 = -2000000 := rfl
theorem sy_lo0 (v d : Int32) : sy_lo v d 0 = 2000000 := rfl
theorem sy_hiS (v d : Int32) (n : Nat) : sy_hi v d (n + 1) = if d ≤ 0 then v else sy_w v d n := rfl
theorem sy_loS (v d : Int32) (n : Nat) : sy_lo v d (n + 1) = if d ≤ 0 then sy_w v d n else v := rfl
/-- a node above a chain of n -/
theorem sy_hi1 {v d : Int32} {n : Nat} (h : sy_ok v d (n + 1)) : sy_mx (sy_w v d n) (sy_mx (sy_hi v d n) (-2000000)) = sy_hi v d (n + 1) := by
  have hn := sy_at h (show n < n + 1 by omega)
  have h0 := h.2
  apply Int32.toInt_inj.mp
  rw [sy_mxI, sy_mxI, sy_c1, sy_hiS]
  cases n with
  | zero =>
    rw [sy_hi0, sy_c1, sy_w0]
    by_cases z : d ≤ 0
    · rw [if_pos z]; omega
    · rw [if_neg z]; omega
  | succ n =>
    have h2 := sy_at2 h (show n < n + 1 by omega) (show n + 1 < n + 1 + 1 by omega)
    have h3 := sy_at h (show n < n + 1 + 1 by omega)
    rw [sy_hiS]
    by_cases z : d ≤ 0
    · rw [if_pos z, if_pos z]
      have := hn.2.2.1 z
      omega
    · rw [if_neg z, if_neg z]
      have := h2.2 z
      omega
theorem sy_lo1 {v d : Int32} {n : Nat} (h : sy_ok v d (n + 1)) : sy_mn (sy_w v d n) (sy_mn (sy_lo v d n) 2000000) = sy_lo v d (n + 1) := by
  have hn := sy_at h (show n < n + 1 by omega)
  have h0 := h.2
  apply Int32.toInt_inj.mp
  rw [sy_mnI, sy_mnI, sy_c2, sy_loS]
  cases n with
  | zero =>
    rw [sy_lo0, sy_c2, sy_w0]
    by_cases z : d ≤ 0
    · rw [if_pos z]; omega
    · rw [if_neg z]; omega
  | succ n =>
    have h2 := sy_at2 h (show n < n + 1 by omega) (show n + 1 < n + 1 + 1 by omega)
    have h3 := sy_at h (show n < n + 1 + 1 by omega)
    rw [sy_loS]
    by_cases z : d ≤ 0
    · rw [if_pos z, if_pos z]
      have := h2.1 z
      omega
    · rw [if_neg z, if_neg z]
      have := hn.2.2.2.1 z
      omega
/-- a node above a chain of m, with one more node to its right -/
theorem sy_hi2 {v d : Int32} {m : Nat} (h : sy_ok v d (m + 2)) : sy_mx (sy_w v d m) (sy_mx (sy_hi v d m) (sy_w v d (m + 1))) = sy_hi v d (m + 2) := by
  have a0 := sy_at h (show m < m + 2 by omega)
  have a1 := sy_at h (show m + 1 < m + 2 by omega)
  have a2 := sy_at2 h (show m < m + 1 by omega) (show m + 1 < m + 2 by omega)
  have h0 := h.2
  apply Int32.toInt_inj.mp
  rw [sy_mxI, sy_mxI, sy_hiS]
  cases m with
  | zero =>
    rw [sy_hi0, sy_c1]
    rw [sy_w0] at a0 a2 ⊢
    by_cases z : d ≤ 0
    · rw [if_pos z]
      have := a2.1 z
      omega
    · rw [if_neg z]
      have := a2.2 z
      omega
  | succ n =>
    have b2 := sy_at2 h (show n < n + 1 by omega) (show n + 1 < n + 1 + 2 by omega)
    have b0 := sy_at h (show n < n + 1 + 2 by omega)
    rw [sy_hiS]
    by_cases z : d ≤ 0
    · rw [if_pos z, if_pos z]
      have := a0.2.2.1 z
      have := a1.2.2.1 z
      omega
    · rw [if_neg z, if_neg z]
      have := a2.2 z
      have := b2.2 z
      omega
theorem sy_lo2 {v d : Int32} {m : Nat} (h : sy_ok v d (m + 2)) : sy_mn (sy_w v d m) (sy_mn (sy_lo v d m) (sy_w v d (m + 1))) = sy_lo v d (m + 2) := by
  have a0 := sy_at h (show m < m + 2 by omega)
  have a1 := sy_at h (show m + 1 < m + 2 by omega)
  have a2 := sy_at2 h (show m < m + 1 by omega) (show m + 1 < m + 2 by omega)
  have h0 := h.2
  apply Int32.toInt_inj.mp
  rw [sy_mnI, sy_mnI, sy_loS]
  cases m with
  | zero =>
    rw [sy_lo0, sy_c2]
    rw [sy_w0] at a0 a2 ⊢
    by_cases z : d ≤ 0
    · rw [if_pos z]
      have := a2.1 z
      omega
    · rw [if_neg z]
      have := a2.2 z
      omega
  | succ n =>
    have b2 := sy_at2 h (show n < n + 1 by omega) (show n + 1 < n + 1 + 2 by omega)
    have b0 := sy_at h (show n < n + 1 + 2 by omega)
    rw [sy_loS]
    by_cases z : d ≤ 0
    · rw [if_pos z, if_pos z]
      have := a2.1 z
      have := b2.1 z
      omega
    · rw [if_neg z, if_neg z]
      have := a0.2.2.2.1 z
      have := a1.2.2.2.1 z
      omega
/-- a node alone -/
theorem sy_hif {v d : Int32} {n : Nat} (h : sy_ok v d (n + 1)) : sy_mx (sy_w v d n) (sy_mx (-2000000) (-2000000)) = sy_w v d n := by
  have hn := sy_at h (show n < n + 1 by omega)
  apply Int32.toInt_inj.mp
  rw [sy_mxI, sy_mxI, sy_c1]
  omega
theorem sy_lof {v d : Int32} {n : Nat} (h : sy_ok v d (n + 1)) : sy_mn (sy_w v d n) (sy_mn 2000000 2000000) = sy_w v d n := by
  have hn := sy_at h (show n < n + 1 by omega)
  apply Int32.toInt_inj.mp
  rw [sy_mnI, sy_mnI, sy_c2]
  omega
theorem sy_negI {x : Int32} (h1 : -2000000 ≤ x.toInt) (h2 : x.toInt ≤ 2000000) : (-x).toInt = -x.toInt := by
  rw [Int32.toInt_neg]
  exact sy_bm (by omega) (by omega)
/-- the greatest of the row turned round and negated is -v or more -/
theorem sy_hiR {v d : Int32} {m : Nat} (h : sy_ok v d (m + 2)) : ¬ sy_mx (-sy_w v d (m + 1)) (sy_mx (-2000000) (sy_mx (-sy_w v d m) (sy_mx (-2000000) (-sy_lo v d m)))) < -v := by
  have a0 := sy_at h (show m < m + 2 by omega)
  have a1 := sy_at h (show m + 1 < m + 2 by omega)
  have a2 := sy_at2 h (show m < m + 1 by omega) (show m + 1 < m + 2 by omega)
  have h0 := h.2
  intro hc
  have hc := Int32.lt_iff_toInt_lt.mp hc
  rw [sy_mxI, sy_mxI, sy_mxI, sy_mxI, sy_c1, sy_negI (by omega) (by omega), sy_negI (by omega) (by omega), sy_negI (x := v) (by omega) (by omega)] at hc
  cases m with
  | zero =>
    rw [sy_w0] at hc
    omega
  | succ n =>
    have b0 := sy_at h (show n < n + 1 + 2 by omega)
    rw [sy_loS] at hc
    by_cases z : d ≤ 0
    · have := a1.2.2.1 z
      omega
    · rw [if_neg z, sy_negI (x := v) (by omega) (by omega)] at hc
      omega
theorem sy_h2 (v d : Int32) (m : Nat) : sy_H v d m + (nI m + 1) * (sy_w v d m + sy_w v d (m + 1)) + sy_w v d (m + 1) = sy_H v d (m + 2) := by
  show _ = sy_H v d m + nI (m + 1) * sy_w v d m + nI (m + 1 + 1) * sy_w v d (m + 1)
  rw [nI_succ (m + 1), nI_succ m]
  grind
theorem sy_h1 (v d : Int32) (m : Nat) : sy_H v d m + (nI m + 1) * (sy_w v d m + 0) + 0 = sy_H v d (m + 1) := by
  show _ = sy_H v d m + nI (m + 1) * sy_w v d m
  rw [nI_succ m]
  grind
theorem sy_s1 (v d : Int32) (m : Nat) : sy_S v d m + sy_w v d m + 0 = sy_S v d (m + 1) := by
  show _ = sy_S v d m + sy_w v d m
  grind
theorem sy_s2 (v d : Int32) (m : Nat) : sy_S v d m + sy_w v d m + sy_w v d (m + 1) = sy_S v d (m + 2) := rfl
theorem sy_z1 (m : Nat) : nI m + 1 + 0 = nI (m + 1) := by
  rw [nI_succ m]
  grind
theorem sy_z2 (m : Nat) : nI m + 1 + 1 = nI (m + 2) := by
  rw [nI_succ (m + 1), nI_succ m]
/-! the law's own sums -/
def sy_t1 : Nat → Nat
  | 0 => 0
  | n + 1 => sy_t1 n + (n + 1)
def sy_t2 : Nat → Nat
  | 0 => 0
  | n + 1 => sy_t2 n + n
def sy_t3 : Nat → Nat
  | 0 => 0
  | n + 1 => sy_t3 n + (n + 1) * n
theorem sy_t1e : ∀ n, n < 49 → n * (n + 1) / 2 = sy_t1 n := by decide +kernel
theorem sy_t2e : ∀ n, n < 49 → n * (n - 1) / 2 = sy_t2 n := by decide +kernel
theorem sy_t3e : ∀ n, n < 49 → (n - 1) * n * (n + 1) / 3 = sy_t3 n := by decide +kernel
theorem sy_t3b : ∀ n, n < 49 → (n - 1) * n * (n + 1) < 2 ^ 31 := by decide +kernel
theorem sy_Se (v d : Int32) (n : Nat) : sy_S v d n = nI n * v + d * nI (sy_t2 n) := by
  induction n with
  | zero =>
    show (0 : Int32) = nI 0 * v + d * nI 0
    rw [nI_0]
    grind
  | succ n ih =>
    show sy_S v d n + (v + nI n * d) = nI (n + 1) * v + d * nI (sy_t2 n + n)
    rw [ih, nI_succ n, ← nI_add (sy_t2 n) n]
    grind
theorem sy_He (v d : Int32) (n : Nat) : sy_H v d n = v * nI (sy_t1 n) + d * nI (sy_t3 n) := by
  induction n with
  | zero =>
    show (0 : Int32) = v * nI 0 + d * nI 0
    rw [nI_0]
    grind
  | succ n ih =>
    show sy_H v d n + nI (n + 1) * (v + nI n * d) = v * nI (sy_t1 n + (n + 1)) + d * nI (sy_t3 n + (n + 1) * n)
    rw [ih, ← nI_add (sy_t1 n) (n + 1), ← nI_add (sy_t3 n) ((n + 1) * n), ← pk_mul (n + 1) n]
    grind
theorem sy_due (v d : Int32) {n : Nat} (h0 : 0 < n) (h : n < 49) : nI n * v + d * (nI n * (nI n - 1) / 2) = sy_S v d n := by
  have e : nI n - 1 = nI (n - 1) := by
    have := nI_pred (n - 1)
    rw [show n - 1 + 1 = n by omega] at this
    exact this
  have b : n * (n - 1) < 2 ^ 31 := by
    have : n * (n - 1) ≤ 48 * 48 := Nat.mul_le_mul (by omega) (by omega)
    omega
  have q : nI (n * (n - 1)) / 2 = nI (sy_t2 n) := by
    rw [← sy_t2e n h]
    exact pk_div b (by decide) (by decide)
  rw [e, pk_mul, q, sy_Se]
theorem sy_hvy (v d : Int32) {n : Nat} (h0 : 0 < n) (h : n < 49) : v * (nI n * (nI n + 1) / 2) + d * ((nI n - 1) * nI n * (nI n + 1) / 3) = sy_H v d n := by
  have e : nI n - 1 = nI (n - 1) := by
    have := nI_pred (n - 1)
    rw [show n - 1 + 1 = n by omega] at this
    exact this
  have b : n * (n + 1) < 2 ^ 31 := by
    have : n * (n + 1) ≤ 48 * 49 := Nat.mul_le_mul (by omega) (by omega)
    omega
  have q : nI (n * (n + 1)) / 2 = nI (sy_t1 n) := by
    rw [← sy_t1e n h]
    exact pk_div b (by decide) (by decide)
  have q3 : nI ((n - 1) * n * (n + 1)) / 3 = nI (sy_t3 n) := by
    rw [← sy_t3e n h]
    exact pk_div (sy_t3b n h) (by decide) (by decide)
  rw [e, nI_1, pk_mul, pk_mul, pk_mul, q, q3, sy_He]
end
section
/-! the methods without loops, each once: what they do to a state -/
def sy_q5 (a5 : Nat → Int32) (x l r : Nat) : Nat → Int32 := upd a5 x (a5 l + 1 + a5 r)
def sy_q6 (a4 a6 : Nat → Int32) (x l r : Nat) : Nat → Int32 := upd a6 x (a6 l + a4 x + a6 r)
def sy_q7 (a4 a5 a6 a7 : Nat → Int32) (x l r : Nat) : Nat → Int32 := upd a7 x (a7 l + (a5 l + 1) * (a4 x + a6 r) + a7 r)
def sy_q8 (a4 a8 : Nat → Int32) (x l r : Nat) : Nat → Int32 := upd a8 x (sy_mx (a4 x) (sy_mx (a8 l) (a8 r)))
def sy_q9 (a4 a9 : Nat → Int32) (x l r : Nat) : Nat → Int32 := upd a9 x (sy_mn (a4 x) (sy_mn (a9 l) (a9 r)))
theorem sy_q5s {a5 : Nat → Int32} {x l r : Nat} : sy_q5 a5 x l r x = a5 l + 1 + a5 r := pk_us
theorem sy_q6s {a4 a6 : Nat → Int32} {x l r : Nat} : sy_q6 a4 a6 x l r x = a6 l + a4 x + a6 r := pk_us
theorem sy_q7s {a4 a5 a6 a7 : Nat → Int32} {x l r : Nat} : sy_q7 a4 a5 a6 a7 x l r x = a7 l + (a5 l + 1) * (a4 x + a6 r) + a7 r := pk_us
theorem sy_q8s {a4 a8 : Nat → Int32} {x l r : Nat} : sy_q8 a4 a8 x l r x = sy_mx (a4 x) (sy_mx (a8 l) (a8 r)) := pk_us
theorem sy_q9s {a4 a9 : Nat → Int32} {x l r : Nat} : sy_q9 a4 a9 x l r x = sy_mn (a4 x) (sy_mn (a9 l) (a9 r)) := pk_us
theorem sy_q5n {a5 : Nat → Int32} {x l r j : Nat} (h : j ≠ x) : sy_q5 a5 x l r j = a5 j := pk_un h
theorem sy_q6n {a4 a6 : Nat → Int32} {x l r j : Nat} (h : j ≠ x) : sy_q6 a4 a6 x l r j = a6 j := pk_un h
theorem sy_q7n {a4 a5 a6 a7 : Nat → Int32} {x l r j : Nat} (h : j ≠ x) : sy_q7 a4 a5 a6 a7 x l r j = a7 j := pk_un h
theorem sy_q8n {a4 a8 : Nat → Int32} {x l r j : Nat} (h : j ≠ x) : sy_q8 a4 a8 x l r j = a8 j := pk_un h
theorem sy_q9n {a4 a9 : Nat → Int32} {x l r j : Nat} (h : j ≠ x) : sy_q9 a4 a9 x l r j = a9 j := pk_un h
theorem sy_v {x : Nat} (hx : x < 49) : vp_in (nI x) 49 := vp_in_nI hx (by decide)
theorem sy_v0 : vp_in 0 49 := sy_v (x := 0) (by omega)
theorem sy_c {x : Nat} (hx : x < 49) : (nI x).toNatClampNeg = x := nI_clamp (by omega)
theorem sy_n0 {x : Nat} (hx : x < 49) (h : x ≠ 0) : ¬ nI x = 0 := nI_ne0 (by omega) (by omega)
theorem sy_p191 {post : St2 → Prop} {row clip bf md bh : Int32} {a1 a2 a3 a4 a5 a6 a7 a8 a9 a10 a11 a12 a13 a14 a15 : Nat → Int32} {x : Nat} {z : Int32} (hx : x < 49) (H : post (row, clip, bf, md, bh, a1, a2, a3, a4, a5, a6, a7, a8, upd a9 x (sy_mn (a4 x) z), a10, a11, a12, a13, a14, a15)) : wX_pull_191 post (nI x) z row clip bf md bh a1 a2 a3 a4 a5 a6 a7 a8 a9 a10 a11 a12 a13 a14 a15 := by
  have vx := sy_v hx
  unfold wX_pull_191
  rw [sy_c hx]
  refine ⟨vx, br_c (fun h => ⟨vx, nm_e ?_⟩) (fun h => ⟨vx, vx, nm_e ?_⟩)⟩
  · rw [show sy_mn (a4 x) z = z from if_pos h] at H
    exact H
  · rw [show sy_mn (a4 x) z = a4 x from if_neg h] at H
    exact H
theorem sy_p160 {post : St2 → Prop} {row clip bf md bh : Int32} {a1 a2 a3 a4 a5 a6 a7 a8 a9 a10 a11 a12 a13 a14 a15 : Nat → Int32} {x l r : Nat} {z : Int32} (hx : x < 49) (hl : l < 49) (hr : r < 49) (H : post (row, clip, bf, md, bh, a1, a2, a3, a4, a5, a6, a7, upd a8 x z, upd a9 x (sy_mn (a4 x) (sy_mn (a9 l) (a9 r))), a10, a11, a12, a13, a14, a15)) : wX_pull_160 post (nI x) (nI l) (nI r) z (nI x) row clip bf md bh a1 a2 a3 a4 a5 a6 a7 a8 a9 a10 a11 a12 a13 a14 a15 := by
  have vx := sy_v hx
  have vl := sy_v hl
  have vr := sy_v hr
  unfold wX_pull_160
  rw [sy_c hx, sy_c hl, sy_c hr]
  refine ⟨vx, nm_e ⟨vl, vr, br_c (fun h => ⟨vr, sy_p191 hx ?_⟩) (fun h => ⟨vl, sy_p191 hx ?_⟩)⟩⟩
  · rw [show sy_mn (a9 l) (a9 r) = a9 r from if_pos h] at H
    exact H
  · rw [show sy_mn (a9 l) (a9 r) = a9 l from if_neg h] at H
    exact H
theorem sy_p131 {post : St2 → Prop} {row clip bf md bh : Int32} {a1 a2 a3 a4 a5 a6 a7 a8 a9 a10 a11 a12 a13 a14 a15 : Nat → Int32} {x l r : Nat} {z : Int32} (hx : x < 49) (hl : l < 49) (hr : r < 49) (H : post (row, clip, bf, md, bh, a1, a2, a3, a4, a5, a6, a7, upd a8 x (sy_mx (a4 x) z), upd a9 x (sy_mn (a4 x) (sy_mn (a9 l) (a9 r))), a10, a11, a12, a13, a14, a15)) : wX_pull_131 post (nI x) (nI l) (nI r) z row clip bf md bh a1 a2 a3 a4 a5 a6 a7 a8 a9 a10 a11 a12 a13 a14 a15 := by
  have vx := sy_v hx
  unfold wX_pull_131
  rw [sy_c hx]
  refine ⟨vx, br_c (fun h => sy_p160 hx hl hr ?_) (fun h => ⟨vx, sy_p160 hx hl hr ?_⟩)⟩
  · rw [show sy_mx (a4 x) z = z from if_pos h] at H
    exact H
  · rw [show sy_mx (a4 x) z = a4 x from if_neg h] at H
    exact H
theorem sy_pull {post : St2 → Prop} {row clip bf md bh : Int32} {a1 a2 a3 a4 a5 a6 a7 a8 a9 a10 a11 a12 a13 a14 a15 : Nat → Int32} {x l r : Nat} (hx : x < 49) (hl : l < 49) (hr : r < 49) (hxr : r ≠ x) (el : a1 x = nI l) (er : a2 x = nI r)
    (H : post (row, clip, bf, md, bh, a1, a2, a3, a4, sy_q5 a5 x l r, sy_q6 a4 a6 x l r, sy_q7 a4 a5 a6 a7 x l r, sy_q8 a4 a8 x l r, sy_q9 a4 a9 x l r, a10, a11, a12, a13, a14, a15)) : wpX_pull post (row, clip, bf, md, bh, a1, a2, a3, a4, a5, a6, a7, a8, a9, a10, a11, a12, a13, a14, a15) (nI x) := by
  have vx := sy_v hx
  have vl := sy_v hl
  have vr := sy_v hr
  unfold wpX_pull
  dsimp only
  rw [sy_c hx]
  refine ⟨vx, nm_r el ⟨vx, nm_r er ?_⟩⟩
  rw [sy_c hl, sy_c hr]
  refine ⟨vl, nm_e ⟨vr, vx, nm_e ⟨vl, vx, vr, vx, nm_e ⟨vl, vx, vr, vr, vx, nm_e ⟨vl, vr, br_c (fun h => ⟨vr, sy_p131 hx hl hr ?_⟩) (fun h => ⟨vl, sy_p131 hx hl hr ?_⟩)⟩⟩⟩⟩⟩
  · rw [pk_un hxr]
    unfold sy_q8 at H
    rw [show sy_mx (a8 l) (a8 r) = a8 r from if_pos h] at H
    exact H
  · rw [pk_un hxr]
    unfold sy_q8 at H
    rw [show sy_mx (a8 l) (a8 r) = a8 l from if_neg h] at H
    exact H
theorem sy_setR {post : St2 → Prop} {row clip bf md bh : Int32} {a1 a2 a3 a4 a5 a6 a7 a8 a9 a10 a11 a12 a13 a14 a15 : Nat → Int32} {x r : Nat} (hx : x < 49) (hr : r < 49) (H : post (row, clip, bf, md, bh, a1, upd a2 x (nI r), upd a3 r (nI x), a4, a5, a6, a7, a8, a9, a10, a11, a12, a13, a14, a15)) : wpX_setRight post (row, clip, bf, md, bh, a1, a2, a3, a4, a5, a6, a7, a8, a9, a10, a11, a12, a13, a14, a15) (nI x) (nI r) := by
  unfold wpX_setRight
  dsimp only
  rw [sy_c hx, sy_c hr]
  exact ⟨sy_v hx, nm_e ⟨sy_v hr, nm_e H⟩⟩
theorem sy_setL {post : St2 → Prop} {row clip bf md bh : Int32} {a1 a2 a3 a4 a5 a6 a7 a8 a9 a10 a11 a12 a13 a14 a15 : Nat → Int32} {x r : Nat} (hx : x < 49) (hr : r < 49) (H : post (row, clip, bf, md, bh, upd a1 x (nI r), a2, upd a3 r (nI x), a4, a5, a6, a7, a8, a9, a10, a11, a12, a13, a14, a15)) : wpX_setLeft post (row, clip, bf, md, bh, a1, a2, a3, a4, a5, a6, a7, a8, a9, a10, a11, a12, a13, a14, a15) (nI x) (nI r) := by
  unfold wpX_setLeft
  dsimp only
  rw [sy_c hx, sy_c hr]
  exact ⟨sy_v hx, nm_e ⟨sy_v hr, nm_e H⟩⟩
def sy_tg (b : Int32) : Int32 := if b = 0 then 1 else 0
theorem sy_tg0 : sy_tg 0 = 1 := rfl
theorem sy_turnU {post : St2 → Prop} {row clip bf md bh : Int32} {a1 a2 a3 a4 a5 a6 a7 a8 a9 a10 a11 a12 a13 a14 a15 : Nat → Int32} {x : Nat} (hx : x < 49) (h0 : x ≠ 0) (H : post (row, clip, bf, md, bh, upd a1 x (a2 x), upd a2 x (a1 x), a3, a4, a5, a6, upd a7 x ((a5 x + 1) * a6 x - a7 x), a8, a9, upd a10 x (sy_tg (a10 x)), a11, a12, a13, a14, a15)) : wpX_turnAll post (row, clip, bf, md, bh, a1, a2, a3, a4, a5, a6, a7, a8, a9, a10, a11, a12, a13, a14, a15) (nI x) := by
  have vx := sy_v hx
  unfold wpX_turnAll
  dsimp only
  rw [sy_c hx]
  refine br_f (sy_n0 hx h0) ⟨vx, nm_e ⟨vx, vx, nm_e ⟨vx, nm_e ⟨vx, vx, vx, vx, nm_e ⟨vx, br_c (fun h => ⟨vx, nm_e ?_⟩) (fun h => ⟨vx, nm_e ?_⟩)⟩⟩⟩⟩⟩
  · rw [show sy_tg (a10 x) = 1 from if_pos h] at H
    exact H
  · rw [show sy_tg (a10 x) = 0 from if_neg h] at H
    exact H
theorem sy_negU {post : St2 → Prop} {row clip bf md bh : Int32} {a1 a2 a3 a4 a5 a6 a7 a8 a9 a10 a11 a12 a13 a14 a15 : Nat → Int32} {x : Nat} (hx : x < 49) (h0 : x ≠ 0) (H : post (row, clip, bf, md, bh, a1, a2, a3, upd a4 x (-a4 x), a5, upd a6 x (-a6 x), upd a7 x (-a7 x), upd a8 x (-a9 x), upd a9 x (-a8 x), a10, upd a11 x (sy_tg (a11 x)), upd a12 x (-a12 x), a13, a14, a15)) : wpX_negateAll post (row, clip, bf, md, bh, a1, a2, a3, a4, a5, a6, a7, a8, a9, a10, a11, a12, a13, a14, a15) (nI x) := by
  have vx := sy_v hx
  unfold wpX_negateAll
  dsimp only
  rw [sy_c hx]
  refine br_f (sy_n0 hx h0) ⟨vx, vx, nm_e ⟨vx, vx, nm_e ⟨vx, vx, nm_e ⟨vx, nm_e ⟨vx, vx, nm_e ⟨vx, nm_e ⟨vx, vx, nm_e ⟨vx, br_c (fun h => ⟨vx, nm_e ?_⟩) (fun h => ⟨vx, nm_e ?_⟩)⟩⟩⟩⟩⟩⟩⟩⟩
  · rw [show sy_tg (a11 x) = 1 from if_pos h] at H
    exact H
  · rw [show sy_tg (a11 x) = 0 from if_neg h] at H
    exact H
theorem sy_turn0 {post : St2 → Prop} {row clip bf md bh : Int32} {a1 a2 a3 a4 a5 a6 a7 a8 a9 a10 a11 a12 a13 a14 a15 : Nat → Int32} (H : post (row, clip, bf, md, bh, a1, a2, a3, a4, a5, a6, a7, a8, a9, a10, a11, a12, a13, a14, a15)) : wpX_turnAll post (row, clip, bf, md, bh, a1, a2, a3, a4, a5, a6, a7, a8, a9, a10, a11, a12, a13, a14, a15) 0 := br_t rfl H
theorem sy_neg0 {post : St2 → Prop} {row clip bf md bh : Int32} {a1 a2 a3 a4 a5 a6 a7 a8 a9 a10 a11 a12 a13 a14 a15 : Nat → Int32} (H : post (row, clip, bf, md, bh, a1, a2, a3, a4, a5, a6, a7, a8, a9, a10, a11, a12, a13, a14, a15)) : wpX_negateAll post (row, clip, bf, md, bh, a1, a2, a3, a4, a5, a6, a7, a8, a9, a10, a11, a12, a13, a14, a15) 0 := br_t rfl H
/-! changed unless the node is 0 -/
def sy_cu (f : Nat → Int32) (x : Nat) (y : Int32) : Nat → Int32 := if x = 0 then f else upd f x y
theorem sy_turn {post : St2 → Prop} {row clip bf md bh : Int32} {a1 a2 a3 a4 a5 a6 a7 a8 a9 a10 a11 a12 a13 a14 a15 : Nat → Int32} {x : Nat} (hx : x < 49) (H : post (row, clip, bf, md, bh, sy_cu a1 x (a2 x), sy_cu a2 x (a1 x), a3, a4, a5, a6, sy_cu a7 x ((a5 x + 1) * a6 x - a7 x), a8, a9, sy_cu a10 x (sy_tg (a10 x)), a11, a12, a13, a14, a15)) : wpX_turnAll post (row, clip, bf, md, bh, a1, a2, a3, a4, a5, a6, a7, a8, a9, a10, a11, a12, a13, a14, a15) (nI x) := by
  by_cases h0 : x = 0
  · subst h0
    exact sy_turn0 H
  · have e : ∀ f y, sy_cu f x y = upd f x y := fun f y => if_neg h0
    rw [e, e, e, e] at H
    exact sy_turnU hx h0 H
theorem sy_neg {post : St2 → Prop} {row clip bf md bh : Int32} {a1 a2 a3 a4 a5 a6 a7 a8 a9 a10 a11 a12 a13 a14 a15 : Nat → Int32} {x : Nat} (hx : x < 49) (H : post (row, clip, bf, md, bh, a1, a2, a3, sy_cu a4 x (-a4 x), a5, sy_cu a6 x (-a6 x), sy_cu a7 x (-a7 x), sy_cu a8 x (-a9 x), sy_cu a9 x (-a8 x), a10, sy_cu a11 x (sy_tg (a11 x)), sy_cu a12 x (-a12 x), a13, a14, a15)) : wpX_negateAll post (row, clip, bf, md, bh, a1, a2, a3, a4, a5, a6, a7, a8, a9, a10, a11, a12, a13, a14, a15) (nI x) := by
  by_cases h0 : x = 0
  · subst h0
    exact sy_neg0 H
  · have e : ∀ f y, sy_cu f x y = upd f x y := fun f y => if_neg h0
    rw [e, e, e, e, e, e, e] at H
    exact sy_negU hx h0 H
def sy_2 (f : Nat → Int32) (l r : Nat) (g : Nat → Int32) : Nat → Int32 := fun j => if j ≠ 0 ∧ (j = l ∨ j = r) then g j else f j
theorem sy_2n {f g : Nat → Int32} {l r j : Nat} (h1 : j ≠ l) (h2 : j ≠ r) : sy_2 f l r g j = f j := if_neg (fun z => z.2.elim h1 h2)
theorem sy_2z {f g : Nat → Int32} {l r : Nat} : sy_2 f l r g 0 = f 0 := if_neg (fun z => z.1 rfl)
theorem sy_2l {f g : Nat → Int32} {l r : Nat} (h : l ≠ 0) : sy_2 f l r g l = g l := if_pos ⟨h, Or.inl rfl⟩
theorem sy_2r {f g : Nat → Int32} {l r : Nat} (h : r ≠ 0) : sy_2 f l r g r = g r := if_pos ⟨h, Or.inr rfl⟩
theorem sy_20 {f g : Nat → Int32} : sy_2 f 0 0 g = f := by
  funext j
  exact if_neg (fun z => z.2.elim z.1 z.1)
theorem sy_cun {f : Nat → Int32} {l r : Nat} {y : Int32} (h : l ≠ r ∨ l = 0) : sy_cu f l y r = f r := by
  unfold sy_cu
  by_cases h0 : l = 0
  · rw [if_pos h0]
  · rw [if_neg h0]
    rcases h with h | h
    · exact pk_un (fun z => h z.symm)
    · exact absurd h h0
theorem sy_cu2 {f g : Nat → Int32} {l r : Nat} {y z : Int32} (h : l ≠ r ∨ l = 0) (hy : y = g l) (hz : z = g r) : sy_cu (sy_cu f l y) r z = sy_2 f l r g := by
  subst hy
  subst hz
  funext j
  unfold sy_cu sy_2
  by_cases hl : l = 0
  · by_cases hr : r = 0
    · rw [if_pos hr, if_pos hl, if_neg (by omega)]
    · rw [if_neg hr, if_pos hl]
      by_cases e : j = r
      · rw [e, pk_us, if_pos ⟨hr, Or.inr rfl⟩]
      · rw [pk_un e, if_neg (by omega)]
  · by_cases hr : r = 0
    · rw [if_pos hr, if_neg hl]
      by_cases e : j = l
      · rw [e, pk_us, if_pos ⟨hl, Or.inl rfl⟩]
      · rw [pk_un e, if_neg (by omega)]
    · rw [if_neg hr, if_neg hl]
      by_cases e : j = r
      · rw [e, pk_us, if_pos ⟨hr, Or.inr rfl⟩]
      · rw [pk_un e]
        by_cases e2 : j = l
        · rw [e2, pk_us, if_pos ⟨hl, Or.inl rfl⟩]
        · rw [pk_un e2, if_neg (by omega)]
/-- push where nothing is to be done -/
theorem sy_push0 {post : St2 → Prop} {row clip bf md bh : Int32} {a1 a2 a3 a4 a5 a6 a7 a8 a9 a10 a11 a12 a13 a14 a15 : Nat → Int32} {x : Nat} (hx : x < 49) (e10 : a10 x = 0) (e11 : a11 x = 0) (e12 : a12 x = 0) (H : post (row, clip, bf, md, bh, a1, a2, a3, a4, a5, a6, a7, a8, a9, a10, a11, a12, a13, a14, a15)) : wpX_push post (row, clip, bf, md, bh, a1, a2, a3, a4, a5, a6, a7, a8, a9, a10, a11, a12, a13, a14, a15) (nI x) := by
  have vx := sy_v hx
  unfold wpX_push
  dsimp only
  rw [sy_c hx]
  refine ⟨vx, nm_e ⟨vx, nm_e ⟨vx, br_t e10 ?_⟩⟩⟩
  unfold wX_push_40
  rw [sy_c hx]
  refine ⟨vx, br_t e11 ?_⟩
  unfold wX_push_66
  rw [sy_c hx]
  exact ⟨vx, br_t e12 H⟩
/-- push of a turn and a change of signs -/
theorem sy_push1 {post : St2 → Prop} {row clip bf md bh : Int32} {a1 a2 a3 a4 a5 a6 a7 a8 a9 a10 a11 a12 a13 a14 a15 : Nat → Int32} {x l r : Nat} (hx : x < 49) (hl : l < 49) (hr : r < 49) (hlx : l ≠ x) (hrx : r ≠ x) (hlr : l ≠ r ∨ l = 0) (el : a1 x = nI l) (er : a2 x = nI r) (e10 : a10 x = 1) (e11 : a11 x = 1) (e12 : a12 x = 0)
    (H : ∀ b7 b9 : Nat → Int32, post (row, clip, bf, md, bh, sy_2 a1 l r a2, sy_2 a2 l r a1, a3, sy_2 a4 l r (fun j => -a4 j), a5, sy_2 a6 l r (fun j => -a6 j), b7, sy_2 a8 l r (fun j => -a9 j), b9, upd (sy_2 a10 l r (fun j => sy_tg (a10 j))) x 0, upd (sy_2 a11 l r (fun j => sy_tg (a11 j))) x 0, sy_2 a12 l r (fun j => -a12 j), a13, a14, a15)) : wpX_push post (row, clip, bf, md, bh, a1, a2, a3, a4, a5, a6, a7, a8, a9, a10, a11, a12, a13, a14, a15) (nI x) := by
  have vx := sy_v hx
  unfold wpX_push
  dsimp only
  rw [sy_c hx]
  refine ⟨vx, nm_r el ⟨vx, nm_r er ⟨vx, br_f (by rw [e10]; decide) (sy_turn hl ?_)⟩⟩⟩
  dsimp only
  refine sy_turn hr ?_
  dsimp only
  refine ⟨vx, nm_e ?_⟩
  unfold wX_push_40
  rw [sy_c hx]
  refine ⟨vx, br_f (by rw [e11]; decide) (sy_neg hl ?_)⟩
  dsimp only
  refine sy_neg hr ?_
  dsimp only
  refine ⟨vx, nm_e ?_⟩
  unfold wX_push_66
  rw [sy_c hx]
  have f1 : sy_cu (sy_cu a1 l (a2 l)) r (sy_cu a2 l (a1 l) r) = sy_2 a1 l r a2 := sy_cu2 hlr rfl (sy_cun hlr)
  have f2 : sy_cu (sy_cu a2 l (a1 l)) r (sy_cu a1 l (a2 l) r) = sy_2 a2 l r a1 := sy_cu2 hlr rfl (sy_cun hlr)
  have f4 : sy_cu (sy_cu a4 l (-a4 l)) r (-(sy_cu a4 l (-a4 l) r)) = sy_2 a4 l r (fun j => -a4 j) := sy_cu2 hlr rfl (by rw [sy_cun hlr])
  have f6 : sy_cu (sy_cu a6 l (-a6 l)) r (-(sy_cu a6 l (-a6 l) r)) = sy_2 a6 l r (fun j => -a6 j) := sy_cu2 hlr rfl (by rw [sy_cun hlr])
  have f8 : sy_cu (sy_cu a8 l (-a9 l)) r (-(sy_cu a9 l (-a8 l) r)) = sy_2 a8 l r (fun j => -a9 j) := sy_cu2 hlr rfl (by rw [sy_cun hlr])
  have f10 : sy_cu (sy_cu a10 l (sy_tg (a10 l))) r (sy_tg (sy_cu a10 l (sy_tg (a10 l)) r)) = sy_2 a10 l r (fun j => sy_tg (a10 j)) := sy_cu2 hlr rfl (by rw [sy_cun hlr])
  have f11 : sy_cu (sy_cu a11 l (sy_tg (a11 l))) r (sy_tg (sy_cu a11 l (sy_tg (a11 l)) r)) = sy_2 a11 l r (fun j => sy_tg (a11 j)) := sy_cu2 hlr rfl (by rw [sy_cun hlr])
  have f12 : sy_cu (sy_cu a12 l (-a12 l)) r (-(sy_cu a12 l (-a12 l) r)) = sy_2 a12 l r (fun j => -a12 j) := sy_cu2 hlr rfl (by rw [sy_cun hlr])
  rw [f1, f2, f4, f6, f8, f10, f11, f12]
  refine ⟨vx, br_t ?_ (H _ _)⟩
  rw [sy_2n (fun z => hlx z.symm) (fun z => hrx z.symm)]
  exact e12
/-- lift's end, the node above being a top -/
theorem sy_l63 {post : St2 → Prop} {row clip bf md bh : Int32} {a1 a2 a3 a4 a5 a6 a7 a8 a9 a10 a11 a12 a13 a14 a15 : Nat → Int32} {x p lp rp lx rx : Nat} (hx : x < 49) (hp : p < 49) (hlp : lp < 49) (hrp : rp < 49) (hlx : lx < 49) (hrx : rx < 49) (h1 : rp ≠ p) (h2 : rx ≠ x)
    (e1 : a1 p = nI lp) (e2 : a2 p = nI rp) (e3 : a1 x = nI lx) (e4 : a2 x = nI rx)
    (H : post (row, clip, bf, md, bh, a1, a2, upd (upd (upd a3 p (nI x)) x 0) 0 0, a4, sy_q5 (sy_q5 a5 p lp rp) x lx rx, sy_q6 a4 (sy_q6 a4 a6 p lp rp) x lx rx, sy_q7 a4 (sy_q5 a5 p lp rp) (sy_q6 a4 a6 p lp rp) (sy_q7 a4 a5 a6 a7 p lp rp) x lx rx, sy_q8 a4 (sy_q8 a4 a8 p lp rp) x lx rx, sy_q9 a4 (sy_q9 a4 a9 p lp rp) x lx rx, a10, a11, a12, a13, a14, a15)) : wX_lift_63 post (nI x) (nI p) 0 row clip bf md bh a1 a2 a3 a4 a5 a6 a7 a8 a9 a10 a11 a12 a13 a14 a15 := by
  unfold wX_lift_63
  rw [sy_c hx, sy_c hp]
  refine ⟨sy_v hp, nm_e ⟨sy_v hx, nm_e (br_t rfl ?_)⟩⟩
  unfold wX_lift_108
  refine nm_e (sy_pull hp hlp hrp h1 e1 e2 ?_)
  dsimp only
  refine sy_pull hx hlx hrx h2 e3 e4 ?_
  exact H
/-- lift of a right child without children, the node above being a top -/
theorem sy_liftR {post : St2 → Prop} {row clip bf md bh : Int32} {a1 a2 a3 a4 a5 a6 a7 a8 a9 a10 a11 a12 a13 a14 a15 : Nat → Int32} {x p l : Nat} (hx : x < 49) (hp : p < 49) (hl : l < 49) (hxp : x ≠ p) (hp0 : p ≠ 0) (hx0 : x ≠ 0) (hlx : l ≠ x) (u1 : a3 x = nI p) (u2 : a3 p = 0) (e1 : a1 p = nI l) (e3 : a1 x = 0) (e4 : a2 x = 0)
    (H : post (row, clip, bf, md, bh, upd a1 x (nI p), upd a2 p 0, upd (upd (upd (upd a3 0 (nI p)) p (nI x)) x 0) 0 0, a4, sy_q5 (sy_q5 a5 p l 0) x p 0, sy_q6 a4 (sy_q6 a4 a6 p l 0) x p 0, sy_q7 a4 (sy_q5 a5 p l 0) (sy_q6 a4 a6 p l 0) (sy_q7 a4 a5 a6 a7 p l 0) x p 0, sy_q8 a4 (sy_q8 a4 a8 p l 0) x p 0, sy_q9 a4 (sy_q9 a4 a9 p l 0) x p 0, a10, a11, a12, a13, a14, a15)) : wpX_lift post (row, clip, bf, md, bh, a1, a2, a3, a4, a5, a6, a7, a8, a9, a10, a11, a12, a13, a14, a15) (nI x) := by
  unfold wpX_lift
  dsimp only
  rw [sy_c hx]
  refine ⟨sy_v hx, nm_r u1 ?_⟩
  rw [sy_c hp]
  refine ⟨sy_v hp, nm_r u2 ⟨sy_v hp, br_f ?_ ⟨sy_v hx, ?_⟩⟩⟩
  · rw [e1]
    exact fun z => hlx ((nI_eq (by omega) (by omega)).mp z)
  · rw [e3]
    refine sy_setR (r := 0) hp (by omega) ?_
    dsimp only
    refine ⟨sy_v hx, nm_e (sy_l63 (lp := l) (rp := 0) (lx := p) (rx := 0) hx hp hl (by omega) hp (by omega) (fun z => hp0 z.symm) (fun z => hx0 z.symm) ?_ pk_us pk_us ?_ H)⟩
    · rw [pk_un (fun z => hxp z.symm)]
      exact e1
    · rw [pk_un hxp]
      exact e4
/-- lift of a left child without children, the node above being a top -/
theorem sy_liftL {post : St2 → Prop} {row clip bf md bh : Int32} {a1 a2 a3 a4 a5 a6 a7 a8 a9 a10 a11 a12 a13 a14 a15 : Nat → Int32} {x p r : Nat} (hx : x < 49) (hp : p < 49) (hr : r < 49) (hxp : x ≠ p) (hx0 : x ≠ 0) (hrp : r ≠ p) (u1 : a3 x = nI p) (u2 : a3 p = 0) (e1 : a1 p = nI x) (e2 : a2 p = nI r) (e3 : a1 x = 0) (e4 : a2 x = 0)
    (H : post (row, clip, bf, md, bh, upd a1 p 0, upd a2 x (nI p), upd (upd (upd (upd a3 0 (nI p)) p (nI x)) x 0) 0 0, a4, sy_q5 (sy_q5 a5 p 0 r) x 0 p, sy_q6 a4 (sy_q6 a4 a6 p 0 r) x 0 p, sy_q7 a4 (sy_q5 a5 p 0 r) (sy_q6 a4 a6 p 0 r) (sy_q7 a4 a5 a6 a7 p 0 r) x 0 p, sy_q8 a4 (sy_q8 a4 a8 p 0 r) x 0 p, sy_q9 a4 (sy_q9 a4 a9 p 0 r) x 0 p, a10, a11, a12, a13, a14, a15)) : wpX_lift post (row, clip, bf, md, bh, a1, a2, a3, a4, a5, a6, a7, a8, a9, a10, a11, a12, a13, a14, a15) (nI x) := by
  unfold wpX_lift
  dsimp only
  rw [sy_c hx]
  refine ⟨sy_v hx, nm_r u1 ?_⟩
  rw [sy_c hp]
  refine ⟨sy_v hp, nm_r u2 ⟨sy_v hp, br_t e1 ⟨sy_v hx, ?_⟩⟩⟩
  rw [e4]
  refine sy_setL (r := 0) hp (by omega) ?_
  dsimp only
  refine ⟨sy_v hx, nm_e (sy_l63 (lp := 0) (rp := r) (lx := 0) (rx := p) hx hp (by omega) hr (by omega) hp hrp (fun z => hxp z.symm) pk_us ?_ ?_ pk_us H)⟩
  · rw [pk_un (fun z => hxp z.symm)]
    exact e2
  · rw [pk_un hxp]
    exact e3
end
section
/-! splay, bring, make, part, join, the two ends of a stretch: the roads that the law takes -/
theorem sy_sp0 {post : St2 → Prop} {row clip bf md bh : Int32} {a1 a2 a3 a4 a5 a6 a7 a8 a9 a10 a11 a12 a13 a14 a15 : Nat → Int32} {x f : Nat} {c : Int32} (hx : x < 49) (u : a3 x = 0) (H : post (row, clip, bf, md, bh, a1, a2, a3, a4, a5, a6, a7, a8, a9, a10, a11, a12, a13, a14, a15)) : wX_splay_2 post (nI x) (f + 1) c row clip bf md bh a1 a2 a3 a4 a5 a6 a7 a8 a9 a10 a11 a12 a13 a14 a15 := by
  refine br_c (fun _ => H) (fun _ => ⟨sy_v hx, br_t ?_ H⟩)
  rw [sy_c hx]
  exact u
theorem sy_splay0 {post : St2 → Prop} {row clip bf md bh : Int32} {a1 a2 a3 a4 a5 a6 a7 a8 a9 a10 a11 a12 a13 a14 a15 : Nat → Int32} {x : Nat} (hx : x < 49) (u : a3 x = 0) (H : post (row, clip, bf, md, bh, a1, a2, a3, a4, a5, a6, a7, a8, a9, a10, a11, a12, a13, a14, a15)) : wpX_splay post (row, clip, bf, md, bh, a1, a2, a3, a4, a5, a6, a7, a8, a9, a10, a11, a12, a13, a14, a15) (nI x) := by
  unfold wpX_splay
  dsimp only
  exact ⟨0 + 1, sy_sp0 hx u H⟩
theorem sy_splay1 {post : St2 → Prop} {row clip bf md bh : Int32} {a1 a2 a3 a4 a5 a6 a7 a8 a9 a10 a11 a12 a13 a14 a15 : Nat → Int32} {b1 b2 b3 b4 b5 b6 b7 b8 b9 b10 b11 b12 b13 b14 b15 : Nat → Int32} {x p : Nat} (hx : x < 49) (hp : p < 49) (hp0 : p ≠ 0) (u1 : a3 x = nI p) (u2 : a3 p = 0)
    (hL : ∀ Q : St2 → Prop, Q (row, clip, bf, md, bh, b1, b2, b3, b4, b5, b6, b7, b8, b9, b10, b11, b12, b13, b14, b15) → wpX_lift Q (row, clip, bf, md, bh, a1, a2, a3, a4, a5, a6, a7, a8, a9, a10, a11, a12, a13, a14, a15) (nI x)) (hb : b3 x = 0) (H : post (row, clip, bf, md, bh, b1, b2, b3, b4, b5, b6, b7, b8, b9, b10, b11, b12, b13, b14, b15)) : wpX_splay post (row, clip, bf, md, bh, a1, a2, a3, a4, a5, a6, a7, a8, a9, a10, a11, a12, a13, a14, a15) (nI x) := by
  unfold wpX_splay
  dsimp only
  refine ⟨0 + 1 + 1, br_f (by decide) ⟨sy_v hx, br_f ?_ ⟨sy_v hx, nm_r (e' := nI p) ?_ ⟨sy_v hp, nm_r (e' := 0) ?_ (br_t rfl ?_)⟩⟩⟩⟩
  · rw [sy_c hx, u1]
    exact sy_n0 hp hp0
  · rw [sy_c hx]
    exact u1
  · rw [sy_c hp]
    exact u2
  · unfold wX_splay_92
    refine hL _ ?_
    dsimp only
    exact nm_e (sy_sp0 hx hb H)
/-- bring, once it is at its node -/
theorem sy_stay {post : Int32 → St2 → Prop} {row clip bf md bh : Int32} {a1 a2 a3 a4 a5 a6 a7 a8 a9 a10 a11 a12 a13 a14 a15 : Nat → Int32} {b1 b2 b3 b4 b5 b6 b7 b8 b9 b10 b11 b12 b13 b14 b15 : Nat → Int32} {x : Nat} (hx : x < 49) (e1 : a1 x = 0) (e5 : a5 0 = 0) (e10 : a10 x = 0) (e11 : a11 x = 0) (e12 : a12 x = 0)
    (hS : ∀ Q : St2 → Prop, Q (row, clip, bf, md, bh, b1, b2, b3, b4, b5, b6, b7, b8, b9, b10, b11, b12, b13, b14, b15) → wpX_splay Q (row, clip, bf, md, bh, a1, a2, a3, a4, a5, a6, a7, a8, a9, a10, a11, a12, a13, a14, a15) (nI x)) (H : post (nI x) (row, clip, bf, md, bh, b1, b2, b3, b4, b5, b6, b7, b8, b9, b10, b11, b12, b13, b14, b15)) : ∀ f i : Nat, i ≤ 48 → 48 - i < f → wX_bring_8 post f (nI x) 0 (nI i) row clip bf md bh a1 a2 a3 a4 a5 a6 a7 a8 a9 a10 a11 a12 a13 a14 a15 := by
  intro f
  induction f with
  | zero => intro i h1 h2; omega
  | succ f ih =>
    intro i h1 h2
    by_cases e : i = 48
    · subst e
      refine br_t (by decide) (hS _ ?_)
      exact H
    · refine br_f (nI_ge (b := 48) (by omega) (by decide)) (sy_push0 hx e10 e11 e12 ?_)
      dsimp only
      rw [sy_c hx, e1, sb_cl0, e5]
      exact ⟨sy_v hx, sy_v0, nm_e (br_t (by decide) (br_t (by decide) (nm_r (nI_1 i) (ih (i + 1) (by omega) (by omega)))))⟩
theorem sy_make {post : Int32 → St2 → Prop} {row clip bf md bh : Int32} {a1 a2 a3 a4 a5 a6 a7 a8 a9 a10 a11 a12 a13 a14 a15 : Nat → Int32} {n : Nat} {v : Int32} (hn : n < 48) (us1 : ∀ j, 1 ≤ j → j ≤ n → ¬ a13 j = 0) (us2 : ∀ j, n < j → j ≤ 48 → a13 j = 0)
    (H : post (nI (n + 1)) (row, clip, bf, md, bh, upd a1 (n + 1) 0, upd a2 (n + 1) 0, upd a3 (n + 1) 0, upd a4 (n + 1) v, sy_q5 a5 (n + 1) 0 0, sy_q6 (upd a4 (n + 1) v) a6 (n + 1) 0 0, sy_q7 (upd a4 (n + 1) v) a5 a6 a7 (n + 1) 0 0, sy_q8 (upd a4 (n + 1) v) a8 (n + 1) 0 0, sy_q9 (upd a4 (n + 1) v) a9 (n + 1) 0 0, upd a10 (n + 1) 0, upd a11 (n + 1) 0, upd a12 (n + 1) 0, upd a13 (n + 1) 1, a14, a15)) : wpX_make post (row, clip, bf, md, bh, a1, a2, a3, a4, a5, a6, a7, a8, a9, a10, a11, a12, a13, a14, a15) v := by
  have hx : n + 1 < 49 := by omega
  have vx := sy_v hx
  have key : ∀ f i : Nat, i ≤ 48 → i < f → wX_make_5 post v row clip bf md bh a1 a2 a3 a4 a5 a6 a7 a8 a9 a10 a11 a12 a13 a14 a15 f (nI (if i = 48 then 1 else max (i + 1) (n + 1))) (nI i) := by
    intro f
    induction f with
    | zero => intro i h1 h2; omega
    | succ f ih =>
      intro i h1 h2
      cases i with
      | zero =>
        rw [show (if (0 : Nat) = 48 then 1 else max (0 + 1) (n + 1)) = n + 1 by rw [if_neg (by omega)]; omega]
        refine br_t (by decide) ?_
        rw [sy_c hx]
        refine ⟨vx, nm_e ⟨vx, nm_e ⟨vx, nm_e ⟨vx, nm_e ⟨vx, nm_e ⟨vx, nm_e ⟨vx, nm_e ⟨vx, nm_e ?_⟩⟩⟩⟩⟩⟩⟩⟩
        refine sy_pull (l := 0) (r := 0) hx (by omega) (by omega) (by omega) pk_us pk_us ?_
        exact H
      | succ i =>
        have hi := ih i (by omega) (by omega)
        have hi1 : i + 1 < 49 := by omega
        refine br_f (nI_nle (by omega) (by omega)) ⟨sy_v hi1, ?_⟩
        rw [sy_c hi1]
        by_cases hu : i + 1 ≤ n
        · refine br_f (us1 _ (by omega) hu) (nm_r (pk_m1 i) ?_)
          rw [show (if i + 1 = 48 then 1 else max (i + 1 + 1) (n + 1)) = (if i = 48 then 1 else max (i + 1) (n + 1)) by rw [if_neg (by omega), if_neg (by omega)]; omega]
          exact hi
        · refine br_t (us2 _ (by omega) (by omega)) (nm_r (pk_m1 i) ?_)
          rw [show (if i = 48 then 1 else max (i + 1) (n + 1)) = i + 1 by rw [if_neg (by omega)]; omega] at hi
          exact hi
  have k := key 50 48 (by omega) (by omega)
  rw [if_pos rfl] at k
  unfold wpX_make
  dsimp only
  exact ⟨50, k⟩
theorem sy_bad0 {post : Int32 → Prop} {clip bf md bh : Int32} {a1 a2 a3 a4 a5 a6 a7 a8 a9 a10 a11 a12 a13 a14 a15 : Nat → Int32} {x n : Nat} (hx : x < 49) (hn : n < 2 ^ 31) (e : a5 x = nI n) (H : post 0) : wpX_bad post (nI x, clip, bf, md, bh, a1, a2, a3, a4, a5, a6, a7, a8, a9, a10, a11, a12, a13, a14, a15) 0 (nI n) := by
  unfold wpX_bad
  dsimp only
  rw [sy_c hx, e]
  exact br_f (by decide) (br_f (nI_pos hn) ⟨sy_v hx, br_t (nI_le (Nat.le_refl n) hn) H⟩)
theorem sy_bad1 {post : Int32 → Prop} {clip bf md bh : Int32} {a1 a2 a3 a4 a5 a6 a7 a8 a9 a10 a11 a12 a13 a14 a15 : Nat → Int32} {x : Nat} {k : Int32} (hx : x < 49) (h : k < 0 ∨ ¬ k ≤ a5 x) (H : post 1) : wpX_bad post (nI x, clip, bf, md, bh, a1, a2, a3, a4, a5, a6, a7, a8, a9, a10, a11, a12, a13, a14, a15) 0 k := by
  unfold wpX_bad
  dsimp only
  rw [sy_c hx]
  refine br_f (by decide) (br_c (fun _ => H) (fun z => ⟨sy_v hx, br_f ?_ H⟩))
  rcases h with h | h
  · exact absurd h z
  · exact h
theorem sy_part0 {post : St2 → Prop} {row clip bf md bh : Int32} {a1 a2 a3 a4 a5 a6 a7 a8 a9 a10 a11 a12 a13 a14 a15 : Nat → Int32} {x : Int32} (H : post (row, clip, 0, md, x, a1, a2, upd a3 0 0, a4, a5, a6, a7, a8, a9, a10, a11, a12, a13, a14, a15)) : wpX_part post (row, clip, bf, md, bh, a1, a2, a3, a4, a5, a6, a7, a8, a9, a10, a11, a12, a13, a14, a15) x 0 := by
  unfold wpX_part
  dsimp only
  exact br_t rfl (nm_e H)
theorem sy_partE {post : St2 → Prop} {row clip bf md bh : Int32} {a1 a2 a3 a4 a5 a6 a7 a8 a9 a10 a11 a12 a13 a14 a15 : Nat → Int32} {x n : Nat} (hx : x < 49) (h0 : 0 < n) (hn : n < 2 ^ 31) (e : a5 x = nI n) (H : post (row, clip, nI x, md, 0, a1, a2, upd a3 0 0, a4, a5, a6, a7, a8, a9, a10, a11, a12, a13, a14, a15)) : wpX_part post (row, clip, bf, md, bh, a1, a2, a3, a4, a5, a6, a7, a8, a9, a10, a11, a12, a13, a14, a15) (nI x) (nI n) := by
  unfold wpX_part
  dsimp only
  rw [sy_c hx]
  exact br_f (nI_ne0 h0 hn) ⟨sy_v hx, br_t e.symm (nm_e H)⟩
/-- the row parted at 0 and at its end -/
theorem sy_open {post : St2 → Prop} {clip bf md bh : Int32} {a1 a2 a3 a4 a5 a6 a7 a8 a9 a10 a11 a12 a13 a14 a15 : Nat → Int32} {x n : Nat} (hx : x < 49) (h0 : 0 < n) (hn : n < 2 ^ 31) (e : a5 x = nI n) (H : post (nI x, clip, 0, nI x, 0, a1, a2, upd (upd a3 0 0) 0 0, a4, a5, a6, a7, a8, a9, a10, a11, a12, a13, a14, a15)) : wpX_open post (nI x, clip, bf, md, bh, a1, a2, a3, a4, a5, a6, a7, a8, a9, a10, a11, a12, a13, a14, a15) 0 (nI n) := by
  unfold wpX_open
  dsimp only
  refine sy_partE hx h0 hn e ?_
  dsimp only
  refine sy_part0 ?_
  exact H
/-- the row parted at its end -/
theorem sy_openE {post : St2 → Prop} {clip bf md bh : Int32} {a1 a2 a3 a4 a5 a6 a7 a8 a9 a10 a11 a12 a13 a14 a15 : Nat → Int32} {x n : Nat} (hx : x < 49) (h0 : 0 < n) (hn : n < 2 ^ 31) (e : a5 x = nI n) (H : post (nI x, clip, nI x, 0, 0, a1, a2, upd (upd a3 0 0) 0 0, a4, a5, a6, a7, a8, a9, a10, a11, a12, a13, a14, a15)) : wpX_open post (nI x, clip, bf, md, bh, a1, a2, a3, a4, a5, a6, a7, a8, a9, a10, a11, a12, a13, a14, a15) (nI n) (nI n) := by
  unfold wpX_open
  dsimp only
  refine sy_partE hx h0 hn e ?_
  dsimp only
  refine sy_partE hx h0 hn e ?_
  exact H
/-- the empty row parted -/
theorem sy_open0 {post : St2 → Prop} {clip bf md bh : Int32} {a1 a2 a3 a4 a5 a6 a7 a8 a9 a10 a11 a12 a13 a14 a15 : Nat → Int32} (H : post (0, clip, 0, 0, 0, a1, a2, upd (upd a3 0 0) 0 0, a4, a5, a6, a7, a8, a9, a10, a11, a12, a13, a14, a15)) : wpX_open post (0, clip, bf, md, bh, a1, a2, a3, a4, a5, a6, a7, a8, a9, a10, a11, a12, a13, a14, a15) 0 0 := by
  unfold wpX_open
  dsimp only
  refine sy_part0 ?_
  dsimp only
  refine sy_part0 ?_
  exact H
theorem sy_join0 {post : Int32 → St2 → Prop} {row clip bf md bh : Int32} {a1 a2 a3 a4 a5 a6 a7 a8 a9 a10 a11 a12 a13 a14 a15 : Nat → Int32} {y : Int32} (H : post y (row, clip, bf, md, bh, a1, a2, a3, a4, a5, a6, a7, a8, a9, a10, a11, a12, a13, a14, a15)) : wpX_join post (row, clip, bf, md, bh, a1, a2, a3, a4, a5, a6, a7, a8, a9, a10, a11, a12, a13, a14, a15) 0 y := br_t rfl H
theorem sy_joinR {post : Int32 → St2 → Prop} {row clip bf md bh : Int32} {a1 a2 a3 a4 a5 a6 a7 a8 a9 a10 a11 a12 a13 a14 a15 : Nat → Int32} {x : Nat} (hx : x < 49) (h0 : x ≠ 0) (H : post (nI x) (row, clip, bf, md, bh, a1, a2, a3, a4, a5, a6, a7, a8, a9, a10, a11, a12, a13, a14, a15)) : wpX_join post (row, clip, bf, md, bh, a1, a2, a3, a4, a5, a6, a7, a8, a9, a10, a11, a12, a13, a14, a15) (nI x) 0 := br_f (sy_n0 hx h0) (br_t rfl H)
theorem sy_close {post : St2 → Prop} {row clip : Int32} {a1 a2 a3 a4 a5 a6 a7 a8 a9 a10 a11 a12 a13 a14 a15 : Nat → Int32} {x : Nat} (hx : x < 49) (h0 : x ≠ 0) (H : post (nI x, clip, 0, nI x, 0, a1, a2, upd a3 x 0, a4, a5, a6, a7, a8, a9, a10, a11, a12, a13, a14, a15)) : wpX_close post (row, clip, 0, nI x, 0, a1, a2, a3, a4, a5, a6, a7, a8, a9, a10, a11, a12, a13, a14, a15) := by
  unfold wpX_close
  dsimp only
  refine sy_join0 ?_
  dsimp only
  refine sy_joinR hx h0 ?_
  dsimp only
  rw [sy_c hx]
  exact ⟨sy_v hx, nm_e H⟩
theorem sy_close0 {post : St2 → Prop} {row clip : Int32} {a1 a2 a3 a4 a5 a6 a7 a8 a9 a10 a11 a12 a13 a14 a15 : Nat → Int32} (H : post (0, clip, 0, 0, 0, a1, a2, upd a3 0 0, a4, a5, a6, a7, a8, a9, a10, a11, a12, a13, a14, a15)) : wpX_close post (row, clip, 0, 0, 0, a1, a2, a3, a4, a5, a6, a7, a8, a9, a10, a11, a12, a13, a14, a15) := by
  unfold wpX_close
  dsimp only
  refine sy_join0 ?_
  dsimp only
  refine sy_join0 ?_
  dsimp only
  rw [sb_cl0]
  exact ⟨sy_v0, nm_e H⟩
/-! the questions over the whole row -/
def sy_a3 (a3 : Nat → Int32) (x : Nat) : Nat → Int32 := upd (upd (upd a3 0 0) 0 0) x 0
theorem sy_a3x {a3 : Nat → Int32} {x : Nat} : sy_a3 a3 x x = 0 := pk_us
theorem sy_a3n {a3 : Nat → Int32} {x j : Nat} (h : j ≠ x) (h0 : j ≠ 0) : sy_a3 a3 x j = a3 j := by
  unfold sy_a3
  rw [pk_un h, pk_un h0, pk_un h0]
theorem sy_a3z {a3 : Nat → Int32} {x : Nat} : sy_a3 a3 x 0 = 0 := by
  unfold sy_a3
  by_cases h : 0 = x
  · rw [← h, pk_us]
  · rw [pk_un h, pk_us]
theorem sy_sumN {post : Int32 → St2 → Prop} {clip bf md bh : Int32} {a1 a2 a3 a4 a5 a6 a7 a8 a9 a10 a11 a12 a13 a14 a15 : Nat → Int32} {x n : Nat} (hx : x < 49) (hx0 : x ≠ 0) (h0 : 0 < n) (hn : n < 2 ^ 31) (e : a5 x = nI n) (H : post (a6 x) (nI x, clip, 0, nI x, 0, a1, a2, sy_a3 a3 x, a4, a5, a6, a7, a8, a9, a10, a11, a12, a13, a14, a15)) : wpX_sum post (nI x, clip, bf, md, bh, a1, a2, a3, a4, a5, a6, a7, a8, a9, a10, a11, a12, a13, a14, a15) 0 (nI n) := by
  unfold wpX_sum
  dsimp only
  refine sy_bad0 hx hn e (br_t rfl (sy_open hx h0 hn e ?_))
  dsimp only
  rw [sy_c hx]
  exact ⟨sy_v hx, nm_e (sy_close hx hx0 H)⟩
theorem sy_wgtN {post : Int32 → St2 → Prop} {clip bf md bh : Int32} {a1 a2 a3 a4 a5 a6 a7 a8 a9 a10 a11 a12 a13 a14 a15 : Nat → Int32} {x n : Nat} (hx : x < 49) (hx0 : x ≠ 0) (h0 : 0 < n) (hn : n < 2 ^ 31) (e : a5 x = nI n) (H : post (a7 x) (nI x, clip, 0, nI x, 0, a1, a2, sy_a3 a3 x, a4, a5, a6, a7, a8, a9, a10, a11, a12, a13, a14, a15)) : wpX_weighted post (nI x, clip, bf, md, bh, a1, a2, a3, a4, a5, a6, a7, a8, a9, a10, a11, a12, a13, a14, a15) 0 (nI n) := by
  unfold wpX_weighted
  dsimp only
  refine sy_bad0 hx hn e (br_t rfl (sy_open hx h0 hn e ?_))
  dsimp only
  rw [sy_c hx]
  exact ⟨sy_v hx, nm_e (sy_close hx hx0 H)⟩
theorem sy_0n {n : Nat} (h0 : 0 < n) (hn : n < 2 ^ 31) : ¬ (0 : Int32) = nI n := fun z => nI_ne0 h0 hn z.symm
theorem sy_grtN {post : Int32 → St2 → Prop} {clip bf md bh : Int32} {a1 a2 a3 a4 a5 a6 a7 a8 a9 a10 a11 a12 a13 a14 a15 : Nat → Int32} {x n : Nat} (hx : x < 49) (hx0 : x ≠ 0) (h0 : 0 < n) (hn : n < 2 ^ 31) (e : a5 x = nI n) (H : post (a8 x) (nI x, clip, 0, nI x, 0, a1, a2, sy_a3 a3 x, a4, a5, a6, a7, a8, a9, a10, a11, a12, a13, a14, a15)) : wpX_greatest post (nI x, clip, bf, md, bh, a1, a2, a3, a4, a5, a6, a7, a8, a9, a10, a11, a12, a13, a14, a15) 0 (nI n) := by
  unfold wpX_greatest
  dsimp only
  refine sy_bad0 hx hn e (br_t rfl (br_f (sy_0n h0 hn) (sy_open hx h0 hn e ?_)))
  dsimp only
  rw [sy_c hx]
  exact ⟨sy_v hx, nm_e (sy_close hx hx0 H)⟩
theorem sy_negN {post : Int32 → St2 → Prop} {clip bf md bh : Int32} {a1 a2 a3 a4 a5 a6 a7 a8 a9 a10 a11 a12 a13 a14 a15 : Nat → Int32} {x n : Nat} (hx : x < 49) (hx0 : x ≠ 0) (h0 : 0 < n) (hn : n < 2 ^ 31) (e : a5 x = nI n) (H : post (nI n) (nI x, clip, 0, nI x, 0, a1, a2, sy_a3 a3 x, upd a4 x (-a4 x), a5, upd a6 x (-a6 x), upd a7 x (-a7 x), upd a8 x (-a9 x), upd a9 x (-a8 x), a10, upd a11 x (sy_tg (a11 x)), upd a12 x (-a12 x), a13, a14, a15)) : wpX_negate post (nI x, clip, bf, md, bh, a1, a2, a3, a4, a5, a6, a7, a8, a9, a10, a11, a12, a13, a14, a15) 0 (nI n) := by
  unfold wpX_negate
  dsimp only
  refine sy_bad0 hx hn e (br_t rfl (sy_open hx h0 hn e ?_))
  dsimp only
  refine sy_negU hx hx0 ?_
  dsimp only
  refine sy_close hx hx0 ?_
  dsimp only
  rw [show nI n - 0 = nI n by grind]
  exact H
theorem sy_revN {post : Int32 → St2 → Prop} {clip bf md bh : Int32} {a1 a2 a3 a4 a5 a6 a7 a8 a9 a10 a11 a12 a13 a14 a15 : Nat → Int32} {x n : Nat} (hx : x < 49) (hx0 : x ≠ 0) (h0 : 0 < n) (hn : n < 2 ^ 31) (e : a5 x = nI n) (H : post (nI n) (nI x, clip, 0, nI x, 0, upd a1 x (a2 x), upd a2 x (a1 x), sy_a3 a3 x, a4, a5, a6, upd a7 x ((a5 x + 1) * a6 x - a7 x), a8, a9, upd a10 x (sy_tg (a10 x)), a11, a12, a13, a14, a15)) : wpX_reverse post (nI x, clip, bf, md, bh, a1, a2, a3, a4, a5, a6, a7, a8, a9, a10, a11, a12, a13, a14, a15) 0 (nI n) := by
  unfold wpX_reverse
  dsimp only
  refine sy_bad0 hx hn e (br_t rfl (sy_open hx h0 hn e ?_))
  dsimp only
  refine sy_turnU hx hx0 ?_
  dsimp only
  refine sy_close hx hx0 ?_
  dsimp only
  rw [show nI n - 0 = nI n by grind]
  exact H
/-! seek -/
theorem sy_58f {post : Int32 → St2 → Prop} {row clip bf md bh : Int32} {a1 a2 a3 a4 a5 a6 a7 a8 a9 a10 a11 a12 a13 a14 a15 : Nat → Int32} {t : Int32} {f x l q s c : Nat} (hx : x < 49) (hl : l < 49) (h : ¬ a4 x < t) (e5 : a5 l = nI s) (hs : q + s < 2 ^ 31) (H : post (nI (q + s)) (row, clip, bf, md, bh, a1, a2, a3, a4, a5, a6, a7, a8, a9, a10, a11, a12, a13, a14, a15)) : wX_seek_58 post (wX_seek_11 post t (f + 1)) t (nI x) (nI q) (-1) (nI c) (nI l) row clip bf md bh a1 a2 a3 a4 a5 a6 a7 a8 a9 a10 a11 a12 a13 a14 a15 := by
  unfold wX_seek_58
  rw [sy_c hx, sy_c hl]
  refine ⟨sy_v hx, br_f h ⟨sy_v hl, nm_r (e' := nI (q + s)) (by rw [e5, nI_add]) (nm_e ?_)⟩⟩
  exact br_c (fun _ => H) (fun _ => br_t (nI_pos' hs) H)
theorem sy_58r {post : Int32 → St2 → Prop} {row clip bf md bh : Int32} {a1 a2 a3 a4 a5 a6 a7 a8 a9 a10 a11 a12 a13 a14 a15 : Nat → Int32} {t : Int32} {f x l r q s c : Nat} (hx : x < 49) (hl : l < 49) (h : a4 x < t) (e5 : a5 l = nI s) (e2 : a2 x = nI r) (H : wX_seek_11 post t f (nI r) (nI (q + s + 1)) (-1) (nI (c + 1)) row clip bf md bh a1 a2 a3 a4 a5 a6 a7 a8 a9 a10 a11 a12 a13 a14 a15) : wX_seek_58 post (wX_seek_11 post t f) t (nI x) (nI q) (-1) (nI c) (nI l) row clip bf md bh a1 a2 a3 a4 a5 a6 a7 a8 a9 a10 a11 a12 a13 a14 a15 := by
  unfold wX_seek_58
  rw [sy_c hx, sy_c hl]
  exact ⟨sy_v hx, br_t h ⟨sy_v hl, nm_r (e' := nI (q + s + 1)) (by rw [e5, nI_add, nI_1]) ⟨sy_v hx, nm_r e2 (nm_r (nI_1 c) H)⟩⟩⟩
theorem sy_skL {post : Int32 → St2 → Prop} {row clip bf md bh : Int32} {a1 a2 a3 a4 a5 a6 a7 a8 a9 a10 a11 a12 a13 a14 a15 : Nat → Int32} {t p : Int32} {f x l c : Nat} (hx : x < 49) (hl : l < 49) (hl0 : l ≠ 0) (hc : c < 48) (e1 : a1 x = nI l) (e10 : a10 x = 0) (e11 : a11 x = 0) (e12 : a12 x = 0) (h8 : ¬ a8 l < t) (H : wX_seek_11 post t f (nI l) p (-1) (nI (c + 1)) row clip bf md bh a1 a2 a3 a4 a5 a6 a7 a8 a9 a10 a11 a12 a13 a14 a15) : wX_seek_11 post t (f + 1) (nI x) p (-1) (nI c) row clip bf md bh a1 a2 a3 a4 a5 a6 a7 a8 a9 a10 a11 a12 a13 a14 a15 := by
  refine br_f (nI_ge (b := 48) hc (by decide)) (br_f (by decide) (sy_push0 hx e10 e11 e12 ?_))
  dsimp only
  rw [sy_c hx, e1]
  refine ⟨sy_v hx, nm_e (br_f (sy_n0 hl hl0) ⟨sy_v hl, ?_⟩)⟩
  rw [sy_c hl]
  exact br_f h8 (nm_r (nI_1 c) H)
theorem sy_sk58 {post : Int32 → St2 → Prop} {row clip bf md bh : Int32} {a1 a2 a3 a4 a5 a6 a7 a8 a9 a10 a11 a12 a13 a14 a15 : Nat → Int32} {t p : Int32} {f x l c : Nat} (hx : x < 49) (hl : l < 49) (hc : c < 48) (e1 : a1 x = nI l) (e10 : a10 x = 0) (e11 : a11 x = 0) (e12 : a12 x = 0) (h8 : l = 0 ∨ a8 l < t) (H : wX_seek_58 post (wX_seek_11 post t f) t (nI x) p (-1) (nI c) (nI l) row clip bf md bh a1 a2 a3 a4 a5 a6 a7 a8 a9 a10 a11 a12 a13 a14 a15) : wX_seek_11 post t (f + 1) (nI x) p (-1) (nI c) row clip bf md bh a1 a2 a3 a4 a5 a6 a7 a8 a9 a10 a11 a12 a13 a14 a15 := by
  refine br_f (nI_ge (b := 48) hc (by decide)) (br_f (by decide) (sy_push0 hx e10 e11 e12 ?_))
  dsimp only
  rw [sy_c hx, e1]
  refine ⟨sy_v hx, nm_e ?_⟩
  by_cases hl0 : l = 0
  · subst hl0
    exact br_t rfl H
  · refine br_f (sy_n0 hl hl0) ⟨sy_v hl, ?_⟩
    rw [sy_c hl]
    exact br_t (h8.resolve_left hl0) H
end
section
/-! pictures of the arrays: a node, a chain, a chain under a top; put and insertRun -/
abbrev sy_A : Type := (Nat → Int32) × (Nat → Int32) × (Nat → Int32) × (Nat → Int32) × (Nat → Int32) × (Nat → Int32) × (Nat → Int32) × (Nat → Int32) × (Nat → Int32) × (Nat → Int32) × (Nat → Int32) × (Nat → Int32) × (Nat → Int32) × (Nat → Int32) × (Nat → Int32)
def sy_nd (A : sy_A) (x l r : Nat) (va sz to he hi lo tn mn : Int32) : Prop := match A with
  | (a1, a2, a3, a4, a5, a6, a7, a8, a9, a10, a11, a12, a13, a14, a15) => a1 x = nI l ∧ a2 x = nI r ∧ a4 x = va ∧ a5 x = sz ∧ a6 x = to ∧ a7 x = he ∧ a8 x = hi ∧ a9 x = lo ∧ a10 x = tn ∧ a11 x = mn ∧ a12 x = 0
def sy_z (A : sy_A) : Prop := match A with
  | (a1, a2, a3, a4, a5, a6, a7, a8, a9, a10, a11, a12, a13, a14, a15) => a3 0 = 0 ∧ a5 0 = 0 ∧ a6 0 = 0 ∧ a7 0 = 0 ∧ a8 0 = -2000000 ∧ a9 0 = 2000000
def sy_up (A : sy_A) (x : Nat) (y : Int32) : Prop := match A with
  | (a1, a2, a3, a4, a5, a6, a7, a8, a9, a10, a11, a12, a13, a14, a15) => a3 x = y
def sy_us (A : sy_A) (n : Nat) : Prop := match A with
  | (a1, a2, a3, a4, a5, a6, a7, a8, a9, a10, a11, a12, a13, a14, a15) => (∀ j, 1 ≤ j → j ≤ n → ¬ a13 j = 0) ∧ (∀ j, n < j → j ≤ 48 → a13 j = 0)
/-- node i + 1, with the i + 1 first numbers of the run in its subtree -/
def sy_cn (v d : Int32) (A : sy_A) (i : Nat) : Prop := sy_nd A (i + 1) i 0 (sy_w v d i) (nI (i + 1)) (sy_S v d (i + 1)) (sy_H v d (i + 1)) (sy_hi v d (i + 1)) (sy_lo v d (i + 1)) 0 0
/-- node n + 1, alone -/
def sy_fr (v d : Int32) (A : sy_A) (n : Nat) : Prop := sy_nd A (n + 1) 0 0 (sy_w v d n) 1 (sy_w v d n) (sy_w v d n) (sy_w v d n) (sy_w v d n) 0 0
def sy_L (v d : Int32) (n : Nat) (A : sy_A) : Prop := sy_z A ∧ (∀ i, i < n → sy_cn v d A i) ∧ sy_up A n 0
def sy_T (v d : Int32) (m : Nat) (A : sy_A) : Prop := sy_z A ∧ (∀ i, i < m → sy_cn v d A i) ∧ sy_nd A (m + 1) m (m + 2) (sy_w v d m) (nI (m + 2)) (sy_S v d (m + 2)) (sy_H v d (m + 2)) (sy_hi v d (m + 2)) (sy_lo v d (m + 2)) 0 0 ∧ sy_fr v d A (m + 1) ∧ sy_up A (m + 1) 0 ∧ sy_up A (m + 2) (nI (m + 1))
/-- the row after n puts, x its top -/
def sy_I (v d : Int32) (n x : Nat) (A : sy_A) : Prop := (n = 0 ∧ x = 0 ∧ sy_z A) ∨ (n = 1 ∧ x = 1 ∧ sy_L v d 1 A) ∨ (∃ m, n = m + 2 ∧ x = m + 1 ∧ sy_T v d m A)
def sy_same (A B : sy_A) (x : Nat) : Prop := match A with
  | (a1, a2, a3, a4, a5, a6, a7, a8, a9, a10, a11, a12, a13, a14, a15) => match B with
    | (b1, b2, b3, b4, b5, b6, b7, b8, b9, b10, b11, b12, b13, b14, b15) => b1 x = a1 x ∧ b2 x = a2 x ∧ b3 x = a3 x ∧ b4 x = a4 x ∧ b5 x = a5 x ∧ b6 x = a6 x ∧ b7 x = a7 x ∧ b8 x = a8 x ∧ b9 x = a9 x ∧ b10 x = a10 x ∧ b11 x = a11 x ∧ b12 x = a12 x
theorem sy_nd_same {A B : sy_A} {x l r : Nat} {va sz to he hi lo tn mn : Int32} (h : sy_same A B x) (k : sy_nd A x l r va sz to he hi lo tn mn) : sy_nd B x l r va sz to he hi lo tn mn := by
  obtain ⟨a1, a2, a3, a4, a5, a6, a7, a8, a9, a10, a11, a12, a13, a14, a15⟩ := A
  obtain ⟨b1, b2, b3, b4, b5, b6, b7, b8, b9, b10, b11, b12, b13, b14, b15⟩ := B
  obtain ⟨h1, h2, h3, h4, h5, h6, h7, h8, h9, h10, h11, h12⟩ := h
  obtain ⟨k1, k2, k4, k5, k6, k7, k8, k9, k10, k11, k12⟩ := k
  exact ⟨h1.trans k1, h2.trans k2, h4.trans k4, h5.trans k5, h6.trans k6, h7.trans k7, h8.trans k8, h9.trans k9, h10.trans k10, h11.trans k11, h12.trans k12⟩
theorem sy_z_same {A B : sy_A} (h : sy_same A B 0) (k : sy_z A) : sy_z B := by
  obtain ⟨a1, a2, a3, a4, a5, a6, a7, a8, a9, a10, a11, a12, a13, a14, a15⟩ := A
  obtain ⟨b1, b2, b3, b4, b5, b6, b7, b8, b9, b10, b11, b12, b13, b14, b15⟩ := B
  obtain ⟨h1, h2, h3, h4, h5, h6, h7, h8, h9, h10, h11, h12⟩ := h
  obtain ⟨k3, k5, k6, k7, k8, k9⟩ := k
  exact ⟨h3.trans k3, h5.trans k5, h6.trans k6, h7.trans k7, h8.trans k8, h9.trans k9⟩
theorem sy_up_same {A B : sy_A} {x : Nat} {y : Int32} (h : sy_same A B x) (k : sy_up A x y) : sy_up B x y := by
  obtain ⟨a1, a2, a3, a4, a5, a6, a7, a8, a9, a10, a11, a12, a13, a14, a15⟩ := A
  obtain ⟨b1, b2, b3, b4, b5, b6, b7, b8, b9, b10, b11, b12, b13, b14, b15⟩ := B
  obtain ⟨h1, h2, h3, h4⟩ := h
  exact h3.trans k
theorem sy_I_same {v d : Int32} {n x : Nat} {A B : sy_A} (h : ∀ j, j ≤ n → sy_same A B j) (k : sy_I v d n x A) : sy_I v d n x B := by
  rcases k with ⟨k1, k2, k3⟩ | ⟨k1, k2, k3, k4, k5⟩ | ⟨m, k1, k2, k3, k4, k5, k6, k7, k8⟩
  · exact Or.inl ⟨k1, k2, sy_z_same (h 0 (by omega)) k3⟩
  · exact Or.inr (Or.inl ⟨k1, k2, sy_z_same (h 0 (by omega)) k3, fun i hi => sy_nd_same (h (i + 1) (by omega)) (k4 i hi), sy_up_same (h 1 (by omega)) k5⟩)
  · exact Or.inr (Or.inr ⟨m, k1, k2, sy_z_same (h 0 (by omega)) k3, fun i hi => sy_nd_same (h (i + 1) (by omega)) (k4 i hi), sy_nd_same (h (m + 1) (by omega)) k5, sy_nd_same (h (m + 2) (by omega)) k6, sy_up_same (h (m + 1) (by omega)) k7, sy_up_same (h (m + 2) (by omega)) k8⟩)
theorem sy_ue {f : Nat → Int32} {x : Nat} {y : Int32} (h : f x = y) : upd f x y = f := by
  funext j
  by_cases e : j = x
  · rw [e, pk_us, h]
  · rw [pk_un e]
theorem sy_a3e {f : Nat → Int32} {x : Nat} (h0 : f 0 = 0) (h : f x = 0) : sy_a3 f x = f := by
  unfold sy_a3
  rw [sy_ue h0, sy_ue h0, sy_ue h]
/-- the first node of a chain, or none: what a node above it reads -/
theorem sy_sm {v d : Int32} {a1 a2 a3 a4 a5 a6 a7 a8 a9 a10 a11 a12 a13 a14 a15 : Nat → Int32} {m : Nat} (hz : sy_z (a1, a2, a3, a4, a5, a6, a7, a8, a9, a10, a11, a12, a13, a14, a15)) (hc : ∀ i, i < m → sy_cn v d (a1, a2, a3, a4, a5, a6, a7, a8, a9, a10, a11, a12, a13, a14, a15) i) : a5 m = nI m ∧ a6 m = sy_S v d m ∧ a7 m = sy_H v d m ∧ a8 m = sy_hi v d m ∧ a9 m = sy_lo v d m := by
  cases m with
  | zero =>
    obtain ⟨_, z5, z6, z7, z8, z9⟩ := hz
    exact ⟨z5, z6, z7, z8, z9⟩
  | succ m =>
    obtain ⟨_, _, _, h5, h6, h7, h8, h9, _⟩ := hc m (by omega)
    exact ⟨h5, h6, h7, h8, h9⟩
/-- what is known of the top -/
theorem sy_If {v d : Int32} {a1 a2 a3 a4 a5 a6 a7 a8 a9 a10 a11 a12 a13 a14 a15 : Nat → Int32} {n x : Nat} (hn : n ≤ 48) (k : sy_I v d n x (a1, a2, a3, a4, a5, a6, a7, a8, a9, a10, a11, a12, a13, a14, a15)) : x < 49 ∧ (n ≠ 0 → x ≠ 0) ∧ a5 x = nI n ∧ a6 x = sy_S v d n ∧ a7 x = sy_H v d n ∧ a8 x = sy_hi v d n ∧ a3 x = 0 ∧ a3 0 = 0 := by
  rcases k with ⟨k1, k2, k3⟩ | ⟨k1, k2, k3, k4, k5⟩ | ⟨m, k1, k2, k3, k4, k5, k6, k7, k8⟩
  · subst k1 k2
    obtain ⟨z3, z5, z6, z7, z8, z9⟩ := k3
    exact ⟨by omega, fun z => absurd rfl z, z5, z6, z7, z8, z3, z3⟩
  · subst k1 k2
    obtain ⟨_, _, _, h5, h6, h7, h8, h9, _⟩ := k4 0 (by omega)
    exact ⟨by omega, fun _ => by omega, h5, h6, h7, h8, k5, k3.1⟩
  · subst k1 k2
    obtain ⟨_, _, _, h5, h6, h7, h8, h9, _⟩ := k5
    exact ⟨by omega, fun _ => by omega, h5, h6, h7, h8, k7, k3.1⟩
/-- the right child lifted: all is one chain -/
theorem sy_TL {v d : Int32} {a1 a2 a3 a4 a5 a6 a7 a8 a9 a10 a11 a12 a13 a14 a15 : Nat → Int32} {m : Nat} (ok : sy_ok v d (m + 2)) (h : sy_T v d m (a1, a2, a3, a4, a5, a6, a7, a8, a9, a10, a11, a12, a13, a14, a15)) :
    sy_L v d (m + 2) (upd a1 (m + 2) (nI (m + 1)), upd a2 (m + 1) 0, upd (upd (upd (upd a3 0 (nI (m + 1))) (m + 1) (nI (m + 2))) (m + 2) 0) 0 0, a4, sy_q5 (sy_q5 a5 (m + 1) m 0) (m + 2) (m + 1) 0, sy_q6 a4 (sy_q6 a4 a6 (m + 1) m 0) (m + 2) (m + 1) 0, sy_q7 a4 (sy_q5 a5 (m + 1) m 0) (sy_q6 a4 a6 (m + 1) m 0) (sy_q7 a4 a5 a6 a7 (m + 1) m 0) (m + 2) (m + 1) 0, sy_q8 a4 (sy_q8 a4 a8 (m + 1) m 0) (m + 2) (m + 1) 0, sy_q9 a4 (sy_q9 a4 a9 (m + 1) m 0) (m + 2) (m + 1) 0, a10, a11, a12, a13, a14, a15) := by
  obtain ⟨hz, hc, ⟨t1, t2, t4, t5, t6, t7, t8, t9, t10, t11, t12⟩, ⟨f1, f2, f4, f5, f6, f7, f8, f9, f10, f11, f12⟩, u1, u2⟩ := h
  obtain ⟨s5, s6, s7, s8, s9⟩ := sy_sm hz hc
  obtain ⟨z3, z5, z6, z7, z8, z9⟩ := hz
  have ok1 : sy_ok v d (m + 1) := sy_ok_le ok (by omega)
  have n01 : 0 ≠ m + 1 := by omega
  have n02 : 0 ≠ m + 2 := by omega
  have n12 : m + 1 ≠ m + 2 := by omega
  have n21 : m + 2 ≠ m + 1 := by omega
  refine ⟨⟨pk_us, ?_, ?_, ?_, ?_, ?_⟩, ?_, ?_⟩
  · rw [sy_q5n n02, sy_q5n n01, z5]
  · rw [sy_q6n n02, sy_q6n n01, z6]
  · rw [sy_q7n n02, sy_q7n n01, z7]
  · rw [sy_q8n n02, sy_q8n n01, z8]
  · rw [sy_q9n n02, sy_q9n n01, z9]
  · intro i hi
    by_cases i1 : i < m
    · have e1 : i + 1 ≠ m + 1 := by omega
      have e2 : i + 1 ≠ m + 2 := by omega
      have e0 : i + 1 ≠ 0 := by omega
      refine sy_nd_same ⟨pk_un e2, pk_un e1, ?_, rfl, ?_, ?_, ?_, ?_, ?_, rfl, rfl, rfl⟩ (hc i i1)
      · rw [pk_un e0, pk_un e2, pk_un e1, pk_un e0]
      · rw [sy_q5n e2, sy_q5n e1]
      · rw [sy_q6n e2, sy_q6n e1]
      · rw [sy_q7n e2, sy_q7n e1]
      · rw [sy_q8n e2, sy_q8n e1]
      · rw [sy_q9n e2, sy_q9n e1]
    · by_cases i2 : i = m
      · subst i2
        refine ⟨?_, pk_us, t4, ?_, ?_, ?_, ?_, ?_, t10, t11, t12⟩
        · rw [pk_un n12, t1]
        · rw [sy_q5n n12, sy_q5s, s5, z5, sy_z1]
        · rw [sy_q6n n12, sy_q6s, s6, t4, z6, sy_s1]
        · rw [sy_q7n n12, sy_q7s, s7, s5, t4, z6, z7, sy_h1]
        · rw [sy_q8n n12, sy_q8s, t4, s8, z8, sy_hi1 ok1]
        · rw [sy_q9n n12, sy_q9s, t4, s9, z9, sy_lo1 ok1]
      · have i3 : i = m + 1 := by omega
        subst i3
        refine ⟨pk_us, ?_, f4, ?_, ?_, ?_, ?_, ?_, f10, f11, f12⟩
        · rw [pk_un n21, f2]
        · rw [sy_q5s, sy_q5s, sy_q5n n01, s5, z5, sy_z1, sy_z1]
        · rw [sy_q6s, sy_q6s, sy_q6n n01, s6, t4, f4, z6, sy_s1, sy_s1]
        · rw [sy_q7s, sy_q7s, sy_q5s, sy_q6n n01, sy_q7n n01, s7, s5, t4, f4, z6, z7, z5, sy_h1, sy_z1, sy_h1]
        · rw [sy_q8s, sy_q8s, sy_q8n n01, s8, t4, f4, z8, sy_hi1 ok1, sy_hi1 ok]
        · rw [sy_q9s, sy_q9s, sy_q9n n01, s9, t4, f4, z9, sy_lo1 ok1, sy_lo1 ok]
  · show upd _ 0 0 (m + 2) = 0
    rw [pk_un (show m + 2 ≠ 0 by omega), pk_us]
/-- the new node hung to the right -/
theorem sy_LT {v d : Int32} {a1 a2 a3 a4 a5 a6 a7 a8 a9 a10 a11 a12 a13 a14 a15 : Nat → Int32} {m : Nat} (ok : sy_ok v d (m + 2)) (h : sy_L v d (m + 1) (a1, a2, a3, a4, a5, a6, a7, a8, a9, a10, a11, a12, a13, a14, a15)) (hf : sy_fr v d (a1, a2, a3, a4, a5, a6, a7, a8, a9, a10, a11, a12, a13, a14, a15) (m + 1)) :
    sy_T v d m (a1, upd a2 (m + 1) (nI (m + 2)), upd a3 (m + 2) (nI (m + 1)), a4, sy_q5 a5 (m + 1) m (m + 2), sy_q6 a4 a6 (m + 1) m (m + 2), sy_q7 a4 a5 a6 a7 (m + 1) m (m + 2), sy_q8 a4 a8 (m + 1) m (m + 2), sy_q9 a4 a9 (m + 1) m (m + 2), a10, a11, a12, a13, a14, a15) := by
  obtain ⟨hz, hc, u⟩ := h
  have hc' : ∀ i, i < m → sy_cn v d (a1, a2, a3, a4, a5, a6, a7, a8, a9, a10, a11, a12, a13, a14, a15) i := fun i hi => hc i (by omega)
  obtain ⟨s5, s6, s7, s8, s9⟩ := sy_sm hz hc'
  obtain ⟨t1, t2, t4, t5, t6, t7, t8, t9, t10, t11, t12⟩ := hc m (by omega)
  obtain ⟨f1, f2, f4, f5, f6, f7, f8, f9, f10, f11, f12⟩ := hf
  obtain ⟨z3, z5, z6, z7, z8, z9⟩ := hz
  have n01 : 0 ≠ m + 1 := by omega
  have n02 : 0 ≠ m + 2 := by omega
  have n12 : m + 1 ≠ m + 2 := by omega
  have n21 : m + 2 ≠ m + 1 := by omega
  refine ⟨⟨?_, ?_, ?_, ?_, ?_, ?_⟩, fun i hi => ?_, ⟨t1, pk_us, t4, ?_, ?_, ?_, ?_, ?_, t10, t11, t12⟩, ⟨f1, ?_, f4, ?_, ?_, ?_, ?_, ?_, f10, f11, f12⟩, ?_, pk_us⟩
  · rw [pk_un n02, z3]
  · rw [sy_q5n n01, z5]
  · rw [sy_q6n n01, z6]
  · rw [sy_q7n n01, z7]
  · rw [sy_q8n n01, z8]
  · rw [sy_q9n n01, z9]
  · have e1 : i + 1 ≠ m + 1 := by omega
    have e2 : i + 1 ≠ m + 2 := by omega
    exact sy_nd_same ⟨rfl, pk_un e1, pk_un e2, rfl, sy_q5n e1, sy_q6n e1, sy_q7n e1, sy_q8n e1, sy_q9n e1, rfl, rfl, rfl⟩ (hc' i hi)
  · rw [sy_q5s, s5, f5, sy_z2]
  · rw [sy_q6s, s6, t4, f6, sy_s2]
  · rw [sy_q7s, s7, s5, t4, f6, f7, sy_h2]
  · rw [sy_q8s, t4, s8, f8, sy_hi2 ok]
  · rw [sy_q9s, t4, s9, f9, sy_lo2 ok]
  · rw [pk_un n21, f2]
  · rw [sy_q5n n21, f5]
  · rw [sy_q6n n21, f6]
  · rw [sy_q7n n21, f7]
  · rw [sy_q8n n21, f8]
  · rw [sy_q9n n21, f9]
  · show upd _ (m + 2) _ (m + 1) = 0
    rw [pk_un n12]
    exact u
theorem sy_fr_cn {v d : Int32} {a1 a2 a3 a4 a5 a6 a7 a8 a9 a10 a11 a12 a13 a14 a15 : Nat → Int32} (h : sy_fr v d (a1, a2, a3, a4, a5, a6, a7, a8, a9, a10, a11, a12, a13, a14, a15) 0) : sy_cn v d (a1, a2, a3, a4, a5, a6, a7, a8, a9, a10, a11, a12, a13, a14, a15) 0 := by
  obtain ⟨f1, f2, f4, f5, f6, f7, f8, f9, f10, f11, f12⟩ := h
  have w0 := sy_w0 v d
  have e8 : sy_hi v d 1 = sy_w v d 0 := by
    rw [sy_hiS, w0]
    by_cases z : d ≤ 0
    · rw [if_pos z]
    · rw [if_neg z]
  have e9 : sy_lo v d 1 = sy_w v d 0 := by
    rw [sy_loS, w0]
    by_cases z : d ≤ 0
    · rw [if_pos z]
    · rw [if_neg z]
  have e6 : sy_S v d 1 = sy_w v d 0 := by
    show 0 + sy_w v d 0 = _
    grind
  have e7 : sy_H v d 1 = sy_w v d 0 := by
    show 0 + 1 * sy_w v d 0 = _
    grind
  exact ⟨f1, f2, f4, f5, f6.trans e6.symm, f7.trans e7.symm, f8.trans e8.symm, f9.trans e9.symm, f10, f11, f12⟩
/-- the node that make makes -/
theorem sy_mk_fr {v d : Int32} {a1 a2 a3 a4 a5 a6 a7 a8 a9 a10 a11 a12 a13 a14 a15 : Nat → Int32} {n : Nat} (ok : sy_ok v d (n + 1)) (hz : sy_z (a1, a2, a3, a4, a5, a6, a7, a8, a9, a10, a11, a12, a13, a14, a15)) : sy_fr v d (upd a1 (n + 1) 0, upd a2 (n + 1) 0, upd a3 (n + 1) 0, upd a4 (n + 1) (sy_w v d n), sy_q5 a5 (n + 1) 0 0, sy_q6 (upd a4 (n + 1) (sy_w v d n)) a6 (n + 1) 0 0, sy_q7 (upd a4 (n + 1) (sy_w v d n)) a5 a6 a7 (n + 1) 0 0, sy_q8 (upd a4 (n + 1) (sy_w v d n)) a8 (n + 1) 0 0, sy_q9 (upd a4 (n + 1) (sy_w v d n)) a9 (n + 1) 0 0, upd a10 (n + 1) 0, upd a11 (n + 1) 0, upd a12 (n + 1) 0, upd a13 (n + 1) 1, a14, a15) n := by
  obtain ⟨z3, z5, z6, z7, z8, z9⟩ := hz
  refine ⟨pk_us, pk_us, pk_us, ?_, ?_, ?_, ?_, ?_, pk_us, pk_us, pk_us⟩
  · rw [sy_q5s, z5]
    decide
  · rw [sy_q6s, pk_us, z6]
    grind
  · rw [sy_q7s, pk_us, z7, z5, z6]
    grind
  · rw [sy_q8s, pk_us, z8, sy_hif ok]
  · rw [sy_q9s, pk_us, z9, sy_lof ok]
theorem sy_mk_same {w : Int32} {a1 a2 a3 a4 a5 a6 a7 a8 a9 a10 a11 a12 a13 a14 a15 : Nat → Int32} {n j : Nat} (h : j ≠ n + 1) : sy_same (a1, a2, a3, a4, a5, a6, a7, a8, a9, a10, a11, a12, a13, a14, a15) (upd a1 (n + 1) 0, upd a2 (n + 1) 0, upd a3 (n + 1) 0, upd a4 (n + 1) w, sy_q5 a5 (n + 1) 0 0, sy_q6 (upd a4 (n + 1) w) a6 (n + 1) 0 0, sy_q7 (upd a4 (n + 1) w) a5 a6 a7 (n + 1) 0 0, sy_q8 (upd a4 (n + 1) w) a8 (n + 1) 0 0, sy_q9 (upd a4 (n + 1) w) a9 (n + 1) 0 0, upd a10 (n + 1) 0, upd a11 (n + 1) 0, upd a12 (n + 1) 0, upd a13 (n + 1) 1, a14, a15) j :=
  ⟨pk_un h, pk_un h, pk_un h, pk_un h, sy_q5n h, sy_q6n h, sy_q7n h, sy_q8n h, sy_q9n h, pk_un h, pk_un h, pk_un h⟩
theorem sy_us_add {a13 : Nat → Int32} {n : Nat} (h1 : ∀ j, 1 ≤ j → j ≤ n → ¬ a13 j = 0) (h2 : ∀ j, n < j → j ≤ 48 → a13 j = 0) : (∀ j, 1 ≤ j → j ≤ n + 1 → ¬ upd a13 (n + 1) 1 j = 0) ∧ (∀ j, n + 1 < j → j ≤ 48 → upd a13 (n + 1) 1 j = 0) := by
  refine ⟨fun j k1 k2 => ?_, fun j k1 k2 => ?_⟩
  · by_cases e : j = n + 1
    · rw [e, pk_us]
      decide
    · rw [pk_un e]
      exact h1 j k1 (by omega)
  · rw [pk_un (by omega)]
    exact h2 j (by omega) k2
/-- bring of the last node -/
theorem sy_bl {post : Int32 → St2 → Prop} {v d row clip bf md bh : Int32} {A : sy_A} {n x : Nat} (h0 : n ≠ 0) (hn : n < 48) (ok : sy_ok v d n) (hI : sy_I v d n x A) (hf : sy_fr v d A n) (hu : sy_us A (n + 1))
    (H : ∀ B : sy_A, sy_L v d n B → sy_fr v d B n → sy_us B (n + 1) → post (nI n) (row, clip, bf, md, bh, B)) : wpX_bring post (row, clip, bf, md, bh, A) (nI x) (nI n - 1) := by
  obtain ⟨a1, a2, a3, a4, a5, a6, a7, a8, a9, a10, a11, a12, a13, a14, a15⟩ := A
  rcases hI with ⟨k1, k2, k3⟩ | ⟨k1, k2, k3⟩ | ⟨m, k1, k2, k3⟩
  · exact absurd k1 h0
  · subst k1 k2
    have k := k3
    obtain ⟨hz, hc, u⟩ := k
    obtain ⟨t1, t2, t4, t5, t6, t7, t8, t9, t10, t11, t12⟩ := hc 0 (by omega)
    have hS : ∀ Q : St2 → Prop, Q (row, clip, bf, md, bh, a1, a2, a3, a4, a5, a6, a7, a8, a9, a10, a11, a12, a13, a14, a15) → wpX_splay Q (row, clip, bf, md, bh, a1, a2, a3, a4, a5, a6, a7, a8, a9, a10, a11, a12, a13, a14, a15) (nI 1) := fun Q h => sy_splay0 (by omega) u h
    unfold wpX_bring
    dsimp only
    rw [show nI 1 - 1 = 0 by decide]
    exact ⟨60, sy_stay (x := 1) (by omega) t1 hz.2.1 t10 t11 t12 hS (H _ k3 hf hu) 60 0 (by omega) (by omega)⟩
  · subst k1 k2
    have k := k3
    obtain ⟨hz, hc, ⟨t1, t2, t4, t5, t6, t7, t8, t9, t10, t11, t12⟩, ⟨f1, f2, f4, f5, f6, f7, f8, f9, f10, f11, f12⟩, u1, u2⟩ := k
    obtain ⟨s5, s6, s7, s8, s9⟩ := sy_sm hz hc
    have hm : m < 49 := by omega
    have hp : m + 1 < 49 := by omega
    have hx : m + 2 < 49 := by omega
    have hS : ∀ Q : St2 → Prop, Q (row, clip, bf, md, bh, upd a1 (m + 2) (nI (m + 1)), upd a2 (m + 1) 0, upd (upd (upd (upd a3 0 (nI (m + 1))) (m + 1) (nI (m + 2))) (m + 2) 0) 0 0, a4, sy_q5 (sy_q5 a5 (m + 1) m 0) (m + 2) (m + 1) 0, sy_q6 a4 (sy_q6 a4 a6 (m + 1) m 0) (m + 2) (m + 1) 0, sy_q7 a4 (sy_q5 a5 (m + 1) m 0) (sy_q6 a4 a6 (m + 1) m 0) (sy_q7 a4 a5 a6 a7 (m + 1) m 0) (m + 2) (m + 1) 0, sy_q8 a4 (sy_q8 a4 a8 (m + 1) m 0) (m + 2) (m + 1) 0, sy_q9 a4 (sy_q9 a4 a9 (m + 1) m 0) (m + 2) (m + 1) 0, a10, a11, a12, a13, a14, a15) → wpX_splay Q (row, clip, bf, md, bh, a1, a2, a3, a4, a5, a6, a7, a8, a9, a10, a11, a12, a13, a14, a15) (nI (m + 2)) := by
      intro Q hQ
      refine sy_splay1 hx hp (by omega) u2 u1 (fun Q' h' => sy_liftR hx hp hm (by omega) (by omega) (by omega) (by omega) u2 u1 t1 f1 f2 h') ?_ hQ
      rw [pk_un (show m + 2 ≠ 0 by omega), pk_us]
    have hL := sy_TL ok k3
    have e : ∀ j, j ≠ 0 → j ≠ m + 1 → j ≠ m + 2 → sy_same (a1, a2, a3, a4, a5, a6, a7, a8, a9, a10, a11, a12, a13, a14, a15) (upd a1 (m + 2) (nI (m + 1)), upd a2 (m + 1) 0, upd (upd (upd (upd a3 0 (nI (m + 1))) (m + 1) (nI (m + 2))) (m + 2) 0) 0 0, a4, sy_q5 (sy_q5 a5 (m + 1) m 0) (m + 2) (m + 1) 0, sy_q6 a4 (sy_q6 a4 a6 (m + 1) m 0) (m + 2) (m + 1) 0, sy_q7 a4 (sy_q5 a5 (m + 1) m 0) (sy_q6 a4 a6 (m + 1) m 0) (sy_q7 a4 a5 a6 a7 (m + 1) m 0) (m + 2) (m + 1) 0, sy_q8 a4 (sy_q8 a4 a8 (m + 1) m 0) (m + 2) (m + 1) 0, sy_q9 a4 (sy_q9 a4 a9 (m + 1) m 0) (m + 2) (m + 1) 0, a10, a11, a12, a13, a14, a15) j := by
      intro j e0 e1 e2
      refine ⟨pk_un e2, pk_un e1, ?_, rfl, ?_, ?_, ?_, ?_, ?_, rfl, rfl, rfl⟩
      · rw [pk_un e0, pk_un e2, pk_un e1, pk_un e0]
      · rw [sy_q5n e2, sy_q5n e1]
      · rw [sy_q6n e2, sy_q6n e1]
      · rw [sy_q7n e2, sy_q7n e1]
      · rw [sy_q8n e2, sy_q8n e1]
      · rw [sy_q9n e2, sy_q9n e1]
    have hF := sy_nd_same (e (m + 3) (by omega) (by omega) (by omega)) hf
    unfold wpX_bring
    dsimp only
    rw [nI_pred (m + 1)]
    refine ⟨59 + 1, br_f (by decide) (sy_push0 hp t10 t11 t12 ?_)⟩
    dsimp only
    rw [sy_c hp, t1, sy_c hm, s5]
    refine ⟨sy_v hp, sy_v hm, nm_e (br_t (nI_le (by omega) (by omega)) (br_f (nI_ge (by omega) (by omega)) (nm_r (e' := 0) ?_ ⟨sy_v hp, nm_r t2 (nm_r (e' := nI 1) rfl ?_)⟩)))⟩
    · rw [pk_sub (by omega), show m + 1 - m = 1 by omega]
      decide
    · exact sy_stay (x := m + 2) hx f1 hz.2.1 f10 f11 f12 hS (H _ hL hF hu) 59 1 (by omega) (by omega)
/-- join of the row and the new node -/
theorem sy_jn {post : Int32 → St2 → Prop} {v d row clip bf md bh : Int32} {A : sy_A} {m x : Nat} (hm : m + 2 ≤ 48) (ok : sy_ok v d (m + 2)) (hI : sy_I v d (m + 1) x A) (hf : sy_fr v d A (m + 1)) (hu : sy_us A (m + 2))
    (H : ∀ B : sy_A, sy_T v d m B → sy_us B (m + 2) → post (nI (m + 1)) (row, clip, bf, md, bh, B)) : wpX_join post (row, clip, bf, md, bh, A) (nI x) (nI (m + 2)) := by
  have I2 := hI
  obtain ⟨a1, a2, a3, a4, a5, a6, a7, a8, a9, a10, a11, a12, a13, a14, a15⟩ := A
  obtain ⟨hx, hx0, e5, _⟩ := sy_If (by omega) I2
  unfold wpX_join
  dsimp only
  refine br_f (sy_n0 hx (hx0 (by omega))) (br_f (sy_n0 (by omega) (by omega)) ⟨sy_v hx, ?_⟩)
  rw [sy_c hx, e5]
  refine sy_bl (by omega) (by omega) (sy_ok_le ok (by omega)) hI hf hu (fun B hL hF hU => ?_)
  obtain ⟨b1, b2, b3, b4, b5, b6, b7, b8, b9, b10, b11, b12, b13, b14, b15⟩ := B
  have hT := sy_LT ok hL hF
  obtain ⟨t1, t2, _⟩ := hL.2.1 m (by omega)
  dsimp only
  refine sy_setR (x := m + 1) (r := m + 2) (by omega) (by omega) ?_
  dsimp only
  refine sy_pull (x := m + 1) (l := m) (r := m + 2) (by omega) (by omega) (by omega) (by omega) t1 pk_us ?_
  exact H _ hT hU
/-- put behind the last number -/
theorem sy_putN {post : St2 → Prop} {v d clip bf md bh : Int32} {A : sy_A} {m x : Nat} (hm : m + 2 ≤ 48) (ok : sy_ok v d (m + 2)) (hI : sy_I v d (m + 1) x A) (hu : sy_us A (m + 1))
    (H : ∀ (B : sy_A) (bf' md' bh' : Int32), sy_I v d (m + 2) (m + 1) B → sy_us B (m + 2) → post (nI (m + 1), clip, bf', md', bh', B)) : wpX_put post (nI x, clip, bf, md, bh, A) (nI (m + 1)) (sy_w v d (m + 1)) := by
  have I2 := hI
  obtain ⟨a1, a2, a3, a4, a5, a6, a7, a8, a9, a10, a11, a12, a13, a14, a15⟩ := A
  obtain ⟨hx, hx0, e5, _, _, _, _, e3⟩ := sy_If (by omega) I2
  have hz : sy_z (a1, a2, a3, a4, a5, a6, a7, a8, a9, a10, a11, a12, a13, a14, a15) := by
    rcases hI with ⟨k1, k2, k3⟩ | ⟨k1, k2, k3⟩ | ⟨m, k1, k2, k3⟩
    · exact k3
    · exact k3.1
    · exact k3.1
  obtain ⟨us1, us2⟩ := hu
  unfold wpX_put
  dsimp only
  refine sy_openE hx (by omega) (by omega) e5 ?_
  dsimp only
  rw [sy_ue e3, sy_ue e3]
  refine sy_make (n := m + 1) (by omega) us1 us2 ?_
  dsimp only
  unfold wpX_close
  dsimp only
  refine sy_jn hm ok (sy_I_same (fun j hj => sy_mk_same (by omega)) I2) (sy_mk_fr ok hz) (sy_us_add us1 us2) (fun B hT hU => ?_)
  obtain ⟨b1, b2, b3, b4, b5, b6, b7, b8, b9, b10, b11, b12, b13, b14, b15⟩ := B
  dsimp only
  refine sy_joinR (x := m + 1) (by omega) (by omega) ?_
  dsimp only
  rw [sy_c (show m + 1 < 49 by omega)]
  refine ⟨sy_v (by omega), nm_r (sy_ue (show b3 (m + 1) = 0 from hT.2.2.2.2.1)) ?_⟩
  exact H _ _ _ _ (Or.inr (Or.inr ⟨m, rfl, rfl, hT⟩)) hU
theorem sy_put0 {post : St2 → Prop} {v d clip bf md bh : Int32} {A : sy_A} (ok : sy_ok v d 1) (hz : sy_z A) (hu : sy_us A 0)
    (H : ∀ (B : sy_A) (bf' md' bh' : Int32), sy_I v d 1 1 B → sy_us B 1 → post (nI 1, clip, bf', md', bh', B)) : wpX_put post (0, clip, bf, md, bh, A) 0 (sy_w v d 0) := by
  obtain ⟨a1, a2, a3, a4, a5, a6, a7, a8, a9, a10, a11, a12, a13, a14, a15⟩ := A
  obtain ⟨us1, us2⟩ := hu
  have e3 : a3 0 = 0 := hz.1
  unfold wpX_put
  dsimp only
  refine sy_open0 ?_
  dsimp only
  rw [sy_ue e3, sy_ue e3]
  refine sy_make (n := 0) (by omega) us1 us2 ?_
  dsimp only
  refine sy_close (x := 1) (by omega) (by omega) ?_
  dsimp only
  rw [sy_ue (show upd a3 (0 + 1) 0 1 = 0 from pk_us)]
  refine H _ _ _ _ (Or.inr (Or.inl ⟨rfl, rfl, sy_z_same (sy_mk_same (by omega)) hz, fun i hi => ?_, pk_us⟩)) (sy_us_add us1 us2)
  have i0 : i = 0 := by omega
  subst i0
  exact sy_fr_cn (sy_mk_fr ok hz)
/-- the loop of insertRun -/
theorem sy_run {post : Int32 → St2 → Prop} {v d : Int32} {k : Nat} (ok : sy_ok v d k) (H : ∀ (x : Nat) (bf md bh : Int32) (A : sy_A), sy_I v d k x A → post (nI k) (nI x, 0, bf, md, bh, A)) :
    ∀ (f i x : Nat) (bf md bh : Int32) (a1 a2 a3 a4 a5 a6 a7 a8 a9 a10 a11 a12 a13 a14 a15 : Nat → Int32), i ≤ k → k - i < f → sy_I v d i x (a1, a2, a3, a4, a5, a6, a7, a8, a9, a10, a11, a12, a13, a14, a15) → sy_us (a1, a2, a3, a4, a5, a6, a7, a8, a9, a10, a11, a12, a13, a14, a15) i → wX_insertRun_99 post 0 (nI k) v d f (nI i) (nI x) 0 bf md bh a1 a2 a3 a4 a5 a6 a7 a8 a9 a10 a11 a12 a13 a14 a15 := by
  have hk : k ≤ 48 := ok.1
  intro f
  induction f with
  | zero =>
    intro i x bf md bh a1 a2 a3 a4 a5 a6 a7 a8 a9 a10 a11 a12 a13 a14 a15 h1 h2
    omega
  | succ f ih =>
    intro i x bf md bh a1 a2 a3 a4 a5 a6 a7 a8 a9 a10 a11 a12 a13 a14 a15 h1 h2 hI hu
    obtain ⟨hx, hx0, e5, _⟩ := sy_If (by omega) hI
    refine pk_le k i (fun z => ?_) (fun z => ?_)
    · have e : i = k := by omega
      subst e
      rw [sy_c hx, e5]
      exact ⟨sy_v hx, H x bf md bh _ hI⟩
    · rw [show (0 : Int32) + nI i = nI i by grind]
      have go : ∀ (B : sy_A) (x' : Nat) (bf' md' bh' : Int32), sy_I v d (i + 1) x' B → sy_us B (i + 1) → wX_insertRun_99 post 0 (nI k) v d f (nI (i + 1)) (nI x') 0 bf' md' bh' B.1 B.2.1 B.2.2.1 B.2.2.2.1 B.2.2.2.2.1 B.2.2.2.2.2.1 B.2.2.2.2.2.2.1 B.2.2.2.2.2.2.2.1 B.2.2.2.2.2.2.2.2.1 B.2.2.2.2.2.2.2.2.2.1 B.2.2.2.2.2.2.2.2.2.2.1 B.2.2.2.2.2.2.2.2.2.2.2.1 B.2.2.2.2.2.2.2.2.2.2.2.2.1 B.2.2.2.2.2.2.2.2.2.2.2.2.2.1 B.2.2.2.2.2.2.2.2.2.2.2.2.2.2 := by
        intro B x' bf' md' bh' k1 k2
        obtain ⟨b1, b2, b3, b4, b5, b6, b7, b8, b9, b10, b11, b12, b13, b14, b15⟩ := B
        exact ih (i + 1) _ _ _ _ _ _ _ _ _ _ _ _ _ _ _ _ _ _ _ (by omega) (by omega) k1 k2
      cases i with
      | zero =>
        have e0 : x = 0 := by
          rcases hI with ⟨k1, k2, k3⟩ | ⟨k1, k2, k3⟩ | ⟨m, k1, k2, k3⟩
          · exact k2
          · omega
          · omega
        subst e0
        have hz : sy_z (a1, a2, a3, a4, a5, a6, a7, a8, a9, a10, a11, a12, a13, a14, a15) := by
          rcases hI with ⟨k1, k2, k3⟩ | ⟨k1, k2, k3⟩ | ⟨m, k1, k2, k3⟩
          · exact k3
          · omega
          · omega
        refine sy_put0 (v := v) (d := d) (sy_ok_le ok (by omega)) hz hu (fun B bf' md' bh' k1 k2 => ?_)
        obtain ⟨b1, b2, b3, b4, b5, b6, b7, b8, b9, b10, b11, b12, b13, b14, b15⟩ := B
        dsimp only
        exact nm_r (nI_1 0) (go _ _ _ _ _ k1 k2)
      | succ m =>
        refine sy_putN (v := v) (d := d) (by omega) (sy_ok_le ok (by omega)) hI hu (fun B bf' md' bh' k1 k2 => ?_)
        obtain ⟨b1, b2, b3, b4, b5, b6, b7, b8, b9, b10, b11, b12, b13, b14, b15⟩ := B
        dsimp only
        exact nm_r (nI_1 (m + 1)) (go _ _ _ _ _ k1 k2)
end
section
/-! greatestAt, get(0), firstFrom -/
theorem sy_lt_irr (x : Int32) : ¬ x < x := fun h => Int.lt_irrefl _ (Int32.lt_iff_toInt_lt.mp h)
theorem sy_hi1v (v d : Int32) : sy_hi v d 1 = v := by
  rw [sy_hiS, sy_w0]
  by_cases z : d ≤ 0
  · rw [if_pos z]
  · rw [if_neg z]
theorem sy_lo1v (v d : Int32) : sy_lo v d 1 = v := by
  rw [sy_loS, sy_w0]
  by_cases z : d ≤ 0
  · rw [if_pos z]
  · rw [if_neg z]
/-- seek down a chain, d not above 0: the first number is the greatest -/
theorem sy_skC {post : Int32 → St2 → Prop} {v d : Int32} {row clip bf md bh : Int32} {a1 a2 a3 a4 a5 a6 a7 a8 a9 a10 a11 a12 a13 a14 a15 : Nat → Int32} (hd : d ≤ 0) (e5 : a5 0 = 0) (H : post (nI 0) (row, clip, bf, md, bh, a1, a2, a3, a4, a5, a6, a7, a8, a9, a10, a11, a12, a13, a14, a15)) :
    ∀ (i c g : Nat), i < 48 → i + c < 48 → (∀ j, j ≤ i → sy_cn v d (a1, a2, a3, a4, a5, a6, a7, a8, a9, a10, a11, a12, a13, a14, a15) j) → wX_seek_11 post v (g + i + 2) (nI (i + 1)) (nI 0) (-1) (nI c) row clip bf md bh a1 a2 a3 a4 a5 a6 a7 a8 a9 a10 a11 a12 a13 a14 a15 := by
  intro i
  induction i with
  | zero =>
    intro c g h1 h2 hc
    obtain ⟨t1, t2, t4, t5, t6, t7, t8, t9, t10, t11, t12⟩ := hc 0 (by omega)
    refine sy_sk58 (f := g + 0 + 1) (x := 1) (l := 0) (by omega) (by omega) (by omega) t1 t10 t11 t12 (Or.inl rfl) ?_
    refine sy_58f (f := g + 0) (x := 1) (l := 0) (q := 0) (s := 0) (by omega) (by omega) ?_ e5 (by omega) H
    rw [t4, sy_w0]
    exact sy_lt_irr v
  | succ i ih =>
    intro c g h1 h2 hc
    obtain ⟨t1, t2, t4, t5, t6, t7, t8, t9, t10, t11, t12⟩ := hc (i + 1) (by omega)
    obtain ⟨_, _, _, _, _, _, u8, _⟩ := hc i (by omega)
    refine sy_skL (f := g + i + 2) (x := i + 2) (l := i + 1) (by omega) (by omega) (by omega) (by omega) t1 t10 t11 t12 ?_ (ih (c + 1) g (by omega) (by omega) (fun j hj => hc j (by omega)))
    rw [u8, sy_hiS, if_pos hd]
    exact sy_lt_irr v
theorem sy_skG {post : Int32 → St2 → Prop} {v d row clip bf md bh : Int32} {A : sy_A} {n x : Nat} (h0 : n ≠ 0) (ok : sy_ok v d n) (hI : sy_I v d n x A) (H : post (nI (if d ≤ 0 then 0 else n - 1)) (row, clip, bf, md, bh, A)) : wpX_seek post (row, clip, bf, md, bh, A) (nI x) (sy_hi v d n) := by
  obtain ⟨a1, a2, a3, a4, a5, a6, a7, a8, a9, a10, a11, a12, a13, a14, a15⟩ := A
  have hn := ok.1
  rcases hI with ⟨k1, k2, k3⟩ | ⟨k1, k2, hz, hc, u⟩ | ⟨m, k1, k2, hz, hc, ⟨t1, t2, t4, t5, t6, t7, t8, t9, t10, t11, t12⟩, ⟨f1, f2, f4, f5, f6, f7, f8, f9, f10, f11, f12⟩, u1, u2⟩
  · exact absurd k1 h0
  · subst k1 k2
    obtain ⟨t1, t2, t4, t5, t6, t7, t8, t9, t10, t11, t12⟩ := hc 0 (by omega)
    have e : (if d ≤ 0 then 0 else 1 - 1) = 0 := by
      by_cases z : d ≤ 0
      · rw [if_pos z]
      · rw [if_neg z]
    rw [e] at H
    rw [sy_hi1v]
    unfold wpX_seek
    dsimp only
    refine ⟨0 + 1 + 1, sy_sk58 (x := 1) (l := 0) (c := 0) (by omega) (by omega) (by omega) t1 t10 t11 t12 (Or.inl rfl) ?_⟩
    refine sy_58f (f := 0) (x := 1) (l := 0) (q := 0) (s := 0) (c := 0) (by omega) (by omega) ?_ hz.2.1 (by omega) H
    rw [t4, sy_w0]
    exact sy_lt_irr v
  · subst k1 k2
    obtain ⟨s5, s6, s7, s8, s9⟩ := sy_sm hz hc
    have z5 : a5 0 = 0 := hz.2.1
    unfold wpX_seek
    dsimp only
    rw [sy_hiS]
    by_cases z : d ≤ 0
    · rw [if_pos z] at H
      rw [if_pos z]
      cases m with
      | zero =>
        refine ⟨0 + 1 + 1, sy_sk58 (x := 1) (l := 0) (c := 0) (by omega) (by omega) (by omega) t1 t10 t11 t12 (Or.inl rfl) ?_⟩
        refine sy_58f (f := 0) (x := 1) (l := 0) (q := 0) (s := 0) (c := 0) (by omega) (by omega) ?_ z5 (by omega) H
        rw [t4, sy_w0]
        exact sy_lt_irr v
      | succ m =>
        refine ⟨0 + m + 2 + 1, sy_skL (f := 0 + m + 2) (x := m + 2) (l := m + 1) (c := 0) (by omega) (by omega) (by omega) (by omega) t1 t10 t11 t12 ?_ (sy_skC z z5 H m 1 0 (by omega) (by omega) (fun j hj => hc j (by omega)))⟩
        rw [s8, sy_hiS, if_pos z]
        exact sy_lt_irr v
    · rw [if_neg z] at H
      rw [if_neg z]
      have a2 := (sy_at2 ok (show m < m + 1 by omega) (show m + 1 < m + 2 by omega)).2 z
      refine ⟨0 + 1 + 1 + 1, sy_sk58 (f := 0 + 1 + 1) (x := m + 1) (l := m) (c := 0) (by omega) (by omega) (by omega) t1 t10 t11 t12 ?_ ?_⟩
      · cases m with
        | zero => exact Or.inl rfl
        | succ m =>
          right
          rw [s8, sy_hiS, if_neg z]
          have b2 := (sy_at2 ok (show m < m + 1 by omega) (show m + 1 < m + 1 + 2 by omega)).2 z
          exact Int32.lt_iff_toInt_lt.mpr (by omega)
      · refine sy_58r (x := m + 1) (l := m) (r := m + 2) (q := 0) (s := m) (c := 0) (by omega) (by omega) ?_ s5 t2 ?_
        · rw [t4]
          exact Int32.lt_iff_toInt_lt.mpr (by omega)
        · refine sy_sk58 (f := 0 + 1) (x := m + 2) (l := 0) (by omega) (by omega) (by omega) f1 f10 f11 f12 (Or.inl rfl) ?_
          refine sy_58f (f := 0) (x := m + 2) (l := 0) (q := 0 + m + 1) (s := 0) (by omega) (by omega) ?_ z5 (by omega) ?_
          · rw [f4]
            exact sy_lt_irr _
          · rw [show 0 + m + 1 + 0 = m + 2 - 1 by omega]
            exact H
theorem sy_gatN {post : Int32 → St2 → Prop} {v d clip bf md bh : Int32} {A : sy_A} {n x : Nat} (h0 : n ≠ 0) (ok : sy_ok v d n) (hI : sy_I v d n x A) (H : post (nI (if d ≤ 0 then 0 else n - 1)) (nI x, clip, 0, nI x, 0, A)) : wpX_greatestAt post (nI x, clip, bf, md, bh, A) 0 (nI n) := by
  have hn := ok.1
  have I2 := hI
  obtain ⟨a1, a2, a3, a4, a5, a6, a7, a8, a9, a10, a11, a12, a13, a14, a15⟩ := A
  obtain ⟨hx, hx0, e5, e6, e7, e8, ex, e3⟩ := sy_If (by omega) I2
  unfold wpX_greatestAt
  dsimp only
  refine sy_bad0 hx (by omega) e5 (br_t rfl (br_f (sy_0n (by omega) (by omega)) (sy_open hx (by omega) (by omega) e5 ?_)))
  dsimp only
  rw [sy_c hx, sy_ue e3, sy_ue e3, e8]
  refine ⟨sy_v hx, sy_skG h0 ok hI ?_⟩
  dsimp only
  refine sy_close hx (hx0 h0) ?_
  dsimp only
  rw [sy_ue ex, show (0 : Int32) + nI (if d ≤ 0 then 0 else n - 1) = nI (if d ≤ 0 then 0 else n - 1) by grind]
  exact H
/-! the row negated and turned round: marks at its top -/
def sy_M (v d : Int32) (n x : Nat) (A : sy_A) : Prop := match A with
  | (a1, a2, a3, a4, a5, a6, a7, a8, a9, a10, a11, a12, a13, a14, a15) => (n = 1 ∧ x = 1 ∧ a5 0 = 0 ∧ a1 1 = 0 ∧ a2 1 = 0 ∧ a3 1 = 0 ∧ a4 1 = -sy_w v d 0 ∧ a5 1 = nI 1 ∧ a6 1 = -sy_S v d 1 ∧ a8 1 = -v ∧ a10 1 = 1 ∧ a11 1 = 1 ∧ a12 1 = 0) ∨
    (∃ m, n = m + 2 ∧ x = m + 1 ∧ sy_z (a1, a2, a3, a4, a5, a6, a7, a8, a9, a10, a11, a12, a13, a14, a15) ∧ (∀ i, i < m → sy_cn v d (a1, a2, a3, a4, a5, a6, a7, a8, a9, a10, a11, a12, a13, a14, a15) i) ∧ (a1 (m + 1) = nI (m + 2) ∧ a2 (m + 1) = nI m ∧ a4 (m + 1) = -sy_w v d m ∧ a5 (m + 1) = nI (m + 2) ∧ a10 (m + 1) = 1 ∧ a11 (m + 1) = 1 ∧ a12 (m + 1) = 0) ∧ sy_fr v d (a1, a2, a3, a4, a5, a6, a7, a8, a9, a10, a11, a12, a13, a14, a15) (m + 1) ∧ sy_up (a1, a2, a3, a4, a5, a6, a7, a8, a9, a10, a11, a12, a13, a14, a15) (m + 1) 0 ∧ sy_up (a1, a2, a3, a4, a5, a6, a7, a8, a9, a10, a11, a12, a13, a14, a15) (m + 2) (nI (m + 1)))
theorem sy_IM {v d : Int32} {a1 a2 a3 a4 a5 a6 a7 a8 a9 a10 a11 a12 a13 a14 a15 : Nat → Int32} {n x : Nat} (h0 : n ≠ 0) (hI : sy_I v d n x (a1, a2, a3, a4, a5, a6, a7, a8, a9, a10, a11, a12, a13, a14, a15)) : sy_M v d n x (upd a1 x (a2 x), upd a2 x (a1 x), a3, upd a4 x (-a4 x), a5, upd a6 x (-a6 x), upd (upd a7 x (-a7 x)) x ((a5 x + 1) * upd a6 x (-a6 x) x - upd a7 x (-a7 x) x), upd a8 x (-a9 x), upd a9 x (-a8 x), upd a10 x (sy_tg (a10 x)), upd a11 x (sy_tg (a11 x)), upd a12 x (-a12 x), a13, a14, a15) := by
  rcases hI with ⟨k1, k2, k3⟩ | ⟨k1, k2, hz, hc, u⟩ | ⟨m, k1, k2, hz, hc, ⟨t1, t2, t4, t5, t6, t7, t8, t9, t10, t11, t12⟩, hf, u1, u2⟩
  · exact absurd k1 h0
  · subst k1 k2
    obtain ⟨t1, t2, t4, t5, t6, t7, t8, t9, t10, t11, t12⟩ := hc 0 (by omega)
    left
    refine ⟨rfl, rfl, hz.2.1, ?_, ?_, u, ?_, t5, ?_, ?_, ?_, ?_, ?_⟩
    · rw [pk_us]
      exact t2
    · rw [pk_us]
      exact t1
    · rw [pk_us, t4]
    · rw [pk_us, t6]
    · rw [pk_us, t9, sy_lo1v]
    · rw [pk_us, t10, sy_tg0]
    · rw [pk_us, t11, sy_tg0]
    · rw [pk_us, t12]
      decide
  · subst k1 k2
    right
    have same : ∀ j, j ≠ m + 1 → sy_same (a1, a2, a3, a4, a5, a6, a7, a8, a9, a10, a11, a12, a13, a14, a15) (upd a1 (m + 1) (a2 (m + 1)), upd a2 (m + 1) (a1 (m + 1)), a3, upd a4 (m + 1) (-a4 (m + 1)), a5, upd a6 (m + 1) (-a6 (m + 1)), upd (upd a7 (m + 1) (-a7 (m + 1))) (m + 1) ((a5 (m + 1) + 1) * upd a6 (m + 1) (-a6 (m + 1)) (m + 1) - upd a7 (m + 1) (-a7 (m + 1)) (m + 1)), upd a8 (m + 1) (-a9 (m + 1)), upd a9 (m + 1) (-a8 (m + 1)), upd a10 (m + 1) (sy_tg (a10 (m + 1))), upd a11 (m + 1) (sy_tg (a11 (m + 1))), upd a12 (m + 1) (-a12 (m + 1)), a13, a14, a15) j := by
      intro j hj
      refine ⟨pk_un hj, pk_un hj, rfl, pk_un hj, rfl, pk_un hj, ?_, pk_un hj, pk_un hj, pk_un hj, pk_un hj, pk_un hj⟩
      rw [pk_un hj, pk_un hj]
    refine ⟨m, rfl, rfl, sy_z_same (same 0 (by omega)) hz, fun i hi => sy_nd_same (same (i + 1) (by omega)) (hc i hi), ⟨?_, ?_, ?_, t5, ?_, ?_, ?_⟩, sy_nd_same (same (m + 2) (by omega)) hf, u1, u2⟩
    · rw [pk_us, t2]
    · rw [pk_us, t1]
    · rw [pk_us, t4]
    · rw [pk_us, t10, sy_tg0]
    · rw [pk_us, t11, sy_tg0]
    · rw [pk_us, t12]
      decide
/-! the row after get(0): a chain to the right, marks on its way -/
def sy_cm (v d : Int32) (a1 a2 a4 a10 a11 a12 : Nat → Int32) (j : Nat) : Prop := a1 (j + 1) = nI j ∧ a2 (j + 1) = 0 ∧ a4 (j + 1) = sy_w v d j ∧ a10 (j + 1) = 0 ∧ a11 (j + 1) = 0 ∧ a12 (j + 1) = 0
def sy_W (v d : Int32) (a1 a2 a4 a10 a11 a12 : Nat → Int32) : Nat → Prop
  | 0 => True
  | i + 1 => a1 (i + 1) = 0 ∧ a2 (i + 1) = nI i ∧ a4 (i + 1) = -sy_w v d i ∧ a12 (i + 1) = 0 ∧ ((a10 (i + 1) = 0 ∧ a11 (i + 1) = 0 ∧ sy_W v d a1 a2 a4 a10 a11 a12 i) ∨ (a10 (i + 1) = 1 ∧ a11 (i + 1) = 1 ∧ ∀ j, j < i → sy_cm v d a1 a2 a4 a10 a11 a12 j))
theorem sy_Wc {v d : Int32} {a1 a2 a4 a10 a11 a12 b1 b2 b4 b10 b11 b12 : Nat → Int32} : ∀ i : Nat, (∀ j, j ≤ i → b1 j = a1 j ∧ b2 j = a2 j ∧ b4 j = a4 j ∧ b10 j = a10 j ∧ b11 j = a11 j ∧ b12 j = a12 j) → sy_W v d a1 a2 a4 a10 a11 a12 i → sy_W v d b1 b2 b4 b10 b11 b12 i := by
  intro i
  induction i with
  | zero => intro _ _; trivial
  | succ i ih =>
    intro h k
    obtain ⟨k1, k2, k4, k12, k⟩ := k
    obtain ⟨h1, h2, h4, h10, h11, h12⟩ := h (i + 1) (by omega)
    refine ⟨h1.trans k1, h2.trans k2, h4.trans k4, h12.trans k12, ?_⟩
    rcases k with ⟨k10, k11, k⟩ | ⟨k10, k11, k⟩
    · exact Or.inl ⟨h10.trans k10, h11.trans k11, ih (fun j hj => h j (by omega)) k⟩
    · refine Or.inr ⟨h10.trans k10, h11.trans k11, fun j hj => ?_⟩
      obtain ⟨m1, m2, m4, m10, m11, m12⟩ := k j hj
      obtain ⟨g1, g2, g4, g10, g11, g12⟩ := h (j + 1) (by omega)
      exact ⟨g1.trans m1, g2.trans m2, g4.trans m4, g10.trans m10, g11.trans m11, g12.trans m12⟩
def sy_R (v d : Int32) (n : Nat) (A : sy_A) : Prop := match A with
  | (a1, a2, a3, a4, a5, a6, a7, a8, a9, a10, a11, a12, a13, a14, a15) => a5 0 = 0 ∧ a5 n = nI n ∧ a6 n = -sy_S v d n ∧ ¬ a8 n < -v ∧ sy_W v d a1 a2 a4 a10 a11 a12 n
/-- bring, from where both pushes are done -/
theorem sy_g2 {post : Int32 → St2 → Prop} {v d : Int32} {row clip bf md bh : Int32} {a1 a2 a3 a4 a5 a6 a7 a8 a9 a10 a11 a12 a13 a14 a15 : Nat → Int32} {m : Nat} (ok : sy_ok v d (m + 2)) (z5 : a5 0 = 0) (z6 : a6 0 = 0) (z8 : a8 0 = -2000000)
    (f1 : a1 (m + 2) = 0) (f2 : a2 (m + 2) = 0) (f3 : a3 (m + 2) = nI (m + 1)) (f4 : a4 (m + 2) = -sy_w v d (m + 1)) (f10 : a10 (m + 2) = 0) (f11 : a11 (m + 2) = 0) (f12 : a12 (m + 2) = 0)
    (t1 : a1 (m + 1) = nI (m + 2)) (t2 : a2 (m + 1) = nI m) (t3 : a3 (m + 1) = 0) (t4 : a4 (m + 1) = -sy_w v d m) (t10 : a10 (m + 1) = 0) (t11 : a11 (m + 1) = 0) (t12 : a12 (m + 1) = 0)
    (s5 : a5 m = nI m) (s6 : a6 m = -sy_S v d m) (s8 : a8 m = -sy_lo v d m) (hW : sy_W v d a1 a2 a4 a10 a11 a12 m)
    (H : ∀ B : sy_A, sy_R v d (m + 2) B → B.2.2.2.1 (m + 2) = -sy_w v d (m + 1) → post (nI (m + 2)) (row, clip, bf, md, bh, B)) : wX_bring_8 post 58 (nI (m + 2)) 0 (nI 2) row clip bf md bh a1 a2 a3 a4 a5 a6 a7 a8 a9 a10 a11 a12 a13 a14 a15 := by
  have hn := ok.1
  have hx : m + 2 < 49 := by omega
  have hp : m + 1 < 49 := by omega
  have n01 : 0 ≠ m + 1 := by omega
  have n02 : 0 ≠ m + 2 := by omega
  have n12 : m + 1 ≠ m + 2 := by omega
  have n21 : m + 2 ≠ m + 1 := by omega
  have hS : ∀ Q : St2 → Prop, Q (row, clip, bf, md, bh, upd a1 (m + 1) 0, upd a2 (m + 2) (nI (m + 1)), upd (upd (upd (upd a3 0 (nI (m + 1))) (m + 1) (nI (m + 2))) (m + 2) 0) 0 0, a4, sy_q5 (sy_q5 a5 (m + 1) 0 m) (m + 2) 0 (m + 1), sy_q6 a4 (sy_q6 a4 a6 (m + 1) 0 m) (m + 2) 0 (m + 1), sy_q7 a4 (sy_q5 a5 (m + 1) 0 m) (sy_q6 a4 a6 (m + 1) 0 m) (sy_q7 a4 a5 a6 a7 (m + 1) 0 m) (m + 2) 0 (m + 1), sy_q8 a4 (sy_q8 a4 a8 (m + 1) 0 m) (m + 2) 0 (m + 1), sy_q9 a4 (sy_q9 a4 a9 (m + 1) 0 m) (m + 2) 0 (m + 1), a10, a11, a12, a13, a14, a15) → wpX_splay Q (row, clip, bf, md, bh, a1, a2, a3, a4, a5, a6, a7, a8, a9, a10, a11, a12, a13, a14, a15) (nI (m + 2)) := by
    intro Q hQ
    refine sy_splay1 hx hp (by omega) f3 t3 (fun Q' h' => sy_liftL (r := m) hx hp (by omega) (by omega) (by omega) (by omega) f3 t3 t1 t2 f1 f2 h') ?_ hQ
    rw [pk_un (show m + 2 ≠ 0 by omega), pk_us]
  refine sy_stay (x := m + 2) hx f1 z5 f10 f11 f12 hS (H _ ⟨?_, ?_, ?_, ?_, ?_⟩ f4) 58 2 (by omega) (by omega)
  · rw [sy_q5n n02, sy_q5n n01, z5]
  · rw [sy_q5s, sy_q5n n01, sy_q5s, z5, s5, nI_succ (m + 1), nI_succ m]
    grind
  · rw [sy_q6s, sy_q6n n01, sy_q6s, z6, s6, t4, f4, ← sy_s2]
    grind
  · rw [sy_q8s, sy_q8n n01, sy_q8s, z8, s8, t4, f4]
    exact sy_hiR ok
  · refine ⟨?_, pk_us, f4, f12, Or.inl ⟨f10, f11, pk_us, ?_, t4, t12, Or.inl ⟨t10, t11, sy_Wc m (fun j hj => ⟨pk_un (by omega), pk_un (by omega), rfl, rfl, rfl, rfl⟩) hW⟩⟩⟩
    · rw [pk_un n21, f1]
    · rw [pk_un n12, t2]
theorem sy_getN {post : Int32 → St2 → Prop} {v d clip bf md bh : Int32} {A : sy_A} {n x : Nat} (ok : sy_ok v d n) (hM : sy_M v d n x A)
    (H : ∀ B : sy_A, sy_R v d n B → post (-sy_w v d (n - 1)) (nI n, clip, bf, md, bh, B)) : wpX_get post (nI x, clip, bf, md, bh, A) 0 := by
  obtain ⟨a1, a2, a3, a4, a5, a6, a7, a8, a9, a10, a11, a12, a13, a14, a15⟩ := A
  have hn := ok.1
  rcases hM with ⟨k1, k2, z5, t1, t2, t3, t4, t5, t6, t8, t10, t11, t12⟩ | ⟨m, k1, k2, hz, hc, ⟨t1, t2, t4, t5, t10, t11, t12⟩, ⟨f1, f2, f4, f5, f6, f7, f8, f9, f10, f11, f12⟩, u1, u2⟩
  · subst k1 k2
    unfold wpX_get
    dsimp only
    rw [sy_c (x := 1) (by omega), t5]
    refine br_f (by decide) ⟨sy_v (by omega), br_t (nI_lt (a := 0) (by omega) (by omega)) ?_⟩
    unfold wpX_bring
    dsimp only
    refine ⟨59 + 1, br_f (by decide) (sy_push1 (l := 0) (r := 0) (x := 1) (by omega) (by omega) (by omega) (by omega) (by omega) (Or.inr rfl) t1 t2 t10 t11 t12 (fun b7 b9 => ?_))⟩
    dsimp only
    rw [sy_20, sy_20, sy_20, sy_20, sy_20, sy_20, sy_20, sy_20]
    rw [sy_c (x := 1) (by omega), t1, sb_cl0, z5]
    refine ⟨sy_v (by omega), sy_v0, nm_e (br_t (by decide) (br_t (by decide) (nm_r (e' := nI 1) rfl ?_)))⟩
    refine sy_stay (x := 1) (by omega) t1 z5 pk_us pk_us t12 (fun Q h => sy_splay0 (by omega) t3 h) ?_ 59 1 (by omega) (by omega)
    dsimp only
    rw [sy_c (x := 1) (by omega), t4]
    refine ⟨sy_v (by omega), H _ ⟨z5, t5, t6, ?_, t1, t2, t4, t12, Or.inl ⟨pk_us, pk_us, trivial⟩⟩⟩
    rw [t8]
    exact sy_lt_irr _
  · subst k1 k2
    obtain ⟨s5, s6, s7, s8, s9⟩ := sy_sm hz hc
    obtain ⟨z3, z5, z6, z7, z8, z9⟩ := hz
    have hx : m + 2 < 49 := by omega
    have hp : m + 1 < 49 := by omega
    have hm : m < 49 := by omega
    have n2 : m + 2 ≠ 0 := by omega
    have n1m : m + 1 ≠ m := by omega
    have n12 : m + 1 ≠ m + 2 := by omega
    have n21 : m + 2 ≠ m + 1 := by omega
    unfold wpX_get
    dsimp only
    rw [sy_c hp, t5]
    refine br_f (by decide) ⟨sy_v hp, br_t (nI_lt (a := 0) (by omega) (by omega)) ?_⟩
    unfold wpX_bring
    dsimp only
    refine ⟨58 + 1 + 1, br_f (by decide) (sy_push1 (l := m + 2) (r := m) (x := m + 1) hp hx hm (by omega) (by omega) (Or.inl (by omega)) t1 t2 t10 t11 t12 (fun b7 b9 => ?_))⟩
    dsimp only
    rw [sy_c hp, sy_2n n12 n1m, t1, sy_c hx, f5]
    refine ⟨sy_v hp, sy_v hx, nm_e (br_f (by decide) ⟨sy_v hp, nm_e (nm_r (e' := nI 1) rfl ?_)⟩)⟩
    refine br_f (by decide) (sy_push1 (l := 0) (r := 0) (x := m + 2) hx (by omega) (by omega) (by omega) (by omega) (Or.inr rfl) ?_ ?_ ?_ ?_ ?_ (fun c7 c9 => ?_))
    · rw [sy_2l n2, f2]
    · rw [sy_2l n2, f1]
    · rw [pk_un n21, sy_2l n2, f10, sy_tg0]
    · rw [pk_un n21, sy_2l n2, f11, sy_tg0]
    · rw [sy_2l n2, f12]
      decide
    · dsimp only
      rw [sy_20, sy_20, sy_20, sy_20, sy_20, sy_20, sy_20, sy_20]
      rw [sy_c hx, sy_2l n2, f2, show (nI 0).toNatClampNeg = 0 from sb_cl0, z5]
      refine ⟨sy_v hx, sy_v0, nm_e (br_t (by decide) (br_t (by decide) (nm_r (e' := nI 2) rfl ?_)))⟩
      refine sy_g2 ok z5 (sy_2z.trans z6) (sy_2z.trans z8) ?_ ?_ u2 ?_ pk_us pk_us ?_ ?_ ?_ u1 ?_ ?_ ?_ ?_ s5 ?_ ?_ ?_ (fun B hR h4 => ?_)
      · rw [sy_2l n2, f2]
        rfl
      · rw [sy_2l n2, f1]
        rfl
      · rw [sy_2l n2, f4]
      · rw [sy_2l n2, f12]
        decide
      · rw [sy_2n n12 n1m, t1]
      · rw [sy_2n n12 n1m, t2]
      · rw [sy_2n n12 n1m, t4]
      · rw [pk_un n12, pk_us]
      · rw [pk_un n12, pk_us]
      · rw [sy_2n n12 n1m, t12]
      · cases m with
        | zero =>
          rw [sy_2z, z6]
          show (0 : Int32) = -0
          decide
        | succ m => rw [sy_2r (by omega), s6]
      · cases m with
        | zero =>
          rw [sy_2z, z8, sy_lo0]
        | succ m => rw [sy_2r (by omega), s9]
      · cases m with
        | zero => trivial
        | succ m =>
          obtain ⟨c1, c2, c4, c5, c6, c7', c8, c9', c10, c11, c12⟩ := hc m (by omega)
          have q : m + 1 ≠ 0 := by omega
          refine ⟨?_, ?_, ?_, ?_, Or.inr ⟨?_, ?_, fun j hj => ?_⟩⟩
          · rw [sy_2r q, c2]
            rfl
          · rw [sy_2r q, c1]
          · rw [sy_2r q, c4]
          · rw [sy_2r q, c12]
            decide
          · rw [pk_un (by omega), pk_un (by omega), sy_2r q, c10, sy_tg0]
          · rw [pk_un (by omega), pk_un (by omega), sy_2r q, c11, sy_tg0]
          · obtain ⟨j1, j2, j4, j5, j6, j7, j8, j9, j10, j11, j12⟩ := hc j (by omega)
            have q1 : j + 1 ≠ m + 1 + 2 := by omega
            have q2 : j + 1 ≠ m + 1 := by omega
            refine ⟨(sy_2n q1 q2).trans j1, (sy_2n q1 q2).trans j2, (sy_2n q1 q2).trans j4, ?_, ?_, (sy_2n q1 q2).trans j12⟩
            · rw [pk_un (by omega), pk_un (by omega), sy_2n q1 q2, j10]
            · rw [pk_un (by omega), pk_un (by omega), sy_2n q1 q2, j11]
      · obtain ⟨b1, b2, b3, b4, b5, b6, b7, b8, b9, b10, b11, b12, b13, b14, b15⟩ := B
        dsimp only
        dsimp only at h4
        rw [sy_c hx, h4]
        exact ⟨sy_v hx, H _ hR⟩
/-- push on the way of firstFrom -/
theorem sy_pW {Q : St2 → Prop} {v d : Int32} {row clip bf md bh : Int32} {a1 a2 a3 a4 a5 a6 a7 a8 a9 a10 a11 a12 a13 a14 a15 : Nat → Int32} {i : Nat} (hi : i < 48) (hW : sy_W v d a1 a2 a4 a10 a11 a12 (i + 1))
    (hQ : ∀ b1 b2 b4 b6 b7 b8 b9 b10 b11 b12 : Nat → Int32, b1 (i + 1) = 0 → b2 (i + 1) = nI i → b4 (i + 1) = -sy_w v d i → sy_W v d b1 b2 b4 b10 b11 b12 i → Q (row, clip, bf, md, bh, b1, b2, a3, b4, a5, b6, b7, b8, b9, b10, b11, b12, a13, a14, a15)) : wpX_push Q (row, clip, bf, md, bh, a1, a2, a3, a4, a5, a6, a7, a8, a9, a10, a11, a12, a13, a14, a15) (nI (i + 1)) := by
  obtain ⟨w1, w2, w4, w12, hw⟩ := hW
  rcases hw with ⟨w10, w11, hw⟩ | ⟨w10, w11, hw⟩
  · exact sy_push0 (by omega) w10 w11 w12 (hQ _ _ _ _ _ _ _ _ _ _ w1 w2 w4 hw)
  · have n0 : i + 1 ≠ 0 := by omega
    have ni : i + 1 ≠ i := by omega
    refine sy_push1 (l := 0) (r := i) (by omega) (by omega) (by omega) (by omega) (by omega) (Or.inr rfl) w1 w2 w10 w11 w12 (fun b7 b9 => hQ _ _ _ _ _ _ _ _ _ _ ?_ ?_ ?_ ?_)
    · rw [sy_2n n0 ni, w1]
    · rw [sy_2n n0 ni, w2]
    · rw [sy_2n n0 ni, w4]
    · cases i with
      | zero => trivial
      | succ i =>
        obtain ⟨c1, c2, c4, c10, c11, c12⟩ := hw i (by omega)
        have q : i + 1 ≠ 0 := by omega
        refine ⟨?_, ?_, ?_, ?_, Or.inr ⟨?_, ?_, fun j hj => ?_⟩⟩
        · rw [sy_2r q, c2]
        · rw [sy_2r q, c1]
        · rw [sy_2r q, c4]
        · rw [sy_2r q, c12]
          decide
        · rw [pk_un (by omega), sy_2r q, c10, sy_tg0]
        · rw [pk_un (by omega), sy_2r q, c11, sy_tg0]
        · obtain ⟨j1, j2, j4, j10, j11, j12⟩ := hw j (by omega)
          have q1 : j + 1 ≠ 0 := by omega
          have q2 : j + 1 ≠ i + 1 := by omega
          refine ⟨(sy_2n q1 q2).trans j1, (sy_2n q1 q2).trans j2, (sy_2n q1 q2).trans j4, ?_, ?_, (sy_2n q1 q2).trans j12⟩
          · rw [pk_un (by omega), sy_2n q1 q2, j10]
          · rw [pk_un (by omega), sy_2n q1 q2, j11]
theorem sy_skW {post : Int32 → St2 → Prop} {v d row clip bf md bh : Int32} {n : Nat} {a3 a5 a13 a14 a15 : Nat → Int32} (ok : sy_ok v d n) (hd : ¬ d ≤ 0) (e5 : a5 0 = 0) :
    ∀ (i q c g : Nat) (a1 a2 a4 a6 a7 a8 a9 a10 a11 a12 : Nat → Int32), i < n → i + c < 48 → q + i < 48 → sy_W v d a1 a2 a4 a10 a11 a12 (i + 1) → (∀ B : sy_A, post (nI (q + i)) (row, clip, bf, md, bh, B)) → wX_seek_11 post (-v) (g + i + 2) (nI (i + 1)) (nI q) (-1) (nI c) row clip bf md bh a1 a2 a3 a4 a5 a6 a7 a8 a9 a10 a11 a12 a13 a14 a15 := by
  have hn := ok.1
  intro i
  induction i with
  | zero =>
    intro q c g a1 a2 a4 a6 a7 a8 a9 a10 a11 a12 h1 h2 h3 hW H
    refine br_f (nI_ge (b := 48) (by omega) (by decide)) (br_f (by decide) (sy_pW (by omega) hW (fun b1 b2 b4 b6 b7 b8 b9 b10 b11 b12 k1 k2 k4 kW => ?_)))
    dsimp only
    rw [sy_c (show 0 + 1 < 49 by omega), k1]
    refine ⟨sy_v (by omega), nm_e (br_t rfl ?_)⟩
    refine sy_58f (f := g + 0) (x := 0 + 1) (l := 0) (q := q) (s := 0) (by omega) (by omega) ?_ e5 (by omega) (H _)
    rw [k4, sy_w0]
    exact sy_lt_irr _
  | succ i ih =>
    intro q c g a1 a2 a4 a6 a7 a8 a9 a10 a11 a12 h1 h2 h3 hW H
    refine br_f (nI_ge (b := 48) (by omega) (by decide)) (br_f (by decide) (sy_pW (by omega) hW (fun b1 b2 b4 b6 b7 b8 b9 b10 b11 b12 k1 k2 k4 kW => ?_)))
    dsimp only
    rw [sy_c (show i + 1 + 1 < 49 by omega), k1]
    refine ⟨sy_v (by omega), nm_e (br_t rfl ?_)⟩
    have a := sy_at ok h1
    have a' := a.2.2.2.2 hd (by omega)
    have h0 := ok.2
    refine sy_58r (x := i + 1 + 1) (l := 0) (r := i + 1) (q := q) (s := 0) (by omega) (by omega) ?_ e5 k2 ?_
    · rw [k4]
      refine Int32.lt_iff_toInt_lt.mpr ?_
      rw [sy_negI (by omega) (by omega), sy_negI (by omega) (by omega)]
      omega
    · refine ih (q + 0 + 1) (c + 1) g _ _ _ _ _ _ _ _ _ _ (by omega) (by omega) (by omega) kW (fun B => ?_)
      rw [show q + 0 + 1 + i = q + (i + 1) by omega]
      exact H B
/-- firstFrom's seek: the first number at -v or above -/
theorem sy_skF {post : Int32 → St2 → Prop} {v d row clip bf md bh : Int32} {A : sy_A} {n : Nat} (h0 : n ≠ 0) (ok : sy_ok v d n) (hR : sy_R v d n A) (H : ∀ B : sy_A, post (nI (if d ≤ 0 then 0 else n - 1)) (row, clip, bf, md, bh, B)) : wpX_seek post (row, clip, bf, md, bh, A) (nI n) (-v) := by
  obtain ⟨a1, a2, a3, a4, a5, a6, a7, a8, a9, a10, a11, a12, a13, a14, a15⟩ := A
  obtain ⟨e5, _, _, _, hW⟩ := hR
  have hn := ok.1
  obtain ⟨i, rfl⟩ : ∃ i, n = i + 1 := ⟨n - 1, by omega⟩
  unfold wpX_seek
  dsimp only
  by_cases z : d ≤ 0
  · rw [if_pos z] at H
    refine ⟨0 + 1 + 1, br_f (by decide) (br_f (by decide) (sy_pW (by omega) hW (fun b1 b2 b4 b6 b7 b8 b9 b10 b11 b12 k1 k2 k4 kW => ?_)))⟩
    dsimp only
    rw [sy_c (show i + 1 < 49 by omega), k1]
    refine ⟨sy_v (by omega), nm_e (br_t rfl ?_)⟩
    have a := sy_at ok (show i < i + 1 by omega)
    have a' := a.2.2.1 z
    have h0 := ok.2
    refine sy_58f (f := 0) (x := i + 1) (l := 0) (q := 0) (s := 0) (c := 0) (by omega) (by omega) (fun hc => ?_) e5 (by omega) (H _)
    rw [k4] at hc
    have hc' := Int32.lt_iff_toInt_lt.mp hc
    rw [sy_negI (by omega) (by omega), sy_negI (by omega) (by omega)] at hc'
    omega
  · rw [if_neg z] at H
    refine ⟨0 + i + 2, sy_skW ok z e5 i 0 0 0 _ _ _ _ _ _ _ _ _ _ (by omega) (by omega) (by omega) hW (fun B => ?_)⟩
    rw [show 0 + i = i + 1 - 1 by omega]
    exact H B
theorem sy_ffN {post : Int32 → St2 → Prop} {v d clip bf md bh : Int32} {A : sy_A} {n : Nat} (h0 : n ≠ 0) (ok : sy_ok v d n) (hR : sy_R v d n A) (H : ∀ u : St2, post (nI (if d ≤ 0 then 0 else n - 1)) u) : wpX_firstFrom post (nI n, clip, bf, md, bh, A) 0 (-v) := by
  have R2 := hR
  obtain ⟨a1, a2, a3, a4, a5, a6, a7, a8, a9, a10, a11, a12, a13, a14, a15⟩ := A
  obtain ⟨z5, e5, _, e8, hW⟩ := R2
  have hn := ok.1
  have hx : n < 49 := by omega
  unfold wpX_firstFrom
  dsimp only
  rw [sy_c hx, e5]
  refine br_f (by decide) ⟨sy_v hx, br_t (nI_pos' (by omega)) ⟨sy_v hx, sy_open hx (by omega) (by omega) e5 ?_⟩⟩
  dsimp only
  rw [sy_c hx]
  refine br_f (sy_n0 hx h0) ⟨sy_v hx, br_f e8 (sy_skF h0 ok hR (fun B => ?_))⟩
  obtain ⟨b1, b2, b3, b4, b5, b6, b7, b8, b9, b10, b11, b12, b13, b14, b15⟩ := B
  dsimp only
  refine nm_r (e' := nI (if d ≤ 0 then 0 else n - 1)) (by grind) ?_
  unfold wX_firstFrom_69
  refine sy_close hx h0 ?_
  exact H _
end
section
/-! insertRun whole, the empty row, the law -/
def sy_done (k v d : Int32) : Prop := ¬ k < 0 ∧ ¬ 48 < k ∧ (¬ v < (-1000000) ∧ v ≤ 1000000) ∧ (¬ d < (-1000000) ∧ d ≤ 1000000) ∧ (¬ k ≤ 0 → ¬ v + (k - 1) * d < (-1000000) ∧ v + (k - 1) * d ≤ 1000000)
theorem sy_rg {y : Int32} (h : ¬ y < (-1000000) ∧ y ≤ 1000000) : -1000000 ≤ y.toInt ∧ y.toInt ≤ 1000000 := by
  have e1 : (-1000000 : Int32).toInt = -1000000 := by decide
  have e2 : (1000000 : Int32).toInt = 1000000 := by decide
  have h1 : ¬ y.toInt < (-1000000 : Int32).toInt := fun z => h.1 (Int32.lt_iff_toInt_lt.mpr z)
  have h2 := Int32.le_iff_toInt_le.mp h.2
  omega
theorem sy_m1 {n : Nat} (h : n ≠ 0) : nI n - 1 = nI (n - 1) := by
  have := nI_pred (n - 1)
  rw [show n - 1 + 1 = n by omega] at this
  exact this
theorem sy_doneN {k v d : Int32} (h : sy_done k v d) : ∃ n, k = nI n ∧ sy_ok v d n := by
  obtain ⟨h1, h2, h3, h4, h5⟩ := h
  obtain ⟨n, hn, rfl⟩ := nI_of2 (M := 48) (n := 48) (by decide) h1 (Int32.not_lt.mp h2)
  have b3 := sy_rg h3
  have b4 := sy_rg h4
  refine ⟨n, rfl, hn, b3.1, b3.2, b4.1, b4.2, fun j hj => ?_⟩
  have b5 := sy_rg (h5 (nI_nle (by omega) (by omega)))
  rw [sy_m1 (by omega)] at b5
  have e := sy_wI b3.1 b3.2 b4.1 b4.2 (show n - 1 ≤ 48 by omega)
  unfold sy_w at e
  rw [e] at b5
  by_cases z : d.toInt ≤ 0
  · have m1 := sy_mono d.toInt z 0 j (by omega)
    have m2 := sy_mono d.toInt z j (n - 1) (by omega)
    simp at m1
    omega
  · have m1 : 0 ≤ (j : Int) * d.toInt := Int.mul_nonneg (by omega) (by omega)
    have m2 : (j : Int) * d.toInt ≤ ((n - 1 : Nat) : Int) * d.toInt := Int.mul_le_mul_of_nonneg_right (by omega) (by omega)
    omega
theorem sy_bn {post : Int32 → Prop} {u : St2} {y : Int32} (h1 : (¬ y < (-1000000) ∧ y ≤ 1000000) → post 0) (h2 : ¬ (¬ y < (-1000000) ∧ y ≤ 1000000) → post 1) : wpX_badNumber post u y := by
  unfold wpX_badNumber
  exact br_c (fun z => h2 (fun t => t.1 z)) (fun z => br_c (fun z' => h1 ⟨z, z'⟩) (fun z' => h2 (fun t => z' t.2)))
theorem sy_ins {post : Int32 → St2 → Prop} {k v d bf md bh : Int32} {A : sy_A} (hz : sy_z A) (hu : sy_us A 0) (H0 : ¬ sy_done k v d → post (-1) (0, 0, bf, md, bh, A))
    (H1 : sy_done k v d → wX_insertRun_67 post 0 k v d 0 0 bf md bh A.1 A.2.1 A.2.2.1 A.2.2.2.1 A.2.2.2.2.1 A.2.2.2.2.2.1 A.2.2.2.2.2.2.1 A.2.2.2.2.2.2.2.1 A.2.2.2.2.2.2.2.2.1 A.2.2.2.2.2.2.2.2.2.1 A.2.2.2.2.2.2.2.2.2.2.1 A.2.2.2.2.2.2.2.2.2.2.2.1 A.2.2.2.2.2.2.2.2.2.2.2.2.1 A.2.2.2.2.2.2.2.2.2.2.2.2.2.1 A.2.2.2.2.2.2.2.2.2.2.2.2.2.2) : wpX_insertRun post (0, 0, bf, md, bh, A) 0 k v d := by
  obtain ⟨a1, a2, a3, a4, a5, a6, a7, a8, a9, a10, a11, a12, a13, a14, a15⟩ := A
  unfold wpX_insertRun
  dsimp only
  dsimp only at H1
  rw [sb_cl0, show a5 0 = 0 from hz.2.1]
  refine br_f (by decide) ⟨sy_v0, br_f (by decide) (br_c (fun z => H0 (fun t => t.1 z)) (fun z1 => br_c (fun z => H0 (fun t => t.2.1 z)) (fun z2 => ?_)))⟩
  refine sy_bn (fun c1 => br_t rfl (sy_bn (fun c2 => br_t rfl (br_c (fun z => H1 ⟨z1, z2, c1, c2, fun t => absurd z t⟩) (fun z => sy_bn (fun c3 => br_t rfl (H1 ⟨z1, z2, c1, c2, fun _ => c3⟩)) (fun c3 => br_f (by decide) (H0 (fun t => c3 (t.2.2.2.2 z))))))) (fun c2 => br_f (by decide) (H0 (fun t => c2 t.2.2.2.1))))) (fun c1 => br_f (by decide) (H0 (fun t => c1 t.2.2.1)))
theorem sy_insD {post : Int32 → St2 → Prop} {v d bf md bh : Int32} {A : sy_A} {n : Nat} (hd : sy_done (nI n) v d) (ok : sy_ok v d n) (hz : sy_z A) (hu : sy_us A 0)
    (H : ∀ (x : Nat) (bf md bh : Int32) (B : sy_A), sy_I v d n x B → post (nI n) (nI x, 0, bf, md, bh, B)) : wpX_insertRun post (0, 0, bf, md, bh, A) 0 (nI n) v d := by
  refine sy_ins hz hu (fun t => absurd hd t) (fun _ => ?_)
  have hn := ok.1
  obtain ⟨a1, a2, a3, a4, a5, a6, a7, a8, a9, a10, a11, a12, a13, a14, a15⟩ := A
  dsimp only
  unfold wX_insertRun_67
  rw [sb_cl0, show a5 0 = 0 from hz.2.1]
  refine ⟨sy_v0, sy_v0, br_t ?_ ⟨50, ?_⟩⟩
  · rw [show (0 : Int32) + 0 + nI n = nI n by grind]
    exact nI_le (b := 48) (by omega) (by decide)
  · exact sy_run ok H 50 0 0 bf md bh _ _ _ _ _ _ _ _ _ _ _ _ _ _ _ (by omega) (by omega) (Or.inl ⟨rfl, rfl, hz⟩) hu
/-! the empty row -/
theorem sy_tri (k : Int32) : k = 0 ∨ ((k < 0 ∨ ¬ k ≤ 0) ∧ ¬ k = 0) := by
  by_cases h : k = 0
  · exact Or.inl h
  · refine Or.inr ⟨?_, h⟩
    by_cases h1 : k < 0
    · exact Or.inl h1
    · refine Or.inr (fun z => h (Int32.toInt_inj.mp ?_))
      have a := Int32.le_iff_toInt_le.mp z
      have b : ¬ k.toInt < (0 : Int32).toInt := fun t => h1 (Int32.lt_iff_toInt_lt.mpr t)
      omega
theorem sy_sumE {post : Int32 → St2 → Prop} {clip bf md bh k : Int32} {A : sy_A} (hz : sy_z A) (H : ∀ bf md bh : Int32, post 0 (0, clip, bf, md, bh, A)) : wpX_sum post (0, clip, bf, md, bh, A) 0 k := by
  obtain ⟨a1, a2, a3, a4, a5, a6, a7, a8, a9, a10, a11, a12, a13, a14, a15⟩ := A
  obtain ⟨z3, z5, z6, z7, z8, z9⟩ := hz
  unfold wpX_sum
  dsimp only
  rcases sy_tri k with rfl | ⟨hk, _⟩
  · refine sy_bad0 (x := 0) (n := 0) (by omega) (by omega) z5 (br_t rfl (sy_open0 ?_))
    dsimp only
    rw [sb_cl0, z6, sy_ue z3, sy_ue z3]
    refine ⟨sy_v0, nm_e (sy_close0 ?_)⟩
    dsimp only
    rw [sy_ue z3]
    exact H _ _ _
  · exact sy_bad1 (x := 0) (by omega) (by rw [z5]; exact hk) (br_f (by decide) (H _ _ _))
theorem sy_wgtE {post : Int32 → St2 → Prop} {clip bf md bh k : Int32} {A : sy_A} (hz : sy_z A) (H : ∀ bf md bh : Int32, post 0 (0, clip, bf, md, bh, A)) : wpX_weighted post (0, clip, bf, md, bh, A) 0 k := by
  obtain ⟨a1, a2, a3, a4, a5, a6, a7, a8, a9, a10, a11, a12, a13, a14, a15⟩ := A
  obtain ⟨z3, z5, z6, z7, z8, z9⟩ := hz
  unfold wpX_weighted
  dsimp only
  rcases sy_tri k with rfl | ⟨hk, _⟩
  · refine sy_bad0 (x := 0) (n := 0) (by omega) (by omega) z5 (br_t rfl (sy_open0 ?_))
    dsimp only
    rw [sb_cl0, z7, sy_ue z3, sy_ue z3]
    refine ⟨sy_v0, nm_e (sy_close0 ?_)⟩
    dsimp only
    rw [sy_ue z3]
    exact H _ _ _
  · exact sy_bad1 (x := 0) (by omega) (by rw [z5]; exact hk) (br_f (by decide) (H _ _ _))
theorem sy_grtE {post : Int32 → St2 → Prop} {clip bf md bh k : Int32} {A : sy_A} (hz : sy_z A) (H : post 0 (0, clip, bf, md, bh, A)) : wpX_greatest post (0, clip, bf, md, bh, A) 0 k := by
  obtain ⟨a1, a2, a3, a4, a5, a6, a7, a8, a9, a10, a11, a12, a13, a14, a15⟩ := A
  obtain ⟨z3, z5, z6, z7, z8, z9⟩ := hz
  unfold wpX_greatest
  dsimp only
  rcases sy_tri k with rfl | ⟨hk, _⟩
  · exact sy_bad0 (x := 0) (n := 0) (by omega) (by omega) z5 (br_t rfl (br_t rfl H))
  · exact sy_bad1 (x := 0) (by omega) (by rw [z5]; exact hk) (br_f (by decide) H)
theorem sy_gatE {post : Int32 → St2 → Prop} {clip bf md bh k : Int32} {A : sy_A} (hz : sy_z A) (H : post (if k = 0 then -4 else -1) (0, clip, bf, md, bh, A)) : wpX_greatestAt post (0, clip, bf, md, bh, A) 0 k := by
  obtain ⟨a1, a2, a3, a4, a5, a6, a7, a8, a9, a10, a11, a12, a13, a14, a15⟩ := A
  obtain ⟨z3, z5, z6, z7, z8, z9⟩ := hz
  unfold wpX_greatestAt
  dsimp only
  rcases sy_tri k with rfl | ⟨hk, hk0⟩
  · exact sy_bad0 (x := 0) (n := 0) (by omega) (by omega) z5 (br_t rfl (br_t rfl H))
  · rw [if_neg hk0] at H
    exact sy_bad1 (x := 0) (by omega) (by rw [z5]; exact hk) (br_f (by decide) H)
theorem sy_negE {post : Int32 → St2 → Prop} {clip bf md bh k : Int32} {A : sy_A} (hz : sy_z A) (H : ∀ bf md bh : Int32, post (if k = 0 then 0 else -1) (0, clip, bf, md, bh, A)) : wpX_negate post (0, clip, bf, md, bh, A) 0 k := by
  obtain ⟨a1, a2, a3, a4, a5, a6, a7, a8, a9, a10, a11, a12, a13, a14, a15⟩ := A
  obtain ⟨z3, z5, z6, z7, z8, z9⟩ := hz
  unfold wpX_negate
  dsimp only
  rcases sy_tri k with rfl | ⟨hk, hk0⟩
  · refine sy_bad0 (x := 0) (n := 0) (by omega) (by omega) z5 (br_t rfl (sy_open0 ?_))
    dsimp only
    rw [sy_ue z3, sy_ue z3]
    refine sy_neg0 ?_
    dsimp only
    refine sy_close0 ?_
    dsimp only
    rw [sy_ue z3]
    exact H _ _ _
  · rw [if_neg hk0] at H
    exact sy_bad1 (x := 0) (by omega) (by rw [z5]; exact hk) (br_f (by decide) (H _ _ _))
theorem sy_revE {post : Int32 → St2 → Prop} {clip bf md bh k : Int32} {A : sy_A} (hz : sy_z A) (H : ∀ bf md bh : Int32, post (if k = 0 then 0 else -1) (0, clip, bf, md, bh, A)) : wpX_reverse post (0, clip, bf, md, bh, A) 0 k := by
  obtain ⟨a1, a2, a3, a4, a5, a6, a7, a8, a9, a10, a11, a12, a13, a14, a15⟩ := A
  obtain ⟨z3, z5, z6, z7, z8, z9⟩ := hz
  unfold wpX_reverse
  dsimp only
  rcases sy_tri k with rfl | ⟨hk, hk0⟩
  · refine sy_bad0 (x := 0) (n := 0) (by omega) (by omega) z5 (br_t rfl (sy_open0 ?_))
    dsimp only
    rw [sy_ue z3, sy_ue z3]
    refine sy_turn0 ?_
    dsimp only
    refine sy_close0 ?_
    dsimp only
    rw [sy_ue z3]
    exact H _ _ _
  · rw [if_neg hk0] at H
    exact sy_bad1 (x := 0) (by omega) (by rw [z5]; exact hk) (br_f (by decide) (H _ _ _))
theorem sy_getE {post : Int32 → St2 → Prop} {clip bf md bh : Int32} {A : sy_A} (hz : sy_z A) (H : post 0 (0, clip, bf, md, bh, A)) : wpX_get post (0, clip, bf, md, bh, A) 0 := by
  obtain ⟨a1, a2, a3, a4, a5, a6, a7, a8, a9, a10, a11, a12, a13, a14, a15⟩ := A
  obtain ⟨z3, z5, z6, z7, z8, z9⟩ := hz
  unfold wpX_get
  dsimp only
  rw [sb_cl0, z5]
  exact br_f (by decide) ⟨sy_v0, br_f (by decide) H⟩
theorem sy_ffE {post : Int32 → St2 → Prop} {clip bf md bh t : Int32} {A : sy_A} (hz : sy_z A) (H : ∀ u : St2, post (-4) u) : wpX_firstFrom post (0, clip, bf, md, bh, A) 0 t := by
  obtain ⟨a1, a2, a3, a4, a5, a6, a7, a8, a9, a10, a11, a12, a13, a14, a15⟩ := A
  obtain ⟨z3, z5, z6, z7, z8, z9⟩ := hz
  unfold wpX_firstFrom
  dsimp only
  rw [sb_cl0, z5]
  refine br_f (by decide) ⟨sy_v0, br_t (by decide) ⟨sy_v0, sy_open0 ?_⟩⟩
  dsimp only
  refine br_t rfl ?_
  unfold wX_firstFrom_69
  refine sy_close0 ?_
  exact H _
/-! the law's own checks -/
theorem sy_tailN {post : Int32 → St0 → Prop} {mc ms kc ks : Nat} {x1 x2 x5 x6 x7 x8 x9 x10 x11 x12 x13 x15 x17 x18 x19 z0 : Int32} (H : post 1 ()) (c17 : ¬ x17 = 0) (h5 : x5 = x18) (h6 : x6 = x19) (h7 : x7 = if x2 ≤ 0 then x1 else x15) (h8 : x8 = if x2 ≤ 0 then 0 else x17 - 1) (h9 : x9 = x17) (h10 : x10 = x9) (h11 : x11 = -x15) (h12 : x12 = -x18) (h13 : x13 = if x2 ≤ 0 then 0 else x17 - 1) : wL_lawOf_286 post mc ms x1 x2 x5 x6 x7 x8 x9 x10 x11 x12 x13 x15 x17 x18 x19 1 z0 z0 kc ks := by
  unfold wL_lawOf_286
  refine br_t rfl (br_t h5 (br_t h6 (br_f c17 ?_)))
  by_cases z : x2 ≤ 0
  · rw [if_pos z] at h7 h8 h13
    refine br_t z ?_
    unfold wL_lawOf_324
    refine br_t h7 (br_f (by decide) (br_f c17 (br_t z ?_)))
    unfold wL_lawOf_360
    refine br_t h8 (br_f (by decide) ?_)
    unfold wL_lawOf_376
    refine br_t h9 (br_t h10 (br_f c17 ?_))
    unfold wL_lawOf_400
    refine br_t h11 (br_t h12 (br_f c17 (br_t z ?_)))
    unfold wL_lawOf_435
    exact br_t h13 H
  · rw [if_neg z] at h7 h8 h13
    refine br_f z ?_
    unfold wL_lawOf_324
    refine br_t h7 (br_f (by decide) (br_f c17 (br_f z ?_)))
    unfold wL_lawOf_360
    refine br_t h8 (br_f (by decide) ?_)
    unfold wL_lawOf_376
    refine br_t h9 (br_t h10 (br_f c17 ?_))
    unfold wL_lawOf_400
    refine br_t h11 (br_t h12 (br_f c17 (br_f z ?_)))
    unfold wL_lawOf_435
    exact br_t h13 H
theorem sy_tailE {post : Int32 → St0 → Prop} {mc ms kc ks : Nat} {x1 x2 x5 x6 x7 x8 x9 x10 x11 x12 x13 x15 x20 z0 : Int32} (H : post 1 ()) (h5 : x5 = 0) (h6 : x6 = 0) (h7 : x7 = 0) (h8 : x8 = if x20 = 0 then -1 else -4) (h9 : x9 = if x20 = 0 then -1 else 0) (h10 : x10 = x9) (h11 : x11 = 0) (h12 : x12 = 0) (h13 : x13 = -4) : wL_lawOf_286 post mc ms x1 x2 x5 x6 x7 x8 x9 x10 x11 x12 x13 x15 0 0 0 x20 z0 z0 kc ks := by
  unfold wL_lawOf_286
  refine br_t rfl (br_t h5 (br_t h6 (br_t rfl ?_)))
  by_cases z : x20 = 0
  · rw [if_pos z] at h8 h9
    unfold wL_lawOf_324
    refine br_t h7 (br_t z ?_)
    unfold wL_lawOf_360
    refine br_t h8 (br_t z ?_)
    unfold wL_lawOf_376
    refine br_t h9 (br_t h10 (br_t rfl ?_))
    unfold wL_lawOf_400
    refine br_t h11 (br_t h12 (br_t rfl ?_))
    unfold wL_lawOf_435
    exact br_t h13 H
  · rw [if_neg z] at h8 h9
    unfold wL_lawOf_324
    refine br_t h7 (br_f z (br_t rfl ?_))
    unfold wL_lawOf_360
    refine br_t h8 (br_f z ?_)
    unfold wL_lawOf_376
    refine br_t h9 (br_t h10 (br_t rfl ?_))
    unfold wL_lawOf_400
    refine br_t h11 (br_t h12 (br_t rfl ?_))
    unfold wL_lawOf_435
    exact br_t h13 H
/-- nothing was put -/
theorem sy_end0 {post : Int32 → St0 → Prop} {mc ms kc ks : Nat} {k v d : Int32} (H : post 1 ()) (x15 : Int32) : wL_lawOf_177 post mc ms k v d (-1) 0 0 0 (if k = 0 then -4 else -1) (if k = 0 then 0 else -1) (if k = 0 then 0 else -1) 0 0 (-4) x15 0 kc ks := by
  have f0 : ¬ k = 0 → wL_lawOf_271 post mc ms k v d (-1) 0 0 0 (if k = 0 then -4 else -1) (if k = 0 then 0 else -1) (if k = 0 then 0 else -1) 0 0 (-4) x15 0 0 0 0 kc ks := by
    intro h
    unfold wL_lawOf_271 wL_lawOf_272
    rw [if_neg h, if_neg h]
    exact br_t rfl (sy_tailE H rfl rfl rfl rfl rfl rfl rfl rfl rfl)
  unfold wL_lawOf_177
  refine br_t rfl ?_
  unfold wL_lawOf_189
  refine br_t rfl ?_
  unfold wL_lawOf_216
  refine br_t rfl ?_
  unfold wL_lawOf_255
  refine br_c (fun z => f0 (fun t => ?_)) (fun z => br_c (fun z' => f0 (fun t => ?_)) (fun z' => ?_))
  · rw [t] at z
    exact absurd z (by decide)
  · rw [t] at z'
    exact absurd z' (by decide)
  · have e : k = 0 := by
      rcases sy_tri k with h | ⟨h | h, _⟩
      · exact h
      · exact absurd h z
      · exact absurd (Int32.not_le.mp h) z'
    unfold wL_lawOf_272
    rw [if_pos e, if_pos e]
    exact br_t rfl (sy_tailE H rfl rfl rfl rfl rfl rfl rfl rfl rfl)
theorem sy_law (k v d : Int32) : wpL_lawOf (fun r _ => r = 1) 100 1000 () k v d := by
  unfold wpL_lawOf
  refine ⟨by omega, by omega, 50, 900, by omega, by omega, ?_⟩
  unfold wpX_init
  dsimp only
  refine ⟨by omega, by omega, by omega, by omega, by omega, by omega, by omega, by omega, by omega, by omega, by omega, by omega, by omega, by omega, by omega, by omega, by omega, by omega, by omega, by omega, by omega, by omega, by omega, by omega, by omega, by omega, by omega, by omega, by omega, by omega, nm_e (nm_e ?_)⟩
  have hz : sy_z ((fun _ => 0), (fun _ => 0), (fun _ => 0), (fun _ => 0), (fun _ => 0), (fun _ => 0), (fun _ => 0), upd (fun _ => 0) 0 (-2000000), upd (fun _ => 0) 0 2000000, (fun _ => 0), (fun _ => 0), (fun _ => 0), (fun _ => 0), (fun _ => 0), (fun _ => 0)) := ⟨rfl, rfl, rfl, rfl, pk_us, pk_us⟩
  have hu : sy_us ((fun _ => 0), (fun _ => 0), (fun _ => 0), (fun _ => 0), (fun _ => 0), (fun _ => 0), (fun _ => 0), upd (fun _ => 0) 0 (-2000000), upd (fun _ => 0) 0 2000000, (fun _ => 0), (fun _ => 0), (fun _ => 0), (fun _ => 0), (fun _ => 0), (fun _ => 0)) 0 := ⟨fun j h1 h2 => absurd h1 (by omega), fun j _ _ => rfl⟩
  by_cases hd : sy_done k v d
  · obtain ⟨n, rfl, ok⟩ := sy_doneN hd
    have hn := ok.1
    have nle : ¬ (1000000 : Int32) < v := Int32.not_lt.mpr hd.2.2.1.2
    have dle : ¬ (1000000 : Int32) < d := Int32.not_lt.mpr hd.2.2.2.1.2
    by_cases h0 : n = 0
    · subst h0
      refine sy_insD hd ok hz hu (fun x bf md bh B hI => ?_)
      obtain ⟨ex, hzB⟩ : x = 0 ∧ sy_z B := by
        rcases hI with ⟨k1, k2, k3⟩ | ⟨k1, k2, k3⟩ | ⟨m, k1, k2, k3⟩
        · exact ⟨k2, k3⟩
        · omega
        · omega
      subst ex
      have hz2 := hzB
      obtain ⟨a1, a2, a3, a4, a5, a6, a7, a8, a9, a10, a11, a12, a13, a14, a15⟩ := B
      dsimp only
      refine sy_sumE hz2 (fun bf md bh => ?_)
      dsimp only
      refine sy_wgtE hz2 (fun bf md bh => ?_)
      dsimp only
      refine sy_grtE hz2 ?_
      dsimp only
      refine sy_gatE hz2 ?_
      dsimp only
      refine sy_negE hz2 (fun bf md bh => ?_)
      dsimp only
      refine sy_revE hz2 (fun bf md bh => ?_)
      dsimp only
      refine sy_getE hz2 ?_
      dsimp only
      refine sy_sumE hz2 (fun bf md bh => ?_)
      dsimp only
      refine sy_ffE hz2 (fun u => ?_)
      refine br_f hd.1 (br_f hd.2.1 (br_f hd.2.2.1.1 (br_f nle (br_f hd.2.2.2.1.1 (br_f dle ?_)))))
      rw [nI_0, if_pos rfl, if_pos rfl]
      unfold wL_lawOf_129
      refine br_f (by decide) (br_t (by decide) ?_)
      unfold wL_lawOf_150 wL_lawOf_151
      refine br_f (by decide) (br_f (by decide) (br_f (by decide) ?_))
      unfold wL_lawOf_177
      refine br_f (by decide) ?_
      unfold wL_lawOf_189
      refine br_f (by decide) ⟨by decide, ?_⟩
      unfold wL_lawOf_216
      refine br_f (by decide) ⟨by decide, by decide, ?_⟩
      unfold wL_lawOf_255
      refine br_f (by decide) (br_f (by decide) ?_)
      unfold wL_lawOf_272
      refine br_f (by decide) ?_
      have q1 : (0 : Int32) * (0 - 1) / 2 = 0 := by decide
      have q2 : (0 : Int32) * (0 + 1) / 2 = 0 := by decide
      have q3 : ((0 : Int32) - 1) * 0 * (0 + 1) / 3 = 0 := by decide
      rw [q1, q2, q3, show (0 : Int32) * v + d * 0 = 0 by grind, show v * (0 : Int32) + d * 0 = 0 by grind]
      exact sy_tailE rfl rfl rfl rfl rfl rfl rfl rfl rfl rfl
    · refine sy_insD hd ok hz hu (fun x bf md bh B hI => ?_)
      have I2 := hI
      obtain ⟨a1, a2, a3, a4, a5, a6, a7, a8, a9, a10, a11, a12, a13, a14, a15⟩ := B
      obtain ⟨hx, hx0, e5, e6, e7, e8, ex, e3⟩ := sy_If (by omega) I2
      have hx1 := hx0 h0
      have n0 : 0 < n := by omega
      have n1 : n < 2 ^ 31 := by omega
      dsimp only
      refine sy_sumN hx hx1 n0 n1 e5 ?_
      dsimp only
      rw [sy_a3e e3 ex]
      refine sy_wgtN hx hx1 n0 n1 e5 ?_
      dsimp only
      rw [sy_a3e e3 ex]
      refine sy_grtN hx hx1 n0 n1 e5 ?_
      dsimp only
      rw [sy_a3e e3 ex]
      refine sy_gatN h0 ok hI ?_
      dsimp only
      refine sy_negN hx hx1 n0 n1 e5 ?_
      dsimp only
      rw [sy_a3e e3 ex]
      refine sy_revN hx hx1 n0 n1 e5 ?_
      dsimp only
      rw [sy_a3e e3 ex]
      refine sy_getN ok (sy_IM h0 hI) (fun B hR => ?_)
      have R2 := hR
      obtain ⟨b1, b2, b3, b4, b5, b6, b7, b8, b9, b10, b11, b12, b13, b14, b15⟩ := B
      obtain ⟨r0, r5, r6, r8, rW⟩ := R2
      dsimp only
      refine sy_sumN (x := n) (by omega) h0 n0 n1 r5 ?_
      dsimp only
      refine sy_ffN h0 ok hR (fun u => ?_)
      refine br_f hd.1 (br_f hd.2.1 (br_f hd.2.2.1.1 (br_f nle (br_f hd.2.2.2.1.1 (br_f dle ?_)))))
      rw [e6, e7, e8, r6]
      have nk : ¬ nI n ≤ 0 := nI_nle n0 n1
      have last := hd.2.2.2.2 nk
      have el : v + (nI n - 1) * d = sy_w v d (n - 1) := by
        rw [sy_m1 h0]
        rfl
      unfold wL_lawOf_129
      refine br_f (by decide) (br_f nk ?_)
      unfold wL_lawOf_151
      refine br_f (by decide) (br_f last.1 (br_f (Int32.not_lt.mpr last.2) ?_))
      unfold wL_lawOf_177
      refine br_f (by decide) ?_
      unfold wL_lawOf_189
      refine br_f (by decide) ⟨by decide, ?_⟩
      unfold wL_lawOf_216
      refine br_f (by decide) ⟨by decide, by decide, ?_⟩
      unfold wL_lawOf_255
      refine br_f hd.1 (br_f (sy_lt_irr _) ?_)
      unfold wL_lawOf_272
      refine br_f (by decide) ?_
      have c8 : nI (if d ≤ 0 then 0 else n - 1) = if d ≤ 0 then 0 else nI n - 1 := by
        by_cases z : d ≤ 0
        · rw [if_pos z, if_pos z, nI_0]
        · rw [if_neg z, if_neg z, sy_m1 h0]
      rw [el]
      refine sy_tailN rfl (nI_ne0 n0 n1) (sy_due v d n0 (by omega)).symm (sy_hvy v d n0 (by omega)).symm ?_ c8 rfl rfl rfl ?_ c8
      · unfold sy_hi
        rw [if_neg h0]
      · rw [sy_due v d n0 (by omega)]
  · refine sy_ins hz hu (fun _ => ?_) (fun t => absurd t hd)
    dsimp only
    refine sy_sumE hz (fun bf md bh => ?_)
    dsimp only
    refine sy_wgtE hz (fun bf md bh => ?_)
    dsimp only
    refine sy_grtE hz ?_
    dsimp only
    refine sy_gatE hz ?_
    dsimp only
    refine sy_negE hz (fun bf md bh => ?_)
    dsimp only
    refine sy_revE hz (fun bf md bh => ?_)
    dsimp only
    refine sy_getE hz ?_
    dsimp only
    refine sy_sumE hz (fun bf md bh => ?_)
    dsimp only
    refine sy_ffE hz (fun u => ?_)
    have t176 : ∀ x15, wL_lawOf_176 (fun r _ => r = 1) 100 1000 k v d (-1) 0 0 0 (if k = 0 then -4 else -1) (if k = 0 then 0 else -1) (if k = 0 then 0 else -1) 0 0 (-4) x15 (1 + 50) (20 + 900) := by
      intro x15
      unfold wL_lawOf_176
      exact sy_end0 rfl x15
    have t128 : wL_lawOf_128 (fun r _ => r = 1) 100 1000 k v d (-1) 0 0 0 (if k = 0 then -4 else -1) (if k = 0 then 0 else -1) (if k = 0 then 0 else -1) 0 0 (-4) (1 + 50) (20 + 900) := by
      unfold wL_lawOf_128 wL_lawOf_129 wL_lawOf_150 wL_lawOf_151
      exact br_t rfl (br_t rfl (t176 0))
    refine br_c (fun _ => t128) (fun c1 => br_c (fun _ => t128) (fun c2 => br_c (fun _ => t128) (fun c3 => br_c (fun _ => t128) (fun c4 => br_c (fun _ => t128) (fun c5 => br_c (fun _ => t128) (fun c6 => ?_))))))
    have v3 := Int32.not_lt.mp c4
    have d3 := Int32.not_lt.mp c6
    unfold wL_lawOf_129
    refine br_f (by decide) (br_c (fun z => ?_) (fun z => ?_))
    · exact absurd ⟨c1, c2, ⟨c3, v3⟩, ⟨c5, d3⟩, fun t => absurd z t⟩ hd
    · unfold wL_lawOf_151
      refine br_f (by decide) (br_c (fun _ => t176 _) (fun y1 => br_c (fun _ => t176 _) (fun y2 => ?_)))
      exact absurd ⟨c1, c2, ⟨c3, v3⟩, ⟨c5, d3⟩, fun _ => ⟨y1, Int32.not_lt.mp y2⟩⟩ hd
theorem sy_cell {post : Int32 → Prop} {L : Nat} {xs : Nat → Int32} {u : St0} {i : Nat} (hL : L ≤ 3) (hi : i ≤ 2) (H : ∀ y, post y) : wpL_cellAt post L xs u (nI i) := by
  unfold wpL_cellAt
  exact pk_le L i (fun _ => H _) (fun z => ⟨pk_in i L z, H _⟩)
theorem i_vc (xs : Nat → Int32) (L : Nat) (hL : L ≤ 3) : wpL_law (fun r => r = 1) L xs := by
  unfold wpL_law
  refine sy_cell (i := 0) hL (by omega) (fun k => ?_)
  refine sy_cell (i := 1) hL (by omega) (fun v => ?_)
  refine sy_cell (i := 2) hL (by omega) (fun d => ?_)
  exact ⟨100, 1000, by omega, by omega, sy_law k v d⟩
end
