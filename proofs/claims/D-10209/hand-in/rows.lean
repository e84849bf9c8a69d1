section
/-! gates with three values: 0, 1 and 2 (not told yet) -/
def bb_and (x y : Nat) : Nat := if x = 0 then 0 else if y = 0 then 0 else if x = 1 then (if y = 1 then 1 else 2) else 2
def bb_ed (v : Nat → Nat) (e : Nat) : Nat := if v (e / 2) = 2 then 2 else (v (e / 2) + e) % 2
def bb_step (N : Nat) (L R p v : Nat → Nat) (k : Nat) : Nat := if k = 0 then 0 else if k ≤ N then p (k - 1) else if k < 13 then 0 else bb_and (bb_ed v (L k)) (bb_ed v (R k))
def bb_tb (N : Nat) (L R p : Nat → Nat) : Nat → Nat → Nat
  | 0 => fun _ => 0
  | k + 1 => fun j => if j = k then bb_step N L R p (bb_tb N L R p k) k else bb_tb N L R p k j
def bb_ev (N : Nat) (L R p : Nat → Nat) (g : Nat) : Nat := bb_tb N L R p (g + 1) g
def bb_wf (G : Nat) (L R : Nat → Nat) : Prop := ∀ g, 13 ≤ g → g < G → L g < 2 * g ∧ R g < 2 * g
theorem bb_tb_lt {N : Nat} {L R p : Nat → Nat} : ∀ k j, j < k → bb_tb N L R p k j = bb_ev N L R p j := by
  intro k
  induction k with
  | zero => intro j h; omega
  | succ k ih =>
    intro j h
    by_cases e : j = k
    · subst e; rfl
    · show (if j = k then bb_step N L R p (bb_tb N L R p k) k else bb_tb N L R p k j) = _
      rw [if_neg e]
      exact ih j (by omega)
theorem bb_ev_un {N : Nat} {L R p : Nat → Nat} {g : Nat} : bb_ev N L R p g = bb_step N L R p (bb_tb N L R p g) g := by
  show (if g = g then bb_step N L R p (bb_tb N L R p g) g else bb_tb N L R p g g) = _
  rw [if_pos rfl]
theorem bb_ev_0 {N : Nat} {L R p : Nat → Nat} : bb_ev N L R p 0 = 0 := by
  rw [bb_ev_un]; unfold bb_step; rw [if_pos rfl]
theorem bb_ev_in {N : Nat} {L R p : Nat → Nat} {g : Nat} (h0 : 0 < g) (h : g ≤ N) : bb_ev N L R p g = p (g - 1) := by
  rw [bb_ev_un]; unfold bb_step; rw [if_neg (by omega), if_pos h]
theorem bb_ev_mid {N : Nat} {L R p : Nat → Nat} {g : Nat} (h : N < g) (h2 : g < 13) : bb_ev N L R p g = 0 := by
  rw [bb_ev_un]; unfold bb_step; rw [if_neg (by omega), if_neg (by omega), if_pos h2]
theorem bb_ev_g {N G : Nat} {L R p : Nat → Nat} (hw : bb_wf G L R) (hN : N < 13) {g : Nat} (h : 13 ≤ g) (hg : g < G) : bb_ev N L R p g = bb_and (bb_ed (bb_ev N L R p) (L g)) (bb_ed (bb_ev N L R p) (R g)) := by
  have hh := hw g h hg
  rw [bb_ev_un]; unfold bb_step; rw [if_neg (by omega), if_neg (by omega), if_neg (by omega)]
  unfold bb_ed
  rw [bb_tb_lt g (L g / 2) (by omega), bb_tb_lt g (R g / 2) (by omega)]
theorem bb_and_le (x y : Nat) : bb_and x y ≤ 2 := by
  unfold bb_and
  repeat' split
  all_goals omega
theorem bb_and_mono {x y x' y' : Nat} (hx : x = 2 ∨ x' = x) (hy : y = 2 ∨ y' = y) : bb_and x y = 2 ∨ bb_and x' y' = bb_and x y := by
  unfold bb_and
  repeat' split
  all_goals omega
theorem bb_and_lt {x y : Nat} (hx : x < 2) (hy : y < 2) : bb_and x y < 2 := by
  unfold bb_and
  repeat' split
  all_goals omega
theorem bb_ed_le {v : Nat → Nat} (e : Nat) : bb_ed v e ≤ 2 := by
  unfold bb_ed
  split
  all_goals omega
theorem bb_ed_mono {v u : Nat → Nat} {e : Nat} (h : v (e / 2) = 2 ∨ u (e / 2) = v (e / 2)) : bb_ed v e = 2 ∨ bb_ed u e = bb_ed v e := by
  unfold bb_ed
  rcases h with h | h
  · left; rw [if_pos h]
  · right; rw [h]
theorem bb_ed_lt {v : Nat → Nat} {e : Nat} (h : v (e / 2) < 2) : bb_ed v e < 2 := by
  unfold bb_ed
  rw [if_neg (by omega)]
  omega
theorem bb_ev_le {N G : Nat} {L R p : Nat → Nat} (hw : bb_wf G L R) (hN : N < 13) (hp : ∀ k, k < N → p k ≤ 2) : ∀ g, g < G → bb_ev N L R p g ≤ 2 := by
  intro g hg
  by_cases h0 : g = 0
  · subst h0; rw [bb_ev_0]; omega
  by_cases h1 : g ≤ N
  · rw [bb_ev_in (by omega) h1]; exact hp _ (by omega)
  by_cases h2 : g < 13
  · rw [bb_ev_mid (by omega) h2]; omega
  · rw [bb_ev_g hw hN (by omega) hg]; exact bb_and_le _ _
theorem bb_ev_full {N G : Nat} {L R p : Nat → Nat} (hw : bb_wf G L R) (hN : N < 13) (hp : ∀ k, k < N → p k < 2) : ∀ g, g < G → bb_ev N L R p g < 2 := by
  intro g
  induction g using Nat.strongRecOn with
  | ind g ih =>
    intro hg
    by_cases h0 : g = 0
    · subst h0; rw [bb_ev_0]; omega
    by_cases h1 : g ≤ N
    · rw [bb_ev_in (by omega) h1]; exact hp _ (by omega)
    by_cases h2 : g < 13
    · rw [bb_ev_mid (by omega) h2]; omega
    · have hh := hw g (by omega) hg
      rw [bb_ev_g hw hN (by omega) hg]
      exact bb_and_lt (bb_ed_lt (ih _ (by omega) (by omega))) (bb_ed_lt (ih _ (by omega) (by omega)))
theorem bb_ev_mono {N G : Nat} {L R p q : Nat → Nat} (hw : bb_wf G L R) (hN : N < 13) (hp : ∀ k, k < N → p k = 2 ∨ q k = p k) : ∀ g, g < G → bb_ev N L R p g = 2 ∨ bb_ev N L R q g = bb_ev N L R p g := by
  intro g
  induction g using Nat.strongRecOn with
  | ind g ih =>
    intro hg
    by_cases h0 : g = 0
    · subst h0; rw [bb_ev_0, bb_ev_0]; right; rfl
    by_cases h1 : g ≤ N
    · rw [bb_ev_in (by omega) h1, bb_ev_in (by omega) h1]; exact hp _ (by omega)
    by_cases h2 : g < 13
    · rw [bb_ev_mid (by omega) h2, bb_ev_mid (by omega) h2]; right; rfl
    · have hh := hw g (by omega) hg
      rw [bb_ev_g hw hN (by omega) hg, bb_ev_g hw hN (by omega) hg]
      exact bb_and_mono (bb_ed_mono (ih _ (by omega) (by omega))) (bb_ed_mono (ih _ (by omega) (by omega)))
theorem bb_ev_congr {N G : Nat} {L R L' R' p : Nat → Nat} (hw : bb_wf G L R) (hN : N < 13) (ha : ∀ g, 13 ≤ g → g < G → L' g = L g ∧ R' g = R g) : ∀ g, g < G → bb_ev N L' R' p g = bb_ev N L R p g := by
  have hw' : bb_wf G L' R' := fun g h hg => by rw [(ha g h hg).1, (ha g h hg).2]; exact hw g h hg
  intro g
  induction g using Nat.strongRecOn with
  | ind g ih =>
    intro hg
    by_cases h0 : g = 0
    · subst h0; rw [bb_ev_0, bb_ev_0]
    by_cases h1 : g ≤ N
    · rw [bb_ev_in (by omega) h1, bb_ev_in (by omega) h1]
    by_cases h2 : g < 13
    · rw [bb_ev_mid (by omega) h2, bb_ev_mid (by omega) h2]
    · have hh := hw g (by omega) hg
      rw [bb_ev_g hw hN (by omega) hg, bb_ev_g hw' hN (by omega) hg, (ha g (by omega) hg).1, (ha g (by omega) hg).2]
      unfold bb_ed
      rw [ih (L g / 2) (by omega) (by omega), ih (R g / 2) (by omega) (by omega)]
/-! edges under a number -/
def bb_bits (N n k : Nat) : Nat := n / 2 ^ (N - 1 - k) % 2
def bb_tv (N : Nat) (L R p : Nat → Nat) (e : Nat) : Nat := bb_ed (bb_ev N L R p) e
def bb_bv (N : Nat) (L R : Nat → Nat) (n e : Nat) : Bool := decide (bb_tv N L R (bb_bits N n) e = 1)
theorem bb_bits_lt (N n k : Nat) : bb_bits N n k < 2 := Nat.mod_lt _ (by omega)
theorem bb_x1d (e : Nat) : (e ^^^ 1) / 2 = e / 2 := by
  rw [Nat.xor_div_two]; exact Nat.xor_zero _
theorem bb_x1m (e : Nat) : (e ^^^ 1) % 2 = 1 - e % 2 := by
  have h := @Nat.xor_mod_two_eq_one e 1
  have h1 := Nat.mod_lt (e ^^^ 1) (show 0 < 2 by omega)
  have h2 := Nat.mod_lt e (show 0 < 2 by omega)
  by_cases c : e % 2 = 1
  · have : ¬ (e ^^^ 1) % 2 = 1 := fun z => (h.mp z) ⟨fun _ => rfl, fun _ => c⟩
    omega
  · have : (e ^^^ 1) % 2 = 1 := h.mpr (fun z => c (z.mpr rfl))
    omega
theorem bb_x1lt {e G : Nat} (h : e < 2 * G) : e ^^^ 1 < 2 * G := by
  have h1 := bb_x1d e
  omega
theorem bb_tv_lt {N G : Nat} {L R p : Nat → Nat} (hw : bb_wf G L R) (hN : N < 13) (hp : ∀ k, k < N → p k < 2) {e : Nat} (he : e < 2 * G) : bb_tv N L R p e < 2 := bb_ed_lt (bb_ev_full hw hN hp _ (by omega))
theorem bb_tv_val {N G : Nat} {L R p : Nat → Nat} (hw : bb_wf G L R) (hN : N < 13) (hp : ∀ k, k < N → p k < 2) {e : Nat} (he : e < 2 * G) : bb_tv N L R p e = (bb_ev N L R p (e / 2) + e) % 2 := by
  have h := bb_ev_full hw hN hp (e / 2) (by omega)
  unfold bb_tv bb_ed
  rw [if_neg (by omega)]
theorem bb_bv_0 {N : Nat} {L R : Nat → Nat} (n : Nat) : bb_bv N L R n 0 = false := by
  unfold bb_bv bb_tv bb_ed
  rw [show (0 : Nat) / 2 = 0 from rfl, bb_ev_0]
  decide
theorem bb_bv_1 {N : Nat} {L R : Nat → Nat} (n : Nat) : bb_bv N L R n 1 = true := by
  unfold bb_bv bb_tv bb_ed
  rw [show (1 : Nat) / 2 = 0 from rfl, bb_ev_0]
  decide
theorem bb_bv_inv {N G : Nat} {L R : Nat → Nat} (hw : bb_wf G L R) (hN : N < 13) (n : Nat) {e : Nat} (he : e < 2 * G) : bb_bv N L R n (e ^^^ 1) = !bb_bv N L R n e := by
  have hb : ∀ k, k < N → bb_bits N n k < 2 := fun k _ => bb_bits_lt N n k
  unfold bb_bv
  rw [bb_tv_val hw hN hb he, bb_tv_val hw hN hb (bb_x1lt he), bb_x1d]
  have h1 := bb_x1m e
  have h2 := Nat.mod_lt e (show 0 < 2 by omega)
  by_cases c : (bb_ev N L R (bb_bits N n) (e / 2) + e) % 2 = 1
  · rw [decide_eq_true c, decide_eq_false (by omega)]; rfl
  · rw [decide_eq_false c, decide_eq_true (by omega)]; rfl
theorem bb_bv_gate {N G : Nat} {L R : Nat → Nat} (hw : bb_wf G L R) (hN : N < 13) (n : Nat) {g : Nat} (h : 13 ≤ g) (hg : g < G) : bb_bv N L R n (2 * g) = (bb_bv N L R n (L g) && bb_bv N L R n (R g)) := by
  have hb : ∀ k, k < N → bb_bits N n k < 2 := fun k _ => bb_bits_lt N n k
  have hh := hw g h hg
  have h1 := bb_tv_lt hw hN hb (show L g < 2 * G by omega)
  have h2 := bb_tv_lt hw hN hb (show R g < 2 * G by omega)
  have e1 : bb_tv N L R (bb_bits N n) (2 * g) = bb_and (bb_tv N L R (bb_bits N n) (L g)) (bb_tv N L R (bb_bits N n) (R g)) := by
    have h3 := bb_and_lt h1 h2
    rw [bb_tv_val hw hN hb (show 2 * g < 2 * G by omega), show 2 * g / 2 = g by omega, bb_ev_g hw hN h hg]
    show (bb_and (bb_tv N L R (bb_bits N n) (L g)) (bb_tv N L R (bb_bits N n) (R g)) + 2 * g) % 2 = _
    omega
  unfold bb_bv
  rw [e1]
  generalize bb_tv N L R (bb_bits N n) (L g) = x at h1 ⊢
  generalize bb_tv N L R (bb_bits N n) (R g) = y at h2 ⊢
  have hx : x = 0 ∨ x = 1 := by omega
  have hy : y = 0 ∨ y = 1 := by omega
  rcases hx with rfl | rfl <;> rcases hy with rfl | rfl <;> rfl
theorem bb_bv_congr {N G : Nat} {L R L' R' : Nat → Nat} (hw : bb_wf G L R) (hN : N < 13) (ha : ∀ g, 13 ≤ g → g < G → L' g = L g ∧ R' g = R g) (n : Nat) {e : Nat} (he : e < 2 * G) : bb_bv N L' R' n e = bb_bv N L R n e := by
  unfold bb_bv bb_tv bb_ed
  rw [bb_ev_congr hw hN ha (e / 2) (by omega)]
theorem bb_bv_cube {N G : Nat} {L R p : Nat → Nat} (hw : bb_wf G L R) (hN : N < 13) {n e : Nat} (he : e < 2 * G) (hp : ∀ k, k < N → p k = 2 ∨ bb_bits N n k = p k) (h2 : bb_tv N L R p e ≠ 2) : bb_bv N L R n e = decide (bb_tv N L R p e = 1) := by
  have h := bb_ed_mono (bb_ev_mono hw hN hp (e / 2) (by omega))
  unfold bb_bv
  rcases h with h | h
  · exact absurd h h2
  · have h' : bb_tv N L R (bb_bits N n) e = bb_tv N L R p e := h
    rw [h']
end
section
/-! counting, sums, all -/
def bb_cnt (P : Nat → Bool) : Nat → Nat
  | 0 => 0
  | n + 1 => bb_cnt P n + (if P n = true then 1 else 0)
theorem bb_cnt_s (P : Nat → Bool) (n : Nat) : bb_cnt P (n + 1) = bb_cnt P n + (if P n = true then 1 else 0) := rfl
theorem bb_cnt_le (P : Nat → Bool) : ∀ m, bb_cnt P m ≤ m := by
  intro m
  induction m with
  | zero => exact Nat.le_refl 0
  | succ m ih =>
    rw [bb_cnt_s]
    split <;> omega
theorem bb_cnt_tt {P : Nat → Bool} {a : Nat} : ∀ m, (∀ i, a ≤ i → i < a + m → P i = true) → bb_cnt P (a + m) = bb_cnt P a + m := by
  intro m
  induction m with
  | zero => intro _; rfl
  | succ m ih =>
    intro h
    rw [show a + (m + 1) = (a + m) + 1 by omega, bb_cnt_s, ih (fun i h1 h2 => h i h1 (by omega)), if_pos (h (a + m) (by omega) (by omega))]
    omega
theorem bb_cnt_ff {P : Nat → Bool} {a : Nat} : ∀ m, (∀ i, a ≤ i → i < a + m → P i = false) → bb_cnt P (a + m) = bb_cnt P a := by
  intro m
  induction m with
  | zero => intro _; rfl
  | succ m ih =>
    intro h
    rw [show a + (m + 1) = (a + m) + 1 by omega, bb_cnt_s, ih (fun i h1 h2 => h i h1 (by omega)), h (a + m) (by omega) (by omega), if_neg (by decide)]
    omega
theorem bb_cnt_z {P : Nat → Bool} : ∀ m, bb_cnt P m = 0 ↔ ∀ i, i < m → P i = false := by
  intro m
  induction m with
  | zero => exact ⟨fun _ i h => absurd h (by omega), fun _ => rfl⟩
  | succ m ih =>
    rw [bb_cnt_s]
    constructor
    · intro h i hi
      have h1 : bb_cnt P m = 0 := by omega
      by_cases e : i = m
      · subst e
        cases hp : P i with
        | false => rfl
        | true => rw [hp, if_pos rfl] at h; omega
      · exact ih.mp h1 i (by omega)
    · intro h
      rw [ih.mpr (fun i hi => h i (by omega)), h m (by omega)]
      rfl
theorem bb_cnt_split {A t : Nat → Bool} : ∀ m, bb_cnt (fun n => A n && !t n) m + bb_cnt (fun n => A n && t n) m = bb_cnt A m := by
  intro m
  induction m with
  | zero => rfl
  | succ m ih =>
    rw [bb_cnt_s, bb_cnt_s, bb_cnt_s]
    cases hA : A m <;> cases ht : t m <;> simp [hA, ht] <;> omega
theorem bb_cnt_congr {P P' : Nat → Bool} : ∀ m, (∀ i, i < m → P i = P' i) → bb_cnt P m = bb_cnt P' m := by
  intro m
  induction m with
  | zero => intro _; rfl
  | succ m ih =>
    intro h
    rw [bb_cnt_s, bb_cnt_s, ih (fun i hi => h i (by omega)), h m (by omega)]
def bb_sum (f : Nat → Bool) : Nat → Nat
  | 0 => 0
  | i + 1 => bb_sum f i + (if f i = true then 2 ^ i else 0)
theorem bb_sum_s (f : Nat → Bool) (i : Nat) : bb_sum f (i + 1) = bb_sum f i + (if f i = true then 2 ^ i else 0) := rfl
theorem bb_sum_lt (f : Nat → Bool) : ∀ w, bb_sum f w < 2 ^ w := by
  intro w
  induction w with
  | zero => exact Nat.one_pos
  | succ w ih =>
    rw [bb_sum_s, Nat.pow_succ]
    split <;> omega
theorem bb_sum_inj {f g : Nat → Bool} : ∀ w, bb_sum f w = bb_sum g w → ∀ i, i < w → f i = g i := by
  intro w
  induction w with
  | zero => intro _ i h; omega
  | succ w ih =>
    intro h i hi
    have h1 := bb_sum_lt f w
    have h2 := bb_sum_lt g w
    rw [bb_sum_s, bb_sum_s] at h
    have h3 : f w = g w ∧ bb_sum f w = bb_sum g w := by
      cases hf : f w <;> cases hg : g w <;> simp [hf, hg] at h ⊢ <;> omega
    by_cases e : i = w
    · rw [e]; exact h3.1
    · exact ih h3.2 i (by omega)
theorem bb_sum_congr {f g : Nat → Bool} : ∀ w, (∀ i, i < w → f i = g i) → bb_sum f w = bb_sum g w := by
  intro w
  induction w with
  | zero => intro _; rfl
  | succ w ih =>
    intro h
    rw [bb_sum_s, bb_sum_s, ih (fun i hi => h i (by omega)), h w (by omega)]
/-- the sum from its highest bit down, m bits of it -/
def bb_hs (f : Nat → Bool) (w : Nat) : Nat → Nat
  | 0 => 0
  | m + 1 => 2 * bb_hs f w m + (if f (w - 1 - m) = true then 1 else 0)
theorem bb_hs_s (f : Nat → Bool) (w m : Nat) : bb_hs f w (m + 1) = 2 * bb_hs f w m + (if f (w - 1 - m) = true then 1 else 0) := rfl
theorem bb_hs_sum (f : Nat → Bool) (w : Nat) : ∀ m, m ≤ w → bb_sum f w = bb_hs f w m * 2 ^ (w - m) + bb_sum f (w - m) := by
  intro m
  induction m with
  | zero => intro _; show _ = 0 * 2 ^ (w - 0) + bb_sum f (w - 0); rw [Nat.zero_mul, Nat.zero_add, Nat.sub_zero]
  | succ m ih =>
    intro h
    rw [ih (by omega), show w - m = (w - (m + 1)) + 1 by omega, bb_sum_s, bb_hs_s, show w - 1 - m = w - (m + 1) by omega, Nat.pow_succ]
    generalize 2 ^ (w - (m + 1)) = H
    generalize bb_hs f w m = X
    generalize bb_sum f (w - (m + 1)) = Y
    have e1 : X * (H * 2) = 2 * X * H := by rw [Nat.mul_comm H 2, ← Nat.mul_assoc, Nat.mul_comm X 2]
    rw [e1]
    split
    · rw [Nat.add_mul, Nat.one_mul]; omega
    · rw [Nat.add_zero, Nat.add_zero]
theorem bb_hs_w (f : Nat → Bool) (w : Nat) : bb_hs f w w = bb_sum f w := by
  have h := bb_hs_sum f w w (Nat.le_refl w)
  rw [Nat.sub_self] at h
  have h2 : bb_sum f 0 = 0 := rfl
  rw [h2, Nat.pow_zero] at h
  omega
theorem bb_hs_lt (f : Nat → Bool) (w : Nat) : ∀ m, bb_hs f w m < 2 ^ m := by
  intro m
  induction m with
  | zero => exact Nat.one_pos
  | succ m ih =>
    rw [bb_hs_s, Nat.pow_succ]
    split <;> omega
def bb_all (f : Nat → Bool) : Nat → Bool
  | 0 => true
  | k + 1 => bb_all f k && f k
theorem bb_all_s (f : Nat → Bool) (k : Nat) : bb_all f (k + 1) = (bb_all f k && f k) := rfl
theorem bb_all_congr {f g : Nat → Bool} : ∀ w, (∀ i, i < w → f i = g i) → bb_all f w = bb_all g w := by
  intro w
  induction w with
  | zero => intro _; rfl
  | succ w ih =>
    intro h
    rw [bb_all_s, bb_all_s, ih (fun i hi => h i (by omega)), h w (by omega)]
theorem bb_all_t {f : Nat → Bool} : ∀ w, bb_all f w = true ↔ ∀ i, i < w → f i = true := by
  intro w
  induction w with
  | zero => exact ⟨fun _ i h => absurd h (by omega), fun _ => rfl⟩
  | succ w ih =>
    rw [bb_all_s, Bool.and_eq_true]
    constructor
    · intro h i hi
      by_cases e : i = w
      · rw [e]; exact h.2
      · exact ih.mp h.1 i (by omega)
    · intro h
      exact ⟨ih.mpr (fun i hi => h i (by omega)), h w (by omega)⟩
/-! cubes: the first d of N inputs decided, q their number -/
def bb_n (a : Nat → Int32) (j : Nat) : Nat := (a j).toNatClampNeg
def bb_cu (N d q : Nat) (a : Nat → Int32) : Prop := d ≤ N ∧ q < 2 ^ d ∧ (∀ k, k < d → a k = nI (q / 2 ^ (d - 1 - k) % 2)) ∧ (∀ k, d ≤ k → k < N → a k = 2)
theorem bb_p2 {N d : Nat} (h : d < N) : 2 ^ (N - d) = 2 * 2 ^ (N - (d + 1)) := by
  rw [show N - d = (N - (d + 1)) + 1 by omega, Nat.pow_succ]
  omega
theorem bb_n_nI {a : Nat → Int32} {j v : Nat} (h : a j = nI v) (hv : v < 2 ^ 31) : bb_n a j = v := by
  unfold bb_n; rw [h, nI_clamp hv]
theorem bb_div2 (q m : Nat) : q / 2 ^ (m + 1) = q / 2 / 2 ^ m := by
  rw [Nat.pow_succ, Nat.mul_comm, Nat.div_div_eq_div_mul]
theorem bb_cu_open {N d q : Nat} {a : Nat → Int32} (h : bb_cu N d q a) (hd : d < N) : bb_cu N (d + 1) (2 * q) (upd a d 0) := by
  obtain ⟨h1, h2, h3, h4⟩ := h
  refine ⟨hd, by rw [Nat.pow_succ]; omega, fun k hk => ?_, fun k hk hN => ?_⟩
  · by_cases e : k = d
    · rw [e, pk_us, show d + 1 - 1 - d = 0 by omega, Nat.pow_zero, Nat.div_one, show 2 * q % 2 = 0 by omega]
      rfl
    · rw [pk_un e, h3 k (by omega), show d + 1 - 1 - k = (d - 1 - k) + 1 by omega, bb_div2, show 2 * q / 2 = q by omega]
  · rw [pk_un (by omega)]
    exact h4 k (by omega) hN
theorem bb_cu_back {N d q : Nat} {a : Nat → Int32} (h : bb_cu N (d + 1) q a) : bb_cu N d (q / 2) (upd a d 2) := by
  obtain ⟨h1, h2, h3, h4⟩ := h
  refine ⟨by omega, by rw [Nat.pow_succ] at h2; omega, fun k hk => ?_, fun k hk hN => ?_⟩
  · rw [pk_un (by omega), h3 k (by omega), show d + 1 - 1 - k = (d - 1 - k) + 1 by omega, bb_div2]
  · by_cases e : k = d
    · rw [e, pk_us]
    · rw [pk_un e]
      exact h4 k (by omega) hN
theorem bb_cu_up {N d q : Nat} {a : Nat → Int32} (h : bb_cu N (d + 1) q a) (hq : q % 2 = 0) : bb_cu N (d + 1) (q + 1) (upd a d 1) := by
  obtain ⟨h1, h2, h3, h4⟩ := h
  refine ⟨h1, by rw [Nat.pow_succ] at h2 ⊢; omega, fun k hk => ?_, fun k hk hN => ?_⟩
  · by_cases e : k = d
    · rw [e, pk_us, show d + 1 - 1 - d = 0 by omega, Nat.pow_zero, Nat.div_one, show (q + 1) % 2 = 1 by omega]
      rfl
    · rw [pk_un e, h3 k (by omega), show d + 1 - 1 - k = (d - 1 - k) + 1 by omega, bb_div2, bb_div2, show (q + 1) / 2 = q / 2 by omega]
  · rw [pk_un (by omega)]
    exact h4 k hk hN
theorem bb_cu_last {N d q : Nat} {a : Nat → Int32} (h : bb_cu N (d + 1) q a) : a d = nI (q % 2) := by
  obtain ⟨h1, h2, h3, h4⟩ := h
  rw [h3 d (by omega), show d + 1 - 1 - d = 0 by omega, Nat.pow_zero, Nat.div_one]
theorem bb_m2lt (x : Nat) : x % 2 < 2 ^ 31 := by omega
theorem bb_cu_in {N d q n : Nat} {a : Nat → Int32} (h : bb_cu N d q a) (hn : n / 2 ^ (N - d) = q) : ∀ k, k < N → bb_n a k = 2 ∨ bb_bits N n k = bb_n a k := by
  obtain ⟨h1, h2, h3, h4⟩ := h
  intro k hk
  by_cases c : k < d
  · right
    rw [bb_n_nI (h3 k c) (bb_m2lt _)]
    unfold bb_bits
    rw [show N - 1 - k = (N - d) + (d - 1 - k) by omega, Nat.pow_add, ← Nat.div_div_eq_div_mul, hn]
  · left
    exact bb_n_nI (h4 k (by omega) hk) (by omega)
theorem bb_cu_le {N d q : Nat} {a : Nat → Int32} (h : bb_cu N d q a) : ∀ k, k < N → ∃ v, v ≤ 2 ∧ a k = nI v := by
  obtain ⟨h1, h2, h3, h4⟩ := h
  intro k hk
  by_cases c : k < d
  · exact ⟨_, by omega, h3 k c⟩
  · exact ⟨2, by omega, h4 k (by omega) hk⟩
theorem bb_cu_full {N q : Nat} {a : Nat → Int32} (h : bb_cu N N q a) : ∀ k, k < N → bb_n a k < 2 := by
  obtain ⟨h1, h2, h3, h4⟩ := h
  intro k hk
  rw [bb_n_nI (h3 k hk) (bb_m2lt _)]
  omega
theorem bb_cu_hi {N d q : Nat} {a : Nat → Int32} (h : bb_cu N d q a) : (q + 1) * 2 ^ (N - d) ≤ 2 ^ N := by
  obtain ⟨h1, h2, h3, h4⟩ := h
  have := Nat.mul_le_mul_right (2 ^ (N - d)) (show q + 1 ≤ 2 ^ d by omega)
  rw [← Nat.pow_add, show d + (N - d) = N by omega] at this
  exact this
theorem bb_lo_open {N d q : Nat} (h : d < N) : 2 * q * 2 ^ (N - (d + 1)) = q * 2 ^ (N - d) := by
  rw [bb_p2 h, ← Nat.mul_assoc, Nat.mul_comm q 2]
theorem bb_hi_back {N d q : Nat} (h : d < N) (hq : q % 2 = 1) : (q / 2 + 1) * 2 ^ (N - d) = (q + 1) * 2 ^ (N - (d + 1)) := by
  rw [bb_p2 h, ← Nat.mul_assoc, show (q / 2 + 1) * 2 = q + 1 by omega]
theorem bb_low {N d q k : Nat} (h : d ≤ k) (hk : k < N) : q * 2 ^ (N - d) / 2 ^ (N - 1 - k) % 2 = 0 := by
  rw [show N - d = (k - d) + 1 + (N - 1 - k) by omega, Nat.pow_add, ← Nat.mul_assoc, Nat.mul_div_cancel _ (Nat.two_pow_pos _), Nat.pow_succ, ← Nat.mul_assoc]
  exact Nat.mul_mod_left _ _
/-- what numberNow adds at input k -/
theorem bb_num {N d q k : Nat} {a : Nat → Int32} (h : bb_cu N d q a) (hk : k < N) : (a k = 1 ↔ q * 2 ^ (N - d) / 2 ^ (N - 1 - k) % 2 = 1) ∧ q * 2 ^ (N - d) / 2 ^ (N - (k + 1)) = 2 * (q * 2 ^ (N - d) / 2 ^ (N - k)) + q * 2 ^ (N - d) / 2 ^ (N - 1 - k) % 2 := by
  constructor
  · by_cases c : k < d
    · have h3 := h.2.2.1 k c
      have h5 := bb_cu_in h (Nat.mul_div_cancel q (Nat.two_pow_pos (N - d))) k hk
      rw [bb_n_nI h3 (bb_m2lt _)] at h5
      have h6 : q * 2 ^ (N - d) / 2 ^ (N - 1 - k) % 2 = q / 2 ^ (d - 1 - k) % 2 := by
        rcases h5 with h5 | h5
        · omega
        · exact h5
      rw [h6, h3]
      have h7 := nI_eq (bb_m2lt (q / 2 ^ (d - 1 - k))) (show 1 < 2 ^ 31 by omega)
      exact h7
    · rw [h.2.2.2 k (by omega) hk, bb_low (by omega) hk]
      exact ⟨fun z => absurd z (by decide), fun z => absurd z (by omega)⟩
  · rw [show N - (k + 1) = N - 1 - k by omega, show N - k = (N - 1 - k) + 1 by omega, Nat.pow_succ, ← Nat.div_div_eq_div_mul]
    omega
end
section
/-! ints -/
theorem bb_xor (a b : Nat) : nI a ^^^ nI b = nI (a ^^^ b) := by
  apply Int32.toBitVec_inj.1
  show BitVec.ofNat 32 a ^^^ BitVec.ofNat 32 b = BitVec.ofNat 32 (a ^^^ b)
  apply BitVec.eq_of_getLsbD_eq
  intro i hi
  simp [hi]
theorem bb_sl : ∀ n, n < 32 → ((nI n &&& 31).toBitVec.smod 32).toNat = n := by decide +kernel
theorem bb_x1 (e : Nat) : nI e ^^^ 1 = nI (e ^^^ 1) := bb_xor e 1
theorem bb_x0 (e : Nat) : nI e ^^^ 0 = nI e := by
  have h := bb_xor e 0
  rw [Nat.xor_zero] at h
  exact h
theorem bb_shr1 {e : Nat} (h : e < 2 ^ 31) : nI e >>> ((1 : Int32) &&& 31) = nI (e / 2) := by
  have h1 := pk_shrN h ((1 : Int32) &&& 31) 1 (by decide)
  rw [Nat.pow_one] at h1
  exact h1
theorem bb_and1 {e : Nat} (h : e < 2 ^ 31) : nI e &&& 1 = nI (e % 2) := by
  have h1 := pk_andN (n := e) (by omega) (m := (1 : Int32)) 1 (by decide)
  rw [Nat.pow_one] at h1
  exact h1
theorem bb_xv : ∀ v, v < 2 → ∀ m, m < 2 → nI v ^^^ nI m = nI ((v + m) % 2) := by decide +kernel
theorem bb_xe {v e : Nat} (hv : v < 2) (he : e < 2 ^ 31) : nI v ^^^ (nI e &&& 1) = nI ((v + e) % 2) := by
  rw [bb_and1 he, bb_xv v hv (e % 2) (by omega)]
  congr 1
  omega
theorem bb_bit {N k n : Nat} (hN : N ≤ 9) (hk : k < N) (hn : n < 2 ^ 31) : (nI n >>> (((nI N - 1) - nI k) &&& 31)) &&& 1 = nI (bb_bits N n k) := by
  have e : (nI N - 1) - nI k = nI (N - 1 - k) := by
    show (nI N - nI 1) - nI k = _
    rw [pk_sub (by omega), pk_sub (by omega)]
  have h2 : n / 2 ^ (N - 1 - k) ≤ n := Nat.div_le_self _ _
  rw [e, pk_shrN hn _ (N - 1 - k) (bb_sl _ (by omega)), bb_and1 (by omega)]
  rfl
theorem bb_shl1 : ∀ N, N < 10 → (1 : Int32) <<< (nI N &&& 31) = nI (2 ^ N) := by decide +kernel
theorem bb_shlv : ∀ v, v < 2 → ∀ i, i < 4 → nI v <<< (nI i &&& 31) = nI (v * 2 ^ i) := by decide +kernel
theorem bb_byte : ∀ v, v < 3 → (nI v).toInt8.toInt32 = nI v := by decide +kernel
theorem bb_2m (a : Nat) : 2 * nI a = nI (2 * a) := pk_mul 2 a
theorem bb_4a (a i : Nat) : 4 * nI a + nI i = nI (4 * a + i) := by
  show nI 4 * nI a + nI i = _
  rw [pk_mul, nI_add]
theorem bb_pow9 {N : Nat} (h : N ≤ 9) : 2 ^ N ≤ 512 := Nat.pow_le_pow_right (n := 2) (by omega) h
/-! the gates' table: well founded, and its buckets -/
def bb_edge (G : Nat) (x : Int32) : Prop := ∃ e, e < 2 * G ∧ x = nI e
def bb_es (m G : Nat) (a : Nat → Int32) : Prop := ∀ j, j < m → bb_edge G (a j)
def bb_key (x y : Int32) : Nat := ((x * 31 + y * 17) &&& 255).toNatClampNeg
theorem bb_key_eq (x y : Int32) : (x * 31 + y * 17) &&& 255 = nI (bb_key x y) ∧ bb_key x y < 256 := by
  obtain ⟨j, hj, e⟩ := pk_andE (x * 31 + y * 17) (m := (255 : Int32)) 8 (by decide)
  have hj' : j < 256 := hj
  have e2 : bb_key x y = j := by unfold bb_key; rw [e, nI_clamp (by omega)]
  rw [e2]
  exact ⟨e, hj'⟩
theorem bb_edge_mono {G G' : Nat} {x : Int32} (h : bb_edge G x) (hG : G ≤ G') : bb_edge G' x := by
  obtain ⟨e, h1, h2⟩ := h
  exact ⟨e, by omega, h2⟩
theorem bb_es_mono {m G G' : Nat} {a : Nat → Int32} (h : bb_es m G a) (hG : G ≤ G') : bb_es m G' a := fun j hj => bb_edge_mono (h j hj) hG
theorem bb_es_upd {m G j : Nat} {a : Nat → Int32} {x : Int32} (h : bb_es m G a) (hx : bb_edge G x) : bb_es m G (upd a j x) := by
  intro k hk
  by_cases e : k = j
  · rw [e, pk_us]; exact hx
  · rw [pk_un e]; exact h k hk
theorem bb_edge_n {G : Nat} {a : Nat → Int32} {j : Nat} (h : bb_edge G (a j)) (hG : G ≤ 6000) : a j = nI (bb_n a j) ∧ bb_n a j < 2 * G := by
  obtain ⟨e, h1, h2⟩ := h
  have h3 : bb_n a j = e := bb_n_nI h2 (by omega)
  rw [h3]
  exact ⟨h2, h1⟩
def bb_T (G : Nat) (a1 a2 a3 a4 : Nat → Int32) : Prop := 13 ≤ G ∧ G ≤ 6000 ∧ (∀ g, 13 ≤ g → g < G → bb_edge g (a1 g) ∧ bb_edge g (a2 g)) ∧ (∀ k, k < 256 → ∃ g, a4 k = nI g ∧ (g = 0 ∨ (13 ≤ g ∧ g < G ∧ bb_key (a1 g) (a2 g) = k))) ∧ (∀ g, 13 ≤ g → g < G → ∃ h, a3 g = nI h ∧ (h = 0 ∨ (13 ≤ h ∧ h < g ∧ bb_key (a1 h) (a2 h) = bb_key (a1 g) (a2 g))))
abbrev bb_V (w : Nat) (a1 a2 : Nat → Int32) : Nat → Nat → Bool := bb_bv (3 * w) (bb_n a1) (bb_n a2)
theorem bb_T_wf {G : Nat} {a1 a2 a3 a4 : Nat → Int32} (h : bb_T G a1 a2 a3 a4) : bb_wf G (bb_n a1) (bb_n a2) := by
  intro g h1 h2
  obtain ⟨hg, hG, hw, _⟩ := h
  have hh := hw g h1 h2
  exact ⟨(bb_edge_n hh.1 (by omega)).2, (bb_edge_n hh.2 (by omega)).2⟩
theorem bb_T_add {G x y : Nat} {a1 a2 a3 a4 : Nat → Int32} (h : bb_T G a1 a2 a3 a4) (hG : G < 6000) (hx : x < 2 * G) (hy : y < 2 * G) : bb_T (G + 1) (upd a1 G (nI x)) (upd a2 G (nI y)) (upd a3 G (a4 (bb_key (nI x) (nI y)))) (upd a4 (bb_key (nI x) (nI y)) (nI G)) := by
  obtain ⟨h1, h2, h3, h4, h5⟩ := h
  refine ⟨by omega, by omega, fun g g1 g2 => ?_, fun k hk => ?_, fun g g1 g2 => ?_⟩
  · by_cases e : g = G
    · subst e
      rw [pk_us, pk_us]
      exact ⟨⟨x, hx, rfl⟩, ⟨y, hy, rfl⟩⟩
    · rw [pk_un e, pk_un e]
      exact h3 g g1 (by omega)
  · by_cases e : k = bb_key (nI x) (nI y)
    · subst e
      rw [pk_us]
      exact ⟨G, rfl, Or.inr ⟨h1, by omega, by rw [pk_us, pk_us]⟩⟩
    · rw [pk_un e]
      obtain ⟨g, e1, e2⟩ := h4 k hk
      refine ⟨g, e1, ?_⟩
      rcases e2 with e2 | ⟨q1, q2, q3⟩
      · exact Or.inl e2
      · exact Or.inr ⟨q1, by omega, by rw [pk_un (by omega), pk_un (by omega)]; exact q3⟩
  · by_cases e : g = G
    · subst e
      rw [pk_us, pk_us, pk_us]
      obtain ⟨g', e1, e2⟩ := h4 (bb_key (nI x) (nI y)) (bb_key_eq _ _).2
      refine ⟨g', e1, ?_⟩
      rcases e2 with e2 | ⟨q1, q2, q3⟩
      · exact Or.inl e2
      · exact Or.inr ⟨q1, q2, by rw [pk_un (by omega), pk_un (by omega)]; exact q3⟩
    · rw [pk_un e, pk_un e, pk_un e]
      obtain ⟨g', e1, e2⟩ := h5 g g1 (by omega)
      refine ⟨g', e1, ?_⟩
      rcases e2 with e2 | ⟨q1, q2, q3⟩
      · exact Or.inl e2
      · exact Or.inr ⟨q1, q2, by rw [pk_un (by omega), pk_un (by omega)]; exact q3⟩
theorem bb_T_sub {G : Nat} {a1 a2 a3 a4 : Nat → Int32} (h : bb_T (G + 1) a1 a2 a3 a4) (hG : 13 ≤ G) : bb_T G a1 a2 a3 (upd a4 (bb_key (a1 G) (a2 G)) (a3 G)) := by
  obtain ⟨h1, h2, h3, h4, h5⟩ := h
  refine ⟨hG, by omega, fun g g1 g2 => h3 g g1 (by omega), fun k hk => ?_, fun g g1 g2 => h5 g g1 (by omega)⟩
  by_cases e : k = bb_key (a1 G) (a2 G)
  · subst e
    rw [pk_us]
    obtain ⟨g', e1, e2⟩ := h5 G hG (by omega)
    exact ⟨g', e1, e2⟩
  · rw [pk_un e]
    obtain ⟨g, e1, e2⟩ := h4 k hk
    refine ⟨g, e1, ?_⟩
    rcases e2 with e2 | ⟨q1, q2, q3⟩
    · exact Or.inl e2
    · refine Or.inr ⟨q1, ?_, q3⟩
      have : g ≠ G := fun z => e (by rw [← z]; exact q3.symm)
      omega
theorem bb_V_add {w G x y : Nat} {a1 a2 a3 a4 : Nat → Int32} (h : bb_T G a1 a2 a3 a4) (hw : w ≤ 3) (n : Nat) {z : Nat} (hz : z < 2 * G) : bb_V w (upd a1 G (nI x)) (upd a2 G (nI y)) n z = bb_V w a1 a2 n z := by
  refine bb_bv_congr (bb_T_wf h) (by omega) (fun g g1 g2 => ?_) n hz
  unfold bb_n
  rw [pk_un (by omega), pk_un (by omega)]
  exact ⟨rfl, rfl⟩
theorem bb_V_new {w G x y : Nat} {a1 a2 a3 a4 : Nat → Int32} (h : bb_T G a1 a2 a3 a4) (hw : w ≤ 3) (hG : G < 6000) (hx : x < 2 * G) (hy : y < 2 * G) (n : Nat) : bb_V w (upd a1 G (nI x)) (upd a2 G (nI y)) n (2 * G) = (bb_V w a1 a2 n x && bb_V w a1 a2 n y) := by
  have h1 := bb_bv_gate (bb_T_wf (bb_T_add h hG hx hy)) (show 3 * w < 13 by omega) n h.1 (show G < G + 1 by omega)
  rw [bb_n_nI (v := x) pk_us (by omega), bb_n_nI (v := y) pk_us (by omega)] at h1
  rw [← bb_V_add (x := x) (y := y) h hw n hx, ← bb_V_add (x := x) (y := y) h hw n hy]
  exact h1
theorem bb_V_old {w G x y g : Nat} {a1 a2 a3 a4 : Nat → Int32} (h : bb_T G a1 a2 a3 a4) (hw : w ≤ 3) (h1 : 13 ≤ g) (h2 : g < G) (hx : x < 2 * G) (hy : y < 2 * G) (ex : a1 g = nI x) (ey : a2 g = nI y) (n : Nat) : bb_V w a1 a2 n (2 * g) = (bb_V w a1 a2 n x && bb_V w a1 a2 n y) := by
  have hG := h.2.1
  have h3 := bb_bv_gate (bb_T_wf h) (show 3 * w < 13 by omega) n h1 h2
  rw [bb_n_nI ex (by omega), bb_n_nI ey (by omega)] at h3
  exact h3
end
section
section
variable {w G T Q C : Nat} {a1 a2 a3 a4 a5 a6 a7 a8 a9 a10 a11 : Nat → Int32}
/-- the table grown by at most k gates: old edges keep their values -/
def bb_X (w G : Nat) (a1 a2 : Nat → Int32) (k G' : Nat) (b1 b2 b3 b4 : Nat → Int32) : Prop := bb_T G' b1 b2 b3 b4 ∧ G ≤ G' ∧ G' ≤ G + k ∧ ∀ n z, z < 2 * G → bb_V w b1 b2 n z = bb_V w a1 a2 n z
theorem bb_X_refl (h : bb_T G a1 a2 a3 a4) (k : Nat) : bb_X w G a1 a2 k G a1 a2 a3 a4 := ⟨h, Nat.le_refl _, Nat.le_add_right _ _, fun _ _ _ => rfl⟩
theorem bb_X_trans {k k' k'' G' G'' : Nat} {b1 b2 b3 b4 c1 c2 c3 c4 : Nat → Int32} (h : bb_X w G a1 a2 k G' b1 b2 b3 b4) (h' : bb_X w G' b1 b2 k' G'' c1 c2 c3 c4) (hk : k + k' ≤ k'') : bb_X w G a1 a2 k'' G'' c1 c2 c3 c4 := by
  obtain ⟨x1, x2, x3, x4⟩ := h
  obtain ⟨y1, y2, y3, y4⟩ := h'
  exact ⟨y1, by omega, by omega, fun n z hz => by rw [y4 n z (by omega), x4 n z hz]⟩
theorem bb_V_0 (n : Nat) : bb_V w a1 a2 n 0 = false := bb_bv_0 n
theorem bb_V_1 (n : Nat) : bb_V w a1 a2 n 1 = true := bb_bv_1 n
theorem bb_V_inv (hT : bb_T G a1 a2 a3 a4) (hw : w ≤ 3) (n : Nat) {e : Nat} (he : e < 2 * G) : bb_V w a1 a2 n (e ^^^ 1) = !bb_V w a1 a2 n e := bb_bv_inv (bb_T_wf hT) (by omega) n he
theorem bb_gate135 {post : Int32 → St2 → Prop} {x y key : Nat} (hT : bb_T G a1 a2 a3 a4) (hG : G < 6000) (hk : key < 256) (H : post (nI (2 * G)) (nI w, nI (3 * w), nI (G + 1), nI T, nI Q, nI C, upd a1 G (nI x), upd a2 G (nI y), upd a3 G (a4 key), upd a4 key (nI G), a5, a6, a7, a8, a9, a10, a11)) : wX_gate_135 post (nI x) (nI y) (nI key) (nI w) (nI (3 * w)) (nI G) (nI T) (nI Q) (nI C) a1 a2 a3 a4 a5 a6 a7 a8 a9 a10 a11 := by
  have e : 2 * nI (G + 1) - 2 = nI (2 * G) := by
    rw [bb_2m]
    show nI (2 * (G + 1)) - nI 2 = _
    rw [pk_sub (by omega), show 2 * (G + 1) - 2 = 2 * G by omega]
  have H' : post (2 * nI (G + 1) - 2) (nI w, nI (3 * w), nI (G + 1), nI T, nI Q, nI C, upd a1 G (nI x), upd a2 G (nI y), upd a3 G (a4 key), upd a4 key (nI G), a5, a6, a7, a8, a9, a10, a11) := by
    rw [e]; exact H
  unfold wX_gate_135
  rw [nI_clamp (show G < 2 ^ 31 by omega), nI_clamp (show key < 2 ^ 31 by omega)]
  exact pk_eq G 6000 (fun z => absurd z (by omega)) (fun _ => ⟨pk_in G 6000 hG, nm_e ⟨pk_in G 6000 hG, nm_e ⟨pk_in key 256 hk, pk_in G 6000 hG, nm_e ⟨pk_in key 256 hk, nm_e (nm_r (nI_1 G) H')⟩⟩⟩⟩)
theorem bb_gate79 {post : Int32 → St2 → Prop} {x y key : Nat} (hT : bb_T G a1 a2 a3 a4) (Hn : wX_gate_135 post (nI x) (nI y) (nI key) (nI w) (nI (3 * w)) (nI G) (nI T) (nI Q) (nI C) a1 a2 a3 a4 a5 a6 a7 a8 a9 a10 a11) (Hf : ∀ g, 13 ≤ g → g < G → a1 g = nI x → a2 g = nI y → post (nI (2 * g)) (nI w, nI (3 * w), nI G, nI T, nI Q, nI C, a1, a2, a3, a4, a5, a6, a7, a8, a9, a10, a11)) : ∀ (m g : Nat) (c : Int32), g ≤ m → (g = 0 ∨ (13 ≤ g ∧ g < G)) → wX_gate_79 post (nI x) (nI y) (nI key) (nI w) (nI (3 * w)) (nI G) (nI T) (nI Q) (nI C) a1 a2 a3 a4 a5 a6 a7 a8 a9 a10 a11 (m + 1) (nI g) c := by
  intro m
  induction m with
  | zero =>
    intro g c hg _
    have h0 : g = 0 := by omega
    subst h0
    exact br_c (fun _ => Hn) (fun _ => br_t rfl Hn)
  | succ m ih =>
    intro g c hg hh
    have hG := hT.2.1
    refine br_c (fun _ => Hn) (fun _ => ?_)
    by_cases h0 : g = 0
    · subst h0
      exact br_t rfl Hn
    · have hg2 : 13 ≤ g ∧ g < G := by omega
      obtain ⟨h, e1, e2⟩ := hT.2.2.2.2 g hg2.1 hg2.2
      have nx : ∀ c', wX_gate_79 post (nI x) (nI y) (nI key) (nI w) (nI (3 * w)) (nI G) (nI T) (nI Q) (nI C) a1 a2 a3 a4 a5 a6 a7 a8 a9 a10 a11 (m + 1) (nI h) c' := by
        intro c'
        refine ih h c' ?_ ?_
        · rcases e2 with e2 | ⟨q1, q2, q3⟩ <;> omega
        · rcases e2 with e2 | ⟨q1, q2, q3⟩ <;> omega
      have H' : a1 g = nI x → a2 g = nI y → post (2 * nI g) (nI w, nI (3 * w), nI G, nI T, nI Q, nI C, a1, a2, a3, a4, a5, a6, a7, a8, a9, a10, a11) := fun k1 k2 => by
        rw [bb_2m]; exact Hf g hg2.1 hg2.2 k1 k2
      refine br_f (nI_ne0 (by omega) (by omega)) ⟨pk_in g 6000 (by omega), ?_⟩
      rw [nI_clamp (show g < 2 ^ 31 by omega)]
      exact br_c (fun k1 => ⟨pk_in g 6000 (by omega), br_c (fun k2 => H' k1 k2) (fun _ => ⟨pk_in g 6000 (by omega), nm_r e1 (nm_e (nx _))⟩)⟩) (fun _ => ⟨pk_in g 6000 (by omega), nm_r e1 (nm_e (nx _))⟩)
theorem bb_gate21 {post : Int32 → St2 → Prop} {x y : Nat} (hT : bb_T G a1 a2 a3 a4) (hG : G < 6000) (hw : w ≤ 3) (hx : x < 2 * G) (hy : y < 2 * G)
    (H : ∀ G' e b1 b2 b3 b4, bb_X w G a1 a2 1 G' b1 b2 b3 b4 → e < 2 * G' → (∀ n, bb_V w b1 b2 n e = (bb_V w a1 a2 n x && bb_V w a1 a2 n y)) → post (nI e) (nI w, nI (3 * w), nI G', nI T, nI Q, nI C, b1, b2, b3, b4, a5, a6, a7, a8, a9, a10, a11)) : wX_gate_21 post (nI x) (nI y) (nI w) (nI (3 * w)) (nI G) (nI T) (nI Q) (nI C) a1 a2 a3 a4 a5 a6 a7 a8 a9 a10 a11 := by
  have hN : 3 * w < 13 := by omega
  have hwf := bb_T_wf hT
  have hG13 := hT.1
  unfold wX_gate_21
  rw [bb_x1 y]
  have hy1 := bb_x1lt hy
  refine pk_eq x 0 (fun z => ?_) (fun z0 => pk_eq x (y ^^^ 1) (fun z => ?_) (fun z1 => pk_eq x 1 (fun z => ?_) (fun z2 => pk_eq x y (fun z => ?_) (fun z3 => ?_))))
  · exact H G 0 a1 a2 a3 a4 (bb_X_refl hT 1) (by omega) (fun n => by subst z; rw [bb_V_0]; rfl)
  · exact H G 0 a1 a2 a3 a4 (bb_X_refl hT 1) (by omega) (fun n => by rw [z, bb_V_0, bb_V_inv hT hw n hy]; cases bb_V w a1 a2 n y <;> rfl)
  · exact H G y a1 a2 a3 a4 (bb_X_refl hT 1) hy (fun n => by rw [z, bb_V_1]; rfl)
  · exact H G y a1 a2 a3 a4 (bb_X_refl hT 1) hy (fun n => by rw [z]; cases bb_V w a1 a2 n y <;> rfl)
  · have hk := bb_key_eq (nI x) (nI y)
    obtain ⟨g, e1, e2⟩ := hT.2.2.2.1 _ hk.2
    refine nm_r hk.1 ⟨pk_in _ 256 hk.2, ?_⟩
    rw [nI_clamp (show bb_key (nI x) (nI y) < 2 ^ 31 by omega)]
    refine nm_r e1 ⟨g + 1, ?_⟩
    refine bb_gate79 hT (bb_gate135 hT hG hk.2 ?_) (fun g h1 h2 h3 h4 => ?_) g g 0 (Nat.le_refl g) (by omega)
    · exact H (G + 1) (2 * G) _ _ _ _ ⟨bb_T_add hT hG hx hy, by omega, by omega, fun n z hz => bb_V_add hT hw n hz⟩ (by omega) (fun n => bb_V_new hT hw hG hx hy n)
    · exact H G (2 * g) a1 a2 a3 a4 (bb_X_refl hT 1) (by omega) (fun n => bb_V_old hT hw h1 h2 hx hy h3 h4 n)
theorem bb_gate {post : Int32 → St2 → Prop} {x y : Nat} (hT : bb_T G a1 a2 a3 a4) (hG : G < 6000) (hw : w ≤ 3) (hx : x < 2 * G) (hy : y < 2 * G)
    (H : ∀ G' e b1 b2 b3 b4, bb_X w G a1 a2 1 G' b1 b2 b3 b4 → e < 2 * G' → (∀ n, bb_V w b1 b2 n e = (bb_V w a1 a2 n x && bb_V w a1 a2 n y)) → post (nI e) (nI w, nI (3 * w), nI G', nI T, nI Q, nI C, b1, b2, b3, b4, a5, a6, a7, a8, a9, a10, a11)) : wpX_gate post (nI w, nI (3 * w), nI G, nI T, nI Q, nI C, a1, a2, a3, a4, a5, a6, a7, a8, a9, a10, a11) (nI x) (nI y) := by
  unfold wpX_gate
  refine pk_le y x (fun z => pk_le y x (fun _ => ?_) (fun z' => absurd z (by omega))) (fun z => pk_le y x (fun z' => absurd z (by omega)) (fun _ => ?_))
  · exact bb_gate21 hT hG hw hy hx (fun G' e b1 b2 b3 b4 h1 h2 h3 => H G' e b1 b2 b3 b4 h1 h2 (fun n => by rw [h3 n, Bool.and_comm]))
  · exact bb_gate21 hT hG hw hx hy H
theorem bb_g2_79 (post : Int32 → St2 → Prop) (x3 x4 x5 : Int32) (f0_w f0_inputs f0_gates f0_termCount f0_testCount f0_requiredCount : Int32) (a1 a2 a3 a4 a5 a6 a7 a8 a9 a10 a11 : Nat → Int32) : ∀ n, wX_gate_2_79 post x3 x4 x5 f0_w f0_inputs f0_gates f0_termCount f0_testCount f0_requiredCount a1 a2 a3 a4 a5 a6 a7 a8 a9 a10 a11 n = wX_gate_79 post x3 x4 x5 f0_w f0_inputs f0_gates f0_termCount f0_testCount f0_requiredCount a1 a2 a3 a4 a5 a6 a7 a8 a9 a10 a11 n := by
  intro n
  induction n with
  | zero => rfl
  | succ n ih =>
    funext x6 x7
    unfold wX_gate_2_79 wX_gate_79
    rw [ih]
    rfl
theorem bb_g2_21 (post : Int32 → St2 → Prop) (x3 x4 : Int32) (f0_w f0_inputs f0_gates f0_termCount f0_testCount f0_requiredCount : Int32) (a1 a2 a3 a4 a5 a6 a7 a8 a9 a10 a11 : Nat → Int32) : wX_gate_2_21 post x3 x4 f0_w f0_inputs f0_gates f0_termCount f0_testCount f0_requiredCount a1 a2 a3 a4 a5 a6 a7 a8 a9 a10 a11 = wX_gate_21 post x3 x4 f0_w f0_inputs f0_gates f0_termCount f0_testCount f0_requiredCount a1 a2 a3 a4 a5 a6 a7 a8 a9 a10 a11 := by
  unfold wX_gate_2_21 wX_gate_21
  simp only [bb_g2_79]
theorem bb_g2 : @wpX_gate_2 = @wpX_gate := by
  funext post u p0 p1
  obtain ⟨f0_w, f0_inputs, f0_gates, f0_termCount, f0_testCount, f0_requiredCount, a1, a2, a3, a4, a5, a6, a7, a8, a9, a10, a11⟩ := u
  show ((p1 ≤ p0 → wX_gate_2_10 post p0 p1 p1 f0_w f0_inputs f0_gates f0_termCount f0_testCount f0_requiredCount a1 a2 a3 a4 a5 a6 a7 a8 a9 a10 a11) ∧ (¬ p1 ≤ p0 → wX_gate_2_10 post p0 p1 p0 f0_w f0_inputs f0_gates f0_termCount f0_testCount f0_requiredCount a1 a2 a3 a4 a5 a6 a7 a8 a9 a10 a11)) = ((p1 ≤ p0 → wX_gate_10 post p0 p1 p1 f0_w f0_inputs f0_gates f0_termCount f0_testCount f0_requiredCount a1 a2 a3 a4 a5 a6 a7 a8 a9 a10 a11) ∧ (¬ p1 ≤ p0 → wX_gate_10 post p0 p1 p0 f0_w f0_inputs f0_gates f0_termCount f0_testCount f0_requiredCount a1 a2 a3 a4 a5 a6 a7 a8 a9 a10 a11))
  unfold wX_gate_2_10 wX_gate_10
  simp only [bb_g2_21]
theorem bb_g3_79 (post : Int32 → St2 → Prop) (x3 x4 x5 : Int32) (f0_w f0_inputs f0_gates f0_termCount f0_testCount f0_requiredCount : Int32) (a1 a2 a3 a4 a5 a6 a7 a8 a9 a10 a11 : Nat → Int32) : ∀ n, wX_gate_3_79 post x3 x4 x5 f0_w f0_inputs f0_gates f0_termCount f0_testCount f0_requiredCount a1 a2 a3 a4 a5 a6 a7 a8 a9 a10 a11 n = wX_gate_79 post x3 x4 x5 f0_w f0_inputs f0_gates f0_termCount f0_testCount f0_requiredCount a1 a2 a3 a4 a5 a6 a7 a8 a9 a10 a11 n := by
  intro n
  induction n with
  | zero => rfl
  | succ n ih =>
    funext x6 x7
    unfold wX_gate_3_79 wX_gate_79
    rw [ih]
    rfl
theorem bb_g3_21 (post : Int32 → St2 → Prop) (x3 x4 : Int32) (f0_w f0_inputs f0_gates f0_termCount f0_testCount f0_requiredCount : Int32) (a1 a2 a3 a4 a5 a6 a7 a8 a9 a10 a11 : Nat → Int32) : wX_gate_3_21 post x3 x4 f0_w f0_inputs f0_gates f0_termCount f0_testCount f0_requiredCount a1 a2 a3 a4 a5 a6 a7 a8 a9 a10 a11 = wX_gate_21 post x3 x4 f0_w f0_inputs f0_gates f0_termCount f0_testCount f0_requiredCount a1 a2 a3 a4 a5 a6 a7 a8 a9 a10 a11 := by
  unfold wX_gate_3_21 wX_gate_21
  simp only [bb_g3_79]
theorem bb_g3 : @wpX_gate_3 = @wpX_gate := by
  funext post u p0 p1
  obtain ⟨f0_w, f0_inputs, f0_gates, f0_termCount, f0_testCount, f0_requiredCount, a1, a2, a3, a4, a5, a6, a7, a8, a9, a10, a11⟩ := u
  show ((p1 ≤ p0 → wX_gate_3_10 post p0 p1 p1 f0_w f0_inputs f0_gates f0_termCount f0_testCount f0_requiredCount a1 a2 a3 a4 a5 a6 a7 a8 a9 a10 a11) ∧ (¬ p1 ≤ p0 → wX_gate_3_10 post p0 p1 p0 f0_w f0_inputs f0_gates f0_termCount f0_testCount f0_requiredCount a1 a2 a3 a4 a5 a6 a7 a8 a9 a10 a11)) = ((p1 ≤ p0 → wX_gate_10 post p0 p1 p1 f0_w f0_inputs f0_gates f0_termCount f0_testCount f0_requiredCount a1 a2 a3 a4 a5 a6 a7 a8 a9 a10 a11) ∧ (¬ p1 ≤ p0 → wX_gate_10 post p0 p1 p0 f0_w f0_inputs f0_gates f0_termCount f0_testCount f0_requiredCount a1 a2 a3 a4 a5 a6 a7 a8 a9 a10 a11))
  unfold wX_gate_3_10 wX_gate_10
  simp only [bb_g3_21]
theorem bb_g4_79 (post : Int32 → St2 → Prop) (x3 x4 x5 : Int32) (f0_w f0_inputs f0_gates f0_termCount f0_testCount f0_requiredCount : Int32) (a1 a2 a3 a4 a5 a6 a7 a8 a9 a10 a11 : Nat → Int32) : ∀ n, wX_gate_4_79 post x3 x4 x5 f0_w f0_inputs f0_gates f0_termCount f0_testCount f0_requiredCount a1 a2 a3 a4 a5 a6 a7 a8 a9 a10 a11 n = wX_gate_79 post x3 x4 x5 f0_w f0_inputs f0_gates f0_termCount f0_testCount f0_requiredCount a1 a2 a3 a4 a5 a6 a7 a8 a9 a10 a11 n := by
  intro n
  induction n with
  | zero => rfl
  | succ n ih =>
    funext x6 x7
    unfold wX_gate_4_79 wX_gate_79
    rw [ih]
    rfl
theorem bb_g4_21 (post : Int32 → St2 → Prop) (x3 x4 : Int32) (f0_w f0_inputs f0_gates f0_termCount f0_testCount f0_requiredCount : Int32) (a1 a2 a3 a4 a5 a6 a7 a8 a9 a10 a11 : Nat → Int32) : wX_gate_4_21 post x3 x4 f0_w f0_inputs f0_gates f0_termCount f0_testCount f0_requiredCount a1 a2 a3 a4 a5 a6 a7 a8 a9 a10 a11 = wX_gate_21 post x3 x4 f0_w f0_inputs f0_gates f0_termCount f0_testCount f0_requiredCount a1 a2 a3 a4 a5 a6 a7 a8 a9 a10 a11 := by
  unfold wX_gate_4_21 wX_gate_21
  simp only [bb_g4_79]
theorem bb_g4 : @wpX_gate_4 = @wpX_gate := by
  funext post u p0 p1
  obtain ⟨f0_w, f0_inputs, f0_gates, f0_termCount, f0_testCount, f0_requiredCount, a1, a2, a3, a4, a5, a6, a7, a8, a9, a10, a11⟩ := u
  show ((p1 ≤ p0 → wX_gate_4_10 post p0 p1 p1 f0_w f0_inputs f0_gates f0_termCount f0_testCount f0_requiredCount a1 a2 a3 a4 a5 a6 a7 a8 a9 a10 a11) ∧ (¬ p1 ≤ p0 → wX_gate_4_10 post p0 p1 p0 f0_w f0_inputs f0_gates f0_termCount f0_testCount f0_requiredCount a1 a2 a3 a4 a5 a6 a7 a8 a9 a10 a11)) = ((p1 ≤ p0 → wX_gate_10 post p0 p1 p1 f0_w f0_inputs f0_gates f0_termCount f0_testCount f0_requiredCount a1 a2 a3 a4 a5 a6 a7 a8 a9 a10 a11) ∧ (¬ p1 ≤ p0 → wX_gate_10 post p0 p1 p0 f0_w f0_inputs f0_gates f0_termCount f0_testCount f0_requiredCount a1 a2 a3 a4 a5 a6 a7 a8 a9 a10 a11))
  unfold wX_gate_4_10 wX_gate_10
  simp only [bb_g4_21]
theorem bb_bw2 : @wpX_bitwise_2 = @wpX_bitwise := by
  funext post u p0 p1 p2
  unfold wpX_bitwise_2 wpX_bitwise
  rw [bb_g2]
theorem bb_bw3 : @wpX_bitwise_3 = @wpX_bitwise := by
  funext post u p0 p1 p2
  unfold wpX_bitwise_3 wpX_bitwise
  rw [bb_g3]
theorem bb_eq2_5 (post : Int32 → St2 → Prop) (x1 x2 : Int32) : ∀ n, wX_equal_2_5 post x1 x2 n = wX_equal_5 post x1 x2 n := by
  intro n
  induction n with
  | zero => rfl
  | succ n ih =>
    funext x3 x4 f0_w f0_inputs f0_gates f0_termCount f0_testCount f0_requiredCount a1 a2 a3 a4 a5 a6 a7 a8 a9 a10 a11
    unfold wX_equal_2_5 wX_equal_5
    rw [ih, bb_bw2, bb_g2]
theorem bb_eq2 : @wpX_equal_2 = @wpX_equal := by
  funext post u p0 p1
  unfold wpX_equal_2 wpX_equal
  simp only [bb_eq2_5]
theorem bb_bitwise {post : Int32 → St2 → Prop} {k x y : Nat} (hT : bb_T G a1 a2 a3 a4) (hG : G + 3 ≤ 6000) (hw : w ≤ 3) (hk : k < 100) (hx : x < 2 * G) (hy : y < 2 * G)
    (H : ∀ G' e b1 b2 b3 b4, bb_X w G a1 a2 3 G' b1 b2 b3 b4 → e < 2 * G' → (k = 5 → ∀ n, bb_V w b1 b2 n e = Bool.xor (bb_V w a1 a2 n x) (bb_V w a1 a2 n y)) → post (nI e) (nI w, nI (3 * w), nI G', nI T, nI Q, nI C, b1, b2, b3, b4, a5, a6, a7, a8, a9, a10, a11)) : wpX_bitwise post (nI w, nI (3 * w), nI G, nI T, nI Q, nI C, a1, a2, a3, a4, a5, a6, a7, a8, a9, a10, a11) (nI k) (nI x) (nI y) := by
  have hN : 3 * w < 13 := by omega
  have hwf := bb_T_wf hT
  unfold wpX_bitwise
  rw [bb_x1 x, bb_x1 y]
  refine pk_eq k 3 (fun z => ?_) (fun z => ?_)
  · refine bb_gate hT (by omega) hw hx hy (fun G' e b1 b2 b3 b4 h1 h2 h3 => ?_)
    exact H G' e b1 b2 b3 b4 (bb_X_trans h1 (bb_X_refl h1.1 0) (by omega)) h2 (fun z' => absurd z' (by omega))
  · refine bb_gate hT (by omega) hw (bb_x1lt hx) (bb_x1lt hy) (fun G1 e1 b1 b2 b3 b4 h1 h2 h3 => ?_)
    obtain ⟨p1, p2, p3, p4⟩ := h1
    have q1 := bb_x1lt h2
    refine pk_eq k 4 (fun z' => ?_) (fun z' => ?_)
    · rw [bb_x1 e1]
      exact H G1 (e1 ^^^ 1) b1 b2 b3 b4 (bb_X_trans ⟨p1, p2, p3, p4⟩ (bb_X_refl p1 0) (by omega)) q1 (fun z' => absurd z' (by omega))
    · refine bb_gate p1 (by omega) hw (show x < 2 * G1 by omega) (show y < 2 * G1 by omega) (fun G2 e2 c1 c2 c3 c4 k1 k2 k3 => ?_)
      obtain ⟨r1, r2, r3, r4⟩ := k1
      have q2 := bb_x1lt k2
      show wpX_gate _ _ (nI e1 ^^^ 1) (nI e2 ^^^ 1)
      rw [bb_x1 e1, bb_x1 e2]
      refine bb_gate r1 (by omega) hw (show e1 ^^^ 1 < 2 * G2 by omega) q2 (fun G3 e3 d1 d2 d3 d4 l1 l2 l3 => ?_)
      refine H G3 e3 d1 d2 d3 d4 (bb_X_trans (bb_X_trans ⟨p1, p2, p3, p4⟩ ⟨r1, r2, r3, r4⟩ (Nat.le_refl 2)) l1 (by omega)) l2 (fun _ n => ?_)
      rw [l3 n, bb_V_inv r1 hw n k2, bb_V_inv r1 hw n (show e1 < 2 * G2 by omega), k3 n, p4 n x hx, p4 n y hy]
      have t1 : bb_V w c1 c2 n e1 = (!bb_V w a1 a2 n x && !bb_V w a1 a2 n y) := by
        rw [r4 n e1 h2, h3 n, bb_V_inv hT hw n hx, bb_V_inv hT hw n hy]
      rw [t1]
      cases bb_V w a1 a2 n x <;> cases bb_V w a1 a2 n y <;> rfl
theorem bb_takeBack {post : St2 → Prop} {K : Nat} (hT : bb_T G a1 a2 a3 a4) (h13 : 13 ≤ K) (hK : K ≤ G) (H : ∀ b4, bb_T K a1 a2 a3 b4 → post (nI w, nI (3 * w), nI K, nI T, nI Q, nI C, a1, a2, a3, b4, a5, a6, a7, a8, a9, a10, a11)) : wpX_takeBack post (nI w, nI (3 * w), nI G, nI T, nI Q, nI C, a1, a2, a3, a4, a5, a6, a7, a8, a9, a10, a11) (nI K) := by
  have main : ∀ (m : Nat) (a4 : Nat → Int32), bb_T (K + m) a1 a2 a3 a4 → wX_takeBack_0 post (nI K) (nI w) (nI (3 * w)) (nI T) (nI Q) (nI C) (m + 1) (nI (K + m)) a1 a2 a3 a4 a5 a6 a7 a8 a9 a10 a11 := by
    intro m
    induction m with
    | zero =>
      intro a4 h
      have hG := h.2.1
      exact pk_le (K + 0) K (fun _ => H a4 h) (fun z => absurd z (by omega))
    | succ m ih =>
      intro a4 h
      have hG := h.2.1
      refine pk_le (K + (m + 1)) K (fun z => absurd z (by omega)) (fun _ => nm_r (nI_pred (K + m)) ⟨pk_in (K + m) 6000 (by omega), pk_in (K + m) 6000 (by omega), ?_⟩)
      rw [nI_clamp (show K + m < 2 ^ 31 by omega)]
      have hk := bb_key_eq (a1 (K + m)) (a2 (K + m))
      refine nm_r hk.1 ⟨pk_in (K + m) 6000 (by omega), pk_in _ 256 hk.2, ?_⟩
      rw [nI_clamp (show bb_key (a1 (K + m)) (a2 (K + m)) < 2 ^ 31 by omega)]
      exact nm_e (ih _ (bb_T_sub h (by omega)))
  have hm := main (G - K) a4 (by rw [show K + (G - K) = G by omega]; exact hT)
  rw [show K + (G - K) = G by omega] at hm
  exact ⟨_, hm⟩
end
end
section
section
variable {w G T Q C : Nat} {a1 a2 a3 a4 a5 a6 a7 a8 a9 a10 a11 : Nat → Int32}
/-- the states of the inputs that aren't there -/
def bb_Z (w : Nat) (a5 : Nat → Int32) : Prop := ∀ k, 3 * w < k → k < 13 → a5 k = 0
abbrev bb_E (w : Nat) (a1 a2 a11 : Nat → Int32) : Nat → Nat := bb_ev (3 * w) (bb_n a1) (bb_n a2) (bb_n a11)
theorem bb_E_0 : bb_E w a1 a2 a11 0 = 0 := bb_ev_0
theorem bb_E_in {g : Nat} (h0 : 0 < g) (h : g ≤ 3 * w) : bb_E w a1 a2 a11 g = bb_n a11 (g - 1) := bb_ev_in h0 h
theorem bb_E_mid {g : Nat} (h : 3 * w < g) (h2 : g < 13) : bb_E w a1 a2 a11 g = 0 := bb_ev_mid h h2
theorem bb_E_g (hT : bb_T G a1 a2 a3 a4) (hw : w ≤ 3) {g : Nat} (h : 13 ≤ g) (hg : g < G) : bb_E w a1 a2 a11 g = bb_and (bb_ed (bb_E w a1 a2 a11) (bb_n a1 g)) (bb_ed (bb_E w a1 a2 a11) (bb_n a2 g)) := bb_ev_g (bb_T_wf hT) (by omega) h hg
theorem bb_seen {post : Int32 → Prop} {e : Nat} (f : Nat → Nat) (he : e < 12000) (h5 : a5 (e / 2) = nI (f (e / 2))) (hv : f (e / 2) ≤ 2) (H : post (nI (bb_ed f e))) : wpX_seen post (nI w, nI (3 * w), nI G, nI T, nI Q, nI C, a1, a2, a3, a4, a5, a6, a7, a8, a9, a10, a11) (nI e) := by
  unfold wpX_seen
  rw [bb_shr1 (show e < 2 ^ 31 by omega)]
  refine ⟨pk_in (e / 2) 6000 (by omega), ?_⟩
  rw [nI_clamp (show e / 2 < 2 ^ 31 by omega)]
  unfold bb_ed at H
  refine nm_r h5 (pk_eq (f (e / 2)) 2 (fun z => ?_) (fun z => ?_))
  · rw [if_pos z] at H; exact H
  · rw [if_neg z] at H
    rw [bb_xe (by omega) (by omega)]
    exact H
theorem bb_sim41 {post : St2 → Prop} (hT : bb_T G a1 a2 a3 a4) (hw : w ≤ 3) (hin : ∀ k, k < 3 * w → ∃ v, v ≤ 2 ∧ a11 k = nI v) (H : ∀ b5, (∀ j, j < G → b5 j = nI (bb_E w a1 a2 a11 j)) → post (nI w, nI (3 * w), nI G, nI T, nI Q, nI C, a1, a2, a3, a4, b5, a6, a7, a8, a9, a10, a11)) :
    ∀ (m g : Nat) (a5 : Nat → Int32), g + m = G → 13 ≤ g → (∀ j, j < g → a5 j = nI (bb_E w a1 a2 a11 j)) → wX_simulate_41 post (nI w) (nI (3 * w)) (nI G) (nI T) (nI Q) (nI C) (m + 1) (nI g) a1 a2 a3 a4 a5 a6 a7 a8 a9 a10 a11 := by
  have hwf := bb_T_wf hT
  have hG := hT.2.1
  have hN : 3 * w < 13 := by omega
  have hle : ∀ j, j < G → bb_E w a1 a2 a11 j ≤ 2 := bb_ev_le hwf hN (fun k hk => by
    obtain ⟨v, v1, v2⟩ := hin k hk
    rw [bb_n_nI v2 (by omega)]; exact v1)
  intro m
  induction m with
  | zero =>
    intro g a5 hg h13 h
    exact pk_le G g (fun _ => H a5 (fun j hj => h j (by omega))) (fun z => absurd z (by omega))
  | succ m ih =>
    intro g a5 hg h13 h
    have hlr := hT.2.2.1 g h13 (by omega)
    have hl := bb_edge_n hlr.1 (by omega)
    have hr := bb_edge_n hlr.2 (by omega)
    have fin : ∀ v, v ≤ 2 → v = bb_and (bb_ed (bb_E w a1 a2 a11) (bb_n a1 g)) (bb_ed (bb_E w a1 a2 a11) (bb_n a2 g)) → wX_simulate_101 post (wX_simulate_41 post (nI w) (nI (3 * w)) (nI G) (nI T) (nI Q) (nI C) (m + 1)) (nI g) (nI v) (nI w) (nI (3 * w)) (nI G) (nI T) (nI Q) (nI C) a1 a2 a3 a4 a5 a6 a7 a8 a9 a10 a11 := by
      intro v hv ev
      unfold wX_simulate_101
      rw [nI_clamp (show g < 2 ^ 31 by omega), bb_byte v (by omega)]
      refine ⟨pk_in g 6000 (by omega), nm_e (nm_r (nI_1 g) (ih (g + 1) (upd a5 g (nI v)) (by omega) (by omega) (fun j hj => ?_)))⟩
      by_cases e : j = g
      · rw [e, pk_us, ev, ← bb_E_g hT hw h13 (by omega)]
      · rw [pk_un e]; exact h j (by omega)
    have xle := bb_ed_le (v := bb_E w a1 a2 a11) (bb_n a1 g)
    have yle := bb_ed_le (v := bb_E w a1 a2 a11) (bb_n a2 g)
    refine pk_le G g (fun z => absurd z (by omega)) (fun _ => ⟨pk_in g 6000 (by omega), ?_⟩)
    rw [nI_clamp (show g < 2 ^ 31 by omega), hl.1, hr.1]
    refine bb_seen (bb_E w a1 a2 a11) (by omega) (h _ (by omega)) (hle _ (by omega)) ⟨pk_in g 6000 (by omega), ?_⟩
    refine bb_seen (bb_E w a1 a2 a11) (by omega) (h _ (by omega)) (hle _ (by omega)) ?_
    generalize bb_ed (bb_E w a1 a2 a11) (bb_n a1 g) = x at fin xle ⊢
    generalize bb_ed (bb_E w a1 a2 a11) (bb_n a2 g) = y at fin yle ⊢
    refine pk_eq x 0 (fun z => fin 0 (by omega) ?_) (fun z => pk_eq y 0 (fun z' => fin 0 (by omega) ?_) (fun z' => pk_eq x 1 (fun u => pk_eq y 1 (fun u' => fin 1 (by omega) ?_) (fun u' => fin 2 (by omega) ?_)) (fun u => fin 2 (by omega) ?_)))
    · unfold bb_and; rw [if_pos z]
    · unfold bb_and; rw [if_neg z, if_pos z']
    · unfold bb_and; rw [if_neg z, if_neg z', if_pos u, if_pos u']
    · unfold bb_and; rw [if_neg z, if_neg z', if_pos u, if_neg u']
    · unfold bb_and; rw [if_neg z, if_neg z', if_neg u]
theorem bb_sim9 {post : St2 → Prop} (hT : bb_T G a1 a2 a3 a4) (hw : w ≤ 3) (hin : ∀ k, k < 3 * w → ∃ v, v ≤ 2 ∧ a11 k = nI v) (H : ∀ b5, (∀ j, j < G → b5 j = nI (bb_E w a1 a2 a11 j)) → post (nI w, nI (3 * w), nI G, nI T, nI Q, nI C, a1, a2, a3, a4, b5, a6, a7, a8, a9, a10, a11)) :
    ∀ (m k : Nat) (a5 : Nat → Int32), k + m = 3 * w → bb_Z w a5 → (∀ j, j ≤ k → a5 j = nI (bb_E w a1 a2 a11 j)) → wX_simulate_9 post (nI w) (nI (3 * w)) (nI G) (nI T) (nI Q) (nI C) (m + 1) (nI k) a1 a2 a3 a4 a5 a6 a7 a8 a9 a10 a11 := by
  have hG := hT.1
  have hN : 3 * w < 13 := by omega
  intro m
  induction m with
  | zero =>
    intro k a5 hk hz h
    refine pk_le (3 * w) k (fun _ => ⟨G - 13 + 1, ?_⟩) (fun z => absurd z (by omega))
    refine bb_sim41 hT hw hin H (G - 13) 13 a5 (by omega) (Nat.le_refl _) (fun j hj => ?_)
    by_cases c : j ≤ k
    · exact h j c
    · rw [hz j (by omega) hj, bb_E_mid (by omega) hj]; rfl
  | succ m ih =>
    intro k a5 hk hz h
    obtain ⟨v, v1, v2⟩ := hin k (by omega)
    have e1 : 1 + nI k = nI (1 + k) := nI_add 1 k
    refine pk_le (3 * w) k (fun z => absurd z (by omega)) (fun _ => ⟨pk_in k 12 (by omega), pk_in (1 + k) 6000 (by omega) e1, ?_⟩)
    rw [e1, nI_clamp (show 1 + k < 2 ^ 31 by omega), nI_clamp (show k < 2 ^ 31 by omega), v2, bb_byte v (by omega)]
    refine nm_e (nm_r (nI_1 k) (ih (k + 1) (upd a5 (1 + k) (nI v)) (by omega) (fun j h1 h2 => ?_) (fun j hj => ?_)))
    · rw [pk_un (by omega)]; exact hz j h1 h2
    · by_cases e : j = 1 + k
      · rw [e, pk_us, bb_E_in (by omega) (by omega), show 1 + k - 1 = k by omega, bb_n_nI v2 (by omega)]
      · rw [pk_un e]; exact h j (by omega)
theorem bb_simulate {post : St2 → Prop} (hT : bb_T G a1 a2 a3 a4) (hw : w ≤ 3) (hz : bb_Z w a5) (hin : ∀ k, k < 3 * w → ∃ v, v ≤ 2 ∧ a11 k = nI v) (H : ∀ b5, bb_Z w b5 → (∀ j, j < G → b5 j = nI (bb_E w a1 a2 a11 j)) → post (nI w, nI (3 * w), nI G, nI T, nI Q, nI C, a1, a2, a3, a4, b5, a6, a7, a8, a9, a10, a11)) : wpX_simulate post (nI w, nI (3 * w), nI G, nI T, nI Q, nI C, a1, a2, a3, a4, a5, a6, a7, a8, a9, a10, a11) := by
  have hG := hT.1
  unfold wpX_simulate
  refine nm_e ⟨3 * w + 1, bb_sim9 hT hw hin (fun b5 h5 => H b5 (fun k h1 h2 => ?_) h5) (3 * w) 0 (upd a5 0 0) (by omega) (fun j h1 h2 => ?_) (fun j hj => ?_)⟩
  · rw [h5 k (by omega), bb_E_mid h1 h2]; rfl
  · rw [pk_un (by omega)]; exact hz j h1 h2
  · have e : j = 0 := by omega
    rw [e, pk_us, bb_E_0]; rfl
theorem bb_numberNow {post : Int32 → Prop} {d q : Nat} (hc : bb_cu (3 * w) d q a11) (hw : w ≤ 3) (H : post (nI (q * 2 ^ (3 * w - d)))) : wpX_numberNow post (nI w, nI (3 * w), nI G, nI T, nI Q, nI C, a1, a2, a3, a4, a5, a6, a7, a8, a9, a10, a11) := by
  have main : ∀ m k, k + m = 3 * w → wX_numberNow_4 post (nI w) (nI (3 * w)) (nI G) (nI T) (nI Q) (nI C) a1 a2 a3 a4 a5 a6 a7 a8 a9 a10 a11 (m + 1) (nI (q * 2 ^ (3 * w - d) / 2 ^ (3 * w - k))) (nI k) := by
    intro m
    induction m with
    | zero =>
      intro k hk
      refine pk_le (3 * w) k (fun _ => ?_) (fun z => absurd z (by omega))
      rw [show 3 * w - k = 0 by omega, Nat.pow_zero, Nat.div_one]
      exact H
    | succ m ih =>
      intro k hk
      obtain ⟨i1, i2⟩ := bb_num hc (show k < 3 * w by omega)
      refine pk_le (3 * w) k (fun z => absurd z (by omega)) (fun _ => ⟨pk_in k 12 (by omega), ?_⟩)
      rw [nI_clamp (show k < 2 ^ 31 by omega)]
      by_cases c : q * 2 ^ (3 * w - d) / 2 ^ (3 * w - 1 - k) % 2 = 1
      · refine br_t (i1.mpr c) (nm_r ?_ (nm_r (nI_1 k) (ih (k + 1) (by omega))))
        rw [i2, c, bb_2m, nI_1]
      · refine br_f (fun z => c (i1.mp z)) (nm_r ?_ (nm_r (nI_1 k) (ih (k + 1) (by omega))))
        rw [i2, show q * 2 ^ (3 * w - d) / 2 ^ (3 * w - 1 - k) % 2 = 0 by omega, bb_2m, Int32.add_zero, Nat.add_zero]
  have h0 := main (3 * w) 0 (by omega)
  have hl := bb_cu_hi hc
  have hp := Nat.two_pow_pos (3 * w - d)
  rw [Nat.succ_mul] at hl
  rw [Nat.sub_zero, Nat.div_eq_of_lt (by omega)] at h0
  exact ⟨_, h0⟩
end
end
section
section
variable {w G T Q C : Nat} {a1 a2 a3 a4 a5 a6 a7 a8 a9 a10 a11 : Nat → Int32}
theorem bb_root {N d D q q0 : Nat} (h1 : D ≤ d) (h2 : d ≤ N) (h : q / 2 ^ (d - D) = q0) : (q + 1) * 2 ^ (N - d) ≤ (q0 + 1) * 2 ^ (N - D) := by
  have h3 : q < (q0 + 1) * 2 ^ (d - D) := (Nat.div_lt_iff_lt_mul (Nat.two_pow_pos _)).mp (by omega)
  have h4 := Nat.mul_le_mul_right (2 ^ (N - d)) (show q + 1 ≤ (q0 + 1) * 2 ^ (d - D) by omega)
  rw [Nat.mul_assoc, ← Nat.pow_add, show d - D + (N - d) = N - D by omega] at h4
  exact h4
theorem bb_lw54 {post : Int32 → St2 → Prop} {J : Int32 → Int32 → Int32 → Int32 → Int32 → Int32 → Int32 → Int32 → (Nat → Int32) → (Nat → Int32) → (Nat → Int32) → (Nat → Int32) → (Nat → Int32) → (Nat → Int32) → (Nat → Int32) → (Nat → Int32) → (Nat → Int32) → (Nat → Int32) → (Nat → Int32) → Prop} {x1 : Int32} {D t hi q0 : Nat} (hw : w ≤ 3)
    (HD : ∀ b11, (q0 + 1) * 2 ^ (3 * w - D) = hi → post (-1) (nI w, nI (3 * w), nI G, nI T, nI Q, nI C, a1, a2, a3, a4, a5, a6, a7, a8, a9, a10, b11))
    (HJ : ∀ d q b11, D ≤ d → bb_cu (3 * w) d q b11 → q * 2 ^ (3 * w - d) = hi → q / 2 ^ (d - D) = q0 → J (nI d) (nI (t + 1)) (nI w) (nI (3 * w)) (nI G) (nI T) (nI Q) (nI C) a1 a2 a3 a4 a5 a6 a7 a8 a9 a10 b11) :
    ∀ (m d q : Nat) (a11 : Nat → Int32), d ≤ D + m → D ≤ d → bb_cu (3 * w) d q a11 → (q + 1) * 2 ^ (3 * w - d) = hi → q / 2 ^ (d - D) = q0 → wX_leastWith_54 post J x1 (nI D) (nI t) (nI w) (nI (3 * w)) (nI G) (nI T) (nI Q) (nI C) (m + 1) (nI d) a1 a2 a3 a4 a5 a6 a7 a8 a9 a10 a11 := by
  have base : ∀ (n q : Nat) (a11 : Nat → Int32), bb_cu (3 * w) D q a11 → (q + 1) * 2 ^ (3 * w - D) = hi → q / 2 ^ (D - D) = q0 → wX_leastWith_54 post J x1 (nI D) (nI t) (nI w) (nI (3 * w)) (nI G) (nI T) (nI Q) (nI C) (n + 1) (nI D) a1 a2 a3 a4 a5 a6 a7 a8 a9 a10 a11 := by
    intro n q a11 hc hh hq
    have hD := hc.1
    rw [Nat.sub_self, Nat.pow_zero, Nat.div_one] at hq
    rw [hq] at hh
    exact pk_le D D (fun _ => pk_eq D D (fun _ => HD a11 hh) (fun z => absurd rfl z)) (fun z => absurd z (by omega))
  intro m
  induction m with
  | zero =>
    intro d q a11 h1 h2 hc hh hq
    have e : d = D := by omega
    subst e
    exact base 0 q a11 hc hh hq
  | succ m ih =>
    intro d q a11 h1 h2 hc hh hq
    by_cases e : d = D
    · subst e
      exact base (m + 1) q a11 hc hh hq
    · obtain ⟨d', rfl⟩ : ∃ d', d = d' + 1 := ⟨d - 1, by omega⟩
      have hN := hc.1
      have hl := bb_cu_last hc
      have hq2 : q / 2 / 2 ^ (d' - D) = q0 := by rw [← bb_div2, show d' - D + 1 = d' + 1 - D by omega]; exact hq
      have ep : nI (d' + 1) - 1 = nI d' := nI_pred d'
      refine pk_le (d' + 1) D (fun z => absurd z (by omega)) (fun _ => ⟨pk_in d' 12 (by omega) ep, ?_⟩)
      rw [ep, nI_clamp (show d' < 2 ^ 31 by omega), hl]
      by_cases c : q % 2 = 1
      · refine br_t (by rw [c]; rfl) (nm_r (pk_m1 d') ⟨pk_in d' 12 (by omega), ?_⟩)
        rw [nI_clamp (show d' < 2 ^ 31 by omega)]
        exact nm_e (ih d' (q / 2) _ (by omega) (by omega) (bb_cu_back hc) (by rw [bb_hi_back (by omega) c]; exact hh) hq2)
      · have c0 : q % 2 = 0 := by omega
        refine br_f (by rw [c0]; decide) ?_
        unfold wX_leastWith_84
        rw [ep, nI_clamp (show d' < 2 ^ 31 by omega)]
        refine pk_eq (d' + 1) D (fun z => absurd z (by omega)) (fun _ => ⟨pk_in d' 12 (by omega), nm_e (nm_r (nI_1 t) (HJ (d' + 1) (q + 1) _ (by omega) (bb_cu_up hc c0) hh ?_))⟩)
        rw [show d' + 1 - D = d' - D + 1 by omega, bb_div2, show (q + 1) / 2 = q / 2 by omega]
        exact hq2
theorem bb_lw5 {post : Int32 → St2 → Prop} {e D q0 : Nat} (hT : bb_T G a1 a2 a3 a4) (hw : w ≤ 3) (he : e < 2 * G)
    (HN : ∀ b5 b11, bb_Z w b5 → (∀ n, q0 * 2 ^ (3 * w - D) ≤ n → n < (q0 + 1) * 2 ^ (3 * w - D) → bb_V w a1 a2 n e = false) → post (-1) (nI w, nI (3 * w), nI G, nI T, nI Q, nI C, a1, a2, a3, a4, b5, a6, a7, a8, a9, a10, b11))
    (HY : ∀ n b5 b11, bb_Z w b5 → n < 2 ^ (3 * w) → bb_V w a1 a2 n e = true → post (nI n) (nI w, nI (3 * w), nI G, nI T, nI Q, nI C, a1, a2, a3, a4, b5, a6, a7, a8, a9, a10, b11)) :
    ∀ (m d q t : Nat) (a5 a11 : Nat → Int32), D ≤ d → bb_cu (3 * w) d q a11 → q / 2 ^ (d - D) = q0 → bb_Z w a5 → (∀ n, q0 * 2 ^ (3 * w - D) ≤ n → n < q * 2 ^ (3 * w - d) → bb_V w a1 a2 n e = false) → 10 * ((q0 + 1) * 2 ^ (3 * w - D) - q * 2 ^ (3 * w - d)) + (3 * w - d) ≤ m → t + m ≤ 6000 → wX_leastWith_5 post (nI e) (nI D) (m + 1) (nI d) (nI t) (nI w) (nI (3 * w)) (nI G) (nI T) (nI Q) (nI C) a1 a2 a3 a4 a5 a6 a7 a8 a9 a10 a11 := by
  have hwf := bb_T_wf hT
  have hG := hT.2.1
  have hN : 3 * w < 13 := by omega
  intro m
  induction m with
  | zero =>
    intro d q t a5 a11 h1 hc hq hz hf hm ht
    have r := bb_root h1 hc.1 hq
    have hp := Nat.two_pow_pos (3 * w - d)
    rw [Nat.succ_mul] at r
    omega
  | succ m ih =>
    intro d q t a5 a11 h1 hc hq hz hf hm ht
    have hdN := hc.1
    have r := bb_root h1 hc.1 hq
    have hi := bb_cu_hi hc
    have hp := Nat.two_pow_pos (3 * w - d)
    have es : (q + 1) * 2 ^ (3 * w - d) = q * 2 ^ (3 * w - d) + 2 ^ (3 * w - d) := Nat.succ_mul _ _
    have hle := bb_cu_le hc
    refine pk_le 20000 t (fun z => absurd z (by omega)) (fun _ => ?_)
    refine bb_simulate hT hw hz hle (fun b5 hz5 h5 => ?_)
    have hE : ∀ j, j < G → bb_E w a1 a2 a11 j ≤ 2 := bb_ev_le hwf hN (fun k hk => by
      obtain ⟨v, v1, v2⟩ := hle k hk
      rw [bb_n_nI v2 (by omega)]; exact v1)
    refine bb_seen (bb_E w a1 a2 a11) (by omega) (h5 _ (by omega)) (hE _ (by omega)) ?_
    have hv : bb_ed (bb_E w a1 a2 a11) e = bb_tv (3 * w) (bb_n a1) (bb_n a2) (bb_n a11) e := rfl
    have hv2 := bb_ed_le (v := bb_E w a1 a2 a11) e
    have cube : bb_tv (3 * w) (bb_n a1) (bb_n a2) (bb_n a11) e ≠ 2 → ∀ n, q * 2 ^ (3 * w - d) ≤ n → n < (q + 1) * 2 ^ (3 * w - d) → bb_V w a1 a2 n e = decide (bb_tv (3 * w) (bb_n a1) (bb_n a2) (bb_n a11) e = 1) := fun g n n1 n2 => bb_bv_cube hwf hN he (bb_cu_in hc (Nat.div_eq_of_lt_le n1 n2)) g
    rw [hv] at hv2 ⊢
    have full : d = 3 * w → bb_tv (3 * w) (bb_n a1) (bb_n a2) (bb_n a11) e < 2 := fun g => bb_tv_lt hwf hN (bb_cu_full (by rw [g] at hc; exact hc)) he
    generalize bb_tv (3 * w) (bb_n a1) (bb_n a2) (bb_n a11) e = v at hv2 cube full ⊢
    refine pk_eq v 1 (fun z => ?_) (fun z1 => pk_eq v 2 (fun z => ?_) (fun z2 => ?_))
    · refine bb_numberNow hc hw ?_
      exact HY _ b5 a11 hz5 (by omega) (by rw [cube (by omega) _ (Nat.le_refl _) (by omega), z]; rfl)
    · have hd : d < 3 * w := by
        rcases Nat.lt_or_ge d (3 * w) with g | g
        · exact g
        · have := full (by omega)
          omega
      refine ⟨pk_in d 12 (by omega), ?_⟩
      rw [nI_clamp (show d < 2 ^ 31 by omega)]
      have el := bb_lo_open (q := q) hd
      refine nm_e (nm_r (nI_1 d) (nm_r (nI_1 t) (ih (d + 1) (2 * q) (t + 1) b5 _ (by omega) (bb_cu_open hc hd) ?_ hz5 ?_ ?_ (by omega))))
      · rw [show d + 1 - D = d - D + 1 by omega, bb_div2, show 2 * q / 2 = q by omega]; exact hq
      · rw [el]; exact hf
      · rw [el]; omega
    · have hff : ∀ n, q0 * 2 ^ (3 * w - D) ≤ n → n < (q + 1) * 2 ^ (3 * w - d) → bb_V w a1 a2 n e = false := by
        intro n n1 n2
        rcases Nat.lt_or_ge n (q * 2 ^ (3 * w - d)) with g | g
        · exact hf n n1 g
        · rw [cube (by omega) n g n2]; exact decide_eq_false z1
      refine ⟨d + 1, bb_lw54 (hi := (q + 1) * 2 ^ (3 * w - d)) (q0 := q0) hw (fun b11 g => ?_) (fun d' q' b11 g1 g2 g3 g4 => ?_) d d q a11 (by omega) h1 hc rfl hq⟩
      · exact HN b5 b11 hz5 (fun n n1 n2 => hff n n1 (by rw [← g]; exact n2))
      · refine ih d' q' (t + 1) b5 b11 g1 g2 g4 hz5 ?_ ?_ (by omega)
        · rw [g3]; exact hff
        · rw [g3, es]
          rw [es] at r
          omega
theorem bb_leastWith {post : Int32 → St2 → Prop} {e D q0 : Nat} (hT : bb_T G a1 a2 a3 a4) (hw : w ≤ 3) (he : e < 2 * G) (hz : bb_Z w a5) (hc : bb_cu (3 * w) D q0 a11)
    (HN : ∀ b5 b11, bb_Z w b5 → (∀ n, q0 * 2 ^ (3 * w - D) ≤ n → n < (q0 + 1) * 2 ^ (3 * w - D) → bb_V w a1 a2 n e = false) → post (-1) (nI w, nI (3 * w), nI G, nI T, nI Q, nI C, a1, a2, a3, a4, b5, a6, a7, a8, a9, a10, b11))
    (HY : ∀ n b5 b11, bb_Z w b5 → n < 2 ^ (3 * w) → bb_V w a1 a2 n e = true → post (nI n) (nI w, nI (3 * w), nI G, nI T, nI Q, nI C, a1, a2, a3, a4, b5, a6, a7, a8, a9, a10, b11)) : wpX_leastWith post (nI w, nI (3 * w), nI G, nI T, nI Q, nI C, a1, a2, a3, a4, a5, a6, a7, a8, a9, a10, a11) (nI e) (nI D) := by
  have h9 := bb_pow9 (show 3 * w ≤ 9 by omega)
  have hh := bb_cu_hi hc
  refine ⟨_, bb_lw5 hT hw he HN HY _ D q0 0 a5 a11 (Nat.le_refl _) hc ?_ hz (fun n n1 n2 => absurd n2 (by omega)) (Nat.le_refl _) ?_⟩
  · rw [Nat.sub_self, Nat.pow_zero, Nat.div_one]
  · omega
end
end
section
section
variable {w G T Q C : Nat} {a1 a2 a3 a4 a5 a6 a7 a8 a9 a10 a11 : Nat → Int32}
theorem bb_cu_zero {N : Nat} {a : Nat → Int32} (h : ∀ k, k < N → a k = 0) : bb_cu N N 0 a := by
  refine ⟨Nat.le_refl _, Nat.two_pow_pos _, fun k hk => ?_, fun k h1 h2 => absurd h2 (by omega)⟩
  rw [h k hk, Nat.zero_div]; rfl
theorem bb_cu_one {N K : Nat} {a : Nat → Int32} (hK : K < N) (h0 : ∀ k, k < K → a k = 0) (h2 : ∀ k, K ≤ k → k < N → a k = 2) : bb_cu N (K + 1) 1 (upd a K 1) := by
  refine ⟨hK, Nat.one_lt_two_pow (by omega), fun k hk => ?_, fun k k1 k2 => ?_⟩
  · by_cases e : k = K
    · rw [e, pk_us, show K + 1 - 1 - K = 0 by omega, Nat.pow_zero]; rfl
    · rw [pk_un e, h0 k (by omega), Nat.div_eq_of_lt (Nat.one_lt_two_pow (by omega))]; rfl
  · rw [pk_un (by omega)]; exact h2 k (by omega) k2
theorem bb_ff131 {post : Int32 → St2 → Prop} {J : Int32 → Int32 → Int32 → Int32 → Int32 → Int32 → Int32 → (Nat → Int32) → (Nat → Int32) → (Nat → Int32) → (Nat → Int32) → (Nat → Int32) → (Nat → Int32) → (Nat → Int32) → (Nat → Int32) → (Nat → Int32) → (Nat → Int32) → (Nat → Int32) → Prop} {x1 x2 : Int32} {e D q0 K : Nat} (hT : bb_T G a1 a2 a3 a4) (hw : w ≤ 3) (he : e < 2 * G) (hz : bb_Z w a5) (hc : bb_cu (3 * w) D q0 a11)
    (HJ : ∀ b5 b11, bb_Z w b5 → (∀ n, q0 * 2 ^ (3 * w - D) ≤ n → n < (q0 + 1) * 2 ^ (3 * w - D) → bb_V w a1 a2 n e = false) → J (nI K + (-1)) (nI w) (nI (3 * w)) (nI G) (nI T) (nI Q) (nI C) a1 a2 a3 a4 b5 a6 a7 a8 a9 a10 b11)
    (HY : ∀ n b5 b11, bb_Z w b5 → n < 2 ^ (3 * w) → bb_V w a1 a2 n e = true → post (nI n) (nI w, nI (3 * w), nI G, nI T, nI Q, nI C, a1, a2, a3, a4, b5, a6, a7, a8, a9, a10, b11)) : wX_firstFrom_131 post J x1 x2 (nI K) (nI D) (nI e) (nI w) (nI (3 * w)) (nI G) (nI T) (nI Q) (nI C) a1 a2 a3 a4 a5 a6 a7 a8 a9 a10 a11 := by
  have h9 := bb_pow9 (show 3 * w ≤ 9 by omega)
  unfold wX_firstFrom_131
  exact bb_leastWith hT hw he hz hc (fun b5 b11 h1 h2 => br_t (by decide) (nm_e (HJ b5 b11 h1 h2))) (fun n b5 b11 h1 h2 h3 => br_f (nI_pos (by omega)) (HY n b5 b11 h1 h2 h3))
theorem bb_ff47 {post : Int32 → St2 → Prop} {J : Int32 → Int32 → Int32 → Int32 → Int32 → Int32 → Int32 → (Nat → Int32) → (Nat → Int32) → (Nat → Int32) → (Nat → Int32) → (Nat → Int32) → (Nat → Int32) → (Nat → Int32) → (Nat → Int32) → (Nat → Int32) → (Nat → Int32) → (Nat → Int32) → Prop} {e K : Nat} (hT : bb_T G a1 a2 a3 a4) (hw : w ≤ 3) (he : e < 2 * G) (hz : bb_Z w a5) (hK : K ≤ 3 * w)
    (HJ : ∀ b5 b11, bb_Z w b5 → (∀ n, (K < 3 * w → 2 ^ (3 * w - (K + 1)) ≤ n) → n < 2 ^ (3 * w - K) → bb_V w a1 a2 n e = false) → J (nI K + (-1)) (nI w) (nI (3 * w)) (nI G) (nI T) (nI Q) (nI C) a1 a2 a3 a4 b5 a6 a7 a8 a9 a10 b11)
    (HY : ∀ n b5 b11, bb_Z w b5 → n < 2 ^ (3 * w) → bb_V w a1 a2 n e = true → post (nI n) (nI w, nI (3 * w), nI G, nI T, nI Q, nI C, a1, a2, a3, a4, b5, a6, a7, a8, a9, a10, b11)) :
    ∀ (m k : Nat) (a11 : Nat → Int32), k + m = 3 * w → (∀ j, j < k → j < K → a11 j = 0) → (∀ j, j < k → K ≤ j → a11 j = 2) → wX_firstFrom_47 post J (nI e) 0 (nI K) (nI w) (nI (3 * w)) (nI G) (nI T) (nI Q) (nI C) (m + 1) (nI k) a1 a2 a3 a4 a5 a6 a7 a8 a9 a10 a11 := by
  intro m
  induction m with
  | zero =>
    intro k a11 hk h0 h2
    refine pk_le (3 * w) k (fun _ => pk_le (3 * w) K (fun c => ?_) (fun c => ⟨pk_in K 12 (by omega), ?_⟩)) (fun z => absurd z (by omega))
    · refine pk_le (3 * w) K (fun _ => ?_) (fun z => absurd z (by omega))
      have eK : K = 3 * w := by omega
      refine bb_ff131 (D := 3 * w) (q0 := 0) hT hw he hz (bb_cu_zero (fun j hj => h0 j (by omega) (by omega))) (fun b5 b11 g1 g2 => HJ b5 b11 g1 (fun n n1 n2 => g2 n (by omega) ?_)) HY
      rw [eK] at n2
      omega
    · rw [nI_clamp (show K < 2 ^ 31 by omega)]
      refine nm_e (pk_le (3 * w) K (fun z => absurd z (by omega)) (fun _ => ?_))
      rw [nI_1 K]
      refine bb_ff131 (D := K + 1) (q0 := 1) hT hw he hz (bb_cu_one c (fun j hj => h0 j (by omega) hj) (fun j j1 j2 => h2 j (by omega) j1)) (fun b5 b11 g1 g2 => HJ b5 b11 g1 (fun n n1 n2 => g2 n ?_ ?_)) HY
      · have := n1 c
        omega
      · rw [bb_p2 c] at n2
        omega
  | succ m ih =>
    intro k a11 hk h0 h2
    have eb : ((0 : Int32) >>> (((nI (3 * w) - 1) - nI k) &&& 31)) &&& 1 = 0 := by
      have h := bb_bit (N := 3 * w) (k := k) (n := 0) (by omega) (by omega) (by omega)
      unfold bb_bits at h
      rw [Nat.zero_div] at h
      exact h
    refine pk_le (3 * w) k (fun z => absurd z (by omega)) (fun _ => nm_r eb (pk_le K k (fun c => ⟨pk_in k 12 (by omega), ?_⟩) (fun c => ⟨pk_in k 12 (by omega), ?_⟩)))
    · rw [nI_clamp (show k < 2 ^ 31 by omega)]
      refine nm_e (nm_r (nI_1 k) (ih (k + 1) _ (by omega) (fun j j1 j2 => ?_) (fun j j1 j2 => ?_)))
      · rw [pk_un (by omega)]; exact h0 j (by omega) j2
      · by_cases ej : j = k
        · rw [ej, pk_us]
        · rw [pk_un ej]; exact h2 j (by omega) j2
    · rw [nI_clamp (show k < 2 ^ 31 by omega)]
      refine nm_e (nm_r (nI_1 k) (ih (k + 1) _ (by omega) (fun j j1 j2 => ?_) (fun j j1 j2 => ?_)))
      · by_cases ej : j = k
        · rw [ej, pk_us]
        · rw [pk_un ej]; exact h0 j (by omega) j2
      · rw [pk_un (by omega)]; exact h2 j (by omega) j2
theorem bb_ff5 {post : Int32 → St2 → Prop} {e : Nat} (hT : bb_T G a1 a2 a3 a4) (hw : w ≤ 3) (he : e < 2 * G)
    (HN : ∀ b5 b11, bb_Z w b5 → (∀ n, n < 2 ^ (3 * w) → bb_V w a1 a2 n e = false) → post (-1) (nI w, nI (3 * w), nI G, nI T, nI Q, nI C, a1, a2, a3, a4, b5, a6, a7, a8, a9, a10, b11))
    (HY : ∀ n b5 b11, bb_Z w b5 → n < 2 ^ (3 * w) → bb_V w a1 a2 n e = true → post (nI n) (nI w, nI (3 * w), nI G, nI T, nI Q, nI C, a1, a2, a3, a4, b5, a6, a7, a8, a9, a10, b11)) :
    ∀ (j : Nat) (a5 a11 : Nat → Int32), j ≤ 3 * w + 1 → bb_Z w a5 → (∀ n, j ≤ 3 * w → n < 2 ^ (3 * w - j) → bb_V w a1 a2 n e = false) → wX_firstFrom_5 post (nI e) 0 (j + 1) (nI j + (-1)) (nI w) (nI (3 * w)) (nI G) (nI T) (nI Q) (nI C) a1 a2 a3 a4 a5 a6 a7 a8 a9 a10 a11 := by
  intro j
  induction j with
  | zero =>
    intro a5 a11 _ hz h
    exact br_t (by decide) (HN a5 a11 hz (fun n hn => h n (by omega) hn))
  | succ K ih =>
    intro a5 a11 hj hz h
    rw [pk_m1 K]
    have main : wX_firstFrom_32 post (wX_firstFrom_5 post (nI e) 0 (K + 1)) (nI e) 0 (nI K) (nI w) (nI (3 * w)) (nI G) (nI T) (nI Q) (nI C) a1 a2 a3 a4 a5 a6 a7 a8 a9 a10 a11 := by
      refine br_f (by decide) ⟨3 * w + 1, bb_ff47 hT hw he hz (by omega) (fun b5 b11 g1 g2 => ih b5 b11 (by omega) g1 (fun n _ n2 => ?_)) HY (3 * w) 0 a11 (by omega) (fun j j1 _ => absurd j1 (by omega)) (fun j j1 _ => absurd j1 (by omega))⟩
      by_cases c : K < 3 * w ∧ n < 2 ^ (3 * w - (K + 1))
      · exact h n (by omega) c.2
      · exact g2 n (fun z => by omega) n2
    refine br_f (nI_pos (by omega)) (pk_eq K (3 * w) (fun _ => main) (fun z => br_t ?_ main))
    have hb := bb_bit (N := 3 * w) (k := K) (n := 0) (by omega) (by omega) (by omega)
    unfold bb_bits at hb
    rw [Nat.zero_div] at hb
    exact hb
theorem bb_firstFrom {post : Int32 → St2 → Prop} {e : Nat} (hT : bb_T G a1 a2 a3 a4) (hw : w ≤ 3) (he : e < 2 * G) (hz : bb_Z w a5)
    (HN : ∀ b5 b11, bb_Z w b5 → (∀ n, n < 2 ^ (3 * w) → bb_V w a1 a2 n e = false) → post (-1) (nI w, nI (3 * w), nI G, nI T, nI Q, nI C, a1, a2, a3, a4, b5, a6, a7, a8, a9, a10, b11))
    (HY : ∀ n b5 b11, bb_Z w b5 → n < 2 ^ (3 * w) → bb_V w a1 a2 n e = true → post (nI n) (nI w, nI (3 * w), nI G, nI T, nI Q, nI C, a1, a2, a3, a4, b5, a6, a7, a8, a9, a10, b11)) : wpX_firstFrom post (nI w, nI (3 * w), nI G, nI T, nI Q, nI C, a1, a2, a3, a4, a5, a6, a7, a8, a9, a10, a11) (nI e) 0 := by
  have h := bb_ff5 hT hw he HN HY (3 * w + 1) a5 a11 (Nat.le_refl _) hz (fun n z => absurd z (by omega))
  rw [pk_m1] at h
  exact ⟨_, h⟩
theorem bb_cf89 {post : Int32 → St2 → Prop} {J : Int32 → Int32 → Int32 → Int32 → Int32 → Int32 → Int32 → Int32 → Int32 → (Nat → Int32) → (Nat → Int32) → (Nat → Int32) → (Nat → Int32) → (Nat → Int32) → (Nat → Int32) → (Nat → Int32) → (Nat → Int32) → (Nat → Int32) → (Nat → Int32) → (Nat → Int32) → Prop} {x1 x3 : Int32} {t hi : Nat} (hw : w ≤ 3)
    (HD : ∀ b11, 2 ^ (3 * w) = hi → post x3 (nI w, nI (3 * w), nI G, nI T, nI Q, nI C, a1, a2, a3, a4, a5, a6, a7, a8, a9, a10, b11))
    (HJ : ∀ d q b11, bb_cu (3 * w) d q b11 → q * 2 ^ (3 * w - d) = hi → J (nI d) x3 (nI (t + 1)) (nI w) (nI (3 * w)) (nI G) (nI T) (nI Q) (nI C) a1 a2 a3 a4 a5 a6 a7 a8 a9 a10 b11) :
    ∀ (m d q : Nat) (a11 : Nat → Int32), d ≤ m → bb_cu (3 * w) d q a11 → (q + 1) * 2 ^ (3 * w - d) = hi → wX_countFor_89 post J x1 x3 (nI t) (nI w) (nI (3 * w)) (nI G) (nI T) (nI Q) (nI C) (m + 1) (nI d) a1 a2 a3 a4 a5 a6 a7 a8 a9 a10 a11 := by
  have base : ∀ (n q : Nat) (a11 : Nat → Int32), bb_cu (3 * w) 0 q a11 → (q + 1) * 2 ^ (3 * w - 0) = hi → wX_countFor_89 post J x1 x3 (nI t) (nI w) (nI (3 * w)) (nI G) (nI T) (nI Q) (nI C) (n + 1) (nI 0) a1 a2 a3 a4 a5 a6 a7 a8 a9 a10 a11 := by
    intro n q a11 hc hh
    have h0 : q = 0 := by
      have := hc.2.1
      rw [Nat.pow_zero] at this
      omega
    rw [h0, Nat.sub_zero, Nat.zero_add, Nat.one_mul] at hh
    exact pk_le 0 0 (fun _ => pk_eq 0 0 (fun _ => HD a11 hh) (fun z => absurd rfl z)) (fun z => absurd z (by omega))
  intro m
  induction m with
  | zero =>
    intro d q a11 h1 hc hh
    have e : d = 0 := by omega
    subst e
    exact base 0 q a11 hc hh
  | succ m ih =>
    intro d q a11 h1 hc hh
    by_cases e : d = 0
    · subst e
      exact base (m + 1) q a11 hc hh
    · obtain ⟨d', rfl⟩ : ∃ d', d = d' + 1 := ⟨d - 1, by omega⟩
      have hN := hc.1
      have hl := bb_cu_last hc
      have ep : nI (d' + 1) - 1 = nI d' := nI_pred d'
      refine pk_le (d' + 1) 0 (fun z => absurd z (by omega)) (fun _ => ⟨pk_in d' 12 (by omega) ep, ?_⟩)
      rw [ep, nI_clamp (show d' < 2 ^ 31 by omega), hl]
      by_cases c : q % 2 = 1
      · refine br_t (by rw [c]; rfl) (nm_r (pk_m1 d') ⟨pk_in d' 12 (by omega), ?_⟩)
        rw [nI_clamp (show d' < 2 ^ 31 by omega)]
        exact nm_e (ih d' (q / 2) _ (by omega) (bb_cu_back hc) (by rw [bb_hi_back (by omega) c]; exact hh))
      · have c0 : q % 2 = 0 := by omega
        refine br_f (by rw [c0]; decide) ?_
        unfold wX_countFor_118
        rw [ep, nI_clamp (show d' < 2 ^ 31 by omega)]
        exact pk_eq (d' + 1) 0 (fun z => absurd z (by omega)) (fun _ => ⟨pk_in d' 12 (by omega), nm_e (nm_r (nI_1 t) (HJ (d' + 1) (q + 1) _ (bb_cu_up hc c0) hh))⟩)
theorem bb_cf30 {post : Int32 → St2 → Prop} {e : Nat} (hT : bb_T G a1 a2 a3 a4) (hw : w ≤ 3) (he : e < 2 * G)
    (H : ∀ b5 b11, bb_Z w b5 → post (nI (bb_cnt (fun n => bb_V w a1 a2 n e) (2 ^ (3 * w)))) (nI w, nI (3 * w), nI G, nI T, nI Q, nI C, a1, a2, a3, a4, b5, a6, a7, a8, a9, a10, b11)) :
    ∀ (m d q t : Nat) (a5 a11 : Nat → Int32), bb_cu (3 * w) d q a11 → bb_Z w a5 → 10 * (2 ^ (3 * w) - q * 2 ^ (3 * w - d)) + (3 * w - d) ≤ m → t + m ≤ 6000 → wX_countFor_30 post (nI e) (m + 1) (nI d) (nI (bb_cnt (fun n => bb_V w a1 a2 n e) (q * 2 ^ (3 * w - d)))) (nI t) (nI w) (nI (3 * w)) (nI G) (nI T) (nI Q) (nI C) a1 a2 a3 a4 a5 a6 a7 a8 a9 a10 a11 := by
  have hwf := bb_T_wf hT
  have hG := hT.2.1
  have hN : 3 * w < 13 := by omega
  intro m
  induction m with
  | zero =>
    intro d q t a5 a11 hc hz hm ht
    have r := bb_cu_hi hc
    have hp := Nat.two_pow_pos (3 * w - d)
    rw [Nat.succ_mul] at r
    omega
  | succ m ih =>
    intro d q t a5 a11 hc hz hm ht
    have hdN := hc.1
    have r := bb_cu_hi hc
    have hp := Nat.two_pow_pos (3 * w - d)
    have es : (q + 1) * 2 ^ (3 * w - d) = q * 2 ^ (3 * w - d) + 2 ^ (3 * w - d) := Nat.succ_mul _ _
    have hle := bb_cu_le hc
    refine pk_le 20000 t (fun z => absurd z (by omega)) (fun _ => ?_)
    refine bb_simulate hT hw hz hle (fun b5 hz5 h5 => ?_)
    have hE : ∀ j, j < G → bb_E w a1 a2 a11 j ≤ 2 := bb_ev_le hwf hN (fun k hk => by
      obtain ⟨v, v1, v2⟩ := hle k hk
      rw [bb_n_nI v2 (by omega)]; exact v1)
    refine bb_seen (bb_E w a1 a2 a11) (by omega) (h5 _ (by omega)) (hE _ (by omega)) ?_
    have hv : bb_ed (bb_E w a1 a2 a11) e = bb_tv (3 * w) (bb_n a1) (bb_n a2) (bb_n a11) e := rfl
    have hv2 := bb_ed_le (v := bb_E w a1 a2 a11) e
    have cube : bb_tv (3 * w) (bb_n a1) (bb_n a2) (bb_n a11) e ≠ 2 → ∀ n, q * 2 ^ (3 * w - d) ≤ n → n < (q + 1) * 2 ^ (3 * w - d) → bb_V w a1 a2 n e = decide (bb_tv (3 * w) (bb_n a1) (bb_n a2) (bb_n a11) e = 1) := fun g n n1 n2 => bb_bv_cube hwf hN he (bb_cu_in hc (Nat.div_eq_of_lt_le n1 n2)) g
    rw [hv] at hv2 ⊢
    have full : d = 3 * w → bb_tv (3 * w) (bb_n a1) (bb_n a2) (bb_n a11) e < 2 := fun g => bb_tv_lt hwf hN (bb_cu_full (by rw [g] at hc; exact hc)) he
    generalize bb_tv (3 * w) (bb_n a1) (bb_n a2) (bb_n a11) e = v at hv2 cube full ⊢
    have back : bb_cnt (fun n => bb_V w a1 a2 n e) ((q + 1) * 2 ^ (3 * w - d)) = bb_cnt (fun n => bb_V w a1 a2 n e) (q * 2 ^ (3 * w - d)) + (if v = 1 then 2 ^ (3 * w - d) else 0) → v ≠ 2 → ∃ n, wX_countFor_89 post (wX_countFor_30 post (nI e) (m + 1)) (nI e) (nI (bb_cnt (fun n => bb_V w a1 a2 n e) ((q + 1) * 2 ^ (3 * w - d)))) (nI t) (nI w) (nI (3 * w)) (nI G) (nI T) (nI Q) (nI C) n (nI d) a1 a2 a3 a4 b5 a6 a7 a8 a9 a10 a11 := by
      intro _ _
      refine ⟨d + 1, bb_cf89 (hi := (q + 1) * 2 ^ (3 * w - d)) hw (fun b11 g => ?_) (fun d' q' b11 g2 g3 => ?_) d d q a11 (Nat.le_refl _) hc rfl⟩
      · rw [← g]; exact H b5 b11 hz5
      · rw [← g3]
        refine ih d' q' (t + 1) b5 b11 g2 hz5 ?_ (by omega)
        rw [g3, es]
        rw [es] at r
        omega
    refine pk_eq v 2 (fun z => ?_) (fun z2 => pk_eq v 1 (fun z => ?_) (fun z1 => ?_))
    · have hd : d < 3 * w := by
        rcases Nat.lt_or_ge d (3 * w) with g | g
        · exact g
        · have := full (by omega)
          omega
      refine ⟨pk_in d 12 (by omega), ?_⟩
      rw [nI_clamp (show d < 2 ^ 31 by omega)]
      have el := bb_lo_open (q := q) hd
      have ih' := ih (d + 1) (2 * q) (t + 1) b5 (upd a11 d 0) (bb_cu_open hc hd) hz5 (by rw [el]; omega) (by omega)
      rw [el] at ih'
      exact nm_e (nm_r (nI_1 d) (nm_r (nI_1 t) ih'))
    · have ec : bb_cnt (fun n => bb_V w a1 a2 n e) ((q + 1) * 2 ^ (3 * w - d)) = bb_cnt (fun n => bb_V w a1 a2 n e) (q * 2 ^ (3 * w - d)) + 2 ^ (3 * w - d) := by
        rw [es]
        refine bb_cnt_tt _ (fun i i1 i2 => ?_)
        show bb_V w a1 a2 i e = true
        rw [cube (by omega) i i1 (by rw [es]; exact i2), z]; rfl
      refine nm_r ?_ (back (by rw [ec, if_pos z]) z2)
      rw [pk_sub hdN, bb_shl1 (3 * w - d) (by omega), nI_add, ec]
    · have ec : bb_cnt (fun n => bb_V w a1 a2 n e) ((q + 1) * 2 ^ (3 * w - d)) = bb_cnt (fun n => bb_V w a1 a2 n e) (q * 2 ^ (3 * w - d)) := by
        rw [es]
        refine bb_cnt_ff _ (fun i i1 i2 => ?_)
        show bb_V w a1 a2 i e = false
        rw [cube z2 i i1 (by rw [es]; exact i2)]; exact decide_eq_false z1
      refine nm_r ?_ (back (by rw [ec, if_neg z1]; rfl) z2)
      rw [Int32.add_zero, ec]
theorem bb_countFor {post : Int32 → St2 → Prop} {e : Nat} (hT : bb_T G a1 a2 a3 a4) (hw : w ≤ 3) (he : e < 2 * G) (hz : bb_Z w a5)
    (H : ∀ b5 b11, bb_Z w b5 → post (nI (bb_cnt (fun n => bb_V w a1 a2 n e) (2 ^ (3 * w)))) (nI w, nI (3 * w), nI G, nI T, nI Q, nI C, a1, a2, a3, a4, b5, a6, a7, a8, a9, a10, b11)) : wpX_countFor post (nI w, nI (3 * w), nI G, nI T, nI Q, nI C, a1, a2, a3, a4, a5, a6, a7, a8, a9, a10, a11) (nI e) := by
  have h9 := bb_pow9 (show 3 * w ≤ 9 by omega)
  have main : ∀ (m k : Nat) (a11 : Nat → Int32), k + m = 3 * w → (∀ j, j < k → a11 j = 2) → wX_countFor_2 post (nI e) (nI w) (nI (3 * w)) (nI G) (nI T) (nI Q) (nI C) (m + 1) (nI k) a1 a2 a3 a4 a5 a6 a7 a8 a9 a10 a11 := by
    intro m
    induction m with
    | zero =>
      intro k a11 hk h
      have hc : bb_cu (3 * w) 0 0 a11 := ⟨Nat.zero_le _, by rw [Nat.pow_zero]; omega, fun j hj => absurd hj (by omega), fun j _ j2 => h j (by omega)⟩
      have h30 := bb_cf30 hT hw he H (10 * (2 ^ (3 * w) - 0 * 2 ^ (3 * w - 0)) + (3 * w - 0)) 0 0 0 a5 a11 hc hz (Nat.le_refl _) (by omega)
      rw [show 0 * 2 ^ (3 * w - 0) = 0 from Nat.zero_mul _] at h30
      exact pk_le (3 * w) k (fun _ => ⟨_, h30⟩) (fun z => absurd z (by omega))
    | succ m ih =>
      intro k a11 hk h
      refine pk_le (3 * w) k (fun z => absurd z (by omega)) (fun _ => ⟨pk_in k 12 (by omega), ?_⟩)
      rw [nI_clamp (show k < 2 ^ 31 by omega)]
      refine nm_e (nm_r (nI_1 k) (ih (k + 1) _ (by omega) (fun j hj => ?_)))
      by_cases ej : j = k
      · rw [ej, pk_us]
      · rw [pk_un ej]; exact h j (by omega)
  exact ⟨_, main (3 * w) 0 a11 (by omega) (fun j hj => absurd hj (by omega))⟩
end
end
section
section
variable {w G T Q C : Nat} {a1 a2 a3 a4 a5 a6 a7 a8 a9 a10 a11 : Nat → Int32} {V : Nat → Nat → Bool}
/-- between two questions: the table, and what its edges mean -/
def bb_q (w G : Nat) (V : Nat → Nat → Bool) (a1 a2 a3 a4 a5 : Nat → Int32) : Prop := bb_T G a1 a2 a3 a4 ∧ bb_Z w a5 ∧ ∀ n z, z < 2 * G → bb_V w a1 a2 n z = V n z
/-- a number meets all that is required -/
def bb_sat (V : Nat → Nat → Bool) (a8 : Nat → Int32) (C n : Nat) : Bool := bb_all (fun k => V n (bb_n a8 k)) C
/-- a term's value under a number -/
def bb_val (V : Nat → Nat → Bool) (w : Nat) (a6 : Nat → Int32) (x n : Nat) : Nat := bb_sum (fun i => V n (bb_n a6 (4 * x + i))) w
theorem bb_joinAll {post : Int32 → St2 → Prop} (hq : bb_q w G V a1 a2 a3 a4 a5) (hw : w ≤ 3) (hC : C ≤ 10) (hG : G + 10 ≤ 6000) (h8 : bb_es 10 G a8)
    (H : ∀ G' e b1 b2 b3 b4, bb_X w G a1 a2 10 G' b1 b2 b3 b4 → e < 2 * G' → (∀ n, bb_V w b1 b2 n e = bb_sat V a8 C n) → post (nI e) (nI w, nI (3 * w), nI G', nI T, nI Q, nI C, b1, b2, b3, b4, a5, a6, a7, a8, a9, a10, a11)) : wpX_joinAll post (nI w, nI (3 * w), nI G, nI T, nI Q, nI C, a1, a2, a3, a4, a5, a6, a7, a8, a9, a10, a11) := by
  obtain ⟨hT, hz, hV⟩ := hq
  have h13 := hT.1
  have main : ∀ (m i G' e : Nat) (b1 b2 b3 b4 : Nat → Int32), i + m = C → bb_X w G a1 a2 i G' b1 b2 b3 b4 → e < 2 * G' → (∀ n, bb_V w b1 b2 n e = bb_all (fun k => V n (bb_n a8 k)) i) → wX_joinAll_4 post (m + 1) (nI e) (nI i) (nI w) (nI (3 * w)) (nI G') (nI T) (nI Q) (nI C) b1 b2 b3 b4 a5 a6 a7 a8 a9 a10 a11 := by
    intro m
    induction m with
    | zero =>
      intro i G' e b1 b2 b3 b4 hi hX he hs
      have ei : i = C := by omega
      subst ei
      exact pk_le i i (fun _ => H G' e b1 b2 b3 b4 (bb_X_trans hX (bb_X_refl hX.1 0) (by omega)) he hs) (fun z => absurd z (by omega))
    | succ m ih =>
      intro i G' e b1 b2 b3 b4 hi hX he hs
      obtain ⟨x1, x2, x3, x4⟩ := hX
      have h8i := bb_edge_n (h8 i (by omega)) (by omega)
      refine pk_le C i (fun z => absurd z (by omega)) (fun _ => ⟨pk_in i 10 (by omega), ?_⟩)
      rw [nI_clamp (show i < 2 ^ 31 by omega), h8i.1]
      refine bb_gate x1 (by omega) hw he (show bb_n a8 i < 2 * G' by omega) (fun G2 e2 c1 c2 c3 c4 k1 k2 k3 => nm_r (nI_1 i) (ih (i + 1) G2 e2 c1 c2 c3 c4 (by omega) (bb_X_trans ⟨x1, x2, x3, x4⟩ k1 (Nat.le_refl _)) k2 (fun n => ?_)))
      rw [k3 n, hs n, x4 n _ h8i.2, hV n _ h8i.2, bb_all_s]
  exact ⟨_, main C 0 G 1 a1 a2 a3 a4 (by omega) (bb_X_refl hT 0) (by omega) (fun n => by rw [bb_V_1]; rfl)⟩
theorem bb_q_back {k G' : Nat} {b1 b2 b3 b4 c4 b5 : Nat → Int32} (hq : bb_q w G V a1 a2 a3 a4 a5) (hX : bb_X w G a1 a2 k G' b1 b2 b3 b4) (hT : bb_T G b1 b2 b3 c4) (hz : bb_Z w b5) : bb_q w G V b1 b2 b3 c4 b5 :=
  ⟨hT, hz, fun n z h => by rw [hX.2.2.2 n z h]; exact hq.2.2 n z h⟩
theorem bb_count {post : Int32 → St2 → Prop} (hq : bb_q w G V a1 a2 a3 a4 a5) (hw : w ≤ 3) (hC : C ≤ 10) (hG : G + 10 ≤ 6000) (h8 : bb_es 10 G a8)
    (H : ∀ b1 b2 b3 b4 b5 b11, bb_q w G V b1 b2 b3 b4 b5 → post (nI (bb_cnt (bb_sat V a8 C) (2 ^ (3 * w)))) (nI w, nI (3 * w), nI G, nI T, nI Q, nI C, b1, b2, b3, b4, b5, a6, a7, a8, a9, a10, b11)) : wpX_count post (nI w, nI (3 * w), nI G, nI T, nI Q, nI C, a1, a2, a3, a4, a5, a6, a7, a8, a9, a10, a11) := by
  have h13 := hq.1.1
  unfold wpX_count
  refine bb_joinAll hq hw hC hG h8 (fun G' e b1 b2 b3 b4 hX he hs => ?_)
  refine bb_countFor hX.1 hw he hq.2.1 (fun b5 b11 hz => ?_)
  refine bb_takeBack hX.1 h13 hX.2.1 (fun c4 hT => ?_)
  have h := H b1 b2 b3 c4 b5 b11 (bb_q_back hq hX hT hz)
  rw [bb_cnt_congr (P' := bb_sat V a8 C) _ (fun i _ => hs i)]
  exact h
theorem bb_solvable {post : Int32 → St2 → Prop} (hq : bb_q w G V a1 a2 a3 a4 a5) (hw : w ≤ 3) (hC : C ≤ 10) (hG : G + 10 ≤ 6000) (h8 : bb_es 10 G a8)
    (HN : (∀ n, n < 2 ^ (3 * w) → bb_sat V a8 C n = false) → ∀ b1 b2 b3 b4 b5 b11, bb_q w G V b1 b2 b3 b4 b5 → post 0 (nI w, nI (3 * w), nI G, nI T, nI Q, nI C, b1, b2, b3, b4, b5, a6, a7, a8, a9, a10, b11))
    (HY : ∀ n, n < 2 ^ (3 * w) → bb_sat V a8 C n = true → ∀ b1 b2 b3 b4 b5 b11, bb_q w G V b1 b2 b3 b4 b5 → post 1 (nI w, nI (3 * w), nI G, nI T, nI Q, nI C, b1, b2, b3, b4, b5, a6, a7, a8, a9, a10, b11)) : wpX_solvable post (nI w, nI (3 * w), nI G, nI T, nI Q, nI C, a1, a2, a3, a4, a5, a6, a7, a8, a9, a10, a11) := by
  have h13 := hq.1.1
  have h9 := bb_pow9 (show 3 * w ≤ 9 by omega)
  unfold wpX_solvable
  refine bb_joinAll hq hw hC hG h8 (fun G' e b1 b2 b3 b4 hX he hs => ?_)
  refine bb_firstFrom hX.1 hw he hq.2.1 (fun b5 b11 hz hn => ?_) (fun n b5 b11 hz hn hv => ?_)
  · refine bb_takeBack hX.1 h13 hX.2.1 (fun c4 hT => ?_)
    exact br_f (by decide) (HN (fun n hn' => by rw [← hs n]; exact hn n hn') b1 b2 b3 c4 b5 b11 (bb_q_back hq hX hT hz))
  · refine bb_takeBack hX.1 h13 hX.2.1 (fun c4 hT => ?_)
    exact br_t (nI_pos' (by omega)) (HY n hn (by rw [← hs n]; exact hv) b1 b2 b3 c4 b5 b11 (bb_q_back hq hX hT hz))
theorem bb_m1lt {k : Nat} (h : k < 2 ^ 31) : (-1 : Int32) < nI k := by
  rw [Int32.lt_iff_toInt_lt, nI_toInt h]
  have : (-1 : Int32).toInt = -1 := by decide
  omega
theorem bb_next {post : Int32 → St2 → Prop} (hq : bb_q w G V a1 a2 a3 a4 a5) (hw : w ≤ 3) (hC : C ≤ 10) (hG : G + 10 ≤ 6000) (h8 : bb_es 10 G a8)
    (HN : (∀ n, n < 2 ^ (3 * w) → bb_sat V a8 C n = false) → ∀ b1 b2 b3 b4 b5 b11, bb_q w G V b1 b2 b3 b4 b5 → post (-1) (nI w, nI (3 * w), nI G, nI T, nI Q, nI C, b1, b2, b3, b4, b5, a6, a7, a8, a9, a10, b11))
    (HY : ∀ n, n < 2 ^ (3 * w) → bb_sat V a8 C n = true → ∀ b1 b2 b3 b4 b5 b11, bb_q w G V b1 b2 b3 b4 b5 → post (nI n) (nI w, nI (3 * w), nI G, nI T, nI Q, nI C, b1, b2, b3, b4, b5, a6, a7, a8, a9, a10, b11)) : wpX_next post (nI w, nI (3 * w), nI G, nI T, nI Q, nI C, a1, a2, a3, a4, a5, a6, a7, a8, a9, a10, a11) (-1) := by
  have h13 := hq.1.1
  have h9 := bb_pow9 (show 3 * w ≤ 9 by omega)
  have hp := Nat.two_pow_pos (3 * w)
  have e1 : (-1 : Int32) < (((1 : Int32) <<< (nI (3 * w) &&& 31)) - 1) := by
    rw [bb_shl1 (3 * w) (by omega)]
    have := pk_sub (a := 2 ^ (3 * w)) (b := 1) (by omega)
    show (-1 : Int32) < nI (2 ^ (3 * w)) - nI 1
    rw [this]
    exact bb_m1lt (by omega)
  unfold wpX_next
  refine br_t e1 ?_
  refine bb_joinAll hq hw hC hG h8 (fun G' e b1 b2 b3 b4 hX he hs => br_f (by decide) ?_)
  unfold wX_next_37
  refine bb_firstFrom hX.1 hw he hq.2.1 (fun b5 b11 hz hn => ?_) (fun n b5 b11 hz hn hv => ?_)
  · refine bb_takeBack hX.1 h13 hX.2.1 (fun c4 hT => ?_)
    exact HN (fun n hn' => by rw [← hs n]; exact hn n hn') b1 b2 b3 c4 b5 b11 (bb_q_back hq hX hT hz)
  · refine bb_takeBack hX.1 h13 hX.2.1 (fun c4 hT => ?_)
    exact HY n hn (by rw [← hs n]; exact hv) b1 b2 b3 c4 b5 b11 (bb_q_back hq hX hT hz)
theorem bb_isTest {post : Int32 → Prop} {t : Nat} (ht : t < 2 ^ 31) (hQ : Q < 2 ^ 31) (H0 : Q ≤ t → post 0) (H1 : t < Q → post 1) : wpX_isTest post (nI w, nI (3 * w), nI G, nI T, nI Q, nI C, a1, a2, a3, a4, a5, a6, a7, a8, a9, a10, a11) (nI t) := by
  unfold wpX_isTest
  exact br_f (nI_pos ht) (pk_le Q t (fun z => H0 z) (fun z => H1 z))
theorem bb_isTerm {post : Int32 → Prop} {t : Nat} (ht : t < 2 ^ 31) (hQ : T < 2 ^ 31) (H0 : T ≤ t → post 0) (H1 : t < T → post 1) : wpX_isTerm post (nI w, nI (3 * w), nI G, nI T, nI Q, nI C, a1, a2, a3, a4, a5, a6, a7, a8, a9, a10, a11) (nI t) := by
  unfold wpX_isTerm
  exact br_f (nI_pos ht) (pk_le T t (fun z => H0 z) (fun z => H1 z))
theorem bb_follows {post : Int32 → St2 → Prop} {t : Nat} (hq : bb_q w G V a1 a2 a3 a4 a5) (hw : w ≤ 3) (hC : C ≤ 10) (hG : G + 12 ≤ 6000) (h8 : bb_es 10 G a8) (h7 : bb_es 16 G a7) (hQ : Q ≤ 16) (ht : t < Q)
    (H : ∀ b1 b2 b3 b4 b5 b11, bb_q w G V b1 b2 b3 b4 b5 → post (nI (if bb_cnt (fun n => bb_sat V a8 C n && !V n (bb_n a7 t)) (2 ^ (3 * w)) = 0 then 1 else if bb_cnt (fun n => bb_sat V a8 C n && V n (bb_n a7 t)) (2 ^ (3 * w)) = 0 then 0 else 2)) (nI w, nI (3 * w), nI G, nI T, nI Q, nI C, b1, b2, b3, b4, b5, a6, a7, a8, a9, a10, b11)) : wpX_follows post (nI w, nI (3 * w), nI G, nI T, nI Q, nI C, a1, a2, a3, a4, a5, a6, a7, a8, a9, a10, a11) (nI t) := by
  have h13 := hq.1.1
  have hN : 3 * w < 13 := by omega
  have h9 := bb_pow9 (show 3 * w ≤ 9 by omega)
  have h7t := bb_edge_n (h7 t (by omega)) (by omega)
  unfold wpX_follows
  rw [nI_clamp (show t < 2 ^ 31 by omega)]
  refine bb_isTest (by omega) (by omega) (fun z => absurd z (by omega)) (fun _ => br_f (by decide) ?_)
  refine bb_joinAll hq hw hC (by omega) h8 (fun G1 e b1 b2 b3 b4 hX he hs => ⟨pk_in t 16 (by omega), ?_⟩)
  obtain ⟨x1, x2, x3, x4⟩ := hX
  show wpX_gate _ _ (nI e) (a7 t ^^^ 1)
  rw [h7t.1, bb_x1]
  refine bb_gate x1 (by omega) hw he (bb_x1lt (show bb_n a7 t < 2 * G1 by omega)) (fun G2 e2 c1 c2 c3 c4 k1 k2 k3 => ⟨pk_in t 16 (by omega), ?_⟩)
  obtain ⟨y1, y2, y3, y4⟩ := k1
  show wpX_gate _ _ (nI e) (a7 t)
  rw [h7t.1]
  refine bb_gate y1 (by omega) hw (show e < 2 * G2 by omega) (show bb_n a7 t < 2 * G2 by omega) (fun G3 e3 d1 d2 d3 d4 l1 l2 l3 => ?_)
  have hX2 : bb_X w G a1 a2 12 G3 d1 d2 d3 d4 := bb_X_trans (bb_X_trans ⟨x1, x2, x3, x4⟩ ⟨y1, y2, y3, y4⟩ (Nat.le_refl 11)) l1 (by omega)
  obtain ⟨z1, z2, z3, z4⟩ := l1
  have s2 : ∀ n, bb_V w d1 d2 n e2 = (bb_sat V a8 C n && !V n (bb_n a7 t)) := fun n => by
    rw [z4 n e2 k2, k3 n, hs n, bb_V_inv x1 hw n (show bb_n a7 t < 2 * G1 by omega), x4 n _ h7t.2, hq.2.2 n _ h7t.2]
  have s3 : ∀ n, bb_V w d1 d2 n e3 = (bb_sat V a8 C n && V n (bb_n a7 t)) := fun n => by
    rw [l3 n, y4 n e he, hs n, y4 n _ (show bb_n a7 t < 2 * G1 by omega), x4 n _ h7t.2, hq.2.2 n _ h7t.2]
  have H2 : ∀ b4' b5 b11, bb_T G d1 d2 d3 b4' → bb_Z w b5 → ∀ r : Nat, r = (if bb_cnt (fun n => bb_sat V a8 C n && !V n (bb_n a7 t)) (2 ^ (3 * w)) = 0 then 1 else if bb_cnt (fun n => bb_sat V a8 C n && V n (bb_n a7 t)) (2 ^ (3 * w)) = 0 then 0 else 2) → post (nI r) (nI w, nI (3 * w), nI G, nI T, nI Q, nI C, d1, d2, d3, b4', b5, a6, a7, a8, a9, a10, b11) := fun b4' b5 b11 hT hz r hr => by
    rw [hr]; exact H d1 d2 d3 b4' b5 b11 (bb_q_back hq hX2 hT hz)
  refine bb_firstFrom z1 hw (show e2 < 2 * G3 by omega) hq.2.1 (fun b5 b11 hz hn => ?_) (fun n b5 b11 hz hn hv => ?_)
  · refine br_f (by decide) ?_
    refine bb_takeBack z1 h13 hX2.2.1 (fun c4' hT => H2 c4' b5 b11 hT hz 1 ?_)
    rw [if_pos ((bb_cnt_z _).mpr (fun n hn' => by rw [← s2 n]; exact hn n hn'))]
  · have hne : ¬ bb_cnt (fun n => bb_sat V a8 C n && !V n (bb_n a7 t)) (2 ^ (3 * w)) = 0 := fun z => by
      have := (bb_cnt_z _).mp z n hn
      rw [s2 n] at hv
      rw [hv] at this
      exact absurd this (by decide)
    refine br_t (nI_pos' (by omega)) ?_
    refine bb_firstFrom z1 hw l2 hz (fun c5 c11 hz' hn' => ?_) (fun n' c5 c11 hz' hn' hv' => ?_)
    · refine br_f (by decide) ?_
      refine bb_takeBack z1 h13 hX2.2.1 (fun c4' hT => H2 c4' c5 c11 hT hz' 0 ?_)
      rw [if_neg hne, if_pos ((bb_cnt_z _).mpr (fun k hk => by rw [← s3 k]; exact hn' k hk))]
    · refine br_t (nI_pos' (by omega)) ?_
      refine bb_takeBack z1 h13 hX2.2.1 (fun c4' hT => H2 c4' c5 c11 hT hz' 2 ?_)
      rw [if_neg hne, if_neg (fun z => by
        have := (bb_cnt_z _).mp z n' hn'
        rw [s3 n'] at hv'
        rw [hv'] at this
        exact absurd this (by decide))]
theorem bb_equal {post : Int32 → St2 → Prop} {x y : Nat} (hT : bb_T G a1 a2 a3 a4) (hw : w ≤ 3) (hG : G + 12 ≤ 6000) (h6 : bb_es 112 G a6) (hx : x < 28) (hy : y < 28)
    (H : ∀ G' e b1 b2 b3 b4, bb_X w G a1 a2 12 G' b1 b2 b3 b4 → e < 2 * G' → (∀ n, bb_V w b1 b2 n e = bb_all (fun i => !(Bool.xor (bb_V w a1 a2 n (bb_n a6 (4 * x + i))) (bb_V w a1 a2 n (bb_n a6 (4 * y + i))))) w) → post (nI e) (nI w, nI (3 * w), nI G', nI T, nI Q, nI C, b1, b2, b3, b4, a5, a6, a7, a8, a9, a10, a11)) : wpX_equal post (nI w, nI (3 * w), nI G, nI T, nI Q, nI C, a1, a2, a3, a4, a5, a6, a7, a8, a9, a10, a11) (nI x) (nI y) := by
  have h13 := hT.1
  have hN : 3 * w < 13 := by omega
  have main : ∀ (m i G' e : Nat) (b1 b2 b3 b4 : Nat → Int32), i + m = w → bb_X w G a1 a2 (4 * i) G' b1 b2 b3 b4 → e < 2 * G' → (∀ n, bb_V w b1 b2 n e = bb_all (fun i => !(Bool.xor (bb_V w a1 a2 n (bb_n a6 (4 * x + i))) (bb_V w a1 a2 n (bb_n a6 (4 * y + i))))) i) → wX_equal_5 post (nI x) (nI y) (m + 1) (nI e) (nI i) (nI w) (nI (3 * w)) (nI G') (nI T) (nI Q) (nI C) b1 b2 b3 b4 a5 a6 a7 a8 a9 a10 a11 := by
    intro m
    induction m with
    | zero =>
      intro i G' e b1 b2 b3 b4 hi hX he hs
      have ei : i = w := by omega
      refine pk_le w i (fun _ => H G' e b1 b2 b3 b4 (bb_X_trans hX (bb_X_refl hX.1 0) (by omega)) he (fun n => ?_)) (fun z => absurd z (by omega))
      rw [hs n, ei]
    | succ m ih =>
      intro i G' e b1 b2 b3 b4 hi hX he hs
      obtain ⟨x1, x2, x3, x4⟩ := hX
      have hxi := bb_edge_n (h6 (4 * x + i) (by omega)) (by omega)
      have hyi := bb_edge_n (h6 (4 * y + i) (by omega)) (by omega)
      refine pk_le w i (fun z => absurd z (by omega)) (fun _ => ⟨pk_in (4 * x + i) 112 (by omega) (bb_4a x i), pk_in (4 * y + i) 112 (by omega) (bb_4a y i), ?_⟩)
      rw [bb_4a x i, bb_4a y i, nI_clamp (show 4 * x + i < 2 ^ 31 by omega), nI_clamp (show 4 * y + i < 2 ^ 31 by omega), hxi.1, hyi.1]
      refine bb_bitwise (k := 5) x1 (by omega) hw (by omega) (show bb_n a6 (4 * x + i) < 2 * G' by omega) (show bb_n a6 (4 * y + i) < 2 * G' by omega) (fun G2 e2 c1 c2 c3 c4 k1 k2 k3 => ?_)
      obtain ⟨y1, y2, y3, y4⟩ := k1
      show wpX_gate _ _ (nI e) (nI e2 ^^^ 1)
      rw [bb_x1 e2]
      refine bb_gate y1 (by omega) hw (show e < 2 * G2 by omega) (bb_x1lt k2) (fun G3 e3 d1 d2 d3 d4 l1 l2 l3 => nm_r (nI_1 i) (ih (i + 1) G3 e3 d1 d2 d3 d4 (by omega) (bb_X_trans (bb_X_trans ⟨x1, x2, x3, x4⟩ ⟨y1, y2, y3, y4⟩ (Nat.le_refl _)) l1 (by omega)) l2 (fun n => ?_)))
      rw [l3 n, y4 n e he, hs n, bb_V_inv y1 hw n k2, k3 rfl n, x4 n _ hxi.2, x4 n _ hyi.2, bb_all_s]
  exact ⟨_, main w 0 G 1 a1 a2 a3 a4 (by omega) (bb_X_refl hT 0) (by omega) (fun n => by rw [bb_V_1]; rfl)⟩
theorem bb_same {post : Int32 → St2 → Prop} {x y : Nat} (hq : bb_q w G V a1 a2 a3 a4 a5) (hw : w ≤ 3) (hG : G + 12 ≤ 6000) (h6 : bb_es 112 G a6) (hT28 : T ≤ 28) (hx : x < T) (hy : y < T)
    (HS : (∀ n, n < 2 ^ (3 * w) → bb_val V w a6 x n = bb_val V w a6 y n) → ∀ b1 b2 b3 b4 b5 b11, bb_q w G V b1 b2 b3 b4 b5 → post 1 (nI w, nI (3 * w), nI G, nI T, nI Q, nI C, b1, b2, b3, b4, b5, a6, a7, a8, a9, a10, b11))
    (HD : ∀ n, n < 2 ^ (3 * w) → bb_val V w a6 x n ≠ bb_val V w a6 y n → ∀ b1 b2 b3 b4 b5 b11, bb_q w G V b1 b2 b3 b4 b5 → post 0 (nI w, nI (3 * w), nI G, nI T, nI Q, nI C, b1, b2, b3, b4, b5, a6, a7, a8, a9, a10, b11)) : wpX_same post (nI w, nI (3 * w), nI G, nI T, nI Q, nI C, a1, a2, a3, a4, a5, a6, a7, a8, a9, a10, a11) (nI x) (nI y) := by
  have h13 := hq.1.1
  have hN : 3 * w < 13 := by omega
  have h9 := bb_pow9 (show 3 * w ≤ 9 by omega)
  unfold wpX_same
  refine bb_isTerm (by omega) (by omega) (fun z => absurd z (by omega)) (fun _ => br_f (by decide) ?_)
  refine bb_isTerm (by omega) (by omega) (fun z => absurd z (by omega)) (fun _ => br_f (by decide) ?_)
  refine bb_equal hq.1 hw hG h6 (by omega) (by omega) (fun G1 e b1 b2 b3 b4 hX he hs => ?_)
  have hs' : ∀ n, bb_V w b1 b2 n (e ^^^ 1) = true ↔ bb_val V w a6 x n ≠ bb_val V w a6 y n := by
    intro n
    have hxi : ∀ i, i < w → bb_V w a1 a2 n (bb_n a6 (4 * x + i)) = V n (bb_n a6 (4 * x + i)) := fun i hi => hq.2.2 n _ (bb_edge_n (h6 (4 * x + i) (by omega)) (by omega)).2
    have hyi : ∀ i, i < w → bb_V w a1 a2 n (bb_n a6 (4 * y + i)) = V n (bb_n a6 (4 * y + i)) := fun i hi => hq.2.2 n _ (bb_edge_n (h6 (4 * y + i) (by omega)) (by omega)).2
    rw [bb_V_inv hX.1 hw n he, hs n]
    constructor
    · intro h z
      have h1 := bb_sum_inj w z
      have h2 : bb_all (fun i => !(Bool.xor (bb_V w a1 a2 n (bb_n a6 (4 * x + i))) (bb_V w a1 a2 n (bb_n a6 (4 * y + i))))) w = true := by
        refine (bb_all_t w).mpr (fun i hi => ?_)
        show (!(Bool.xor (bb_V w a1 a2 n (bb_n a6 (4 * x + i))) (bb_V w a1 a2 n (bb_n a6 (4 * y + i))))) = true
        rw [hxi i hi, hyi i hi, show V n (bb_n a6 (4 * x + i)) = V n (bb_n a6 (4 * y + i)) from h1 i hi]
        cases V n (bb_n a6 (4 * y + i)) <;> rfl
      rw [h2] at h
      exact absurd h (by decide)
    · intro h
      cases hb : bb_all (fun i => !(Bool.xor (bb_V w a1 a2 n (bb_n a6 (4 * x + i))) (bb_V w a1 a2 n (bb_n a6 (4 * y + i))))) w with
      | false => rfl
      | true =>
        refine absurd (bb_sum_congr w (fun i hi => ?_)) h
        have h3 : (!(Bool.xor (bb_V w a1 a2 n (bb_n a6 (4 * x + i))) (bb_V w a1 a2 n (bb_n a6 (4 * y + i))))) = true := (bb_all_t w).mp hb i hi
        rw [hxi i hi, hyi i hi] at h3
        show V n (bb_n a6 (4 * x + i)) = V n (bb_n a6 (4 * y + i))
        revert h3
        cases V n (bb_n a6 (4 * x + i)) <;> cases V n (bb_n a6 (4 * y + i)) <;> decide
  show wpX_firstFrom _ _ (nI e ^^^ 1) 0
  rw [bb_x1 e]
  refine bb_firstFrom hX.1 hw (bb_x1lt he) hq.2.1 (fun b5 b11 hz hn => ?_) (fun n b5 b11 hz hn hv => ?_)
  · refine bb_takeBack hX.1 h13 hX.2.1 (fun c4 hT => br_f (by decide) (HS (fun n hn' => ?_) b1 b2 b3 c4 b5 b11 (bb_q_back hq hX hT hz)))
    by_cases c : bb_val V w a6 x n = bb_val V w a6 y n
    · exact c
    · have := (hs' n).mpr c
      rw [hn n hn'] at this
      exact absurd this (by decide)
  · refine bb_takeBack hX.1 h13 hX.2.1 (fun c4 hT => br_t (nI_pos' (by omega)) (HD n hn ((hs' n).mp hv) b1 b2 b3 c4 b5 b11 (bb_q_back hq hX hT hz)))
end
end
section
section
variable {w G T Q C : Nat} {a1 a2 a3 a4 a5 a6 a7 a8 a9 a10 a11 : Nat → Int32} {V : Nat → Nat → Bool}
theorem bb_setInputs {post : St2 → Prop} {n : Nat} (hw : w ≤ 3) (hn : n < 2 ^ 31) (H : ∀ b11, (∀ k, k < 3 * w → b11 k = nI (bb_bits (3 * w) n k)) → post (nI w, nI (3 * w), nI G, nI T, nI Q, nI C, a1, a2, a3, a4, a5, a6, a7, a8, a9, a10, b11)) : wpX_setInputs post (nI w, nI (3 * w), nI G, nI T, nI Q, nI C, a1, a2, a3, a4, a5, a6, a7, a8, a9, a10, a11) (nI n) := by
  have main : ∀ (m k : Nat) (a11 : Nat → Int32), k + m = 3 * w → (∀ j, j < k → a11 j = nI (bb_bits (3 * w) n j)) → wX_setInputs_2 post (nI n) (nI w) (nI (3 * w)) (nI G) (nI T) (nI Q) (nI C) (m + 1) (nI k) a1 a2 a3 a4 a5 a6 a7 a8 a9 a10 a11 := by
    intro m
    induction m with
    | zero =>
      intro k a11 hk h
      exact pk_le (3 * w) k (fun _ => H a11 (fun j hj => h j (by omega))) (fun z => absurd z (by omega))
    | succ m ih =>
      intro k a11 hk h
      refine pk_le (3 * w) k (fun z => absurd z (by omega)) (fun _ => ⟨pk_in k 12 (by omega), ?_⟩)
      rw [nI_clamp (show k < 2 ^ 31 by omega), bb_bit (N := 3 * w) (by omega) (by omega) hn]
      refine nm_e (nm_r (nI_1 k) (ih (k + 1) _ (by omega) (fun j hj => ?_)))
      by_cases ej : j = k
      · rw [ej, pk_us]
      · rw [pk_un ej]; exact h j (by omega)
  exact ⟨_, main (3 * w) 0 a11 (by omega) (fun j hj => absurd hj (by omega))⟩
theorem bb_valueOf {post : Int32 → St2 → Prop} {t n : Nat} (hq : bb_q w G V a1 a2 a3 a4 a5) (hw : w ≤ 3) (h6 : bb_es 112 G a6) (hT28 : T ≤ 28) (ht : t < T) (hn : n < 2 ^ (3 * w))
    (H : ∀ b5 b11, bb_q w G V a1 a2 a3 a4 b5 → post (nI (bb_val V w a6 t n)) (nI w, nI (3 * w), nI G, nI T, nI Q, nI C, a1, a2, a3, a4, b5, a6, a7, a8, a9, a10, b11)) : wpX_valueOf post (nI w, nI (3 * w), nI G, nI T, nI Q, nI C, a1, a2, a3, a4, a5, a6, a7, a8, a9, a10, a11) (nI t) (nI n) := by
  obtain ⟨hT, hz, hV⟩ := hq
  have h13 := hT.1
  have hG := hT.2.1
  have hwf := bb_T_wf hT
  have hN : 3 * w < 13 := by omega
  have h9 := bb_pow9 (show 3 * w ≤ 9 by omega)
  unfold wpX_valueOf
  refine bb_isTerm (by omega) (by omega) (fun z => absurd z (by omega)) (fun _ => br_f (by decide) (br_f (nI_pos (by omega)) (pk_lt n (2 ^ (3 * w)) (fun _ => ?_) (fun z => absurd z (by omega)) rfl (bb_shl1 (3 * w) (by omega)) (by omega) (by omega))))
  refine bb_setInputs hw (by omega) (fun b11 hb => ?_)
  have hin : ∀ k, k < 3 * w → ∃ v, v ≤ 2 ∧ b11 k = nI v := fun k hk => ⟨_, by have := bb_bits_lt (3 * w) n k; omega, hb k hk⟩
  have hnb : ∀ k, k < 3 * w → bb_n b11 k = bb_bits (3 * w) n k := fun k hk => bb_n_nI (hb k hk) (by have := bb_bits_lt (3 * w) n k; omega)
  have hfull : ∀ k, k < 3 * w → bb_n b11 k < 2 := fun k hk => by rw [hnb k hk]; exact bb_bits_lt _ _ _
  refine bb_simulate hT hw hz hin (fun b5 hz5 h5 => ?_)
  have hse : ∀ e, e < 2 * G → bb_ed (bb_E w a1 a2 b11) e = if V n e = true then 1 else 0 := by
    intro e he
    have h1 : bb_tv (3 * w) (bb_n a1) (bb_n a2) (bb_n b11) e < 2 := bb_tv_lt hwf hN hfull he
    have h2 := bb_bv_cube (n := n) hwf hN he (fun k hk => Or.inr (hnb k hk).symm) (show bb_tv (3 * w) (bb_n a1) (bb_n a2) (bb_n b11) e ≠ 2 by omega)
    have h3 : bb_V w a1 a2 n e = V n e := hV n e he
    rw [← h3]
    show bb_tv (3 * w) (bb_n a1) (bb_n a2) (bb_n b11) e = _
    rw [show bb_V w a1 a2 n e = decide (bb_tv (3 * w) (bb_n a1) (bb_n a2) (bb_n b11) e = 1) from h2]
    by_cases c : bb_tv (3 * w) (bb_n a1) (bb_n a2) (bb_n b11) e = 1
    · rw [c]; rfl
    · have c0 : bb_tv (3 * w) (bb_n a1) (bb_n a2) (bb_n b11) e = 0 := by omega
      rw [c0]; rfl
  have main : ∀ (m i : Nat), i + m = w → wX_valueOf_41 post (nI t) (nI w) (nI (3 * w)) (nI G) (nI T) (nI Q) (nI C) a1 a2 a3 a4 b5 a6 a7 a8 a9 a10 b11 (m + 1) (nI (bb_sum (fun i => V n (bb_n a6 (4 * t + i))) i)) (nI i) := by
    intro m
    induction m with
    | zero =>
      intro i hi
      have ei : i = w := by omega
      refine pk_le w i (fun _ => ?_) (fun z => absurd z (by omega))
      rw [ei]
      exact H b5 b11 ⟨hT, hz5, hV⟩
    | succ m ih =>
      intro i hi
      have hti := bb_edge_n (h6 (4 * t + i) (by omega)) (by omega)
      refine pk_le w i (fun z => absurd z (by omega)) (fun _ => ⟨pk_in (4 * t + i) 112 (by omega) (bb_4a t i), ?_⟩)
      rw [bb_4a t i, nI_clamp (show 4 * t + i < 2 ^ 31 by omega), hti.1]
      refine bb_seen (bb_E w a1 a2 b11) (by omega) (h5 _ (by omega)) ?_ ?_
      · exact Nat.le_of_lt (Nat.lt_of_lt_of_le (bb_ev_full hwf hN hfull _ (by omega)) (by omega))
      · rw [hse _ hti.2]
        refine nm_r ?_ (nm_r (nI_1 i) (ih (i + 1) (by omega)))
        rw [bb_shlv _ (by split <;> omega) i (by omega), nI_add, bb_sum_s]
        congr 2
        split <;> omega
  exact ⟨_, main w 0 (by omega)⟩
/-- the extreme so far, y, against the solution's own upper bits h; tr: the edge holds at the solution -/
def bb_good (b y h : Nat) (tr : Bool) : Prop := (b = 0 ∧ y < h) ∨ (b = 1 ∧ h < y) ∨ (y = h ∧ tr = true)
theorem bb_good_can {b y h : Nat} {tr f : Bool} (hb : b < 2) (hg : bb_good b y h tr) : bb_good b (2 * y + b) (2 * h + (if f = true then 1 else 0)) (tr && (if b = 1 then f else !f)) := by
  have hb2 : b = 0 ∨ b = 1 := by omega
  rcases hb2 with rfl | rfl
  · rcases hg with ⟨_, g2⟩ | ⟨g1, _⟩ | ⟨g1, g2⟩
    · exact Or.inl ⟨rfl, by split <;> omega⟩
    · omega
    · subst g1
      cases f
      · exact Or.inr (Or.inr ⟨rfl, by rw [g2]; rfl⟩)
      · exact Or.inl ⟨rfl, Nat.lt_succ_self _⟩
  · rcases hg with ⟨g1, _⟩ | ⟨_, g2⟩ | ⟨g1, g2⟩
    · omega
    · exact Or.inr (Or.inl ⟨rfl, by split <;> omega⟩)
    · subst g1
      cases f
      · exact Or.inr (Or.inl ⟨rfl, Nat.lt_succ_self _⟩)
      · exact Or.inr (Or.inr ⟨rfl, by rw [g2]; rfl⟩)
theorem bb_good_not {b y h : Nat} {tr f : Bool} (hb : b < 2) (hg : bb_good b y h tr) (hn : (tr && (if b = 1 then f else !f)) = false) : bb_good b (2 * y + (1 - b)) (2 * h + (if f = true then 1 else 0)) (tr && (if b = 1 then !f else f)) := by
  have hb2 : b = 0 ∨ b = 1 := by omega
  rcases hb2 with rfl | rfl
  · rcases hg with ⟨_, g2⟩ | ⟨g1, _⟩ | ⟨g1, g2⟩
    · exact Or.inl ⟨rfl, by split <;> omega⟩
    · omega
    · subst g1
      rw [g2] at hn
      cases f
      · exact absurd hn (by decide)
      · exact Or.inr (Or.inr ⟨rfl, by rw [g2]; rfl⟩)
  · rcases hg with ⟨g1, _⟩ | ⟨_, g2⟩ | ⟨g1, g2⟩
    · omega
    · exact Or.inr (Or.inl ⟨rfl, by split <;> omega⟩)
    · subst g1
      rw [g2] at hn
      cases f
      · exact Or.inr (Or.inr ⟨rfl, by rw [g2]; rfl⟩)
      · exact absurd hn (by decide)
theorem bb_extreme {post : Int32 → St2 → Prop} {t b n0 : Nat} (hq : bb_q w G V a1 a2 a3 a4 a5) (hw : w ≤ 3) (hw1 : 1 ≤ w) (hC : C ≤ 10) (hG : G + 16 ≤ 6000) (h8 : bb_es 10 G a8) (h6 : bb_es 112 G a6) (hT28 : T ≤ 28) (ht : t < T) (hb : b < 2) (hn0 : n0 < 2 ^ (3 * w)) (hsat : bb_sat V a8 C n0 = true)
    (H : ∀ y b1 b2 b3 b4 b5 b11, bb_q w G V b1 b2 b3 b4 b5 → y < 8 → (b = 0 → y ≤ bb_val V w a6 t n0) → (b = 1 → bb_val V w a6 t n0 ≤ y) → post (nI y) (nI w, nI (3 * w), nI G, nI T, nI Q, nI C, b1, b2, b3, b4, b5, a6, a7, a8, a9, a10, b11)) : wpX_extreme post (nI w, nI (3 * w), nI G, nI T, nI Q, nI C, a1, a2, a3, a4, a5, a6, a7, a8, a9, a10, a11) (nI t) (nI b) := by
  have h13 := hq.1.1
  have hN : 3 * w < 13 := by omega
  have h9 := bb_pow9 (show 3 * w ≤ 9 by omega)
  have main : ∀ (m k y e G' : Nat) (b1 b2 b3 b4 b5 b11 : Nat → Int32), k + m = w → y < 2 ^ k → bb_X w G a1 a2 (10 + 2 * k) G' b1 b2 b3 b4 → bb_Z w b5 → e < 2 * G' → bb_good b y (bb_hs (fun i => V n0 (bb_n a6 (4 * t + i))) w k) (bb_V w b1 b2 n0 e) → wX_extreme_50 post (nI t) (nI b) (nI G) (m + 1) (nI e) (nI y) (nI m + (-1)) (nI w) (nI (3 * w)) (nI G') (nI T) (nI Q) (nI C) b1 b2 b3 b4 b5 a6 a7 a8 a9 a10 b11 := by
    intro m
    induction m with
    | zero =>
      intro k y e G' b1 b2 b3 b4 b5 b11 hk hy hX hz he hg
      have ek : k = w := by omega
      refine br_t (by decide) ?_
      refine bb_takeBack hX.1 h13 hX.2.1 (fun c4 hT => H y b1 b2 b3 c4 b5 b11 (bb_q_back hq hX hT hz) ?_ ?_ ?_)
      · have := Nat.pow_le_pow_right (n := 2) (by omega) (show k ≤ 3 by omega)
        omega
      · intro z
        rw [ek, bb_hs_w] at hg
        show y ≤ bb_sum (fun i => V n0 (bb_n a6 (4 * t + i))) w
        rcases hg with ⟨g1, g2⟩ | ⟨g1, g2⟩ | ⟨g1, g2⟩ <;> omega
      · intro z
        rw [ek, bb_hs_w] at hg
        show bb_sum (fun i => V n0 (bb_n a6 (4 * t + i))) w ≤ y
        rcases hg with ⟨g1, g2⟩ | ⟨g1, g2⟩ | ⟨g1, g2⟩ <;> omega
    | succ m ih =>
      intro k y e G' b1 b2 b3 b4 b5 b11 hk hy hX hz he hg
      obtain ⟨x1, x2, x3, x4⟩ := hX
      have hti := bb_edge_n (h6 (4 * t + m) (by omega)) (by omega)
      have hbit : bb_V w b1 b2 n0 (bb_n a6 (4 * t + m)) = V n0 (bb_n a6 (4 * t + m)) := by rw [x4 n0 _ hti.2]; exact hq.2.2 n0 _ hti.2
      have hhs : bb_hs (fun i => V n0 (bb_n a6 (4 * t + i))) w (k + 1) = 2 * bb_hs (fun i => V n0 (bb_n a6 (4 * t + i))) w k + (if V n0 (bb_n a6 (4 * t + m)) = true then 1 else 0) := by
        rw [bb_hs_s, show w - 1 - k = m by omega]
      have hpk : 2 ^ (k + 1) = 2 * 2 ^ k := by rw [Nat.pow_succ, Nat.mul_comm]
      rw [pk_m1 m]
      refine br_f (nI_pos (by omega)) ⟨pk_in (4 * t + m) 112 (by omega) (bb_4a t m), ?_⟩
      rw [bb_4a t m, nI_clamp (show 4 * t + m < 2 ^ 31 by omega)]
      refine nm_r hti.1 ?_
      rw [bb_x1]
      have wish : ∀ z, z < 2 * G → (∀ c1 c2 : Nat → Int32, (∀ n u, u < 2 * G → bb_V w c1 c2 n u = bb_V w a1 a2 n u) → bb_V w c1 c2 n0 z = (if b = 1 then V n0 (bb_n a6 (4 * t + m)) else !V n0 (bb_n a6 (4 * t + m)))) →
          wX_extreme_85 post (wX_extreme_50 post (nI t) (nI b) (nI G) (m + 1)) (nI t) (nI b) (nI G) (nI e) (nI y) (nI m) (nI (bb_n a6 (4 * t + m))) (nI z) (nI e) (nI w) (nI (3 * w)) (nI G') (nI T) (nI Q) (nI C) b1 b2 b3 b4 b5 a6 a7 a8 a9 a10 b11 := by
        intro z hz2 hzv
        unfold wX_extreme_85
        refine bb_gate x1 (by omega) hw he (show z < 2 * G' by omega) (fun G2 e2 c1 c2 c3 c4 k1 k2 k3 => ?_)
        have hX2 : bb_X w G a1 a2 (10 + 2 * k + 1) G2 c1 c2 c3 c4 := bb_X_trans ⟨x1, x2, x3, x4⟩ k1 (Nat.le_refl _)
        obtain ⟨y1, y2, y3, y4⟩ := k1
        have s2 : bb_V w c1 c2 n0 e2 = (bb_V w b1 b2 n0 e && (if b = 1 then V n0 (bb_n a6 (4 * t + m)) else !V n0 (bb_n a6 (4 * t + m)))) := by
          rw [k3 n0, hzv b1 b2 (fun n u hu => x4 n u hu)]
        refine bb_firstFrom y1 hw k2 hz (fun b5' b11' hz' hn => br_t (by decide) ?_) (fun n b5' b11' hz' hn hv => br_f (nI_pos (by omega)) ?_)
        · have hnot : (bb_V w b1 b2 n0 e && (if b = 1 then V n0 (bb_n a6 (4 * t + m)) else !V n0 (bb_n a6 (4 * t + m)))) = false := by rw [← s2]; exact hn n0 hn0
          have oth : ∀ u, u < 2 * G → (∀ c1 c2 : Nat → Int32, (∀ n u, u < 2 * G → bb_V w c1 c2 n u = bb_V w a1 a2 n u) → bb_V w c1 c2 n0 u = (if b = 1 then !V n0 (bb_n a6 (4 * t + m)) else V n0 (bb_n a6 (4 * t + m)))) →
              wX_extreme_134 post (wX_extreme_50 post (nI t) (nI b) (nI G) (m + 1)) (nI t) (nI b) (nI G) (nI y) (nI m) 0 (nI u) (nI e) (nI w) (nI (3 * w)) (nI G2) (nI T) (nI Q) (nI C) c1 c2 c3 c4 b5' a6 a7 a8 a9 a10 b11' := by
            intro u hu huv
            unfold wX_extreme_134
            refine bb_gate y1 (by omega) hw (show e < 2 * G2 by omega) (show u < 2 * G2 by omega) (fun G3 e3 d1 d2 d3 d4 l1 l2 l3 => ?_)
            have hX3 : bb_X w G a1 a2 (10 + 2 * (k + 1)) G3 d1 d2 d3 d4 := bb_X_trans hX2 l1 (by omega)
            refine br_t rfl (nm_r (e' := nI (2 * y + (1 - b))) ?_ (nm_e (ih (k + 1) (2 * y + (1 - b)) e3 G3 d1 d2 d3 d4 b5' b11' (by omega) (by omega) hX3 hz' l2 ?_)))
            · show 2 * nI y + (nI 1 - nI b) = _
              rw [bb_2m, pk_sub (by omega), nI_add]
            · rw [hhs, l3 n0, y4 n0 e he, huv c1 c2 (fun n v hv => hX2.2.2.2 n v hv)]
              exact bb_good_not hb hg hnot
          unfold wX_extreme_105
          rw [bb_x1]
          refine br_t rfl (pk_eq b 1 (fun zb => oth _ (bb_x1lt hti.2) (fun c1 c2 hc => ?_)) (fun zb => oth _ hti.2 (fun c1 c2 hc => ?_)))
          · rw [hc n0 _ (bb_x1lt hti.2), bb_V_inv hq.1 hw n0 hti.2, hq.2.2 n0 _ hti.2, if_pos zb]
          · rw [hc n0 _ hti.2, hq.2.2 n0 _ hti.2, if_neg zb]
        · refine br_f (by decide) (br_f (by decide) (nm_r (e' := nI (2 * y + b)) ?_ (nm_e (ih (k + 1) (2 * y + b) e2 G2 c1 c2 c3 c4 b5' b11' (by omega) (by omega) (bb_X_trans hX2 (bb_X_refl y1 0) (by omega)) hz' k2 ?_))))
          · rw [bb_2m, nI_add]
          · rw [hhs, s2]
            exact bb_good_can hb hg
      refine pk_eq b 1 (fun zb => wish _ hti.2 (fun c1 c2 hc => ?_)) (fun zb => wish _ (bb_x1lt hti.2) (fun c1 c2 hc => ?_))
      · rw [hc n0 _ hti.2, hq.2.2 n0 _ hti.2, if_pos zb]
      · rw [hc n0 _ (bb_x1lt hti.2), bb_V_inv hq.1 hw n0 hti.2, hq.2.2 n0 _ hti.2, if_neg zb]
  unfold wpX_extreme
  refine bb_isTerm (by omega) (by omega) (fun z => absurd z (by omega)) (fun _ => br_f (by decide) ?_)
  refine bb_joinAll hq hw hC (by omega) h8 (fun G1 e b1 b2 b3 b4 hX he hs => ?_)
  refine bb_firstFrom hX.1 hw he hq.2.1 (fun b5 b11 hz hn => ?_) (fun n b5 b11 hz hn hv => ?_)
  · have := hn n0 hn0
    rw [hs n0, hsat] at this
    exact absurd this (by decide)
  · have e1 : nI w - 1 = nI w + (-1) := by
      obtain ⟨u, rfl⟩ : ∃ u, w = u + 1 := ⟨w - 1, by omega⟩
      rw [nI_pred, pk_m1]
    refine br_t (nI_pos' (by omega)) (nm_r e1 ⟨_, main w 0 0 e G1 b1 b2 b3 b4 b5 b11 (by omega) (by rw [Nat.pow_zero]; omega) hX hz he (Or.inr (Or.inr ⟨rfl, ?_⟩))⟩)
    rw [hs n0]; exact hsat
end
end
section
section
variable {w G T Q C : Nat} {a1 a2 a3 a4 a5 a6 a7 a8 a9 a10 a11 : Nat → Int32}
/-- the whole state between two calls; s: gates beyond the count of terms and tests -/
def bb_I (s w G T Q C : Nat) (a1 a2 a3 a4 a5 a6 a7 a8 a9 a10 : Nat → Int32) : Prop := (1 ≤ w ∧ w ≤ 3 ∧ T ≤ 28 ∧ Q ≤ 16 ∧ C ≤ 10 ∧ G ≤ 13 + 150 * T + 50 * Q + s) ∧ bb_T G a1 a2 a3 a4 ∧ bb_Z w a5 ∧ bb_es 112 G a6 ∧ bb_es 16 G a7 ∧ bb_es 10 G a8 ∧ bb_es 4 G a9 ∧ bb_es 4 G a10
def bb_K (post : Int32 → St2 → Prop) (w : Nat) (a5 a11 : Nat → Int32) : Prop := ∀ (r : Int32) (G T Q C : Nat) (a1 a2 a3 a4 a6 a7 a8 a9 a10 : Nat → Int32), bb_I 0 w G T Q C a1 a2 a3 a4 a5 a6 a7 a8 a9 a10 → post r (nI w, nI (3 * w), nI G, nI T, nI Q, nI C, a1, a2, a3, a4, a5, a6, a7, a8, a9, a10, a11)
theorem bb_I_mono {s s' : Nat} (h : bb_I s w G T Q C a1 a2 a3 a4 a5 a6 a7 a8 a9 a10) (hs : s ≤ s') : bb_I s' w G T Q C a1 a2 a3 a4 a5 a6 a7 a8 a9 a10 := by
  obtain ⟨⟨h1, h2, h3, h4, h5, h6⟩, h7⟩ := h
  exact ⟨⟨h1, h2, h3, h4, h5, by omega⟩, h7⟩
theorem bb_I_X {s k s' G' : Nat} {b1 b2 b3 b4 : Nat → Int32} (h : bb_I s w G T Q C a1 a2 a3 a4 a5 a6 a7 a8 a9 a10) (hX : bb_X w G a1 a2 k G' b1 b2 b3 b4) (hs : s + k ≤ s') : bb_I s' w G' T Q C b1 b2 b3 b4 a5 a6 a7 a8 a9 a10 := by
  obtain ⟨⟨h1, h2, h3, h4, h5, h6⟩, h7, h8, h9, h10, h11, h12, h13⟩ := h
  obtain ⟨x1, x2, x3, x4⟩ := hX
  exact ⟨⟨h1, h2, h3, h4, h5, by omega⟩, x1, h8, bb_es_mono h9 x2, bb_es_mono h10 x2, bb_es_mono h11 x2, bb_es_mono h12 x2, bb_es_mono h13 x2⟩
theorem bb_I_6 {s j : Nat} {x : Int32} (h : bb_I s w G T Q C a1 a2 a3 a4 a5 a6 a7 a8 a9 a10) (hx : bb_edge G x) : bb_I s w G T Q C a1 a2 a3 a4 a5 (upd a6 j x) a7 a8 a9 a10 := by
  obtain ⟨h1, h7, h8, h9, h10, h11, h12, h13⟩ := h
  exact ⟨h1, h7, h8, bb_es_upd h9 hx, h10, h11, h12, h13⟩
theorem bb_I_7 {s j : Nat} {x : Int32} (h : bb_I s w G T Q C a1 a2 a3 a4 a5 a6 a7 a8 a9 a10) (hx : bb_edge G x) : bb_I s w G T Q C a1 a2 a3 a4 a5 a6 (upd a7 j x) a8 a9 a10 := by
  obtain ⟨h1, h7, h8, h9, h10, h11, h12, h13⟩ := h
  exact ⟨h1, h7, h8, h9, bb_es_upd h10 hx, h11, h12, h13⟩
theorem bb_I_9 {s j : Nat} {x : Int32} (h : bb_I s w G T Q C a1 a2 a3 a4 a5 a6 a7 a8 a9 a10) (hx : bb_edge G x) : bb_I s w G T Q C a1 a2 a3 a4 a5 a6 a7 a8 (upd a9 j x) a10 := by
  obtain ⟨h1, h7, h8, h9, h10, h11, h12, h13⟩ := h
  exact ⟨h1, h7, h8, h9, h10, h11, bb_es_upd h12 hx, h13⟩
theorem bb_I_10 {s j : Nat} {x : Int32} (h : bb_I s w G T Q C a1 a2 a3 a4 a5 a6 a7 a8 a9 a10) (hx : bb_edge G x) : bb_I s w G T Q C a1 a2 a3 a4 a5 a6 a7 a8 a9 (upd a10 j x) := by
  obtain ⟨h1, h7, h8, h9, h10, h11, h12, h13⟩ := h
  exact ⟨h1, h7, h8, h9, h10, h11, h12, bb_es_upd h13 hx⟩
theorem bb_I_G {s : Nat} (h : bb_I s w G T Q C a1 a2 a3 a4 a5 a6 a7 a8 a9 a10) (hs : s ≤ 400) : G + 100 ≤ 6000 ∧ 13 ≤ G ∧ 1 ≤ w ∧ w ≤ 3 ∧ T ≤ 28 ∧ Q ≤ 16 ∧ C ≤ 10 := by
  obtain ⟨⟨h1, h2, h3, h4, h5, h6⟩, h7, _⟩ := h
  exact ⟨by omega, h7.1, h1, h2, h3, h4, h5⟩
theorem bb_e0 (hG : 13 ≤ G) : bb_edge G 0 := ⟨0, by omega, rfl⟩
theorem bb_e1 (hG : 13 ≤ G) : bb_edge G 1 := ⟨1, by omega, rfl⟩
theorem bb_gate_2 {post : Int32 → St2 → Prop} {x y : Nat} (hT : bb_T G a1 a2 a3 a4) (hG : G < 6000) (hw : w ≤ 3) (hx : x < 2 * G) (hy : y < 2 * G)
    (H : ∀ G' e b1 b2 b3 b4, bb_X w G a1 a2 1 G' b1 b2 b3 b4 → e < 2 * G' → post (nI e) (nI w, nI (3 * w), nI G', nI T, nI Q, nI C, b1, b2, b3, b4, a5, a6, a7, a8, a9, a10, a11)) : wpX_gate_2 post (nI w, nI (3 * w), nI G, nI T, nI Q, nI C, a1, a2, a3, a4, a5, a6, a7, a8, a9, a10, a11) (nI x) (nI y) := by
  rw [bb_g2]; exact bb_gate hT hG hw hx hy (fun G' e b1 b2 b3 b4 h1 h2 _ => H G' e b1 b2 b3 b4 h1 h2)
theorem bb_gate_3 {post : Int32 → St2 → Prop} {x y : Nat} (hT : bb_T G a1 a2 a3 a4) (hG : G < 6000) (hw : w ≤ 3) (hx : x < 2 * G) (hy : y < 2 * G)
    (H : ∀ G' e b1 b2 b3 b4, bb_X w G a1 a2 1 G' b1 b2 b3 b4 → e < 2 * G' → post (nI e) (nI w, nI (3 * w), nI G', nI T, nI Q, nI C, b1, b2, b3, b4, a5, a6, a7, a8, a9, a10, a11)) : wpX_gate_3 post (nI w, nI (3 * w), nI G, nI T, nI Q, nI C, a1, a2, a3, a4, a5, a6, a7, a8, a9, a10, a11) (nI x) (nI y) := by
  rw [bb_g3]; exact bb_gate hT hG hw hx hy (fun G' e b1 b2 b3 b4 h1 h2 _ => H G' e b1 b2 b3 b4 h1 h2)
theorem bb_gate_4 {post : Int32 → St2 → Prop} {x y : Nat} (hT : bb_T G a1 a2 a3 a4) (hG : G < 6000) (hw : w ≤ 3) (hx : x < 2 * G) (hy : y < 2 * G)
    (H : ∀ G' e b1 b2 b3 b4, bb_X w G a1 a2 1 G' b1 b2 b3 b4 → e < 2 * G' → post (nI e) (nI w, nI (3 * w), nI G', nI T, nI Q, nI C, b1, b2, b3, b4, a5, a6, a7, a8, a9, a10, a11)) : wpX_gate_4 post (nI w, nI (3 * w), nI G, nI T, nI Q, nI C, a1, a2, a3, a4, a5, a6, a7, a8, a9, a10, a11) (nI x) (nI y) := by
  rw [bb_g4]; exact bb_gate hT hG hw hx hy (fun G' e b1 b2 b3 b4 h1 h2 _ => H G' e b1 b2 b3 b4 h1 h2)
theorem bb_bitwise_1 {post : Int32 → St2 → Prop} {k x y : Nat} (hT : bb_T G a1 a2 a3 a4) (hG : G + 3 ≤ 6000) (hw : w ≤ 3) (hk : k < 100) (hx : x < 2 * G) (hy : y < 2 * G)
    (H : ∀ G' e b1 b2 b3 b4, bb_X w G a1 a2 3 G' b1 b2 b3 b4 → e < 2 * G' → post (nI e) (nI w, nI (3 * w), nI G', nI T, nI Q, nI C, b1, b2, b3, b4, a5, a6, a7, a8, a9, a10, a11)) : wpX_bitwise post (nI w, nI (3 * w), nI G, nI T, nI Q, nI C, a1, a2, a3, a4, a5, a6, a7, a8, a9, a10, a11) (nI k) (nI x) (nI y) :=
  bb_bitwise hT hG hw hk hx hy (fun G' e b1 b2 b3 b4 h1 h2 _ => H G' e b1 b2 b3 b4 h1 h2)
theorem bb_bitwise_2 {post : Int32 → St2 → Prop} {k x y : Nat} (hT : bb_T G a1 a2 a3 a4) (hG : G + 3 ≤ 6000) (hw : w ≤ 3) (hk : k < 100) (hx : x < 2 * G) (hy : y < 2 * G)
    (H : ∀ G' e b1 b2 b3 b4, bb_X w G a1 a2 3 G' b1 b2 b3 b4 → e < 2 * G' → post (nI e) (nI w, nI (3 * w), nI G', nI T, nI Q, nI C, b1, b2, b3, b4, a5, a6, a7, a8, a9, a10, a11)) : wpX_bitwise_2 post (nI w, nI (3 * w), nI G, nI T, nI Q, nI C, a1, a2, a3, a4, a5, a6, a7, a8, a9, a10, a11) (nI k) (nI x) (nI y) := by
  rw [bb_bw2]; exact bb_bitwise_1 hT hG hw hk hx hy H
theorem bb_bitwise_3 {post : Int32 → St2 → Prop} {k x y : Nat} (hT : bb_T G a1 a2 a3 a4) (hG : G + 3 ≤ 6000) (hw : w ≤ 3) (hk : k < 100) (hx : x < 2 * G) (hy : y < 2 * G)
    (H : ∀ G' e b1 b2 b3 b4, bb_X w G a1 a2 3 G' b1 b2 b3 b4 → e < 2 * G' → post (nI e) (nI w, nI (3 * w), nI G', nI T, nI Q, nI C, b1, b2, b3, b4, a5, a6, a7, a8, a9, a10, a11)) : wpX_bitwise_3 post (nI w, nI (3 * w), nI G, nI T, nI Q, nI C, a1, a2, a3, a4, a5, a6, a7, a8, a9, a10, a11) (nI k) (nI x) (nI y) := by
  rw [bb_bw3]; exact bb_bitwise_1 hT hG hw hk hx hy H
theorem bb_equal_2 {post : Int32 → St2 → Prop} {x y : Nat} (hT : bb_T G a1 a2 a3 a4) (hw : w ≤ 3) (hG : G + 12 ≤ 6000) (h6 : bb_es 112 G a6) (hx : x < 28) (hy : y < 28)
    (H : ∀ G' e b1 b2 b3 b4, bb_X w G a1 a2 12 G' b1 b2 b3 b4 → e < 2 * G' → post (nI e) (nI w, nI (3 * w), nI G', nI T, nI Q, nI C, b1, b2, b3, b4, a5, a6, a7, a8, a9, a10, a11)) : wpX_equal_2 post (nI w, nI (3 * w), nI G, nI T, nI Q, nI C, a1, a2, a3, a4, a5, a6, a7, a8, a9, a10, a11) (nI x) (nI y) := by
  rw [bb_eq2]; exact bb_equal hT hw hG h6 hx hy (fun G' e b1 b2 b3 b4 h1 h2 _ => H G' e b1 b2 b3 b4 h1 h2)
theorem bb_keepTerm {post : Int32 → St2 → Prop} (hI : bb_I 150 w G T Q C a1 a2 a3 a4 a5 a6 a7 a8 a9 a10) (hT : T < 28) (K : bb_K post w a5 a11) : wpX_keepTerm post (nI w, nI (3 * w), nI G, nI T, nI Q, nI C, a1, a2, a3, a4, a5, a6, a7, a8, a9, a10, a11) := by
  obtain ⟨g1, g2, g3, g4, g5, g6, g7⟩ := bb_I_G hI (by omega)
  have main : ∀ (m i : Nat) (a6 : Nat → Int32), i + m = 4 → bb_I 150 w G T Q C a1 a2 a3 a4 a5 a6 a7 a8 a9 a10 → wX_keepTerm_2 post (nI w) (nI (3 * w)) (nI G) (nI T) (nI Q) (nI C) (m + 1) (nI i) a1 a2 a3 a4 a5 a6 a7 a8 a9 a10 a11 := by
    intro m
    induction m with
    | zero =>
      intro i a6 hi h
      refine pk_le 4 i (fun _ => nm_r (nI_1 T) (K _ G (T + 1) Q C a1 a2 a3 a4 a6 a7 a8 a9 a10 ?_)) (fun z => absurd z (by omega))
      obtain ⟨⟨h1, h2, h3, h4, h5, h6⟩, h7⟩ := h
      exact ⟨⟨h1, h2, by omega, h4, h5, by omega⟩, h7⟩
    | succ m ih =>
      intro i a6 hi h
      have e4 := bb_4a T i
      refine pk_le 4 i (fun z => absurd z (by omega)) (fun _ => pk_le w i (fun c => ⟨pk_in (4 * T + i) 112 (by omega) e4, ?_⟩) (fun c => ⟨pk_in i 4 (by omega), pk_in (4 * T + i) 112 (by omega) e4, ?_⟩))
      · exact nm_e (nm_r (nI_1 i) (ih (i + 1) _ (by omega) (bb_I_6 h (bb_e0 g2))))
      · rw [nI_clamp (show i < 2 ^ 31 by omega)]
        exact nm_e (nm_r (nI_1 i) (ih (i + 1) _ (by omega) (bb_I_6 h (h.2.2.2.2.2.2.1 i (by omega)))))
  exact ⟨_, main 4 0 a6 (by omega) hI⟩
theorem bb_variable {post : Int32 → St2 → Prop} {v : Nat} (hI : bb_I 0 w G T Q C a1 a2 a3 a4 a5 a6 a7 a8 a9 a10) (hv : v < 3) (K : bb_K post w a5 a11) : wpX_variable post (nI w, nI (3 * w), nI G, nI T, nI Q, nI C, a1, a2, a3, a4, a5, a6, a7, a8, a9, a10, a11) (nI v) := by
  obtain ⟨g1, g2, g3, g4, g5, g6, g7⟩ := bb_I_G hI (by omega)
  have main : T < 28 → ∀ (m i : Nat) (a9 : Nat → Int32), i + m = w → bb_I 150 w G T Q C a1 a2 a3 a4 a5 a6 a7 a8 a9 a10 → wX_variable_25 post (nI v) (nI w) (nI (3 * w)) (nI G) (nI T) (nI Q) (nI C) (m + 1) (nI i) a1 a2 a3 a4 a5 a6 a7 a8 a9 a10 a11 := by
    intro hT m
    induction m with
    | zero =>
      intro i a9 hi h
      exact pk_le w i (fun _ => bb_keepTerm h hT K) (fun z => absurd z (by omega))
    | succ m ih =>
      intro i a9 hi h
      have e1 : 2 * ((((1 + (nI w * nI v)) + nI w) - 1) - nI i) = nI (2 * (1 + w * v + w - 1 - i)) := by
        rw [pk_mul]
        show 2 * (((nI 1 + nI (w * v)) + nI w - nI 1) - nI i) = _
        rw [nI_add, nI_add, pk_sub (by omega), pk_sub (by omega), bb_2m]
      have e2 : w * v ≤ w * 2 := Nat.mul_le_mul_left w (by omega)
      refine pk_le w i (fun z => absurd z (by omega)) (fun _ => ⟨pk_in i 4 (by omega), ?_⟩)
      rw [e1]
      exact nm_e (nm_r (nI_1 i) (ih (i + 1) _ (by omega) (bb_I_9 h ⟨_, by omega, rfl⟩)))
  unfold wpX_variable
  refine br_f (nI_pos (by omega)) (pk_le v 2 (fun _ => pk_eq T 28 (fun _ => K _ G T Q C a1 a2 a3 a4 a6 a7 a8 a9 a10 hI) (fun z => ⟨_, main (by omega) w 0 a9 (by omega) (bb_I_mono hI (by omega))⟩)) (fun z => absurd z (by omega)))
theorem bb_constant {post : Int32 → St2 → Prop} {v : Int32} (hI : bb_I 0 w G T Q C a1 a2 a3 a4 a5 a6 a7 a8 a9 a10) (K : bb_K post w a5 a11) : wpX_constant post (nI w, nI (3 * w), nI G, nI T, nI Q, nI C, a1, a2, a3, a4, a5, a6, a7, a8, a9, a10, a11) v := by
  obtain ⟨g1, g2, g3, g4, g5, g6, g7⟩ := bb_I_G hI (by omega)
  have main : T < 28 → ∀ (m i : Nat) (a9 : Nat → Int32), i + m = w → bb_I 150 w G T Q C a1 a2 a3 a4 a5 a6 a7 a8 a9 a10 → wX_constant_14 post v (nI w) (nI (3 * w)) (nI G) (nI T) (nI Q) (nI C) (m + 1) (nI i) a1 a2 a3 a4 a5 a6 a7 a8 a9 a10 a11 := by
    intro hT m
    induction m with
    | zero =>
      intro i a9 hi h
      exact pk_le w i (fun _ => bb_keepTerm h hT K) (fun z => absurd z (by omega))
    | succ m ih =>
      intro i a9 hi h
      obtain ⟨j, hj, e1⟩ := pk_andE (v >>> (nI i &&& 31)) (m := (1 : Int32)) 1 (by decide)
      refine pk_le w i (fun z => absurd z (by omega)) (fun _ => ⟨pk_in i 4 (by omega), ?_⟩)
      exact nm_e (nm_r (nI_1 i) (ih (i + 1) _ (by omega) (bb_I_9 h ⟨j, by omega, e1⟩)))
  unfold wpX_constant
  exact pk_eq T 28 (fun _ => K _ G T Q C a1 a2 a3 a4 a6 a7 a8 a9 a10 hI) (fun z => ⟨_, main (by omega) w 0 a9 (by omega) (bb_I_mono hI (by omega))⟩)
theorem bb_invert {post : Int32 → St2 → Prop} {x : Nat} (hI : bb_I 0 w G T Q C a1 a2 a3 a4 a5 a6 a7 a8 a9 a10) (hx : x < 2 ^ 31) (K : bb_K post w a5 a11) : wpX_invert post (nI w, nI (3 * w), nI G, nI T, nI Q, nI C, a1, a2, a3, a4, a5, a6, a7, a8, a9, a10, a11) (nI x) := by
  obtain ⟨g1, g2, g3, g4, g5, g6, g7⟩ := bb_I_G hI (by omega)
  have main : T < 28 → x < T → ∀ (m i : Nat) (a9 : Nat → Int32), i + m = w → bb_I 150 w G T Q C a1 a2 a3 a4 a5 a6 a7 a8 a9 a10 → wX_invert_25 post (nI x) (nI w) (nI (3 * w)) (nI G) (nI T) (nI Q) (nI C) (m + 1) (nI i) a1 a2 a3 a4 a5 a6 a7 a8 a9 a10 a11 := by
    intro hT hxT m
    induction m with
    | zero =>
      intro i a9 hi h
      exact pk_le w i (fun _ => bb_keepTerm h hT K) (fun z => absurd z (by omega))
    | succ m ih =>
      intro i a9 hi h
      have e4 := bb_4a x i
      have h6 := bb_edge_n (h.2.2.2.1 (4 * x + i) (by omega)) (by omega)
      refine pk_le w i (fun z => absurd z (by omega)) (fun _ => ⟨pk_in (4 * x + i) 112 (by omega) e4, pk_in i 4 (by omega), ?_⟩)
      rw [e4, nI_clamp (show 4 * x + i < 2 ^ 31 by omega), h6.1, bb_x1]
      exact nm_e (nm_r (nI_1 i) (ih (i + 1) _ (by omega) (bb_I_9 h ⟨_, bb_x1lt h6.2, rfl⟩)))
  unfold wpX_invert
  exact pk_eq T 28 (fun _ => K _ G T Q C a1 a2 a3 a4 a6 a7 a8 a9 a10 hI) (fun z => bb_isTerm hx (by omega) (fun _ => br_t rfl (K _ G T Q C a1 a2 a3 a4 a6 a7 a8 a9 a10 hI)) (fun z' => br_f (by decide) ⟨_, main (by omega) z' w 0 a9 (by omega) (bb_I_mono hI (by omega))⟩))
theorem bb_shift {post : Int32 → St2 → Prop} {x : Nat} {sh' : Int32} (hI : bb_I 0 w G T Q C a1 a2 a3 a4 a5 a6 a7 a8 a9 a10) (hx : x < 2 ^ 31) (K : bb_K post w a5 a11) : wpX_shift post (nI w, nI (3 * w), nI G, nI T, nI Q, nI C, a1, a2, a3, a4, a5, a6, a7, a8, a9, a10, a11) (nI x) sh' := by
  obtain ⟨g1, g2, g3, g4, g5, g6, g7⟩ := bb_I_G hI (by omega)
  have main : T < 28 → x < T → ∀ (m i : Nat) (a9 : Nat → Int32), i + m = w → bb_I 150 w G T Q C a1 a2 a3 a4 a5 a6 a7 a8 a9 a10 → wX_shift_38 post (nI x) sh' (nI w) (nI (3 * w)) (nI G) (nI T) (nI Q) (nI C) (m + 1) (nI i) a1 a2 a3 a4 a5 a6 a7 a8 a9 a10 a11 := by
    intro hT hxT m
    induction m with
    | zero =>
      intro i a9 hi h
      exact pk_le w i (fun _ => bb_keepTerm h hT K) (fun z => absurd z (by omega))
    | succ m ih =>
      intro i a9 hi h
      refine pk_le w i (fun z => absurd z (by omega)) (fun _ => nm_e (br_c (fun _ => ⟨pk_in i 4 (by omega), ?_⟩) (fun c1 => br_c (fun _ => ⟨pk_in i 4 (by omega), ?_⟩) (fun c2 => ?_))))
      · exact nm_e (nm_r (nI_1 i) (ih (i + 1) _ (by omega) (bb_I_9 h (bb_e0 g2))))
      · exact nm_e (nm_r (nI_1 i) (ih (i + 1) _ (by omega) (bb_I_9 h (bb_e0 g2))))
      · rcases pk_ix (nI i - sh') (n := w) (by omega) with z | z | ⟨j, hj, ej⟩
        · exact absurd z c1
        · exact absurd z c2
        · have e4 := bb_4a x j
          rw [ej]
          refine ⟨pk_in (4 * x + j) 112 (by omega) e4, pk_in i 4 (by omega), ?_⟩
          rw [e4, nI_clamp (show 4 * x + j < 2 ^ 31 by omega)]
          exact nm_e (nm_r (nI_1 i) (ih (i + 1) _ (by omega) (bb_I_9 h (h.2.2.2.1 (4 * x + j) (by omega)))))
  unfold wpX_shift
  exact br_c (fun _ => K _ G T Q C a1 a2 a3 a4 a6 a7 a8 a9 a10 hI) (fun _ => br_c (fun _ => pk_eq T 28 (fun _ => K _ G T Q C a1 a2 a3 a4 a6 a7 a8 a9 a10 hI) (fun z => bb_isTerm hx (by omega) (fun _ => br_t rfl (K _ G T Q C a1 a2 a3 a4 a6 a7 a8 a9 a10 hI)) (fun z' => br_f (by decide) ⟨_, main (by omega) z' w 0 a9 (by omega) (bb_I_mono hI (by omega))⟩))) (fun _ => K _ G T Q C a1 a2 a3 a4 a6 a7 a8 a9 a10 hI))
end
end
section
section
variable {w G T Q C : Nat} {a1 a2 a3 a4 a5 a6 a7 a8 a9 a10 a11 : Nat → Int32}
theorem bb_either {post : Int32 → St2 → Prop} {t x y : Nat} (hT : bb_T G a1 a2 a3 a4) (hG : G + 5 ≤ 6000) (hw : w ≤ 3) (ht : t < 2 * G) (hx : x < 2 * G) (hy : y < 2 * G)
    (H : ∀ G' e b1 b2 b3 b4, bb_X w G a1 a2 5 G' b1 b2 b3 b4 → e < 2 * G' → post (nI e) (nI w, nI (3 * w), nI G', nI T, nI Q, nI C, b1, b2, b3, b4, a5, a6, a7, a8, a9, a10, a11)) : wpX_either post (nI w, nI (3 * w), nI G, nI T, nI Q, nI C, a1, a2, a3, a4, a5, a6, a7, a8, a9, a10, a11) (nI t) (nI x) (nI y) := by
  unfold wpX_either
  rw [bb_x1 t]
  refine bb_gate_3 hT (by omega) hw ht hx (fun G1 e1 b1 b2 b3 b4 h1 h2 => ?_)
  have q1 := h1.2.1
  have q2 := h1.2.2.1
  refine bb_gate_3 h1.1 (by omega) hw (bb_x1lt (show t < 2 * G1 by omega)) (show y < 2 * G1 by omega) (fun G2 e2 c1 c2 c3 c4 k1 k2 => ?_)
  have q3 := k1.2.1
  have q4 := k1.2.2.1
  refine bb_bitwise_3 (k := 4) k1.1 (by omega) hw (by omega) (show e1 < 2 * G2 by omega) k2 (fun G3 e3 d1 d2 d3 d4 l1 l2 => ?_)
  exact H G3 e3 d1 d2 d3 d4 (bb_X_trans (bb_X_trans h1 k1 (Nat.le_refl 2)) l1 (by omega)) l2
theorem bb_choose {post : Int32 → St2 → Prop} {t x y : Nat} (hI : bb_I 0 w G T Q C a1 a2 a3 a4 a5 a6 a7 a8 a9 a10) (ht : t < 2 ^ 31) (hx : x < 2 ^ 31) (hy : y < 2 ^ 31) (K : bb_K post w a5 a11) : wpX_choose post (nI w, nI (3 * w), nI G, nI T, nI Q, nI C, a1, a2, a3, a4, a5, a6, a7, a8, a9, a10, a11) (nI t) (nI x) (nI y) := by
  have main : T < 28 → t < Q → x < T → y < T → ∀ (m i s G : Nat) (a1 a2 a3 a4 a9 : Nat → Int32), i + m = w → s + 5 * m ≤ 150 → bb_I s w G T Q C a1 a2 a3 a4 a5 a6 a7 a8 a9 a10 → wX_choose_44 post (nI t) (nI x) (nI y) (m + 1) (nI i) (nI w) (nI (3 * w)) (nI G) (nI T) (nI Q) (nI C) a1 a2 a3 a4 a5 a6 a7 a8 a9 a10 a11 := by
    intro hT htQ hxT hyT m
    induction m with
    | zero =>
      intro i s G a1 a2 a3 a4 a9 hi hs h
      obtain ⟨g1, g2, g3, g4, g5, g6, g7⟩ := bb_I_G h (by omega)
      exact pk_le w i (fun _ => bb_keepTerm (bb_I_mono h (by omega)) hT K) (fun z => absurd z (by omega))
    | succ m ih =>
      intro i s G a1 a2 a3 a4 a9 hi hs h
      obtain ⟨g1, g2, g3, g4, g5, g6, g7⟩ := bb_I_G h (by omega)
      have hti := bb_edge_n (h.2.2.2.2.1 t (by omega)) (by omega)
      have hxi := bb_edge_n (h.2.2.2.1 (4 * x + i) (by omega)) (by omega)
      have hyi := bb_edge_n (h.2.2.2.1 (4 * y + i) (by omega)) (by omega)
      refine pk_le w i (fun z => absurd z (by omega)) (fun _ => ⟨pk_in t 16 (by omega), pk_in (4 * x + i) 112 (by omega) (bb_4a x i), pk_in (4 * y + i) 112 (by omega) (bb_4a y i), ?_⟩)
      rw [bb_4a x i, bb_4a y i, nI_clamp (show t < 2 ^ 31 by omega), nI_clamp (show 4 * x + i < 2 ^ 31 by omega), nI_clamp (show 4 * y + i < 2 ^ 31 by omega), nI_clamp (show i < 2 ^ 31 by omega), hti.1, hxi.1, hyi.1]
      refine bb_either h.2.1 (by omega) g4 hti.2 hxi.2 hyi.2 (fun G' e b1 b2 b3 b4 k1 k2 => ⟨pk_in i 4 (by omega), nm_e (nm_r (nI_1 i) ?_)⟩)
      exact ih (i + 1) (s + 5) G' b1 b2 b3 b4 _ (by omega) (by omega) (bb_I_9 (bb_I_X h k1 (Nat.le_refl _)) ⟨e, k2, rfl⟩)
  obtain ⟨g1, g2, g3, g4, g5, g6, g7⟩ := bb_I_G hI (by omega)
  have K0 : ∀ r, post r (nI w, nI (3 * w), nI G, nI T, nI Q, nI C, a1, a2, a3, a4, a5, a6, a7, a8, a9, a10, a11) := fun r => K r G T Q C a1 a2 a3 a4 a6 a7 a8 a9 a10 hI
  unfold wpX_choose
  refine bb_isTest ht (by omega) (fun _ => br_t rfl (K0 _)) (fun c1 => br_f (by decide) (pk_eq T 28 (fun _ => K0 _) (fun c2 => ?_)))
  refine bb_isTerm hx (by omega) (fun _ => br_t rfl (K0 _)) (fun c3 => br_f (by decide) ?_)
  refine bb_isTerm hy (by omega) (fun _ => br_t rfl (K0 _)) (fun c4 => br_f (by decide) ⟨_, main (by omega) c1 c3 c4 w 0 0 G a1 a2 a3 a4 a9 (by omega) (by omega) hI⟩)
theorem bb_addPart {post : St2 → Prop} {c s u : Nat} (hI : bb_I s w G T Q C a1 a2 a3 a4 a5 a6 a7 a8 a9 a10) (hs : s + 11 * w ≤ u) (hu : u ≤ 300) (hc : c < 2 * G)
    (H : ∀ G a1 a2 a3 a4 a9, bb_I u w G T Q C a1 a2 a3 a4 a5 a6 a7 a8 a9 a10 → post (nI w, nI (3 * w), nI G, nI T, nI Q, nI C, a1, a2, a3, a4, a5, a6, a7, a8, a9, a10, a11)) : wpX_addPart post (nI w, nI (3 * w), nI G, nI T, nI Q, nI C, a1, a2, a3, a4, a5, a6, a7, a8, a9, a10, a11) (nI c) := by
  have main : ∀ (m i s G c : Nat) (a1 a2 a3 a4 a9 : Nat → Int32), i + m = w → s + 11 * m ≤ u → bb_I s w G T Q C a1 a2 a3 a4 a5 a6 a7 a8 a9 a10 → c < 2 * G → wX_addPart_4 post (m + 1) (nI c) (nI i) (nI w) (nI (3 * w)) (nI G) (nI T) (nI Q) (nI C) a1 a2 a3 a4 a5 a6 a7 a8 a9 a10 a11 := by
    intro m
    induction m with
    | zero =>
      intro i s G c a1 a2 a3 a4 a9 hi hs h hc
      obtain ⟨g1, g2, g3, g4, g5, g6, g7⟩ := bb_I_G h (by omega)
      exact pk_le w i (fun _ => H G a1 a2 a3 a4 a9 (bb_I_mono h (by omega))) (fun z => absurd z (by omega))
    | succ m ih =>
      intro i s G c a1 a2 a3 a4 a9 hi hs h hc
      obtain ⟨g1, g2, g3, g4, g5, g6, g7⟩ := bb_I_G h (by omega)
      have h9 := bb_edge_n (h.2.2.2.2.2.2.1 i (by omega)) (by omega)
      have h10 := bb_edge_n (h.2.2.2.2.2.2.2 i (by omega)) (by omega)
      refine pk_le w i (fun z => absurd z (by omega)) (fun _ => ⟨pk_in i 4 (by omega), pk_in i 4 (by omega), ?_⟩)
      rw [nI_clamp (show i < 2 ^ 31 by omega), h9.1, h10.1]
      refine bb_bitwise_1 (k := 5) h.2.1 (by omega) g4 (by omega) h9.2 h10.2 (fun G1 e1 b1 b2 b3 b4 p1 p2 => ⟨pk_in i 4 (by omega), pk_in i 4 (by omega), ?_⟩)
      have q1 := p1.2.1
      have q2 := p1.2.2.1
      show wpX_gate _ _ (a9 i) (a10 i)
      rw [h9.1, h10.1]
      refine bb_gate p1.1 (by omega) g4 (show bb_n a9 i < 2 * G1 by omega) (show bb_n a10 i < 2 * G1 by omega) (fun G2 e2 c1 c2 c3 c4 k1 k2 _ => ?_)
      have q3 := k1.2.1
      have q4 := k1.2.2.1
      refine bb_gate k1.1 (by omega) g4 (show e1 < 2 * G2 by omega) (show c < 2 * G2 by omega) (fun G3 e3 d1 d2 d3 d4 l1 l2 _ => ?_)
      have q5 := l1.2.1
      have q6 := l1.2.2.1
      refine bb_bitwise_3 (k := 5) l1.1 (by omega) g4 (by omega) (show e1 < 2 * G3 by omega) (show c < 2 * G3 by omega) (fun G4 e4 f1 f2 f3 f4 n1 n2 => ⟨pk_in i 4 (by omega), nm_e ?_⟩)
      have q7 := n1.2.1
      have q8 := n1.2.2.1
      refine bb_bitwise_1 (k := 4) n1.1 (by omega) g4 (by omega) (show e2 < 2 * G4 by omega) (show e3 < 2 * G4 by omega) (fun G5 e5 o1 o2 o3 o4 r1 r2 => nm_r (nI_1 i) ?_)
      have hX : bb_X w G a1 a2 8 G4 f1 f2 f3 f4 := bb_X_trans (bb_X_trans (bb_X_trans p1 k1 (Nat.le_refl _)) l1 (Nat.le_refl _)) n1 (by omega)
      exact ih (i + 1) (s + 11) G5 e5 o1 o2 o3 o4 _ (by omega) (by omega) (bb_I_X (bb_I_9 (bb_I_X h hX (Nat.le_refl _)) ⟨e4, n2, rfl⟩) r1 (by omega)) r2
  exact ⟨_, main w 0 s G c a1 a2 a3 a4 a9 (by omega) hs hI hc⟩
theorem bb_mul36 {post : St2 → Prop} {J : Int32 → Int32 → Int32 → Int32 → Int32 → Int32 → Int32 → (Nat → Int32) → (Nat → Int32) → (Nat → Int32) → (Nat → Int32) → (Nat → Int32) → (Nat → Int32) → (Nat → Int32) → (Nat → Int32) → (Nat → Int32) → (Nat → Int32) → (Nat → Int32) → Prop} {x y k u : Nat} (hx : x < 28) (hy : y < 28) (hk : k < w) (hu : u ≤ 300)
    (H : ∀ G a1 a2 a3 a4 a9 a10, bb_I u w G T Q C a1 a2 a3 a4 a5 a6 a7 a8 a9 a10 → J (nI (k + 1)) (nI w) (nI (3 * w)) (nI G) (nI T) (nI Q) (nI C) a1 a2 a3 a4 a5 a6 a7 a8 a9 a10 a11) :
    ∀ (m i s G : Nat) (a1 a2 a3 a4 a10 : Nat → Int32), i + m = w → s + m + 11 * w ≤ u → bb_I s w G T Q C a1 a2 a3 a4 a5 a6 a7 a8 a9 a10 → wX_multiply_36 post J (nI x) (nI y) (nI k) (m + 1) (nI i) (nI w) (nI (3 * w)) (nI G) (nI T) (nI Q) (nI C) a1 a2 a3 a4 a5 a6 a7 a8 a9 a10 a11 := by
  intro m
  induction m with
  | zero =>
    intro i s G a1 a2 a3 a4 a10 hi hs h
    obtain ⟨g1, g2, g3, g4, g5, g6, g7⟩ := bb_I_G h (by omega)
    exact pk_le w i (fun _ => bb_addPart (c := 0) h (show s + 11 * w ≤ u by omega) hu (by omega) (fun G a1 a2 a3 a4 a9 h' => nm_r (nI_1 k) (H G a1 a2 a3 a4 a9 a10 h'))) (fun z => absurd z (by omega))
  | succ m ih =>
    intro i s G a1 a2 a3 a4 a10 hi hs h
    obtain ⟨g1, g2, g3, g4, g5, g6, g7⟩ := bb_I_G h (by omega)
    refine pk_le w i (fun z => absurd z (by omega)) (fun _ => pk_lt i k (fun c => ⟨pk_in i 4 (by omega), ?_⟩) (fun c => ?_))
    · exact nm_e (nm_r (nI_1 i) (ih (i + 1) (s + 1) G a1 a2 a3 a4 _ (by omega) (by omega) (bb_I_10 (bb_I_mono h (by omega)) (bb_e0 g2))))
    · have e1 : 4 * nI x + nI i - nI k = nI (4 * x + i - k) := by rw [bb_4a, pk_sub (by omega)]
      have hxi := bb_edge_n (h.2.2.2.1 (4 * x + i - k) (by omega)) (by omega)
      have hyi := bb_edge_n (h.2.2.2.1 (4 * y + k) (by omega)) (by omega)
      refine ⟨pk_in (4 * x + i - k) 112 (by omega) e1, pk_in (4 * y + k) 112 (by omega) (bb_4a y k), ?_⟩
      rw [e1, bb_4a y k, nI_clamp (show 4 * x + i - k < 2 ^ 31 by omega), nI_clamp (show 4 * y + k < 2 ^ 31 by omega), hxi.1, hyi.1]
      refine bb_gate_4 h.2.1 (by omega) g4 hxi.2 hyi.2 (fun G' e b1 b2 b3 b4 k1 k2 => ⟨pk_in i 4 (by omega), nm_e (nm_r (nI_1 i) ?_)⟩)
      exact ih (i + 1) (s + 1) G' b1 b2 b3 b4 _ (by omega) (by omega) (bb_I_10 (bb_I_X h k1 (Nat.le_refl _)) ⟨e, k2, rfl⟩)
theorem bb_multiply {post : St2 → Prop} {x y : Nat} (hI : bb_I 0 w G T Q C a1 a2 a3 a4 a5 a6 a7 a8 a9 a10) (hx : x < 28) (hy : y < 28)
    (H : ∀ G a1 a2 a3 a4 a9 a10, bb_I 150 w G T Q C a1 a2 a3 a4 a5 a6 a7 a8 a9 a10 → post (nI w, nI (3 * w), nI G, nI T, nI Q, nI C, a1, a2, a3, a4, a5, a6, a7, a8, a9, a10, a11)) : wpX_multiply post (nI w, nI (3 * w), nI G, nI T, nI Q, nI C, a1, a2, a3, a4, a5, a6, a7, a8, a9, a10, a11) (nI x) (nI y) := by
  have m25 : ∀ (m k s G : Nat) (a1 a2 a3 a4 a9 a10 : Nat → Int32), k + m = w → s + 36 * m ≤ 150 → bb_I s w G T Q C a1 a2 a3 a4 a5 a6 a7 a8 a9 a10 → wX_multiply_25 post (nI x) (nI y) (m + 1) (nI k) (nI w) (nI (3 * w)) (nI G) (nI T) (nI Q) (nI C) a1 a2 a3 a4 a5 a6 a7 a8 a9 a10 a11 := by
    intro m
    induction m with
    | zero =>
      intro k s G a1 a2 a3 a4 a9 a10 hk hs h
      obtain ⟨g1, g2, g3, g4, g5, g6, g7⟩ := bb_I_G h (by omega)
      exact pk_le w k (fun _ => H G a1 a2 a3 a4 a9 a10 (bb_I_mono h (by omega))) (fun z => absurd z (by omega))
    | succ m ih =>
      intro k s G a1 a2 a3 a4 a9 a10 hk hs h
      obtain ⟨g1, g2, g3, g4, g5, g6, g7⟩ := bb_I_G h (by omega)
      exact pk_le w k (fun z => absurd z (by omega)) (fun _ => ⟨_, bb_mul36 (u := s + 36) hx hy (by omega) (by omega) (fun G a1 a2 a3 a4 a9 a10 h' => ih (k + 1) (s + 36) G a1 a2 a3 a4 a9 a10 (by omega) (by omega) h') w 0 s G a1 a2 a3 a4 a10 (by omega) (by omega) h⟩)
  have m2 : ∀ (m i : Nat) (a9 : Nat → Int32), i + m = w → bb_I 0 w G T Q C a1 a2 a3 a4 a5 a6 a7 a8 a9 a10 → wX_multiply_2 post (nI x) (nI y) (nI w) (nI (3 * w)) (nI G) (nI T) (nI Q) (nI C) (m + 1) (nI i) a1 a2 a3 a4 a5 a6 a7 a8 a9 a10 a11 := by
    intro m
    induction m with
    | zero =>
      intro i a9 hi h
      obtain ⟨g1, g2, g3, g4, g5, g6, g7⟩ := bb_I_G h (by omega)
      exact pk_le w i (fun _ => ⟨_, m25 w 0 0 G a1 a2 a3 a4 a9 a10 (by omega) (by omega) h⟩) (fun z => absurd z (by omega))
    | succ m ih =>
      intro i a9 hi h
      obtain ⟨g1, g2, g3, g4, g5, g6, g7⟩ := bb_I_G h (by omega)
      exact pk_le w i (fun z => absurd z (by omega)) (fun _ => ⟨pk_in i 4 (by omega), nm_e (nm_r (nI_1 i) (ih (i + 1) _ (by omega) (bb_I_9 h (bb_e0 g2))))⟩)
  exact ⟨_, m2 w 0 a9 (by omega) hI⟩
theorem bb_takeTerm {post : St2 → Prop} {x : Nat} (hI : bb_I 0 w G T Q C a1 a2 a3 a4 a5 a6 a7 a8 a9 a10) (hx : x < 28)
    (H : ∀ a9, bb_I 0 w G T Q C a1 a2 a3 a4 a5 a6 a7 a8 a9 a10 → post (nI w, nI (3 * w), nI G, nI T, nI Q, nI C, a1, a2, a3, a4, a5, a6, a7, a8, a9, a10, a11)) : wpX_takeTerm post (nI w, nI (3 * w), nI G, nI T, nI Q, nI C, a1, a2, a3, a4, a5, a6, a7, a8, a9, a10, a11) (nI x) := by
  obtain ⟨g1, g2, g3, g4, g5, g6, g7⟩ := bb_I_G hI (by omega)
  have main : ∀ (m i : Nat) (a9 : Nat → Int32), i + m = w → bb_I 0 w G T Q C a1 a2 a3 a4 a5 a6 a7 a8 a9 a10 → wX_takeTerm_2 post (nI x) (nI w) (nI (3 * w)) (nI G) (nI T) (nI Q) (nI C) (m + 1) (nI i) a1 a2 a3 a4 a5 a6 a7 a8 a9 a10 a11 := by
    intro m
    induction m with
    | zero =>
      intro i a9 hi h
      exact pk_le w i (fun _ => H a9 h) (fun z => absurd z (by omega))
    | succ m ih =>
      intro i a9 hi h
      refine pk_le w i (fun z => absurd z (by omega)) (fun _ => ⟨pk_in (4 * x + i) 112 (by omega) (bb_4a x i), pk_in i 4 (by omega), ?_⟩)
      rw [bb_4a x i, nI_clamp (show 4 * x + i < 2 ^ 31 by omega)]
      exact nm_e (nm_r (nI_1 i) (ih (i + 1) _ (by omega) (bb_I_9 h (h.2.2.2.1 (4 * x + i) (by omega)))))
  exact ⟨_, main w 0 a9 (by omega) hI⟩
theorem bb_comb186 {post : Int32 → St2 → Prop} (hI : bb_I 150 w G T Q C a1 a2 a3 a4 a5 a6 a7 a8 a9 a10) (hT : T < 28) (K : bb_K post w a5 a11) : wX_combine_186 post (nI w) (nI (3 * w)) (nI G) (nI T) (nI Q) (nI C) a1 a2 a3 a4 a5 a6 a7 a8 a9 a10 a11 := by
  unfold wX_combine_186
  exact bb_keepTerm hI hT K
theorem bb_comb51 {post : Int32 → St2 → Prop} {k x y : Nat} (hI : bb_I 0 w G T Q C a1 a2 a3 a4 a5 a6 a7 a8 a9 a10) (hT : T < 28) (hk : k < 6) (hx : x < T) (hy : y < T) (K : bb_K post w a5 a11) : wX_combine_51 post (nI k) (nI x) (nI y) (nI w) (nI (3 * w)) (nI G) (nI T) (nI Q) (nI C) a1 a2 a3 a4 a5 a6 a7 a8 a9 a10 a11 := by
  obtain ⟨g1, g2, g3, g4, g5, g6, g7⟩ := bb_I_G hI (by omega)
  unfold wX_combine_51
  refine bb_takeTerm hI (by omega) (fun a9 hI => ?_)
  have main : ∀ (m i : Nat) (a10 : Nat → Int32), i + m = w → bb_I 0 w G T Q C a1 a2 a3 a4 a5 a6 a7 a8 a9 a10 → wX_combine_59 post (nI k) (nI y) (nI w) (nI (3 * w)) (nI G) (nI T) (nI Q) (nI C) (m + 1) (nI i) a1 a2 a3 a4 a5 a6 a7 a8 a9 a10 a11 := by
    intro m
    induction m with
    | zero =>
      intro i a10 hi h
      have fin : ∀ c, c < 2 * G → wX_combine_114 post (nI c) (nI w) (nI (3 * w)) (nI G) (nI T) (nI Q) (nI C) a1 a2 a3 a4 a5 a6 a7 a8 a9 a10 a11 := by
        intro c hc
        unfold wX_combine_114
        exact bb_addPart (u := 150) h (by omega) (by omega) hc (fun G a1 a2 a3 a4 a9 h' => bb_comb186 h' hT K)
      exact pk_le w i (fun _ => pk_eq k 1 (fun _ => fin 1 (by omega)) (fun _ => fin 0 (by omega))) (fun z => absurd z (by omega))
    | succ m ih =>
      intro i a10 hi h
      have h6 := bb_edge_n (h.2.2.2.1 (4 * y + i) (by omega)) (by omega)
      refine pk_le w i (fun z => absurd z (by omega)) (fun _ => ⟨pk_in (4 * y + i) 112 (by omega) (bb_4a y i), ?_⟩)
      rw [bb_4a y i, nI_clamp (show 4 * y + i < 2 ^ 31 by omega), h6.1, bb_x1, bb_x0]
      exact pk_eq k 1 (fun _ => ⟨pk_in i 4 (by omega), nm_e (nm_r (nI_1 i) (ih (i + 1) _ (by omega) (bb_I_10 h ⟨_, bb_x1lt h6.2, rfl⟩)))⟩) (fun _ => ⟨pk_in i 4 (by omega), nm_e (nm_r (nI_1 i) (ih (i + 1) _ (by omega) (bb_I_10 h ⟨_, h6.2, rfl⟩)))⟩)
  exact ⟨_, main w 0 a10 (by omega) hI⟩
theorem bb_combine {post : Int32 → St2 → Prop} {k x y : Nat} (hI : bb_I 0 w G T Q C a1 a2 a3 a4 a5 a6 a7 a8 a9 a10) (hk : k < 6) (hx : x < 2 ^ 31) (hy : y < 2 ^ 31) (K : bb_K post w a5 a11) : wpX_combine post (nI w, nI (3 * w), nI G, nI T, nI Q, nI C, a1, a2, a3, a4, a5, a6, a7, a8, a9, a10, a11) (nI k) (nI x) (nI y) := by
  have main : T < 28 → x < T → y < T → ∀ (m i s G : Nat) (a1 a2 a3 a4 a9 : Nat → Int32), i + m = w → s + 3 * m ≤ 150 → bb_I s w G T Q C a1 a2 a3 a4 a5 a6 a7 a8 a9 a10 → wX_combine_137 post (nI k) (nI x) (nI y) (m + 1) (nI i) (nI w) (nI (3 * w)) (nI G) (nI T) (nI Q) (nI C) a1 a2 a3 a4 a5 a6 a7 a8 a9 a10 a11 := by
    intro hT hxT hyT m
    induction m with
    | zero =>
      intro i s G a1 a2 a3 a4 a9 hi hs h
      obtain ⟨g1, g2, g3, g4, g5, g6, g7⟩ := bb_I_G h (by omega)
      exact pk_le w i (fun _ => bb_comb186 (bb_I_mono h (by omega)) hT K) (fun z => absurd z (by omega))
    | succ m ih =>
      intro i s G a1 a2 a3 a4 a9 hi hs h
      obtain ⟨g1, g2, g3, g4, g5, g6, g7⟩ := bb_I_G h (by omega)
      have hxi := bb_edge_n (h.2.2.2.1 (4 * x + i) (by omega)) (by omega)
      have hyi := bb_edge_n (h.2.2.2.1 (4 * y + i) (by omega)) (by omega)
      refine pk_le w i (fun z => absurd z (by omega)) (fun _ => ⟨pk_in (4 * x + i) 112 (by omega) (bb_4a x i), pk_in (4 * y + i) 112 (by omega) (bb_4a y i), ?_⟩)
      rw [bb_4a x i, bb_4a y i, nI_clamp (show 4 * x + i < 2 ^ 31 by omega), nI_clamp (show 4 * y + i < 2 ^ 31 by omega), nI_clamp (show i < 2 ^ 31 by omega), hxi.1, hyi.1]
      refine bb_bitwise_3 (k := k) h.2.1 (by omega) g4 (by omega) hxi.2 hyi.2 (fun G' e b1 b2 b3 b4 k1 k2 => ⟨pk_in i 4 (by omega), nm_e (nm_r (nI_1 i) ?_)⟩)
      exact ih (i + 1) (s + 3) G' b1 b2 b3 b4 _ (by omega) (by omega) (bb_I_9 (bb_I_X h k1 (Nat.le_refl _)) ⟨e, k2, rfl⟩)
  obtain ⟨g1, g2, g3, g4, g5, g6, g7⟩ := bb_I_G hI (by omega)
  have K0 : ∀ r, post r (nI w, nI (3 * w), nI G, nI T, nI Q, nI C, a1, a2, a3, a4, a5, a6, a7, a8, a9, a10, a11) := fun r => K r G T Q C a1 a2 a3 a4 a6 a7 a8 a9 a10 hI
  unfold wpX_combine
  refine br_f (nI_pos (by omega)) (pk_le k 5 (fun _ => pk_eq T 28 (fun _ => K0 _) (fun c2 => ?_)) (fun z => absurd z (by omega)))
  refine bb_isTerm hx (by omega) (fun _ => br_t rfl (K0 _)) (fun c3 => br_f (by decide) ?_)
  refine bb_isTerm hy (by omega) (fun _ => br_t rfl (K0 _)) (fun c4 => br_f (by decide) ?_)
  refine pk_eq k 0 (fun _ => bb_comb51 hI (by omega) hk c3 c4 K) (fun _ => pk_eq k 1 (fun _ => bb_comb51 hI (by omega) hk c3 c4 K) (fun _ => pk_eq k 2 (fun _ => ?_) (fun _ => ⟨_, main (by omega) c3 c4 w 0 0 G a1 a2 a3 a4 a9 (by omega) (by omega) hI⟩)))
  exact bb_multiply hI (by omega) (by omega) (fun G a1 a2 a3 a4 a9 a10 h' => bb_comb186 h' (by omega) K)
end
end
section
section
variable {w G T Q C : Nat} {a1 a2 a3 a4 a5 a6 a7 a8 a9 a10 a11 : Nat → Int32}
theorem bb_less {post : Int32 → St2 → Prop} {x y : Nat} {sg : Int32} (hT : bb_T G a1 a2 a3 a4) (hw : w ≤ 3) (hG : G + 24 ≤ 6000) (h6 : bb_es 112 G a6) (hx : x < 28) (hy : y < 28)
    (H : ∀ G' e b1 b2 b3 b4, bb_X w G a1 a2 24 G' b1 b2 b3 b4 → e < 2 * G' → post (nI e) (nI w, nI (3 * w), nI G', nI T, nI Q, nI C, b1, b2, b3, b4, a5, a6, a7, a8, a9, a10, a11)) : wpX_less post (nI w, nI (3 * w), nI G, nI T, nI Q, nI C, a1, a2, a3, a4, a5, a6, a7, a8, a9, a10, a11) (nI x) (nI y) sg := by
  have h13 := hT.1
  have main : ∀ (m i c G' : Nat) (b1 b2 b3 b4 : Nat → Int32), i + m = w → bb_X w G a1 a2 (8 * i) G' b1 b2 b3 b4 → c < 2 * G' → wX_less_6 post (nI x) (nI y) sg (m + 1) (nI c) (nI i) (nI w) (nI (3 * w)) (nI G') (nI T) (nI Q) (nI C) b1 b2 b3 b4 a5 a6 a7 a8 a9 a10 a11 := by
    intro m
    induction m with
    | zero =>
      intro i c G' b1 b2 b3 b4 hi hX hc
      exact pk_le w i (fun _ => H G' c b1 b2 b3 b4 (bb_X_trans hX (bb_X_refl hX.1 0) (by omega)) hc) (fun z => absurd z (by omega))
    | succ m ih =>
      intro i c G' b1 b2 b3 b4 hi hX hc
      have q1 := hX.2.1
      have q2 := hX.2.2.1
      have hxi := bb_edge_n (h6 (4 * x + i) (by omega)) (by omega)
      have hyi := bb_edge_n (h6 (4 * y + i) (by omega)) (by omega)
      have m91 : ∀ G2 e2 c1 c2 c3 c4, bb_X w G' b1 b2 1 G2 c1 c2 c3 c4 → e2 < 2 * G2 → wX_less_91 post (wX_less_6 post (nI x) (nI y) sg (m + 1)) (nI x) (nI y) sg (nI c) (nI i) (nI (bb_n a6 (4 * x + i))) (nI (bb_n a6 (4 * y + i))) (nI e2) (nI w) (nI (3 * w)) (nI G2) (nI T) (nI Q) (nI C) c1 c2 c3 c4 a5 a6 a7 a8 a9 a10 a11 := by
        intro G2 e2 c1 c2 c3 c4 k1 k2
        have q3 := k1.2.1
        have q4 := k1.2.2.1
        unfold wX_less_91
        refine bb_bitwise_2 (k := 5) k1.1 (by omega) hw (by omega) (show bb_n a6 (4 * x + i) < 2 * G2 by omega) (show bb_n a6 (4 * y + i) < 2 * G2 by omega) (fun G3 e3 d1 d2 d3 d4 l1 l2 => ?_)
        have q5 := l1.2.1
        have q6 := l1.2.2.1
        show wpX_gate_2 _ _ (nI e3 ^^^ 1) (nI c)
        rw [bb_x1 e3]
        refine bb_gate_2 l1.1 (by omega) hw (bb_x1lt l2) (show c < 2 * G3 by omega) (fun G4 e4 f1 f2 f3 f4 n1 n2 => ?_)
        have q7 := n1.2.1
        have q8 := n1.2.2.1
        refine bb_bitwise_2 (k := 4) n1.1 (by omega) hw (by omega) (show e2 < 2 * G4 by omega) n2 (fun G5 e5 o1 o2 o3 o4 r1 r2 => nm_r (nI_1 i) ?_)
        exact ih (i + 1) e5 G5 o1 o2 o3 o4 (by omega) (bb_X_trans hX (bb_X_trans (bb_X_trans (bb_X_trans k1 l1 (Nat.le_refl _)) n1 (Nat.le_refl _)) r1 (Nat.le_refl _)) (by omega)) r2
      have m61 : ∀ z : Int32, wX_less_61 post (wX_less_6 post (nI x) (nI y) sg (m + 1)) (nI x) (nI y) sg (nI c) (nI i) (nI (bb_n a6 (4 * x + i))) (nI (bb_n a6 (4 * y + i))) z (nI w) (nI (3 * w)) (nI G') (nI T) (nI Q) (nI C) b1 b2 b3 b4 a5 a6 a7 a8 a9 a10 a11 := by
        intro z
        unfold wX_less_61
        rw [bb_x1, bb_x1]
        exact br_c (fun _ => bb_gate_2 hX.1 (by omega) hw (bb_x1lt (show bb_n a6 (4 * x + i) < 2 * G' by omega)) (show bb_n a6 (4 * y + i) < 2 * G' by omega) (fun G2 e2 c1 c2 c3 c4 k1 k2 => m91 G2 e2 c1 c2 c3 c4 k1 k2)) (fun _ => bb_gate_2 hX.1 (by omega) hw (show bb_n a6 (4 * x + i) < 2 * G' by omega) (bb_x1lt (show bb_n a6 (4 * y + i) < 2 * G' by omega)) (fun G2 e2 c1 c2 c3 c4 k1 k2 => m91 G2 e2 c1 c2 c3 c4 k1 k2))
      refine pk_le w i (fun z => absurd z (by omega)) (fun _ => ⟨pk_in (4 * x + i) 112 (by omega) (bb_4a x i), ?_⟩)
      rw [bb_4a x i, bb_4a y i, nI_clamp (show 4 * x + i < 2 ^ 31 by omega), nI_clamp (show 4 * y + i < 2 ^ 31 by omega)]
      exact nm_r hxi.1 ⟨pk_in (4 * y + i) 112 (by omega), nm_r hyi.1 (br_c (fun _ => m61 0) (fun _ => br_c (fun _ => m61 1) (fun _ => m61 0)))⟩
  exact ⟨_, main w 0 0 G a1 a2 a3 a4 (by omega) (bb_X_refl hT 0) (by omega)⟩
theorem bb_comp79 {post : Int32 → St2 → Prop} {z : Int32} (hI : bb_I 50 w G T Q C a1 a2 a3 a4 a5 a6 a7 a8 a9 a10) (hQ : Q < 16) (hz : bb_edge G z) (K : bb_K post w a5 a11) : wX_compare_79 post z (nI Q) (nI w) (nI (3 * w)) (nI G) (nI T) (nI Q) (nI C) a1 a2 a3 a4 a5 a6 a7 a8 a9 a10 a11 := by
  unfold wX_compare_79
  refine ⟨pk_in Q 16 hQ, nm_e (nm_r (nI_1 Q) (K _ G T (Q + 1) C a1 a2 a3 a4 a6 _ a8 a9 a10 ?_))⟩
  obtain ⟨⟨h1, h2, h3, h4, h5, h6⟩, h7⟩ := bb_I_7 (j := (nI Q).toNatClampNeg) hI hz
  exact ⟨⟨h1, h2, h3, by omega, h5, by omega⟩, h7⟩
theorem bb_compare {post : Int32 → St2 → Prop} {k x y : Nat} (hI : bb_I 0 w G T Q C a1 a2 a3 a4 a5 a6 a7 a8 a9 a10) (hk : k < 3) (hx : x < 2 ^ 31) (hy : y < 2 ^ 31) (K : bb_K post w a5 a11) : wpX_compare post (nI w, nI (3 * w), nI G, nI T, nI Q, nI C, a1, a2, a3, a4, a5, a6, a7, a8, a9, a10, a11) (nI k) (nI x) (nI y) := by
  obtain ⟨g1, g2, g3, g4, g5, g6, g7⟩ := bb_I_G hI (by omega)
  have K0 : ∀ r, post r (nI w, nI (3 * w), nI G, nI T, nI Q, nI C, a1, a2, a3, a4, a5, a6, a7, a8, a9, a10, a11) := fun r => K r G T Q C a1 a2 a3 a4 a6 a7 a8 a9 a10 hI
  unfold wpX_compare
  refine br_f (nI_pos (by omega)) (pk_le k 2 (fun _ => pk_eq Q 16 (fun _ => K0 _) (fun c2 => ?_)) (fun z => absurd z (by omega)))
  refine bb_isTerm hx (by omega) (fun _ => br_t rfl (K0 _)) (fun c3 => br_f (by decide) ?_)
  refine bb_isTerm hy (by omega) (fun _ => br_t rfl (K0 _)) (fun c4 => br_f (by decide) ?_)
  have m76 : ∀ sg : Int32, wX_compare_76 post sg (nI y) (nI x) (nI Q) (nI w) (nI (3 * w)) (nI G) (nI T) (nI Q) (nI C) a1 a2 a3 a4 a5 a6 a7 a8 a9 a10 a11 := by
    intro sg
    unfold wX_compare_76
    exact bb_less hI.2.1 g4 (by omega) hI.2.2.2.1 (by omega) (by omega) (fun G' e b1 b2 b3 b4 k1 k2 => bb_comp79 (bb_I_X hI k1 (by omega)) (by omega) ⟨e, k2, rfl⟩ K)
  refine pk_eq k 0 (fun _ => ?_) (fun _ => pk_eq k 2 (fun _ => m76 1) (fun _ => m76 0))
  exact bb_equal_2 hI.2.1 g4 (by omega) hI.2.2.2.1 (by omega) (by omega) (fun G' e b1 b2 b3 b4 k1 k2 => bb_comp79 (bb_I_X hI k1 (by omega)) (by omega) ⟨e, k2, rfl⟩ K)
theorem bb_connect {post : Int32 → St2 → Prop} {k x y : Nat} (hI : bb_I 0 w G T Q C a1 a2 a3 a4 a5 a6 a7 a8 a9 a10) (hk : k < 3) (hx : x < 2 ^ 31) (hy : y < 2 ^ 31) (K : bb_K post w a5 a11) : wpX_connect post (nI w, nI (3 * w), nI G, nI T, nI Q, nI C, a1, a2, a3, a4, a5, a6, a7, a8, a9, a10, a11) (nI k) (nI x) (nI y) := by
  obtain ⟨g1, g2, g3, g4, g5, g6, g7⟩ := bb_I_G hI (by omega)
  have K0 : ∀ r, post r (nI w, nI (3 * w), nI G, nI T, nI Q, nI C, a1, a2, a3, a4, a5, a6, a7, a8, a9, a10, a11) := fun r => K r G T Q C a1 a2 a3 a4 a6 a7 a8 a9 a10 hI
  have e3 : 3 + nI k = nI (3 + k) := nI_add 3 k
  unfold wpX_connect
  refine br_f (nI_pos (by omega)) (pk_le k 2 (fun _ => pk_eq Q 16 (fun _ => K0 _) (fun c2 => ?_)) (fun z => absurd z (by omega)))
  refine bb_isTest hx (by omega) (fun _ => br_t rfl (K0 _)) (fun c3 => br_f (by decide) ?_)
  refine bb_isTest hy (by omega) (fun _ => br_t rfl (K0 _)) (fun c4 => br_f (by decide) ⟨pk_in x 16 (by omega), pk_in y 16 (by omega), ?_⟩)
  have hxi := bb_edge_n (hI.2.2.2.2.1 x (by omega)) (by omega)
  have hyi := bb_edge_n (hI.2.2.2.2.1 y (by omega)) (by omega)
  rw [e3, nI_clamp hx, nI_clamp hy, hxi.1, hyi.1]
  refine bb_bitwise_2 (k := 3 + k) hI.2.1 (by omega) g4 (by omega) hxi.2 hyi.2 (fun G' e b1 b2 b3 b4 k1 k2 => ?_)
  exact bb_comp79 (bb_I_X hI k1 (by omega)) (by omega) ⟨e, k2, rfl⟩ K
theorem bb_require {post : Int32 → St2 → Prop} {t : Nat} {sg : Int32} (ht : t < 2 ^ 31) (hQ : Q ≤ 16) (hC : C ≤ 10) (hG : G ≤ 6000) (h7 : bb_es 16 G a7)
    (H1 : Q ≤ t → post (-1) (nI w, nI (3 * w), nI G, nI T, nI Q, nI C, a1, a2, a3, a4, a5, a6, a7, a8, a9, a10, a11)) (H2 : C = 10 → post (-2) (nI w, nI (3 * w), nI G, nI T, nI Q, nI C, a1, a2, a3, a4, a5, a6, a7, a8, a9, a10, a11))
    (H3 : t < Q → C < 10 → ∀ e, (sg = 0 → e = bb_n a7 t ^^^ 1) → (¬ sg = 0 → e = bb_n a7 t) → e < 2 * G → post (nI (C + 1)) (nI w, nI (3 * w), nI G, nI T, nI Q, nI (C + 1), a1, a2, a3, a4, a5, a6, a7, upd a8 C (nI e), a9, a10, a11)) : wpX_require post (nI w, nI (3 * w), nI G, nI T, nI Q, nI C, a1, a2, a3, a4, a5, a6, a7, a8, a9, a10, a11) (nI t) sg := by
  unfold wpX_require
  rw [nI_clamp ht]
  refine bb_isTest ht (by omega) (fun z => br_t rfl (H1 z)) (fun c => br_f (by decide) (pk_eq C 10 (fun z => H2 z) (fun z => ?_)))
  have h7t := bb_edge_n (h7 t (by omega)) (by omega)
  have fin : ∀ e, (sg = 0 → e = bb_n a7 t ^^^ 1) → (¬ sg = 0 → e = bb_n a7 t) → e < 2 * G → wX_require_51 post (nI e) (nI C) (nI w) (nI (3 * w)) (nI G) (nI T) (nI Q) (nI C) a1 a2 a3 a4 a5 a6 a7 a8 a9 a10 a11 := by
    intro e e1 e2 e3
    unfold wX_require_51
    rw [nI_clamp (show C < 2 ^ 31 by omega)]
    exact ⟨pk_in C 10 (by omega), nm_e (nm_r (nI_1 C) (H3 c (by omega) e e1 e2 e3))⟩
  rw [h7t.1, bb_x1]
  exact br_c (fun z' => ⟨pk_in t 16 (by omega), fin _ (fun _ => rfl) (fun z'' => absurd z' z'') (bb_x1lt h7t.2)⟩) (fun z' => ⟨pk_in t 16 (by omega), fin _ (fun z'' => absurd z'' z') (fun _ => rfl) h7t.2⟩)
theorem bb_release {post : Int32 → St2 → Prop} (hC : C ≤ 10) (H1 : C = 0 → post (-1) (nI w, nI (3 * w), nI G, nI T, nI Q, nI C, a1, a2, a3, a4, a5, a6, a7, a8, a9, a10, a11)) (H2 : ∀ c, C = c + 1 → post (nI c) (nI w, nI (3 * w), nI G, nI T, nI Q, nI c, a1, a2, a3, a4, a5, a6, a7, a8, a9, a10, a11)) : wpX_release post (nI w, nI (3 * w), nI G, nI T, nI Q, nI C, a1, a2, a3, a4, a5, a6, a7, a8, a9, a10, a11) := by
  unfold wpX_release
  refine pk_eq C 0 (fun z => H1 z) (fun z => ?_)
  obtain ⟨c, rfl⟩ : ∃ c, C = c + 1 := ⟨C - 1, by omega⟩
  exact nm_r (nI_pred c) (H2 c rfl)
theorem bb_rem (x : Int32) {m : Int32} (k : Nat) (hm : m.toBitVec.toNat = 2 ^ k - 1) (hk : k ≤ 30) (d : Nat) (h0 : 0 < d) (hd : d < 2 ^ 31) : ∃ j, j < d ∧ (x &&& m) - (x &&& m) / nI d * nI d = nI j := by
  obtain ⟨j, hj, e⟩ := pk_andE x k hm
  have h2 : 2 ^ k ≤ 2 ^ 30 := Nat.pow_le_pow_right (n := 2) (by omega) hk
  exact ⟨j % d, Nat.mod_lt _ h0, by rw [e]; exact pk_rem (by omega) h0 hd⟩
theorem bb_turn89 {post : St2 → Prop} {op d : Int32} {x y s t : Nat} (hI : bb_I 0 w G T Q C a1 a2 a3 a4 a5 a6 a7 a8 a9 a10) (hx : x < 2 ^ 31) (hy : y < 2 ^ 31) (hs : s < 2 ^ 31) (ht : t < 2 ^ 31)
    (K : ∀ (G T Q C : Nat) (a1 a2 a3 a4 a6 a7 a8 a9 a10 : Nat → Int32), bb_I 0 w G T Q C a1 a2 a3 a4 a5 a6 a7 a8 a9 a10 → post (nI w, nI (3 * w), nI G, nI T, nI Q, nI C, a1, a2, a3, a4, a5, a6, a7, a8, a9, a10, a11)) : wL_turn_89 post op d (nI x) (nI y) (nI s) (nI t) (nI w) (nI (3 * w)) (nI G) (nI T) (nI Q) (nI C) a1 a2 a3 a4 a5 a6 a7 a8 a9 a10 a11 := by
  obtain ⟨g1, g2, g3, g4, g5, g6, g7⟩ := bb_I_G hI (by omega)
  obtain ⟨j1, hj1, e1⟩ : ∃ j, j < 3 ∧ (d &&& 3) - (d &&& 3) / 3 * 3 = nI j := bb_rem d (m := 3) 2 (by decide) (by omega) 3 (by omega) (by omega)
  obtain ⟨j2, hj2, e2⟩ : ∃ j, j < 3 ∧ ((d >>> ((10 : Int32) &&& 31)) &&& 3) - ((d >>> ((10 : Int32) &&& 31)) &&& 3) / 3 * 3 = nI j := bb_rem (d >>> ((10 : Int32) &&& 31)) (m := 3) 2 (by decide) (by omega) 3 (by omega) (by omega)
  obtain ⟨j3, hj3, e3⟩ : ∃ j, j < 6 ∧ ((d >>> ((10 : Int32) &&& 31)) &&& 7) - ((d >>> ((10 : Int32) &&& 31)) &&& 7) / 6 * 6 = nI j := bb_rem (d >>> ((10 : Int32) &&& 31)) (m := 7) 3 (by decide) (by omega) 6 (by omega) (by omega)
  unfold wL_turn_89
  rw [e1, e2, e3]
  refine br_c (fun _ => br_c (fun _ => ?_) (fun _ => br_c (fun _ => br_c (fun _ => ?_) (fun _ => br_c (fun _ => ⟨by decide, ?_⟩) (fun _ => br_c (fun _ => ?_) (fun _ => br_c (fun _ => br_c (fun _ => ⟨by decide, ?_⟩) (fun _ => br_c (fun _ => ?_) (fun _ => ?_))) (fun _ => ⟨by decide, ?_⟩))))) (fun _ => ⟨by decide, ?_⟩))) (fun _ => ⟨by decide, ?_⟩)
  · exact bb_constant hI (fun _ G T Q C a1 a2 a3 a4 a6 a7 a8 a9 a10 h => K G T Q C a1 a2 a3 a4 a6 a7 a8 a9 a10 h)
  · exact bb_invert hI hx (fun _ G T Q C a1 a2 a3 a4 a6 a7 a8 a9 a10 h => K G T Q C a1 a2 a3 a4 a6 a7 a8 a9 a10 h)
  · exact bb_shift hI hx (fun _ G T Q C a1 a2 a3 a4 a6 a7 a8 a9 a10 h => K G T Q C a1 a2 a3 a4 a6 a7 a8 a9 a10 h)
  · exact bb_choose hI hs hx hy (fun _ G T Q C a1 a2 a3 a4 a6 a7 a8 a9 a10 h => K G T Q C a1 a2 a3 a4 a6 a7 a8 a9 a10 h)
  · exact bb_connect hI hj1 hs ht (fun _ G T Q C a1 a2 a3 a4 a6 a7 a8 a9 a10 h => K G T Q C a1 a2 a3 a4 a6 a7 a8 a9 a10 h)
  · refine bb_release g7 (fun _ => K G T Q C a1 a2 a3 a4 a6 a7 a8 a9 a10 hI) (fun c ec => K G T Q c a1 a2 a3 a4 a6 a7 a8 a9 a10 ?_)
    obtain ⟨⟨h1, h2, h3, h4, h5, h6⟩, h7⟩ := hI
    exact ⟨⟨h1, h2, h3, h4, by omega, h6⟩, h7⟩
  · refine bb_require hs g6 g7 (by omega) hI.2.2.2.2.1 (fun _ => K G T Q C a1 a2 a3 a4 a6 a7 a8 a9 a10 hI) (fun _ => K G T Q C a1 a2 a3 a4 a6 a7 a8 a9 a10 hI) (fun _ c e _ _ he => K G T Q (C + 1) a1 a2 a3 a4 a6 a7 _ a9 a10 ?_)
    obtain ⟨⟨h1, h2, h3, h4, h5, h6⟩, h7, h8, h9, h10, h11, h12, h13⟩ := hI
    exact ⟨⟨h1, h2, h3, h4, by omega, h6⟩, h7, h8, h9, h10, bb_es_upd h11 ⟨e, he, rfl⟩, h12, h13⟩
  · exact bb_compare hI hj2 hx hy (fun _ G T Q C a1 a2 a3 a4 a6 a7 a8 a9 a10 h => K G T Q C a1 a2 a3 a4 a6 a7 a8 a9 a10 h)
  · exact bb_combine hI hj3 hx hy (fun _ G T Q C a1 a2 a3 a4 a6 a7 a8 a9 a10 h => K G T Q C a1 a2 a3 a4 a6 a7 a8 a9 a10 h)
  · exact bb_variable hI hj1 (fun _ G T Q C a1 a2 a3 a4 a6 a7 a8 a9 a10 h => K G T Q C a1 a2 a3 a4 a6 a7 a8 a9 a10 h)
theorem bb_turn {post : St2 → Prop} {op d : Int32} (hI : bb_I 0 w G T Q C a1 a2 a3 a4 a5 a6 a7 a8 a9 a10)
    (K : ∀ (G T Q C : Nat) (a1 a2 a3 a4 a6 a7 a8 a9 a10 : Nat → Int32), bb_I 0 w G T Q C a1 a2 a3 a4 a5 a6 a7 a8 a9 a10 → post (nI w, nI (3 * w), nI G, nI T, nI Q, nI C, a1, a2, a3, a4, a5, a6, a7, a8, a9, a10, a11)) : wpL_turn post (nI w, nI (3 * w), nI G, nI T, nI Q, nI C, a1, a2, a3, a4, a5, a6, a7, a8, a9, a10, a11) op d := by
  obtain ⟨g1, g2, g3, g4, g5, g6, g7⟩ := bb_I_G hI (by omega)
  have m67 : ∀ x y s, x < 2 ^ 31 → y < 2 ^ 31 → s < 2 ^ 31 → wL_turn_67 post op d (nI Q) (nI x) (nI y) (nI s) (nI w) (nI (3 * w)) (nI G) (nI T) (nI Q) (nI C) a1 a2 a3 a4 a5 a6 a7 a8 a9 a10 a11 := by
    intro x y s hx hy hs
    refine pk_le 1 Q (fun c => ⟨nI_ne0 (by omega) (by omega), ?_⟩) (fun _ => bb_turn89 (t := 0) hI hx hy hs (by omega) K)
    obtain ⟨j, hj, e⟩ := bb_rem (d >>> ((14 : Int32) &&& 31)) (m := 15) 4 (by decide) (by omega) Q (by omega) (by omega)
    rw [e]
    exact bb_turn89 hI hx hy hs (by omega) K
  have m45 : ∀ x y, x < 2 ^ 31 → y < 2 ^ 31 → wL_turn_45 post op d (nI Q) (nI x) (nI y) (nI w) (nI (3 * w)) (nI G) (nI T) (nI Q) (nI C) a1 a2 a3 a4 a5 a6 a7 a8 a9 a10 a11 := by
    intro x y hx hy
    refine pk_le 1 Q (fun c => ⟨nI_ne0 (by omega) (by omega), ?_⟩) (fun _ => m67 x y 0 hx hy (by omega))
    obtain ⟨j, hj, e⟩ := bb_rem (d >>> ((10 : Int32) &&& 31)) (m := 15) 4 (by decide) (by omega) Q (by omega) (by omega)
    rw [e]
    exact m67 x y j hx hy (by omega)
  have m26 : ∀ x, x < 2 ^ 31 → wL_turn_26 post op d (nI T) (nI Q) (nI x) (nI w) (nI (3 * w)) (nI G) (nI T) (nI Q) (nI C) a1 a2 a3 a4 a5 a6 a7 a8 a9 a10 a11 := by
    intro x hx
    refine pk_le 1 T (fun c => ⟨nI_ne0 (by omega) (by omega), ?_⟩) (fun _ => m45 x 0 hx (by omega))
    obtain ⟨j, hj, e⟩ := bb_rem (d >>> ((5 : Int32) &&& 31)) (m := 31) 5 (by decide) (by omega) T (by omega) (by omega)
    rw [e]
    exact m45 x j hx (by omega)
  unfold wpL_turn
  show wpX_terms _ _
  unfold wpX_terms
  show wpX_tests _ _
  unfold wpX_tests
  refine pk_le 1 T (fun c => ⟨nI_ne0 (by omega) (by omega), ?_⟩) (fun _ => m26 0 (by omega))
  obtain ⟨j, hj, e⟩ := bb_rem d (m := 31) 5 (by decide) (by omega) T (by omega) (by omega)
  rw [e]
  exact m26 j (by omega)
end
end
section
section
variable {w G T Q C : Nat} {a1 a2 a3 a4 a5 a6 a7 a8 a9 a10 a11 : Nat → Int32} {V : Nat → Nat → Bool}
theorem bb_sat_old {e : Nat} (n : Nat) (k : Nat) (hk : k ≤ C) : bb_sat V (upd a8 C (nI e)) k n = bb_sat V a8 k n := by
  unfold bb_sat
  refine bb_all_congr k (fun i hi => ?_)
  show V n (bb_n (upd a8 C (nI e)) i) = V n (bb_n a8 i)
  unfold bb_n
  rw [pk_un (by omega)]
theorem bb_sat_new {e : Nat} (he : e < 2 ^ 31) (n : Nat) : bb_sat V (upd a8 C (nI e)) (C + 1) n = (bb_sat V a8 C n && V n e) := by
  have h1 : bb_sat V (upd a8 C (nI e)) (C + 1) n = (bb_sat V (upd a8 C (nI e)) C n && V n (bb_n (upd a8 C (nI e)) C)) := rfl
  rw [h1, bb_sat_old n C (Nat.le_refl _), bb_n_nI (v := e) pk_us he]
/-- what doesn't change in a question -/
def bb_L (w G T Q C : Nat) (a6 a7 a8 : Nat → Int32) : Prop := (1 ≤ w ∧ w ≤ 3 ∧ T ≤ 28 ∧ Q ≤ 16 ∧ C ≤ 10 ∧ G + 100 ≤ 6000) ∧ bb_es 112 G a6 ∧ bb_es 16 G a7 ∧ bb_es 10 G a8
theorem bb_h202 {post : Int32 → St2 → Prop} {t : Nat} (hq : bb_q w G V a1 a2 a3 a4 a5) (hL : bb_L w G T Q C a6 a7 a8) (ht : t < 2 ^ 31)
    (H : ∀ b1 b2 b3 b4 b5 b8 b11, bb_q w G V b1 b2 b3 b4 b5 → bb_es 10 G b8 → post 1 (nI w, nI (3 * w), nI G, nI T, nI Q, nI C, b1, b2, b3, b4, b5, a6, a7, b8, a9, a10, b11)) : wL_holds_202 post (nI t) (nI (bb_cnt (bb_sat V a8 C) (2 ^ (3 * w)))) (nI w) (nI (3 * w)) (nI G) (nI T) (nI Q) (nI C) a1 a2 a3 a4 a5 a6 a7 a8 a9 a10 a11 := by
  obtain ⟨⟨l1, l2, l3, l4, l5, l6⟩, h6, h7, h8⟩ := hL
  have h9 := bb_pow9 (show 3 * w ≤ 9 by omega)
  unfold wL_holds_202
  show wpX_tests _ _
  unfold wpX_tests
  refine pk_le Q t (fun _ => H a1 a2 a3 a4 a5 a8 a11 hq h8) (fun c => ?_)
  have h7t := bb_edge_n (h7 t (by omega)) (by omega)
  have hVi : ∀ n, V n (bb_n a7 t ^^^ 1) = !V n (bb_n a7 t) := fun n => by
    rw [← hq.2.2 n _ (bb_x1lt h7t.2), ← hq.2.2 n _ h7t.2]
    exact bb_V_inv hq.1 l2 n h7t.2
  refine bb_follows hq l2 l5 (by omega) h8 h7 l4 c (fun b1 b2 b3 b4 b5 b11 hq1 => ?_)
  refine bb_require ht l4 l5 (by omega) h7 (fun z => absurd z (by omega)) (fun _ => br_t (by decide) (H b1 b2 b3 b4 b5 a8 b11 hq1 h8)) (fun _ c10 e e1 _ he => br_f (nI_nle (by omega) (by omega)) ?_)
  have ee : e = bb_n a7 t ^^^ 1 := e1 rfl
  have h8' : bb_es 10 G (upd a8 C (nI e)) := bb_es_upd h8 ⟨e, he, rfl⟩
  refine bb_count (C := C + 1) hq1 l2 (by omega) (by omega) h8' (fun c1 c2 c3 c4 c5 c11 hq2 => ?_)
  refine bb_release (C := C + 1) (by omega) (fun z => absurd z (by omega)) (fun c0 ec => ?_)
  have ec' : c0 = C := by omega
  subst ec'
  refine bb_require ht l4 l5 (by omega) h7 (fun z => absurd z (by omega)) (fun z => absurd z (by omega)) (fun _ _ e' _ e2 he' => ?_)
  have ee' : e' = bb_n a7 t := e2 (by decide)
  have h8'' : bb_es 10 G (upd (upd a8 c0 (nI e)) c0 (nI e')) := bb_es_upd h8' ⟨e', he', rfl⟩
  refine bb_count (C := c0 + 1) hq2 l2 (by omega) (by omega) h8'' (fun d1 d2 d3 d4 d5 d11 hq3 => ?_)
  refine bb_release (C := c0 + 1) (by omega) (fun z => absurd z (by omega)) (fun c0' ec => ?_)
  have ec' : c0' = c0 := by omega
  subst ec'
  have H1 := H d1 d2 d3 d4 d5 _ d11 hq3 h8''
  have k1 : bb_cnt (bb_sat V (upd a8 c0' (nI e)) (c0' + 1)) (2 ^ (3 * w)) = bb_cnt (fun n => bb_sat V a8 c0' n && !V n (bb_n a7 t)) (2 ^ (3 * w)) :=
    bb_cnt_congr _ (fun n _ => by rw [bb_sat_new (by omega), ee, hVi n])
  have k2 : bb_cnt (bb_sat V (upd (upd a8 c0' (nI e)) c0' (nI e')) (c0' + 1)) (2 ^ (3 * w)) = bb_cnt (fun n => bb_sat V a8 c0' n && V n (bb_n a7 t)) (2 ^ (3 * w)) :=
    bb_cnt_congr _ (fun n _ => by rw [bb_sat_new (by omega), bb_sat_old n c0' (Nat.le_refl _), ee'])
  have k3 := bb_cnt_split (A := fun n => bb_sat V a8 c0' n) (t := fun n => V n (bb_n a7 t)) (2 ^ (3 * w))
  have q1 := bb_cnt_le (fun n => bb_sat V a8 c0' n && !V n (bb_n a7 t)) (2 ^ (3 * w))
  have q2 := bb_cnt_le (fun n => bb_sat V a8 c0' n && V n (bb_n a7 t)) (2 ^ (3 * w))
  have k3' : bb_cnt (fun n => bb_sat V a8 c0' n && !V n (bb_n a7 t)) (2 ^ (3 * w)) + bb_cnt (fun n => bb_sat V a8 c0' n && V n (bb_n a7 t)) (2 ^ (3 * w)) = bb_cnt (bb_sat V a8 c0') (2 ^ (3 * w)) := k3
  rw [k1, k2]
  generalize bb_cnt (fun n => bb_sat V a8 c0' n && !V n (bb_n a7 t)) (2 ^ (3 * w)) = x at k3' q1 ⊢
  generalize bb_cnt (fun n => bb_sat V a8 c0' n && V n (bb_n a7 t)) (2 ^ (3 * w)) = y at k3' q2 ⊢
  generalize bb_cnt (bb_sat V a8 c0') (2 ^ (3 * w)) = z at k3' ⊢
  refine pk_eq (x + y) z (fun _ => ?_) (fun g => absurd k3' g) (nI_add x y)
  have fin : ∀ r r' : Nat, r = r' → wL_holds_292 post (nI r) (nI r') (nI w) (nI (3 * w)) (nI G) (nI T) (nI Q) (nI c0') d1 d2 d3 d4 d5 a6 a7 (upd (upd a8 c0' (nI e)) c0' (nI e')) a9 a10 d11 := by
    intro r r' hr
    subst hr
    exact br_t rfl H1
  refine pk_eq x 0 (fun g => fin 1 _ ?_) (fun g => pk_eq y 0 (fun g' => fin 0 _ ?_) (fun g' => fin 2 _ ?_))
  · rw [if_pos g]
  · rw [if_neg g, if_pos g']
  · rw [if_neg g, if_neg g']
theorem bb_h143 {post : Int32 → St2 → Prop} {t x y : Nat} (hL : bb_L w G T Q C a6 a7 a8) (ht : t < 2 ^ 31) (hx : x < T) (hy : y < T)
    (H : ∀ b1 b2 b3 b4 b5 b8 b11, bb_q w G V b1 b2 b3 b4 b5 → bb_es 10 G b8 → post 1 (nI w, nI (3 * w), nI G, nI T, nI Q, nI C, b1, b2, b3, b4, b5, a6, a7, b8, a9, a10, b11)) :
    ∀ (m k f : Nat) (a5 a11 : Nat → Int32), bb_q w G V a1 a2 a3 a4 a5 → k + m = 2 ^ (3 * w) → ((f = 1 ∧ ∀ n, n < k → bb_val V w a6 x n = bb_val V w a6 y n) ∨ (f = 0 ∧ ∃ n, n < k ∧ bb_val V w a6 x n ≠ bb_val V w a6 y n)) → wL_holds_143 post (nI w) (nI t) (nI x) (nI y) (nI (bb_cnt (bb_sat V a8 C) (2 ^ (3 * w)))) (m + 1) (nI f) (nI k) (nI w) (nI (3 * w)) (nI G) (nI T) (nI Q) (nI C) a1 a2 a3 a4 a5 a6 a7 a8 a9 a10 a11 := by
  have hL0 := hL
  obtain ⟨⟨l1, l2, l3, l4, l5, l6⟩, h6, h7, h8⟩ := hL
  have h9 := bb_pow9 (show 3 * w ≤ 9 by omega)
  have e3 : (1 : Int32) <<< ((3 * nI w) &&& 31) = nI (2 ^ (3 * w)) := by
    show (1 : Int32) <<< ((nI 3 * nI w) &&& 31) = _
    rw [pk_mul, bb_shl1 (3 * w) (by omega)]
  intro m
  induction m with
  | zero =>
    intro k f a5 a11 hq hk hf
    refine pk_le (2 ^ (3 * w)) k (fun _ => ?_) (fun z => absurd z (by omega)) e3 rfl (by omega) (by omega)
    have ek : k = 2 ^ (3 * w) := by omega
    rw [ek] at hf
    refine bb_same hq l2 (by omega) h6 l3 hx hy (fun hs b1 b2 b3 b4 b5 b11 hq1 => ?_) (fun n hn hd b1 b2 b3 b4 b5 b11 hq1 => ?_)
    · have hf1 : f = 1 := by
        rcases hf with hf | ⟨_, n, n1, n2⟩
        · exact hf.1
        · exact absurd (hs n n1) n2
      subst hf1
      exact br_f (by decide) (br_t rfl (bb_h202 hq1 hL0 ht H))
    · have hf0 : f = 0 := by
        rcases hf with ⟨_, hf⟩ | hf
        · exact absurd (hf n hn) hd
        · exact hf.1
      subst hf0
      exact br_t rfl (br_t rfl (bb_h202 hq1 hL0 ht H))
  | succ m ih =>
    intro k f a5 a11 hq hk hf
    refine pk_le (2 ^ (3 * w)) k (fun z => absurd z (by omega)) (fun _ => ?_) e3 rfl (by omega) (by omega)
    refine bb_valueOf hq l2 h6 l3 hx (by omega) (fun b5 b11 hq1 => ?_)
    refine bb_valueOf hq1 l2 h6 l3 hy (by omega) (fun c5 c11 hq2 => ?_)
    have v1 : bb_val V w a6 x k < 2 ^ w := bb_sum_lt _ _
    have v2 : bb_val V w a6 y k < 2 ^ w := bb_sum_lt _ _
    have v3 := bb_pow9 (show w ≤ 9 by omega)
    refine pk_eq (bb_val V w a6 x k) (bb_val V w a6 y k) (fun g => nm_r (nI_1 k) (ih (k + 1) f c5 c11 hq2 (by omega) ?_)) (fun g => nm_r (nI_1 k) (ih (k + 1) 0 c5 c11 hq2 (by omega) (Or.inr ⟨rfl, k, by omega, g⟩)))
    rcases hf with ⟨f1, f2⟩ | ⟨f1, n, n1, n2⟩
    · refine Or.inl ⟨f1, fun n hn => ?_⟩
      by_cases e : n = k
      · rw [e]; exact g
      · exact f2 n (by omega)
    · exact Or.inr ⟨f1, n, by omega, n2⟩
theorem bb_h124 {post : Int32 → St2 → Prop} {t x y : Nat} (hq : bb_q w G V a1 a2 a3 a4 a5) (hL : bb_L w G T Q C a6 a7 a8) (ht : t < 2 ^ 31) (hx : x < 2 ^ 31) (hy : y < 2 ^ 31)
    (H : ∀ b1 b2 b3 b4 b5 b8 b11, bb_q w G V b1 b2 b3 b4 b5 → bb_es 10 G b8 → post 1 (nI w, nI (3 * w), nI G, nI T, nI Q, nI C, b1, b2, b3, b4, b5, a6, a7, b8, a9, a10, b11)) : wL_holds_124 post (nI w) (nI t) (nI x) (nI y) (nI (bb_cnt (bb_sat V a8 C) (2 ^ (3 * w)))) (nI T) (nI w) (nI (3 * w)) (nI G) (nI T) (nI Q) (nI C) a1 a2 a3 a4 a5 a6 a7 a8 a9 a10 a11 := by
  have l3 := hL.1.2.2.1
  unfold wL_holds_124
  exact pk_le T x (fun _ => bb_h202 hq hL ht H) (fun c1 => pk_le T y (fun _ => bb_h202 hq hL ht H) (fun c2 => ⟨_, bb_h143 hL ht c1 c2 H (2 ^ (3 * w)) 0 1 a5 a11 hq (by omega) (Or.inl ⟨rfl, fun n hn => absurd hn (by omega)⟩)⟩))
theorem bb_least {post : Int32 → St2 → Prop} {t n0 : Nat} (hq : bb_q w G V a1 a2 a3 a4 a5) (hw : w ≤ 3) (hw1 : 1 ≤ w) (hC : C ≤ 10) (hG : G + 16 ≤ 6000) (h8 : bb_es 10 G a8) (h6 : bb_es 112 G a6) (hT28 : T ≤ 28) (ht : t < T) (hn0 : n0 < 2 ^ (3 * w)) (hsat : bb_sat V a8 C n0 = true)
    (H : ∀ y b1 b2 b3 b4 b5 b11, bb_q w G V b1 b2 b3 b4 b5 → y < 8 → y ≤ bb_val V w a6 t n0 → post (nI y) (nI w, nI (3 * w), nI G, nI T, nI Q, nI C, b1, b2, b3, b4, b5, a6, a7, a8, a9, a10, b11)) : wpX_least post (nI w, nI (3 * w), nI G, nI T, nI Q, nI C, a1, a2, a3, a4, a5, a6, a7, a8, a9, a10, a11) (nI t) := by
  unfold wpX_least
  exact bb_extreme (b := 0) hq hw hw1 hC hG h8 h6 hT28 ht (by omega) hn0 hsat (fun y b1 b2 b3 b4 b5 b11 h1 h2 h3 h4 => H y b1 b2 b3 b4 b5 b11 h1 h2 (h3 rfl))
theorem bb_greatest {post : Int32 → St2 → Prop} {t n0 : Nat} (hq : bb_q w G V a1 a2 a3 a4 a5) (hw : w ≤ 3) (hw1 : 1 ≤ w) (hC : C ≤ 10) (hG : G + 16 ≤ 6000) (h8 : bb_es 10 G a8) (h6 : bb_es 112 G a6) (hT28 : T ≤ 28) (ht : t < T) (hn0 : n0 < 2 ^ (3 * w)) (hsat : bb_sat V a8 C n0 = true)
    (H : ∀ y b1 b2 b3 b4 b5 b11, bb_q w G V b1 b2 b3 b4 b5 → y < 8 → bb_val V w a6 t n0 ≤ y → post (nI y) (nI w, nI (3 * w), nI G, nI T, nI Q, nI C, b1, b2, b3, b4, b5, a6, a7, a8, a9, a10, b11)) : wpX_greatest post (nI w, nI (3 * w), nI G, nI T, nI Q, nI C, a1, a2, a3, a4, a5, a6, a7, a8, a9, a10, a11) (nI t) := by
  unfold wpX_greatest
  exact bb_extreme (b := 1) hq hw hw1 hC hG h8 h6 hT28 ht (by omega) hn0 hsat (fun y b1 b2 b3 b4 b5 b11 h1 h2 h3 h4 => H y b1 b2 b3 b4 b5 b11 h1 h2 (h4 rfl))
theorem bb_h72 {post : Int32 → St2 → Prop} {t x y n0 : Nat} (hL : bb_L w G T Q C a6 a7 a8) (ht : t < 2 ^ 31) (hx : x < 2 ^ 31) (hy : y < 2 ^ 31) (hn0 : n0 < 2 ^ (3 * w)) (hs : bb_sat V a8 C n0 = true)
    (H : ∀ b1 b2 b3 b4 b5 b8 b11, bb_q w G V b1 b2 b3 b4 b5 → bb_es 10 G b8 → post 1 (nI w, nI (3 * w), nI G, nI T, nI Q, nI C, b1, b2, b3, b4, b5, a6, a7, b8, a9, a10, b11)) :
    ∀ (m i : Nat) (a1 a2 a3 a4 a5 a11 : Nat → Int32), bb_q w G V a1 a2 a3 a4 a5 → i + m = T → wL_holds_72 post (nI w) (nI t) (nI x) (nI y) (nI n0) (nI (bb_cnt (bb_sat V a8 C) (2 ^ (3 * w)))) (nI T) (m + 1) (nI i) (nI w) (nI (3 * w)) (nI G) (nI T) (nI Q) (nI C) a1 a2 a3 a4 a5 a6 a7 a8 a9 a10 a11 := by
  have hL0 := hL
  obtain ⟨⟨l1, l2, l3, l4, l5, l6⟩, h6, h7, h8⟩ := hL
  have h9 := bb_pow9 (show 3 * w ≤ 9 by omega)
  intro m
  induction m with
  | zero =>
    intro i a1 a2 a3 a4 a5 a11 hq hi
    exact pk_le T i (fun _ => bb_h124 hq hL0 ht hx hy H) (fun z => absurd z (by omega))
  | succ m ih =>
    intro i a1 a2 a3 a4 a5 a11 hq hi
    have v1 : bb_val V w a6 i n0 < 2 ^ w := bb_sum_lt _ _
    have v3 := bb_pow9 (show w ≤ 9 by omega)
    refine pk_le T i (fun z => absurd z (by omega)) (fun _ => br_f (nI_pos (by omega)) ?_)
    refine bb_valueOf hq l2 h6 l3 (by omega) hn0 (fun b5 b11 hq1 => ?_)
    refine bb_least hq1 l2 l1 l5 (by omega) h8 h6 l3 (by omega) hn0 hs (fun y1 c1 c2 c3 c4 c5 c11 hq2 y8 g1 => ?_)
    refine pk_lt (bb_val V w a6 i n0) y1 (fun z => absurd z (by omega)) (fun _ => ?_)
    refine bb_greatest hq2 l2 l1 l5 (by omega) h8 h6 l3 (by omega) hn0 hs (fun y2 d1 d2 d3 d4 d5 d11 hq3 y8' g2 => ?_)
    exact pk_le (bb_val V w a6 i n0) y2 (fun _ => nm_r (nI_1 i) (ih (i + 1) d1 d2 d3 d4 d5 d11 hq3 (by omega))) (fun z => absurd z (by omega))
theorem bb_holds {post : Int32 → St2 → Prop} {t x y : Nat} (hI : bb_I 0 w G T Q C a1 a2 a3 a4 a5 a6 a7 a8 a9 a10) (ht : t < 2 ^ 31) (hx : x < 2 ^ 31) (hy : y < 2 ^ 31)
    (K : ∀ b1 b2 b3 b4 b5 b8 b11, bb_I 0 w G T Q C b1 b2 b3 b4 b5 a6 a7 b8 a9 a10 → post 1 (nI w, nI (3 * w), nI G, nI T, nI Q, nI C, b1, b2, b3, b4, b5, a6, a7, b8, a9, a10, b11)) : wpL_holds post (nI w, nI (3 * w), nI G, nI T, nI Q, nI C, a1, a2, a3, a4, a5, a6, a7, a8, a9, a10, a11) (nI w) (nI t) (nI x) (nI y) := by
  obtain ⟨g1, g2, g3, g4, g5, g6, g7⟩ := bb_I_G hI (by omega)
  have h9 := bb_pow9 (show 3 * w ≤ 9 by omega)
  obtain ⟨hb, hT, hz, h6, h7, h8, h9', h10⟩ := hI
  have hq : bb_q w G (bb_V w a1 a2) a1 a2 a3 a4 a5 := ⟨hT, hz, fun _ _ _ => rfl⟩
  have hL : bb_L w G T Q C a6 a7 a8 := ⟨⟨g3, g4, g5, g6, g7, g1⟩, h6, h7, h8⟩
  have H : ∀ b1 b2 b3 b4 b5 b8 b11, bb_q w G (bb_V w a1 a2) b1 b2 b3 b4 b5 → bb_es 10 G b8 → post 1 (nI w, nI (3 * w), nI G, nI T, nI Q, nI C, b1, b2, b3, b4, b5, a6, a7, b8, a9, a10, b11) := fun b1 b2 b3 b4 b5 b8 b11 q1 q2 => K b1 b2 b3 b4 b5 b8 b11 ⟨hb, q1.1, q1.2.1, h6, h7, q2, h9', h10⟩
  generalize bb_V w a1 a2 = V at hq H
  have hcl := bb_cnt_le (bb_sat V a8 C) (2 ^ (3 * w))
  unfold wpL_holds
  refine bb_next hq g4 g7 (by omega) h8 (fun hn b1 b2 b3 b4 b5 b11 hq1 => ?_) (fun n0 hn0 hs b1 b2 b3 b4 b5 b11 hq1 => ?_)
  · refine bb_count hq1 g4 g7 (by omega) h8 (fun c1 c2 c3 c4 c5 c11 hq2 => br_f (by decide) ?_)
    have hc0 := (bb_cnt_z (P := bb_sat V a8 C) (2 ^ (3 * w))).mpr hn
    unfold wL_holds_23
    refine bb_solvable hq2 g4 g7 (by omega) h8 (fun _ d1 d2 d3 d4 d5 d11 hq3 => ?_) (fun n n1 n2 => absurd ((hn n n1).symm.trans n2) (by decide))
    refine br_t rfl (br_t rfl (br_f (by decide) (pk_eq (bb_cnt (bb_sat V a8 C) (2 ^ (3 * w))) 0 (fun _ => br_t rfl ?_) (fun z => absurd hc0 z))))
    exact ⟨1, br_c (fun _ => bb_h124 hq3 hL ht hx hy H) (fun _ => br_t (by decide) (bb_h124 hq3 hL ht hx hy H))⟩
  · refine bb_count hq1 g4 g7 (by omega) h8 (fun c1 c2 c3 c4 c5 c11 hq2 => br_t (nI_pos' (by omega)) ?_)
    have hc0 : ¬ bb_cnt (bb_sat V a8 C) (2 ^ (3 * w)) = 0 := fun z => by
      have := (bb_cnt_z _).mp z n0 hn0
      rw [hs] at this
      exact absurd this (by decide)
    unfold wL_holds_23
    refine bb_solvable hq2 g4 g7 (by omega) h8 (fun hn => absurd ((hn n0 hn0).symm.trans hs) (by decide)) (fun n n1 n2 d1 d2 d3 d4 d5 d11 hq3 => ?_)
    refine br_f (by decide) (br_t rfl (br_t (nI_pos' (by omega)) (pk_eq (bb_cnt (bb_sat V a8 C) (2 ^ (3 * w))) 0 (fun z => absurd z hc0) (fun _ => br_t rfl ?_))))
    exact ⟨T + 1, bb_h72 hL ht hx hy hn0 hs H T 0 d1 d2 d3 d4 d5 d11 hq3 (by omega)⟩
end
end
section
theorem bb_cell {post : Int32 → Prop} {L : Nat} {xs : Nat → Int32} {k : Nat} (hk : k < 2 ^ 31) (hL : L < 2 ^ 31) (H : ∀ r, post r) : wpL_cell post L xs () (nI k) := by
  unfold wpL_cell
  exact pk_le L k (fun _ => H _) (fun z => ⟨pk_in k L z, H _⟩)
theorem bb_law24 {L : Nat} {xs : Nat → Int32} {kc ks w : Nat} (hL : L ≤ 260) :
    ∀ (m k G T Q C : Nat) (a1 a2 a3 a4 a5 a6 a7 a8 a9 a10 a11 : Nat → Int32), L ≤ k + m → k ≤ 600 → bb_I 0 w G T Q C a1 a2 a3 a4 a5 a6 a7 a8 a9 a10 → wL_law_24 (fun r => r = 1) L xs (nI w) kc ks (m + 1) (nI k) (nI w) (nI (3 * w)) (nI G) (nI T) (nI Q) (nI C) a1 a2 a3 a4 a5 a6 a7 a8 a9 a10 a11 := by
  intro m
  induction m with
  | zero =>
    intro k G T Q C a1 a2 a3 a4 a5 a6 a7 a8 a9 a10 a11 hk hk6 hI
    exact pk_le L k (fun _ => bb_holds (t := 0) (x := 0) (y := 1) hI (by omega) (by omega) (by omega) (fun b1 b2 b3 b4 b5 b8 b11 _ => rfl)) (fun z => absurd z (by omega))
  | succ m ih =>
    intro k G T Q C a1 a2 a3 a4 a5 a6 a7 a8 a9 a10 a11 hk hk6 hI
    refine pk_le L k (fun _ => bb_holds (t := 0) (x := 0) (y := 1) hI (by omega) (by omega) (by omega) (fun b1 b2 b3 b4 b5 b8 b11 _ => rfl)) (fun z => ?_)
    refine bb_cell (by omega) (by omega) (fun c => ?_)
    show wpL_cell _ L xs () (nI k + 1)
    rw [nI_1 k]
    refine bb_cell (by omega) (by omega) (fun d => ?_)
    refine bb_turn hI (fun G T Q C a1 a2 a3 a4 a6 a7 a8 a9 a10 hI => ?_)
    have e2 : nI k + 2 = nI (k + 2) := nI_add k 2
    obtain ⟨t, ht, et⟩ := pk_andE (c >>> ((5 : Int32) &&& 31)) (m := (3 : Int32)) 2 (by decide)
    obtain ⟨x, hx, ex⟩ := pk_andE (c >>> ((7 : Int32) &&& 31)) (m := (15 : Int32)) 4 (by decide)
    obtain ⟨y, hy, ey⟩ := pk_andE (c >>> ((11 : Int32) &&& 31)) (m := (15 : Int32)) 4 (by decide)
    refine br_c (fun _ => ?_) (fun _ => nm_r e2 (ih (k + 2) G T Q C a1 a2 a3 a4 a5 a6 a7 a8 a9 a10 a11 (by omega) (by omega) hI))
    rw [et, ex, ey]
    refine bb_holds hI (by omega) (by omega) (by omega) (fun b1 b2 b3 b4 b5 b8 b11 hI => ?_)
    exact br_f (by decide) (nm_r e2 (ih (k + 2) G T Q C b1 b2 b3 b4 b5 a6 a7 b8 a9 a10 b11 (by omega) (by omega) hI))
theorem bb_init {w : Nat} (h1 : 1 ≤ w) (h3 : w ≤ 3) : bb_I 0 w 13 0 0 0 (fun _ => 0) (fun _ => 0) (fun _ => 0) (fun _ => 0) (fun _ => 0) (fun _ => 0) (fun _ => 0) (fun _ => 0) (fun _ => 0) (fun _ => 0) := by
  have es : ∀ m, bb_es m 13 (fun _ => 0) := fun m j _ => ⟨0, by omega, rfl⟩
  refine ⟨⟨h1, h3, by omega, by omega, by omega, by omega⟩, ⟨by omega, by omega, fun g g1 g2 => absurd g1 (by omega), fun k _ => ⟨0, rfl, Or.inl rfl⟩, fun g g1 g2 => absurd g1 (by omega)⟩, fun k _ _ => rfl, es _, es _, es _, es _, es _⟩
theorem i_vc (xs : Nat → Int32) (L : Nat) (hL : L ≤ 260) : wpL_law (fun r => r = 1) L xs := by
  unfold wpL_law
  refine bb_cell (k := 0) (by omega) (by omega) (fun c => ⟨by decide, ?_⟩)
  obtain ⟨j, hj, e⟩ : ∃ j, j < 2 ^ 31 ∧ c &&& 2147483647 = nI j := pk_andE c (m := (2147483647 : Int32)) 31 (by decide)
  have e1 : 1 + ((c &&& 2147483647) - (c &&& 2147483647) / 3 * 3) = nI (1 + j % 3) := by
    rw [e]
    have h := pk_rem (a := j) (d := 3) hj (by omega) (by omega)
    show nI 1 + (nI j - nI j / nI 3 * nI 3) = _
    rw [h, nI_add]
  have hw1 : 1 ≤ 1 + j % 3 := by omega
  have hw3 : 1 + j % 3 ≤ 3 := by omega
  refine nm_r e1 ⟨11, 24414, by omega, by omega, ?_⟩
  generalize 1 + j % 3 = w at hw1 hw3 ⊢
  have e3 : 3 * nI w = nI (3 * w) := pk_mul 3 w
  unfold wpX_init
  refine ⟨by omega, by omega, by omega, by omega, by omega, by omega, by omega, by omega, by omega, by omega, by omega, by omega, by omega, by omega, by omega, by omega, by omega, by omega, by omega, by omega, by omega, by omega, ?_⟩
  refine pk_le 1 w (fun _ => pk_le w 4 (fun _ => nm_r e3 ⟨L + 1, ?_⟩) (fun z => absurd z (by omega))) (fun z => absurd z (by omega))
  exact bb_law24 hL L 1 13 0 0 0 _ _ _ _ _ _ _ _ _ _ _ (by omega) (by omega) (bb_init hw1 hw3)
end
