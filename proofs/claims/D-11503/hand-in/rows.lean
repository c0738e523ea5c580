section
/-! pure rows: sums, counts, ranks -/
def ws_sum (g : Nat → Nat) : Nat → Nat
  | 0 => 0
  | n + 1 => ws_sum g n + g n
theorem ws_sum_congr {g h : Nat → Nat} : ∀ n, (∀ i, i < n → g i = h i) → ws_sum g n = ws_sum h n := by
  intro n
  induction n with
  | zero => intro _; rfl
  | succ n ih =>
    intro e
    show ws_sum g n + g n = ws_sum h n + h n
    rw [ih (fun i hi => e i (by omega)), e n (by omega)]
theorem ws_sum_le {g : Nat → Nat} {B : Nat} : ∀ n, (∀ i, i < n → g i ≤ B) → ws_sum g n ≤ n * B := by
  intro n
  induction n with
  | zero => intro _; exact Nat.zero_le _
  | succ n ih =>
    intro e
    show ws_sum g n + g n ≤ (n + 1) * B
    have h1 := ih (fun i hi => e i (by omega))
    have h2 := e n (by omega)
    rw [Nat.succ_mul]
    omega
/-- the sum of an int array's first places -/
def ws_isum (a : Nat → Int32) : Nat → Int32
  | 0 => 0
  | n + 1 => ws_isum a n + a n
theorem ws_isum_nI {a : Nat → Int32} {g : Nat → Nat} : ∀ n, (∀ i, i < n → a i = nI (g i)) → ws_isum a n = nI (ws_sum g n) := by
  intro n
  induction n with
  | zero => intro _; exact nI_0.symm
  | succ n ih =>
    intro e
    show ws_isum a n + a n = nI (ws_sum g n + g n)
    rw [ih (fun i hi => e i (by omega)), e n (by omega), nI_add]
/-- how many places below n have P -/
def ws_cnt (P : Nat → Bool) : Nat → Nat
  | 0 => 0
  | n + 1 => ws_cnt P n + (if P n = true then 1 else 0)
theorem ws_cnt_t {P : Nat → Bool} {n : Nat} (h : P n = true) : ws_cnt P (n + 1) = ws_cnt P n + 1 := by
  show ws_cnt P n + (if P n = true then 1 else 0) = _
  rw [if_pos h]
theorem ws_cnt_f {P : Nat → Bool} {n : Nat} (h : ¬ P n = true) : ws_cnt P (n + 1) = ws_cnt P n := by
  show ws_cnt P n + (if P n = true then 1 else 0) = _
  rw [if_neg h, Nat.add_zero]
theorem ws_cnt_le (P : Nat → Bool) (n : Nat) : ws_cnt P n ≤ n := by
  induction n with
  | zero => exact Nat.le_refl 0
  | succ n ih =>
    by_cases h : P n = true
    · rw [ws_cnt_t h]; omega
    · rw [ws_cnt_f h]; omega
theorem ws_cnt_up (P : Nat → Bool) (n : Nat) : ∀ k, ws_cnt P n ≤ ws_cnt P (n + k) := by
  intro k
  induction k with
  | zero => exact Nat.le_refl _
  | succ k ih =>
    by_cases h : P (n + k) = true
    · rw [show n + (k + 1) = (n + k) + 1 by omega, ws_cnt_t h]; omega
    · rw [show n + (k + 1) = (n + k) + 1 by omega, ws_cnt_f h]; exact ih
theorem ws_cnt_upLe (P : Nat → Bool) {n k : Nat} (h : n ≤ k) : ws_cnt P n ≤ ws_cnt P k := by
  obtain ⟨e, rfl⟩ : ∃ e, k = n + e := ⟨k - n, by omega⟩
  exact ws_cnt_up P n e
theorem ws_cnt_mono {P Q : Nat → Bool} : ∀ n, (∀ i, i < n → P i = true → Q i = true) → ws_cnt P n ≤ ws_cnt Q n := by
  intro n
  induction n with
  | zero => intro _; exact Nat.le_refl 0
  | succ n ih =>
    intro e
    have h1 := ih (fun i hi => e i (by omega))
    by_cases h : P n = true
    · rw [ws_cnt_t h, ws_cnt_t (e n (by omega) h)]; omega
    · rw [ws_cnt_f h]
      exact Nat.le_trans h1 (ws_cnt_up Q n 1)
theorem ws_cnt_lt {P Q : Nat → Bool} {d : Nat} (hp : ¬ P d = true) (hq : Q d = true) : ∀ n, d < n → (∀ i, i < n → P i = true → Q i = true) → ws_cnt P n < ws_cnt Q n := by
  intro n
  induction n with
  | zero => intro h; omega
  | succ n ih =>
    intro hd e
    by_cases hn : d = n
    · subst hn
      have h1 := ws_cnt_mono d (fun i hi => e i (by omega))
      rw [ws_cnt_f hp, ws_cnt_t hq]; omega
    · have h1 := ih (by omega) (fun i hi => e i (by omega))
      by_cases h : P n = true
      · rw [ws_cnt_t h, ws_cnt_t (e n (by omega) h)]; omega
      · rw [ws_cnt_f h]
        exact Nat.lt_of_lt_of_le h1 (ws_cnt_up Q n 1)
theorem ws_cnt_congr {P Q : Nat → Bool} : ∀ n, (∀ i, i < n → P i = Q i) → ws_cnt P n = ws_cnt Q n := by
  intro n e
  exact Nat.le_antisymm (ws_cnt_mono n (fun i hi h => by rw [← e i hi]; exact h)) (ws_cnt_mono n (fun i hi h => by rw [e i hi]; exact h))
theorem ws_cnt_skip {P : Nat → Bool} {f : Nat} : ∀ k, (∀ e, f ≤ e → e < f + k → ¬ P e = true) → ws_cnt P (f + k) = ws_cnt P f := by
  intro k
  induction k with
  | zero => intro _; rfl
  | succ k ih =>
    intro h
    rw [show f + (k + 1) = (f + k) + 1 by omega, ws_cnt_f (h (f + k) (by omega) (by omega))]
    exact ih (fun e h1 h2 => h e h1 (by omega))
/-! the list of a word: c d t is how often document d has word t -/
def ws_h (c : Nat → Nat → Nat) (t d : Nat) : Bool := decide (0 < c d t)
def ws_r (c : Nat → Nat → Nat) (t n : Nat) : Nat := ws_cnt (ws_h c t) n
/-- the last document below n that has t, and one; 0 if there is none -/
def ws_p (c : Nat → Nat → Nat) (t : Nat) : Nat → Nat
  | 0 => 0
  | n + 1 => if 0 < c n t then n + 1 else ws_p c t n
theorem ws_r_t {c : Nat → Nat → Nat} {t n : Nat} (h : 0 < c n t) : ws_r c t (n + 1) = ws_r c t n + 1 := ws_cnt_t (decide_eq_true h)
theorem ws_r_f {c : Nat → Nat → Nat} {t n : Nat} (h : ¬ 0 < c n t) : ws_r c t (n + 1) = ws_r c t n := ws_cnt_f (fun z => h (of_decide_eq_true z))
theorem ws_r_le (c : Nat → Nat → Nat) (t n : Nat) : ws_r c t n ≤ n := ws_cnt_le _ n
theorem ws_r_up (c : Nat → Nat → Nat) (t : Nat) {f n : Nat} (h : f ≤ n) : ws_r c t f ≤ ws_r c t n := ws_cnt_upLe _ h
theorem ws_p_t {c : Nat → Nat → Nat} {t n : Nat} (h : 0 < c n t) : ws_p c t (n + 1) = n + 1 := if_pos h
theorem ws_p_f {c : Nat → Nat → Nat} {t n : Nat} (h : ¬ 0 < c n t) : ws_p c t (n + 1) = ws_p c t n := if_neg h
theorem ws_p_le (c : Nat → Nat → Nat) (t n : Nat) : ws_p c t n ≤ n := by
  induction n with
  | zero => exact Nat.le_refl 0
  | succ n ih =>
    by_cases h : 0 < c n t
    · rw [ws_p_t h]; omega
    · rw [ws_p_f h]; omega
theorem ws_next {c : Nat → Nat → Nat} {t : Nat} : ∀ k f, ws_r c t f < ws_r c t (f + k) → ∃ d, f ≤ d ∧ d < f + k ∧ 0 < c d t ∧ ws_r c t d = ws_r c t f ∧ ws_p c t d = ws_p c t f ∧ ∀ e, f ≤ e → e < d → c e t = 0 := by
  intro k
  induction k with
  | zero => intro f h; exact absurd h (Nat.lt_irrefl _)
  | succ k ih =>
    intro f h
    by_cases hc : 0 < c f t
    · exact ⟨f, by omega, by omega, hc, rfl, rfl, fun e h1 h2 => absurd h2 (by omega)⟩
    · have h' : ws_r c t (f + 1) < ws_r c t (f + 1 + k) := by
        rw [ws_r_f hc, show f + 1 + k = f + (k + 1) by omega]; exact h
      obtain ⟨d, d1, d2, d3, d4, d5, d6⟩ := ih (f + 1) h'
      refine ⟨d, by omega, by omega, d3, by rw [d4, ws_r_f hc], by rw [d5, ws_p_f hc], fun e h1 h2 => ?_⟩
      by_cases he : e = f
      · rw [he]; omega
      · exact d6 e (by omega) h2
theorem ws_nextN {c : Nat → Nat → Nat} {t f N : Nat} (hf : f ≤ N) (h : ws_r c t f < ws_r c t N) : ∃ d, f ≤ d ∧ d < N ∧ 0 < c d t ∧ ws_r c t d = ws_r c t f ∧ ws_p c t d = ws_p c t f ∧ ∀ e, f ≤ e → e < d → c e t = 0 := by
  obtain ⟨k, rfl⟩ : ∃ k, N = f + k := ⟨N - f, by omega⟩
  exact ws_next k f h
theorem ws_none {c : Nat → Nat → Nat} {t f N : Nat} (h : ws_r c t N ≤ ws_r c t f) : ∀ e, f ≤ e → e < N → c e t = 0 := by
  intro e h1 h2
  rcases Nat.eq_zero_or_pos (c e t) with z | z
  · exact z
  · have u1 := ws_r_up c t h1
    have u2 := ws_r_t z
    have u3 := ws_r_up c t (show e + 1 ≤ N by omega)
    omega
theorem ws_p_skip {c : Nat → Nat → Nat} {t f : Nat} : ∀ k, (∀ e, f ≤ e → e < f + k → c e t = 0) → ws_p c t (f + k) = ws_p c t f := by
  intro k
  induction k with
  | zero => intro _; rfl
  | succ k ih =>
    intro h
    rw [show f + (k + 1) = (f + k) + 1 by omega, ws_p_f (by rw [h (f + k) (by omega) (by omega)]; omega)]
    exact ih (fun e h1 h2 => h e h1 (by omega))
theorem ws_pN {c : Nat → Nat → Nat} {t f N : Nat} (hf : f ≤ N) (h : ws_r c t N ≤ ws_r c t f) : ws_p c t N = ws_p c t f := by
  obtain ⟨k, rfl⟩ : ∃ k, N = f + k := ⟨N - f, by omega⟩
  exact ws_p_skip k (ws_none h)
/-! the document variable: one less than p -/
def ws_m (p : Nat) : Int32 := nI p - 1
theorem ws_m_0 : ws_m 0 = -1 := by decide +kernel
theorem ws_m_s (d : Nat) : ws_m (d + 1) = nI d := nI_pred d
theorem ws_m_add {p d : Nat} (h : p ≤ d + 1) : ws_m p + nI (d + 1 - p) = nI d := by
  have e : nI p + nI (d + 1 - p) = nI (d + 1) := by rw [nI_add, show p + (d + 1 - p) = d + 1 by omega]
  rw [← nI_pred d, ← e]
  show nI p - 1 + nI (d + 1 - p) = _
  grind
theorem ws_m_sub {p d : Nat} (h : p ≤ d + 1) : nI d - ws_m p = nI (d + 1 - p) := by
  have e : nI d - ws_m p + ws_m p = nI (d + 1 - p) + ws_m p := by
    rw [Int32.add_comm (nI (d + 1 - p)), ws_m_add h, Int32.sub_add_cancel]
  grind
/-! strength -/
def ws_s (k l : Nat) : Nat := if 0 < k then 256 * k / (k + 2 + l / 4) else 0
theorem ws_s_0 (l : Nat) : ws_s 0 l = 0 := rfl
theorem ws_s_pos {k l : Nat} (h : 0 < k) : ws_s k l = 256 * k / (k + 2 + l / 4) := if_pos h
theorem ws_s_le (k l : Nat) : ws_s k l ≤ 256 := by
  by_cases h : 0 < k
  · rw [ws_s_pos h]
    exact Nat.div_le_of_le_mul (by omega)
  · rw [show k = 0 by omega, ws_s_0]; omega
/-- a truth as a Bool, and as the int of a Java boolean -/
noncomputable def ws_dec (P : Prop) : Bool := @decide P (Classical.propDecidable P)
theorem ws_dec_iff {P : Prop} : ws_dec P = true ↔ P := @decide_eq_true_iff P (Classical.propDecidable P)
def ws_b (b : Bool) : Int32 := if b = true then 1 else 0
theorem ws_b_t {b : Bool} (h : b = true) : ws_b b = 1 := if_pos h
theorem ws_b_f {b : Bool} (h : ¬ b = true) : ws_b b = 0 := if_neg h
theorem ws_b_z {b : Bool} {A B : Prop} (f : ¬ b = true → A) (g : b = true → B) : (ws_b b = 0 → A) ∧ (¬ ws_b b = 0 → B) := by
  cases b with
  | false => exact ⟨fun _ => f (by decide), fun z => absurd (show ws_b false = 0 from rfl) z⟩
  | true => exact ⟨fun z => absurd z (by decide), fun _ => g rfl⟩
/-! ints -/
theorem ws_m1 {n : Nat} (h : n < 2 ^ 31) : ¬ nI n ≤ -1 := by
  rw [Int32.le_iff_toInt_le, nI_toInt h, show (-1 : Int32).toInt = -1 by decide]; omega
theorem ws_m1l {n : Nat} (h : n < 2 ^ 31) : (-1 : Int32) < nI n := by
  rw [Int32.lt_iff_toInt_lt, nI_toInt h, show (-1 : Int32).toInt = -1 by decide]; omega
theorem ws_m1n {n : Nat} (h : n < 2 ^ 31) : ¬ nI n = -1 := by
  intro e
  exact ws_m1 h (by rw [e]; exact Int32.le_refl _)
theorem ws_m2n {n : Nat} (h : n < 2 ^ 31) : ¬ nI n = -2 := by
  intro e
  have := congrArg Int32.toInt e
  rw [nI_toInt h, show (-2 : Int32).toInt = -2 by decide] at this
  omega
theorem ws_byte : ∀ n, n < 128 → (nI n).toInt8.toInt32 = nI n := by decide +kernel
theorem ws_a15 : ∀ d, d < 4 → (nI 15 >>> (nI d &&& 31)) &&& 1 = 1 := by decide +kernel
end
section
/-! the small methods, and those that walk along a word's list -/
section
variable {f0 f1 f2 f3 f4 : Int32} {a1 a2 a3 a4 a5 a6 a7 a8 a9 a10 a11 a12 a13 a14 a15 : Nat → Int32}
theorem ws_strength {post : Int32 → Prop} {u : St0} {k l : Nat} (hk : k ≤ 7) (hl : l ≤ 100) (H : post (nI (ws_s k l))) : wpX_strength post u (nI k) (nI l) := by
  have e4 : nI l / 4 = nI (l / 4) := pk_div (a := l) (d := 4) (by omega) (by omega) (by omega)
  have e : nI k + 2 + nI l / 4 = nI (k + 2 + l / 4) := by
    rw [e4, show (2 : Int32) = nI 2 from rfl, nI_add, nI_add]
  have e2 : (256 : Int32) * nI k = nI (256 * k) := pk_mul 256 k
  unfold wpX_strength
  rw [e, e2]
  refine pk_lt 0 k (fun z => ⟨by decide, nI_ne0 (by omega) (by omega), ?_⟩) (fun z => ?_)
  · rw [pk_div (by omega) (by omega) (by omega)]
    rw [ws_s_pos z] at H
    exact H
  · rw [show k = 0 by omega, ws_s_0] at H
    exact H
theorem ws_isLive {post : Int32 → Prop} {d : Nat} (hd : d < 4) (H : post 1) : wpX_isLive post (nI 4, nI 15, f2, f3, f4, a1, a2, a3, a4, a5, a6, a7, a8, a9, a10, a11, a12, a13, a14, a15) (nI d) :=
  br_f (nI_pos (by omega)) (br_f (nI_ge hd (by omega)) (br_t (ws_a15 d hd) H))
theorem ws_draftLength {post : Int32 → Prop} (H : post (ws_isum a5 8)) : wpX_draftLength post (f0, f1, f2, f3, f4, a1, a2, a3, a4, a5, a6, a7, a8, a9, a10, a11, a12, a13, a14, a15) :=
  pk_loop (σ := Unit) (fun n i _ => wX_draftLength_4 post f0 f1 f2 f3 f4 a1 a2 a3 a4 a5 a6 a7 a8 a9 a10 a11 a12 a13 a14 a15 n (ws_isum a5 i) (nI i)) (fun _ _ => True) 8 0 () (by omega) trivial
    (fun n _ _ => pk_le 8 8 (fun _ => H) (fun z => absurd z (by omega)))
    (fun n i _ hi _ hw => pk_le 8 i (fun z => absurd z (by omega)) (fun _ => ⟨pk_in i 8 hi, nm_r (by rw [nI_clamp (show i < 2 ^ 31 by omega)]; rfl) (nm_r (nI_1 i) (hw () trivial))⟩))
theorem ws_liveCount {post : Int32 → Prop} (H : post (nI 4)) : wpX_liveCount post (nI 4, nI 15, f2, f3, f4, a1, a2, a3, a4, a5, a6, a7, a8, a9, a10, a11, a12, a13, a14, a15) :=
  pk_loop (σ := Unit) (fun n i _ => wX_liveCount_4 post (nI 4) (nI 15) f2 f3 f4 a1 a2 a3 a4 a5 a6 a7 a8 a9 a10 a11 a12 a13 a14 a15 n (nI i) (nI i)) (fun _ _ => True) 4 0 () (by omega) trivial
    (fun n _ _ => pk_le 4 4 (fun _ => H) (fun z => absurd z (by omega)))
    (fun n i _ hi _ hw => pk_le 4 i (fun z => absurd z (by omega)) (fun _ => nm_r (by rw [ws_a15 i hi]; exact nI_1 i) (nm_r (nI_1 i) (hw () trivial))))
/-- the list of word t over the first n documents -/
def ws_L (c : Nat → Nat → Nat) (n t : Nat) (a1 a2 : Nat → Int32) : Prop :=
  a2 t = nI (2 * ws_r c t n) ∧ ∀ d, d < n → 0 < c d t → a1 (48 * t + 2 * ws_r c t d) = nI (d + 1 - ws_p c t d) ∧ a1 (48 * t + 2 * ws_r c t d + 1) = nI (c d t)
theorem ws_ix (t k : Nat) : 48 * nI t + nI k = nI (48 * t + k) := by
  rw [show (48 : Int32) = nI 48 from rfl, pk_mul, nI_add]
theorem ws_lastOf {post : Int32 → Prop} {c : Nat → Nat → Nat} {N t : Nat} (hN : N ≤ 4) (ht : t < 8) (hL : ws_L c N t a1 a2) (H : post (ws_m (ws_p c t N))) : wpX_lastOf post (f0, f1, f2, f3, f4, a1, a2, a3, a4, a5, a6, a7, a8, a9, a10, a11, a12, a13, a14, a15) (nI t) := by
  have L := loop_m (fun n f => wX_lastOf_4 post (nI t) f0 f1 f2 f3 f4 a1 a2 a3 a4 a5 a6 a7 a8 a9 a10 a11 a12 a13 a14 a15 n (ws_m (ws_p c t f)) (nI (2 * ws_r c t f))) (fun f => f ≤ N) (fun f => N - f) (fun n f hf hw => by
    have b1 := ws_r_le c t N
    have b2 := ws_r_le c t f
    have b3 := ws_r_up c t hf
    have ec : (nI t).toNatClampNeg = t := nI_clamp (by omega)
    refine ⟨vp_in_nI ht (by omega), ?_⟩
    rw [ec, hL.1]
    refine pk_le (2 * ws_r c t N) (2 * ws_r c t f) (fun z => ?_) (fun z => ?_)
    · rw [← ws_pN hf (by omega)]; exact H
    · obtain ⟨d, d1, d2, d3, d4, d5, d6⟩ := ws_nextN hf (show ws_r c t f < ws_r c t N by omega)
      have q := hL.2 d d2 d3
      rw [d4, d5] at q
      have pl := ws_p_le c t f
      rw [ws_ix, nI_clamp (show 48 * t + 2 * ws_r c t f < 2 ^ 31 by omega)]
      refine ⟨vp_in_nI (by omega) (by omega), nm_r (e' := ws_m (ws_p c t (d + 1))) ?_ (nm_r (e' := nI (2 * ws_r c t (d + 1))) ?_ (hw (d + 1) (by omega) (by omega)))⟩
      · rw [q.1, ws_m_add (by omega), ws_p_t d3, ws_m_s]
      · rw [ws_r_t d3, d4, show (2 : Int32) = nI 2 from rfl, nI_add]
        exact congrArg nI (by omega)) 0 (Nat.zero_le _)
  obtain ⟨n, hn⟩ := L
  have hn' : wX_lastOf_4 post (nI t) f0 f1 f2 f3 f4 a1 a2 a3 a4 a5 a6 a7 a8 a9 a10 a11 a12 a13 a14 a15 n (ws_m 0) (nI 0) := hn
  rw [ws_m_0] at hn'
  exact ⟨n, hn'⟩
theorem ws_spreadOf {post : Int32 → Prop} {c : Nat → Nat → Nat} {t : Nat} (ht : t < 8) (hL : ws_L c 4 t a1 a2) (H : post (nI (ws_r c t 4))) : wpX_spreadOf post (f0, nI 15, f2, f3, f4, a1, a2, a3, a4, a5, a6, a7, a8, a9, a10, a11, a12, a13, a14, a15) (nI t) := by
  have L := loop_m (fun n f => wX_spreadOf_7 post (nI t) f0 (nI 15) f2 f3 f4 a1 a2 a3 a4 a5 a6 a7 a8 a9 a10 a11 a12 a13 a14 a15 n (ws_m (ws_p c t f)) (nI (ws_r c t f)) (nI (2 * ws_r c t f))) (fun f => f ≤ 4) (fun f => 4 - f) (fun n f hf hw => by
    have b1 := ws_r_le c t 4
    have b2 := ws_r_le c t f
    have b3 := ws_r_up c t hf
    have ec : (nI t).toNatClampNeg = t := nI_clamp (by omega)
    refine ⟨vp_in_nI ht (by omega), ?_⟩
    rw [ec, hL.1]
    refine pk_le (2 * ws_r c t 4) (2 * ws_r c t f) (fun z => ?_) (fun z => ?_)
    · rw [show ws_r c t f = ws_r c t 4 by omega]; exact H
    · obtain ⟨d, d1, d2, d3, d4, d5, d6⟩ := ws_nextN hf (show ws_r c t f < ws_r c t 4 by omega)
      have q := hL.2 d d2 d3
      rw [d4, d5] at q
      have pl := ws_p_le c t f
      rw [ws_ix, nI_clamp (show 48 * t + 2 * ws_r c t f < 2 ^ 31 by omega)]
      refine ⟨vp_in_nI (by omega) (by omega), nm_r (e' := nI d) ?_ (nm_r (e' := nI (ws_r c t (d + 1))) ?_ (nm_r (e' := nI (2 * ws_r c t (d + 1))) ?_ ?_))⟩
      · rw [q.1, ws_m_add (by omega)]
      · rw [ws_a15 d d2, nI_1, ws_r_t d3, d4]
      · rw [ws_r_t d3, d4, show (2 : Int32) = nI 2 from rfl, nI_add]
        exact congrArg nI (by omega)
      · have w := hw (d + 1) (by omega) (by omega)
        rw [ws_p_t d3, ws_m_s] at w
        exact w) 0 (Nat.zero_le _)
  obtain ⟨n, hn⟩ := L
  have hn' : wX_spreadOf_7 post (nI t) f0 (nI 15) f2 f3 f4 a1 a2 a3 a4 a5 a6 a7 a8 a9 a10 a11 a12 a13 a14 a15 n (ws_m 0) (nI 0) (nI 0) := hn
  rw [ws_m_0] at hn'
  exact ⟨n, hn'⟩
theorem ws_greatest {post : Int32 → Prop} {c : Nat → Nat → Nat} {len : Nat → Nat} {t : Nat} (ht : t < 8) (hL : ws_L c 4 t a1 a2) (hc : ∀ d t, c d t ≤ 7) (hl : ∀ d, len d ≤ 100) (h4 : ∀ d, d < 4 → a4 d = nI (len d)) (H : ∀ g, g ≤ 256 → post (nI g)) : wpX_greatest post (f0, f1, f2, f3, f4, a1, a2, a3, a4, a5, a6, a7, a8, a9, a10, a11, a12, a13, a14, a15) (nI t) := by
  have L := loop_m (σ := Nat × Nat) (fun n s => wX_greatest_7 post (nI t) f0 f1 f2 f3 f4 a1 a2 a3 a4 a5 a6 a7 a8 a9 a10 a11 a12 a13 a14 a15 n (ws_m (ws_p c t s.1)) (nI s.2) (nI (2 * ws_r c t s.1))) (fun s => s.1 ≤ 4 ∧ s.2 ≤ 256) (fun s => 4 - s.1) (fun n s hs hw => by
    obtain ⟨f, g⟩ := s
    obtain ⟨hf, hg⟩ := hs
    dsimp only at hf hg hw ⊢
    have b1 := ws_r_le c t 4
    have b2 := ws_r_le c t f
    have b3 := ws_r_up c t hf
    have ec : (nI t).toNatClampNeg = t := nI_clamp (by omega)
    refine ⟨vp_in_nI ht (by omega), ?_⟩
    rw [ec, hL.1]
    refine pk_le (2 * ws_r c t 4) (2 * ws_r c t f) (fun z => ?_) (fun z => ?_)
    · exact H g hg
    · obtain ⟨d, d1, d2, d3, d4, d5, d6⟩ := ws_nextN hf (show ws_r c t f < ws_r c t 4 by omega)
      have q := hL.2 d d2 d3
      rw [d4, d5] at q
      have pl := ws_p_le c t f
      have e2 : nI (2 * ws_r c t f) + 2 = nI (2 * ws_r c t (d + 1)) := by
        rw [ws_r_t d3, d4, show (2 : Int32) = nI 2 from rfl, nI_add]
        exact congrArg nI (by omega)
      have w := fun g' (hg' : g' ≤ 256) => hw (d + 1, g') ⟨by show d + 1 ≤ 4; omega, hg'⟩ (by show 4 - (d + 1) < 4 - f; omega)
      dsimp only at w
      rw [ws_p_t d3, ws_m_s] at w
      rw [ws_ix, nI_clamp (show 48 * t + 2 * ws_r c t f < 2 ^ 31 by omega), nI_1, nI_clamp (show 48 * t + 2 * ws_r c t f + 1 < 2 ^ 31 by omega)]
      refine ⟨vp_in_nI (by omega) (by omega), nm_r (e' := nI d) (by rw [q.1, ws_m_add (by omega)]) ⟨vp_in_nI (by omega) (by omega), vp_in_nI (by omega) (by omega), ?_⟩⟩
      rw [nI_clamp (show d < 2 ^ 31 by omega), q.2, h4 d d2]
      have sl := ws_s_le (c d t) (len d)
      exact ws_strength (hc d t) (hl d) (pk_le (ws_s (c d t) (len d)) g (fun _ => nm_r e2 (w g hg)) (fun _ => nm_r e2 (w _ sl)))) (0, 0) ⟨Nat.zero_le _, Nat.zero_le _⟩
  obtain ⟨n, hn⟩ := L
  have hn' : wX_greatest_7 post (nI t) f0 f1 f2 f3 f4 a1 a2 a3 a4 a5 a6 a7 a8 a9 a10 a11 a12 a13 a14 a15 n (ws_m 0) (nI 0) (nI 0) := hn
  rw [ws_m_0] at hn'
  exact ⟨n, hn'⟩
end
end
section
/-! moveTo: a cursor at the first document of its list that is at least f -/
def ws_at (c : Nat → Nat → Nat) (t f : Nat) (cu dc oc : Int32) : Prop :=
  (∃ d, f ≤ d ∧ d < 4 ∧ 0 < c d t ∧ (∀ e, f ≤ e → e < d → c e t = 0) ∧ cu = nI (2 * ws_r c t d) ∧ dc = nI d ∧ oc = nI (c d t)) ∨ ((∀ e, f ≤ e → e < 4 → c e t = 0) ∧ dc = 1000)
/-- arrays that differ at place j alone -/
def ws_off (j : Nat) (a8 a9 a10 b8 b9 b10 : Nat → Int32) : Prop := ∀ i, i ≠ j → b8 i = a8 i ∧ b9 i = a9 i ∧ b10 i = a10 i
theorem ws_off_refl (j : Nat) (a8 a9 a10 : Nat → Int32) : ws_off j a8 a9 a10 a8 a9 a10 := fun _ _ => ⟨rfl, rfl, rfl⟩
theorem ws_off_trans {j : Nat} {a8 a9 a10 b8 b9 b10 d8 d9 d10 : Nat → Int32} (h : ws_off j a8 a9 a10 b8 b9 b10) (k : ws_off j b8 b9 b10 d8 d9 d10) : ws_off j a8 a9 a10 d8 d9 d10 := fun i hi =>
  ⟨by rw [(k i hi).1, (h i hi).1], by rw [(k i hi).2.1, (h i hi).2.1], by rw [(k i hi).2.2, (h i hi).2.2]⟩
section
variable {f0 f1 f2 f3 f4 : Int32} {a1 a2 a3 a4 a5 a6 a7 a8 a9 a10 a11 a12 a13 a14 a15 : Nat → Int32}
theorem ws_mv42 {post : St2 → Prop} {J : (Nat → Int32) → (Nat → Int32) → (Nat → Int32) → (Nat → Int32) → (Nat → Int32) → (Nat → Int32) → (Nat → Int32) → (Nat → Int32) → (Nat → Int32) → (Nat → Int32) → (Nat → Int32) → (Nat → Int32) → (Nat → Int32) → (Nat → Int32) → (Nat → Int32) → Prop} {x2 : Int32} {c : Nat → Nat → Nat} {j t h : Nat} (hj : j < 5) (ht : t < 8) (hh : h ≤ 4) (hL : ws_L c 4 t a1 a2) (hp : a8 j + 2 = nI (2 * ws_r c t h)) (hd : a9 j = ws_m (ws_p c t h))
    (H : ∀ b8 b9 b10, ws_off j a8 a9 a10 b8 b9 b10 → ws_at c t h (b8 j) (b9 j) (b10 j) → J a1 a2 a3 a4 a5 a6 a7 b8 b9 b10 a11 a12 a13 a14 a15) :
    wX_moveTo_42 post J (nI j) x2 (nI t) f0 f1 f2 f3 f4 a1 a2 a3 a4 a5 a6 a7 a8 a9 a10 a11 a12 a13 a14 a15 := by
  have ej : (nI j).toNatClampNeg = j := nI_clamp (by omega)
  have et : (nI t).toNatClampNeg = t := nI_clamp (by omega)
  have vj : vp_in (nI j) 5 := vp_in_nI hj (by omega)
  have vt : vp_in (nI t) 8 := vp_in_nI ht (by omega)
  have b1 := ws_r_le c t 4
  have b2 := ws_r_le c t h
  have b3 := ws_r_up c t hh
  unfold wX_moveTo_42
  rw [ej, et, hp, hL.1]
  refine ⟨vj, vj, ?_⟩
  intro a8' e8
  have e8j : a8' j = nI (2 * ws_r c t h) := by rw [e8, pk_us]
  rw [e8j, ws_ix, nI_1, nI_clamp (show 48 * t + 2 * ws_r c t h < 2 ^ 31 by omega), nI_clamp (show 48 * t + 2 * ws_r c t h + 1 < 2 ^ 31 by omega)]
  refine ⟨vj, vt, pk_lt (2 * ws_r c t h) (2 * ws_r c t 4) (fun z => ?_) (fun z => ?_)⟩
  · obtain ⟨d, d1, d2, d3, d4, d5, d6⟩ := ws_nextN hh (show ws_r c t h < ws_r c t 4 by omega)
    have q := hL.2 d d2 d3
    rw [d4, d5] at q
    have pl := ws_p_le c t h
    refine ⟨vj, vj, vp_in_nI (by omega) (by omega), vj, ?_⟩
    intro a9' e9
    refine ⟨vj, vp_in_nI (by omega) (by omega), vj, ?_⟩
    intro a10' e10
    refine H a8' a9' a10' (fun i hi => ⟨?_, ?_, ?_⟩) (Or.inl ⟨d, d1, d2, d3, d6, ?_, ?_, ?_⟩)
    · rw [e8, pk_un hi]
    · rw [e9, pk_un hi]
    · rw [e10, pk_un hi]
    · rw [e8j, d4]
    · rw [e9, pk_us, hd, q.1, ws_m_add (by omega)]
    · rw [e10, pk_us, q.2]
  · refine ⟨vj, ?_⟩
    intro a9' e9
    refine H a8' a9' a10 (fun i hi => ⟨?_, ?_, rfl⟩) (Or.inr ⟨ws_none (by omega), ?_⟩)
    · rw [e8, pk_un hi]
    · rw [e9, pk_un hi]
    · rw [e9, pk_us]
/-- where a cursor may stand when it is moved to g: ahead of its list (tag 0), or at f ≤ g (tag f + 1) -/
def ws_mI (c : Nat → Nat → Nat) (t g k : Nat) (cu dc oc : Int32) : Prop := (k = 0 ∧ cu = -2 ∧ dc = -1) ∨ ∃ f, k = f + 1 ∧ f ≤ g ∧ ws_at c t f cu dc oc
theorem ws_mv7 {post : St2 → Prop} {c : Nat → Nat → Nat} {j t g k : Nat} (hj : j < 5) (ht : t < 8) (hg : g ≤ 4) (hL : ws_L c 4 t a1 a2) (hk : ws_mI c t g k (a8 j) (a9 j) (a10 j))
    (H : ∀ b8 b9 b10, ws_off j a8 a9 a10 b8 b9 b10 → ws_at c t g (b8 j) (b9 j) (b10 j) → post (nI 4, nI 15, f2, f3, f4, a1, a2, a3, a4, a5, a6, a7, b8, b9, b10, a11, a12, a13, a14, a15)) :
    ∃ n, wX_moveTo_7 post (nI j) (nI g) (nI t) (nI 4) (nI 15) f2 f3 f4 n a1 a2 a3 a4 a5 a6 a7 a8 a9 a10 a11 a12 a13 a14 a15 := by
  have ej : (nI j).toNatClampNeg = j := nI_clamp (by omega)
  have vj : vp_in (nI j) 5 := vp_in_nI hj (by omega)
  refine loop_m (σ := Nat × (Nat → Int32) × (Nat → Int32) × (Nat → Int32)) (fun n s => wX_moveTo_7 post (nI j) (nI g) (nI t) (nI 4) (nI 15) f2 f3 f4 n a1 a2 a3 a4 a5 a6 a7 s.2.1 s.2.2.1 s.2.2.2 a11 a12 a13 a14 a15)
    (fun s => ws_off j a8 a9 a10 s.2.1 s.2.2.1 s.2.2.2 ∧ ws_mI c t g s.1 (s.2.1 j) (s.2.2.1 j) (s.2.2.2 j)) (fun s => 6 - s.1) ?_ (k, a8, a9, a10) ⟨ws_off_refl j a8 a9 a10, hk⟩
  rintro n ⟨k, b8, b9, b10⟩ ⟨hO, hI⟩ hw
  dsimp only at hO hI hw ⊢
  refine ⟨vj, ?_⟩
  rw [ej]
  have step : ∀ h, h ≤ g → k < h + 1 → k < 6 → b8 j + 2 = nI (2 * ws_r c t h) → b9 j = ws_m (ws_p c t h) → wX_moveTo_42 post (wX_moveTo_7 post (nI j) (nI g) (nI t) (nI 4) (nI 15) f2 f3 f4 n) (nI j) (nI g) (nI t) (nI 4) (nI 15) f2 f3 f4 a1 a2 a3 a4 a5 a6 a7 b8 b9 b10 a11 a12 a13 a14 a15 := by
    intro h hh hkh hk6 e8 e9
    refine ws_mv42 hj ht (by omega) hL e8 e9 (fun d8 d9 d10 o at' => ?_)
    exact hw (h + 1, d8, d9, d10) ⟨ws_off_trans hO o, Or.inr ⟨h, rfl, hh, at'⟩⟩ (by show 6 - (h + 1) < 6 - k; omega)
  rcases hI with ⟨rfl, i8, i9⟩ | ⟨f, rfl, hf, hat⟩
  · rw [i9]
    refine br_f (by decide) ⟨vj, br_t (ws_m1l (by omega)) ?_⟩
    exact step 0 (by omega) (by omega) (by omega) (by rw [i8]; exact (show (-2 : Int32) + 2 = nI 0 by decide +kernel)) (by rw [i9]; exact ws_m_0.symm)
  · rcases hat with ⟨d, d1, d2, d3, d4, d5, d6, d7⟩ | ⟨d1, d2⟩
    · rw [d6]
      refine pk_eq d 1000 (fun z => absurd z (by omega)) (fun _ => ⟨vj, pk_lt d g (fun z => ?_) (fun z => ⟨vj, ws_isLive d2 (br_f (by decide) (H b8 b9 b10 hO (Or.inl ⟨d, z, d2, d3, fun e h1 h2 => d4 e (by omega) h2, d5, d6, d7⟩)))⟩)⟩)
      refine step (d + 1) (by omega) (by omega) (by omega) ?_ ?_
      · rw [d5, ws_r_t d3, show (2 : Int32) = nI 2 from rfl, nI_add]
        exact congrArg nI (by omega)
      · rw [d6, ws_p_t d3, ws_m_s]
    · exact br_t d2 (H b8 b9 b10 hO (Or.inr ⟨fun e h1 h2 => d1 e (by omega) h2, d2⟩))
theorem ws_moveTo {post : St2 → Prop} {c : Nat → Nat → Nat} {j t g k : Nat} {p0 p1 : Int32} (hj : j < 5) (ht : t < 8) (hg : g ≤ 4) (hL : ws_L c 4 t a1 a2) (h13 : a13 j = nI t) (hk : ws_mI c t g k (a8 j) (a9 j) (a10 j)) (e0 : p0 = nI j) (e1 : p1 = nI g)
    (H : ∀ b8 b9 b10, ws_off j a8 a9 a10 b8 b9 b10 → ws_at c t g (b8 j) (b9 j) (b10 j) → post (nI 4, nI 15, f2, f3, f4, a1, a2, a3, a4, a5, a6, a7, b8, b9, b10, a11, a12, a13, a14, a15)) :
    wpX_moveTo post (nI 4, nI 15, f2, f3, f4, a1, a2, a3, a4, a5, a6, a7, a8, a9, a10, a11, a12, a13, a14, a15) p0 p1 := by
  subst e0 e1
  exact ⟨vp_in_nI hj (by omega), nm_r (by rw [nI_clamp (show j < 2 ^ 31 by omega), h13]) (ws_mv7 hj ht hg hL hk H)⟩
end
end
section
/-! the lanes: what openLanes makes of the items -/
def ws_ov (g : Nat → Nat) (n x : Nat) : Nat → Nat := fun j => if j = n then x else g j
theorem ws_ov_s (g : Nat → Nat) (n x : Nat) : ws_ov g n x n = x := if_pos rfl
theorem ws_ov_n (g : Nat → Nat) {n j : Nat} (x : Nat) (h : j ≠ n) : ws_ov g n x j = g j := if_neg h
/-- what no query changes: the lists, the counts, the lengths, the items -/
def ws_B (c : Nat → Nat → Nat) (len : Nat → Nat) (m : Nat) (iw ib : Nat → Nat) (a1 a2 a3 a4 a6 a7 : Nat → Int32) : Prop :=
  (∀ d t, c d t ≤ 7) ∧ (∀ d, len d ≤ 100) ∧ (∀ t, t < 8 → ws_L c 4 t a1 a2) ∧ (∀ d t, d < 4 → t < 8 → a3 (8 * d + t) = nI (c d t)) ∧ (∀ d, d < 4 → a4 d = nI (len d)) ∧ m ≤ 3 ∧ ∀ i, i < m → iw i < 8 ∧ ib i < 20 ∧ ib i ≠ 10 ∧ a6 i = nI (iw i) ∧ a7 i = nI (ib i)
/-- the weight of a word under a boost -/
def ws_w (c : Nat → Nat → Nat) (b t : Nat) : Nat := b % 10 * (320 / (ws_r c t 4 + 1))
theorem ws_w_le (c : Nat → Nat → Nat) (b t : Nat) : ws_w c b t ≤ 2880 := by
  have h1 : b % 10 ≤ 9 := by omega
  have h2 : 320 / (ws_r c t 4 + 1) ≤ 320 := Nat.div_le_self _ _
  exact Nat.mul_le_mul h1 h2
/-- the lanes against the first k items -/
def ws_Qk (c : Nat → Nat → Nat) (iw ib : Nat → Nat) (n : Nat) (lw wt : Nat → Nat) (k : Nat) : Prop :=
  n ≤ k ∧ (∀ F : Nat → Nat, ws_sum (fun j => wt j * F (lw j)) n = ws_sum (fun i => ws_w c (ib i) (iw i) * F (iw i)) k) ∧ ∀ i, i < k → 0 < ib i → ∃ j, j < n ∧ lw j = iw i
theorem ws_Qk_0 {c : Nat → Nat → Nat} {iw ib lw wt : Nat → Nat} : ws_Qk c iw ib 0 lw wt 0 := ⟨Nat.le_refl 0, fun _ => rfl, fun i hi => absurd hi (by omega)⟩
theorem ws_Qk_skip {c : Nat → Nat → Nat} {iw ib lw wt : Nat → Nat} {n k : Nat} (h : ws_Qk c iw ib n lw wt k) (z : ib k = 0) : ws_Qk c iw ib n lw wt (k + 1) := by
  obtain ⟨h1, h2, h3⟩ := h
  refine ⟨by omega, fun F => ?_, fun i hi hb => ?_⟩
  · rw [h2 F]
    show _ = ws_sum _ k + ws_w c (ib k) (iw k) * F (iw k)
    rw [z, show ws_w c 0 (iw k) = 0 from Nat.zero_mul _, Nat.zero_mul, Nat.add_zero]
  · by_cases e : i = k
    · rw [e, z] at hb; omega
    · exact h3 i (by omega) hb
theorem ws_Qk_add {c : Nat → Nat → Nat} {iw ib lw wt : Nat → Nat} {n k : Nat} (h : ws_Qk c iw ib n lw wt k) : ws_Qk c iw ib (n + 1) (ws_ov lw n (iw k)) (ws_ov wt n (ws_w c (ib k) (iw k))) (k + 1) := by
  obtain ⟨h1, h2, h3⟩ := h
  refine ⟨by omega, fun F => ?_, fun i hi hb => ?_⟩
  · show ws_sum _ n + ws_ov wt n (ws_w c (ib k) (iw k)) n * F (ws_ov lw n (iw k) n) = ws_sum _ k + ws_w c (ib k) (iw k) * F (iw k)
    rw [ws_ov_s, ws_ov_s, ← h2 F]
    congr 1
    exact ws_sum_congr n (fun i hi => by rw [ws_ov_n _ _ (by omega), ws_ov_n _ _ (by omega)])
  · by_cases e : i = k
    · exact ⟨n, by omega, by rw [ws_ov_s, e]⟩
    · obtain ⟨j, hj, ej⟩ := h3 i (by omega) hb
      exact ⟨j, by omega, by rw [ws_ov_n _ _ (by omega), ej]⟩
/-- the lanes' arrays: lane j stands at fr j -/
def ws_LN (c : Nat → Nat → Nat) (n : Nat) (lw wt fr : Nat → Nat) (a8 a9 a10 a11 a12 a13 : Nat → Int32) : Prop :=
  ∀ j, j < n → lw j < 8 ∧ a11 j = nI (wt j) ∧ a13 j = nI (lw j) ∧ (∃ b, b ≤ 1000000 ∧ a12 j = nI b) ∧ ws_at c (lw j) (fr j) (a8 j) (a9 j) (a10 j)
theorem ws_LN_add {c : Nat → Nat → Nat} {n t w g : Nat} {lw wt : Nat → Nat} {a8 a9 a10 a11 a12 a13 b8 b9 b10 : Nat → Int32} (h : ws_LN c n lw wt (fun _ => 0) a8 a9 a10 a11 a12 a13) (o : ws_off n a8 a9 a10 b8 b9 b10) (ht : t < 8) (hw : w ≤ 2880) (hg : g ≤ 256) (hat : ws_at c t 0 (b8 n) (b9 n) (b10 n)) :
    ws_LN c (n + 1) (ws_ov lw n t) (ws_ov wt n w) (fun _ => 0) b8 b9 b10 (upd a11 n (nI w)) (upd a12 n (nI (w * g))) (upd a13 n (nI t)) := by
  intro j hj
  by_cases e : j = n
  · subst e
    rw [ws_ov_s, ws_ov_s, pk_us, pk_us, pk_us]
    have := Nat.mul_le_mul hw hg
    exact ⟨ht, rfl, rfl, ⟨w * g, by omega, rfl⟩, hat⟩
  · rw [ws_ov_n _ _ e, ws_ov_n _ _ e, pk_un e, pk_un e, pk_un e, (o j e).1, (o j e).2.1, (o j e).2.2]
    exact h j (by omega)
section
variable {f0 f1 f2 f3 f4 : Int32} {a1 a2 a3 a4 a5 a6 a7 a8 a9 a10 a11 a12 a13 a14 a15 : Nat → Int32}
theorem ws_ol65 {post : St2 → Prop} {J : Int32 → Int32 → Int32 → Int32 → Int32 → Int32 → (Nat → Int32) → (Nat → Int32) → (Nat → Int32) → (Nat → Int32) → (Nat → Int32) → (Nat → Int32) → (Nat → Int32) → (Nat → Int32) → (Nat → Int32) → (Nat → Int32) → (Nat → Int32) → (Nat → Int32) → (Nat → Int32) → (Nat → Int32) → (Nat → Int32) → Prop} {c : Nat → Nat → Nat} {len : Nat → Nat} {n k t b : Nat} {z0 : Int32} (hn : n < 5) (ht : t < 8) (hc : ∀ d t, c d t ≤ 7) (hl : ∀ d, len d ≤ 100) (h4 : ∀ d, d < 4 → a4 d = nI (len d)) (hL : ws_L c 4 t a1 a2) (hz : z0 = nI (b % 10))
    (H : ∀ g b8 b9 b10, g ≤ 256 → ws_off n a8 a9 a10 b8 b9 b10 → ws_at c t 0 (b8 n) (b9 n) (b10 n) → J (nI (k + 1)) (nI 4) (nI 15) f2 (nI (n + 1)) f4 a1 a2 a3 a4 a5 a6 a7 b8 b9 b10 (upd a11 n (nI (ws_w c b t))) (upd a12 n (nI (ws_w c b t * g))) (upd a13 n (nI t)) a14 a15) :
    wX_openLanes_65 post J (nI 4) (nI k) (nI t) z0 (nI 4) (nI 15) f2 (nI n) f4 a1 a2 a3 a4 a5 a6 a7 a8 a9 a10 a11 a12 a13 a14 a15 := by
  subst hz
  have en : (nI n).toNatClampNeg = n := nI_clamp (by omega)
  have vn : vp_in (nI n) 5 := vp_in_nI hn (by omega)
  have r4 := ws_r_le c t 4
  unfold wX_openLanes_65
  rw [en]
  refine ws_spreadOf ht hL ⟨?_, ?_⟩
  · rw [nI_1]
    exact nI_ne0 (by omega) (by omega)
  · refine nm_r (e' := nI (320 / (ws_r c t 4 + 1))) ?_ ⟨vn, ?_⟩
    · rw [nI_1, nI_1, show (64 : Int32) = nI 64 from rfl, pk_mul, pk_div (by omega) (by omega) (by omega)]
    · intro a11' e11
      rw [pk_mul] at e11
      refine ws_greatest ht hL hc hl h4 (fun g hg => ⟨vn, ?_⟩)
      intro a12' e12
      rw [pk_mul, pk_mul] at e12
      refine ⟨vn, ?_⟩
      intro a13' e13
      refine ⟨vn, ?_⟩
      intro a8' e8
      refine ⟨vn, ?_⟩
      intro a9' e9
      refine nm_r (nI_1 n) ?_
      refine ws_moveTo (c := c) (j := n) (t := t) (g := 0) (k := 0) hn ht (by omega) hL (by rw [e13, pk_us]) (Or.inl ⟨rfl, by rw [e8, pk_us], by rw [e9, pk_us]⟩) (nI_pred n) nI_0.symm (fun b8 b9 b10 o at' => ?_)
      refine nm_r (nI_1 k) ?_
      subst e11 e12 e13
      refine H g b8 b9 b10 hg (fun i hi => ?_) at'
      have oi := o i hi
      rw [e8, e9, pk_un hi, pk_un hi] at oi
      exact oi
theorem ws_openLanes {post : St2 → Prop} {c : Nat → Nat → Nat} {len iw ib : Nat → Nat} {m : Nat} (hB : ws_B c len m iw ib a1 a2 a3 a4 a6 a7)
    (H : ∀ n lw wt b8 b9 b10 b11 b12 b13, ws_Qk c iw ib n lw wt m → ws_LN c n lw wt (fun _ => 0) b8 b9 b10 b11 b12 b13 → post (nI 4, nI 15, nI m, nI n, f4, a1, a2, a3, a4, a5, a6, a7, b8, b9, b10, b11, b12, b13, a14, a15)) :
    wpX_openLanes post (nI 4, nI 15, nI m, f3, f4, a1, a2, a3, a4, a5, a6, a7, a8, a9, a10, a11, a12, a13, a14, a15) := by
  obtain ⟨hc, hl, hL, h3, h4, hm, hi⟩ := hB
  unfold wpX_openLanes
  refine ws_liveCount ?_
  refine pk_loop (σ := Nat × (Nat → Int32) × (Nat → Int32) × (Nat → Int32) × (Nat → Int32) × (Nat → Int32) × (Nat → Int32)) (fun n i s => wX_openLanes_12 post (nI 4) n (nI i) (nI 4) (nI 15) (nI m) (nI s.1) f4 a1 a2 a3 a4 a5 a6 a7 s.2.1 s.2.2.1 s.2.2.2.1 s.2.2.2.2.1 s.2.2.2.2.2.1 s.2.2.2.2.2.2 a14 a15)
    (fun i s => ∃ lw wt, ws_Qk c iw ib s.1 lw wt i ∧ ws_LN c s.1 lw wt (fun _ => 0) s.2.1 s.2.2.1 s.2.2.2.1 s.2.2.2.2.1 s.2.2.2.2.2.1 s.2.2.2.2.2.2) m 0 (0, a8, a9, a10, a11, a12, a13) (Nat.zero_le _) ⟨fun _ => 0, fun _ => 0, ws_Qk_0, fun j hj => absurd hj (Nat.not_lt_zero _)⟩ ?_ ?_
  · rintro n ⟨k, b8, b9, b10, b11, b12, b13⟩ ⟨lw, wt, hQ, hN⟩
    exact pk_le m m (fun _ => H k lw wt b8 b9 b10 b11 b12 b13 hQ hN) (fun z => absurd z (by omega))
  · rintro n i ⟨k, b8, b9, b10, b11, b12, b13⟩ hi' ⟨lw, wt, hQ, hN⟩ hw
    dsimp only at hQ hN hw ⊢
    obtain ⟨i1, i2, i3, i4, i5⟩ := hi i hi'
    have hk := hQ.1
    have ei : (nI i).toNatClampNeg = i := nI_clamp (by omega)
    have vi : vp_in (nI i) 5 := vp_in_nI (by omega) (by omega)
    refine pk_le m i (fun z => absurd z (by omega)) (fun _ => ⟨vi, ?_⟩)
    rw [ei, i4, i5]
    have go : ∀ z0 : Int32, z0 = nI (ib i % 10) → wX_openLanes_65 post (wX_openLanes_12 post (nI 4) n) (nI 4) (nI i) (nI (iw i)) z0 (nI 4) (nI 15) (nI m) (nI k) f4 a1 a2 a3 a4 a5 a6 a7 b8 b9 b10 b11 b12 b13 a14 a15 := by
      intro z0 hz
      refine ws_ol65 (b := ib i) (by omega) i1 hc hl h4 (hL _ i1) hz (fun g d8 d9 d10 hg o at' => ?_)
      exact hw (k + 1, d8, d9, d10, _, _, _) ⟨_, _, ws_Qk_add hQ, ws_LN_add hN o i1 (ws_w_le _ _ _) hg at'⟩
    refine pk_le (ib i) 0 (fun z => nm_r (nI_1 i) (hw (k, b8, b9, b10, b11, b12, b13) ⟨lw, wt, ws_Qk_skip hQ (by omega), hN⟩)) (fun z => ⟨vi, nm_e ⟨vi, pk_le (ib i) 10 (fun z2 => ⟨vi, go _ ?_⟩) (fun z2 => ⟨vi, go _ ?_⟩)⟩⟩)
    · rw [Nat.mod_eq_of_lt (by omega)]
    · rw [show (10 : Int32) = nI 10 from rfl, pk_sub (by omega)]
      exact congrArg nI (by omega)
end
end
section
/-! what is read off the lanes: the least document, the scores, the next chance, whether a document matches -/
def ws_mn (D : Nat → Nat) : Nat → Nat
  | 0 => 1000
  | k + 1 => if ws_mn D k ≤ D k then ws_mn D k else D k
theorem ws_mn_a {D : Nat → Nat} {k : Nat} (h : ws_mn D k ≤ D k) : ws_mn D (k + 1) = ws_mn D k := if_pos h
theorem ws_mn_b {D : Nat → Nat} {k : Nat} (h : D k < ws_mn D k) : ws_mn D (k + 1) = D k := if_neg (by omega)
theorem ws_mn_le (D : Nat → Nat) (n : Nat) : ws_mn D n ≤ 1000 := by
  induction n with
  | zero => exact Nat.le_refl _
  | succ n ih =>
    rcases Nat.lt_or_ge (D n) (ws_mn D n) with h | h
    · rw [ws_mn_b h]; omega
    · rw [ws_mn_a h]; exact ih
theorem ws_mn_low (D : Nat → Nat) : ∀ n j, j < n → ws_mn D n ≤ D j := by
  intro n
  induction n with
  | zero => intro j h; omega
  | succ n ih =>
    intro j hj
    rcases Nat.lt_or_ge (D n) (ws_mn D n) with h | h
    · rw [ws_mn_b h]
      by_cases e : j = n
      · rw [e]; exact Nat.le_refl _
      · have := ih j (by omega); omega
    · rw [ws_mn_a h]
      by_cases e : j = n
      · rw [e]; exact h
      · exact ih j (by omega)
theorem ws_mn_is (D : Nat → Nat) : ∀ n, ws_mn D n < 1000 → ∃ j, j < n ∧ ws_mn D n = D j := by
  intro n
  induction n with
  | zero => intro h; exact absurd h (Nat.lt_irrefl _)
  | succ n ih =>
    intro hs
    rcases Nat.lt_or_ge (D n) (ws_mn D n) with h | h
    · exact ⟨n, by omega, ws_mn_b h⟩
    · rw [ws_mn_a h] at hs ⊢
      obtain ⟨j, hj, e⟩ := ih hs
      exact ⟨j, by omega, e⟩
/-- the lanes' documents -/
def ws_DD (n : Nat) (a9 : Nat → Int32) (D : Nat → Nat) : Prop := ∀ j, j < n → a9 j = nI (D j) ∧ D j ≤ 1000
theorem ws_docs {c : Nat → Nat → Nat} {n f : Nat} {lw wt : Nat → Nat} {a8 a9 a10 a11 a12 a13 : Nat → Int32} (h : ws_LN c n lw wt (fun _ => f) a8 a9 a10 a11 a12 a13) :
    ∃ D : Nat → Nat, ws_DD n a9 D ∧ ((ws_mn D n = 1000 ∧ ∀ j, j < n → ∀ e, f ≤ e → e < 4 → c e (lw j) = 0) ∨
      (∃ d, ws_mn D n = d ∧ f ≤ d ∧ d < 4 ∧ (∀ j, j < n → ∀ e, f ≤ e → e < d → c e (lw j) = 0) ∧ ∀ j, j < n → (D j = d → a10 j = nI (c d (lw j))) ∧ (D j ≠ d → c d (lw j) = 0))) := by
  have key : ∀ j, j < n → a9 j = nI ((a9 j).toNatClampNeg) ∧ ((f ≤ (a9 j).toNatClampNeg ∧ (a9 j).toNatClampNeg < 4 ∧ (∀ e, f ≤ e → e < (a9 j).toNatClampNeg → c e (lw j) = 0) ∧ a10 j = nI (c (a9 j).toNatClampNeg (lw j))) ∨ ((a9 j).toNatClampNeg = 1000 ∧ ∀ e, f ≤ e → e < 4 → c e (lw j) = 0)) := by
    intro j hj
    rcases (h j hj).2.2.2.2 with ⟨d, d1, d2, d3, d4, d5, d6, d7⟩ | ⟨d1, d2⟩
    · have e : (a9 j).toNatClampNeg = d := pk_cl d d6
      rw [e]
      exact ⟨d6, Or.inl ⟨d1, d2, d4, d7⟩⟩
    · have e : (a9 j).toNatClampNeg = 1000 := pk_cl 1000 d2
      rw [e]
      exact ⟨d2, Or.inr ⟨rfl, d1⟩⟩
  refine ⟨fun j => (a9 j).toNatClampNeg, fun j hj => ⟨(key j hj).1, ?_⟩, ?_⟩
  · rcases (key j hj).2 with k | k
    · have := k.2.1
      show (a9 j).toNatClampNeg ≤ 1000
      omega
    · exact Nat.le_of_eq k.1
  · generalize hD : (fun j => (a9 j).toNatClampNeg) = D
    have key' : ∀ j, j < n → (f ≤ D j ∧ D j < 4 ∧ (∀ e, f ≤ e → e < D j → c e (lw j) = 0) ∧ a10 j = nI (c (D j) (lw j))) ∨ (D j = 1000 ∧ ∀ e, f ≤ e → e < 4 → c e (lw j) = 0) := by
      intro j hj
      rw [← hD]
      exact (key j hj).2
    have low := ws_mn_low D n
    have le := ws_mn_le D n
    rcases Nat.lt_or_ge (ws_mn D n) 1000 with z | z
    · right
      obtain ⟨j0, hj0, e0⟩ := ws_mn_is D n z
      rcases key' j0 hj0 with k0 | k0
      · refine ⟨ws_mn D n, rfl, by omega, by omega, fun j hj e h1 h2 => ?_, fun j hj => ⟨fun ej => ?_, fun ej => ?_⟩⟩
        · have lj := low j hj
          rcases key' j hj with k | k
          · exact k.2.2.1 e h1 (by omega)
          · exact k.2 e h1 (by omega)
        · rcases key' j hj with k | k
          · rw [← ej]; exact k.2.2.2
          · have := k.1; omega
        · have lj := low j hj
          rcases key' j hj with k | k
          · exact k.2.2.1 _ (by omega) (by omega)
          · exact k.2 _ (by omega) (by omega)
      · have := k0.1; omega
    · left
      refine ⟨by omega, fun j hj => ?_⟩
      have lj := low j hj
      rcases key' j hj with k | k
      · have := k.2.1; omega
      · exact k.2
/-- the score of a document -/
def ws_sc (c : Nat → Nat → Nat) (len : Nat → Nat) (m : Nat) (iw ib : Nat → Nat) (d : Nat) : Nat := ws_sum (fun i => ws_w c (ib i) (iw i) * ws_s (c d (iw i)) (len d)) m
theorem ws_sc_le {c : Nat → Nat → Nat} {len : Nat → Nat} {m : Nat} {iw ib : Nat → Nat} (hm : m ≤ 3) (d : Nat) : ws_sc c len m iw ib d ≤ 3000000 := by
  have h := ws_sum_le (g := fun i => ws_w c (ib i) (iw i) * ws_s (c d (iw i)) (len d)) (B := 2880 * 256) m (fun i _ => Nat.mul_le_mul (ws_w_le _ _ _) (ws_s_le _ _))
  have h2 : m * (2880 * 256) ≤ 3 * (2880 * 256) := Nat.mul_le_mul_right _ hm
  exact Nat.le_trans h (Nat.le_trans h2 (by decide))
/-- whether a document matches, in the component's words -/
def ws_bad (c : Nat → Nat → Nat) (iw ib : Nat → Nat) (d i : Nat) : Prop := (ib i = 0 ∧ 0 < c d (iw i)) ∨ (10 < ib i ∧ c d (iw i) = 0)
def ws_any (c : Nat → Nat → Nat) (iw ib : Nat → Nat) (d i : Nat) : Prop := 0 < ib i ∧ 0 < c d (iw i)
def ws_MM (c : Nat → Nat → Nat) (m : Nat) (iw ib : Nat → Nat) (M : Nat → Bool) : Prop := ∀ d, d < 4 → (M d = true ↔ (∀ i, i < m → ¬ ws_bad c iw ib d i) ∧ ∃ i, i < m ∧ ws_any c iw ib d i)
section
variable {f0 f1 f2 f3 f4 : Int32} {a1 a2 a3 a4 a5 a6 a7 a8 a9 a10 a11 a12 a13 a14 a15 : Nat → Int32}
theorem ws_least {post : Int32 → Prop} {n : Nat} {D : Nat → Nat} (hn : n ≤ 5) (hD : ws_DD n a9 D) (H : post (nI (ws_mn D n))) : wpX_leastDocument post (f0, f1, f2, nI n, f4, a1, a2, a3, a4, a5, a6, a7, a8, a9, a10, a11, a12, a13, a14, a15) :=
  pk_loop (σ := Unit) (fun k i _ => wX_leastDocument_6 post f0 f1 f2 (nI n) f4 a1 a2 a3 a4 a5 a6 a7 a8 a9 a10 a11 a12 a13 a14 a15 k (nI (ws_mn D i)) (nI i)) (fun _ _ => True) n 0 () (by omega) trivial
    (fun k _ _ => pk_le n n (fun _ => H) (fun z => absurd z (by omega)))
    (fun k i _ hi _ hw => pk_le n i (fun z => absurd z (by omega)) (fun _ => ⟨pk_in i 5 (by omega), by
      have w := hw () trivial
      have l1 := ws_mn_le D i
      have l2 := (hD i hi).2
      rw [nI_clamp (show i < 2 ^ 31 by omega), (hD i hi).1]
      refine pk_le (ws_mn D i) (D i) (fun z => nm_r (nI_1 i) ?_) (fun z => ⟨pk_in i 5 (by omega), nm_e (nm_r (nI_1 i) ?_)⟩)
      · rw [ws_mn_a z] at w
        exact w
      · rw [ws_mn_b z] at w
        exact w⟩))
theorem ws_ix8 (d t : Nat) : 8 * nI d + nI t = nI (8 * d + t) := by
  rw [show (8 : Int32) = nI 8 from rfl, pk_mul, nI_add]
theorem ws_scoreOf {post : Int32 → Prop} {c : Nat → Nat → Nat} {len iw ib lw wt fr : Nat → Nat} {m n d : Nat} (hd : d < 4) (hB : ws_B c len m iw ib a1 a2 a3 a4 a6 a7) (hQ : ws_Qk c iw ib n lw wt m) (hN : ws_LN c n lw wt fr a8 a9 a10 a11 a12 a13) (H : post (nI (ws_sc c len m iw ib d))) : wpX_scoreOf post (nI 4, nI 15, nI m, nI n, f4, a1, a2, a3, a4, a5, a6, a7, a8, a9, a10, a11, a12, a13, a14, a15) (nI d) := by
  obtain ⟨hc, hl, hL, h3, h4, hm, hi⟩ := hB
  have hn := hQ.1
  have e := hQ.2.1 (fun t => ws_s (c d t) (len d))
  refine pk_loop (σ := Unit) (fun k i _ => wX_scoreOf_4 post (nI d) (nI 4) (nI 15) (nI m) (nI n) f4 a1 a2 a3 a4 a5 a6 a7 a8 a9 a10 a11 a12 a13 a14 a15 k (nI (ws_sum (fun j => wt j * ws_s (c d (lw j)) (len d)) i)) (nI i)) (fun _ _ => True) n 0 () (by omega) trivial
    (fun k _ _ => pk_le n n (fun _ => ?_) (fun z => absurd z (by omega)))
    (fun k i _ hi _ hw => pk_le n i (fun z => absurd z (by omega)) (fun _ => ⟨pk_in i 5 (by omega), pk_in i 5 (by omega), ?_⟩))
  · rw [show ws_sum (fun j => wt j * ws_s (c d (lw j)) (len d)) n = ws_sc c len m iw ib d from e]
    exact H
  · obtain ⟨l1, l2, l3, l4, l5⟩ := hN i hi
    rw [nI_clamp (show i < 2 ^ 31 by omega), l2, l3, ws_ix8, nI_clamp (show 8 * d + lw i < 2 ^ 31 by omega), nI_clamp (show d < 2 ^ 31 by omega), h3 d _ hd l1, h4 d hd]
    refine ⟨vp_in_nI (by omega) (by omega), vp_in_nI (by omega) (by omega), ws_strength (hc d _) (hl d) (nm_r ?_ (nm_r (nI_1 i) (hw () trivial)))⟩
    rw [pk_mul, nI_add]
    rfl
theorem ws_scoreHere {post : Int32 → Prop} {c : Nat → Nat → Nat} {len iw ib lw wt fr D : Nat → Nat} {m n d : Nat} (hd : d < 4) (hB : ws_B c len m iw ib a1 a2 a3 a4 a6 a7) (hQ : ws_Qk c iw ib n lw wt m) (hN : ws_LN c n lw wt fr a8 a9 a10 a11 a12 a13) (hD : ws_DD n a9 D) (hO : ∀ j, j < n → (D j = d → a10 j = nI (c d (lw j))) ∧ (D j ≠ d → c d (lw j) = 0)) (H : post (nI (ws_sc c len m iw ib d))) : wpX_scoreHere post (nI 4, nI 15, nI m, nI n, f4, a1, a2, a3, a4, a5, a6, a7, a8, a9, a10, a11, a12, a13, a14, a15) (nI d) := by
  obtain ⟨hc, hl, hL, h3, h4, hm, hi⟩ := hB
  have hn := hQ.1
  have e := hQ.2.1 (fun t => ws_s (c d t) (len d))
  refine pk_loop (σ := Unit) (fun k i _ => wX_scoreHere_4 post (nI d) (nI 4) (nI 15) (nI m) (nI n) f4 a1 a2 a3 a4 a5 a6 a7 a8 a9 a10 a11 a12 a13 a14 a15 k (nI (ws_sum (fun j => wt j * ws_s (c d (lw j)) (len d)) i)) (nI i)) (fun _ _ => True) n 0 () (by omega) trivial
    (fun k _ _ => pk_le n n (fun _ => ?_) (fun z => absurd z (by omega)))
    (fun k i _ hi _ hw => pk_le n i (fun z => absurd z (by omega)) (fun _ => ⟨pk_in i 5 (by omega), ?_⟩))
  · rw [show ws_sum (fun j => wt j * ws_s (c d (lw j)) (len d)) n = ws_sc c len m iw ib d from e]
    exact H
  · obtain ⟨l1, l2, l3, l4, l5⟩ := hN i hi
    have dl := (hD i hi).2
    have w := hw () trivial
    rw [nI_clamp (show i < 2 ^ 31 by omega), nI_clamp (show d < 2 ^ 31 by omega), l2, (hD i hi).1, h4 d hd]
    refine pk_eq (D i) d (fun z => ⟨pk_in i 5 (by omega), pk_in i 5 (by omega), pk_in d 24 (by omega), ?_⟩) (fun z => nm_r (nI_1 i) ?_)
    · rw [(hO i hi).1 z]
      refine ws_strength (hc d _) (hl d) (nm_r ?_ (nm_r (nI_1 i) w))
      rw [pk_mul, nI_add]
      rfl
    · have ez : ws_sum (fun j => wt j * ws_s (c d (lw j)) (len d)) (i + 1) = ws_sum (fun j => wt j * ws_s (c d (lw j)) (len d)) i := by
        show ws_sum _ i + wt i * ws_s (c d (lw i)) (len d) = _
        rw [(hO i hi).2 z, ws_s_0, Nat.mul_zero, Nat.add_zero]
      rw [ez] at w
      exact w
theorem ws_e1 {s j : Nat} (h : s ≤ j * 1000000) : s ≤ (j + 1) * 1000000 := Nat.le_trans h (Nat.mul_le_mul_right _ (Nat.le_succ j))
theorem ws_e2 {s j b : Nat} (h : s ≤ j * 1000000) (hb : b ≤ 1000000) : s + b ≤ (j + 1) * 1000000 := by rw [Nat.succ_mul]; exact Nat.add_le_add h hb
theorem ws_next41 {post : Int32 → Prop} {J : Int32 → Int32 → Prop} {n k : Nat} {D : Nat → Nat} (hn : n ≤ 5) (hk : k < n) (hD : ws_DD n a9 D) (hb : ∀ j, j < n → ∃ b, b ≤ 1000000 ∧ a12 j = nI b) (H : J (nI (ws_mn D (k + 1))) (nI (k + 1))) : ∃ q, wX_nextChance_41 post J (-1) (nI (ws_mn D k)) (nI k) f0 f1 f2 (nI n) f4 a1 a2 a3 a4 a5 a6 a7 a8 a9 a10 a11 a12 a13 a14 a15 q 0 0 := by
  have l1 := ws_mn_le D k
  have l2 := (hD k hk).2
  have ek : (nI k).toNatClampNeg = k := nI_clamp (by omega)
  refine pk_loop (σ := Nat) (fun q j s => wX_nextChance_41 post J (-1) (nI (ws_mn D k)) (nI k) f0 f1 f2 (nI n) f4 a1 a2 a3 a4 a5 a6 a7 a8 a9 a10 a11 a12 a13 a14 a15 q (nI s) (nI j)) (fun j s => s ≤ j * 1000000) n 0 0 (by omega) (Nat.zero_le _)
    (fun q s hs => pk_le n n (fun _ => br_f (ws_m1 ?_) ⟨pk_in k 5 (by omega), ?_⟩) (fun z => absurd z (by omega)))
    (fun q j s hj hs hw => pk_le n j (fun z => absurd z (by omega)) (fun _ => ⟨pk_in j 5 (by omega), pk_in k 5 (by omega), ?_⟩))
  · omega
  · rw [ek, (hD k hk).1]
    refine pk_le (ws_mn D k) (D k) (fun z => nm_r (nI_1 k) ?_) (fun z => ⟨pk_in k 5 (by omega), nm_e (nm_r (nI_1 k) ?_)⟩)
    · rw [ws_mn_a z] at H
      exact H
    · rw [ws_mn_b z] at H
      exact H
  · have l3 := (hD j hj).2
    obtain ⟨b, b1, b2⟩ := hb j hj
    rw [ek, nI_clamp (show j < 2 ^ 31 by omega), (hD k hk).1, (hD j hj).1, b2]
    refine pk_lt (D k) (D j) (fun z => nm_r (nI_add s 0) (nm_r (nI_1 j) (hw s ?_))) (fun z => ⟨pk_in j 5 (by omega), nm_r (nI_add s b) (nm_r (nI_1 j) (hw (s + b) ?_))⟩)
    · exact ws_e1 hs
    · exact ws_e2 hs b1
theorem ws_nextChance {post : Int32 → Prop} {n fo : Nat} {D : Nat → Nat} (hn : n ≤ 5) (hf : fo ≤ 4) (hD : ws_DD n a9 D) (hb : ∀ j, j < n → ∃ b, b ≤ 1000000 ∧ a12 j = nI b) (H : post (nI (ws_mn D n))) : wpX_nextChance post (f0, f1, f2, nI n, nI fo, a1, a2, a3, a4, a5, a6, a7, a8, a9, a10, a11, a12, a13, a14, a15) :=
  pk_eq fo 10 (fun z => absurd z (by omega)) (fun _ =>
    pk_loop (σ := Unit) (fun k i _ => wX_nextChance_27 post (-1) f0 f1 f2 (nI n) (nI fo) a1 a2 a3 a4 a5 a6 a7 a8 a9 a10 a11 a12 a13 a14 a15 k (nI (ws_mn D i)) (nI i)) (fun _ _ => True) n 0 () (by omega) trivial
      (fun k _ _ => pk_le n n (fun _ => H) (fun z => absurd z (by omega)))
      (fun k i _ hi _ hw => pk_le n i (fun z => absurd z (by omega)) (fun _ => ws_next41 hn hi hD hb (hw () trivial))))
theorem ws_matches {post : Int32 → Prop} {c : Nat → Nat → Nat} {len iw ib : Nat → Nat} {M : Nat → Bool} {m d : Nat} (hd : d < 4) (hB : ws_B c len m iw ib a1 a2 a3 a4 a6 a7) (hM : ws_MM c m iw ib M) (H : post (ws_b (M d))) : wpX_matches post (f0, f1, nI m, f3, f4, a1, a2, a3, a4, a5, a6, a7, a8, a9, a10, a11, a12, a13, a14, a15) (nI d) := by
  obtain ⟨hc, hl, hL, h3, h4, hm, hi⟩ := hB
  have hMd := hM d hd
  have H0 : ∀ i, i < m → ws_bad c iw ib d i → post 0 := fun i hi hb => by
    rw [ws_b_f (fun z => (hMd.mp z).1 i hi hb)] at H
    exact H
  refine pk_loop (σ := Bool) (fun k i s => wX_matches_4 post (nI d) f0 f1 (nI m) f3 f4 a1 a2 a3 a4 a5 a6 a7 a8 a9 a10 a11 a12 a13 a14 a15 k (ws_b s) (nI i)) (fun i s => (∀ j, j < i → ¬ ws_bad c iw ib d j) ∧ (s = true ↔ ∃ j, j < i ∧ ws_any c iw ib d j)) m 0 false (by omega) ⟨fun j hj => absurd hj (by omega), ⟨fun z => absurd z (by decide), fun ⟨j, hj, _⟩ => absurd hj (by omega)⟩⟩
    (fun k s hs => pk_le m m (fun _ => ⟨?_, ?_⟩) (fun z => absurd z (by omega)))
    (fun k i s hi' hs hw => pk_le m i (fun z => absurd z (by omega)) (fun _ => ⟨pk_in i 5 (by omega), ?_⟩))
  · cases s <;> rfl
  · have e : s = M d := by
      rcases Bool.eq_false_or_eq_true s with z | z
      · rw [z]; exact (hMd.mpr ⟨hs.1, hs.2.mp z⟩).symm
      · rcases Bool.eq_false_or_eq_true (M d) with y | y
        · exact absurd (hs.2.mpr (hMd.mp y).2) (by rw [z]; decide)
        · rw [z, y]
    rw [e]
    exact H
  · obtain ⟨i1, i2, i3, i4, i5⟩ := hi i hi'
    have ei : (nI i).toNatClampNeg = i := nI_clamp (by omega)
    have vi : vp_in (nI i) 5 := vp_in_nI (by omega) (by omega)
    have cl := hc d (iw i)
    rw [ei, i4, ws_ix8, nI_clamp (show 8 * d + iw i < 2 ^ 31 by omega), h3 d _ hd i1]
    refine ⟨vp_in_nI (by omega) (by omega), ?_⟩
    -- the next turn, for each new truth
    have nx : ∀ s', ¬ ws_bad c iw ib d i → (s' = true ↔ s = true ∨ ws_any c iw ib d i) → wX_matches_4 post (nI d) f0 f1 (nI m) f3 f4 a1 a2 a3 a4 a5 a6 a7 a8 a9 a10 a11 a12 a13 a14 a15 k (ws_b s') (nI (i + 1)) := by
      intro s' nb e
      refine hw s' ⟨fun j hj => ?_, ⟨fun z => ?_, fun ⟨j, hj, ha⟩ => ?_⟩⟩
      · by_cases ej : j = i
        · rw [ej]; exact nb
        · exact hs.1 j (by omega)
      · rcases e.mp z with y | y
        · obtain ⟨j, hj, ha⟩ := hs.2.mp y
          exact ⟨j, by omega, ha⟩
        · exact ⟨i, by omega, y⟩
      · by_cases ej : j = i
        · rw [ej] at ha
          exact e.mpr (Or.inr ha)
        · exact e.mpr (Or.inl (hs.2.mpr ⟨j, by omega, ha⟩))
    -- the join at 72
    have g72 : ∀ z4 : Bool, (z4 = true ↔ 0 < c d (iw i)) → ¬ ws_bad c iw ib d i → wX_matches_72 post (wX_matches_4 post (nI d) f0 f1 (nI m) f3 f4 a1 a2 a3 a4 a5 a6 a7 a8 a9 a10 a11 a12 a13 a14 a15 k) (nI d) (ws_b s) (nI i) (ws_b z4) f0 f1 (nI m) f3 f4 a1 a2 a3 a4 a5 a6 a7 a8 a9 a10 a11 a12 a13 a14 a15 := by
      intro z4 e4 nb
      unfold wX_matches_72
      rw [ei, i5]
      refine ws_b_z (fun ns => ⟨vi, pk_le (ib i) 0 (fun z => nm_r (nI_1 i) (nx false nb ⟨fun y => absurd y (by decide), fun y => ?_⟩)) (fun z => ws_b_z (fun n4 => nm_r (nI_1 i) (nx false nb ⟨fun y => absurd y (by decide), fun y => ?_⟩)) (fun t4 => nm_r (nI_1 i) (nx true nb ⟨fun _ => Or.inr ⟨z, e4.mp t4⟩, fun _ => rfl⟩)))⟩) (fun ts => nm_r (nI_1 i) (nx true nb ⟨fun _ => Or.inl ts, fun _ => rfl⟩))
      · rcases y with y | y
        · exact absurd y ns
        · have := y.1; omega
      · rcases y with y | y
        · exact absurd y ns
        · exact absurd (e4.mpr y.2) n4
    have g54 : ∀ z4 : Bool, (z4 = true ↔ 0 < c d (iw i)) → ¬ (ib i = 0 ∧ 0 < c d (iw i)) → wX_matches_54 post (wX_matches_4 post (nI d) f0 f1 (nI m) f3 f4 a1 a2 a3 a4 a5 a6 a7 a8 a9 a10 a11 a12 a13 a14 a15 k) (nI d) (ws_b s) (nI i) (ws_b z4) f0 f1 (nI m) f3 f4 a1 a2 a3 a4 a5 a6 a7 a8 a9 a10 a11 a12 a13 a14 a15 := by
      intro z4 e4 n0
      unfold wX_matches_54
      rw [ei, i5]
      refine ⟨vi, pk_le (ib i) 10 (fun z => g72 z4 e4 (fun b => ?_)) (fun z => ws_b_z (fun n4 => H0 i hi' (Or.inr ⟨z, ?_⟩)) (fun t4 => g72 z4 e4 (fun b => ?_)))⟩
      · rcases b with b | b
        · exact n0 b
        · have := b.1; omega
      · have : ¬ 0 < c d (iw i) := fun y => n4 (e4.mpr y)
        omega
      · rcases b with b | b
        · exact n0 b
        · have := e4.mp t4
          omega
    have g36 : ∀ z4 : Bool, (z4 = true ↔ 0 < c d (iw i)) → wX_matches_36 post (wX_matches_4 post (nI d) f0 f1 (nI m) f3 f4 a1 a2 a3 a4 a5 a6 a7 a8 a9 a10 a11 a12 a13 a14 a15 k) (nI d) (ws_b s) (nI i) (ws_b z4) f0 f1 (nI m) f3 f4 a1 a2 a3 a4 a5 a6 a7 a8 a9 a10 a11 a12 a13 a14 a15 := by
      intro z4 e4
      unfold wX_matches_36
      rw [ei, i5]
      exact ⟨vi, pk_eq (ib i) 0 (fun z => ws_b_z (fun n4 => g54 z4 e4 (fun b => n4 (e4.mpr b.2))) (fun t4 => H0 i hi' (Or.inl ⟨z, e4.mp t4⟩))) (fun z => g54 z4 e4 (fun b => z b.1))⟩
    refine pk_le (c d (iw i)) 0 (fun z => g36 false ⟨fun y => absurd y (by decide), fun y => absurd y (by omega)⟩) (fun z => g36 true ⟨fun _ => z, fun _ => rfl⟩)
end
end
section
/-! the row of the best: a document's place is how many are ahead of it -/
def ws_bf (M : Nat → Bool) (sc : Nat → Nat) (d e : Nat) : Bool := M e && (decide (sc d < sc e) || (decide (sc e = sc d) && decide (e < d)))
theorem ws_bf_iff {M : Nat → Bool} {sc : Nat → Nat} {d e : Nat} : ws_bf M sc d e = true ↔ M e = true ∧ (sc d < sc e ∨ (sc e = sc d ∧ e < d)) := by
  simp [ws_bf]
def ws_ah (M : Nat → Bool) (sc : Nat → Nat) (f d : Nat) : Nat := ws_cnt (ws_bf M sc d) f
theorem ws_ah_lt {M : Nat → Bool} {sc : Nat → Nat} {f d e : Nat} (he : e < f) (hM : M e = true) (h : sc d < sc e ∨ (sc e = sc d ∧ e < d)) : ws_ah M sc f e < ws_ah M sc f d := by
  refine ws_cnt_lt (d := e) (fun z => ?_) (ws_bf_iff.mpr ⟨hM, h⟩) f he (fun i _ z => ?_)
  · have := (ws_bf_iff.mp z).2
    omega
  · have z' := ws_bf_iff.mp z
    exact ws_bf_iff.mpr ⟨z'.1, by have := z'.2; omega⟩
theorem ws_ah_inj {M : Nat → Bool} {sc : Nat → Nat} {f d e : Nat} (hd : d < f) (he : e < f) (hMd : M d = true) (hMe : M e = true) (h : ws_ah M sc f d = ws_ah M sc f e) : d = e := by
  by_cases z : d = e
  · exact z
  · by_cases y : sc d < sc e ∨ (sc e = sc d ∧ e < d)
    · have := ws_ah_lt he hMe y
      omega
    · have := ws_ah_lt (sc := sc) (f := f) (d := e) hd hMd (by omega)
      omega
theorem ws_ah_cnt {M : Nat → Bool} {sc : Nat → Nat} {f d : Nat} (hd : d < f) (hM : M d = true) : ws_ah M sc f d < ws_cnt M f := by
  refine ws_cnt_lt (d := d) (fun z => ?_) hM f hd (fun i _ z => (ws_bf_iff.mp z).1)
  have := (ws_bf_iff.mp z).2
  omega
/-- the row of the best holds the matching documents below f -/
def ws_R (M : Nat → Bool) (sc : Nat → Nat) (f : Nat) (a14 a15 : Nat → Int32) : Prop :=
  ∀ i, i < ws_cnt M f → ∃ e, e < f ∧ M e = true ∧ ws_ah M sc f e = i ∧ a14 i = nI e ∧ a15 i = nI (sc e)
theorem ws_R_0 {M : Nat → Bool} {sc : Nat → Nat} {a14 a15 : Nat → Int32} : ws_R M sc 0 a14 a15 := fun i hi => absurd hi (Nat.not_lt_zero i)
theorem ws_R_s {M : Nat → Bool} {sc : Nat → Nat} {f : Nat} {a14 a15 : Nat → Int32} (h : ws_R M sc f a14 a15) (z : ¬ M f = true) : ws_R M sc (f + 1) a14 a15 := by
  intro i hi
  rw [ws_cnt_f z] at hi
  obtain ⟨e, e1, e2, e3, e4, e5⟩ := h i hi
  exact ⟨e, by omega, e2, (ws_cnt_f (fun y => z (ws_bf_iff.mp y).1)).trans e3, e4, e5⟩
theorem ws_R_skip {M : Nat → Bool} {sc : Nat → Nat} {f : Nat} {a14 a15 : Nat → Int32} (h : ws_R M sc f a14 a15) : ∀ k, (∀ e, f ≤ e → e < f + k → ¬ M e = true) → ws_R M sc (f + k) a14 a15 := by
  intro k
  induction k with
  | zero => intro _; exact h
  | succ k ih =>
    intro z
    exact ws_R_s (ih (fun e h1 h2 => z e h1 (by omega))) (z (f + k) (by omega) (by omega))
theorem ws_R_to {M : Nat → Bool} {sc : Nat → Nat} {f d : Nat} {a14 a15 : Nat → Int32} (h : ws_R M sc f a14 a15) (hf : f ≤ d) (z : ∀ e, f ≤ e → e < d → ¬ M e = true) : ws_R M sc d a14 a15 ∧ ws_cnt M d = ws_cnt M f := by
  obtain ⟨k, rfl⟩ : ∃ k, d = f + k := ⟨d - f, by omega⟩
  exact ⟨ws_R_skip h k z, ws_cnt_skip k z⟩
/-- where a new document comes in -/
def ws_ge (M : Nat → Bool) (sc : Nat → Nat) (f e : Nat) : Bool := M e && decide (sc f ≤ sc e)
theorem ws_ge_iff {M : Nat → Bool} {sc : Nat → Nat} {f e : Nat} : ws_ge M sc f e = true ↔ M e = true ∧ sc f ≤ sc e := by
  simp [ws_ge]
def ws_pos (M : Nat → Bool) (sc : Nat → Nat) (f : Nat) : Nat := ws_cnt (ws_ge M sc f) f
theorem ws_pos_le (M : Nat → Bool) (sc : Nat → Nat) (f : Nat) : ws_pos M sc f ≤ ws_cnt M f := ws_cnt_mono f (fun _ _ z => (ws_ge_iff.mp z).1)
theorem ws_pos_hi {M : Nat → Bool} {sc : Nat → Nat} {f e : Nat} (he : e < f) (hM : M e = true) (h : sc f ≤ sc e) : ws_ah M sc f e < ws_pos M sc f := by
  refine ws_cnt_lt (d := e) (fun z => ?_) (ws_ge_iff.mpr ⟨hM, h⟩) f he (fun i _ z => ?_)
  · have := (ws_bf_iff.mp z).2
    omega
  · have z' := ws_bf_iff.mp z
    exact ws_ge_iff.mpr ⟨z'.1, by have := z'.2; omega⟩
theorem ws_pos_lo {M : Nat → Bool} {sc : Nat → Nat} {f e : Nat} (h : sc e < sc f) : ws_pos M sc f ≤ ws_ah M sc f e := by
  refine ws_cnt_mono f (fun i _ z => ?_)
  have z' := ws_ge_iff.mp z
  exact ws_bf_iff.mpr ⟨z'.1, by have := z'.2; omega⟩
theorem ws_pos_new {M : Nat → Bool} {sc : Nat → Nat} {f : Nat} : ws_ah M sc (f + 1) f = ws_pos M sc f := by
  show ws_cnt (ws_bf M sc f) (f + 1) = _
  rw [ws_cnt_f (fun z => by have := (ws_bf_iff.mp z).2; omega)]
  refine Nat.le_antisymm (ws_cnt_mono f (fun i _ z => ?_)) (ws_cnt_mono f (fun i hi z => ?_))
  · have z' := ws_bf_iff.mp z
    exact ws_ge_iff.mpr ⟨z'.1, by have := z'.2; omega⟩
  · have z' := ws_ge_iff.mp z
    exact ws_bf_iff.mpr ⟨z'.1, by have := z'.2; omega⟩
theorem ws_R_ins {M : Nat → Bool} {sc : Nat → Nat} {f : Nat} {a14 a15 b14 b15 : Nat → Int32} (hM : M f = true) (h : ws_R M sc f a14 a15)
    (h1 : ∀ i, i < ws_pos M sc f → b14 i = a14 i ∧ b15 i = a15 i) (h2 : b14 (ws_pos M sc f) = nI f ∧ b15 (ws_pos M sc f) = nI (sc f))
    (h3 : ∀ i, ws_pos M sc f ≤ i → i < ws_cnt M f → b14 (i + 1) = a14 i ∧ b15 (i + 1) = a15 i) : ws_R M sc (f + 1) b14 b15 := by
  intro i hi
  rw [ws_cnt_t hM] at hi
  have pl := ws_pos_le M sc f
  by_cases e : i = ws_pos M sc f
  · exact ⟨f, by omega, hM, by rw [ws_pos_new, e], by rw [e]; exact h2.1, by rw [e]; exact h2.2⟩
  · by_cases lt : i < ws_pos M sc f
    · obtain ⟨x, x1, x2, x3, x4, x5⟩ := h i (by omega)
      have ge : sc f ≤ sc x := by
        rcases Nat.lt_or_ge (sc x) (sc f) with y | y
        · have := ws_pos_lo (M := M) y
          omega
        · exact y
      refine ⟨x, by omega, x2, ?_, by rw [(h1 i lt).1, x4], by rw [(h1 i lt).2, x5]⟩
      exact (ws_cnt_f (fun z => by have := (ws_bf_iff.mp z).2; omega)).trans x3
    · obtain ⟨k, rfl⟩ : ∃ k, i = k + 1 := ⟨i - 1, by omega⟩
      obtain ⟨x, x1, x2, x3, x4, x5⟩ := h k (by omega)
      have lo : sc x < sc f := by
        rcases Nat.lt_or_ge (sc x) (sc f) with y | y
        · exact y
        · have := ws_pos_hi x1 x2 y
          omega
      have h3k := h3 k (by omega) (by omega)
      refine ⟨x, by omega, x2, ?_, by rw [h3k.1, x4], by rw [h3k.2, x5]⟩
      exact (ws_cnt_t (ws_bf_iff.mpr ⟨hM, Or.inl lo⟩)).trans (congrArg (· + 1) x3)
section
variable {f0 f1 f2 f3 f4 : Int32} {a1 a2 a3 a4 a5 a6 a7 a8 a9 a10 a11 a12 a13 a14 a15 : Nat → Int32}
theorem ws_offer {post : St2 → Prop} {M : Nat → Bool} {sc : Nat → Nat} {f : Nat} (hf : f < 4) (hM : M f = true) (hs : ∀ e, sc e ≤ 3000000) (hR : ws_R M sc f a14 a15)
    (H : ∀ b14 b15, ws_R M sc (f + 1) b14 b15 → post (f0, f1, f2, f3, nI (ws_cnt M (f + 1)), a1, a2, a3, a4, a5, a6, a7, a8, a9, a10, a11, a12, a13, b14, b15)) : wpX_offer post (f0, f1, f2, f3, nI (ws_cnt M f), a1, a2, a3, a4, a5, a6, a7, a8, a9, a10, a11, a12, a13, a14, a15) (nI f) (nI (sc f)) := by
  have pl := ws_pos_le M sc f
  have cl := ws_cnt_le M f
  have sf := hs f
  generalize hK : ws_cnt M f = K at *
  generalize hP : ws_pos M sc f = P at *
  refine pk_le 10 K (fun z => absurd z (by omega)) (fun _ => ?_)
  refine loop_m (σ := Nat × (Nat → Int32) × (Nat → Int32)) (fun n s => wX_offer_19 post (nI f) (nI (sc f)) f0 f1 f2 f3 (nI K) n (nI s.1) a1 a2 a3 a4 a5 a6 a7 a8 a9 a10 a11 a12 a13 s.2.1 s.2.2)
    (fun s => P ≤ s.1 ∧ s.1 ≤ K ∧ (∀ i, i < s.1 → s.2.1 i = a14 i ∧ s.2.2 i = a15 i) ∧ ∀ i, s.1 ≤ i → i < K → s.2.1 (i + 1) = a14 i ∧ s.2.2 (i + 1) = a15 i) (fun s => s.1) ?_ (K, a14, a15) ⟨pl, Nat.le_refl K, fun i _ => ⟨rfl, rfl⟩, fun i h1 h2 => absurd h1 (by dsimp only; omega)⟩
  rintro n ⟨k, b14, b15⟩ ⟨k1, k2, k3, k4⟩ hw
  dsimp only at k1 k2 k3 k4 hw ⊢
  have fin : k = P → wX_offer_75 post (nI f) (nI (sc f)) (nI k) f0 f1 f2 f3 (nI K) a1 a2 a3 a4 a5 a6 a7 a8 a9 a10 a11 a12 a13 b14 b15 := by
    intro ek
    unfold wX_offer_75
    rw [nI_clamp (show k < 2 ^ 31 by omega)]
    refine pk_le 10 k (fun z => absurd z (by omega)) (fun _ => ⟨pk_in k 10 (by omega), ?_⟩)
    intro a15' e15
    refine ⟨pk_in k 10 (by omega), ?_⟩
    intro a14' e14
    refine pk_le 10 K (fun z => absurd z (by omega)) (fun _ => nm_r (nI_1 K) ?_)
    rw [← hK, ← ws_cnt_t hM]
    refine H a14' a15' (ws_R_ins hM hR ?_ ?_ ?_)
    · intro i hi
      rw [hP] at hi
      rw [e14, e15, pk_un (by omega), pk_un (by omega)]
      exact k3 i (by omega)
    · rw [hP, ← ek, e14, e15, pk_us, pk_us]
      exact ⟨rfl, rfl⟩
    · intro i h1 h2
      rw [hP] at h1
      rw [hK] at h2
      rw [e14, e15, pk_un (by omega), pk_un (by omega)]
      exact k4 i (by omega) h2
  refine pk_le k 0 (fun z => fin (by omega)) (fun z => ?_)
  obtain ⟨j, rfl⟩ : ∃ j, k = j + 1 := ⟨k - 1, by omega⟩
  have ej : (nI j).toNatClampNeg = j := nI_clamp (by omega)
  have ej1 : (nI (j + 1)).toNatClampNeg = j + 1 := nI_clamp (by omega)
  rw [nI_pred, ej, ej1]
  obtain ⟨x, x1, x2, x3, x4, x5⟩ := hR j (by omega)
  have sx := hs x
  refine ⟨pk_in j 10 (by omega), pk_le (sc f) (sc x) (fun z => fin ?_) (fun z => pk_le 10 (j + 1) (fun z => absurd z (by omega)) (fun _ => ⟨pk_in j 10 (by omega), pk_in (j + 1) 10 (by omega), ?_⟩)) rfl (by rw [(k3 j (by omega)).2, x5])⟩
  · have := ws_pos_hi x1 x2 z
    omega
  · intro a15' e15
    refine ⟨pk_in j 10 (by omega), pk_in (j + 1) 10 (by omega), ?_⟩
    intro a14' e14
    have lo := ws_pos_lo (M := M) z
    refine nm_r (pk_m1 j) (hw (j, a14', a15') ⟨by show P ≤ j; omega, by show j ≤ K; omega, fun i hi => ?_, fun i h1 h2 => ?_⟩ (by show j < j + 1; omega))
    · dsimp only at hi ⊢
      rw [e14, e15, pk_un (by omega), pk_un (by omega)]
      exact k3 i (by omega)
    · dsimp only at h1 ⊢
      by_cases e : i = j
      · rw [e, e14, e15, pk_us, pk_us]
        exact k3 j (by omega)
      · rw [e14, e15, pk_un (by omega), pk_un (by omega)]
        exact k4 i (by omega) h2
end
end
section
/-! the queries -/
def ws_fr (i g f : Nat) : Nat → Nat := fun j => if j < i then g else f
theorem ws_fr_t {i g f j : Nat} (h : j < i) : ws_fr i g f j = g := if_pos h
theorem ws_fr_f {i g f j : Nat} (h : ¬ j < i) : ws_fr i g f j = f := if_neg h
theorem ws_fr_0 {c : Nat → Nat → Nat} {n g f : Nat} {lw wt : Nat → Nat} {a8 a9 a10 a11 a12 a13 : Nat → Int32} (h : ws_LN c n lw wt (fun _ => f) a8 a9 a10 a11 a12 a13) : ws_LN c n lw wt (ws_fr 0 g f) a8 a9 a10 a11 a12 a13 := by
  intro j hj
  rw [ws_fr_f (Nat.not_lt_zero j)]
  exact h j hj
theorem ws_fr_n {c : Nat → Nat → Nat} {n g f : Nat} {lw wt : Nat → Nat} {a8 a9 a10 a11 a12 a13 : Nat → Int32} (h : ws_LN c n lw wt (ws_fr n g f) a8 a9 a10 a11 a12 a13) : ws_LN c n lw wt (fun _ => g) a8 a9 a10 a11 a12 a13 := by
  intro j hj
  have := h j hj
  rw [ws_fr_t hj] at this
  exact this
theorem ws_fr_s {c : Nat → Nat → Nat} {n g f i : Nat} {lw wt : Nat → Nat} {a8 a9 a10 a11 a12 a13 b8 b9 b10 : Nat → Int32} (hi : i < n) (h : ws_LN c n lw wt (ws_fr i g f) a8 a9 a10 a11 a12 a13) (o : ws_off i a8 a9 a10 b8 b9 b10) (hat : ws_at c (lw i) g (b8 i) (b9 i) (b10 i)) : ws_LN c n lw wt (ws_fr (i + 1) g f) b8 b9 b10 a11 a12 a13 := by
  intro j hj
  by_cases e : j = i
  · rw [e, ws_fr_t (by omega)]
    obtain ⟨l1, l2, l3, l4, l5⟩ := h i hi
    exact ⟨l1, l2, l3, l4, hat⟩
  · have q := h j hj
    rw [(o j e).1, (o j e).2.1, (o j e).2.2]
    by_cases lt : j < i
    · rw [ws_fr_t lt] at q
      rw [ws_fr_t (by omega)]
      exact q
    · rw [ws_fr_f lt] at q
      rw [ws_fr_f (by omega)]
      exact q
/-- a document without a lane doesn't match -/
theorem ws_noM {c : Nat → Nat → Nat} {iw ib lw wt : Nat → Nat} {M : Nat → Bool} {m n e : Nat} (he : e < 4) (hM : ws_MM c m iw ib M) (hQ : ws_Qk c iw ib n lw wt m) (h : ∀ j, j < n → c e (lw j) = 0) : ¬ M e = true := by
  intro z
  obtain ⟨_, i, hi, h1, h2⟩ := (hM e he).mp z
  obtain ⟨j, hj, ej⟩ := hQ.2.2 i hi h1
  have := h j hj
  rw [ej] at this
  omega
section
variable {f0 f1 f2 f3 f4 : Int32} {a1 a2 a3 a4 a5 a6 a7 a8 a9 a10 a11 a12 a13 a14 a15 : Nat → Int32}
theorem ws_fb65 {post : St2 → Prop} {J : Int32 → Int32 → Int32 → Int32 → Int32 → Int32 → (Nat → Int32) → (Nat → Int32) → (Nat → Int32) → (Nat → Int32) → (Nat → Int32) → (Nat → Int32) → (Nat → Int32) → (Nat → Int32) → (Nat → Int32) → (Nat → Int32) → (Nat → Int32) → (Nat → Int32) → (Nat → Int32) → (Nat → Int32) → (Nat → Int32) → Prop} {c : Nat → Nat → Nat} {len iw ib lw wt : Nat → Nat} {m n f d r : Nat} (hd : d < 4) (hf : f ≤ d + 1) (hB : ws_B c len m iw ib a1 a2 a3 a4 a6 a7) (hn : n ≤ m) (hN : ws_LN c n lw wt (fun _ => f) a8 a9 a10 a11 a12 a13)
    (H : ∀ b8 b9 b10, ws_LN c n lw wt (fun _ => d + 1) b8 b9 b10 a11 a12 a13 → J (nI (r + 1)) (nI 4) (nI 15) (nI m) (nI n) f4 a1 a2 a3 a4 a5 a6 a7 b8 b9 b10 a11 a12 a13 a14 a15) :
    ∃ q, wX_findBest_65 post J (nI r) (nI d) q 0 (nI 4) (nI 15) (nI m) (nI n) f4 a1 a2 a3 a4 a5 a6 a7 a8 a9 a10 a11 a12 a13 a14 a15 := by
  obtain ⟨hc, hl, hL, h3, h4, hm, hi⟩ := hB
  refine pk_loop (σ := (Nat → Int32) × (Nat → Int32) × (Nat → Int32)) (fun q i s => wX_findBest_65 post J (nI r) (nI d) q (nI i) (nI 4) (nI 15) (nI m) (nI n) f4 a1 a2 a3 a4 a5 a6 a7 s.1 s.2.1 s.2.2 a11 a12 a13 a14 a15) (fun i s => ws_LN c n lw wt (ws_fr i (d + 1) f) s.1 s.2.1 s.2.2 a11 a12 a13) n 0 (a8, a9, a10) (Nat.zero_le _) (ws_fr_0 hN)
    (fun q s hs => pk_le n n (fun _ => nm_r (nI_1 r) (H _ _ _ (ws_fr_n hs))) (fun z => absurd z (by omega)))
    (fun q i s hi' hs hw => pk_le n i (fun z => absurd z (by omega)) (fun _ => ?_))
  obtain ⟨l1, l2, l3, l4, l5⟩ := hs i hi'
  rw [ws_fr_f (Nat.lt_irrefl i)] at l5
  exact ws_moveTo (c := c) (j := i) (t := lw i) (g := d + 1) (k := f + 1) (by omega) l1 (by omega) (hL _ l1) l3 (Or.inr ⟨f, rfl, hf, l5⟩) rfl (nI_1 d) (fun b8 b9 b10 o at' => nm_r (nI_1 i) (hw (b8, b9, b10) (ws_fr_s hi' hs o at')))
theorem ws_sg56 {post : Int32 → St2 → Prop} {J : Int32 → Int32 → Int32 → Int32 → Int32 → Int32 → Int32 → (Nat → Int32) → (Nat → Int32) → (Nat → Int32) → (Nat → Int32) → (Nat → Int32) → (Nat → Int32) → (Nat → Int32) → (Nat → Int32) → (Nat → Int32) → (Nat → Int32) → (Nat → Int32) → (Nat → Int32) → (Nat → Int32) → (Nat → Int32) → (Nat → Int32) → Prop} {x1 x2 : Int32} {c : Nat → Nat → Nat} {len iw ib lw wt : Nat → Nat} {m n f d r : Nat} (hd : d < 4) (hf : f ≤ d + 1) (hB : ws_B c len m iw ib a1 a2 a3 a4 a6 a7) (hn : n ≤ m) (hN : ws_LN c n lw wt (fun _ => f) a8 a9 a10 a11 a12 a13)
    (H : ∀ b8 b9 b10, ws_LN c n lw wt (fun _ => d + 1) b8 b9 b10 a11 a12 a13 → J x2 (nI (r + 1)) (nI 4) (nI 15) (nI m) (nI n) f4 a1 a2 a3 a4 a5 a6 a7 b8 b9 b10 a11 a12 a13 a14 a15) :
    ∃ q, wX_scoring_56 post J x1 x2 (nI r) (nI d) q 0 (nI 4) (nI 15) (nI m) (nI n) f4 a1 a2 a3 a4 a5 a6 a7 a8 a9 a10 a11 a12 a13 a14 a15 := by
  obtain ⟨hc, hl, hL, h3, h4, hm, hi⟩ := hB
  refine pk_loop (σ := (Nat → Int32) × (Nat → Int32) × (Nat → Int32)) (fun q i s => wX_scoring_56 post J x1 x2 (nI r) (nI d) q (nI i) (nI 4) (nI 15) (nI m) (nI n) f4 a1 a2 a3 a4 a5 a6 a7 s.1 s.2.1 s.2.2 a11 a12 a13 a14 a15) (fun i s => ws_LN c n lw wt (ws_fr i (d + 1) f) s.1 s.2.1 s.2.2 a11 a12 a13) n 0 (a8, a9, a10) (Nat.zero_le _) (ws_fr_0 hN)
    (fun q s hs => pk_le n n (fun _ => nm_r (nI_1 r) (H _ _ _ (ws_fr_n hs))) (fun z => absurd z (by omega)))
    (fun q i s hi' hs hw => pk_le n i (fun z => absurd z (by omega)) (fun _ => ?_))
  obtain ⟨l1, l2, l3, l4, l5⟩ := hs i hi'
  rw [ws_fr_f (Nat.lt_irrefl i)] at l5
  exact ws_moveTo (c := c) (j := i) (t := lw i) (g := d + 1) (k := f + 1) (by omega) l1 (by omega) (hL _ l1) l3 (Or.inr ⟨f, rfl, hf, l5⟩) rfl (nI_1 d) (fun b8 b9 b10 o at' => nm_r (nI_1 i) (hw (b8, b9, b10) (ws_fr_s hi' hs o at')))
theorem ws_fb11 {post : St2 → Prop} {c : Nat → Nat → Nat} {len iw ib lw wt : Nat → Nat} {M : Nat → Bool} {m n : Nat} (hB : ws_B c len m iw ib a1 a2 a3 a4 a6 a7) (hM : ws_MM c m iw ib M) (hQ : ws_Qk c iw ib n lw wt m) (hN : ws_LN c n lw wt (fun _ => 0) a8 a9 a10 a11 a12 a13)
    (H : ∀ b8 b9 b10 b14 b15, ws_R M (ws_sc c len m iw ib) 4 b14 b15 → post (nI 4, nI 15, nI m, nI n, nI (ws_cnt M 4), a1, a2, a3, a4, a5, a6, a7, b8, b9, b10, a11, a12, a13, b14, b15)) :
    ∃ q, wX_findBest_11 post q 0 (nI 4) (nI 15) (nI m) (nI n) (nI 0) a1 a2 a3 a4 a5 a6 a7 a8 a9 a10 a11 a12 a13 a14 a15 := by
  have hm : m ≤ 3 := hB.2.2.2.2.2.1
  have hn : n ≤ m := hQ.1
  refine loop_m (σ := (Nat × Nat) × (Nat → Int32) × (Nat → Int32) × (Nat → Int32) × (Nat → Int32) × (Nat → Int32)) (fun q s => wX_findBest_11 post q (nI s.1.2) (nI 4) (nI 15) (nI m) (nI n) (nI (ws_cnt M s.1.1)) a1 a2 a3 a4 a5 a6 a7 s.2.1 s.2.2.1 s.2.2.2.1 a11 a12 a13 s.2.2.2.2.1 s.2.2.2.2.2)
    (fun s => s.1.1 ≤ 4 ∧ s.1.2 ≤ s.1.1 ∧ ws_LN c n lw wt (fun _ => s.1.1) s.2.1 s.2.2.1 s.2.2.2.1 a11 a12 a13 ∧ ws_R M (ws_sc c len m iw ib) s.1.1 s.2.2.2.2.1 s.2.2.2.2.2) (fun s => 4 - s.1.1) ?_ ((0, 0), a8, a9, a10, a14, a15) ⟨Nat.zero_le _, Nat.le_refl _, hN, ws_R_0⟩
  rintro q ⟨⟨f, r⟩, b8, b9, b10, b14, b15⟩ ⟨hf, hr, hN, hR⟩ hw
  dsimp only at hf hr hN hR hw ⊢
  obtain ⟨D, hD, hE⟩ := ws_docs hN
  have cl := ws_cnt_le M f
  refine pk_le 125 r (fun z => absurd z (by omega)) (fun _ => ?_)
  refine ws_nextChance (by omega) (by omega) hD (fun j hj => (hN j hj).2.2.2.1) ?_
  rcases hE with ⟨e1, e2⟩ | ⟨d, e1, e2, e3, e4, e5⟩
  · rw [e1]
    refine br_t rfl ?_
    obtain ⟨hR4, hC⟩ := ws_R_to hR hf (fun e h1 h2 => ws_noM (by omega) hM hQ (fun j hj => e2 j hj e h1 h2))
    rw [← hC]
    exact H b8 b9 b10 b14 b15 hR4
  · rw [e1]
    obtain ⟨hRd, hC⟩ := ws_R_to hR e2 (fun e h1 h2 => ws_noM (by omega) hM hQ (fun j hj => e4 j hj e h1 h2))
    refine pk_eq d 1000 (fun z => absurd z (by omega)) (fun _ => ?_)
    refine ws_least (by omega) hD ?_
    rw [e1]
    refine br_t rfl ?_
    refine ws_matches (c := c) (len := len) (iw := iw) (ib := ib) (M := M) e3 hB hM (ws_b_z (fun nM => ?_) (fun tM => ?_))
    · refine ws_fb65 (c := c) e3 (by omega) hB hn hN (fun d8 d9 d10 hN' => ?_)
      rw [← hC, ← ws_cnt_f nM]
      exact hw ((d + 1, r + 1), d8, d9, d10, b14, b15) ⟨by show d + 1 ≤ 4; omega, by show r + 1 ≤ d + 1; omega, hN', ws_R_s hRd nM⟩ (by show 4 - (d + 1) < 4 - f; omega)
    · refine ws_scoreHere (c := c) (len := len) (iw := iw) (ib := ib) (lw := lw) (wt := wt) e3 hB hQ hN hD e5 ?_
      rw [← hC]
      refine ws_offer (M := M) (sc := ws_sc c len m iw ib) e3 tM (fun e => ws_sc_le hm e) hRd (fun d14 d15 hR' => ?_)
      refine ws_fb65 (c := c) e3 (by omega) hB hn hN (fun d8 d9 d10 hN' => ?_)
      exact hw ((d + 1, r + 1), d8, d9, d10, d14, d15) ⟨by show d + 1 ≤ 4; omega, by show r + 1 ≤ d + 1; omega, hN', hR'⟩ (by show 4 - (d + 1) < 4 - f; omega)
theorem ws_findBest {post : St2 → Prop} {c : Nat → Nat → Nat} {len iw ib : Nat → Nat} {M : Nat → Bool} {m : Nat} (hB : ws_B c len m iw ib a1 a2 a3 a4 a6 a7) (hM : ws_MM c m iw ib M)
    (H : ∀ x3 b8 b9 b10 b11 b12 b13 b14 b15, ws_R M (ws_sc c len m iw ib) 4 b14 b15 → post (nI 4, nI 15, nI m, x3, nI (ws_cnt M 4), a1, a2, a3, a4, a5, a6, a7, b8, b9, b10, b11, b12, b13, b14, b15)) :
    wpX_findBest post (nI 4, nI 15, nI m, f3, f4, a1, a2, a3, a4, a5, a6, a7, a8, a9, a10, a11, a12, a13, a14, a15) := by
  unfold wpX_findBest
  exact ws_openLanes hB (fun n lw wt b8 b9 b10 b11 b12 b13 hQ hN => ws_fb11 hB hM hQ hN (fun d8 d9 d10 b14 b15 hR => H (nI n) d8 d9 d10 b11 b12 b13 b14 b15 hR))
theorem ws_ranked {post : Int32 → St2 → Prop} {c : Nat → Nat → Nat} {len iw ib : Nat → Nat} {M : Nat → Bool} {m p : Nat} (hB : ws_B c len m iw ib a1 a2 a3 a4 a6 a7) (hM : ws_MM c m iw ib M) (hp : p < 10)
    (H0 : ws_cnt M 4 ≤ p → ∀ x3 x4 b8 b9 b10 b11 b12 b13 b14 b15, post (-2) (nI 4, nI 15, nI m, x3, x4, a1, a2, a3, a4, a5, a6, a7, b8, b9, b10, b11, b12, b13, b14, b15))
    (H1 : ∀ e, e < 4 → M e = true → ws_ah M (ws_sc c len m iw ib) 4 e = p → ∀ x3 x4 b8 b9 b10 b11 b12 b13 b14 b15, post (nI e) (nI 4, nI 15, nI m, x3, x4, a1, a2, a3, a4, a5, a6, a7, b8, b9, b10, b11, b12, b13, b14, b15)) :
    wpX_ranked post (nI 4, nI 15, nI m, f3, f4, a1, a2, a3, a4, a5, a6, a7, a8, a9, a10, a11, a12, a13, a14, a15) (nI p) := by
  have cl := ws_cnt_le M 4
  refine br_f (nI_pos (by omega)) (pk_lt p 10 (fun _ => ?_) (fun z => absurd z (by omega)))
  refine ws_findBest hB hM (fun x3 b8 b9 b10 b11 b12 b13 b14 b15 hR => ?_)
  refine pk_le (ws_cnt M 4) p (fun z => H0 z x3 _ b8 b9 b10 b11 b12 b13 b14 b15) (fun z => ⟨pk_in p 10 hp, ?_⟩)
  obtain ⟨e, e1, e2, e3, e4, e5⟩ := hR p z
  rw [nI_clamp (show p < 2 ^ 31 by omega), e4]
  exact H1 e e1 e2 e3 x3 _ b8 b9 b10 b11 b12 b13 b14 b15
theorem ws_rankedScore {post : Int32 → St2 → Prop} {c : Nat → Nat → Nat} {len iw ib : Nat → Nat} {M : Nat → Bool} {m p : Nat} (hB : ws_B c len m iw ib a1 a2 a3 a4 a6 a7) (hM : ws_MM c m iw ib M) (hp : p < 10)
    (H0 : ws_cnt M 4 ≤ p → ∀ x3 x4 b8 b9 b10 b11 b12 b13 b14 b15, post (-2) (nI 4, nI 15, nI m, x3, x4, a1, a2, a3, a4, a5, a6, a7, b8, b9, b10, b11, b12, b13, b14, b15))
    (H1 : ∀ e, e < 4 → M e = true → ws_ah M (ws_sc c len m iw ib) 4 e = p → ∀ x3 x4 b8 b9 b10 b11 b12 b13 b14 b15, post (nI (ws_sc c len m iw ib e)) (nI 4, nI 15, nI m, x3, x4, a1, a2, a3, a4, a5, a6, a7, b8, b9, b10, b11, b12, b13, b14, b15)) :
    wpX_rankedScore post (nI 4, nI 15, nI m, f3, f4, a1, a2, a3, a4, a5, a6, a7, a8, a9, a10, a11, a12, a13, a14, a15) (nI p) := by
  have cl := ws_cnt_le M 4
  refine br_f (nI_pos (by omega)) (pk_lt p 10 (fun _ => ?_) (fun z => absurd z (by omega)))
  refine ws_findBest hB hM (fun x3 b8 b9 b10 b11 b12 b13 b14 b15 hR => ?_)
  refine pk_le (ws_cnt M 4) p (fun z => H0 z x3 _ b8 b9 b10 b11 b12 b13 b14 b15) (fun z => ⟨pk_in p 10 hp, ?_⟩)
  obtain ⟨e, e1, e2, e3, e4, e5⟩ := hR p z
  rw [nI_clamp (show p < 2 ^ 31 by omega), e5]
  exact H1 e e1 e2 e3 x3 _ b8 b9 b10 b11 b12 b13 b14 b15
theorem ws_score {post : Int32 → St2 → Prop} {c : Nat → Nat → Nat} {len iw ib : Nat → Nat} {m d : Nat} (hB : ws_B c len m iw ib a1 a2 a3 a4 a6 a7) (hd : d < 4)
    (H : ∀ x3 b8 b9 b10 b11 b12 b13, post (nI (ws_sc c len m iw ib d)) (nI 4, nI 15, nI m, x3, f4, a1, a2, a3, a4, a5, a6, a7, b8, b9, b10, b11, b12, b13, a14, a15)) :
    wpX_score post (nI 4, nI 15, nI m, f3, f4, a1, a2, a3, a4, a5, a6, a7, a8, a9, a10, a11, a12, a13, a14, a15) (nI d) := by
  unfold wpX_score
  refine ws_isLive hd (br_f (by decide) ?_)
  refine ws_openLanes hB (fun n lw wt b8 b9 b10 b11 b12 b13 hQ hN => ?_)
  exact ws_scoreOf hd hB hQ hN (H (nI n) b8 b9 b10 b11 b12 b13)
theorem ws_matching {post : Int32 → Prop} {c : Nat → Nat → Nat} {len iw ib : Nat → Nat} {M : Nat → Bool} {m : Nat} (hB : ws_B c len m iw ib a1 a2 a3 a4 a6 a7) (hM : ws_MM c m iw ib M) (H : post (nI (ws_cnt M 4))) : wpX_matching post (nI 4, nI 15, nI m, f3, f4, a1, a2, a3, a4, a5, a6, a7, a8, a9, a10, a11, a12, a13, a14, a15) :=
  pk_loop (σ := Unit) (fun k i _ => wX_matching_4 post (nI 4) (nI 15) (nI m) f3 f4 a1 a2 a3 a4 a5 a6 a7 a8 a9 a10 a11 a12 a13 a14 a15 k (nI (ws_cnt M i)) (nI i)) (fun _ _ => True) 4 0 () (by omega) trivial
    (fun k _ _ => pk_le 4 4 (fun _ => H) (fun z => absurd z (by omega)))
    (fun k i _ hi _ hw => pk_le 4 i (fun z => absurd z (by omega)) (fun _ => by
      have w := hw () trivial
      refine ws_isLive hi (br_f (by decide) ?_)
      refine ws_matches hi hB hM (ws_b_z (fun nM => nm_r (nI_add _ 0) (nm_r (nI_1 i) ?_)) (fun tM => nm_r (nI_1 _) (nm_r (nI_1 i) ?_)))
      · rw [ws_cnt_f nM] at w
        exact w
      · rw [ws_cnt_t tM] at w
        exact w))
/-- documents that match and have at least the limit -/
def ws_rc (M : Nat → Bool) (sc : Nat → Nat) (l e : Nat) : Bool := M e && decide (l ≤ sc e)
theorem ws_rc_iff {M : Nat → Bool} {sc : Nat → Nat} {l e : Nat} : ws_rc M sc l e = true ↔ M e = true ∧ l ≤ sc e := by
  simp [ws_rc]
theorem ws_sg8 {post : Int32 → St2 → Prop} {c : Nat → Nat → Nat} {len iw ib lw wt : Nat → Nat} {M : Nat → Bool} {m n l : Nat} (hl : l < 2 ^ 31) (hB : ws_B c len m iw ib a1 a2 a3 a4 a6 a7) (hM : ws_MM c m iw ib M) (hQ : ws_Qk c iw ib n lw wt m) (hN : ws_LN c n lw wt (fun _ => 0) a8 a9 a10 a11 a12 a13)
    (H : ∀ b8 b9 b10, post (nI (ws_cnt (ws_rc M (ws_sc c len m iw ib) l) 4)) (nI 4, nI 15, nI m, nI n, f4, a1, a2, a3, a4, a5, a6, a7, b8, b9, b10, a11, a12, a13, a14, a15)) :
    ∃ q, wX_scoring_8 post (nI l) q 0 0 (nI 4) (nI 15) (nI m) (nI n) f4 a1 a2 a3 a4 a5 a6 a7 a8 a9 a10 a11 a12 a13 a14 a15 := by
  have hm : m ≤ 3 := hB.2.2.2.2.2.1
  have hn : n ≤ m := hQ.1
  refine loop_m (σ := (Nat × Nat) × (Nat → Int32) × (Nat → Int32) × (Nat → Int32)) (fun q s => wX_scoring_8 post (nI l) q (nI (ws_cnt (ws_rc M (ws_sc c len m iw ib) l) s.1.1)) (nI s.1.2) (nI 4) (nI 15) (nI m) (nI n) f4 a1 a2 a3 a4 a5 a6 a7 s.2.1 s.2.2.1 s.2.2.2 a11 a12 a13 a14 a15)
    (fun s => s.1.1 ≤ 4 ∧ s.1.2 ≤ s.1.1 ∧ ws_LN c n lw wt (fun _ => s.1.1) s.2.1 s.2.2.1 s.2.2.2 a11 a12 a13) (fun s => 4 - s.1.1) ?_ ((0, 0), a8, a9, a10) ⟨Nat.zero_le _, Nat.le_refl _, hN⟩
  rintro q ⟨⟨f, r⟩, b8, b9, b10⟩ ⟨hf, hr, hN⟩ hw
  dsimp only at hf hr hN hw ⊢
  obtain ⟨D, hD, hE⟩ := ws_docs hN
  refine pk_lt 48 r (fun z => absurd z (by omega)) (fun _ => ?_)
  refine ws_least (by omega) hD ?_
  rcases hE with ⟨e1, e2⟩ | ⟨d, e1, e2, e3, e4, e5⟩
  · rw [e1]
    refine br_t rfl ?_
    obtain ⟨k, hk⟩ : ∃ k, 4 = f + k := ⟨4 - f, by omega⟩
    have hC : ws_cnt (ws_rc M (ws_sc c len m iw ib) l) 4 = ws_cnt (ws_rc M (ws_sc c len m iw ib) l) f := by
      rw [hk]
      exact ws_cnt_skip k (fun e h1 h2 z => ws_noM (by omega) hM hQ (fun j hj => e2 j hj e h1 (by omega)) (ws_rc_iff.mp z).1)
    rw [← hC]
    exact H b8 b9 b10
  · rw [e1]
    have hC : ws_cnt (ws_rc M (ws_sc c len m iw ib) l) d = ws_cnt (ws_rc M (ws_sc c len m iw ib) l) f := by
      obtain ⟨k, rfl⟩ : ∃ k, d = f + k := ⟨d - f, by omega⟩
      exact ws_cnt_skip k (fun e h1 h2 z => ws_noM (by omega) hM hQ (fun j hj => e4 j hj e h1 h2) (ws_rc_iff.mp z).1)
    have sl : ws_sc c len m iw ib d ≤ 3000000 := ws_sc_le hm d
    have go : ∀ x : Int32, x = nI (ws_cnt (ws_rc M (ws_sc c len m iw ib) l) (d + 1)) → ∃ q', wX_scoring_56 post (wX_scoring_8 post (nI l) q) (nI l) x (nI r) (nI d) q' 0 (nI 4) (nI 15) (nI m) (nI n) f4 a1 a2 a3 a4 a5 a6 a7 b8 b9 b10 a11 a12 a13 a14 a15 := by
      intro x hx
      subst hx
      exact ws_sg56 (c := c) e3 (by omega) hB hn hN (fun d8 d9 d10 hN' => hw ((d + 1, r + 1), d8, d9, d10) ⟨by show d + 1 ≤ 4; omega, by show r + 1 ≤ d + 1; omega, hN'⟩ (by show 4 - (d + 1) < 4 - f; omega))
    refine pk_eq d 1000 (fun z => absurd z (by omega)) (fun _ => ?_)
    refine ws_matches (c := c) (len := len) (iw := iw) (ib := ib) (M := M) e3 hB hM (ws_b_z (fun nM => go _ ?_) (fun tM => ?_))
    · rw [ws_cnt_f (fun z => nM (ws_rc_iff.mp z).1), hC]
    · refine ws_scoreOf (c := c) (len := len) (iw := iw) (ib := ib) (lw := lw) (wt := wt) e3 hB hQ hN ?_
      refine pk_lt (ws_sc c len m iw ib d) l (fun z => go _ ?_) (fun z => nm_r (nI_1 _) (go _ ?_))
      · rw [ws_cnt_f (fun y => by have := (ws_rc_iff.mp y).2; omega), hC]
      · rw [ws_cnt_t (ws_rc_iff.mpr ⟨tM, z⟩), hC]
theorem ws_scoring {post : Int32 → St2 → Prop} {c : Nat → Nat → Nat} {len iw ib : Nat → Nat} {M : Nat → Bool} {m l : Nat} (hl : l < 2 ^ 31) (hB : ws_B c len m iw ib a1 a2 a3 a4 a6 a7) (hM : ws_MM c m iw ib M)
    (H : ∀ x3 b8 b9 b10 b11 b12 b13, post (nI (ws_cnt (ws_rc M (ws_sc c len m iw ib) l) 4)) (nI 4, nI 15, nI m, x3, f4, a1, a2, a3, a4, a5, a6, a7, b8, b9, b10, b11, b12, b13, a14, a15)) :
    wpX_scoring post (nI 4, nI 15, nI m, f3, f4, a1, a2, a3, a4, a5, a6, a7, a8, a9, a10, a11, a12, a13, a14, a15) (nI l) := by
  unfold wpX_scoring
  exact ws_openLanes hB (fun n lw wt b8 b9 b10 b11 b12 b13 hQ hN => ws_sg8 hl hB hM hQ hN (fun d8 d9 d10 => H (nI n) d8 d9 d10 b11 b12 b13))
end
end
section
/-! the law's own words: part, boost, score, matches -/
def ws_P (p q : Int32) (d t : Nat) : Nat := (if 2 ≤ d then q >>> ((((9 * nI d) - 18) + (3 * nI t)) &&& 31) else p >>> (((9 * nI d) + (3 * nI t)) &&& 31)).toBitVec.toNat % 2 ^ 3
theorem ws_P_le (p q : Int32) (d t : Nat) : ws_P p q d t ≤ 7 := by
  have : ws_P p q d t < 2 ^ 3 := Nat.mod_lt _ (by decide)
  omega
def ws_bo (it : Int32) (t : Nat) : Nat := (it >>> ((5 * nI t) &&& 31)).toBitVec.toNat % 2 ^ 5 % 20
theorem ws_bo_lt (it : Int32) (t : Nat) : ws_bo it t < 20 := Nat.mod_lt _ (by decide)
theorem ws_part {post : Int32 → Prop} {u : St0} {p q x2 x3 : Int32} (d t : Nat) (hd : d < 4) (H : post (nI (ws_P p q d t))) (e2 : x2 = nI d := by rfl) (e3 : x3 = nI t := by rfl) : wpL_part post u p q x2 x3 := by
  subst e2 e3
  refine pk_le 2 d (fun z => ?_) (fun z => ?_)
  · have e := pk_and (q >>> ((((9 * nI d) - 18) + (3 * nI t)) &&& 31)) 3 (m := 7) (by decide)
    rw [e]
    rw [ws_P, if_pos z] at H
    exact H
  · have e := pk_and (p >>> (((9 * nI d) + (3 * nI t)) &&& 31)) 3 (m := 7) (by decide)
    rw [e]
    rw [ws_P, if_neg (by omega)] at H
    exact H
theorem ws_boost {post : Int32 → Prop} {u : St0} {it x1 : Int32} (t : Nat) (H : post (nI (ws_bo it t))) (e1 : x1 = nI t := by rfl) : wpL_boost post u it x1 := by
  subst e1
  have e := pk_and (it >>> ((5 * nI t) &&& 31)) 5 (m := 31) (by decide)
  have l : (it >>> ((5 * nI t) &&& 31)).toBitVec.toNat % 2 ^ 5 < 2 ^ 5 := Nat.mod_lt _ (by decide)
  have r := pk_rem (a := (it >>> ((5 * nI t) &&& 31)).toBitVec.toNat % 2 ^ 5) (d := 20) (by omega) (by omega) (by omega)
  refine ⟨by decide, ?_⟩
  rw [e]
  exact r ▸ H
def ws_ln (p q : Int32) (d : Nat) : Nat := ws_P p q d 0 + ws_P p q d 1 + ws_P p q d 2
theorem ws_ln_le (p q : Int32) (d : Nat) : ws_ln p q d ≤ 21 := by
  have h0 := ws_P_le p q d 0
  have h1 := ws_P_le p q d 1
  have h2 := ws_P_le p q d 2
  unfold ws_ln
  omega
def ws_hp (p q : Int32) (t e : Nat) : Bool := decide (0 < ws_P p q e t)
/-- what word t brings a document -/
def ws_St (p q it : Int32) (d t : Nat) : Nat := ws_bo it t % 10 * (320 / (ws_cnt (ws_hp p q t) 4 + 1)) * ws_s (ws_P p q d t) (ws_ln p q d)
def ws_S (p q it : Int32) (d : Nat) : Nat := ws_sum (ws_St p q it d) 3
theorem ws_l43 {post : Int32 → Prop} {J : Int32 → Int32 → Prop} {p q it : Int32} {d t s : Nat} (hd : d < 4) (ht : t < 3) (H : J (nI (s + ws_St p q it d t)) (nI (t + 1))) : ∃ n, wL_score_43 post J p q it (nI d) (nI (ws_ln p q d)) (nI s) (nI t) n 0 0 := by
  refine pk_loop (σ := Unit) (fun n i _ => wL_score_43 post J p q it (nI d) (nI (ws_ln p q d)) (nI s) (nI t) n (nI (ws_cnt (ws_hp p q t) i)) (nI i)) (fun _ _ => True) 4 0 () (by omega) trivial
    (fun n _ _ => pk_le 4 4 (fun _ => ?_) (fun z => absurd z (by omega)))
    (fun n i _ hi _ hw => pk_le 4 i (fun z => absurd z (by omega)) (fun _ => ?_))
  · have pl := ws_P_le p q d t
    have ll := ws_ln_le p q d
    have bl := ws_bo_lt it t
    have cl := ws_cnt_le (ws_hp p q t) 4
    refine ws_part d t hd (ws_boost t ⟨by decide, ?_⟩)
    refine nm_r (e' := nI (ws_bo it t % 10)) (pk_rem (a := ws_bo it t) (d := 10) (by omega) (by omega) (by omega)) ?_
    refine pk_le (ws_P p q d t) 0 (fun z => nm_r (nI_1 t) ?_) (fun z => ?_)
    · have e : ws_St p q it d t = 0 := by
        unfold ws_St
        rw [show ws_P p q d t = 0 by omega, ws_s_0, Nat.mul_zero]
      rw [e, Nat.add_zero] at H
      exact H
    · have e4 : nI (ws_ln p q d) / 4 = nI (ws_ln p q d / 4) := pk_div (a := ws_ln p q d) (d := 4) (by omega) (by omega) (by omega)
      have e5 : nI (ws_P p q d t) + 2 + nI (ws_ln p q d) / 4 = nI (ws_P p q d t + 2 + ws_ln p q d / 4) := by
        rw [e4, show (2 : Int32) = nI 2 from rfl, nI_add, nI_add]
      rw [e5, nI_1]
      refine ⟨nI_ne0 (by omega) (by omega), by decide, nI_ne0 (by omega) (by omega), nm_r (e' := nI (s + ws_St p q it d t)) ?_ (nm_r (nI_1 t) H)⟩
      have e6 : (320 : Int32) / nI (ws_cnt (ws_hp p q t) 4 + 1) = nI (320 / (ws_cnt (ws_hp p q t) 4 + 1)) := pk_div (a := 320) (by omega) (by omega) (by omega)
      have e7 : (256 : Int32) * nI (ws_P p q d t) = nI (256 * ws_P p q d t) := pk_mul 256 _
      rw [e6, e7, pk_mul, pk_div (by omega) (by omega) (by omega), pk_mul, nI_add]
      unfold ws_St
      rw [ws_s_pos z]
  · have w := hw () trivial
    have pl := ws_P_le p q i t
    refine ws_part i t hi (pk_le (ws_P p q i t) 0 (fun z => nm_r (nI_add _ 0) (nm_r (nI_1 i) ?_)) (fun z => nm_r (nI_1 _) (nm_r (nI_1 i) ?_)))
    · rw [ws_cnt_f (fun y => by have := of_decide_eq_true y; omega)] at w
      exact w
    · rw [ws_cnt_t (decide_eq_true z)] at w
      exact w
theorem ws_lscore {post : Int32 → Prop} {u : St0} {p q it : Int32} {d : Nat} (hd : d < 4) (H : post (nI (ws_S p q it d))) : wpL_score post u p q it (nI d) := by
  unfold wpL_score
  refine ws_part d 0 hd (ws_part d 1 hd (ws_part d 2 hd (nm_r (e' := nI (ws_ln p q d)) (by rw [nI_add, nI_add]; rfl) ?_)))
  exact pk_loop (σ := Unit) (fun n i _ => wL_score_31 post p q it (nI d) (nI (ws_ln p q d)) n (nI (ws_sum (ws_St p q it d) i)) (nI i)) (fun _ _ => True) 3 0 () (by omega) trivial
    (fun n _ _ => pk_le 3 3 (fun _ => H) (fun z => absurd z (by omega)))
    (fun n i _ hi _ hw => pk_le 3 i (fun z => absurd z (by omega)) (fun _ => ws_l43 hd hi (hw () trivial)))
def ws_lbad (p q it : Int32) (d t : Nat) : Prop := (ws_bo it t = 0 ∧ 0 < ws_P p q d t) ∨ (10 < ws_bo it t ∧ ws_P p q d t = 0)
def ws_lany (p q it : Int32) (d t : Nat) : Prop := 0 < ws_bo it t ∧ ws_bo it t ≠ 10 ∧ 0 < ws_P p q d t
noncomputable def ws_M (p q it : Int32) (d : Nat) : Bool := ws_dec ((∀ t, t < 3 → ¬ ws_lbad p q it d t) ∧ ∃ t, t < 3 ∧ ws_lany p q it d t)
theorem ws_M_iff {p q it : Int32} {d : Nat} : ws_M p q it d = true ↔ (∀ t, t < 3 → ¬ ws_lbad p q it d t) ∧ ∃ t, t < 3 ∧ ws_lany p q it d t := ws_dec_iff
theorem ws_lmatches {post : Int32 → Prop} {u : St0} {p q it : Int32} {d : Nat} (hd : d < 4) (H : post (ws_b (ws_M p q it d))) : wpL_matches post u p q it (nI d) := by
  have hMd := ws_M_iff (p := p) (q := q) (it := it) (d := d)
  have H0 : ∀ i, i < 3 → ws_lbad p q it d i → post 0 := fun i hi hb => by
    rw [ws_b_f (fun z => (hMd.mp z).1 i hi hb)] at H
    exact H
  refine pk_loop (σ := Bool) (fun k i s => wL_matches_6 post p q it (nI d) k (ws_b s) (nI i)) (fun i s => (∀ j, j < i → ¬ ws_lbad p q it d j) ∧ (s = true ↔ ∃ j, j < i ∧ ws_lany p q it d j)) 3 0 false (by omega) ⟨fun j hj => absurd hj (by omega), ⟨fun z => absurd z (by decide), fun ⟨j, hj, _⟩ => absurd hj (by omega)⟩⟩
    (fun k s hs => pk_le 3 3 (fun _ => ⟨?_, ?_⟩) (fun z => absurd z (by omega)))
    (fun k i s hi hs hw => pk_le 3 i (fun z => absurd z (by omega)) (fun _ => ?_))
  · cases s <;> rfl
  · have e : s = ws_M p q it d := by
      rcases Bool.eq_false_or_eq_true s with z | z
      · rw [z]; exact (hMd.mpr ⟨hs.1, hs.2.mp z⟩).symm
      · rcases Bool.eq_false_or_eq_true (ws_M p q it d) with y | y
        · exact absurd (hs.2.mpr (hMd.mp y).2) (by rw [z]; decide)
        · rw [z, y]
    rw [e]
    exact H
  · have pl := ws_P_le p q d i
    have bl := ws_bo_lt it i
    have nx : ∀ s', ¬ ws_lbad p q it d i → (s' = true ↔ s = true ∨ ws_lany p q it d i) → wL_matches_6 post p q it (nI d) k (ws_b s') (nI (i + 1)) := by
      intro s' nb e
      refine hw s' ⟨fun j hj => ?_, ⟨fun z => ?_, fun ⟨j, hj, ha⟩ => ?_⟩⟩
      · by_cases ej : j = i
        · rw [ej]; exact nb
        · exact hs.1 j (by omega)
      · rcases e.mp z with y | y
        · obtain ⟨j, hj, ha⟩ := hs.2.mp y
          exact ⟨j, by omega, ha⟩
        · exact ⟨i, by omega, y⟩
      · by_cases ej : j = i
        · rw [ej] at ha
          exact e.mpr (Or.inr ha)
        · exact e.mpr (Or.inl (hs.2.mpr ⟨j, by omega, ha⟩))
    have g54 : ¬ ws_lbad p q it d i → wL_matches_54 post (wL_matches_6 post p q it (nI d) k) p q it (nI d) (ws_b s) (nI i) (nI (ws_bo it i)) (nI (ws_P p q d i)) := by
      intro nb
      have no : ¬ ws_lany p q it d i → wL_matches_6 post p q it (nI d) k (ws_b s) (nI (i + 1)) := fun na => nx s nb ⟨Or.inl, fun y => y.elim id (fun y => absurd y na)⟩
      exact pk_le (ws_bo it i) 0 (fun z => nm_r (nI_1 i) (no (fun y => by have := y.1; omega))) (fun z => pk_eq (ws_bo it i) 10 (fun z2 => nm_r (nI_1 i) (no (fun y => y.2.1 z2))) (fun z2 => pk_le (ws_P p q d i) 0 (fun z3 => nm_r (nI_1 i) (no (fun y => by have := y.2.2; omega))) (fun z3 => nm_r (nI_1 i) (nx true nb ⟨fun _ => Or.inr ⟨z, z2, z3⟩, fun _ => rfl⟩))))
    have g40 : ¬ (ws_bo it i = 0 ∧ 0 < ws_P p q d i) → wL_matches_40 post (wL_matches_6 post p q it (nI d) k) p q it (nI d) (ws_b s) (nI i) (nI (ws_bo it i)) (nI (ws_P p q d i)) := by
      intro n0
      refine pk_le (ws_bo it i) 10 (fun z => g54 (fun b => ?_)) (fun z => pk_eq (ws_P p q d i) 0 (fun z2 => H0 i hi (Or.inr ⟨z, z2⟩)) (fun z2 => g54 (fun b => ?_)))
      · rcases b with b | b
        · exact n0 b
        · have := b.1; omega
      · rcases b with b | b
        · exact n0 b
        · exact z2 b.2
    refine ws_boost i (ws_part d i hd (pk_eq (ws_bo it i) 0 (fun z => pk_lt 0 (ws_P p q d i) (fun z2 => H0 i hi (Or.inl ⟨z, z2⟩)) (fun z2 => g40 (fun b => ?_))) (fun z => g40 (fun b => z b.1))))
    have := b.2
    omega
/-! the component's words against the law's -/
def ws_c (p q : Int32) (d u : Nat) : Nat := if u % 3 = 0 then ws_P p q d (u / 3) else 0
theorem ws_c_le (p q : Int32) (d u : Nat) : ws_c p q d u ≤ 7 := by
  unfold ws_c
  split
  · exact ws_P_le _ _ _ _
  · omega
theorem ws_c_3 (p q : Int32) (d t : Nat) : ws_c p q d (3 * t) = ws_P p q d t := by
  unfold ws_c
  rw [if_pos (by omega), show 3 * t / 3 = t by omega]
theorem ws_c_n {p q : Int32} {d u : Nat} (h : ¬ u % 3 = 0) : ws_c p q d u = 0 := if_neg h
theorem ws_c_sum (p q : Int32) (d : Nat) : ws_sum (ws_c p q d) 8 = ws_ln p q d := by
  have e0 : ws_c p q d 0 = ws_P p q d 0 := ws_c_3 p q d 0
  have e3 : ws_c p q d 3 = ws_P p q d 1 := ws_c_3 p q d 1
  have e6 : ws_c p q d 6 = ws_P p q d 2 := ws_c_3 p q d 2
  have e1 : ws_c p q d 1 = 0 := ws_c_n (by decide)
  have e2 : ws_c p q d 2 = 0 := ws_c_n (by decide)
  have e4 : ws_c p q d 4 = 0 := ws_c_n (by decide)
  have e5 : ws_c p q d 5 = 0 := ws_c_n (by decide)
  have e7 : ws_c p q d 7 = 0 := ws_c_n (by decide)
  show 0 + ws_c p q d 0 + ws_c p q d 1 + ws_c p q d 2 + ws_c p q d 3 + ws_c p q d 4 + ws_c p q d 5 + ws_c p q d 6 + ws_c p q d 7 = ws_P p q d 0 + ws_P p q d 1 + ws_P p q d 2
  rw [e0, e1, e2, e3, e4, e5, e6, e7]
  omega
/-- the items after k boosts -/
def ws_I (it : Int32) (k m : Nat) (iw ib : Nat → Nat) : Prop :=
  m ≤ k ∧ (∀ i, i < m → ∃ t, t < k ∧ iw i = 3 * t ∧ ib i = ws_bo it t ∧ ws_bo it t ≠ 10) ∧ (∀ t, t < k → ws_bo it t ≠ 10 → ∃ i, i < m ∧ iw i = 3 * t ∧ ib i = ws_bo it t) ∧ ∀ F : Nat → Nat → Nat, (∀ u, F 10 u = 0) → ws_sum (fun i => F (ib i) (iw i)) m = ws_sum (fun t => F (ws_bo it t) (3 * t)) k
theorem ws_I_0 {it : Int32} {iw ib : Nat → Nat} : ws_I it 0 0 iw ib := ⟨Nat.le_refl _, fun i hi => absurd hi (by omega), fun t ht => absurd ht (by omega), fun _ _ => rfl⟩
theorem ws_I_skip {it : Int32} {k m : Nat} {iw ib : Nat → Nat} (h : ws_I it k m iw ib) (z : ws_bo it k = 10) : ws_I it (k + 1) m iw ib := by
  obtain ⟨h1, h2, h3, h4⟩ := h
  refine ⟨by omega, fun i hi => ?_, fun t ht hb => ?_, fun F hF => ?_⟩
  · obtain ⟨t, ht, e⟩ := h2 i hi
    exact ⟨t, by omega, e⟩
  · by_cases e : t = k
    · rw [e] at hb
      exact absurd z hb
    · exact h3 t (by omega) hb
  · rw [h4 F hF]
    show _ = ws_sum _ k + F (ws_bo it k) (3 * k)
    rw [z, hF, Nat.add_zero]
theorem ws_I_add {it : Int32} {k m : Nat} {iw ib : Nat → Nat} (h : ws_I it k m iw ib) (z : ws_bo it k ≠ 10) : ws_I it (k + 1) (m + 1) (ws_ov iw m (3 * k)) (ws_ov ib m (ws_bo it k)) := by
  obtain ⟨h1, h2, h3, h4⟩ := h
  refine ⟨by omega, fun i hi => ?_, fun t ht hb => ?_, fun F hF => ?_⟩
  · by_cases e : i = m
    · rw [e, ws_ov_s, ws_ov_s]
      exact ⟨k, by omega, rfl, rfl, z⟩
    · rw [ws_ov_n _ _ e, ws_ov_n _ _ e]
      obtain ⟨t, ht, e⟩ := h2 i (by omega)
      exact ⟨t, by omega, e⟩
  · by_cases e : t = k
    · exact ⟨m, by omega, by rw [ws_ov_s, e], by rw [ws_ov_s, e]⟩
    · obtain ⟨i, hi, e1, e2⟩ := h3 t (by omega) hb
      exact ⟨i, by omega, by rw [ws_ov_n _ _ (by omega), e1], by rw [ws_ov_n _ _ (by omega), e2]⟩
  · show ws_sum _ m + F (ws_ov ib m (ws_bo it k) m) (ws_ov iw m (3 * k) m) = ws_sum _ k + F (ws_bo it k) (3 * k)
    rw [ws_ov_s, ws_ov_s, ← h4 F hF]
    congr 1
    exact ws_sum_congr m (fun i hi => by rw [ws_ov_n _ _ (by omega), ws_ov_n _ _ (by omega)])
theorem ws_I_sc {p q it : Int32} {m : Nat} {iw ib : Nat → Nat} (h : ws_I it 3 m iw ib) (d : Nat) : ws_sc (ws_c p q) (ws_ln p q) m iw ib d = ws_S p q it d := by
  have e := h.2.2.2 (fun b u => ws_w (ws_c p q) b u * ws_s (ws_c p q d u) (ws_ln p q d)) (fun u => by
    show ws_w (ws_c p q) 10 u * _ = 0
    rw [show ws_w (ws_c p q) 10 u = 0 from Nat.zero_mul _, Nat.zero_mul])
  refine Eq.trans e (ws_sum_congr 3 (fun t _ => ?_))
  show ws_w (ws_c p q) (ws_bo it t) (3 * t) * ws_s (ws_c p q d (3 * t)) (ws_ln p q d) = ws_St p q it d t
  unfold ws_w ws_St
  rw [ws_c_3, show ws_r (ws_c p q) (3 * t) 4 = ws_cnt (ws_hp p q t) 4 from ws_cnt_congr 4 (fun e _ => by unfold ws_h ws_hp; rw [ws_c_3])]
theorem ws_I_MM {p q it : Int32} {m : Nat} {iw ib : Nat → Nat} (h : ws_I it 3 m iw ib) : ws_MM (ws_c p q) m iw ib (ws_M p q it) := by
  obtain ⟨h1, h2, h3, h4⟩ := h
  intro d hd
  rw [ws_M_iff]
  constructor
  · rintro ⟨g1, t, ht, g2, g3, g4⟩
    refine ⟨fun i hi hb => ?_, ?_⟩
    · obtain ⟨t, ht, e1, e2, e3⟩ := h2 i hi
      unfold ws_bad at hb
      rw [e1, e2, ws_c_3] at hb
      exact g1 t ht hb
    · obtain ⟨i, hi, e1, e2⟩ := h3 t ht g3
      refine ⟨i, hi, ?_⟩
      unfold ws_any
      rw [e1, e2, ws_c_3]
      exact ⟨g2, g4⟩
  · rintro ⟨g1, i, hi, g2⟩
    refine ⟨fun t ht hb => ?_, ?_⟩
    · have ne : ws_bo it t ≠ 10 := by
        rcases hb with b | b
        · have := b.1; omega
        · have := b.1; omega
      obtain ⟨i, hi, e1, e2⟩ := h3 t ht ne
      refine g1 i hi ?_
      unfold ws_bad
      rw [e1, e2, ws_c_3]
      exact hb
    · obtain ⟨t, ht, e1, e2, e3⟩ := h2 i hi
      unfold ws_any at g2
      rw [e1, e2, ws_c_3] at g2
      exact ⟨t, ht, g2.1, e3, g2.2⟩
end
section
/-! the methods that build: write, index, add, item -/
theorem ws_L_keep {c : Nat → Nat → Nat} {n t : Nat} {a1 a2 b1 b2 : Nat → Int32} (hn : n ≤ 4) (h : ws_L c n t a1 a2) (e1 : ∀ k, k < 10 → b1 (48 * t + k) = a1 (48 * t + k)) (e2 : b2 t = a2 t) : ws_L c n t b1 b2 := by
  refine ⟨by rw [e2]; exact h.1, fun d hd hc => ?_⟩
  have r := ws_r_le c t d
  have g := h.2 d hd hc
  rw [e1 (2 * ws_r c t d) (by omega), Nat.add_assoc, e1 (2 * ws_r c t d + 1) (by omega), ← Nat.add_assoc]
  exact g
theorem ws_L_skip {c : Nat → Nat → Nat} {n t : Nat} {a1 a2 : Nat → Int32} (h : ws_L c n t a1 a2) (z : ¬ 0 < c n t) : ws_L c (n + 1) t a1 a2 := by
  refine ⟨by rw [ws_r_f z]; exact h.1, fun d hd hc => ?_⟩
  by_cases e : d = n
  · rw [e] at hc
    exact absurd hc z
  · exact h.2 d (by omega) hc
theorem ws_L_add {c : Nat → Nat → Nat} {n t : Nat} {a1 a2 b1 b2 : Nat → Int32} (h : ws_L c n t a1 a2) (z : 0 < c n t) (e1 : ∀ k, k < 2 * ws_r c t n → b1 (48 * t + k) = a1 (48 * t + k)) (e2 : b1 (48 * t + 2 * ws_r c t n) = nI (n + 1 - ws_p c t n)) (e3 : b1 (48 * t + 2 * ws_r c t n + 1) = nI (c n t)) (e4 : b2 t = nI (2 * ws_r c t n + 2)) : ws_L c (n + 1) t b1 b2 := by
  refine ⟨by rw [ws_r_t z, e4]; exact congrArg nI (by omega), fun d hd hc => ?_⟩
  by_cases e : d = n
  · rw [e]
    exact ⟨e2, e3⟩
  · have g := h.2 d (by omega) hc
    have r1 := ws_r_t hc
    have r2 := ws_r_up c t (show d + 1 ≤ n by omega)
    rw [e1 (2 * ws_r c t d) (by omega), Nat.add_assoc, e1 (2 * ws_r c t d + 1) (by omega), ← Nat.add_assoc]
    exact g
theorem ws_al : ∀ n, n < 4 → nI (2 ^ n - 1) ||| ((1 : Int32) <<< (nI n &&& 31)) = nI (2 ^ (n + 1) - 1) := by decide +kernel
section
variable {f0 f1 f2 f3 f4 : Int32} {a1 a2 a3 a4 a5 a6 a7 a8 a9 a10 a11 a12 a13 a14 a15 : Nat → Int32}
theorem ws_isWord {post : Int32 → Prop} {u : St0} {t : Nat} (ht : t < 8) (H : post 1) : wpX_isWord post u (nI t) :=
  br_f (nI_pos (by omega)) (pk_le 8 t (fun z => absurd z (by omega)) (fun _ => H))
theorem ws_write {post : Int32 → St2 → Prop} {t k : Nat} {p0 : Int32} (ht : t < 8) (hk : k ≤ 7) (e0 : p0 = nI t) (H : ∀ r, post r (f0, f1, f2, f3, f4, a1, a2, a3, a4, upd a5 t (nI k), a6, a7, a8, a9, a10, a11, a12, a13, a14, a15)) : wpX_write post (f0, f1, f2, f3, f4, a1, a2, a3, a4, a5, a6, a7, a8, a9, a10, a11, a12, a13, a14, a15) p0 (nI k) := by
  subst e0
  unfold wpX_write
  refine ws_isWord ht (br_f (by decide) (br_f (nI_pos (by omega)) (pk_le k 7 (fun _ => ⟨pk_in t 8 ht, ?_⟩) (fun z => absurd z (by omega)))))
  rw [nI_clamp (show t < 2 ^ 31 by omega)]
  intro a5' e5
  subst e5
  exact ws_draftLength (H _)
theorem ws_index {post : St2 → Prop} {c : Nat → Nat → Nat} {n : Nat} (hn : n < 4) (hc : ∀ d t, c d t ≤ 7) (h3 : ∀ t, t < 8 → a3 (8 * n + t) = nI (c n t)) (hL : ∀ t, t < 8 → ws_L c n t a1 a2)
    (H : ∀ b1 b2, (∀ t, t < 8 → ws_L c (n + 1) t b1 b2) → post (f0, f1, f2, f3, f4, b1, b2, a3, a4, a5, a6, a7, a8, a9, a10, a11, a12, a13, a14, a15)) : wpX_index post (f0, f1, f2, f3, f4, a1, a2, a3, a4, a5, a6, a7, a8, a9, a10, a11, a12, a13, a14, a15) (nI n) := by
  refine pk_loop (σ := (Nat → Int32) × (Nat → Int32)) (fun q i s => wX_index_2 post (nI n) f0 f1 f2 f3 f4 q (nI i) s.1 s.2 a3 a4 a5 a6 a7 a8 a9 a10 a11 a12 a13 a14 a15) (fun i s => ∀ t, t < 8 → (t < i → ws_L c (n + 1) t s.1 s.2) ∧ (¬ t < i → ws_L c n t s.1 s.2)) 8 0 (a1, a2) (Nat.zero_le _) (fun t ht => ⟨fun z => absurd z (Nat.not_lt_zero t), fun _ => hL t ht⟩)
    (fun q s hs => pk_le 8 8 (fun _ => H s.1 s.2 (fun t ht => (hs t ht).1 ht)) (fun z => absurd z (by omega)))
    (fun q i s hi hs hw => pk_le 8 i (fun z => absurd z (by omega)) (fun _ => ?_))
  obtain ⟨b1, b2⟩ := s
  dsimp only at hs hw ⊢
  have li : ws_L c n i b1 b2 := (hs i hi).2 (Nat.lt_irrefl i)
  have cl := hc n i
  have rl := ws_r_le c i n
  have pl := ws_p_le c i n
  have ei : (nI i).toNatClampNeg = i := nI_clamp (by omega)
  have vi : vp_in (nI i) 8 := vp_in_nI hi (by omega)
  rw [ws_ix8, ei, nI_clamp (show 8 * n + i < 2 ^ 31 by omega), h3 i hi, li.1, ws_ix]
  have v1 : vp_in (nI (8 * n + i)) 192 := vp_in_nI (by omega) (by omega)
  refine ⟨v1, pk_le (c n i) 0 (fun z => nm_r (nI_1 i) (hw (b1, b2) (fun t ht => ⟨fun z1 => ?_, fun z1 => ?_⟩))) (fun z => ⟨vi, nm_e (ws_lastOf (by omega) hi li ?_)⟩)⟩
  · by_cases e : t = i
    · rw [e]
      exact ws_L_skip li (by omega)
    · exact (hs t ht).1 (by omega)
  · exact (hs t ht).2 (by omega)
  · have ek : (nI (48 * i + 2 * ws_r c i n)).toNatClampNeg = 48 * i + 2 * ws_r c i n := nI_clamp (by omega)
    have ek1 : (nI (48 * i + 2 * ws_r c i n) + 1).toNatClampNeg = 48 * i + 2 * ws_r c i n + 1 := by
      rw [nI_1]
      exact nI_clamp (by omega)
    rw [ek, ek1, ws_m_sub (by omega), ws_byte _ (by omega), ws_byte _ (by omega)]
    refine ⟨vp_in_nI (by omega) (by omega), ?_⟩
    intro d1 e1
    refine ⟨v1, by rw [nI_1]; exact vp_in_nI (by omega) (by omega), ?_⟩
    intro d1' e1'
    refine ⟨vi, vi, ?_⟩
    intro d2 e2
    refine nm_r (nI_1 i) (hw (d1', d2) (fun t ht => ⟨fun z1 => ?_, fun z1 => ?_⟩))
    · dsimp only
      by_cases e : t = i
      · rw [e]
        refine ws_L_add li z (fun k hk => ?_) ?_ ?_ ?_
        · rw [e1', e1, pk_un (by omega), pk_un (by omega)]
        · rw [e1', e1, pk_un (by omega), pk_us]
        · rw [e1', pk_us]
        · rw [e2, pk_us, show (2 : Int32) = nI 2 from rfl, nI_add]
      · refine ws_L_keep (by omega) ((hs t ht).1 (by omega)) (fun k hk => ?_) ?_
        · rw [e1', e1, pk_un (by omega), pk_un (by omega)]
        · rw [e2, pk_un e]
    · dsimp only
      refine ws_L_keep (by omega) ((hs t ht).2 (by omega)) (fun k hk => ?_) ?_
      · rw [e1', e1, pk_un (by omega), pk_un (by omega)]
      · rw [e2, pk_un (by omega)]
theorem ws_add {post : Int32 → St2 → Prop} {c : Nat → Nat → Nat} {len : Nat → Nat} {n : Nat} (hn : n < 4) (hc : ∀ d t, c d t ≤ 7) (h5 : ∀ t, t < 8 → a5 t = nI (c n t)) (hL : ∀ t, t < 8 → ws_L c n t a1 a2) (h3 : ∀ d t, d < n → t < 8 → a3 (8 * d + t) = nI (c d t)) (h4 : ∀ d, d < n → a4 d = nI (len d)) (hl : len n = ws_sum (c n) 8)
    (H : ∀ b1 b2 b3 b4, (∀ t, t < 8 → ws_L c (n + 1) t b1 b2) → (∀ d t, d < n + 1 → t < 8 → b3 (8 * d + t) = nI (c d t)) → (∀ d, d < n + 1 → b4 d = nI (len d)) → post (nI n) (nI (n + 1), nI (2 ^ (n + 1) - 1), f2, f3, f4, b1, b2, b3, b4, a5, a6, a7, a8, a9, a10, a11, a12, a13, a14, a15)) :
    wpX_add post (nI n, nI (2 ^ n - 1), f2, f3, f4, a1, a2, a3, a4, a5, a6, a7, a8, a9, a10, a11, a12, a13, a14, a15) := by
  refine pk_eq n 24 (fun z => absurd z (by omega)) (fun _ => ?_)
  refine pk_loop (σ := Nat → Int32) (fun q i s => wX_add_13 post (nI n) (nI (2 ^ n - 1)) f2 f3 f4 q (nI i) a1 a2 s a4 a5 a6 a7 a8 a9 a10 a11 a12 a13 a14 a15) (fun i s => (∀ d t, d < n → t < 8 → s (8 * d + t) = nI (c d t)) ∧ ∀ t, t < i → s (8 * n + t) = nI (c n t)) 8 0 a3 (Nat.zero_le _) ⟨h3, fun t ht => absurd ht (Nat.not_lt_zero t)⟩
    (fun q s hs => pk_le 8 8 (fun _ => ?_) (fun z => absurd z (by omega)))
    (fun q i s hi hs hw => pk_le 8 i (fun z => absurd z (by omega)) (fun _ => ⟨pk_in i 8 hi, ?_⟩))
  · refine ws_draftLength ?_
    rw [ws_isum_nI 8 h5, ← hl]
    have en : (nI n).toNatClampNeg = n := nI_clamp (by omega)
    refine ⟨vp_in_nI (by omega) (by omega), ?_⟩
    rw [en]
    intro b4 e4
    refine ws_index hn hc hs.2 hL (fun b1 b2 hL' => ?_)
    refine nm_r (ws_al n hn) (nm_r (nI_1 n) ?_)
    rw [nI_pred]
    refine H b1 b2 s b4 hL' (fun d t hd ht => ?_) (fun d hd => ?_)
    · by_cases e : d = n
      · rw [e]
        exact hs.2 t ht
      · exact hs.1 d t (by omega) ht
    · by_cases e : d = n
      · rw [e, e4, pk_us]
      · rw [e4, pk_un e]
        exact h4 d (by omega)
  · rw [ws_ix8, nI_clamp (show i < 2 ^ 31 by omega), nI_clamp (show 8 * n + i < 2 ^ 31 by omega), h5 i hi]
    refine ⟨vp_in_nI (by omega) (by omega), ?_⟩
    intro b3 e3
    refine nm_r (nI_1 i) (hw b3 ⟨fun d t hd ht => ?_, fun t ht => ?_⟩)
    · rw [e3, pk_un (by omega)]
      exact hs.1 d t hd ht
    · by_cases e : t = i
      · rw [e, e3, pk_us]
      · rw [e3, pk_un (by omega)]
        exact hs.2 t (by omega)
theorem ws_place {post : Int32 → Prop} {m t : Nat} {iw : Nat → Nat} (hm : m ≤ 3) (ht : t < 8) (h6 : ∀ i, i < m → a6 i = nI (iw i) ∧ iw i < 100 ∧ iw i ≠ t) (H : post (-1)) : wpX_place post (f0, f1, nI m, f3, f4, a1, a2, a3, a4, a5, a6, a7, a8, a9, a10, a11, a12, a13, a14, a15) (nI t) :=
  pk_loop (σ := Unit) (fun q i _ => wX_place_2 post (nI t) f0 f1 (nI m) f3 f4 a1 a2 a3 a4 a5 a6 a7 a8 a9 a10 a11 a12 a13 a14 a15 q (nI i)) (fun _ _ => True) m 0 () (by omega) trivial
    (fun q _ _ => pk_le m m (fun _ => H) (fun z => absurd z (by omega)))
    (fun q i _ hi _ hw => pk_le m i (fun z => absurd z (by omega)) (fun _ => ⟨pk_in i 5 (by omega), by
      obtain ⟨g1, g2, g3⟩ := h6 i hi
      rw [nI_clamp (show i < 2 ^ 31 by omega), g1]
      exact pk_eq (iw i) t (fun z => absurd z g3) (fun _ => nm_r (nI_1 i) (hw () trivial))⟩))
theorem ws_item {post : Int32 → St2 → Prop} {m t b : Nat} {iw : Nat → Nat} {p0 : Int32} (hm : m ≤ 3) (ht : t < 8) (hb : b < 20) (h10 : b ≠ 10) (e0 : p0 = nI t) (h6 : ∀ i, i < m → a6 i = nI (iw i) ∧ iw i < 100 ∧ iw i ≠ t)
    (H : post (nI (m + 1)) (f0, f1, nI (m + 1), f3, f4, a1, a2, a3, a4, a5, upd a6 m (nI t), upd a7 m (nI b), a8, a9, a10, a11, a12, a13, a14, a15)) : wpX_item post (f0, f1, nI m, f3, f4, a1, a2, a3, a4, a5, a6, a7, a8, a9, a10, a11, a12, a13, a14, a15) p0 (nI b) := by
  subst e0
  unfold wpX_item
  refine ws_isWord ht (br_f (by decide) (br_f (nI_pos (by omega)) (pk_lt 19 b (fun z => absurd z (by omega)) (fun _ => pk_eq b 10 (fun z => absurd z h10) (fun _ => ?_)))))
  refine ws_place hm ht h6 (br_f (by decide) (pk_eq m 5 (fun z => absurd z (by omega)) (fun _ => nm_r (nI_1 m) ?_)))
  unfold wX_item_64
  rw [nI_clamp (show m < 2 ^ 31 by omega)]
  refine ⟨pk_in m 5 (by omega), ?_⟩
  intro a6' e6
  refine ⟨pk_in m 5 (by omega), ?_⟩
  intro a7' e7
  subst e6 e7
  exact H
theorem ws_item10 {post : Int32 → St2 → Prop} {t b : Nat} {p0 : Int32} (ht : t < 8) (hb : b = 10) (e0 : p0 = nI t) (H : post (-2) (f0, f1, f2, f3, f4, a1, a2, a3, a4, a5, a6, a7, a8, a9, a10, a11, a12, a13, a14, a15)) : wpX_item post (f0, f1, f2, f3, f4, a1, a2, a3, a4, a5, a6, a7, a8, a9, a10, a11, a12, a13, a14, a15) p0 (nI b) := by
  subst e0 hb
  unfold wpX_item
  exact ws_isWord ht (br_f (by decide) (br_f (nI_pos (by omega)) (pk_lt 19 10 (fun z => absurd z (by omega)) (fun _ => pk_eq 10 10 (fun _ => H) (fun z => absurd rfl z)))))
end
end
section
/-! the law's loops -/
theorem ws_lsc {post : Int32 → Prop} {u : St0} {p q it : Int32} {m d : Nat} {iw ib : Nat → Nat} (hI : ws_I it 3 m iw ib) (hd : d < 4) (H : post (nI (ws_sc (ws_c p q) (ws_ln p q) m iw ib d))) : wpL_score post u p q it (nI d) := by
  rw [ws_I_sc hI d] at H
  exact ws_lscore hd H
section
variable {f0 f1 f2 f3 f4 : Int32} {a1 a2 a3 a4 a5 a6 a7 a8 a9 a10 a11 a12 a13 a14 a15 : Nat → Int32}
theorem ws_l200 {post : Int32 → St0 → Prop} {mc ms kc ks : Nat} {J : Int32 → Int32 → Int32 → Int32 → Int32 → Int32 → Int32 → Int32 → (Nat → Int32) → (Nat → Int32) → (Nat → Int32) → (Nat → Int32) → (Nat → Int32) → (Nat → Int32) → (Nat → Int32) → (Nat → Int32) → (Nat → Int32) → (Nat → Int32) → (Nat → Int32) → (Nat → Int32) → (Nat → Int32) → (Nat → Int32) → (Nat → Int32) → Prop} {p q it : Int32} {m d l : Nat} {iw ib sc : Nat → Nat} (hd : d < 4) (hl : l < 2 ^ 31) (hI : ws_I it 3 m iw ib) (hS : sc = ws_sc (ws_c p q) (ws_ln p q) m iw ib) (hB : ws_B (ws_c p q) (ws_ln p q) m iw ib a1 a2 a3 a4 a6 a7)
    (H : ∀ x3 x4 b8 b9 b10 b11 b12 b13 b14 b15, J (nI (ws_cnt (ws_M p q it) (d + 1))) (nI (ws_cnt (ws_rc (ws_M p q it) sc l) (d + 1))) (nI (d + 1)) (nI 4) (nI 15) (nI m) x3 x4 a1 a2 a3 a4 a5 a6 a7 b8 b9 b10 b11 b12 b13 b14 b15) :
    ∃ n, wL_lawOf_200 post mc ms J p q it (nI (ws_cnt (ws_M p q it) d)) (nI (ws_cnt (ws_rc (ws_M p q it) sc l) d)) (nI l) (nI d) (nI (sc d)) (ws_b (ws_M p q it d)) kc ks (nI 4) (nI 15) (nI m) f3 f4 a1 a2 a3 a4 a5 a6 a7 a8 a9 a10 a11 a12 a13 a14 a15 n 0 0 := by
  have hm : m ≤ 3 := hB.2.2.2.2.2.1
  have hMM := ws_I_MM (p := p) (q := q) hI
  have sl : ∀ e, sc e ≤ 3000000 := fun e => by rw [hS]; exact ws_sc_le hm e
  have sd := sl d
  refine pk_loop (σ := Unit) (fun n i _ => wL_lawOf_200 post mc ms J p q it (nI (ws_cnt (ws_M p q it) d)) (nI (ws_cnt (ws_rc (ws_M p q it) sc l) d)) (nI l) (nI d) (nI (sc d)) (ws_b (ws_M p q it d)) kc ks (nI 4) (nI 15) (nI m) f3 f4 a1 a2 a3 a4 a5 a6 a7 a8 a9 a10 a11 a12 a13 a14 a15 n (nI (ws_cnt (ws_bf (ws_M p q it) sc d) i)) (nI i)) (fun _ _ => True) 4 0 () (by omega) trivial
    (fun n _ _ => pk_le 4 4 (fun _ => ?_) (fun z => absurd z (by omega)))
    (fun n i _ hi _ hw => pk_le 4 i (fun z => absurd z (by omega)) (fun _ => ?_))
  · refine ws_b_z (fun nM => nm_r (nI_1 d) ?_) (fun tM => nm_r (nI_1 _) ?_)
    · have h := H f3 f4 a8 a9 a10 a11 a12 a13 a14 a15
      rw [ws_cnt_f nM, ws_cnt_f (fun z => nM (ws_rc_iff.mp z).1)] at h
      exact h
    · have ac := ws_ah_cnt (sc := sc) hd tM
      have cl := ws_cnt_le (ws_M p q it) 4
      have ad : ws_cnt (ws_bf (ws_M p q it) sc d) 4 = ws_ah (ws_M p q it) sc 4 d := rfl
      rw [ad, ← ws_cnt_t tM]
      refine ws_ranked hB hMM (by omega) (fun z => absurd z (by omega)) (fun e e1 e2 e3 x3 x4 b8 b9 b10 b11 b12 b13 b14 b15 => ?_)
      rw [← hS] at e3
      have ed := ws_ah_inj e1 hd e2 tM e3
      subst ed
      refine br_t rfl ?_
      refine ws_rankedScore hB hMM (by omega) (fun z => absurd z (by omega)) (fun x g1 g2 g3 y3 y4 d8 d9 d10 d11 d12 d13 d14 d15 => ?_)
      rw [← hS] at g3 ⊢
      have ex := ws_ah_inj g1 hd g2 tM g3
      subst ex
      have h := H y3 y4 d8 d9 d10 d11 d12 d13 d14 d15
      refine br_t rfl (pk_lt (sc x) l (fun z => nm_r (nI_1 _) ?_) (fun z => nm_r (nI_1 _) (nm_r (nI_1 _) ?_)))
      · rw [ws_cnt_f (P := ws_rc _ _ _) (fun y => by have := (ws_rc_iff.mp y).2; omega)] at h
        exact h
      · rw [ws_cnt_t (P := ws_rc _ _ _) (ws_rc_iff.mpr ⟨tM, z⟩)] at h
        exact h
  · have w := hw () trivial
    have si := sl i
    refine ws_lsc hI hi (ws_lmatches hi ?_)
    rw [← hS]
    have yes : ws_bf (ws_M p q it) sc d i = true → wL_lawOf_200 post mc ms J p q it (nI (ws_cnt (ws_M p q it) d)) (nI (ws_cnt (ws_rc (ws_M p q it) sc l) d)) (nI l) (nI d) (nI (sc d)) (ws_b (ws_M p q it d)) kc ks (nI 4) (nI 15) (nI m) f3 f4 a1 a2 a3 a4 a5 a6 a7 a8 a9 a10 a11 a12 a13 a14 a15 n (nI (ws_cnt (ws_bf (ws_M p q it) sc d) i + 1)) (nI (i + 1)) := fun y => by
      rw [ws_cnt_t y] at w
      exact w
    have no : ¬ ws_bf (ws_M p q it) sc d i = true → wL_lawOf_200 post mc ms J p q it (nI (ws_cnt (ws_M p q it) d)) (nI (ws_cnt (ws_rc (ws_M p q it) sc l) d)) (nI l) (nI d) (nI (sc d)) (ws_b (ws_M p q it d)) kc ks (nI 4) (nI 15) (nI m) f3 f4 a1 a2 a3 a4 a5 a6 a7 a8 a9 a10 a11 a12 a13 a14 a15 n (nI (ws_cnt (ws_bf (ws_M p q it) sc d) i)) (nI (i + 1)) := fun y => by
      rw [ws_cnt_f y] at w
      exact w
    refine ws_b_z (fun nM => nm_r (nI_1 i) (no (fun y => nM (ws_bf_iff.mp y).1))) (fun tM => pk_lt (sc d) (sc i) (fun z => nm_r (nI_1 _) (nm_r (nI_1 i) (yes (ws_bf_iff.mpr ⟨tM, Or.inl z⟩)))) (fun z => pk_eq (sc i) (sc d) (fun z2 => pk_le d i (fun z3 => nm_r (nI_1 i) (no (fun y => ?_))) (fun z3 => nm_r (nI_1 _) (nm_r (nI_1 i) (yes (ws_bf_iff.mpr ⟨tM, Or.inr ⟨z2, z3⟩⟩))))) (fun z2 => nm_r (nI_1 i) (no (fun y => ?_)))))
    · have := (ws_bf_iff.mp y).2
      omega
    · have := (ws_bf_iff.mp y).2
      omega
theorem ws_ranked10 {post : Int32 → St2 → Prop} (H : post (-1) (f0, f1, f2, f3, f4, a1, a2, a3, a4, a5, a6, a7, a8, a9, a10, a11, a12, a13, a14, a15)) : wpX_ranked post (f0, f1, f2, f3, f4, a1, a2, a3, a4, a5, a6, a7, a8, a9, a10, a11, a12, a13, a14, a15) 10 :=
  br_f (by decide) (br_f (by decide) H)
theorem ws_l154 {post : Int32 → St0 → Prop} {mc ms kc ks : Nat} {p q it : Int32} {m l : Nat} {iw ib : Nat → Nat} (hp : post 1 ()) (hl : l < 2 ^ 31) (hI : ws_I it 3 m iw ib) (hB : ws_B (ws_c p q) (ws_ln p q) m iw ib a1 a2 a3 a4 a6 a7) :
    ∃ n, wL_lawOf_154 post mc ms p q it (nI l) kc ks n 0 0 0 (nI 4) (nI 15) (nI m) f3 f4 a1 a2 a3 a4 a5 a6 a7 a8 a9 a10 a11 a12 a13 a14 a15 := by
  have hMM := ws_I_MM (p := p) (q := q) hI
  generalize hS : ws_sc (ws_c p q) (ws_ln p q) m iw ib = sc
  refine pk_loop (σ := Int32 × Int32 × (Nat → Int32) × (Nat → Int32) × (Nat → Int32) × (Nat → Int32) × (Nat → Int32) × (Nat → Int32) × (Nat → Int32) × (Nat → Int32)) (fun n i s => wL_lawOf_154 post mc ms p q it (nI l) kc ks n (nI (ws_cnt (ws_M p q it) i)) (nI (ws_cnt (ws_rc (ws_M p q it) sc l) i)) (nI i) (nI 4) (nI 15) (nI m) s.1 s.2.1 a1 a2 a3 a4 a5 a6 a7 s.2.2.1 s.2.2.2.1 s.2.2.2.2.1 s.2.2.2.2.2.1 s.2.2.2.2.2.2.1 s.2.2.2.2.2.2.2.1 s.2.2.2.2.2.2.2.2.1 s.2.2.2.2.2.2.2.2.2) (fun _ _ => True) 4 0 (f3, f4, a8, a9, a10, a11, a12, a13, a14, a15) (by omega) trivial ?_ ?_
  · rintro n ⟨y3, y4, b8, b9, b10, b11, b12, b13, b14, b15⟩ _
    dsimp only
    refine pk_le 4 4 (fun _ => ?_) (fun z => absurd z (by omega))
    refine ws_matching hB hMM (br_t rfl ?_)
    refine ws_scoring hl hB hMM (fun x3 d8 d9 d10 d11 d12 d13 => ?_)
    rw [hS]
    refine br_t rfl ?_
    have cl := ws_cnt_le (ws_M p q it) 4
    refine ws_ranked hB hMM (by omega) (fun _ x3 x4 e8 e9 e10 e11 e12 e13 e14 e15 => ?_) (fun e e1 e2 e3 => ?_)
    · exact br_t rfl (ws_ranked10 (br_t rfl hp))
    · have := ws_ah_cnt (sc := ws_sc (ws_c p q) (ws_ln p q) m iw ib) e1 e2
      omega
  · rintro n i ⟨y3, y4, b8, b9, b10, b11, b12, b13, b14, b15⟩ hi _ hw
    dsimp only at hw ⊢
    refine pk_le 4 i (fun z => absurd z (by omega)) (fun _ => ?_)
    refine ws_lsc hI hi (ws_lmatches hi ?_)
    refine ws_score hB hi (fun x3 d8 d9 d10 d11 d12 d13 => br_t rfl ?_)
    rw [hS]
    exact ws_l200 hi hl hI hS.symm hB (fun x3 x4 e8 e9 e10 e11 e12 e13 e14 e15 => hw (x3, x4, e8, e9, e10, e11, e12, e13, e14, e15) trivial)
theorem ws_l77 {post : Int32 → St0 → Prop} {mc ms kc ks : Nat} {p q it bd : Int32} (hp : post 1 ()) (hL : ∀ t, t < 8 → ws_L (ws_c p q) 4 t a1 a2) (h3 : ∀ d t, d < 4 → t < 8 → a3 (8 * d + t) = nI (ws_c p q d t)) (h4 : ∀ d, d < 4 → a4 d = nI (ws_ln p q d)) :
    ∃ n, wL_lawOf_77 post mc ms p q it bd kc ks n 0 (nI 4) (nI 15) (nI 0) f3 f4 a1 a2 a3 a4 a5 a6 a7 a8 a9 a10 a11 a12 a13 a14 a15 := by
  refine pk_loop (σ := Nat × (Nat → Int32) × (Nat → Int32)) (fun n k s => wL_lawOf_77 post mc ms p q it bd kc ks n (nI k) (nI 4) (nI 15) (nI s.1) f3 f4 a1 a2 a3 a4 a5 s.2.1 s.2.2 a8 a9 a10 a11 a12 a13 a14 a15) (fun k s => ∃ iw ib, ws_I it k s.1 iw ib ∧ ∀ i, i < s.1 → s.2.1 i = nI (iw i) ∧ s.2.2 i = nI (ib i)) 3 0 (0, a6, a7) (Nat.zero_le _) ⟨fun _ => 0, fun _ => 0, ws_I_0, fun i hi => absurd hi (Nat.not_lt_zero i)⟩ ?_ ?_
  · rintro n ⟨m, b6, b7⟩ ⟨iw, ib, hI, h67⟩
    dsimp only at hI h67 ⊢
    refine pk_le 3 3 (fun _ => ?_) (fun z => absurd z (by omega))
    refine nm_r (pk_and bd 20 (m := 1048575) (by decide)) ?_
    have l20 : bd.toBitVec.toNat % 2 ^ 20 < 2 ^ 20 := Nat.mod_lt _ (by decide)
    refine ws_l154 hp (by omega) hI ⟨ws_c_le p q, fun d => by have := ws_ln_le p q d; omega, hL, h3, h4, hI.1, fun i hi => ?_⟩
    obtain ⟨t, ht, e1, e2, e3⟩ := hI.2.1 i hi
    have bl := ws_bo_lt it t
    exact ⟨by omega, by omega, by rw [e2]; exact e3, (h67 i hi).1, (h67 i hi).2⟩
  · rintro n k ⟨m, b6, b7⟩ hk ⟨iw, ib, hI, h67⟩ hw
    dsimp only at hI h67 hw ⊢
    refine pk_le 3 k (fun z => absurd z (by omega)) (fun _ => ?_)
    have bl := ws_bo_lt it k
    have e3 : (3 : Int32) * nI k = nI (3 * k) := pk_mul 3 k
    have hm := hI.1
    refine ws_boost k ?_
    by_cases z : ws_bo it k = 10
    · refine ws_item10 (t := 3 * k) (by omega) z e3 (br_t rfl ?_)
      unfold wL_lawOf_116
      refine pk_eq (ws_bo it k) 10 (fun _ => ?_) (fun y => absurd z y)
      exact br_t rfl (nm_r (nI_1 k) (hw (m, b6, b7) ⟨iw, ib, ws_I_skip hI z, h67⟩))
    · refine ws_item (t := 3 * k) (iw := iw) (by omega) (by omega) bl z e3 (fun i hi => ?_) (br_f (ws_m2n (by omega)) ?_)
      · obtain ⟨t, ht, e1, e2, e3⟩ := hI.2.1 i hi
        exact ⟨(h67 i hi).1, by omega, by omega⟩
      · unfold wL_lawOf_116
        refine pk_eq (ws_bo it k) 10 (fun y => absurd y z) (fun _ => ?_)
        refine br_t rfl (nm_r (nI_1 k) (hw (m + 1, upd b6 m (nI (3 * k)), upd b7 m (nI (ws_bo it k))) ⟨_, _, ws_I_add hI z, fun i hi => ?_⟩))
        dsimp only at hi ⊢
        by_cases e : i = m
        · rw [e, pk_us, pk_us, ws_ov_s, ws_ov_s]
          exact ⟨rfl, rfl⟩
        · rw [pk_un e, pk_un e, ws_ov_n _ _ e, ws_ov_n _ _ e]
          exact h67 i (by omega)
theorem ws_l21 {post : Int32 → St0 → Prop} {mc ms kc ks : Nat} {J : Int32 → Int32 → Int32 → Int32 → Int32 → Int32 → (Nat → Int32) → (Nat → Int32) → (Nat → Int32) → (Nat → Int32) → (Nat → Int32) → (Nat → Int32) → (Nat → Int32) → (Nat → Int32) → (Nat → Int32) → (Nat → Int32) → (Nat → Int32) → (Nat → Int32) → (Nat → Int32) → (Nat → Int32) → (Nat → Int32) → Prop} {p q it bd : Int32} {d : Nat} (hd : d < 4) (hL : ∀ t, t < 8 → ws_L (ws_c p q) d t a1 a2) (h3 : ∀ e t, e < d → t < 8 → a3 (8 * e + t) = nI (ws_c p q e t)) (h4 : ∀ e, e < d → a4 e = nI (ws_ln p q e)) (h5 : ∀ u, u < 8 → ¬ u % 3 = 0 → a5 u = nI 0)
    (H : ∀ b1 b2 b3 b4 b5, (∀ t, t < 8 → ws_L (ws_c p q) (d + 1) t b1 b2) → (∀ e t, e < d + 1 → t < 8 → b3 (8 * e + t) = nI (ws_c p q e t)) → (∀ e, e < d + 1 → b4 e = nI (ws_ln p q e)) → (∀ u, u < 8 → ¬ u % 3 = 0 → b5 u = nI 0) → J (nI (d + 1)) (nI (d + 1)) (nI (2 ^ (d + 1) - 1)) f2 f3 f4 b1 b2 b3 b4 b5 a6 a7 a8 a9 a10 a11 a12 a13 a14 a15) :
    ∃ n, wL_lawOf_21 post mc ms J p q it bd (nI d) kc ks n 0 (nI d) (nI (2 ^ d - 1)) f2 f3 f4 a1 a2 a3 a4 a5 a6 a7 a8 a9 a10 a11 a12 a13 a14 a15 := by
  refine pk_loop (σ := Nat → Int32) (fun n k s => wL_lawOf_21 post mc ms J p q it bd (nI d) kc ks n (nI k) (nI d) (nI (2 ^ d - 1)) f2 f3 f4 a1 a2 a3 a4 s a6 a7 a8 a9 a10 a11 a12 a13 a14 a15) (fun k s => (∀ u, u < 8 → ¬ u % 3 = 0 → s u = nI 0) ∧ ∀ t, t < k → s (3 * t) = nI (ws_P p q d t)) 3 0 a5 (Nat.zero_le _) ⟨h5, fun t ht => absurd ht (Nat.not_lt_zero t)⟩ ?_ ?_
  · rintro n s ⟨s1, s2⟩
    refine pk_le 3 3 (fun _ => ?_) (fun z => absurd z (by omega))
    refine ws_add (c := ws_c p q) (len := ws_ln p q) hd (ws_c_le p q) (fun u hu => ?_) hL h3 h4 (ws_c_sum p q d).symm (fun b1 b2 b3 b4 g1 g2 g3 => br_t rfl (nm_r (nI_1 d) (H b1 b2 b3 b4 s g1 g2 g3 s1)))
    by_cases e : u % 3 = 0
    · obtain ⟨t, rfl⟩ : ∃ t, u = 3 * t := ⟨u / 3, by omega⟩
      rw [ws_c_3]
      exact s2 t (by omega)
    · rw [ws_c_n e]
      exact s1 u hu e
  · rintro n k s hk ⟨s1, s2⟩ hw
    refine pk_le 3 k (fun z => absurd z (by omega)) (fun _ => ?_)
    refine ws_part d k hd (ws_write (t := 3 * k) (by omega) (ws_P_le p q d k) (pk_mul 3 k) (fun r => nm_r (nI_1 k) (hw _ ⟨fun u hu e => ?_, fun t ht => ?_⟩)))
    · rw [pk_un (by omega)]
      exact s1 u hu e
    · by_cases e : t = k
      · rw [e, pk_us]
      · rw [pk_un (by omega)]
        exact s2 t (by omega)
end
end
section
/-! the law -/
theorem ws_l12 {post : Int32 → St0 → Prop} {mc ms kc ks : Nat} {p q it bd : Int32} (hp : post 1 ()) : ∃ n, wL_lawOf_12 post mc ms p q it bd kc ks n 0 0 0 0 0 0 (fun _ => 0) (fun _ => 0) (fun _ => 0) (fun _ => 0) (fun _ => 0) (fun _ => 0) (fun _ => 0) (fun _ => 0) (fun _ => 0) (fun _ => 0) (fun _ => 0) (fun _ => 0) (fun _ => 0) (fun _ => 0) (fun _ => 0) := by
  refine pk_loop (σ := (Nat → Int32) × (Nat → Int32) × (Nat → Int32) × (Nat → Int32) × (Nat → Int32)) (fun n d s => wL_lawOf_12 post mc ms p q it bd kc ks n (nI d) (nI d) (nI (2 ^ d - 1)) (nI 0) 0 0 s.1 s.2.1 s.2.2.1 s.2.2.2.1 s.2.2.2.2 (fun _ => 0) (fun _ => 0) (fun _ => 0) (fun _ => 0) (fun _ => 0) (fun _ => 0) (fun _ => 0) (fun _ => 0) (fun _ => 0) (fun _ => 0))
    (fun d s => (∀ t, t < 8 → ws_L (ws_c p q) d t s.1 s.2.1) ∧ (∀ e t, e < d → t < 8 → s.2.2.1 (8 * e + t) = nI (ws_c p q e t)) ∧ (∀ e, e < d → s.2.2.2.1 e = nI (ws_ln p q e)) ∧ ∀ u, u < 8 → ¬ u % 3 = 0 → s.2.2.2.2 u = nI 0) 4 0 (fun _ => 0, fun _ => 0, fun _ => 0, fun _ => 0, fun _ => 0) (Nat.zero_le _) ⟨fun t _ => ⟨rfl, fun d hd => absurd hd (Nat.not_lt_zero d)⟩, fun e t he => absurd he (Nat.not_lt_zero e), fun e he => absurd he (Nat.not_lt_zero e), fun _ _ _ => rfl⟩ ?_ ?_
  · rintro n ⟨b1, b2, b3, b4, b5⟩ ⟨g1, g2, g3, g4⟩
    exact pk_le 4 4 (fun _ => ws_l77 hp g1 g2 g3) (fun z => absurd z (by omega))
  · rintro n d ⟨b1, b2, b3, b4, b5⟩ hd ⟨g1, g2, g3, g4⟩ hw
    exact pk_le 4 d (fun z => absurd z (by omega)) (fun _ => ws_l21 hd g1 g2 g3 g4 (fun d1 d2 d3 d4 d5 k1 k2 k3 k4 => hw (d1, d2, d3, d4, d5) ⟨k1, k2, k3, k4⟩))
theorem ws_cell {post : Int32 → Prop} {L : Nat} {xs : Nat → Int32} {u : St0} {x : Int32} (k : Nat) (hL : L ≤ 4) (hk : k < 4) (H : ∀ r, post r) (e : x = nI k := by rfl) : wpL_cellAt post L xs u x :=
  pk_le L k (fun _ => H _) (fun z => ⟨pk_in k L z e, H _⟩) rfl e
theorem ws_lawOf {p q it bd : Int32} : wpL_lawOf (fun r _ => r = 1) 240 3840 () p q it bd := by
  refine ⟨by decide, by decide, 15, 676, by decide, by decide, ?_⟩
  refine ⟨by decide, by decide, by decide, by decide, by decide, by decide, by decide, by decide, by decide, by decide, by decide, by decide, by decide, by decide, by decide, by decide, by decide, by decide, by decide, by decide, by decide, by decide, by decide, by decide, by decide, by decide, by decide, by decide, by decide, by decide, ?_⟩
  exact ws_l12 rfl
theorem i_vc (xs : Nat → Int32) (L : Nat) (hL : L ≤ 4) : wpL_law (fun r => r = 1) L xs := by
  unfold wpL_law
  exact ws_cell 0 hL (by omega) (fun r1 => ws_cell 1 hL (by omega) (fun r2 => ws_cell 2 hL (by omega) (fun r3 => ws_cell 3 hL (by omega) (fun r4 => ⟨240, 3840, by decide, by decide, ws_lawOf⟩))))
end
