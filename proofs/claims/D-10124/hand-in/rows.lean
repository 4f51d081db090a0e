section
/-! counting the holders of a slot; sums; places and offsets -/
def ca_b (a b : Nat) : Nat := if a = b then 1 else 0
theorem ca_b_t {a b : Nat} (h : a = b) : ca_b a b = 1 := if_pos h
theorem ca_b_f {a b : Nat} (h : a ≠ b) : ca_b a b = 0 := if_neg h
def ca_l (a b : Nat) : Nat := if a < b then 1 else 0
theorem ca_l_t {a b : Nat} (h : a < b) : ca_l a b = 1 := if_pos h
theorem ca_l_f {a b : Nat} (h : ¬ a < b) : ca_l a b = 0 := if_neg h
/-- how many of the first n pairs hold the slot c -/
def ca_cnt (g : Nat → Nat) (c : Nat) : Nat → Nat
  | 0 => 0
  | n + 1 => ca_cnt g c n + ca_b (g n) c
theorem ca_cnt_s (g : Nat → Nat) (c n : Nat) : ca_cnt g c (n + 1) = ca_cnt g c n + ca_b (g n) c := rfl
theorem ca_cnt_0 (g : Nat → Nat) (c : Nat) : ca_cnt g c 0 = 0 := rfl
def ca_up (g : Nat → Nat) (q v : Nat) : Nat → Nat := fun j => if j = q then v else g j
theorem ca_up_s {g : Nat → Nat} {q v : Nat} : ca_up g q v q = v := if_pos rfl
theorem ca_up_n {g : Nat → Nat} {q v j : Nat} (h : j ≠ q) : ca_up g q v j = g j := if_neg h
theorem ca_up_up {g : Nat → Nat} {q v w : Nat} : ca_up (ca_up g q v) q w = ca_up g q w := by
  funext j
  by_cases e : j = q
  · rw [e, ca_up_s, ca_up_s]
  · rw [ca_up_n e, ca_up_n e, ca_up_n e]
theorem ca_cnt_congr {g g' : Nat → Nat} {c : Nat} (n : Nat) : (∀ j, j < n → g j = g' j) → ca_cnt g c n = ca_cnt g' c n := by
  induction n with
  | zero => intro _; rfl
  | succ n ih =>
    intro h
    rw [ca_cnt_s, ca_cnt_s, ih (fun j hj => h j (by omega)), h n (by omega)]
theorem ca_cnt_up {g : Nat → Nat} {q v c : Nat} (n : Nat) : q < n → ca_cnt (ca_up g q v) c n + ca_b (g q) c = ca_cnt g c n + ca_b v c := by
  induction n with
  | zero => intro h; omega
  | succ n ih =>
    intro h
    rw [ca_cnt_s, ca_cnt_s]
    by_cases e : q = n
    · subst e
      rw [ca_up_s, ca_cnt_congr (g := ca_up g q v) (g' := g) q (fun j hj => ca_up_n (by omega))]
      omega
    · rw [ca_up_n (show n ≠ q by omega)]
      have := ih (by omega)
      omega
theorem ca_cnt_le (g : Nat → Nat) (c n : Nat) : ca_cnt g c n ≤ n := by
  induction n with
  | zero => exact Nat.le_refl 0
  | succ n ih =>
    rw [ca_cnt_s]
    have : ca_b (g n) c ≤ 1 := by unfold ca_b; split <;> omega
    omega
theorem ca_cnt_pos {g : Nat → Nat} {c q : Nat} (n : Nat) (h : q < n) (e : g q = c) : 0 < ca_cnt g c n := by
  have h1 := ca_cnt_up (g := g) (q := q) (v := c + 1) (c := c) n h
  rw [ca_b_t e, ca_b_f (show c + 1 ≠ c by omega)] at h1
  omega
theorem ca_cnt_one {g : Nat → Nat} {c q j n : Nat} (h1 : ca_cnt g c n = 1) (hq : q < n) (e : g q = c) (hj : j < n) (hne : j ≠ q) : g j ≠ c := by
  intro z
  have h2 := ca_cnt_up (g := g) (q := q) (v := c + 1) (c := c) n hq
  rw [ca_b_t e, ca_b_f (show c + 1 ≠ c by omega)] at h2
  have h3 := ca_cnt_pos (g := ca_up g q (c + 1)) (c := c) (q := j) n hj (by rw [ca_up_n hne]; exact z)
  omega
/-- how many pairs hold one of the first m slots -/
def ca_tot (g : Nat → Nat) (n : Nat) : Nat → Nat
  | 0 => 0
  | m + 1 => ca_tot g n m + ca_cnt g m n
theorem ca_tot_s (g : Nat → Nat) (n m : Nat) : ca_tot g n (m + 1) = ca_tot g n m + ca_cnt g m n := rfl
theorem ca_tot_n (g : Nat → Nat) (n m : Nat) : ca_tot g (n + 1) m = ca_tot g n m + ca_l (g n) m := by
  induction m with
  | zero => rw [ca_l_f (by omega)]; rfl
  | succ m ih =>
    rw [ca_tot_s, ca_tot_s, ih, ca_cnt_s]
    rcases Nat.lt_trichotomy (g n) m with h | h | h
    · rw [ca_l_t h, ca_l_t (show g n < m + 1 by omega), ca_b_f (show g n ≠ m by omega)]; omega
    · rw [ca_l_f (show ¬ g n < m by omega), ca_l_t (show g n < m + 1 by omega), ca_b_t h]; omega
    · rw [ca_l_f (show ¬ g n < m by omega), ca_l_f (show ¬ g n < m + 1 by omega), ca_b_f (show g n ≠ m by omega)]; omega
theorem ca_tot_0 (g : Nat → Nat) (m : Nat) : ca_tot g 0 m = 0 := by
  induction m with
  | zero => rfl
  | succ m ih => rw [ca_tot_s, ih, ca_cnt_0]
theorem ca_l_le (a b : Nat) : ca_l a b ≤ 1 := by unfold ca_l; split <;> omega
theorem ca_tot_add (g : Nat → Nat) (n m k : Nat) : ca_tot g (n + k) m ≤ ca_tot g n m + k := by
  induction k with
  | zero => exact Nat.le_refl _
  | succ k ih =>
    have h1 := ca_tot_n g (n + k) m
    have h2 := ca_l_le (g (n + k)) m
    have h3 : ca_tot g (n + (k + 1)) m = ca_tot g (n + k + 1) m := rfl
    omega
theorem ca_tot_dead (g : Nat → Nat) (n m k : Nat) (h : ∀ j, n ≤ j → j < n + k → m ≤ g j) : ca_tot g (n + k) m = ca_tot g n m := by
  induction k with
  | zero => rfl
  | succ k ih =>
    have h1 := ca_tot_n g (n + k) m
    rw [ca_l_f (show ¬ g (n + k) < m from by have := h (n + k) (by omega) (by omega); omega)] at h1
    have h3 : ca_tot g (n + (k + 1)) m = ca_tot g (n + k + 1) m := rfl
    have h4 := ih (fun j a b => h j a (by omega))
    omega
theorem ca_tot_ge (g : Nat → Nat) (n m : Nat) (h : ∀ c, c < m → 0 < ca_cnt g c n) : m ≤ ca_tot g n m := by
  induction m with
  | zero => omega
  | succ m ih =>
    rw [ca_tot_s]
    have h1 := ih (fun c hc => h c (by omega))
    have h2 := h m (by omega)
    omega
/-- a free slot: at most 48 pairs live -/
theorem ca_free {g : Nat → Nat} (hd : ∀ q, 32 ≤ q → q < 64 → 80 ≤ g q) : ∃ c, c < 79 ∧ ca_cnt g c 80 = 0 := by
  apply Classical.byContradiction
  intro hn
  have h0 : ∀ c, c < 79 → 0 < ca_cnt g c 80 := by
    intro c hc
    rcases Nat.eq_zero_or_pos (ca_cnt g c 80) with z | z
    · exact absurd ⟨c, hc, z⟩ hn
    · exact z
  have h1 := ca_tot_ge g 80 79 h0
  have h2 : ca_tot g 32 79 ≤ ca_tot g 0 79 + 32 := ca_tot_add g 0 79 32
  have h3 : ca_tot g 64 79 = ca_tot g 32 79 := ca_tot_dead g 32 79 32 (fun j a b => by have := hd j a (by omega); omega)
  have h4 : ca_tot g 80 79 ≤ ca_tot g 64 79 + 16 := ca_tot_add g 64 79 16
  rw [ca_tot_0] at h2
  omega
/-- sums -/
def ca_sum (f : Nat → Int32) : Nat → Int32
  | 0 => 0
  | n + 1 => ca_sum f n + f n
theorem ca_sum_s (f : Nat → Int32) (n : Nat) : ca_sum f (n + 1) = ca_sum f n + f n := rfl
theorem ca_sum_0 (f : Nat → Int32) : ca_sum f 0 = 0 := rfl
theorem ca_sum_congr {f f' : Nat → Int32} (n : Nat) : (∀ i, i < n → f i = f' i) → ca_sum f n = ca_sum f' n := by
  induction n with
  | zero => intro _; rfl
  | succ n ih =>
    intro h
    rw [ca_sum_s, ca_sum_s, ih (fun j hj => h j (by omega)), h n (by omega)]
theorem ca_sum_add (f f' : Nat → Int32) (n : Nat) : ca_sum (fun i => f i + f' i) n = ca_sum f n + ca_sum f' n := by
  induction n with
  | zero => rfl
  | succ n ih =>
    rw [ca_sum_s, ca_sum_s, ca_sum_s, ih]
    grind
theorem ca_sum_zero {f : Nat → Int32} (n : Nat) : (∀ i, i < n → f i = 0) → ca_sum f n = 0 := by
  induction n with
  | zero => intro _; rfl
  | succ n ih =>
    intro h
    rw [ca_sum_s, ih (fun j hj => h j (by omega)), h n (by omega)]
    rfl
theorem ca_sum_lin (f : Nat → Int32) (a b : Int32) (n : Nat) : ca_sum (fun i => f i * a + b) n = ca_sum f n * a + nI n * b := by
  induction n with
  | zero =>
    rw [ca_sum_0, ca_sum_0, nI_0]
    grind
  | succ n ih =>
    rw [ca_sum_s, ca_sum_s, ih, nI_succ]
    grind
theorem ca_sum_16 (f : Nat → Int32) (a b : Int32) : ca_sum f 16 * a + 16 * b = ca_sum (fun i => f i * a + b) 16 := (ca_sum_lin f a b 16).symm
/-- places, offsets, rows, columns -/
def ca_pl (r c : Nat) : Nat := r / 4 * 4 + c / 4
def ca_wi (r c : Nat) : Nat := r % 4 * 4 + c % 4
def ca_ro (p w : Nat) : Nat := p / 4 * 4 + w / 4
def ca_co (p w : Nat) : Nat := p % 4 * 4 + w % 4
theorem ca_pl_lt {r c : Nat} (hr : r < 16) (hc : c < 16) : ca_pl r c < 16 := by unfold ca_pl; omega
theorem ca_wi_lt (r c : Nat) : ca_wi r c < 16 := by unfold ca_wi; omega
theorem ca_ro_lt {p w : Nat} (hr : p < 16) (hc : w < 16) : ca_ro p w < 16 := by unfold ca_ro; omega
theorem ca_co_lt {p w : Nat} : ca_co p w < 16 := by unfold ca_co; omega
theorem ca_pl_rc {p w : Nat} (hp : p < 16) (hw : w < 16) : ca_pl (ca_ro p w) (ca_co p w) = p := by unfold ca_pl ca_ro ca_co; omega
theorem ca_wi_rc {p w : Nat} (hp : p < 16) (hw : w < 16) : ca_wi (ca_ro p w) (ca_co p w) = w := by unfold ca_wi ca_ro ca_co; omega
theorem ca_ro_pw {r c : Nat} (hr : r < 16) (hc : c < 16) : ca_ro (ca_pl r c) (ca_wi r c) = r := by unfold ca_pl ca_ro ca_wi; omega
theorem ca_co_pw {r c : Nat} (hr : r < 16) (hc : c < 16) : ca_co (ca_pl r c) (ca_wi r c) = c := by unfold ca_pl ca_co ca_wi; omega
theorem ca_plI {r c : Nat} (hr : r < 16) (hc : c < 16) : ((nI r >>> ((2 : Int32) &&& 31)) * 4) + (nI c >>> ((2 : Int32) &&& 31)) = nI (ca_pl r c) := by
  rw [pk_shrN (by omega) _ 2 (by decide), pk_shrN (by omega) _ 2 (by decide)]
  show nI (r / 4) * nI 4 + nI (c / 4) = _
  rw [pk_mul, nI_add]
  rfl
theorem ca_wiI {r c : Nat} (hr : r < 16) (hc : c < 16) : ((nI r &&& 3) * 4) + (nI c &&& 3) = nI (ca_wi r c) := by
  rw [pk_andN (by omega) 2 (by decide), pk_andN (by omega) 2 (by decide)]
  show nI (r % 4) * nI 4 + nI (c % 4) = _
  rw [pk_mul, nI_add]
  rfl
theorem ca_roI {p w : Nat} (hp : p < 16) (hw : w < 16) : ((nI p / 4) * 4) + (nI w / 4) = nI (ca_ro p w) := by
  show nI p / nI 4 * nI 4 + nI w / nI 4 = _
  rw [pk_div (by omega) (by omega) (by omega), pk_div (by omega) (by omega) (by omega), pk_mul, nI_add]
  rfl
theorem ca_coI {p w : Nat} (hp : p < 16) (hw : w < 16) : ((nI p - nI p / 4 * 4) * 4) + (nI w - nI w / 4 * 4) = nI (ca_co p w) := by
  show (nI p - nI p / nI 4 * nI 4) * nI 4 + (nI w - nI w / nI 4 * nI 4) = _
  rw [pk_rem (by omega) (by omega) (by omega), pk_rem (by omega) (by omega) (by omega), pk_mul, nI_add]
  rfl
theorem ca_r4 {p : Nat} (hp : p < 16) : (nI p / 4) * 4 = nI (p / 4 * 4) := by
  show nI p / nI 4 * nI 4 = _
  rw [pk_div (by omega) (by omega) (by omega), pk_mul]
theorem ca_c4 {p : Nat} (hp : p < 16) : (nI p - nI p / 4 * 4) * 4 = nI (p % 4 * 4) := by
  show (nI p - nI p / nI 4 * nI 4) * nI 4 = _
  rw [pk_rem (by omega) (by omega) (by omega), pk_mul]
theorem ca_q (a p : Nat) : (nI a * 16) + nI p = nI (a * 16 + p) := by
  show nI a * nI 16 + nI p = _
  rw [pk_mul, nI_add]
theorem ca_64 (p : Nat) : 64 + nI p = nI (64 + p) := nI_add 64 p
theorem ca_lo {F : Nat} (h : F < 256) : nI F &&& 15 = nI (F % 16) := pk_andN (by omega) 4 (by decide)
theorem ca_hi {F : Nat} (h : F < 256) : nI F >>> ((4 : Int32) &&& 31) = nI (F / 16) := pk_shrN (by omega) _ 4 (by decide)
theorem ca_n4 : ¬ (4 : Int32) = 0 := by decide
end
section
/-! the picture: g says which slot a pair holds, M what the pair's cells are worth -/
def ca_val (a4 a5 a6 : Nat → Int32) (c w : Nat) : Int32 := a4 (c * 16 + w) * a5 c + a6 c
def ca_A (g : Nat → Nat) (a2 : Nat → Int32) : Prop := ∀ q, q < 80 → g q < 80 → a2 q = nI (g q)
def ca_H (g : Nat → Nat) (a3 : Nat → Int32) : Prop := ∀ c, c < 80 → a3 c = nI (ca_cnt g c 80)
def ca_D (g : Nat → Nat) : Prop := ∀ q, 32 ≤ q → q < 64 → 80 ≤ g q
def ca_S (a4 a7 a8 : Nat → Int32) : Prop := ∀ c, c < 80 → a7 c ≠ 0 → a8 c = ca_sum (fun i => a4 (c * 16 + i)) 16
def ca_V (g : Nat → Nat) (M : Nat → Nat → Int32) (a4 a5 a6 : Nat → Int32) : Prop := ∀ q, q < 80 → g q < 80 → ∀ w, w < 16 → ca_val a4 a5 a6 (g q) w = M q w
def ca_G (g : Nat → Nat) (M : Nat → Nat → Int32) (a2 a3 a4 a5 a6 a7 a8 : Nat → Int32) : Prop := ca_A g a2 ∧ ca_H g a3 ∧ ca_D g ∧ ca_S a4 a7 a8 ∧ ca_V g M a4 a5 a6
theorem ca_H_dec {g : Nat → Nat} {a3 : Nat → Int32} {q : Nat} (h : ca_H g a3) (hq : q < 80) (hg : g q < 80) : ca_H (ca_up g q 80) (upd a3 (g q) (a3 (g q) - 1)) := by
  intro c hc
  have h1 := ca_cnt_up (g := g) (q := q) (v := 80) (c := c) 80 hq
  rw [ca_b_f (show 80 ≠ c by omega)] at h1
  by_cases e : c = g q
  · subst e
    rw [ca_b_t rfl] at h1
    rw [pk_us, h _ hc, show ca_cnt g (g q) 80 = ca_cnt (ca_up g q 80) (g q) 80 + 1 by omega]
    exact nI_pred _
  · rw [ca_b_f (fun z => e z.symm)] at h1
    rw [pk_un e, h c hc, show ca_cnt g c 80 = ca_cnt (ca_up g q 80) c 80 by omega]
theorem ca_H_inc {g : Nat → Nat} {a3 : Nat → Int32} {q d : Nat} (h : ca_H g a3) (hq : q < 80) (hg : 80 ≤ g q) (hd : d < 80) : ca_H (ca_up g q d) (upd a3 d (a3 d + 1)) := by
  intro c hc
  have h1 := ca_cnt_up (g := g) (q := q) (v := d) (c := c) 80 hq
  rw [ca_b_f (show g q ≠ c by omega)] at h1
  by_cases e : c = d
  · rw [e] at h1 hc ⊢
    rw [ca_b_t rfl] at h1
    rw [pk_us, h _ hc, show ca_cnt (ca_up g q d) d 80 = ca_cnt g d 80 + 1 by omega]
    exact (nI_succ _).symm
  · rw [ca_b_f (fun z => e z.symm)] at h1
    rw [pk_un e, h c hc, show ca_cnt (ca_up g q d) c 80 = ca_cnt g c 80 by omega]
theorem ca_H_move {g : Nat → Nat} {a3 : Nat → Int32} {q d : Nat} (h : ca_H g a3) (hq : q < 80) (hg : g q < 80) (hd : d < 80) : ca_H (ca_up g q d) (upd (upd a3 (g q) (a3 (g q) - 1)) d (upd a3 (g q) (a3 (g q) - 1) d + 1)) := by
  have h1 := ca_H_dec h hq hg
  have h2 := ca_H_inc h1 hq (by rw [ca_up_s]; omega) hd
  rw [ca_up_up] at h2
  exact h2
theorem ca_A_set {g : Nat → Nat} {a2 : Nat → Int32} {q d : Nat} (h : ca_A g a2) : ca_A (ca_up g q d) (upd a2 q (nI d)) := by
  intro j hj hg
  by_cases e : j = q
  · rw [e, ca_up_s, pk_us]
  · rw [ca_up_n e] at hg ⊢
    rw [pk_un e]
    exact h j hj hg
theorem ca_A_dead {g : Nat → Nat} {a2 : Nat → Int32} {q : Nat} (h : ca_A g a2) : ca_A (ca_up g q 80) a2 := by
  intro j hj hg
  by_cases e : j = q
  · rw [e, ca_up_s] at hg
    omega
  · rw [ca_up_n e] at hg ⊢
    exact h j hj hg
theorem ca_G_chunk {g : Nat → Nat} {M M' : Nat → Nat → Int32} {a2 a3 a4 a5 a6 a7 a8 b4 b5 b6 b7 b8 : Nat → Int32} {q0 : Nat} (h : ca_G g M a2 a3 a4 a5 a6 a7 a8)
    (hu : ∀ q, q < 80 → q ≠ q0 → g q ≠ g q0) (h4 : ∀ c w, c ≠ g q0 → w < 16 → b4 (c * 16 + w) = a4 (c * 16 + w)) (h5 : ∀ c, c ≠ g q0 → b5 c = a5 c) (h6 : ∀ c, c ≠ g q0 → b6 c = a6 c)
    (h7 : ∀ c, c ≠ g q0 → b7 c = a7 c) (h8 : ∀ c, c ≠ g q0 → b8 c = a8 c) (hS : b7 (g q0) ≠ 0 → b8 (g q0) = ca_sum (fun i => b4 (g q0 * 16 + i)) 16)
    (hM : ∀ q, q < 80 → q ≠ q0 → ∀ w, w < 16 → M' q w = M q w) (hV : ∀ w, w < 16 → ca_val b4 b5 b6 (g q0) w = M' q0 w) : ca_G g M' a2 a3 b4 b5 b6 b7 b8 := by
  obtain ⟨hA, hH, hD, hS0, hV0⟩ := h
  refine ⟨hA, hH, hD, ?_, ?_⟩
  · intro c hc hn
    by_cases e : c = g q0
    · subst e
      exact hS hn
    · rw [h7 c e] at hn
      rw [h8 c e, hS0 c hc hn]
      exact ca_sum_congr 16 (fun i hi => (h4 c i e hi).symm)
  · intro q hq hg w hw
    by_cases e : q = q0
    · rw [e]
      exact hV w hw
    · have hn := hu q hq e
      unfold ca_val
      rw [h4 _ _ hn hw, h5 _ hn, h6 _ hn, hM q hq e w hw]
      exact hV0 q hq hg w hw
theorem ca_G_M {g : Nat → Nat} {M M' : Nat → Nat → Int32} {a2 a3 a4 a5 a6 a7 a8 : Nat → Int32} (h : ca_G g M a2 a3 a4 a5 a6 a7 a8) (hM : ∀ q, q < 80 → g q < 80 → ∀ w, w < 16 → M q w = M' q w) : ca_G g M' a2 a3 a4 a5 a6 a7 a8 := by
  obtain ⟨hA, hH, hD, hS0, hV0⟩ := h
  exact ⟨hA, hH, hD, hS0, fun q hq hg w hw => (hV0 q hq hg w hw).trans (hM q hq hg w hw)⟩
/-- a state that matches: lv: which arrays live; M: the values; R: the region; A: the moved cells -/
def ca_P (lv : Nat → Bool) (M : Nat → Nat → Int32) (R : Nat × Nat × Nat × Nat) (A : Nat → Int32) (u : St1) : Prop :=
  ∃ (g : Nat → Nat) (a1 a2 a3 a4 a5 a6 a7 a8 a9 a10 : Nat → Int32), u = (nI R.1, nI R.2.1, nI R.2.2.1, nI R.2.2.2, a1, a2, a3, a4, a5, a6, a7, a8, a9, a10, A) ∧ ca_G g M a2 a3 a4 a5 a6 a7 a8 ∧ (∀ q, q < 80 → (g q < 80 ↔ lv (q / 16) = true)) ∧ (∀ a, a < 5 → (a1 a = 0 ↔ lv a = false))
def ca_mu (M : Nat → Nat → Int32) (q w : Nat) (v : Int32) : Nat → Nat → Int32 := fun q' w' => if q' = q ∧ w' = w then v else M q' w'
theorem ca_P_M {lv : Nat → Bool} {M M' : Nat → Nat → Int32} {R : Nat × Nat × Nat × Nat} {A : Nat → Int32} {u : St1} (h : ca_P lv M R A u) (hM : ∀ q, q < 80 → lv (q / 16) = true → ∀ w, w < 16 → M q w = M' q w) : ca_P lv M' R A u := by
  obtain ⟨g, a1, a2, a3, a4, a5, a6, a7, a8, a9, a10, e, hG, hl, h1⟩ := h
  exact ⟨g, a1, a2, a3, a4, a5, a6, a7, a8, a9, a10, e, ca_G_M hG (fun q hq hg w hw => hM q hq ((hl q hq).mp hg) w hw), hl, h1⟩
theorem ca_narb : vp_nar .boolean 0 = 0 := rfl
end
section
/-! read, freeSlot, own, settle, writeCell -/
theorem ca_read {post : Int32 → Prop} {f0 f1 f2 f3 : Int32} {a1 a2 a3 a4 a5 a6 a7 a8 a9 a10 a11 : Nat → Int32} {g : Nat → Nat} {M : Nat → Nat → Int32} {a r c : Nat} (h : ca_G g M a2 a3 a4 a5 a6 a7 a8) (ha : a < 5) (hr : r < 16) (hc : c < 16)
    (hl : g (a * 16 + ca_pl r c) < 80) (H : post (M (a * 16 + ca_pl r c) (ca_wi r c))) : wpX_read post (f0, f1, f2, f3, a1, a2, a3, a4, a5, a6, a7, a8, a9, a10, a11) (nI a) (nI r) (nI c) := by
  obtain ⟨hA, hH, hD, hS, hV⟩ := h
  have hp := ca_pl_lt hr hc
  have hw := ca_wi_lt r c
  unfold wpX_read wpX_placeOf wpX_within
  dsimp only
  rw [ca_plI hr hc, ca_wiI hr hc, ca_q, nI_clamp (by omega), hA _ (by omega) hl]
  refine ⟨vp_in_nI (by omega) (by omega), nm_e ?_⟩
  rw [ca_q, nI_clamp (by omega), nI_clamp (by omega)]
  refine ⟨vp_in_nI (by omega) (by omega), vp_in_nI hl (by omega), vp_in_nI hl (by omega), ?_⟩
  have e := hV _ (by omega) hl _ hw
  unfold ca_val at e
  rw [e]
  exact H
theorem ca_freeSlot {post : Int32 → Prop} {f0 f1 f2 f3 : Int32} {a1 a2 a3 a4 a5 a6 a7 a8 a9 a10 a11 : Nat → Int32} {g : Nat → Nat} (hH : ca_H g a3) (hD : ca_D g) (H : ∀ d, d < 79 → ca_cnt g d 80 = 0 → post (nI d)) : wpX_freeSlot post (f0, f1, f2, f3, a1, a2, a3, a4, a5, a6, a7, a8, a9, a10, a11) := by
  obtain ⟨k, ⟨hk, hz⟩, hl⟩ := pk_least (fun c => c < 79 ∧ ca_cnt g c 80 = 0) (ca_free hD)
  unfold wpX_freeSlot
  dsimp only
  refine pk_loop (σ := Unit) (fun n i _ => wX_freeSlot_2 post f0 f1 f2 f3 a1 a2 a3 a4 a5 a6 a7 a8 a9 a10 a11 n (nI i)) (fun _ _ => True) k 0 () (by omega) trivial ?_ ?_
  · intro n _ _
    refine pk_le 79 k (fun z => absurd z (by omega)) (fun _ => ⟨pk_in k 80 (by omega), br_t ?_ (H k hk hz)⟩)
    rw [nI_clamp (by omega), hH k (by omega), hz]
    decide
  · intro n i _ hi _ hw
    refine pk_le 79 i (fun z => absurd z (by omega)) (fun _ => ⟨pk_in i 80 (by omega), br_f ?_ (nm_r (nI_1 i) (hw () trivial))⟩)
    rw [nI_clamp (by omega), hH i (by omega)]
    have h1 := ca_cnt_le g i 80
    have h2 : ca_cnt g i 80 ≠ 0 := fun z => hl i hi ⟨by omega, z⟩
    exact nI_nle (by omega) (by omega)
theorem ca_own30 {post : Int32 → St1 → Prop} {f0 f1 f2 f3 : Int32} {a1 a2 a3 a4 a5 a6 a7 a8 a9 a10 a11 : Nat → Int32} {p c d : Nat} (hp : p < 16) (hc : c < 80) (hd : d < 80) (hne : c ≠ d)
    (H : ∀ b4 : Nat → Int32, (∀ j, b4 j = if d * 16 ≤ j ∧ j < d * 16 + 16 then a4 (c * 16 + (j - d * 16)) else a4 j) → post (nI d) (f0, f1, f2, f3, a1, upd a2 (64 + p) (nI d), upd (upd a3 c (a3 c - 1)) d 1, b4, upd a5 d (a5 c), upd a6 d (a6 c), upd a7 d (vp_nar .boolean (a7 c)), upd a8 d (a8 c), upd a9 d (vp_nar .boolean (a9 c)), upd a10 d (a10 c), a11)) :
    ∃ n, wX_own_30 post (nI p) (nI c) (nI d) f0 f1 f2 f3 n 0 a1 a2 a3 a4 a5 a6 a7 a8 a9 a10 a11 := by
  refine pk_loop (fun n i s => wX_own_30 post (nI p) (nI c) (nI d) f0 f1 f2 f3 n (nI i) a1 a2 a3 s a5 a6 a7 a8 a9 a10 a11) (fun i s => ∀ j, s j = if d * 16 ≤ j ∧ j < d * 16 + i then a4 (c * 16 + (j - d * 16)) else a4 j) 16 0 a4 (by omega) (fun j => (if_neg (by omega)).symm) ?_ ?_
  · intro n s hs
    refine pk_le 16 16 (fun _ => ?_) (fun z => absurd z (by omega))
    rw [ca_64 p, nI_clamp (show c < 2 ^ 31 by omega), nI_clamp (show d < 2 ^ 31 by omega), nI_clamp (show 64 + p < 2 ^ 31 by omega)]
    have ic : vp_in (nI c) 80 := pk_in c 80 hc
    have id : vp_in (nI d) 80 := pk_in d 80 hd
    exact ⟨ic, id, nm_e ⟨ic, id, nm_e ⟨ic, id, nm_e ⟨ic, id, nm_e ⟨ic, id, nm_e ⟨ic, id, nm_e ⟨ic, ic, nm_e ⟨id, nm_e ⟨pk_in (64 + p) 80 (by omega), nm_e (H s hs)⟩⟩⟩⟩⟩⟩⟩⟩⟩
  · intro n i s hi hs hw
    refine pk_le 16 i (fun z => absurd z (by omega)) (fun _ => ?_)
    rw [ca_q c i, ca_q d i, nI_clamp (show c * 16 + i < 2 ^ 31 by omega), nI_clamp (show d * 16 + i < 2 ^ 31 by omega)]
    refine ⟨vp_in_nI (by omega) (by omega), vp_in_nI (by omega) (by omega), nm_e (nm_r (nI_1 i) (hw _ ?_))⟩
    intro j
    by_cases e : j = d * 16 + i
    · rw [e, pk_us, hs, if_neg (by omega), if_pos (by omega), show d * 16 + i - d * 16 = i by omega]
    · rw [pk_un e, hs j]
      by_cases e2 : d * 16 ≤ j ∧ j < d * 16 + i
      · rw [if_pos e2, if_pos (by omega)]
      · rw [if_neg e2, if_neg (by omega)]
theorem ca_own {post : Int32 → St1 → Prop} {f0 f1 f2 f3 : Int32} {a1 a2 a3 a4 a5 a6 a7 a8 a9 a10 a11 : Nat → Int32} {g : Nat → Nat} {M : Nat → Nat → Int32} {p : Nat} (h : ca_G g M a2 a3 a4 a5 a6 a7 a8) (hp : p < 16) (hl : g (64 + p) < 80)
    (H : ∀ (g' : Nat → Nat) (b2 b3 b4 b5 b6 b7 b8 b9 b10 : Nat → Int32), ca_G g' M b2 b3 b4 b5 b6 b7 b8 → (∀ q, q ≠ 64 + p → g' q = g q) → g' (64 + p) < 80 → (∀ q, q < 80 → q ≠ 64 + p → g' q ≠ g' (64 + p)) →
      post (nI (g' (64 + p))) (f0, f1, f2, f3, a1, b2, b3, b4, b5, b6, b7, b8, b9, b10, a11)) : wpX_own post (f0, f1, f2, f3, a1, a2, a3, a4, a5, a6, a7, a8, a9, a10, a11) (nI p) := by
  have h0 := h
  obtain ⟨hA, hH, hD, hS, hV⟩ := h
  have hle := ca_cnt_le g (g (64 + p)) 80
  unfold wpX_own
  dsimp only
  rw [ca_64 p, nI_clamp (show 64 + p < 2 ^ 31 by omega), hA (64 + p) (by omega) hl]
  refine ⟨pk_in (64 + p) 80 (by omega), nm_e ⟨pk_in (g (64 + p)) 80 hl, ?_⟩⟩
  rw [nI_clamp (show g (64 + p) < 2 ^ 31 by omega), hH _ hl]
  refine pk_eq (ca_cnt g (g (64 + p)) 80) 1 (fun z => H g a2 a3 a4 a5 a6 a7 a8 a9 a10 h0 (fun _ _ => rfl) hl (fun q hq hne => ca_cnt_one z (by omega) rfl hq hne)) (fun z => ca_freeSlot hH hD (fun d hd hz => ?_))
  have nd : ∀ q, q < 80 → g q ≠ d := by
    intro q hq e
    have := ca_cnt_pos (g := g) (c := d) 80 hq e
    omega
  have hne := nd (64 + p) (by omega)
  refine ca_own30 hp hl (by omega) hne (fun b4 hb4 => ?_)
  have hin : ∀ w, w < 16 → b4 (d * 16 + w) = a4 (g (64 + p) * 16 + w) := by
    intro w hw
    rw [hb4, if_pos (by omega), show d * 16 + w - d * 16 = w by omega]
  have hout : ∀ c w, c ≠ d → w < 16 → b4 (c * 16 + w) = a4 (c * 16 + w) := by
    intro c w hc hw
    rw [hb4, if_neg (by omega)]
  have X := H (ca_up g (64 + p) d) (upd a2 (64 + p) (nI d)) (upd (upd a3 (g (64 + p)) (a3 (g (64 + p)) - 1)) d 1) b4 (upd a5 d (a5 (g (64 + p)))) (upd a6 d (a6 (g (64 + p)))) (upd a7 d (vp_nar .boolean (a7 (g (64 + p))))) (upd a8 d (a8 (g (64 + p)))) (upd a9 d (vp_nar .boolean (a9 (g (64 + p))))) (upd a10 d (a10 (g (64 + p)))) ?_ (fun q hq => ca_up_n hq) (by rw [ca_up_s]; omega) (fun q hq hne => by rw [ca_up_n hne, ca_up_s]; exact nd q hq)
  · rw [ca_up_s] at X
    exact X
  · refine ⟨ca_A_set hA, ?_, ?_, ?_, ?_⟩
    · have X := ca_H_move (d := d) hH (show 64 + p < 80 by omega) hl (by omega)
      rw [pk_un (f := a3) (show d ≠ g (64 + p) from fun z => hne z.symm), hH d (by omega), hz] at X
      exact X
    · intro q h1 h2
      rw [ca_up_n (by omega)]
      exact hD q h1 h2
    · intro c hc hn
      by_cases e : c = d
      · rw [e] at hn ⊢
        rw [pk_us] at hn ⊢
        have hk : a7 (g (64 + p)) ≠ 0 := fun z => hn (by rw [z]; rfl)
        rw [hS _ hl hk]
        exact ca_sum_congr 16 (fun i hi => (hin i hi).symm)
      · rw [pk_un e] at hn ⊢
        rw [hS c hc hn]
        exact ca_sum_congr 16 (fun i hi => (hout c i e hi).symm)
    · intro q hq hg w hw
      by_cases e : q = 64 + p
      · rw [e, ca_up_s]
        unfold ca_val
        rw [hin w hw, pk_us, pk_us]
        exact hV (64 + p) (by omega) hl w hw
      · rw [ca_up_n e] at hg ⊢
        have := nd q hq
        unfold ca_val
        rw [hout _ w this hw, pk_un this, pk_un this]
        exact hV q hq hg w hw
theorem ca_settle {post : St1 → Prop} {f0 f1 f2 f3 : Int32} {a1 a2 a3 a4 a5 a6 a7 a8 a9 a10 a11 : Nat → Int32} {c : Nat} (hc : c < 80) (H : ∀ b4 : Nat → Int32, (∀ j, b4 j = if c * 16 ≤ j ∧ j < c * 16 + 16 then a4 j * a5 c + a6 c else a4 j) → post (f0, f1, f2, f3, a1, a2, a3, b4, upd a5 c 1, upd a6 c 0, upd a7 c 0, a8, a9, a10, a11)) : wpX_settle post (f0, f1, f2, f3, a1, a2, a3, a4, a5, a6, a7, a8, a9, a10, a11) (nI c) := by
  unfold wpX_settle
  dsimp only
  refine pk_loop (fun n i s => wX_settle_2 post (nI c) f0 f1 f2 f3 n (nI i) a1 a2 a3 s a5 a6 a7 a8 a9 a10 a11) (fun i s => ∀ j, s j = if c * 16 ≤ j ∧ j < c * 16 + i then a4 j * a5 c + a6 c else a4 j) 16 0 a4 (by omega) (fun j => (if_neg (by omega)).symm) ?_ ?_
  · intro n s hs
    refine pk_le 16 16 (fun _ => ?_) (fun z => absurd z (by omega))
    rw [nI_clamp (show c < 2 ^ 31 by omega)]
    have ic : vp_in (nI c) 80 := pk_in c 80 hc
    exact ⟨ic, nm_e ⟨ic, nm_e ⟨ic, nm_e (H s hs)⟩⟩⟩
  · intro n i s hi hs hw
    refine pk_le 16 i (fun z => absurd z (by omega)) (fun _ => ?_)
    rw [ca_q c i, nI_clamp (show c * 16 + i < 2 ^ 31 by omega), nI_clamp (show c < 2 ^ 31 by omega)]
    have ic : vp_in (nI c) 80 := pk_in c 80 hc
    refine ⟨vp_in_nI (by omega) (by omega), ic, ic, vp_in_nI (by omega) (by omega), nm_e (nm_r (nI_1 i) (hw _ ?_))⟩
    intro j
    by_cases e : j = c * 16 + i
    · rw [e, pk_us, hs, if_neg (by omega), if_pos (by omega)]
    · rw [pk_un e, hs j]
      by_cases e2 : c * 16 ≤ j ∧ j < c * 16 + i
      · rw [if_pos e2, if_pos (by omega)]
      · rw [if_neg e2, if_neg (by omega)]
theorem ca_write42 {post : St1 → Prop} {f0 f1 f2 f3 : Int32} {a1 a2 a3 a4 a5 a6 a7 a8 a9 a10 a11 : Nat → Int32} {r c k : Nat} {v : Int32} (hr : r < 16) (hc : c < 16) (hk : k < 80) (H : post (f0, f1, f2, f3, a1, a2, a3, upd a4 (k * 16 + ca_wi r c) v, a5, a6, upd a7 k 0, a8, upd a9 k 0, a10, a11)) : wX_writeCell_42 post (nI r) (nI c) v (nI k) f0 f1 f2 f3 a1 a2 a3 a4 a5 a6 a7 a8 a9 a10 a11 := by
  have hw := ca_wi_lt r c
  unfold wX_writeCell_42 wpX_within
  dsimp only
  rw [ca_wiI hr hc, ca_q, nI_clamp (show k * 16 + ca_wi r c < 2 ^ 31 by omega), nI_clamp (show k < 2 ^ 31 by omega)]
  have ik : vp_in (nI k) 80 := pk_in k 80 hk
  exact ⟨vp_in_nI (by omega) (by omega), nm_e ⟨ik, nm_e ⟨ik, nm_e H⟩⟩⟩
theorem ca_writeCell {post : St1 → Prop} {lv : Nat → Bool} {M : Nat → Nat → Int32} {R : Nat × Nat × Nat × Nat} {A : Nat → Int32} {u : St1} {r c : Nat} {v : Int32} (h : ca_P lv M R A u) (h4 : lv 4 = true) (hr : r < 16) (hc : c < 16)
    (H : ∀ u' : St1, ca_P lv (ca_mu M (64 + ca_pl r c) (ca_wi r c) v) R A u' → post u') : wpX_writeCell post u (nI r) (nI c) v := by
  obtain ⟨g, a1, a2, a3, a4, a5, a6, a7, a8, a9, a10, rfl, hG, hl, h1⟩ := h
  have hp := ca_pl_lt hr hc
  have hw := ca_wi_lt r c
  have hgp : g (64 + ca_pl r c) < 80 := (hl _ (by omega)).mpr (by rw [show (64 + ca_pl r c) / 16 = 4 by omega]; exact h4)
  unfold wpX_writeCell wpX_placeOf
  dsimp only
  rw [ca_plI hr hc]
  refine ca_own hG hp hgp (fun g' b2 b3 b4 b5 b6 b7 b8 b9 b10 hG' hg' hl' hu' => ?_)
  dsimp only
  rw [nI_clamp (show g' (64 + ca_pl r c) < 2 ^ 31 by omega)]
  have hV' : ∀ w, w < 16 → ca_val b4 b5 b6 (g' (64 + ca_pl r c)) w = M (64 + ca_pl r c) w := hG'.2.2.2.2 _ (by omega) hl'
  have hlv : ∀ q, q < 80 → (g' q < 80 ↔ lv (q / 16) = true) := by
    intro q hq
    by_cases e : q = 64 + ca_pl r c
    · rw [e]
      exact ⟨fun _ => (hl _ (by omega)).mp hgp, fun _ => hl'⟩
    · rw [hg' q e]
      exact hl q hq
  have fin : ∀ c4 c5 c6 c7 : Nat → Int32, (∀ k w, k ≠ g' (64 + ca_pl r c) → w < 16 → c4 (k * 16 + w) = b4 (k * 16 + w)) → (∀ w, w < 16 → c4 (g' (64 + ca_pl r c) * 16 + w) = M (64 + ca_pl r c) w) → (∀ k, k ≠ g' (64 + ca_pl r c) → c5 k = b5 k) → (∀ k, k ≠ g' (64 + ca_pl r c) → c6 k = b6 k) → (∀ k, k ≠ g' (64 + ca_pl r c) → c7 k = b7 k) → c5 (g' (64 + ca_pl r c)) = 1 → c6 (g' (64 + ca_pl r c)) = 0 →
      wX_writeCell_42 post (nI r) (nI c) v (nI (g' (64 + ca_pl r c))) (nI R.1) (nI R.2.1) (nI R.2.2.1) (nI R.2.2.2) a1 b2 b3 c4 c5 c6 c7 b8 b9 b10 A := by
    intro c4 c5 c6 c7 e4 e4' e5 e6 e7 e5' e6'
    refine ca_write42 hr hc hl' (H _ ⟨g', _, _, _, _, _, _, _, _, _, _, rfl, ?_, hlv, h1⟩)
    refine ca_G_chunk hG' hu' ?_ e5 e6 ?_ (fun _ _ => rfl) ?_ ?_ ?_
    · intro c' w hc' hw'
      rw [pk_un (by omega)]
      exact e4 c' w hc' hw'
    · intro c' hc'
      rw [pk_un hc']
      exact e7 c' hc'
    · intro z
      rw [pk_us] at z
      exact absurd rfl z
    · intro q hq hne w hw'
      unfold ca_mu
      exact if_neg (fun z => hne z.1)
    · intro w hw'
      unfold ca_val ca_mu
      rw [e5', e6']
      by_cases e : w = ca_wi r c
      · rw [e, pk_us, if_pos ⟨rfl, rfl⟩]
        grind
      · rw [pk_un (by omega), if_neg (fun z => e z.2), e4' w hw']
        grind
  have fin2 : wX_writeCell_36 post (nI r) (nI c) v (nI (g' (64 + ca_pl r c))) (nI R.1) (nI R.2.1) (nI R.2.2.1) (nI R.2.2.2) a1 b2 b3 b4 b5 b6 b7 b8 b9 b10 A := by
    unfold wX_writeCell_36
    refine ca_settle hl' (fun c4 hc4 => ?_)
    dsimp only
    refine fin c4 _ _ _ ?_ ?_ (fun c' hc' => pk_un hc') (fun c' hc' => pk_un hc') (fun c' hc' => pk_un hc') pk_us pk_us
    · intro c' w hc' hw'
      rw [hc4, if_neg (by omega)]
    · intro w hw'
      rw [hc4, if_pos (by omega)]
      exact hV' w hw'
  have ik : vp_in (nI (g' (64 + ca_pl r c))) 80 := vp_in_nI hl' (by omega)
  refine ⟨ik, br_c (fun z5 => ⟨ik, br_c (fun z6 => ?_) (fun _ => fin2)⟩) (fun _ => fin2)⟩
  refine fin b4 b5 b6 b7 (fun _ _ _ _ => rfl) ?_ (fun _ _ => rfl) (fun _ _ => rfl) (fun _ _ => rfl) z5 z6
  intro w hw'
  have e := hV' w hw'
  unfold ca_val at e
  rw [z5, z6] at e
  rw [← e]
  grind
end
section
/-! regions, change -/
def ca_reg (F T : Nat) : Nat × Nat × Nat × Nat := (min (F % 16) (T % 16), max (F % 16) (T % 16), min (F / 16) (T / 16), max (F / 16) (T / 16))
def ca_rb (R : Nat × Nat × Nat × Nat) : Prop := R.1 ≤ R.2.1 ∧ R.2.1 < 16 ∧ R.2.2.1 ≤ R.2.2.2 ∧ R.2.2.2 < 16
def ca_sz (R : Nat × Nat × Nat × Nat) : Nat := (R.2.1 - R.1 + 1) * (R.2.2.2 - R.2.2.1 + 1)
def ca_inr (R : Nat × Nat × Nat × Nat) (r c : Nat) : Bool := decide (R.1 ≤ r ∧ r ≤ R.2.1 ∧ R.2.2.1 ≤ c ∧ c ≤ R.2.2.2)
def ca_in (R : Nat × Nat × Nat × Nat) (p w : Nat) : Bool := ca_inr R (ca_ro p w) (ca_co p w)
def ca_cov (R : Nat × Nat × Nat × Nat) (k : Nat) : Prop := R.1 ≤ k / 4 * 4 ∧ k / 4 * 4 + 3 ≤ R.2.1 ∧ R.2.2.1 ≤ k % 4 * 4 ∧ k % 4 * 4 + 3 ≤ R.2.2.2
def ca_tch (R : Nat × Nat × Nat × Nat) (k : Nat) : Prop := R.1 ≤ k / 4 * 4 + 3 ∧ k / 4 * 4 ≤ R.2.1 ∧ R.2.2.1 ≤ k % 4 * 4 + 3 ∧ k % 4 * 4 ≤ R.2.2.2
def ca_op (what old x : Int32) : Int32 := if what = 0 then x else if what = 1 then old + x else old * x
theorem ca_rb_reg {F T : Nat} (hF : F < 256) (hT : T < 256) : ca_rb (ca_reg F T) := by
  unfold ca_rb ca_reg
  dsimp only
  omega
theorem ca_reg_comm (F T : Nat) : ca_reg F T = ca_reg T F := by
  unfold ca_reg
  rw [Nat.min_comm (F % 16), Nat.max_comm (F % 16), Nat.min_comm (F / 16), Nat.max_comm (F / 16)]
theorem ca_inr_t {R : Nat × Nat × Nat × Nat} {r c : Nat} : ca_inr R r c = true ↔ R.1 ≤ r ∧ r ≤ R.2.1 ∧ R.2.2.1 ≤ c ∧ c ≤ R.2.2.2 := by
  unfold ca_inr
  exact decide_eq_true_iff
theorem ca_inr_f {R : Nat × Nat × Nat × Nat} {r c : Nat} : ca_inr R r c = false ↔ ¬ (R.1 ≤ r ∧ r ≤ R.2.1 ∧ R.2.2.1 ≤ c ∧ c ≤ R.2.2.2) := by
  unfold ca_inr
  exact decide_eq_false_iff_not
theorem ca_cov_in {R : Nat × Nat × Nat × Nat} {k w : Nat} (hk : k < 16) (hw : w < 16) (h : ca_cov R k) : ca_in R k w = true := by
  unfold ca_cov at h
  refine ca_inr_t.mpr ?_
  unfold ca_ro ca_co
  omega
theorem ca_tch_in {R : Nat × Nat × Nat × Nat} {k w : Nat} (hk : k < 16) (hw : w < 16) (h : ¬ ca_tch R k) : ca_in R k w = false := by
  unfold ca_tch at h
  refine ca_inr_f.mpr ?_
  unfold ca_ro ca_co
  omega
theorem ca_bad {post : Int32 → Prop} {F : Nat} (hF : F < 256) (H : post 0) : wpX_bad post () (nI F) := by
  unfold wpX_bad
  exact br_f (nI_pos (by omega)) (br_t (nI_le (b := 255) (by omega) (by decide)) H)
theorem ca_sr68 {post : St1 → Prop} {f0 f1 f2 f3 : Int32} {a1 a2 a3 a4 a5 a6 a7 a8 a9 a10 a11 : Nat → Int32} {x y : Nat} {z : Int32} (hx : x < 16) (hy : y < 16) (H : post (f0, f1, z, nI (max x y), a1, a2, a3, a4, a5, a6, a7, a8, a9, a10, a11)) : wX_setRegion_68 post (nI x) (nI y) z f0 f1 f2 f3 a1 a2 a3 a4 a5 a6 a7 a8 a9 a10 a11 := by
  unfold wX_setRegion_68
  exact pk_le y x (fun h => by rw [Nat.max_eq_left h] at H; exact H) (fun h => by rw [Nat.max_eq_right (by omega)] at H; exact H)
theorem ca_sr50 {post : St1 → Prop} {f0 f1 f2 f3 : Int32} {a1 a2 a3 a4 a5 a6 a7 a8 a9 a10 a11 : Nat → Int32} {x y : Nat} {z : Int32} (hx : x < 16) (hy : y < 16) (H : post (f0, z, nI (min x y), nI (max x y), a1, a2, a3, a4, a5, a6, a7, a8, a9, a10, a11)) : wX_setRegion_50 post (nI x) (nI y) z f0 f1 f2 f3 a1 a2 a3 a4 a5 a6 a7 a8 a9 a10 a11 := by
  unfold wX_setRegion_50
  exact pk_le y x (fun h => by rw [Nat.min_eq_right h] at H; exact ca_sr68 hx hy H) (fun h => by rw [Nat.min_eq_left (by omega)] at H; exact ca_sr68 hx hy H)
theorem ca_sr34 {post : St1 → Prop} {f0 f1 f2 f3 : Int32} {a1 a2 a3 a4 a5 a6 a7 a8 a9 a10 a11 : Nat → Int32} {r s x y : Nat} {z : Int32} (hr : r < 16) (hs : s < 16) (hx : x < 16) (hy : y < 16) (H : post (z, nI (max r s), nI (min x y), nI (max x y), a1, a2, a3, a4, a5, a6, a7, a8, a9, a10, a11)) : wX_setRegion_34 post (nI r) (nI s) (nI x) (nI y) z f0 f1 f2 f3 a1 a2 a3 a4 a5 a6 a7 a8 a9 a10 a11 := by
  unfold wX_setRegion_34
  exact pk_le s r (fun h => by rw [Nat.max_eq_left h] at H; exact ca_sr50 hx hy H) (fun h => by rw [Nat.max_eq_right (show r ≤ s by omega)] at H; exact ca_sr50 hx hy H)
theorem ca_setRegion {post : St1 → Prop} {lv : Nat → Bool} {M : Nat → Nat → Int32} {R : Nat × Nat × Nat × Nat} {A : Nat → Int32} {u : St1} {F T : Nat} (h : ca_P lv M R A u) (hF : F < 256) (hT : T < 256)
    (H : ∀ u' : St1, ca_P lv M (ca_reg F T) A u' → post u') : wpX_setRegion post u (nI F) (nI T) := by
  obtain ⟨g, a1, a2, a3, a4, a5, a6, a7, a8, a9, a10, rfl, hG, hl, h1⟩ := h
  have X := H _ ⟨g, a1, a2, a3, a4, a5, a6, a7, a8, a9, a10, rfl, hG, hl, h1⟩
  unfold ca_reg at X
  dsimp only at X
  unfold wpX_setRegion
  dsimp only
  refine nm_r (ca_lo hF) (nm_r (ca_lo hT) (nm_r (ca_hi hF) (nm_r (ca_hi hT) ?_)))
  refine pk_le (T % 16) (F % 16) (fun h => ?_) (fun h => ?_)
  · rw [Nat.min_eq_right h] at X
    exact ca_sr34 (by omega) (by omega) (by omega) (by omega) X
  · rw [Nat.min_eq_left (show F % 16 ≤ T % 16 by omega)] at X
    exact ca_sr34 (by omega) (by omega) (by omega) (by omega) X
theorem ca_covers {post : Int32 → Prop} {lv : Nat → Bool} {M : Nat → Nat → Int32} {R : Nat × Nat × Nat × Nat} {A : Nat → Int32} {u : St1} {k : Nat} (h : ca_P lv M R A u) (hR : ca_rb R) (hk : k < 16)
    (H1 : ca_cov R k → post 1) (H0 : ¬ ca_cov R k → post 0) : wpX_covers post u (nI k) := by
  obtain ⟨g, a1, a2, a3, a4, a5, a6, a7, a8, a9, a10, rfl, hG, hl, h1⟩ := h
  obtain ⟨hr, hr', hc, hc'⟩ := hR
  unfold ca_cov at H1 H0
  unfold wpX_covers
  dsimp only
  refine ⟨ca_n4, nm_r (ca_r4 hk) ⟨ca_n4, nm_r (ca_c4 hk) ?_⟩⟩
  refine pk_lt (k / 4 * 4) R.1 (fun z => H0 (by omega)) (fun z1 => ?_)
  refine pk_lt R.2.1 (k / 4 * 4 + 3) (fun z => H0 (by omega)) (fun z2 => ?_) rfl (nI_add _ 3)
  refine pk_lt (k % 4 * 4) R.2.2.1 (fun z => H0 (by omega)) (fun z3 => ?_)
  exact pk_lt R.2.2.2 (k % 4 * 4 + 3) (fun z => H0 (by omega)) (fun z4 => H1 (by omega)) rfl (nI_add _ 3)
theorem ca_touches {post : Int32 → Prop} {lv : Nat → Bool} {M : Nat → Nat → Int32} {R : Nat × Nat × Nat × Nat} {A : Nat → Int32} {u : St1} {k : Nat} (h : ca_P lv M R A u) (hR : ca_rb R) (hk : k < 16)
    (H1 : ca_tch R k → post 1) (H0 : ¬ ca_tch R k → post 0) : wpX_touches post u (nI k) := by
  obtain ⟨g, a1, a2, a3, a4, a5, a6, a7, a8, a9, a10, rfl, hG, hl, h1⟩ := h
  obtain ⟨hr, hr', hc, hc'⟩ := hR
  unfold ca_tch at H1 H0
  unfold wpX_touches
  dsimp only
  refine ⟨ca_n4, nm_r (ca_r4 hk) ⟨ca_n4, nm_r (ca_c4 hk) ?_⟩⟩
  refine pk_lt (k / 4 * 4 + 3) R.1 (fun z => H0 (by omega)) (fun z1 => ?_) (nI_add _ 3) rfl
  refine pk_lt R.2.1 (k / 4 * 4) (fun z => H0 (by omega)) (fun z2 => ?_)
  refine pk_lt (k % 4 * 4 + 3) R.2.2.1 (fun z => H0 (by omega)) (fun z3 => ?_) (nI_add _ 3) rfl
  exact pk_lt R.2.2.2 (k % 4 * 4) (fun z => H0 (by omega)) (fun z4 => H1 (by omega))
theorem ca_inRegion {post : Int32 → Prop} {lv : Nat → Bool} {M : Nat → Nat → Int32} {R : Nat × Nat × Nat × Nat} {A : Nat → Int32} {u : St1} {r c : Nat} (h : ca_P lv M R A u) (hR : ca_rb R) (hr : r < 16) (hc : c < 16)
    (H1 : ca_inr R r c = true → post 1) (H0 : ca_inr R r c = false → post 0) : wpX_inRegion post u (nI r) (nI c) := by
  obtain ⟨g, a1, a2, a3, a4, a5, a6, a7, a8, a9, a10, rfl, hG, hl, h1⟩ := h
  obtain ⟨hr0, hr', hc0, hc'⟩ := hR
  unfold wpX_inRegion
  dsimp only
  refine pk_lt r R.1 (fun z => H0 (ca_inr_f.mpr (by omega))) (fun z1 => ?_)
  refine pk_lt R.2.1 r (fun z => H0 (ca_inr_f.mpr (by omega))) (fun z2 => ?_)
  refine pk_lt c R.2.2.1 (fun z => H0 (ca_inr_f.mpr (by omega))) (fun z3 => ?_)
  exact pk_lt R.2.2.2 c (fun z => H0 (ca_inr_f.mpr (by omega))) (fun z4 => H1 (ca_inr_t.mpr (by omega)))
theorem ca_result {post : Int32 → Prop} {what old x : Int32} (H : post (ca_op what old x)) : wpX_result post () what old x := by
  unfold wpX_result
  unfold ca_op at H
  refine br_c (fun z => ?_) (fun z => br_c (fun z' => ?_) (fun z' => ?_))
  · rw [if_pos z] at H; exact H
  · rw [if_neg z, if_pos z'] at H; exact H
  · rw [if_neg z, if_neg z'] at H; exact H
theorem ca_readP {post : Int32 → Prop} {lv : Nat → Bool} {M : Nat → Nat → Int32} {R : Nat × Nat × Nat × Nat} {A : Nat → Int32} {u : St1} {a r c : Nat} (h : ca_P lv M R A u) (ha : a < 5) (hv : lv a = true) (hr : r < 16) (hc : c < 16)
    (H : post (M (a * 16 + ca_pl r c) (ca_wi r c))) : wpX_read post u (nI a) (nI r) (nI c) := by
  obtain ⟨g, a1, a2, a3, a4, a5, a6, a7, a8, a9, a10, rfl, hG, hl, h1⟩ := h
  have hp := ca_pl_lt hr hc
  exact ca_read hG ha hr hc ((hl _ (by omega)).mpr (by rw [show (a * 16 + ca_pl r c) / 16 = a by omega]; exact hv)) H
theorem ca_changeWhole {post : St1 → Prop} {lv : Nat → Bool} {M : Nat → Nat → Int32} {R : Nat × Nat × Nat × Nat} {A : Nat → Int32} {u : St1} {k : Nat} {what x : Int32} (h : ca_P lv M R A u) (h4 : lv 4 = true) (hk : k < 16)
    (H : ∀ u' : St1, ca_P lv (fun q w => if q = 64 + k then ca_op what (M q w) x else M q w) R A u' → post u') : wpX_changeWhole post u (nI k) what x := by
  obtain ⟨g, a1, a2, a3, a4, a5, a6, a7, a8, a9, a10, rfl, hG, hl, h1⟩ := h
  have hgp : g (64 + k) < 80 := (hl _ (by omega)).mpr (by rw [show (64 + k) / 16 = 4 by omega]; exact h4)
  unfold wpX_changeWhole
  dsimp only
  refine ca_own hG hk hgp (fun g' b2 b3 b4 b5 b6 b7 b8 b9 b10 hG' hg' hl' hu' => ?_)
  dsimp only
  rw [nI_clamp (show g' (64 + k) < 2 ^ 31 by omega)]
  have hV' : ∀ w, w < 16 → ca_val b4 b5 b6 (g' (64 + k)) w = M (64 + k) w := hG'.2.2.2.2 _ (by omega) hl'
  have hlv : ∀ q, q < 80 → (g' q < 80 ↔ lv (q / 16) = true) := by
    intro q hq
    by_cases e : q = 64 + k
    · rw [e]
      exact ⟨fun _ => (hl _ (by omega)).mp hgp, fun _ => hl'⟩
    · rw [hg' q e]
      exact hl q hq
  have ik : vp_in (nI (g' (64 + k))) 80 := vp_in_nI hl' (by omega)
  have fin : ∀ c5 c6 c9 : Nat → Int32, (∀ j, j ≠ g' (64 + k) → c5 j = b5 j) → (∀ j, j ≠ g' (64 + k) → c6 j = b6 j) → (∀ w, w < 16 → ca_val b4 c5 c6 (g' (64 + k)) w = ca_op what (M (64 + k) w) x) →
      post (nI R.1, nI R.2.1, nI R.2.2.1, nI R.2.2.2, a1, b2, b3, b4, c5, c6, b7, b8, c9, b10, A) := by
    intro c5 c6 c9 e5 e6 ev
    refine H _ ⟨g', _, _, _, _, _, _, _, _, _, _, rfl, ?_, hlv, h1⟩
    refine ca_G_chunk hG' hu' (fun _ _ _ _ => rfl) e5 e6 (fun _ _ => rfl) (fun _ _ => rfl) (hG'.2.2.2.1 _ hl') ?_ ?_
    · intro q hq hne w hw
      exact if_neg hne
    · intro w hw
      rw [ev w hw, if_pos rfl]
  refine br_c (fun z => ?_) (fun z => br_c (fun z' => ?_) (fun z' => ?_))
  · refine ⟨ik, nm_e ⟨ik, nm_e ⟨ik, nm_e (fin _ _ _ (fun j hj => pk_un hj) (fun j hj => pk_un hj) (fun w hw => ?_))⟩⟩⟩
    unfold ca_val ca_op
    rw [pk_us, pk_us, if_pos z]
    grind
  · refine ⟨ik, ik, nm_e ⟨ik, nm_e (fin _ _ _ (fun j hj => rfl) (fun j hj => pk_un hj) (fun w hw => ?_))⟩⟩
    have e := hV' w hw
    unfold ca_val at e
    unfold ca_val ca_op
    rw [pk_us, if_neg z, if_pos z', ← e]
    grind
  · refine ⟨ik, ik, nm_e ⟨ik, ik, nm_e ⟨ik, nm_e (fin _ _ _ (fun j hj => pk_un hj) (fun j hj => pk_un hj) (fun w hw => ?_))⟩⟩⟩
    have e := hV' w hw
    unfold ca_val at e
    unfold ca_val ca_op
    rw [pk_us, pk_us, if_neg z, if_neg z', ← e]
    grind
def ca_cp (R : Nat × Nat × Nat × Nat) (what x : Int32) (M : Nat → Nat → Int32) (k i : Nat) : Nat → Nat → Int32 := fun q w => if q = 64 + k ∧ w < i ∧ ca_in R k w = true then ca_op what (M q w) x else M q w
theorem ca_changePart {post : St1 → Prop} {lv : Nat → Bool} {M : Nat → Nat → Int32} {R : Nat × Nat × Nat × Nat} {A : Nat → Int32} {u : St1} {k : Nat} {what x : Int32} (h : ca_P lv M R A u) (h4 : lv 4 = true) (hR : ca_rb R) (hk : k < 16)
    (H : ∀ u' : St1, ca_P lv (ca_cp R what x M k 16) R A u' → post u') : wpX_changePart post u (nI k) what x := by
  obtain ⟨f0, f1, f2, f3, a1, a2, a3, a4, a5, a6, a7, a8, a9, a10, a11⟩ := u
  unfold wpX_changePart
  dsimp only
  refine pk_loop (σ := St1) (fun n i s => wX_changePart_3 post (nI k) what x n (nI i) s.1 s.2.1 s.2.2.1 s.2.2.2.1 s.2.2.2.2.1 s.2.2.2.2.2.1 s.2.2.2.2.2.2.1 s.2.2.2.2.2.2.2.1 s.2.2.2.2.2.2.2.2.1 s.2.2.2.2.2.2.2.2.2.1 s.2.2.2.2.2.2.2.2.2.2.1 s.2.2.2.2.2.2.2.2.2.2.2.1 s.2.2.2.2.2.2.2.2.2.2.2.2.1 s.2.2.2.2.2.2.2.2.2.2.2.2.2.1 s.2.2.2.2.2.2.2.2.2.2.2.2.2.2) (fun i s => ca_P lv (ca_cp R what x M k i) R A s) 16 0 (f0, f1, f2, f3, a1, a2, a3, a4, a5, a6, a7, a8, a9, a10, a11) (by omega) (ca_P_M h (fun q hq hv w hw => ?_)) ?_ ?_
  · unfold ca_cp
    exact (if_neg (fun z => absurd z.2.1 (by omega))).symm
  · intro n s hs
    obtain ⟨f0, f1, f2, f3, a1, a2, a3, a4, a5, a6, a7, a8, a9, a10, a11⟩ := s
    exact pk_le 16 16 (fun _ => H _ hs) (fun z => absurd z (by omega))
  · intro n i s hi hs hw
    obtain ⟨f0, f1, f2, f3, a1, a2, a3, a4, a5, a6, a7, a8, a9, a10, a11⟩ := s
    have er : ca_pl (ca_ro k i) (ca_co k i) = k := ca_pl_rc hk hi
    have ew : ca_wi (ca_ro k i) (ca_co k i) = i := ca_wi_rc hk hi
    refine pk_le 16 i (fun z => absurd z (by omega)) (fun _ => ⟨ca_n4, ca_n4, nm_r (ca_roI hk hi) ⟨ca_n4, ca_n4, nm_r (ca_coI hk hi) (ca_inRegion hs hR (ca_ro_lt hk hi) ca_co_lt (fun z => br_f (by decide) ?_) (fun z => br_t rfl (nm_r (nI_1 i) (hw (f0, f1, f2, f3, a1, a2, a3, a4, a5, a6, a7, a8, a9, a10, a11) ?_))))⟩⟩)
    · refine ca_readP (a := 4) hs (by omega) h4 (ca_ro_lt hk hi) ca_co_lt (ca_result (ca_writeCell hs h4 (ca_ro_lt hk hi) ca_co_lt (fun u' hu' => ?_)))
      obtain ⟨f0, f1, f2, f3, a1, a2, a3, a4, a5, a6, a7, a8, a9, a10, a11⟩ := u'
      refine nm_r (nI_1 i) (hw (f0, f1, f2, f3, a1, a2, a3, a4, a5, a6, a7, a8, a9, a10, a11) (ca_P_M hu' (fun q hq hv w hw' => ?_)))
      rw [er, ew]
      unfold ca_mu
      by_cases e : q = 64 + k ∧ w = i
      · obtain ⟨rfl, rfl⟩ := e
        rw [if_pos ⟨rfl, rfl⟩]
        unfold ca_cp
        rw [if_neg (fun z => absurd z.2.1 (by omega)), if_pos ⟨rfl, by omega, z⟩]
      · rw [if_neg e]
        unfold ca_cp
        by_cases e2 : q = 64 + k ∧ w < i ∧ ca_in R k w = true
        · rw [if_pos e2, if_pos ⟨e2.1, by omega, e2.2.2⟩]
        · rw [if_neg e2, if_neg (fun z => e2 ⟨z.1, by have := z.1; have := z.2.1; omega, z.2.2⟩)]
    · refine ca_P_M hs (fun q hq hv w hw' => ?_)
      unfold ca_cp
      by_cases e2 : q = 64 + k ∧ w < i ∧ ca_in R k w = true
      · rw [if_pos e2, if_pos ⟨e2.1, by omega, e2.2.2⟩]
      · rw [if_neg e2, if_neg (fun y => ?_)]
        by_cases e : w = i
        · rw [e] at y
          have y2 : ca_inr R (ca_ro k i) (ca_co k i) = true := y.2.2
          rw [z] at y2
          exact absurd y2 (by decide)
        · exact e2 ⟨y.1, by have := y.2.1; omega, y.2.2⟩
def ca_cg (R : Nat × Nat × Nat × Nat) (what x : Int32) (M : Nat → Nat → Int32) (k : Nat) : Nat → Nat → Int32 := fun q w => if 64 ≤ q ∧ q < 64 + k ∧ ca_in R (q - 64) w = true then ca_op what (M q w) x else M q w
theorem ca_change {post : Int32 → St1 → Prop} {lv : Nat → Bool} {M : Nat → Nat → Int32} {R0 : Nat × Nat × Nat × Nat} {A : Nat → Int32} {u : St1} {F T : Nat} {what x : Int32} (h : ca_P lv M R0 A u) (h4 : lv 4 = true) (hF : F < 256) (hT : T < 256)
    (H : ∀ u' : St1, ca_P lv (ca_cg (ca_reg F T) what x M 16) (ca_reg F T) A u' → post (nI (ca_sz (ca_reg F T))) u') : wpX_change post u (nI F) (nI T) what x := by
  obtain ⟨f0, f1, f2, f3, a1, a2, a3, a4, a5, a6, a7, a8, a9, a10, a11⟩ := u
  unfold wpX_change
  dsimp only
  refine ca_bad hF (br_t rfl (ca_bad hT (br_t rfl (ca_setRegion h hF hT (fun u' hu' => ?_)))))
  have hR := ca_rb_reg hF hT
  clear h
  revert hu' hR H
  generalize ca_reg F T = R
  intro H hu' hR
  obtain ⟨f0, f1, f2, f3, a1, a2, a3, a4, a5, a6, a7, a8, a9, a10, a11⟩ := u'
  dsimp only
  refine pk_loop (σ := St1) (fun n i s => wX_change_25 post what x n (nI i) s.1 s.2.1 s.2.2.1 s.2.2.2.1 s.2.2.2.2.1 s.2.2.2.2.2.1 s.2.2.2.2.2.2.1 s.2.2.2.2.2.2.2.1 s.2.2.2.2.2.2.2.2.1 s.2.2.2.2.2.2.2.2.2.1 s.2.2.2.2.2.2.2.2.2.2.1 s.2.2.2.2.2.2.2.2.2.2.2.1 s.2.2.2.2.2.2.2.2.2.2.2.2.1 s.2.2.2.2.2.2.2.2.2.2.2.2.2.1 s.2.2.2.2.2.2.2.2.2.2.2.2.2.2) (fun i s => ca_P lv (ca_cg R what x M i) R A s) 16 0 (f0, f1, f2, f3, a1, a2, a3, a4, a5, a6, a7, a8, a9, a10, a11) (by omega) (ca_P_M hu' (fun q hq hv w hw => ?_)) ?_ ?_
  · unfold ca_cg
    exact (if_neg (fun z => absurd z.2.1 (by omega))).symm
  · intro n s hs
    obtain ⟨f0, f1, f2, f3, a1, a2, a3, a4, a5, a6, a7, a8, a9, a10, a11⟩ := s
    refine pk_le 16 16 (fun _ => ?_) (fun z => absurd z (by omega))
    have X := H _ hs
    obtain ⟨g, b1, b2, b3, b4, b5, b6, b7, b8, b9, b10, e, hG, hl, h1⟩ := hs
    obtain ⟨hr0, hr', hc0, hc'⟩ := hR
    have e0 : f0 = nI R.1 := congrArg (fun t => t.1) e
    have e1 : f1 = nI R.2.1 := congrArg (fun t => t.2.1) e
    have e2 : f2 = nI R.2.2.1 := congrArg (fun t => t.2.2.1) e
    have e3 : f3 = nI R.2.2.2 := congrArg (fun t => t.2.2.2.1) e
    unfold wpX_regionSize
    dsimp only
    have es : ((f1 - f0) + 1) * ((f3 - f2) + 1) = nI (ca_sz R) := by
      rw [e0, e1, e2, e3, pk_sub hr0, pk_sub hc0, nI_1, nI_1, pk_mul]
      rfl
    rw [es]
    exact X
  · intro n i s hi hs hw
    obtain ⟨f0, f1, f2, f3, a1, a2, a3, a4, a5, a6, a7, a8, a9, a10, a11⟩ := s
    refine pk_le 16 i (fun z => absurd z (by omega)) (fun _ => ca_covers hs hR hi (fun zc => ca_touches hs hR hi (fun _ => br_f (by decide) ?_) (fun _ => br_f (by decide) ?_)) (fun zc => ca_touches hs hR hi (fun zt => br_t rfl (br_f (by decide) ?_)) (fun zt => br_t rfl (br_t rfl (nm_r (nI_1 i) (hw (f0, f1, f2, f3, a1, a2, a3, a4, a5, a6, a7, a8, a9, a10, a11) ?_))))))
    case refine_1 | refine_2 =>
      refine ca_changeWhole hs h4 hi (fun u' hu' => ?_)
      obtain ⟨f0, f1, f2, f3, a1, a2, a3, a4, a5, a6, a7, a8, a9, a10, a11⟩ := u'
      refine nm_r (nI_1 i) (hw (f0, f1, f2, f3, a1, a2, a3, a4, a5, a6, a7, a8, a9, a10, a11) (ca_P_M hu' (fun q hq hv w hw' => ?_)))
      by_cases e : q = 64 + i
      · subst e
        rw [if_pos rfl]
        unfold ca_cg
        rw [if_neg (fun z => absurd z.2.1 (by omega)), if_pos ⟨by omega, by omega, by rw [show 64 + i - 64 = i by omega]; exact ca_cov_in hi hw' zc⟩]
      · rw [if_neg e]
        unfold ca_cg
        by_cases e2 : 64 ≤ q ∧ q < 64 + i ∧ ca_in R (q - 64) w = true
        · rw [if_pos e2, if_pos ⟨e2.1, by omega, e2.2.2⟩]
        · rw [if_neg e2, if_neg (fun z => e2 ⟨z.1, by have := z.2.1; omega, z.2.2⟩)]
    case refine_3 =>
      refine ca_changePart hs h4 hR hi (fun u' hu' => ?_)
      obtain ⟨f0, f1, f2, f3, a1, a2, a3, a4, a5, a6, a7, a8, a9, a10, a11⟩ := u'
      refine nm_r (nI_1 i) (hw (f0, f1, f2, f3, a1, a2, a3, a4, a5, a6, a7, a8, a9, a10, a11) (ca_P_M hu' (fun q hq hv w hw' => ?_)))
      unfold ca_cp
      by_cases e : q = 64 + i ∧ w < 16 ∧ ca_in R i w = true
      · rw [if_pos e]
        obtain ⟨rfl, _, ei⟩ := e
        unfold ca_cg
        rw [if_neg (fun z => absurd z.2.1 (by omega)), if_pos ⟨by omega, by omega, by rw [show 64 + i - 64 = i by omega]; exact ei⟩]
      · rw [if_neg e]
        unfold ca_cg
        by_cases e2 : 64 ≤ q ∧ q < 64 + i ∧ ca_in R (q - 64) w = true
        · rw [if_pos e2, if_pos ⟨e2.1, by omega, e2.2.2⟩]
        · rw [if_neg e2, if_neg (fun z => ?_)]
          by_cases e3 : q = 64 + i
          · have z2 := z.2.2
            rw [e3, show 64 + i - 64 = i by omega] at z2
            exact e ⟨e3, hw', z2⟩
          · exact e2 ⟨z.1, by have := z.2.1; omega, z.2.2⟩
    case refine_4 =>
      refine ca_P_M hs (fun q hq hv w hw' => ?_)
      unfold ca_cg
      by_cases e2 : 64 ≤ q ∧ q < 64 + i ∧ ca_in R (q - 64) w = true
      · rw [if_pos e2, if_pos ⟨e2.1, by omega, e2.2.2⟩]
      · rw [if_neg e2, if_neg (fun z => ?_)]
        by_cases e3 : q = 64 + i
        · have z2 := z.2.2
          rw [e3, show 64 + i - 64 = i by omega, ca_tch_in hi hw' zt] at z2
          exact absurd z2 (by decide)
        · exact e2 ⟨z.1, by have := z.2.1; omega, z.2.2⟩
end
section
/-! sums over a region; splits -/
def ca_fs (R : Nat × Nat × Nat × Nat) (M : Nat → Nat → Int32) (k w : Nat) : Int32 := if ca_in R k w = true then M (64 + k) w else 0
def ca_rs (R : Nat × Nat × Nat × Nat) (M : Nat → Nat → Int32) (k : Nat) : Int32 := ca_sum (ca_fs R M k) 16
def ca_sumR (R : Nat × Nat × Nat × Nat) (M : Nat → Nat → Int32) : Int32 := ca_sum (ca_rs R M) 16
theorem ca_sumR_add {R R1 R2 : Nat × Nat × Nat × Nat} {M : Nat → Nat → Int32} (h : ∀ r c, r < 16 → c < 16 → (ca_inr R r c = true ∧ ca_inr R1 r c = true ∧ ca_inr R2 r c = false) ∨ (ca_inr R r c = true ∧ ca_inr R1 r c = false ∧ ca_inr R2 r c = true) ∨ (ca_inr R r c = false ∧ ca_inr R1 r c = false ∧ ca_inr R2 r c = false)) :
    ca_sumR R M = ca_sumR R1 M + ca_sumR R2 M := by
  refine (ca_sum_congr 16 (fun k hk => ?_)).trans (ca_sum_add (ca_rs R1 M) (ca_rs R2 M) 16)
  refine (ca_sum_congr 16 (fun w hw => ?_)).trans (ca_sum_add (ca_fs R1 M k) (ca_fs R2 M k) 16)
  unfold ca_fs ca_in
  rcases h (ca_ro k w) (ca_co k w) (ca_ro_lt hk hw) ca_co_lt with ⟨h0, h1, h2⟩ | ⟨h0, h1, h2⟩ | ⟨h0, h1, h2⟩
  · rw [h0, h1, h2, if_pos rfl, if_neg (by decide)]
    grind
  · rw [h0, h1, h2, if_pos rfl, if_neg (by decide)]
    grind
  · rw [h0, h1, h2, if_neg (by decide)]
    rfl
theorem ca_partSum {post : Int32 → Prop} {lv : Nat → Bool} {M : Nat → Nat → Int32} {R : Nat × Nat × Nat × Nat} {A : Nat → Int32} {u : St1} {k : Nat} (h : ca_P lv M R A u) (h4 : lv 4 = true) (hR : ca_rb R) (hk : k < 16)
    (H : post (ca_rs R M k)) : wpX_partSum post u (nI k) := by
  obtain ⟨f0, f1, f2, f3, a1, a2, a3, a4, a5, a6, a7, a8, a9, a10, a11⟩ := u
  unfold wpX_partSum
  dsimp only
  refine pk_loop (σ := Unit) (fun n i _ => wX_partSum_4 post (nI k) f0 f1 f2 f3 a1 a2 a3 a4 a5 a6 a7 a8 a9 a10 a11 n (ca_sum (ca_fs R M k) i) (nI i)) (fun _ _ => True) 16 0 () (by omega) trivial ?_ ?_
  · intro n _ _
    exact pk_le 16 16 (fun _ => H) (fun z => absurd z (by omega))
  · intro n i _ hi _ hw
    have er : ca_pl (ca_ro k i) (ca_co k i) = k := ca_pl_rc hk hi
    have ew : ca_wi (ca_ro k i) (ca_co k i) = i := ca_wi_rc hk hi
    have X : wX_partSum_4 post (nI k) f0 f1 f2 f3 a1 a2 a3 a4 a5 a6 a7 a8 a9 a10 a11 n (ca_sum (ca_fs R M k) i + ca_fs R M k i) (nI (i + 1)) := hw () trivial
    refine pk_le 16 i (fun z => absurd z (by omega)) (fun _ => ⟨ca_n4, ca_n4, nm_r (ca_roI hk hi) ⟨ca_n4, ca_n4, nm_r (ca_coI hk hi) (ca_inRegion h hR (ca_ro_lt hk hi) ca_co_lt (fun z => br_f (by decide) ?_) (fun z => br_t rfl (nm_r (nI_1 i) ?_)))⟩⟩)
    · refine ca_readP (a := 4) h (by omega) h4 (ca_ro_lt hk hi) ca_co_lt ?_
      rw [er, ew]
      have e : ca_fs R M k i = M (64 + k) i := if_pos z
      rw [e] at X
      exact nm_e (nm_r (nI_1 i) X)
    · have e : ca_fs R M k i = 0 := if_neg (fun y => by
        have y2 : ca_inr R (ca_ro k i) (ca_co k i) = true := y
        rw [z] at y2
        exact absurd y2 (by decide))
      rw [e, show ca_sum (ca_fs R M k) i + 0 = ca_sum (ca_fs R M k) i by grind] at X
      exact X
theorem ca_whole53 {post : Int32 → St1 → Prop} {f0 f1 f2 f3 : Int32} {a1 a2 a3 a4 a5 a6 a7 a8 a9 a10 a11 : Nat → Int32} {g : Nat → Nat} {M : Nat → Nat → Int32} {q : Nat} (h : ca_G g M a2 a3 a4 a5 a6 a7 a8) (hq : q < 80) (hg : g q < 80) (hk : a7 (g q) ≠ 0)
    (H : post (ca_sum (M q) 16) (f0, f1, f2, f3, a1, a2, a3, a4, a5, a6, a7, a8, a9, a10, a11)) : wX_wholeSum_53 post (nI (g q)) f0 f1 f2 f3 a1 a2 a3 a4 a5 a6 a7 a8 a9 a10 a11 := by
  obtain ⟨hA, hH, hD, hS, hV⟩ := h
  unfold wX_wholeSum_53
  have ik : vp_in (nI (g q)) 80 := vp_in_nI hg (by omega)
  refine ⟨ik, ik, ik, ?_⟩
  rw [nI_clamp (show g q < 2 ^ 31 by omega), hS _ hg hk, ca_sum_16, ca_sum_congr (f := fun i => a4 (g q * 16 + i) * a5 (g q) + a6 (g q)) (f' := M q) 16 (fun w hw => hV q hq hg w hw)]
  exact H
theorem ca_wholeSum {post : Int32 → St1 → Prop} {f0 f1 f2 f3 : Int32} {a1 a2 a3 a4 a5 a6 a7 a8 a9 a10 a11 : Nat → Int32} {g : Nat → Nat} {M : Nat → Nat → Int32} {q : Nat} (h : ca_G g M a2 a3 a4 a5 a6 a7 a8) (hq : q < 80) (hg : g q < 80)
    (H : ∀ b7 b8 : Nat → Int32, ca_G g M a2 a3 a4 a5 a6 b7 b8 → post (ca_sum (M q) 16) (f0, f1, f2, f3, a1, a2, a3, a4, a5, a6, b7, b8, a9, a10, a11)) : wpX_wholeSum post (f0, f1, f2, f3, a1, a2, a3, a4, a5, a6, a7, a8, a9, a10, a11) (nI (g q)) := by
  unfold wpX_wholeSum
  dsimp only
  rw [nI_clamp (show g q < 2 ^ 31 by omega)]
  have ik : vp_in (nI (g q)) 80 := vp_in_nI hg (by omega)
  refine ⟨ik, br_c (fun z => ?_) (fun z => ca_whole53 h hq hg z (H a7 a8 h))⟩
  refine pk_loop (σ := Unit) (fun n i _ => wX_wholeSum_13 post (nI (g q)) f0 f1 f2 f3 a1 a2 a3 a4 a5 a6 a7 a8 a9 a10 a11 n (ca_sum (fun j => a4 (g q * 16 + j)) i) (nI i)) (fun _ _ => True) 16 0 () (by omega) trivial ?_ ?_
  · intro n _ _
    refine pk_le 16 16 (fun _ => ⟨ik, nm_e ⟨ik, nm_e ?_⟩⟩) (fun z => absurd z (by omega))
    rw [nI_clamp (show g q < 2 ^ 31 by omega)]
    have hG : ca_G g M a2 a3 a4 a5 a6 (upd a7 (g q) 1) (upd a8 (g q) (ca_sum (fun j => a4 (g q * 16 + j)) 16)) := by
      obtain ⟨hA, hH, hD, hS, hV⟩ := h
      refine ⟨hA, hH, hD, ?_, hV⟩
      intro c hc hn
      by_cases e : c = g q
      · rw [e, pk_us]
      · rw [pk_un e] at hn ⊢
        exact hS c hc hn
    exact ca_whole53 hG hq hg (by rw [pk_us]; decide) (H _ _ hG)
  · intro n i _ hi _ hw
    have X : wX_wholeSum_13 post (nI (g q)) f0 f1 f2 f3 a1 a2 a3 a4 a5 a6 a7 a8 a9 a10 a11 n (ca_sum (fun j => a4 (g q * 16 + j)) i + a4 (g q * 16 + i)) (nI (i + 1)) := hw () trivial
    refine pk_le 16 i (fun z => absurd z (by omega)) (fun _ => ?_)
    rw [ca_q, nI_clamp (show g q * 16 + i < 2 ^ 31 by omega)]
    exact ⟨vp_in_nI (by omega) (by omega), nm_e (nm_r (nI_1 i) X)⟩
theorem ca_sumS {post : Int32 → St1 → Prop} {lv : Nat → Bool} {M : Nat → Nat → Int32} {R0 : Nat × Nat × Nat × Nat} {A : Nat → Int32} {u : St1} {F T : Nat} (h : ca_P lv M R0 A u) (h4 : lv 4 = true) (hF : F < 256) (hT : T < 256)
    (H : ∀ u' : St1, ca_P lv M (ca_reg F T) A u' → post (ca_sumR (ca_reg F T) M) u') : wpX_sum post u (nI F) (nI T) := by
  obtain ⟨f0, f1, f2, f3, a1, a2, a3, a4, a5, a6, a7, a8, a9, a10, a11⟩ := u
  unfold wpX_sum
  dsimp only
  refine ca_bad hF (br_t rfl (ca_bad hT (br_t rfl (ca_setRegion h hF hT (fun u' hu' => ?_)))))
  have hR := ca_rb_reg hF hT
  clear h
  revert hu' hR H
  generalize ca_reg F T = R
  intro H hu' hR
  obtain ⟨f0, f1, f2, f3, a1, a2, a3, a4, a5, a6, a7, a8, a9, a10, a11⟩ := u'
  dsimp only
  refine pk_loop (σ := St1) (fun n i s => wX_sum_27 post n (ca_sum (ca_rs R M) i) (nI i) s.1 s.2.1 s.2.2.1 s.2.2.2.1 s.2.2.2.2.1 s.2.2.2.2.2.1 s.2.2.2.2.2.2.1 s.2.2.2.2.2.2.2.1 s.2.2.2.2.2.2.2.2.1 s.2.2.2.2.2.2.2.2.2.1 s.2.2.2.2.2.2.2.2.2.2.1 s.2.2.2.2.2.2.2.2.2.2.2.1 s.2.2.2.2.2.2.2.2.2.2.2.2.1 s.2.2.2.2.2.2.2.2.2.2.2.2.2.1 s.2.2.2.2.2.2.2.2.2.2.2.2.2.2) (fun i s => ca_P lv M R A s) 16 0 (f0, f1, f2, f3, a1, a2, a3, a4, a5, a6, a7, a8, a9, a10, a11) (by omega) hu' ?_ ?_
  · intro n s hs
    obtain ⟨f0, f1, f2, f3, a1, a2, a3, a4, a5, a6, a7, a8, a9, a10, a11⟩ := s
    exact pk_le 16 16 (fun _ => H _ hs) (fun z => absurd z (by omega))
  · intro n i s hi hs hw
    obtain ⟨f0, f1, f2, f3, a1, a2, a3, a4, a5, a6, a7, a8, a9, a10, a11⟩ := s
    have hw' : ∀ s' : St1, ca_P lv M R A s' → wX_sum_27 post n (ca_sum (ca_rs R M) i + ca_rs R M i) (nI (i + 1)) s'.1 s'.2.1 s'.2.2.1 s'.2.2.2.1 s'.2.2.2.2.1 s'.2.2.2.2.2.1 s'.2.2.2.2.2.2.1 s'.2.2.2.2.2.2.2.1 s'.2.2.2.2.2.2.2.2.1 s'.2.2.2.2.2.2.2.2.2.1 s'.2.2.2.2.2.2.2.2.2.2.1 s'.2.2.2.2.2.2.2.2.2.2.2.1 s'.2.2.2.2.2.2.2.2.2.2.2.2.1 s'.2.2.2.2.2.2.2.2.2.2.2.2.2.1 s'.2.2.2.2.2.2.2.2.2.2.2.2.2.2 := hw
    refine pk_le 16 i (fun z => absurd z (by omega)) (fun _ => ca_covers hs hR hi (fun zc => ca_touches hs hR hi (fun _ => br_f (by decide) ?_) (fun _ => br_f (by decide) ?_)) (fun zc => ca_touches hs hR hi (fun zt => br_t rfl (br_f (by decide) (ca_partSum hs h4 hR hi (nm_e (nm_r (nI_1 i) (hw' (f0, f1, f2, f3, a1, a2, a3, a4, a5, a6, a7, a8, a9, a10, a11) hs)))))) (fun zt => br_t rfl (br_t rfl (nm_r (nI_1 i) ?_)))))
    case refine_1 | refine_2 =>
      have ec : ca_sum (M (64 + i)) 16 = ca_rs R M i := ca_sum_congr 16 (fun w hw => (if_pos (ca_cov_in hi hw zc)).symm)
      obtain ⟨g, b1, b2, b3, b4, b5, b6, b7, b8, b9, b10, e, hG, hl, h1⟩ := hs
      obtain ⟨rfl, rfl, rfl, rfl, rfl, rfl, rfl, rfl, rfl, rfl, rfl, rfl, rfl, rfl, rfl⟩ := e
      have hgp : g (64 + i) < 80 := (hl _ (by omega)).mpr (by rw [show (64 + i) / 16 = 4 by omega]; exact h4)
      dsimp only
      rw [ca_64, nI_clamp (by omega), hG.1 _ (by omega) hgp]
      refine ⟨vp_in_nI (by omega) (by omega), ca_wholeSum hG (by omega) hgp (fun d7 d8 hG' => ?_)⟩
      rw [ec]
      exact nm_e (nm_r (nI_1 i) (hw' _ ⟨g, _, _, _, _, _, _, _, _, _, _, rfl, hG', hl, h1⟩))
    case refine_3 =>
      have ec : ca_rs R M i = 0 := ca_sum_zero 16 (fun w hw => if_neg (fun z => by rw [ca_tch_in hi hw zt] at z; exact absurd z (by decide)))
      rw [ec, show ca_sum (ca_rs R M) i + 0 = ca_sum (ca_rs R M) i by grind] at hw'
      exact hw' (f0, f1, f2, f3, a1, a2, a3, a4, a5, a6, a7, a8, a9, a10, a11) hs
theorem ca_mix (m c : Nat) : nI m + 16 * nI c = nI (m + 16 * c) := by
  show nI m + nI 16 * nI c = _
  rw [pk_mul, nI_add]
theorem ca_reg_mix {a b c d : Nat} (ha : a < 16) (hb : b < 16) : ca_reg (a + 16 * c) (b + 16 * d) = (min a b, max a b, min c d, max c d) := by
  unfold ca_reg
  rw [show (a + 16 * c) % 16 = a by omega, show (b + 16 * d) % 16 = b by omega, show (a + 16 * c) / 16 = c by omega, show (b + 16 * d) / 16 = d by omega]
theorem ca_add_row {m n c d : Nat} (M : Nat → Nat → Int32) (h : m < n) (hn : n < 16) : ca_sumR (m, n, min c d, max c d) M = ca_sumR (ca_reg (m + 16 * c) (m + 16 * d)) M + ca_sumR (ca_reg (m + 1 + 16 * c) (n + 16 * d)) M := by
  rw [ca_reg_mix (by omega) (by omega), ca_reg_mix (by omega) (by omega)]
  refine ca_sumR_add (fun r e hr he => ?_)
  rw [ca_inr_t, ca_inr_t, ca_inr_t, ca_inr_f, ca_inr_f, ca_inr_f]
  dsimp only
  rw [Nat.min_self, Nat.max_self, Nat.min_eq_left (show m + 1 ≤ n by omega), Nat.max_eq_right (show m + 1 ≤ n by omega)]
  generalize min c d = x
  generalize max c d = y
  omega
theorem ca_add_col {r s m n : Nat} (M : Nat → Nat → Int32) (hr : r < 16) (hs : s < 16) (h : m < n) (hn : n < 16) : ca_sumR (min r s, max r s, m, n) M = ca_sumR (ca_reg (r + 16 * m) (s + 16 * (n - 1))) M + ca_sumR (ca_reg (r + 16 * n) (s + 16 * n)) M := by
  rw [ca_reg_mix (by omega) (by omega), ca_reg_mix (by omega) (by omega)]
  refine ca_sumR_add (fun e f he hf => ?_)
  rw [ca_inr_t, ca_inr_t, ca_inr_t, ca_inr_f, ca_inr_f, ca_inr_f]
  dsimp only
  rw [Nat.min_self, Nat.max_self, Nat.min_eq_left (show m ≤ n - 1 by omega), Nat.max_eq_right (show m ≤ n - 1 by omega)]
  generalize min r s = x
  generalize max r s = y
  omega
theorem ca_sp71 {post : Int32 → St1 → Prop} {lv : Nat → Bool} {M : Nat → Nat → Int32} {R0 : Nat × Nat × Nat × Nat} {A : Nat → Int32} {f0 f1 f2 f3 : Int32} {a1 a2 a3 a4 a5 a6 a7 a8 a9 a10 a11 : Nat → Int32} {m n c d : Nat} {x : Int32} (h : ca_P lv M R0 A (f0, f1, f2, f3, a1, a2, a3, a4, a5, a6, a7, a8, a9, a10, a11)) (h4 : lv 4 = true) (hm : m < n) (hn : n < 16) (hc : c < 16) (hd : d < 16)
    (hx : x = ca_sumR (m, n, min c d, max c d) M) (H : ∀ (R : Nat × Nat × Nat × Nat) (u' : St1), ca_P lv M R A u' → post 1 u') : wL_splits_71 post (nI c) (nI d) x (nI m) (nI n) f0 f1 f2 f3 a1 a2 a3 a4 a5 a6 a7 a8 a9 a10 a11 := by
  unfold wL_splits_71
  rw [nI_1, ca_mix, ca_mix, ca_mix, ca_mix]
  refine ca_sumS h h4 (by omega) (by omega) (fun u1 h1 => ?_)
  obtain ⟨f0, f1, f2, f3, a1, a2, a3, a4, a5, a6, a7, a8, a9, a10, a11⟩ := u1
  refine ca_sumS h1 h4 (by omega) (by omega) (fun u2 h2 => ?_)
  obtain ⟨f0, f1, f2, f3, a1, a2, a3, a4, a5, a6, a7, a8, a9, a10, a11⟩ := u2
  exact br_t (hx.trans (ca_add_row M hm hn)) (H _ _ h2)
theorem ca_sp168 {post : Int32 → St1 → Prop} {lv : Nat → Bool} {M : Nat → Nat → Int32} {R0 : Nat × Nat × Nat × Nat} {A : Nat → Int32} {f0 f1 f2 f3 : Int32} {a1 a2 a3 a4 a5 a6 a7 a8 a9 a10 a11 : Nat → Int32} {r s m n : Nat} {x : Int32} (h : ca_P lv M R0 A (f0, f1, f2, f3, a1, a2, a3, a4, a5, a6, a7, a8, a9, a10, a11)) (h4 : lv 4 = true) (hr : r < 16) (hs : s < 16) (hm : m < n) (hn : n < 16)
    (hx : x = ca_sumR (min r s, max r s, m, n) M) (H : ∀ (R : Nat × Nat × Nat × Nat) (u' : St1), ca_P lv M R A u' → post 1 u') : wL_splits_168 post (nI r) (nI s) x (nI m) (nI n) f0 f1 f2 f3 a1 a2 a3 a4 a5 a6 a7 a8 a9 a10 a11 := by
  unfold wL_splits_168
  rw [show nI n - 1 = nI (n - 1) from pk_sub (b := 1) (by omega), ca_mix, ca_mix, ca_mix, ca_mix]
  refine ca_sumS h h4 (by omega) (by omega) (fun u1 h1 => ?_)
  obtain ⟨f0, f1, f2, f3, a1, a2, a3, a4, a5, a6, a7, a8, a9, a10, a11⟩ := u1
  refine ca_sumS h1 h4 (by omega) (by omega) (fun u2 h2 => ?_)
  obtain ⟨f0, f1, f2, f3, a1, a2, a3, a4, a5, a6, a7, a8, a9, a10, a11⟩ := u2
  exact br_t (hx.trans (ca_add_col M hr hs hm hn)) (H _ _ h2)
theorem ca_sp224 {post : Int32 → St1 → Prop} {lv : Nat → Bool} {M : Nat → Nat → Int32} {R0 : Nat × Nat × Nat × Nat} {A : Nat → Int32} {f0 f1 f2 f3 : Int32} {a1 a2 a3 a4 a5 a6 a7 a8 a9 a10 a11 : Nat → Int32} {F T : Nat} {x : Int32} (h : ca_P lv M R0 A (f0, f1, f2, f3, a1, a2, a3, a4, a5, a6, a7, a8, a9, a10, a11)) (h4 : lv 4 = true) (hF : F < 256) (hT : T < 256)
    (hx : x = ca_sumR (ca_reg F T) M) (H : ∀ (R : Nat × Nat × Nat × Nat) (u' : St1), ca_P lv M R A u' → post 1 u') : wL_splits_224 post (nI F) (nI T) x f0 f1 f2 f3 a1 a2 a3 a4 a5 a6 a7 a8 a9 a10 a11 := by
  unfold wL_splits_224
  refine ca_sumS h h4 hT hF (fun u2 h2 => ?_)
  obtain ⟨f0, f1, f2, f3, a1, a2, a3, a4, a5, a6, a7, a8, a9, a10, a11⟩ := u2
  exact br_t (by rw [hx, ca_reg_comm]) (H _ _ h2)
theorem ca_splits {post : Int32 → St1 → Prop} {lv : Nat → Bool} {M : Nat → Nat → Int32} {R0 : Nat × Nat × Nat × Nat} {A : Nat → Int32} {u : St1} {F T : Nat} {z : Int32} (h : ca_P lv M R0 A u) (h4 : lv 4 = true) (hF : F < 256) (hT : T < 256)
    (H : ∀ (R : Nat × Nat × Nat × Nat) (u' : St1), ca_P lv M R A u' → post 1 u') : wpL_splits post u (nI F) (nI T) z := by
  obtain ⟨f0, f1, f2, f3, a1, a2, a3, a4, a5, a6, a7, a8, a9, a10, a11⟩ := u
  unfold wpL_splits
  dsimp only
  refine nm_r (ca_lo hF) (nm_r (ca_lo hT) (nm_r (ca_hi hF) (nm_r (ca_hi hT) (ca_sumS h h4 hF hT (fun u1 h1 => ?_)))))
  obtain ⟨f0, f1, f2, f3, a1, a2, a3, a4, a5, a6, a7, a8, a9, a10, a11⟩ := u1
  dsimp only
  have e127 : wL_splits_127 post (nI F) (nI T) z (nI (F % 16)) (nI (T % 16)) (nI (F / 16)) (nI (T / 16)) (ca_sumR (ca_reg F T) M) f0 f1 f2 f3 a1 a2 a3 a4 a5 a6 a7 a8 a9 a10 a11 := by
    unfold wL_splits_127
    refine br_c (fun z0 => pk_eq (F / 16) (T / 16) (fun _ => ca_sp224 h1 h4 hF hT rfl H) (fun ne => ?_)) (fun _ => ca_sp224 h1 h4 hF hT rfl H)
    refine pk_le (T / 16) (F / 16) (fun z1 => ?_) (fun z1 => ?_)
    · unfold wL_splits_152
      refine pk_le (T / 16) (F / 16) (fun z2 => ca_sp168 h1 h4 (by omega) (by omega) (by omega) (by omega) ?_ H) (fun z2 => absurd z2 (by omega))
      unfold ca_reg
      rw [Nat.min_eq_right (show T / 16 ≤ F / 16 by omega), Nat.max_eq_left (show T / 16 ≤ F / 16 by omega)]
    · unfold wL_splits_152
      refine pk_le (T / 16) (F / 16) (fun z2 => absurd z2 (by omega)) (fun z2 => ca_sp168 h1 h4 (by omega) (by omega) (by omega) (by omega) ?_ H)
      unfold ca_reg
      rw [Nat.min_eq_left (show F / 16 ≤ T / 16 by omega), Nat.max_eq_right (show F / 16 ≤ T / 16 by omega)]
  refine br_c (fun _ => e127) (fun _ => pk_eq (F % 16) (T % 16) (fun _ => e127) (fun ne => ?_))
  refine pk_le (T % 16) (F % 16) (fun z1 => ?_) (fun z1 => ?_)
  · unfold wL_splits_55
    refine pk_le (T % 16) (F % 16) (fun z2 => ca_sp71 h1 h4 (by omega) (by omega) (by omega) (by omega) ?_ H) (fun z2 => absurd z2 (by omega))
    unfold ca_reg
    rw [Nat.min_eq_right (show T % 16 ≤ F % 16 by omega), Nat.max_eq_left (show T % 16 ≤ F % 16 by omega)]
  · unfold wL_splits_55
    refine pk_le (T % 16) (F % 16) (fun z2 => absurd z2 (by omega)) (fun z2 => ca_sp71 h1 h4 (by omega) (by omega) (by omega) (by omega) ?_ H)
    unfold ca_reg
    rw [Nat.min_eq_left (show F % 16 ≤ T % 16 by omega), Nat.max_eq_right (show F % 16 ≤ T % 16 by omega)]
end
section
/-! get, getOf, all; count; copy -/
theorem ca_noVersion {post : Int32 → Prop} {lv : Nat → Bool} {M : Nat → Nat → Int32} {R : Nat × Nat × Nat × Nat} {A : Nat → Int32} {u : St1} {v : Nat} (h : ca_P lv M R A u) (hv : v < 4) (H1 : lv v = false → post 1) (H0 : lv v = true → post 0) : wpX_noVersion post u (nI v) := by
  obtain ⟨g, a1, a2, a3, a4, a5, a6, a7, a8, a9, a10, rfl, hG, hl, h1⟩ := h
  unfold wpX_noVersion
  dsimp only
  rw [nI_clamp (show v < 2 ^ 31 by omega)]
  refine br_f (nI_pos (by omega)) (br_f (nI_nlt (a := 3) (by omega) (by omega)) ⟨vp_in_nI (by omega) (by omega), br_c (fun z => H1 ((h1 v (by omega)).mp z)) (fun z => H0 ?_)⟩)
  cases e : lv v
  · exact absurd ((h1 v (by omega)).mpr e) z
  · rfl
def ca_hsh (M : Nat → Nat → Int32) (a : Nat) : Nat → Int32
  | 0 => 7
  | n + 1 => ca_hsh M a n * 31 + M (a * 16 + ca_pl (n % 16) (n / 16)) (ca_wi (n % 16) (n / 16))
theorem ca_hsh_congr {M M' : Nat → Nat → Int32} {a b : Nat} (h : ∀ p w, p < 16 → w < 16 → M (a * 16 + p) w = M' (b * 16 + p) w) (n : Nat) : n ≤ 256 → ca_hsh M a n = ca_hsh M' b n := by
  induction n with
  | zero => intro _; rfl
  | succ n ih =>
    intro hn
    show ca_hsh M a n * 31 + M (a * 16 + ca_pl (n % 16) (n / 16)) (ca_wi (n % 16) (n / 16)) = ca_hsh M' b n * 31 + M' (b * 16 + ca_pl (n % 16) (n / 16)) (ca_wi (n % 16) (n / 16))
    rw [ih (by omega), h _ _ (ca_pl_lt (by omega) (by omega)) (ca_wi_lt _ _)]
theorem ca_get {post : Int32 → Prop} {lv : Nat → Bool} {M : Nat → Nat → Int32} {R : Nat × Nat × Nat × Nat} {A : Nat → Int32} {u : St1} {n : Nat} (h : ca_P lv M R A u) (h4 : lv 4 = true) (hn : n < 256)
    (H : post (M (4 * 16 + ca_pl (n % 16) (n / 16)) (ca_wi (n % 16) (n / 16)))) : wpX_get post u (nI n) := by
  obtain ⟨f0, f1, f2, f3, a1, a2, a3, a4, a5, a6, a7, a8, a9, a10, a11⟩ := u
  unfold wpX_get
  dsimp only
  rw [ca_lo hn, ca_hi hn]
  exact ca_bad hn (br_t rfl (ca_readP (a := 4) h (by omega) h4 (by omega) (by omega) H))
theorem ca_getOf {post : Int32 → Prop} {lv : Nat → Bool} {M : Nat → Nat → Int32} {R : Nat × Nat × Nat × Nat} {A : Nat → Int32} {u : St1} {v n : Nat} (h : ca_P lv M R A u) (hv : v < 4) (hl : lv v = true) (hn : n < 256)
    (H : post (M (v * 16 + ca_pl (n % 16) (n / 16)) (ca_wi (n % 16) (n / 16)))) : wpX_getOf post u (nI v) (nI n) := by
  obtain ⟨f0, f1, f2, f3, a1, a2, a3, a4, a5, a6, a7, a8, a9, a10, a11⟩ := u
  unfold wpX_getOf
  dsimp only
  rw [ca_lo hn, ca_hi hn]
  exact ca_bad hn (br_t rfl (ca_noVersion h hv (fun z => by rw [hl] at z; exact absurd z (by decide)) (fun _ => br_t rfl (ca_readP h (by omega) hl (by omega) (by omega) H))))
theorem ca_allP {post : Int32 → Prop} {lv : Nat → Bool} {M : Nat → Nat → Int32} {R : Nat × Nat × Nat × Nat} {A : Nat → Int32} {u : St1} (h : ca_P lv M R A u) (h4 : lv 4 = true) (H : post (ca_hsh M 4 256)) : wpL_all post u (-1) := by
  obtain ⟨f0, f1, f2, f3, a1, a2, a3, a4, a5, a6, a7, a8, a9, a10, a11⟩ := u
  unfold wpL_all
  dsimp only
  refine pk_loop (σ := Unit) (fun n i _ => wL_all_5 post (-1) f0 f1 f2 f3 a1 a2 a3 a4 a5 a6 a7 a8 a9 a10 a11 n (ca_hsh M 4 i) (nI i)) (fun _ _ => True) 256 0 () (by omega) trivial ?_ ?_
  · intro n _ _
    exact pk_le 256 256 (fun _ => H) (fun z => absurd z (by omega))
  · intro n i _ hi _ hw
    exact pk_le 256 i (fun z => absurd z (by omega)) (fun _ => br_f (by decide) (ca_get h h4 hi (nm_e (nm_r (nI_1 i) (hw () trivial)))))
theorem ca_allV {post : Int32 → Prop} {lv : Nat → Bool} {M : Nat → Nat → Int32} {R : Nat × Nat × Nat × Nat} {A : Nat → Int32} {u : St1} {v : Nat} (h : ca_P lv M R A u) (hv : v < 4) (hl : lv v = true) (H : post (ca_hsh M v 256)) : wpL_all post u (nI v) := by
  obtain ⟨f0, f1, f2, f3, a1, a2, a3, a4, a5, a6, a7, a8, a9, a10, a11⟩ := u
  unfold wpL_all
  dsimp only
  refine pk_loop (σ := Unit) (fun n i _ => wL_all_5 post (nI v) f0 f1 f2 f3 a1 a2 a3 a4 a5 a6 a7 a8 a9 a10 a11 n (ca_hsh M v i) (nI i)) (fun _ _ => True) 256 0 () (by omega) trivial ?_ ?_
  · intro n _ _
    exact pk_le 256 256 (fun _ => H) (fun z => absurd z (by omega))
  · intro n i _ hi _ hw
    exact pk_le 256 i (fun z => absurd z (by omega)) (fun _ => br_t (nI_pos' (by omega)) (ca_getOf h hv hl hi (nm_e (nm_r (nI_1 i) (hw () trivial)))))
theorem ca_count {post : Int32 → St1 → Prop} {lv : Nat → Bool} {M : Nat → Nat → Int32} {R0 : Nat × Nat × Nat × Nat} {A : Nat → Int32} {u : St1} {v : Int32} (h : ca_P lv M R0 A u) (h4 : lv 4 = true) (hv : ∀ p w, p < 16 → w < 16 → M (4 * 16 + p) w = v)
    (H : ∀ u' : St1, ca_P lv M (ca_reg 255 0) A u' → post 256 u') : wpX_count post u 255 0 v := by
  obtain ⟨f0, f1, f2, f3, a1, a2, a3, a4, a5, a6, a7, a8, a9, a10, a11⟩ := u
  unfold wpX_count
  dsimp only
  refine ca_bad (F := 255) (by omega) (br_t rfl (ca_bad (F := 0) (by omega) (br_t rfl (ca_setRegion (F := 255) (T := 0) h (by omega) (by omega) (fun u' hu' => ?_)))))
  have hu := hu'
  obtain ⟨g, a1, a2, a3, a4, a5, a6, a7, a8, a9, a10, rfl, hG, hl, h1⟩ := hu'
  dsimp only
  refine pk_loop (σ := Unit) (fun n r _ => wX_count_31 post v (nI 0) (nI 15) (nI 0) (nI 15) a1 a2 a3 a4 a5 a6 a7 a8 a9 a10 A n (nI (16 * r)) (nI r)) (fun _ _ => True) 16 0 () (by omega) trivial ?_ ?_
  · intro n _ _
    exact pk_lt 15 16 (fun _ => H _ hu) (fun z => absurd z (by omega))
  · intro n r _ hr _ hw
    refine pk_lt 15 r (fun z => absurd z (by omega)) (fun _ => ?_)
    refine pk_loop (σ := Unit) (fun m c _ => wX_count_46 post (wX_count_31 post v (nI 0) (nI 15) (nI 0) (nI 15) a1 a2 a3 a4 a5 a6 a7 a8 a9 a10 A n) v (nI r) (nI 0) (nI 15) (nI 0) (nI 15) a1 a2 a3 a4 a5 a6 a7 a8 a9 a10 A m (nI (16 * r + c)) (nI c)) (fun _ _ => True) 16 0 () (by omega) trivial ?_ ?_
    · intro m _ _
      exact pk_lt 15 16 (fun _ => nm_r (nI_1 r) (hw () trivial)) (fun z => absurd z (by omega))
    · intro m c _ hc _ hw'
      refine pk_lt 15 c (fun z => absurd z (by omega)) (fun _ => ca_readP (a := 4) hu (by omega) h4 hr hc ?_)
      rw [hv _ _ (ca_pl_lt hr hc) (ca_wi_lt r c)]
      exact br_t rfl (nm_r (nI_1 _) (nm_r (nI_1 c) (hw' () trivial)))
/-- the versions' values are those of N -/
def ca_Q (lv : Nat → Bool) (N : Nat → Nat → Int32) (R : Nat × Nat × Nat × Nat) (u : St1) : Prop := ∃ (M : Nat → Nat → Int32) (A : Nat → Int32), ca_P lv M R A u ∧ ∀ q, q < 64 → ∀ w, M q w = N q w
theorem ca_P_A {lv : Nat → Bool} {M : Nat → Nat → Int32} {R : Nat × Nat × Nat × Nat} {A A' : Nat → Int32} {f0 f1 f2 f3 : Int32} {a1 a2 a3 a4 a5 a6 a7 a8 a9 a10 a11 : Nat → Int32} (h : ca_P lv M R A (f0, f1, f2, f3, a1, a2, a3, a4, a5, a6, a7, a8, a9, a10, a11)) : ca_P lv M R A' (f0, f1, f2, f3, a1, a2, a3, a4, a5, a6, a7, a8, a9, a10, A') := by
  obtain ⟨g, b1, b2, b3, b4, b5, b6, b7, b8, b9, b10, e, hG, hl, h1⟩ := h
  obtain ⟨rfl, rfl, rfl, rfl, rfl, rfl, rfl, rfl, rfl, rfl, rfl, rfl, rfl, rfl, rfl⟩ := e
  exact ⟨g, _, _, _, _, _, _, _, _, _, _, rfl, hG, hl, h1⟩
theorem ca_P_f {lv : Nat → Bool} {M : Nat → Nat → Int32} {R : Nat × Nat × Nat × Nat} {A : Nat → Int32} {f0 f1 f2 f3 : Int32} {a1 a2 a3 a4 a5 a6 a7 a8 a9 a10 a11 : Nat → Int32} (h : ca_P lv M R A (f0, f1, f2, f3, a1, a2, a3, a4, a5, a6, a7, a8, a9, a10, a11)) : f0 = nI R.1 ∧ f1 = nI R.2.1 ∧ f2 = nI R.2.2.1 ∧ f3 = nI R.2.2.2 := by
  obtain ⟨g, b1, b2, b3, b4, b5, b6, b7, b8, b9, b10, e, hG, hl, h1⟩ := h
  obtain ⟨rfl, rfl, rfl, rfl, rfl, rfl, rfl, rfl, rfl, rfl, rfl, rfl, rfl, rfl, rfl⟩ := e
  exact ⟨rfl, rfl, rfl, rfl⟩
theorem ca_cpy56 {post : Int32 → St1 → Prop} {lv : Nat → Bool} {M : Nat → Nat → Int32} {R : Nat × Nat × Nat × Nat} {A : Nat → Int32} {f0 f1 f2 f3 : Int32} {a1 a2 a3 a4 a5 a6 a7 a8 a9 a10 a11 : Nat → Int32} {x4 x5 : Int32} (h : ca_P lv M R A (f0, f1, f2, f3, a1, a2, a3, a4, a5, a6, a7, a8, a9, a10, a11)) (h4 : lv 4 = true) (hR : ca_rb R)
    (H : ∀ A' : Nat → Int32, ∃ n, wX_copy_123 post x4 x5 n 0 f0 f0 f1 f2 f3 a1 a2 a3 a4 a5 a6 a7 a8 a9 a10 A') : ∃ n, wX_copy_56 post x4 x5 f0 f1 f2 f3 n f0 a1 a2 a3 a4 a5 a6 a7 a8 a9 a10 a11 := by
  obtain ⟨rfl, rfl, rfl, rfl⟩ := ca_P_f h
  have hR' := hR
  obtain ⟨hr, hr', hc, hc'⟩ := hR
  refine pk_loop (fun n i s => wX_copy_56 post x4 x5 (nI R.1) (nI R.2.1) (nI R.2.2.1) (nI R.2.2.2) n (nI i) a1 a2 a3 a4 a5 a6 a7 a8 a9 a10 s) (fun _ _ => True) (R.2.1 + 1) R.1 a11 (by omega) trivial ?_ ?_
  · intro n s _
    exact pk_lt R.2.1 (R.2.1 + 1) (fun _ => H s) (fun z => absurd z (by omega))
  · intro n i s hi _ hw
    refine pk_lt R.2.1 i (fun z => absurd z (by omega)) (fun _ => ?_)
    refine pk_loop (fun m j t => wX_copy_71 post (wX_copy_56 post x4 x5 (nI R.1) (nI R.2.1) (nI R.2.2.1) (nI R.2.2.2) n) x4 x5 (nI i) (nI R.1) (nI R.2.1) (nI R.2.2.1) (nI R.2.2.2) m (nI j) a1 a2 a3 a4 a5 a6 a7 a8 a9 a10 t) (fun _ _ => True) (R.2.2.2 + 1) R.2.2.1 s (by omega) trivial ?_ ?_
    · intro m t _
      exact pk_lt R.2.2.2 (R.2.2.2 + 1) (fun _ => nm_r (nI_1 i) (hw t trivial)) (fun z => absurd z (by omega))
    · intro m j t hj _ hw'
      refine pk_lt R.2.2.2 j (fun z => absurd z (by omega)) (fun _ => ca_readP (a := 4) (ca_P_A h) (by omega) h4 (by omega) (by omega) ?_)
      rw [ca_q]
      exact ⟨vp_in_nI (by omega) (by omega), nm_e (nm_r (nI_1 j) (hw' _ trivial))⟩
theorem ca_off {r i a : Nat} : nI (r + i) + (nI a - nI r) = nI (a + i) := by
  rw [← nI_add r i, ← nI_add a i]
  grind
theorem ca_cpy148 {post : Int32 → St1 → Prop} {J : Int32 → Int32 → Int32 → Int32 → Int32 → Int32 → (Nat → Int32) → (Nat → Int32) → (Nat → Int32) → (Nat → Int32) → (Nat → Int32) → (Nat → Int32) → (Nat → Int32) → (Nat → Int32) → (Nat → Int32) → (Nat → Int32) → (Nat → Int32) → Prop} {lv : Nat → Bool} {N : Nat → Nat → Int32} {R : Nat × Nat × Nat × Nat} {u : St1} {ar ac i m : Nat} (h : ca_Q lv N R u) (h4 : lv 4 = true) (hR : ca_rb R) (hac : ac < 16) (hi : R.1 + i ≤ R.2.1) (hi' : ar + i < 16)
    (hm : m ≤ 16 * i) (H : ∀ (m' : Nat) (u' : St1), 1 ≤ m' → m' ≤ 16 * (i + 1) → ca_Q lv N R u' → J (nI m') (nI (R.1 + (i + 1))) u'.1 u'.2.1 u'.2.2.1 u'.2.2.2.1 u'.2.2.2.2.1 u'.2.2.2.2.2.1 u'.2.2.2.2.2.2.1 u'.2.2.2.2.2.2.2.1 u'.2.2.2.2.2.2.2.2.1 u'.2.2.2.2.2.2.2.2.2.1 u'.2.2.2.2.2.2.2.2.2.2.1 u'.2.2.2.2.2.2.2.2.2.2.2.1 u'.2.2.2.2.2.2.2.2.2.2.2.2.1 u'.2.2.2.2.2.2.2.2.2.2.2.2.2.1 u'.2.2.2.2.2.2.2.2.2.2.2.2.2.2) :
    ∃ n, wX_copy_148 post J (nI ar - nI R.1) (nI ac - nI R.2.2.1) (nI (R.1 + i)) n (nI m) (nI R.2.2.1) u.1 u.2.1 u.2.2.1 u.2.2.2.1 u.2.2.2.2.1 u.2.2.2.2.2.1 u.2.2.2.2.2.2.1 u.2.2.2.2.2.2.2.1 u.2.2.2.2.2.2.2.2.1 u.2.2.2.2.2.2.2.2.2.1 u.2.2.2.2.2.2.2.2.2.2.1 u.2.2.2.2.2.2.2.2.2.2.2.1 u.2.2.2.2.2.2.2.2.2.2.2.2.1 u.2.2.2.2.2.2.2.2.2.2.2.2.2.1 u.2.2.2.2.2.2.2.2.2.2.2.2.2.2 := by
  obtain ⟨hr, hr', hc, hc'⟩ := hR
  have hx : R.1 + i < 16 := by omega
  refine pk_loop (σ := Nat × St1) (fun n j s => wX_copy_148 post J (nI ar - nI R.1) (nI ac - nI R.2.2.1) (nI (R.1 + i)) n (nI s.1) (nI (R.2.2.1 + j)) s.2.1 s.2.2.1 s.2.2.2.1 s.2.2.2.2.1 s.2.2.2.2.2.1 s.2.2.2.2.2.2.1 s.2.2.2.2.2.2.2.1 s.2.2.2.2.2.2.2.2.1 s.2.2.2.2.2.2.2.2.2.1 s.2.2.2.2.2.2.2.2.2.2.1 s.2.2.2.2.2.2.2.2.2.2.2.1 s.2.2.2.2.2.2.2.2.2.2.2.2.1 s.2.2.2.2.2.2.2.2.2.2.2.2.2.1 s.2.2.2.2.2.2.2.2.2.2.2.2.2.2.1 s.2.2.2.2.2.2.2.2.2.2.2.2.2.2.2) (fun j s => (j = 0 ∨ 1 ≤ s.1) ∧ s.1 ≤ 16 * i + j ∧ ca_Q lv N R s.2) (min (R.2.2.2 + 1 - R.2.2.1) (16 - ac)) 0 (m, u) (by omega) ⟨Or.inl rfl, by dsimp only; omega, h⟩ ?_ ?_
  · intro n s hs
    obtain ⟨m', f0, f1, f2, f3, a1, a2, a3, a4, a5, a6, a7, a8, a9, a10, a11⟩ := s
    obtain ⟨s1, s2, s3⟩ := hs
    have X := H m' _ (by dsimp only at s1; omega) (by dsimp only at s2; omega) s3
    obtain ⟨M, A, hP, hN⟩ := s3
    obtain ⟨rfl, rfl, rfl, rfl⟩ := ca_P_f hP
    refine pk_lt R.2.2.2 (R.2.2.1 + min (R.2.2.2 + 1 - R.2.2.1) (16 - ac)) (fun _ => nm_r (nI_1 _) X) (fun z => ?_)
    refine pk_le 16 (ac + min (R.2.2.2 + 1 - R.2.2.1) (16 - ac)) (fun _ => nm_r (nI_1 _) X) (fun z' => absurd z' (by omega)) rfl ca_off
  · intro n j s hj hs hw
    obtain ⟨m', f0, f1, f2, f3, a1, a2, a3, a4, a5, a6, a7, a8, a9, a10, a11⟩ := s
    obtain ⟨s1, s2, s3⟩ := hs
    dsimp only at s1 s2 s3
    obtain ⟨M, A, hP, hN⟩ := s3
    obtain ⟨rfl, rfl, rfl, rfl⟩ := ca_P_f hP
    refine pk_lt R.2.2.2 (R.2.2.1 + j) (fun z => absurd z (by omega)) (fun z => ?_)
    refine pk_le 16 (ac + j) (fun z => absurd z (by omega)) (fun _ => ?_) rfl ca_off
    rw [ca_off, ca_off, ca_q]
    refine ⟨vp_in_nI (by omega) (by omega), ca_writeCell hP h4 (by omega) (by omega) (fun u' hu' => ?_)⟩
    obtain ⟨f0, f1, f2, f3, a1, a2, a3, a4, a5, a6, a7, a8, a9, a10, a11⟩ := u'
    refine nm_r (nI_1 _) (nm_r (nI_1 _) (hw (m' + 1, (f0, f1, f2, f3, a1, a2, a3, a4, a5, a6, a7, a8, a9, a10, a11)) ⟨Or.inr (by dsimp only; omega), by dsimp only; omega, _, _, hu', fun q hq w => ?_⟩))
    rw [← hN q hq w]
    exact if_neg (fun z => absurd z.1 (by omega))
theorem ca_cpy123 {post : Int32 → St1 → Prop} {lv : Nat → Bool} {N : Nat → Nat → Int32} {R : Nat × Nat × Nat × Nat} {u : St1} {ar ac : Nat} (h : ca_Q lv N R u) (h4 : lv 4 = true) (hR : ca_rb R) (har : ar < 16) (hac : ac < 16)
    (H : ∀ (m : Nat) (u' : St1), 1 ≤ m → m ≤ 256 → ca_Q lv N R u' → post (nI m) u') : ∃ n, wX_copy_123 post (nI ar - nI R.1) (nI ac - nI R.2.2.1) n 0 (nI R.1) u.1 u.2.1 u.2.2.1 u.2.2.2.1 u.2.2.2.2.1 u.2.2.2.2.2.1 u.2.2.2.2.2.2.1 u.2.2.2.2.2.2.2.1 u.2.2.2.2.2.2.2.2.1 u.2.2.2.2.2.2.2.2.2.1 u.2.2.2.2.2.2.2.2.2.2.1 u.2.2.2.2.2.2.2.2.2.2.2.1 u.2.2.2.2.2.2.2.2.2.2.2.2.1 u.2.2.2.2.2.2.2.2.2.2.2.2.2.1 u.2.2.2.2.2.2.2.2.2.2.2.2.2.2 := by
  have hR' := hR
  obtain ⟨hr, hr', hc, hc'⟩ := hR
  refine pk_loop (σ := Nat × St1) (fun n i s => wX_copy_123 post (nI ar - nI R.1) (nI ac - nI R.2.2.1) n (nI s.1) (nI (R.1 + i)) s.2.1 s.2.2.1 s.2.2.2.1 s.2.2.2.2.1 s.2.2.2.2.2.1 s.2.2.2.2.2.2.1 s.2.2.2.2.2.2.2.1 s.2.2.2.2.2.2.2.2.1 s.2.2.2.2.2.2.2.2.2.1 s.2.2.2.2.2.2.2.2.2.2.1 s.2.2.2.2.2.2.2.2.2.2.2.1 s.2.2.2.2.2.2.2.2.2.2.2.2.1 s.2.2.2.2.2.2.2.2.2.2.2.2.2.1 s.2.2.2.2.2.2.2.2.2.2.2.2.2.2.1 s.2.2.2.2.2.2.2.2.2.2.2.2.2.2.2) (fun i s => (i = 0 ∨ 1 ≤ s.1) ∧ s.1 ≤ 16 * i ∧ ca_Q lv N R s.2) (min (R.2.1 + 1 - R.1) (16 - ar)) 0 (0, u) (by omega) ⟨Or.inl rfl, by dsimp only; omega, h⟩ ?_ ?_
  · intro n s hs
    obtain ⟨m', f0, f1, f2, f3, a1, a2, a3, a4, a5, a6, a7, a8, a9, a10, a11⟩ := s
    obtain ⟨s1, s2, s3⟩ := hs
    have X := H m' _ (by dsimp only at s1; omega) (by dsimp only at s2; omega) s3
    obtain ⟨M, A, hP, hN⟩ := s3
    obtain ⟨rfl, rfl, rfl, rfl⟩ := ca_P_f hP
    refine pk_lt R.2.1 (R.1 + min (R.2.1 + 1 - R.1) (16 - ar)) (fun _ => X) (fun z => ?_)
    refine pk_le 16 (ar + min (R.2.1 + 1 - R.1) (16 - ar)) (fun _ => X) (fun z' => absurd z' (by omega)) rfl ca_off
  · intro n i s hi hs hw
    obtain ⟨m', f0, f1, f2, f3, a1, a2, a3, a4, a5, a6, a7, a8, a9, a10, a11⟩ := s
    obtain ⟨s1, s2, s3⟩ := hs
    dsimp only at s1 s2 s3
    have s3' := s3
    obtain ⟨M, A, hP, hN⟩ := s3
    obtain ⟨rfl, rfl, rfl, rfl⟩ := ca_P_f hP
    refine pk_lt R.2.1 (R.1 + i) (fun z => absurd z (by omega)) (fun z => ?_)
    refine pk_le 16 (ar + i) (fun z => absurd z (by omega)) (fun _ => ?_) rfl ca_off
    exact ca_cpy148 s3' h4 hR' hac (by omega) (by omega) s2 (fun m'' u' b1 b2 hu' => hw (m'', u') ⟨Or.inr b1, b2, hu'⟩)
theorem ca_copy {post : Int32 → St1 → Prop} {lv : Nat → Bool} {M : Nat → Nat → Int32} {R0 : Nat × Nat × Nat × Nat} {A : Nat → Int32} {u : St1} {F T P : Nat} (h : ca_P lv M R0 A u) (h4 : lv 4 = true) (hF : F < 256) (hT : T < 256) (hP : P < 256)
    (H : ∀ (m : Nat) (u' : St1), 1 ≤ m → m ≤ 256 → ca_Q lv M (ca_reg F T) u' → post (nI m) u') : wpX_copy post u (nI F) (nI T) (nI P) := by
  obtain ⟨f0, f1, f2, f3, a1, a2, a3, a4, a5, a6, a7, a8, a9, a10, a11⟩ := u
  unfold wpX_copy
  dsimp only
  refine ca_bad hF (br_t rfl (ca_bad hT (br_t rfl (ca_bad hP (br_t rfl (ca_setRegion h hF hT (fun u' hu' => ?_)))))))
  have hR := ca_rb_reg hF hT
  clear h
  revert hu' hR H
  generalize ca_reg F T = R
  intro H hu' hR
  obtain ⟨f0, f1, f2, f3, a1, a2, a3, a4, a5, a6, a7, a8, a9, a10, a11⟩ := u'
  have hf := ca_P_f hu'
  dsimp only
  rw [ca_lo hP, ca_hi hP]
  refine nm_e (nm_e (ca_cpy56 hu' h4 hR (fun A' => ?_)))
  have hA := ca_P_A (A' := A') hu'
  rw [hf.1, hf.2.1, hf.2.2.1, hf.2.2.2] at hA ⊢
  exact ca_cpy123 (u := (nI R.1, nI R.2.1, nI R.2.2.1, nI R.2.2.2, a1, a2, a3, a4, a5, a6, a7, a8, a9, a10, A')) ⟨M, A', hA, fun _ _ _ => rfl⟩ h4 hR (by omega) (by omega) H
end
section
/-! keep, drop, differ, restore -/
def ca_lu (lv : Nat → Bool) (v : Nat) (b : Bool) : Nat → Bool := fun a => if a = v then b else lv a
theorem ca_lu_s {lv : Nat → Bool} {v : Nat} {b : Bool} : ca_lu lv v b v = b := if_pos rfl
theorem ca_lu_n {lv : Nat → Bool} {v a : Nat} {b : Bool} (h : a ≠ v) : ca_lu lv v b a = lv a := if_neg h
theorem ca_lu_a1 {lv : Nat → Bool} {v : Nat} {b : Bool} {x : Int32} {a1 : Nat → Int32} (h : ∀ a, a < 5 → (a1 a = 0 ↔ lv a = false)) (hx : x = 0 ↔ b = false) : ∀ a, a < 5 → (upd a1 v x a = 0 ↔ ca_lu lv v b a = false) := by
  intro a ha
  by_cases e : a = v
  · rw [e, pk_us, ca_lu_s]
    exact hx
  · rw [pk_un e, ca_lu_n e]
    exact h a ha
theorem ca_keep1 {post : Int32 → St1 → Prop} {lv : Nat → Bool} {M : Nat → Nat → Int32} {R : Nat × Nat × Nat × Nat} {A : Nat → Int32} {u : St1} {v : Nat} (h : ca_P lv M R A u) (h4 : lv 4 = true) (hv : v < 2) (hlv : lv v = false)
    (H : ∀ u' : St1, ca_P (ca_lu lv v true) (fun q w => if q / 16 = v then M (64 + q % 16) w else M q w) R A u' → post 0 u') : wpX_keep post u (nI v) := by
  obtain ⟨g, a1, a2, a3, a4, a5, a6, a7, a8, a9, a10, rfl, hG, hl, h1⟩ := h
  obtain ⟨hA, hH, hD, hS, hV⟩ := hG
  have gp : ∀ k, k < 16 → g (64 + k) < 80 := fun k hk => (hl _ (by omega)).mpr (by rw [show (64 + k) / 16 = 4 by omega]; exact h4)
  have gd : ∀ k, k < 16 → 80 ≤ g (v * 16 + k) := by
    intro k hk
    rcases Nat.lt_or_ge (g (v * 16 + k)) 80 with z | z
    · have y := (hl _ (by omega)).mp z
      rw [show (v * 16 + k) / 16 = v by omega, hlv] at y
      exact absurd y (by decide)
    · exact z
  unfold wpX_keep
  dsimp only
  rw [nI_clamp (show v < 2 ^ 31 by omega)]
  have iv : vp_in (nI v) 5 := vp_in_nI (by omega) (by omega)
  refine br_f (nI_pos (by omega)) (br_t (nI_le (b := 3) (by omega) (by decide)) ⟨iv, br_t ((h1 v (by omega)).mpr hlv) ⟨iv, nm_e ?_⟩⟩)
  refine pk_loop (σ := (Nat → Int32) × (Nat → Int32)) (fun n i s => wX_keep_33 post (nI v) (nI R.1) (nI R.2.1) (nI R.2.2.1) (nI R.2.2.2) n (nI i) (upd a1 v 1) s.1 s.2 a4 a5 a6 a7 a8 a9 a10 A)
    (fun i s => ∃ g' : Nat → Nat, ca_A g' s.1 ∧ ca_H g' s.2 ∧ ∀ q, g' q = if v * 16 ≤ q ∧ q < v * 16 + i then g (64 + (q - v * 16)) else g q) 16 0 (a2, a3) (by omega) ⟨g, hA, hH, fun q => (if_neg (by omega)).symm⟩ ?_ ?_
  · intro n s hs
    obtain ⟨s2, s3⟩ := s
    obtain ⟨g', hA', hH', hg'⟩ := hs
    refine pk_le 16 16 (fun _ => H _ ⟨g', _, _, _, _, _, _, _, _, _, _, rfl, ⟨hA', hH', ?_, hS, ?_⟩, ?_, ca_lu_a1 h1 (by decide)⟩) (fun z => absurd z (by omega))
    · intro q b1 b2
      rw [hg', if_neg (by omega)]
      exact hD q b1 b2
    · intro q hq hgq w hw
      rw [hg'] at hgq ⊢
      dsimp only
      by_cases e : q / 16 = v
      · rw [if_pos (by omega)] at hgq ⊢
        rw [if_pos e, show q % 16 = q - v * 16 by omega]
        exact hV _ (by omega) hgq w hw
      · rw [if_neg (by omega)] at hgq ⊢
        rw [if_neg e]
        exact hV _ hq hgq w hw
    · intro q hq
      rw [hg']
      by_cases e : q / 16 = v
      · rw [if_pos (by omega), e, ca_lu_s]
        exact ⟨fun _ => rfl, fun _ => gp _ (by omega)⟩
      · rw [if_neg (by omega), ca_lu_n e]
        exact hl q hq
  · intro n i s hi hs hw
    obtain ⟨s2, s3⟩ := s
    obtain ⟨g', hA', hH', hg'⟩ := hs
    dsimp only at hA' hH'
    have e64 : g' (64 + i) = g (64 + i) := by rw [hg', if_neg (by omega)]
    have ev : g' (v * 16 + i) = g (v * 16 + i) := by rw [hg', if_neg (by omega)]
    have gi := gp i hi
    refine pk_le 16 i (fun z => absurd z (by omega)) (fun _ => ?_)
    dsimp only
    rw [ca_64, ca_q, nI_clamp (show 64 + i < 2 ^ 31 by omega), nI_clamp (show v * 16 + i < 2 ^ 31 by omega), hA' (64 + i) (by omega) (by omega), e64]
    have ig : vp_in (nI (g (64 + i))) 80 := vp_in_nI gi (by omega)
    refine ⟨vp_in_nI (by omega) (by omega), nm_e ⟨vp_in_nI (by omega) (by omega), nm_e ⟨ig, ig, nm_e (nm_r (nI_1 i) ?_)⟩⟩⟩
    rw [nI_clamp (show g (64 + i) < 2 ^ 31 by omega)]
    refine hw (_, _) ⟨ca_up g' (v * 16 + i) (g (64 + i)), ca_A_set hA', ca_H_inc hH' (by omega) (by rw [ev]; exact gd i hi) gi, fun q => ?_⟩
    by_cases e : q = v * 16 + i
    · rw [e, ca_up_s, if_pos (by omega), show v * 16 + i - v * 16 = i by omega]
    · rw [ca_up_n e, hg']
      by_cases e2 : v * 16 ≤ q ∧ q < v * 16 + i
      · rw [if_pos e2, if_pos (by omega)]
      · rw [if_neg e2, if_neg (by omega)]
theorem ca_keep0 {post : Int32 → St1 → Prop} {lv : Nat → Bool} {M : Nat → Nat → Int32} {R : Nat × Nat × Nat × Nat} {A : Nat → Int32} {u : St1} {v : Nat} (h : ca_P lv M R A u) (hv : v < 2) (hlv : lv v = true)
    (H : post (-3) u) : wpX_keep post u (nI v) := by
  obtain ⟨g, a1, a2, a3, a4, a5, a6, a7, a8, a9, a10, rfl, hG, hl, h1⟩ := h
  unfold wpX_keep
  dsimp only
  rw [nI_clamp (show v < 2 ^ 31 by omega)]
  have iv : vp_in (nI v) 5 := vp_in_nI (by omega) (by omega)
  refine br_f (nI_pos (by omega)) (br_t (nI_le (b := 3) (by omega) (by decide)) ⟨iv, br_f (fun z => ?_) H⟩)
  have y := (h1 v (by omega)).mp z
  rw [hlv] at y
  exact absurd y (by decide)
theorem ca_drop0 {post : Int32 → St1 → Prop} {lv : Nat → Bool} {M : Nat → Nat → Int32} {R : Nat × Nat × Nat × Nat} {A : Nat → Int32} {u : St1} {v : Nat} (h : ca_P lv M R A u) (hv : v < 2) (hlv : lv v = false)
    (H : post (-2) u) : wpX_drop post u (nI v) := by
  obtain ⟨f0, f1, f2, f3, a1, a2, a3, a4, a5, a6, a7, a8, a9, a10, a11⟩ := u
  unfold wpX_drop
  dsimp only
  exact ca_noVersion h (by omega) (fun _ => br_f (by decide) H) (fun z => by rw [hlv] at z; exact absurd z (by decide))
theorem ca_drop1 {post : Int32 → St1 → Prop} {lv : Nat → Bool} {M : Nat → Nat → Int32} {R : Nat × Nat × Nat × Nat} {A : Nat → Int32} {u : St1} {v : Nat} (h : ca_P lv M R A u) (hv : v < 2) (hlv : lv v = true)
    (H : ∀ u' : St1, ca_P (ca_lu lv v false) M R A u' → post 0 u') : wpX_drop post u (nI v) := by
  have h' := h
  obtain ⟨g, a1, a2, a3, a4, a5, a6, a7, a8, a9, a10, rfl, hG, hl, h1⟩ := h
  obtain ⟨hA, hH, hD, hS, hV⟩ := hG
  have gv : ∀ k, k < 16 → g (v * 16 + k) < 80 := fun k hk => (hl _ (by omega)).mpr (by rw [show (v * 16 + k) / 16 = v by omega]; exact hlv)
  unfold wpX_drop
  dsimp only
  rw [nI_clamp (show v < 2 ^ 31 by omega)]
  have iv : vp_in (nI v) 5 := vp_in_nI (by omega) (by omega)
  refine ca_noVersion h' (by omega) (fun z => by rw [hlv] at z; exact absurd z (by decide)) (fun _ => br_t rfl ⟨iv, nm_e ?_⟩)
  refine pk_loop (σ := Nat → Int32) (fun n i s => wX_drop_20 post (nI v) (nI R.1) (nI R.2.1) (nI R.2.2.1) (nI R.2.2.2) n (nI i) (upd a1 v 0) a2 s a4 a5 a6 a7 a8 a9 a10 A)
    (fun i s => ∃ g' : Nat → Nat, ca_A g' a2 ∧ ca_H g' s ∧ ∀ q, g' q = if v * 16 ≤ q ∧ q < v * 16 + i then 80 else g q) 16 0 a3 (by omega) ⟨g, hA, hH, fun q => (if_neg (by omega)).symm⟩ ?_ ?_
  · intro n s hs
    obtain ⟨g', hA', hH', hg'⟩ := hs
    refine pk_le 16 16 (fun _ => H _ ⟨g', _, _, _, _, _, _, _, _, _, _, rfl, ⟨hA', hH', ?_, hS, ?_⟩, ?_, ca_lu_a1 h1 (by decide)⟩) (fun z => absurd z (by omega))
    · intro q b1 b2
      rw [hg', if_neg (by omega)]
      exact hD q b1 b2
    · intro q hq hgq w hw
      rw [hg'] at hgq ⊢
      by_cases e : q / 16 = v
      · rw [if_pos (by omega)] at hgq
        omega
      · rw [if_neg (by omega)] at hgq ⊢
        exact hV _ hq hgq w hw
    · intro q hq
      rw [hg']
      by_cases e : q / 16 = v
      · rw [if_pos (by omega), e, ca_lu_s]
        exact ⟨fun z => absurd z (by omega), fun z => absurd z (by decide)⟩
      · rw [if_neg (by omega), ca_lu_n e]
        exact hl q hq
  · intro n i s hi hs hw
    obtain ⟨g', hA', hH', hg'⟩ := hs
    have ev : g' (v * 16 + i) = g (v * 16 + i) := by rw [hg', if_neg (by omega)]
    have gi := gv i hi
    refine pk_le 16 i (fun z => absurd z (by omega)) (fun _ => ?_)
    rw [ca_q, nI_clamp (show v * 16 + i < 2 ^ 31 by omega), hA (v * 16 + i) (by omega) gi, nI_clamp (show g (v * 16 + i) < 2 ^ 31 by omega)]
    have ig : vp_in (nI (g (v * 16 + i))) 80 := vp_in_nI gi (by omega)
    have X := ca_H_dec (q := v * 16 + i) hH' (by omega) (by omega)
    rw [ev] at X
    refine ⟨vp_in_nI (by omega) (by omega), ig, ig, nm_e (nm_r (nI_1 i) (hw _ ⟨ca_up g' (v * 16 + i) 80, ca_A_dead hA', X, fun q => ?_⟩))⟩
    by_cases e : q = v * 16 + i
    · rw [e, ca_up_s, if_pos (by omega)]
    · rw [ca_up_n e, hg']
      by_cases e2 : v * 16 ≤ q ∧ q < v * 16 + i
      · rw [if_pos e2, if_pos (by omega)]
      · rw [if_neg e2, if_neg (by omega)]
def ca_df (M : Nat → Nat → Int32) (v k i : Nat) : Int32 := if M (v * 16 + k) i = M (64 + k) i then 0 else 1
def ca_dk (M : Nat → Nat → Int32) (v k : Nat) : Int32 := ca_sum (ca_df M v k) 16
def ca_dif (M : Nat → Nat → Int32) (v : Nat) : Int32 := ca_sum (ca_dk M v) 16
theorem ca_dif_0 {M : Nat → Nat → Int32} {v : Nat} (h : ∀ k w, k < 16 → w < 16 → M (v * 16 + k) w = M (64 + k) w) : ca_dif M v = 0 :=
  ca_sum_zero 16 (fun k hk => ca_sum_zero 16 (fun w hw => if_pos (h k w hk hw)))
theorem ca_differAt {post : Int32 → Prop} {lv : Nat → Bool} {M : Nat → Nat → Int32} {R : Nat × Nat × Nat × Nat} {A : Nat → Int32} {u : St1} {v k : Nat} (h : ca_P lv M R A u) (h4 : lv 4 = true) (hv : v < 2) (hlv : lv v = true) (hk : k < 16)
    (H : post (ca_dk M v k)) : wpX_differAt post u (nI v) (nI k) := by
  have h' := h
  obtain ⟨g, a1, a2, a3, a4, a5, a6, a7, a8, a9, a10, rfl, hG, hl, h1⟩ := h
  obtain ⟨hA, hH, hD, hS, hV⟩ := hG
  have gp : g (64 + k) < 80 := (hl _ (by omega)).mpr (by rw [show (64 + k) / 16 = 4 by omega]; exact h4)
  have gv : g (v * 16 + k) < 80 := (hl _ (by omega)).mpr (by rw [show (v * 16 + k) / 16 = v by omega]; exact hlv)
  unfold wpX_differAt
  dsimp only
  rw [ca_q, ca_64, nI_clamp (show v * 16 + k < 2 ^ 31 by omega), nI_clamp (show 64 + k < 2 ^ 31 by omega), hA _ (by omega) gp, hA _ (by omega) gv]
  refine ⟨vp_in_nI (by omega) (by omega), vp_in_nI (by omega) (by omega), pk_eq (g (v * 16 + k)) (g (64 + k)) (fun e => ?_) (fun _ => ?_)⟩
  · have e0 : ca_dk M v k = 0 := ca_sum_zero 16 (fun w hw => if_pos (by rw [← hV _ (by omega) gv w hw, ← hV _ (by omega) gp w hw, e]))
    rw [e0] at H
    exact H
  · refine pk_loop (σ := Unit) (fun n i _ => wX_differAt_30 post (nI v) (nI k) (nI R.1) (nI R.2.1) (nI R.2.2.1) (nI R.2.2.2) a1 a2 a3 a4 a5 a6 a7 a8 a9 a10 A n (ca_sum (ca_df M v k) i) (nI i)) (fun _ _ => True) 16 0 () (by omega) trivial ?_ ?_
    · intro n _ _
      exact pk_le 16 16 (fun _ => H) (fun z => absurd z (by omega))
    · intro n i _ hi _ hw
      have er : ca_pl (ca_ro k i) (ca_co k i) = k := ca_pl_rc hk hi
      have ew : ca_wi (ca_ro k i) (ca_co k i) = i := ca_wi_rc hk hi
      have X : wX_differAt_30 post (nI v) (nI k) (nI R.1) (nI R.2.1) (nI R.2.2.1) (nI R.2.2.2) a1 a2 a3 a4 a5 a6 a7 a8 a9 a10 A n (ca_sum (ca_df M v k) i + ca_df M v k i) (nI (i + 1)) := hw () trivial
      refine pk_le 16 i (fun z => absurd z (by omega)) (fun _ => ⟨ca_n4, ca_n4, nm_r (ca_roI hk hi) ⟨ca_n4, ca_n4, nm_r (ca_coI hk hi) (ca_readP h' (by omega) hlv (ca_ro_lt hk hi) ca_co_lt (ca_readP (a := 4) h' (by omega) h4 (ca_ro_lt hk hi) ca_co_lt ?_))⟩⟩)
      rw [er, ew]
      refine br_c (fun z => nm_r (nI_1 i) ?_) (fun z => nm_e (nm_r (nI_1 i) ?_))
      · have e : ca_df M v k i = 0 := if_pos z
        rw [e, show ca_sum (ca_df M v k) i + 0 = ca_sum (ca_df M v k) i by grind] at X
        exact X
      · have e : ca_df M v k i = 1 := if_neg z
        rw [e] at X
        exact X
theorem ca_differences {post : Int32 → Prop} {lv : Nat → Bool} {M : Nat → Nat → Int32} {R : Nat × Nat × Nat × Nat} {A : Nat → Int32} {u : St1} {v : Nat} (h : ca_P lv M R A u) (h4 : lv 4 = true) (hv : v < 2) (hlv : lv v = true)
    (H : post (ca_dif M v)) : wpX_differences post u (nI v) := by
  obtain ⟨f0, f1, f2, f3, a1, a2, a3, a4, a5, a6, a7, a8, a9, a10, a11⟩ := u
  unfold wpX_differences
  dsimp only
  refine pk_loop (σ := Unit) (fun n i _ => wX_differences_4 post (nI v) f0 f1 f2 f3 a1 a2 a3 a4 a5 a6 a7 a8 a9 a10 a11 n (ca_sum (ca_dk M v) i) (nI i)) (fun _ _ => True) 16 0 () (by omega) trivial ?_ ?_
  · intro n _ _
    exact pk_le 16 16 (fun _ => H) (fun z => absurd z (by omega))
  · intro n i _ hi _ hw
    exact pk_le 16 i (fun z => absurd z (by omega)) (fun _ => ca_differAt h h4 hv hlv hi (nm_e (nm_r (nI_1 i) (hw () trivial))))
theorem ca_differ1 {post : Int32 → Prop} {lv : Nat → Bool} {M : Nat → Nat → Int32} {R : Nat × Nat × Nat × Nat} {A : Nat → Int32} {u : St1} {v : Nat} (h : ca_P lv M R A u) (h4 : lv 4 = true) (hv : v < 2) (hlv : lv v = true)
    (H : post (ca_dif M v)) : wpX_differ post u (nI v) := by
  obtain ⟨f0, f1, f2, f3, a1, a2, a3, a4, a5, a6, a7, a8, a9, a10, a11⟩ := u
  unfold wpX_differ
  dsimp only
  exact ca_noVersion h (by omega) (fun z => by rw [hlv] at z; exact absurd z (by decide)) (fun _ => br_t rfl (ca_differences h h4 hv hlv H))
theorem ca_differ0 {post : Int32 → Prop} {lv : Nat → Bool} {M : Nat → Nat → Int32} {R : Nat × Nat × Nat × Nat} {A : Nat → Int32} {u : St1} {v : Nat} (h : ca_P lv M R A u) (hv : v < 2) (hlv : lv v = false)
    (H : post (-2)) : wpX_differ post u (nI v) := by
  obtain ⟨f0, f1, f2, f3, a1, a2, a3, a4, a5, a6, a7, a8, a9, a10, a11⟩ := u
  unfold wpX_differ
  dsimp only
  exact ca_noVersion h (by omega) (fun _ => br_f (by decide) H) (fun z => by rw [hlv] at z; exact absurd z (by decide))
theorem ca_restore0 {post : Int32 → St1 → Prop} {lv : Nat → Bool} {M : Nat → Nat → Int32} {R : Nat × Nat × Nat × Nat} {A : Nat → Int32} {u : St1} {v : Nat} (h : ca_P lv M R A u) (hv : v < 2) (hlv : lv v = false)
    (H : post (-2) u) : wpX_restore post u (nI v) := by
  obtain ⟨f0, f1, f2, f3, a1, a2, a3, a4, a5, a6, a7, a8, a9, a10, a11⟩ := u
  unfold wpX_restore
  dsimp only
  exact ca_noVersion h (by omega) (fun _ => br_f (by decide) H) (fun z => by rw [hlv] at z; exact absurd z (by decide))
theorem ca_restore1 {post : Int32 → St1 → Prop} {lv : Nat → Bool} {M : Nat → Nat → Int32} {R : Nat × Nat × Nat × Nat} {A : Nat → Int32} {u : St1} {v : Nat} (h : ca_P lv M R A u) (h4 : lv 4 = true) (hv : v < 2) (hlv : lv v = true)
    (H : ∀ u' : St1, ca_P lv (fun q w => if q / 16 = 4 then M (v * 16 + q % 16) w else M q w) R A u' → post (ca_dif M v) u') : wpX_restore post u (nI v) := by
  have h' := h
  obtain ⟨g, a1, a2, a3, a4, a5, a6, a7, a8, a9, a10, rfl, hG, hl, h1⟩ := h
  obtain ⟨hA, hH, hD, hS, hV⟩ := hG
  have gp : ∀ k, k < 16 → g (64 + k) < 80 := fun k hk => (hl _ (by omega)).mpr (by rw [show (64 + k) / 16 = 4 by omega]; exact h4)
  have gv : ∀ k, k < 16 → g (v * 16 + k) < 80 := fun k hk => (hl _ (by omega)).mpr (by rw [show (v * 16 + k) / 16 = v by omega]; exact hlv)
  unfold wpX_restore
  dsimp only
  refine ca_noVersion h' (by omega) (fun z => by rw [hlv] at z; exact absurd z (by decide)) (fun _ => br_t rfl (ca_differences h' h4 hv hlv ?_))
  refine pk_loop (σ := (Nat → Int32) × (Nat → Int32)) (fun n i s => wX_restore_19 post (nI v) (ca_dif M v) (nI R.1) (nI R.2.1) (nI R.2.2.1) (nI R.2.2.2) n (nI i) a1 s.1 s.2 a4 a5 a6 a7 a8 a9 a10 A)
    (fun i s => ∃ g' : Nat → Nat, ca_A g' s.1 ∧ ca_H g' s.2 ∧ ∀ q, g' q = if 64 ≤ q ∧ q < 64 + i then g (v * 16 + (q - 64)) else g q) 16 0 (a2, a3) (by omega) ⟨g, hA, hH, fun q => (if_neg (by omega)).symm⟩ ?_ ?_
  · intro n s hs
    obtain ⟨s2, s3⟩ := s
    obtain ⟨g', hA', hH', hg'⟩ := hs
    refine pk_le 16 16 (fun _ => H _ ⟨g', _, _, _, _, _, _, _, _, _, _, rfl, ⟨hA', hH', ?_, hS, ?_⟩, ?_, h1⟩) (fun z => absurd z (by omega))
    · intro q b1 b2
      rw [hg', if_neg (by omega)]
      exact hD q b1 b2
    · intro q hq hgq w hw
      rw [hg'] at hgq ⊢
      dsimp only
      by_cases e : q / 16 = 4
      · rw [if_pos (by omega)] at hgq ⊢
        rw [if_pos e, show q % 16 = q - 64 by omega]
        exact hV _ (by omega) hgq w hw
      · rw [if_neg (by omega)] at hgq ⊢
        rw [if_neg e]
        exact hV _ hq hgq w hw
    · intro q hq
      rw [hg']
      by_cases e : q / 16 = 4
      · rw [if_pos (by omega), e]
        exact ⟨fun _ => h4, fun _ => gv _ (by omega)⟩
      · rw [if_neg (by omega)]
        exact hl q hq
  · intro n i s hi hs hw
    obtain ⟨s2, s3⟩ := s
    obtain ⟨g', hA', hH', hg'⟩ := hs
    dsimp only at hA' hH'
    have e64 : g' (64 + i) = g (64 + i) := by rw [hg', if_neg (by omega)]
    have ev : g' (v * 16 + i) = g (v * 16 + i) := by rw [hg', if_neg (by omega)]
    have gi := gp i hi
    have gj := gv i hi
    refine pk_le 16 i (fun z => absurd z (by omega)) (fun _ => ?_)
    dsimp only
    rw [ca_64, ca_q, nI_clamp (show 64 + i < 2 ^ 31 by omega), nI_clamp (show v * 16 + i < 2 ^ 31 by omega), hA' (64 + i) (by omega) (by omega), hA' (v * 16 + i) (by omega) (by omega), e64, ev]
    have ig : vp_in (nI (g (64 + i))) 80 := vp_in_nI gi (by omega)
    have ij : vp_in (nI (g (v * 16 + i))) 80 := vp_in_nI gj (by omega)
    have i64 : vp_in (nI (64 + i)) 80 := vp_in_nI (by omega) (by omega)
    rw [nI_clamp (show g (64 + i) < 2 ^ 31 by omega)]
    refine ⟨vp_in_nI (by omega) (by omega), nm_e ⟨i64, ig, ig, nm_e ⟨ij, ij, nm_e ⟨i64, nm_e (nm_r (nI_1 i) ?_)⟩⟩⟩⟩
    rw [nI_clamp (show g (v * 16 + i) < 2 ^ 31 by omega)]
    have X := ca_H_move (q := 64 + i) (d := g (v * 16 + i)) hH' (by omega) (by omega) gj
    rw [e64] at X
    refine hw (_, _) ⟨ca_up g' (64 + i) (g (v * 16 + i)), ca_A_set hA', X, fun q => ?_⟩
    by_cases e : q = 64 + i
    · rw [e, ca_up_s, if_pos (by omega), show 64 + i - 64 = i by omega]
    · rw [ca_up_n e, hg']
      by_cases e2 : 64 ≤ q ∧ q < 64 + i
      · rw [if_pos e2, if_pos (by omega)]
      · rw [if_neg e2, if_neg (by omega)]
end
section
/-! the law's turn -/
def ca_ex (b0 b1 : Bool) : Int32 := nI (b0.toNat + 2 * b1.toNat)
def ca_lv (b0 b1 : Bool) : Nat → Bool := fun a => if a = 4 then true else if a = 0 then b0 else if a = 1 then b1 else false
theorem ca_lv4 {b0 b1 : Bool} : ca_lv b0 b1 4 = true := rfl
theorem ca_lu0 {b0 b1 b : Bool} : ca_lu (ca_lv b0 b1) 0 b = ca_lv b b1 := by
  funext a
  unfold ca_lu ca_lv
  by_cases e : a = 0
  · rw [if_pos e, if_neg (by omega), if_pos e]
  · rw [if_neg e, if_neg e, if_neg e]
theorem ca_lu1 {b0 b1 b : Bool} : ca_lu (ca_lv b0 b1) 1 b = ca_lv b0 b := by
  funext a
  unfold ca_lu ca_lv
  by_cases e : a = 1
  · rw [if_pos e, if_neg (by omega), if_neg (by omega), if_pos e]
  · rw [if_neg e, if_neg e, if_neg e]
theorem ca_ex_1 {b0 b1 : Bool} : (ca_ex b0 b1 &&& 1) = 0 ↔ b0 = false := by
  cases b0 <;> cases b1 <;> decide
theorem ca_ex_2 {b0 b1 : Bool} : (ca_ex b0 b1 &&& 2) = 0 ↔ b1 = false := by
  cases b0 <;> cases b1 <;> decide
theorem ca_ex_b {b0 b1 : Bool} {v : Nat} (hv : v < 2) : ((ca_ex b0 b1 >>> (nI v &&& 31)) &&& 1) = 0 ↔ ca_lv b0 b1 v = false := by
  rcases (show v = 0 ∨ v = 1 by omega) with rfl | rfl <;> cases b0 <;> cases b1 <;> decide
theorem ca_ex_or0 {b0 b1 : Bool} : ca_ex b0 b1 ||| ((1 : Int32) <<< (nI 0 &&& 31)) = ca_ex true b1 := by
  cases b0 <;> cases b1 <;> decide
theorem ca_ex_or1 {b0 b1 : Bool} : ca_ex b0 b1 ||| ((1 : Int32) <<< (nI 1 &&& 31)) = ca_ex b0 true := by
  cases b0 <;> cases b1 <;> decide
theorem ca_ex_and0 {b0 b1 : Bool} : ca_ex b0 b1 &&& (((1 : Int32) <<< (nI 0 &&& 31)) ^^^ (-1)) = ca_ex false b1 := by
  cases b0 <;> cases b1 <;> decide
theorem ca_ex_and1 {b0 b1 : Bool} : ca_ex b0 b1 &&& (((1 : Int32) <<< (nI 1 &&& 31)) ^^^ (-1)) = ca_ex b0 false := by
  cases b0 <;> cases b1 <;> decide
/-- the law's invariant -/
def ca_L (b0 b1 : Bool) (x2 x3 : Int32) (u : St1) : Prop := ∃ (M : Nat → Nat → Int32) (R : Nat × Nat × Nat × Nat) (A : Nat → Int32), ca_P (ca_lv b0 b1) M R A u ∧ (b0 = true → x2 = ca_hsh M 0 256) ∧ (b1 = true → x3 = ca_hsh M 1 256)
theorem ca_L_of {b0 b1 : Bool} {x2 x3 : Int32} {u : St1} {M M' : Nat → Nat → Int32} {R : Nat × Nat × Nat × Nat} {A : Nat → Int32} (h : ca_P (ca_lv b0 b1) M' R A u) (hM : ∀ q, q < 64 → ∀ w, M' q w = M q w) (h0 : b0 = true → x2 = ca_hsh M 0 256) (h1 : b1 = true → x3 = ca_hsh M 1 256) : ca_L b0 b1 x2 x3 u := by
  refine ⟨M', R, A, h, fun z => ?_, fun z => ?_⟩
  · rw [h0 z]
    exact ca_hsh_congr (fun p w hp hw => (hM _ (by omega) w).symm) 256 (by omega)
  · rw [h1 z]
    exact ca_hsh_congr (fun p w hp hw => (hM _ (by omega) w).symm) 256 (by omega)
theorem ca_cg_lo {R : Nat × Nat × Nat × Nat} {what x : Int32} {M : Nat → Nat → Int32} {k q w : Nat} (hq : q < 64) : ca_cg R what x M k q w = M q w := if_neg (by omega)
theorem ca_sz_b {R : Nat × Nat × Nat × Nat} (h : ca_rb R) : 1 ≤ ca_sz R ∧ ca_sz R ≤ 256 := by
  obtain ⟨h0, h1, h2, h3⟩ := h
  unfold ca_sz
  have e : (R.2.1 - R.1 + 1) * (R.2.2.2 - R.2.2.1 + 1) ≤ 16 * 16 := Nat.mul_le_mul (by omega) (by omega)
  have f : 1 * 1 ≤ (R.2.1 - R.1 + 1) * (R.2.2.2 - R.2.2.1 + 1) := Nat.mul_le_mul (by omega) (by omega)
  omega
theorem ca_fill {post : Int32 → St1 → Prop} {lv : Nat → Bool} {M : Nat → Nat → Int32} {R0 : Nat × Nat × Nat × Nat} {A : Nat → Int32} {u : St1} {F T : Nat} {x : Int32} (h : ca_P lv M R0 A u) (h4 : lv 4 = true) (hF : F < 256) (hT : T < 256)
    (H : ∀ u' : St1, ca_P lv (ca_cg (ca_reg F T) 0 x M 16) (ca_reg F T) A u' → post (nI (ca_sz (ca_reg F T))) u') : wpX_fill post u (nI F) (nI T) x := by
  obtain ⟨f0, f1, f2, f3, a1, a2, a3, a4, a5, a6, a7, a8, a9, a10, a11⟩ := u
  unfold wpX_fill
  dsimp only
  exact ca_change h h4 hF hT (fun u' hu' => H u' hu')
theorem ca_add {post : Int32 → St1 → Prop} {lv : Nat → Bool} {M : Nat → Nat → Int32} {R0 : Nat × Nat × Nat × Nat} {A : Nat → Int32} {u : St1} {F T : Nat} {x : Int32} (h : ca_P lv M R0 A u) (h4 : lv 4 = true) (hF : F < 256) (hT : T < 256)
    (H : ∀ u' : St1, ca_P lv (ca_cg (ca_reg F T) 1 x M 16) (ca_reg F T) A u' → post (nI (ca_sz (ca_reg F T))) u') : wpX_add post u (nI F) (nI T) x := by
  obtain ⟨f0, f1, f2, f3, a1, a2, a3, a4, a5, a6, a7, a8, a9, a10, a11⟩ := u
  unfold wpX_add
  dsimp only
  exact ca_change h h4 hF hT (fun u' hu' => H u' hu')
theorem ca_scale {post : Int32 → St1 → Prop} {lv : Nat → Bool} {M : Nat → Nat → Int32} {R0 : Nat × Nat × Nat × Nat} {A : Nat → Int32} {u : St1} {F T : Nat} {x : Int32} (h : ca_P lv M R0 A u) (h4 : lv 4 = true) (hF : F < 256) (hT : T < 256)
    (H : ∀ u' : St1, ca_P lv (ca_cg (ca_reg F T) 2 x M 16) (ca_reg F T) A u' → post (nI (ca_sz (ca_reg F T))) u') : wpX_scale post u (nI F) (nI T) x := by
  obtain ⟨f0, f1, f2, f3, a1, a2, a3, a4, a5, a6, a7, a8, a9, a10, a11⟩ := u
  unfold wpX_scale
  dsimp only
  exact ca_change h h4 hF hT (fun u' hu' => H u' hu')
section
variable {post : Int32 → Prop} {L : Nat} {xs : Nat → Int32} {J : Int32 → Int32 → Int32 → Int32 → Int32 → Int32 → Int32 → Int32 → (Nat → Int32) → (Nat → Int32) → (Nat → Int32) → (Nat → Int32) → (Nat → Int32) → (Nat → Int32) → (Nat → Int32) → (Nat → Int32) → (Nat → Int32) → (Nat → Int32) → (Nat → Int32) → Prop} {x2 x3 x5 x6 x9 z0 : Int32} {b0 b1 : Bool} {F T v kc ks : Nat} {u : St1}
theorem ca_l510 (h : ca_L b0 b1 x2 x3 u) (HJ : ∀ u' : St1, ca_L b0 b1 x2 x3 u' → J x2 x3 (ca_ex b0 b1) (x5 + 4) u'.1 u'.2.1 u'.2.2.1 u'.2.2.2.1 u'.2.2.2.2.1 u'.2.2.2.2.2.1 u'.2.2.2.2.2.2.1 u'.2.2.2.2.2.2.2.1 u'.2.2.2.2.2.2.2.2.1 u'.2.2.2.2.2.2.2.2.2.1 u'.2.2.2.2.2.2.2.2.2.2.1 u'.2.2.2.2.2.2.2.2.2.2.2.1 u'.2.2.2.2.2.2.2.2.2.2.2.2.1 u'.2.2.2.2.2.2.2.2.2.2.2.2.2.1 u'.2.2.2.2.2.2.2.2.2.2.2.2.2.2) : wL_law_510 post L xs J x2 x3 (ca_ex b0 b1) x5 kc ks u.1 u.2.1 u.2.2.1 u.2.2.2.1 u.2.2.2.2.1 u.2.2.2.2.2.1 u.2.2.2.2.2.2.1 u.2.2.2.2.2.2.2.1 u.2.2.2.2.2.2.2.2.1 u.2.2.2.2.2.2.2.2.2.1 u.2.2.2.2.2.2.2.2.2.2.1 u.2.2.2.2.2.2.2.2.2.2.2.1 u.2.2.2.2.2.2.2.2.2.2.2.2.1 u.2.2.2.2.2.2.2.2.2.2.2.2.2.1 u.2.2.2.2.2.2.2.2.2.2.2.2.2.2 := by
  have X := HJ u h
  obtain ⟨f0, f1, f2, f3, a1, a2, a3, a4, a5, a6, a7, a8, a9, a10, a11⟩ := u
  unfold wL_law_510
  refine br_c (fun z => nm_e X) (fun z => ?_)
  obtain ⟨M, R, A, hP, h0, h1⟩ := h
  have e1 : b1 = true := by
    cases b1
    · exact absurd (ca_ex_2.mpr rfl) z
    · rfl
  exact ca_allV (v := 1) hP (by omega) (by rw [e1]; rfl) (br_t (h1 e1).symm (nm_e X))
theorem ca_l466 (h : ca_L b0 b1 x2 x3 u) (hF : F < 256) (hT : T < 256) (HJ : ∀ u' : St1, ca_L b0 b1 x2 x3 u' → J x2 x3 (ca_ex b0 b1) (x5 + 4) u'.1 u'.2.1 u'.2.2.1 u'.2.2.2.1 u'.2.2.2.2.1 u'.2.2.2.2.2.1 u'.2.2.2.2.2.2.1 u'.2.2.2.2.2.2.2.1 u'.2.2.2.2.2.2.2.2.1 u'.2.2.2.2.2.2.2.2.2.1 u'.2.2.2.2.2.2.2.2.2.2.1 u'.2.2.2.2.2.2.2.2.2.2.2.1 u'.2.2.2.2.2.2.2.2.2.2.2.2.1 u'.2.2.2.2.2.2.2.2.2.2.2.2.2.1 u'.2.2.2.2.2.2.2.2.2.2.2.2.2.2) : wL_law_466 post L xs J x2 x3 (ca_ex b0 b1) x5 (nI F) (nI T) x9 kc ks u.1 u.2.1 u.2.2.1 u.2.2.2.1 u.2.2.2.2.1 u.2.2.2.2.2.1 u.2.2.2.2.2.2.1 u.2.2.2.2.2.2.2.1 u.2.2.2.2.2.2.2.2.1 u.2.2.2.2.2.2.2.2.2.1 u.2.2.2.2.2.2.2.2.2.2.1 u.2.2.2.2.2.2.2.2.2.2.2.1 u.2.2.2.2.2.2.2.2.2.2.2.2.1 u.2.2.2.2.2.2.2.2.2.2.2.2.2.1 u.2.2.2.2.2.2.2.2.2.2.2.2.2.2 := by
  obtain ⟨f0, f1, f2, f3, a1, a2, a3, a4, a5, a6, a7, a8, a9, a10, a11⟩ := u
  obtain ⟨M, R, A, hP, h0, h1⟩ := h
  have e484 : ∀ z : Int32, wL_law_484 post L xs J x2 x3 (ca_ex b0 b1) x5 z (nI T) (nI F) kc ks f0 f1 f2 f3 a1 a2 a3 a4 a5 a6 a7 a8 a9 a10 a11 := by
    intro z
    unfold wL_law_484
    refine ca_splits hP ca_lv4 hF hT (fun R' u' hu' => ?_)
    have h5 : wL_law_510 post L xs J x2 x3 (ca_ex b0 b1) x5 kc ks u'.1 u'.2.1 u'.2.2.1 u'.2.2.2.1 u'.2.2.2.2.1 u'.2.2.2.2.2.1 u'.2.2.2.2.2.2.1 u'.2.2.2.2.2.2.2.1 u'.2.2.2.2.2.2.2.2.1 u'.2.2.2.2.2.2.2.2.2.1 u'.2.2.2.2.2.2.2.2.2.2.1 u'.2.2.2.2.2.2.2.2.2.2.2.1 u'.2.2.2.2.2.2.2.2.2.2.2.2.1 u'.2.2.2.2.2.2.2.2.2.2.2.2.2.1 u'.2.2.2.2.2.2.2.2.2.2.2.2.2.2 := ca_l510 ⟨M, R', A, hu', h0, h1⟩ HJ
    obtain ⟨f0, f1, f2, f3, a1, a2, a3, a4, a5, a6, a7, a8, a9, a10, a11⟩ := u'
    refine br_f (by decide) (br_c (fun _ => h5) (fun z => ?_))
    have e0 : b0 = true := by
      cases b0
      · exact absurd (ca_ex_1.mpr rfl) z
      · rfl
    exact ca_allV (v := 0) hu' (by omega) (by rw [e0]; rfl) (br_t (h0 e0).symm h5)
  unfold wL_law_466
  exact br_c (fun _ => e484 0) (fun _ => e484 1)
theorem ca_l360 (h : ca_L b0 b1 x2 x3 u) (hF : F < 256) (hT : T < 256) (HJ : ∀ u' : St1, ca_L b0 b1 x2 x3 u' → J x2 x3 (ca_ex b0 b1) (x5 + 4) u'.1 u'.2.1 u'.2.2.1 u'.2.2.2.1 u'.2.2.2.2.1 u'.2.2.2.2.2.1 u'.2.2.2.2.2.2.1 u'.2.2.2.2.2.2.2.1 u'.2.2.2.2.2.2.2.2.1 u'.2.2.2.2.2.2.2.2.2.1 u'.2.2.2.2.2.2.2.2.2.2.1 u'.2.2.2.2.2.2.2.2.2.2.2.1 u'.2.2.2.2.2.2.2.2.2.2.2.2.1 u'.2.2.2.2.2.2.2.2.2.2.2.2.2.1 u'.2.2.2.2.2.2.2.2.2.2.2.2.2.2) : wL_law_360 post L xs J x2 x3 (ca_ex b0 b1) x5 x6 (nI F) (nI T) x9 kc ks u.1 u.2.1 u.2.2.1 u.2.2.2.1 u.2.2.2.2.1 u.2.2.2.2.2.1 u.2.2.2.2.2.2.1 u.2.2.2.2.2.2.2.1 u.2.2.2.2.2.2.2.2.1 u.2.2.2.2.2.2.2.2.2.1 u.2.2.2.2.2.2.2.2.2.2.1 u.2.2.2.2.2.2.2.2.2.2.2.1 u.2.2.2.2.2.2.2.2.2.2.2.2.1 u.2.2.2.2.2.2.2.2.2.2.2.2.2.1 u.2.2.2.2.2.2.2.2.2.2.2.2.2.2 := by
  have h466 : wL_law_466 post L xs J x2 x3 (ca_ex b0 b1) x5 (nI F) (nI T) x9 kc ks u.1 u.2.1 u.2.2.1 u.2.2.2.1 u.2.2.2.2.1 u.2.2.2.2.2.1 u.2.2.2.2.2.2.1 u.2.2.2.2.2.2.2.1 u.2.2.2.2.2.2.2.2.1 u.2.2.2.2.2.2.2.2.2.1 u.2.2.2.2.2.2.2.2.2.2.1 u.2.2.2.2.2.2.2.2.2.2.2.1 u.2.2.2.2.2.2.2.2.2.2.2.2.1 u.2.2.2.2.2.2.2.2.2.2.2.2.2.1 u.2.2.2.2.2.2.2.2.2.2.2.2.2.2 := ca_l466 h hF hT HJ
  obtain ⟨f0, f1, f2, f3, a1, a2, a3, a4, a5, a6, a7, a8, a9, a10, a11⟩ := u
  obtain ⟨M, R, A, hP, h0, h1⟩ := h
  unfold wL_law_360
  refine br_c (fun _ => ?_) (fun _ => br_c (fun _ => br_c (fun _ => ?_) (fun _ => h466)) (fun _ => h466))
  · refine ca_allP hP ca_lv4 (ca_add hP ca_lv4 hF hT (fun u1 hu1 => ?_))
    obtain ⟨f0, f1, f2, f3, a1, a2, a3, a4, a5, a6, a7, a8, a9, a10, a11⟩ := u1
    refine ca_add hu1 ca_lv4 hT hF (fun u2 hu2 => ?_)
    have h466' : wL_law_466 post L xs J x2 x3 (ca_ex b0 b1) x5 (nI F) (nI T) x9 kc ks u2.1 u2.2.1 u2.2.2.1 u2.2.2.2.1 u2.2.2.2.2.1 u2.2.2.2.2.2.1 u2.2.2.2.2.2.2.1 u2.2.2.2.2.2.2.2.1 u2.2.2.2.2.2.2.2.2.1 u2.2.2.2.2.2.2.2.2.2.1 u2.2.2.2.2.2.2.2.2.2.2.1 u2.2.2.2.2.2.2.2.2.2.2.2.1 u2.2.2.2.2.2.2.2.2.2.2.2.2.1 u2.2.2.2.2.2.2.2.2.2.2.2.2.2.1 u2.2.2.2.2.2.2.2.2.2.2.2.2.2.2 := ca_l466 (ca_L_of hu2 (fun q hq w => by rw [ca_cg_lo hq, ca_cg_lo hq]) h0 h1) hF hT HJ
    obtain ⟨f0, f1, f2, f3, a1, a2, a3, a4, a5, a6, a7, a8, a9, a10, a11⟩ := u2
    refine br_t (by rw [ca_reg_comm]) (ca_allP hu2 ca_lv4 (br_t ?_ h466'))
    refine ca_hsh_congr (fun p w hp hw => ?_) 256 (by omega)
    rw [ca_reg_comm T F]
    unfold ca_cg
    by_cases e : 64 ≤ 4 * 16 + p ∧ 4 * 16 + p < 64 + 16 ∧ ca_in (ca_reg F T) (4 * 16 + p - 64) w = true
    · rw [if_pos e, if_pos e]
      show M (4 * 16 + p) w + x9 + (0 - x9) = M (4 * 16 + p) w
      grind
    · rw [if_neg e, if_neg e]
  · refine ca_fill (F := 0) (T := 255) hP ca_lv4 (by omega) (by omega) (fun u1 hu1 => ?_)
    obtain ⟨f0, f1, f2, f3, a1, a2, a3, a4, a5, a6, a7, a8, a9, a10, a11⟩ := u1
    refine br_t (by decide) (ca_count hu1 ca_lv4 (fun p w hp hw => ?_) (fun u2 hu2 => ?_))
    · have hin : ca_in (ca_reg 0 255) (4 * 16 + p - 64) w = true := by
        have := ca_ro_lt (p := 4 * 16 + p - 64) (w := w) (by omega) hw
        have := ca_co_lt (p := 4 * 16 + p - 64) (w := w)
        refine ca_inr_t.mpr ?_
        show 0 ≤ ca_ro (4 * 16 + p - 64) w ∧ ca_ro (4 * 16 + p - 64) w ≤ 15 ∧ 0 ≤ ca_co (4 * 16 + p - 64) w ∧ ca_co (4 * 16 + p - 64) w ≤ 15
        omega
      unfold ca_cg
      rw [if_pos ⟨by omega, by omega, hin⟩]
      rfl
    · have h466' : wL_law_466 post L xs J x2 x3 (ca_ex b0 b1) x5 (nI F) (nI T) x9 kc ks u2.1 u2.2.1 u2.2.2.1 u2.2.2.2.1 u2.2.2.2.2.1 u2.2.2.2.2.2.1 u2.2.2.2.2.2.2.1 u2.2.2.2.2.2.2.2.1 u2.2.2.2.2.2.2.2.2.1 u2.2.2.2.2.2.2.2.2.2.1 u2.2.2.2.2.2.2.2.2.2.2.1 u2.2.2.2.2.2.2.2.2.2.2.2.1 u2.2.2.2.2.2.2.2.2.2.2.2.2.1 u2.2.2.2.2.2.2.2.2.2.2.2.2.2.1 u2.2.2.2.2.2.2.2.2.2.2.2.2.2.2 := ca_l466 (ca_L_of hu2 (fun q hq w => ca_cg_lo hq) h0 h1) hF hT HJ
      obtain ⟨f0, f1, f2, f3, a1, a2, a3, a4, a5, a6, a7, a8, a9, a10, a11⟩ := u2
      exact br_t rfl h466'
end
end
section
/-! one turn of the law -/
section
variable {post : Int32 → Prop} {L : Nat} {xs : Nat → Int32} {J : Int32 → Int32 → Int32 → Int32 → Int32 → Int32 → Int32 → Int32 → (Nat → Int32) → (Nat → Int32) → (Nat → Int32) → (Nat → Int32) → (Nat → Int32) → (Nat → Int32) → (Nat → Int32) → (Nat → Int32) → (Nat → Int32) → (Nat → Int32) → (Nat → Int32) → Prop} {x2 x3 x5 x6 x9 z0 : Int32} {b0 b1 : Bool} {F T v kc ks : Nat} {u : St1}
/-- keep: the version is there -/
theorem ca_lkeep0 (h : ca_L b0 b1 x2 x3 u) (hF : F < 256) (hT : T < 256) (hv : v < 2) (hl : ca_lv b0 b1 v = true) {y : Int32} (HJ : ∀ u' : St1, ca_L b0 b1 x2 x3 u' → J x2 x3 (ca_ex b0 b1) (x5 + 4) u'.1 u'.2.1 u'.2.2.1 u'.2.2.2.1 u'.2.2.2.2.1 u'.2.2.2.2.2.1 u'.2.2.2.2.2.2.1 u'.2.2.2.2.2.2.2.1 u'.2.2.2.2.2.2.2.2.1 u'.2.2.2.2.2.2.2.2.2.1 u'.2.2.2.2.2.2.2.2.2.2.1 u'.2.2.2.2.2.2.2.2.2.2.2.1 u'.2.2.2.2.2.2.2.2.2.2.2.2.1 u'.2.2.2.2.2.2.2.2.2.2.2.2.2.1 u'.2.2.2.2.2.2.2.2.2.2.2.2.2.2) :
    wL_law_220 post L xs J x2 x3 (ca_ex b0 b1) x5 (nI F) (nI T) x9 (nI v) 1 y (-3) (-3) kc ks u.1 u.2.1 u.2.2.1 u.2.2.2.1 u.2.2.2.2.1 u.2.2.2.2.2.1 u.2.2.2.2.2.2.1 u.2.2.2.2.2.2.2.1 u.2.2.2.2.2.2.2.2.1 u.2.2.2.2.2.2.2.2.2.1 u.2.2.2.2.2.2.2.2.2.2.1 u.2.2.2.2.2.2.2.2.2.2.2.1 u.2.2.2.2.2.2.2.2.2.2.2.2.1 u.2.2.2.2.2.2.2.2.2.2.2.2.2.1 u.2.2.2.2.2.2.2.2.2.2.2.2.2.2 := by
  have h466 : wL_law_466 post L xs J x2 x3 (ca_ex b0 b1) x5 (nI F) (nI T) x9 kc ks u.1 u.2.1 u.2.2.1 u.2.2.2.1 u.2.2.2.2.1 u.2.2.2.2.2.1 u.2.2.2.2.2.2.1 u.2.2.2.2.2.2.2.1 u.2.2.2.2.2.2.2.2.1 u.2.2.2.2.2.2.2.2.2.1 u.2.2.2.2.2.2.2.2.2.2.1 u.2.2.2.2.2.2.2.2.2.2.2.1 u.2.2.2.2.2.2.2.2.2.2.2.2.1 u.2.2.2.2.2.2.2.2.2.2.2.2.2.1 u.2.2.2.2.2.2.2.2.2.2.2.2.2.2 := ca_l466 h hF hT HJ
  unfold wL_law_220
  refine br_t rfl (br_f (by decide) ?_)
  unfold wL_law_238
  refine br_f (by decide) ?_
  unfold wL_law_252
  refine nm_r ?_ h466
  rcases (show v = 0 ∨ v = 1 by omega) with rfl | rfl
  · have e : b0 = true := hl
    rw [ca_ex_or0, e]
  · have e : b1 = true := hl
    rw [ca_ex_or1, e]
/-- keep: the version is made -/
theorem ca_lkeep1 (hF : F < 256) (hT : T < 256) (hv : v < 2) {y : Int32} {M M' : Nat → Nat → Int32} {R : Nat × Nat × Nat × Nat} {A : Nat → Int32} (hP : ca_P (ca_lu (ca_lv b0 b1) v true) M' R A u)
    (hM : ∀ q, q < 64 → q / 16 ≠ v → ∀ w, M' q w = M q w) (hy : y = ca_hsh M' v 256) (h0 : b0 = true → x2 = ca_hsh M 0 256) (h1 : b1 = true → x3 = ca_hsh M 1 256)
    (HJ : ∀ (c0 c1 : Bool) (y2 y3 : Int32) (u' : St1), ca_L c0 c1 y2 y3 u' → J y2 y3 (ca_ex c0 c1) (x5 + 4) u'.1 u'.2.1 u'.2.2.1 u'.2.2.2.1 u'.2.2.2.2.1 u'.2.2.2.2.2.1 u'.2.2.2.2.2.2.1 u'.2.2.2.2.2.2.2.1 u'.2.2.2.2.2.2.2.2.1 u'.2.2.2.2.2.2.2.2.2.1 u'.2.2.2.2.2.2.2.2.2.2.1 u'.2.2.2.2.2.2.2.2.2.2.2.1 u'.2.2.2.2.2.2.2.2.2.2.2.2.1 u'.2.2.2.2.2.2.2.2.2.2.2.2.2.1 u'.2.2.2.2.2.2.2.2.2.2.2.2.2.2) :
    wL_law_220 post L xs J x2 x3 (ca_ex b0 b1) x5 (nI F) (nI T) x9 (nI v) 0 y 0 0 kc ks u.1 u.2.1 u.2.2.1 u.2.2.2.1 u.2.2.2.2.1 u.2.2.2.2.2.1 u.2.2.2.2.2.2.1 u.2.2.2.2.2.2.2.1 u.2.2.2.2.2.2.2.2.1 u.2.2.2.2.2.2.2.2.2.1 u.2.2.2.2.2.2.2.2.2.2.1 u.2.2.2.2.2.2.2.2.2.2.2.1 u.2.2.2.2.2.2.2.2.2.2.2.2.1 u.2.2.2.2.2.2.2.2.2.2.2.2.2.1 u.2.2.2.2.2.2.2.2.2.2.2.2.2.2 := by
  unfold wL_law_220
  refine br_t rfl (br_t rfl ?_)
  rcases (show v = 0 ∨ v = 1 by omega) with rfl | rfl
  · refine br_t rfl ?_
    unfold wL_law_238
    refine br_t rfl (br_f (by decide) ?_)
    unfold wL_law_252
    rw [ca_lu0] at hP
    refine nm_r ca_ex_or0 (ca_l466 ⟨M', R, A, hP, fun _ => hy, fun z => ?_⟩ hF hT (HJ true b1 y x3))
    rw [h1 z]
    exact ca_hsh_congr (fun p w hp hw => (hM _ (by omega) (by omega) w).symm) 256 (by omega)
  · refine br_f (by decide) ?_
    unfold wL_law_238
    refine br_t rfl (br_t rfl ?_)
    unfold wL_law_252
    rw [ca_lu1] at hP
    refine nm_r ca_ex_or1 (ca_l466 ⟨M', R, A, hP, fun z => ?_, fun _ => hy⟩ hF hT (HJ b0 true x2 y))
    rw [h0 z]
    exact ca_hsh_congr (fun p w hp hw => (hM _ (by omega) (by omega) w).symm) 256 (by omega)
/-- drop -/
theorem ca_ldrop {z : Int32} (hF : F < 256) (hT : T < 256) (hv : v < 2) {M : Nat → Nat → Int32} {R : Nat × Nat × Nat × Nat} {A : Nat → Int32} (hP : ca_P (ca_lu (ca_lv b0 b1) v false) M R A u)
    (h0 : b0 = true → x2 = ca_hsh M 0 256) (h1 : b1 = true → x3 = ca_hsh M 1 256)
    (HJ : ∀ (c0 c1 : Bool) (y2 y3 : Int32) (u' : St1), ca_L c0 c1 y2 y3 u' → J y2 y3 (ca_ex c0 c1) (x5 + 4) u'.1 u'.2.1 u'.2.2.1 u'.2.2.2.1 u'.2.2.2.2.1 u'.2.2.2.2.2.1 u'.2.2.2.2.2.2.1 u'.2.2.2.2.2.2.2.1 u'.2.2.2.2.2.2.2.2.1 u'.2.2.2.2.2.2.2.2.2.1 u'.2.2.2.2.2.2.2.2.2.2.1 u'.2.2.2.2.2.2.2.2.2.2.2.1 u'.2.2.2.2.2.2.2.2.2.2.2.2.1 u'.2.2.2.2.2.2.2.2.2.2.2.2.2.1 u'.2.2.2.2.2.2.2.2.2.2.2.2.2.2) :
    wL_law_341 post L xs J x2 x3 (ca_ex b0 b1) x5 (nI F) (nI T) x9 (nI v) z z kc ks u.1 u.2.1 u.2.2.1 u.2.2.2.1 u.2.2.2.2.1 u.2.2.2.2.2.1 u.2.2.2.2.2.2.1 u.2.2.2.2.2.2.2.1 u.2.2.2.2.2.2.2.2.1 u.2.2.2.2.2.2.2.2.2.1 u.2.2.2.2.2.2.2.2.2.2.1 u.2.2.2.2.2.2.2.2.2.2.2.1 u.2.2.2.2.2.2.2.2.2.2.2.2.1 u.2.2.2.2.2.2.2.2.2.2.2.2.2.1 u.2.2.2.2.2.2.2.2.2.2.2.2.2.2 := by
  unfold wL_law_341
  refine br_t rfl ?_
  rcases (show v = 0 ∨ v = 1 by omega) with rfl | rfl
  · rw [ca_lu0] at hP
    exact nm_r ca_ex_and0 (ca_l466 ⟨M, R, A, hP, fun z => absurd z (by decide), h1⟩ hF hT (HJ false b1 x2 x3))
  · rw [ca_lu1] at hP
    exact nm_r ca_ex_and1 (ca_l466 ⟨M, R, A, hP, h0, fun z => absurd z (by decide)⟩ hF hT (HJ b0 false x2 x3))
theorem ca_lu_id {lv : Nat → Bool} {v : Nat} {b : Bool} (h : lv v = b) : ca_lu lv v b = lv := by
  funext a
  unfold ca_lu
  by_cases e : a = v
  · rw [if_pos e, e, h]
  · rw [if_neg e]
theorem ca_l89 (h : ca_L b0 b1 x2 x3 u) (hF : F < 256) (hT : T < 256) (hv : v < 2) (hz : (z0 = 0 ∧ ca_lv b0 b1 v = false) ∨ (z0 = 1 ∧ ca_lv b0 b1 v = true))
    (HJ : ∀ (c0 c1 : Bool) (y2 y3 : Int32) (u' : St1), ca_L c0 c1 y2 y3 u' → J y2 y3 (ca_ex c0 c1) (x5 + 4) u'.1 u'.2.1 u'.2.2.1 u'.2.2.2.1 u'.2.2.2.2.1 u'.2.2.2.2.2.1 u'.2.2.2.2.2.2.1 u'.2.2.2.2.2.2.2.1 u'.2.2.2.2.2.2.2.2.1 u'.2.2.2.2.2.2.2.2.2.1 u'.2.2.2.2.2.2.2.2.2.2.1 u'.2.2.2.2.2.2.2.2.2.2.2.1 u'.2.2.2.2.2.2.2.2.2.2.2.2.1 u'.2.2.2.2.2.2.2.2.2.2.2.2.2.1 u'.2.2.2.2.2.2.2.2.2.2.2.2.2.2) :
    wL_law_89 post L xs J x2 x3 (ca_ex b0 b1) x5 x6 (nI F) (nI T) x9 (nI v) z0 kc ks u.1 u.2.1 u.2.2.1 u.2.2.2.1 u.2.2.2.2.1 u.2.2.2.2.2.1 u.2.2.2.2.2.2.1 u.2.2.2.2.2.2.2.1 u.2.2.2.2.2.2.2.2.1 u.2.2.2.2.2.2.2.2.2.1 u.2.2.2.2.2.2.2.2.2.2.1 u.2.2.2.2.2.2.2.2.2.2.2.1 u.2.2.2.2.2.2.2.2.2.2.2.2.1 u.2.2.2.2.2.2.2.2.2.2.2.2.2.1 u.2.2.2.2.2.2.2.2.2.2.2.2.2.2 := by
  have h360 : wL_law_360 post L xs J x2 x3 (ca_ex b0 b1) x5 x6 (nI F) (nI T) x9 kc ks u.1 u.2.1 u.2.2.1 u.2.2.2.1 u.2.2.2.2.1 u.2.2.2.2.2.1 u.2.2.2.2.2.2.1 u.2.2.2.2.2.2.2.1 u.2.2.2.2.2.2.2.2.1 u.2.2.2.2.2.2.2.2.2.1 u.2.2.2.2.2.2.2.2.2.2.1 u.2.2.2.2.2.2.2.2.2.2.2.1 u.2.2.2.2.2.2.2.2.2.2.2.2.1 u.2.2.2.2.2.2.2.2.2.2.2.2.2.1 u.2.2.2.2.2.2.2.2.2.2.2.2.2.2 := ca_l360 h hF hT (HJ b0 b1 x2 x3)
  have tail : ∀ (M M' : Nat → Nat → Int32) (R : Nat × Nat × Nat × Nat) (A : Nat → Int32) (u' : St1), ca_P (ca_lv b0 b1) M' R A u' → (∀ q, q < 64 → ∀ w, M' q w = M q w) → (b0 = true → x2 = ca_hsh M 0 256) → (b1 = true → x3 = ca_hsh M 1 256) → wL_law_466 post L xs J x2 x3 (ca_ex b0 b1) x5 (nI F) (nI T) x9 kc ks u'.1 u'.2.1 u'.2.2.1 u'.2.2.2.1 u'.2.2.2.2.1 u'.2.2.2.2.2.1 u'.2.2.2.2.2.2.1 u'.2.2.2.2.2.2.2.1 u'.2.2.2.2.2.2.2.2.1 u'.2.2.2.2.2.2.2.2.2.1 u'.2.2.2.2.2.2.2.2.2.2.1 u'.2.2.2.2.2.2.2.2.2.2.2.1 u'.2.2.2.2.2.2.2.2.2.2.2.2.1 u'.2.2.2.2.2.2.2.2.2.2.2.2.2.1 u'.2.2.2.2.2.2.2.2.2.2.2.2.2.2 :=
    fun M M' R A u' hP hM h0 h1 => ca_l466 (ca_L_of hP hM h0 h1) hF hT (HJ b0 b1 x2 x3)
  have hL := h
  obtain ⟨f0, f1, f2, f3, a1, a2, a3, a4, a5, a6, a7, a8, a9, a10, a11⟩ := u
  obtain ⟨M, R, A, hP, h0, h1⟩ := h
  have hsz := ca_sz_b (ca_rb_reg hF hT)
  have hge : (1 : Int32) ≤ nI (ca_sz (ca_reg F T)) := nI_le (a := 1) hsz.1 (by omega)
  unfold wL_law_89
  refine br_c (fun _ => br_c (fun _ => br_c (fun _ => ?_) (fun _ => br_c (fun _ => br_c (fun _ => br_c (fun _ => ?_) (fun _ => br_c (fun _ => br_c (fun _ => ?_) (fun _ => h360)) (fun _ => h360))) (fun _ => ?_)) (fun _ => ?_))) (fun _ => ?_)) (fun _ => ?_)
  · refine ca_scale hP ca_lv4 hF hT (fun u' hu' => ?_)
    have X := tail M _ _ _ u' hu' (fun q hq w => ca_cg_lo hq) h0 h1
    obtain ⟨f0, f1, f2, f3, a1, a2, a3, a4, a5, a6, a7, a8, a9, a10, a11⟩ := u'
    exact br_t hge X
  · rcases hz with ⟨rfl, hl⟩ | ⟨rfl, hl⟩
    · refine ca_differ0 hP hv hl (ca_restore0 hP hv hl (br_t rfl (br_t rfl ?_)))
      unfold wL_law_306
      exact tail M M R A _ hP (fun _ _ _ => rfl) h0 h1
    · refine ca_differ1 hP ca_lv4 hv hl (ca_restore1 hP ca_lv4 hv hl (fun u' hu' => ?_))
      have X := tail M _ _ _ u' hu' (fun q hq w => if_neg (by omega)) h0 h1
      obtain ⟨f0, f1, f2, f3, a1, a2, a3, a4, a5, a6, a7, a8, a9, a10, a11⟩ := u'
      refine br_t rfl (br_f (by decide) (ca_differ1 hu' ca_lv4 hv hl (br_t (ca_dif_0 (fun k w hk hw => ?_)) X)))
      rw [if_neg (by omega), if_pos (by omega), show (64 + k) % 16 = k by omega]
  · rcases hz with ⟨rfl, hl⟩ | ⟨rfl, hl⟩
    · refine ca_drop0 hP hv hl (br_t rfl ?_)
      exact ca_ldrop (u := (f0, f1, f2, f3, a1, a2, a3, a4, a5, a6, a7, a8, a9, a10, a11)) hF hT hv (by rw [ca_lu_id hl]; exact hP) h0 h1 HJ
    · refine ca_drop1 hP hv hl (fun u' hu' => ?_)
      have X : wL_law_341 post L xs J x2 x3 (ca_ex b0 b1) x5 (nI F) (nI T) x9 (nI v) 0 0 kc ks u'.1 u'.2.1 u'.2.2.1 u'.2.2.2.1 u'.2.2.2.2.1 u'.2.2.2.2.2.1 u'.2.2.2.2.2.2.1 u'.2.2.2.2.2.2.2.1 u'.2.2.2.2.2.2.2.2.1 u'.2.2.2.2.2.2.2.2.2.1 u'.2.2.2.2.2.2.2.2.2.2.1 u'.2.2.2.2.2.2.2.2.2.2.2.1 u'.2.2.2.2.2.2.2.2.2.2.2.2.1 u'.2.2.2.2.2.2.2.2.2.2.2.2.2.1 u'.2.2.2.2.2.2.2.2.2.2.2.2.2.2 := ca_ldrop hF hT hv hu' h0 h1 HJ
      obtain ⟨f0, f1, f2, f3, a1, a2, a3, a4, a5, a6, a7, a8, a9, a10, a11⟩ := u'
      exact br_f (by decide) X
  · refine ca_allP hP ca_lv4 ?_
    rcases hz with ⟨rfl, hl⟩ | ⟨rfl, hl⟩
    · refine ca_keep1 hP ca_lv4 hv hl (fun u' hu' => ?_)
      have X : wL_law_220 post L xs J x2 x3 (ca_ex b0 b1) x5 (nI F) (nI T) x9 (nI v) 0 (ca_hsh M 4 256) 0 0 kc ks u'.1 u'.2.1 u'.2.2.1 u'.2.2.2.1 u'.2.2.2.2.1 u'.2.2.2.2.2.1 u'.2.2.2.2.2.2.1 u'.2.2.2.2.2.2.2.1 u'.2.2.2.2.2.2.2.2.1 u'.2.2.2.2.2.2.2.2.2.1 u'.2.2.2.2.2.2.2.2.2.2.1 u'.2.2.2.2.2.2.2.2.2.2.2.1 u'.2.2.2.2.2.2.2.2.2.2.2.2.1 u'.2.2.2.2.2.2.2.2.2.2.2.2.2.1 u'.2.2.2.2.2.2.2.2.2.2.2.2.2.2 := by
        refine ca_lkeep1 hF hT hv hu' (fun q hq hne w => if_neg hne) ?_ h0 h1 HJ
        refine ca_hsh_congr (fun p w hp hw => ?_) 256 (by omega)
        rw [if_pos (by omega), show (v * 16 + p) % 16 = p by omega]
      obtain ⟨f0, f1, f2, f3, a1, a2, a3, a4, a5, a6, a7, a8, a9, a10, a11⟩ := u'
      exact br_t rfl X
    · exact ca_keep0 hP hv hl (br_f (by decide) (ca_lkeep0 (u := (f0, f1, f2, f3, a1, a2, a3, a4, a5, a6, a7, a8, a9, a10, a11)) hL hF hT hv hl (HJ b0 b1 x2 x3)))
  · obtain ⟨P, hP', eP⟩ := pk_andE x9 (m := 255) 8 (by decide)
    rw [eP]
    refine ca_copy hP ca_lv4 hF hT (by omega) (fun m u' m1 m2 hu' => ?_)
    obtain ⟨M', A', hP2, hM⟩ := hu'
    have X := tail M _ _ _ u' hP2 hM h0 h1
    obtain ⟨f0, f1, f2, f3, a1, a2, a3, a4, a5, a6, a7, a8, a9, a10, a11⟩ := u'
    exact br_t (nI_le (a := 1) m1 (by omega)) X
  · refine ca_add hP ca_lv4 hF hT (fun u' hu' => ?_)
    have X := tail M _ _ _ u' hu' (fun q hq w => ca_cg_lo hq) h0 h1
    obtain ⟨f0, f1, f2, f3, a1, a2, a3, a4, a5, a6, a7, a8, a9, a10, a11⟩ := u'
    exact br_t hge X
  · refine ca_fill hP ca_lv4 hF hT (fun u' hu' => ?_)
    have X := tail M _ _ _ u' hu' (fun q hq w => ca_cg_lo hq) h0 h1
    obtain ⟨f0, f1, f2, f3, a1, a2, a3, a4, a5, a6, a7, a8, a9, a10, a11⟩ := u'
    exact br_t hge X
end
end
section
/-! the law's loop, the constructor, what is owed -/
theorem ca_lim {L j : Nat} (hL : L ≤ 260) (hj : j ≤ 260) : nI L - 4 < nI j ↔ L < j + 4 := by
  have e1 : (nI L - 4).toInt = (L : Int) - (4 : Nat) := pk_sub_toInt (b := 4) (by omega) (by omega)
  have e2 : (nI j).toInt = (j : Int) := nI_toInt (by omega)
  rw [Int32.lt_iff_toInt_lt, e1, e2]
  omega
theorem ca_loop {L : Nat} {xs : Nat → Int32} {kc ks : Nat} (hL : L ≤ 260) {x2 x3 : Int32} {b0 b1 : Bool} {u : St1} (h : ca_L b0 b1 x2 x3 u) :
    ∃ n, wL_law_18 (fun r => r = 1) L xs kc ks n x2 x3 (ca_ex b0 b1) 0 u.1 u.2.1 u.2.2.1 u.2.2.2.1 u.2.2.2.2.1 u.2.2.2.2.2.1 u.2.2.2.2.2.2.1 u.2.2.2.2.2.2.2.1 u.2.2.2.2.2.2.2.2.1 u.2.2.2.2.2.2.2.2.2.1 u.2.2.2.2.2.2.2.2.2.2.1 u.2.2.2.2.2.2.2.2.2.2.2.1 u.2.2.2.2.2.2.2.2.2.2.2.2.1 u.2.2.2.2.2.2.2.2.2.2.2.2.2.1 u.2.2.2.2.2.2.2.2.2.2.2.2.2.2 := by
  refine pk_loop (σ := Int32 × Int32 × Int32 × St1) (fun n i s => wL_law_18 (fun r => r = 1) L xs kc ks n s.1 s.2.1 s.2.2.1 (nI (4 * i)) s.2.2.2.1 s.2.2.2.2.1 s.2.2.2.2.2.1 s.2.2.2.2.2.2.1 s.2.2.2.2.2.2.2.1 s.2.2.2.2.2.2.2.2.1 s.2.2.2.2.2.2.2.2.2.1 s.2.2.2.2.2.2.2.2.2.2.1 s.2.2.2.2.2.2.2.2.2.2.2.1 s.2.2.2.2.2.2.2.2.2.2.2.2.1 s.2.2.2.2.2.2.2.2.2.2.2.2.2.1 s.2.2.2.2.2.2.2.2.2.2.2.2.2.2.1 s.2.2.2.2.2.2.2.2.2.2.2.2.2.2.2.1 s.2.2.2.2.2.2.2.2.2.2.2.2.2.2.2.2.1 s.2.2.2.2.2.2.2.2.2.2.2.2.2.2.2.2.2) (fun i s => ∃ c0 c1 : Bool, s.2.2.1 = ca_ex c0 c1 ∧ ca_L c0 c1 s.1 s.2.1 s.2.2.2) (L / 4) 0 (x2, x3, ca_ex b0 b1, u) (by omega) ⟨b0, b1, rfl, h⟩ ?_ ?_
  · intro n s hs
    exact br_t ((ca_lim hL (by omega)).mpr (by omega)) rfl
  · intro n i s hi hs hw
    obtain ⟨y2, y3, y4, w⟩ := s
    obtain ⟨c0, c1, e, hl⟩ := hs
    dsimp only at e hl
    subst e
    have hw' : ∀ (d0 d1 : Bool) (t2 t3 : Int32) (u' : St1), ca_L d0 d1 t2 t3 u' → wL_law_18 (fun r => r = 1) L xs kc ks n t2 t3 (ca_ex d0 d1) (nI (4 * i) + 4) u'.1 u'.2.1 u'.2.2.1 u'.2.2.2.1 u'.2.2.2.2.1 u'.2.2.2.2.2.1 u'.2.2.2.2.2.2.1 u'.2.2.2.2.2.2.2.1 u'.2.2.2.2.2.2.2.2.1 u'.2.2.2.2.2.2.2.2.2.1 u'.2.2.2.2.2.2.2.2.2.2.1 u'.2.2.2.2.2.2.2.2.2.2.2.1 u'.2.2.2.2.2.2.2.2.2.2.2.2.1 u'.2.2.2.2.2.2.2.2.2.2.2.2.2.1 u'.2.2.2.2.2.2.2.2.2.2.2.2.2.2 := by
      intro d0 d1 t2 t3 u' hu'
      rw [show nI (4 * i) + 4 = nI (4 * (i + 1)) from nI_add (4 * i) 4]
      exact hw (t2, t3, ca_ex d0 d1, u') ⟨d0, d1, rfl, hu'⟩
    refine br_f (fun z => absurd ((ca_lim hL (by omega)).mp z) (by omega)) ?_
    dsimp only
    rw [show nI (4 * i) + 1 = nI (4 * i + 1) from nI_add (4 * i) 1, show nI (4 * i) + 2 = nI (4 * i + 2) from nI_add (4 * i) 2, show nI (4 * i) + 3 = nI (4 * i + 3) from nI_add (4 * i) 3]
    obtain ⟨F, hF, eF⟩ := pk_andE (xs (nI (4 * i + 1)).toNatClampNeg) (m := 255) 8 (by decide)
    obtain ⟨T, hT, eT⟩ := pk_andE (xs (nI (4 * i + 2)).toNatClampNeg) (m := 255) 8 (by decide)
    obtain ⟨v, hv, ev⟩ := pk_andE (xs (nI (4 * i + 3)).toNatClampNeg) (m := 1) 1 (by decide)
    refine ⟨vp_in_nI (by omega) (by omega), nm_e ⟨vp_in_nI (by omega) (by omega), nm_r eF ⟨vp_in_nI (by omega) (by omega), nm_r eT ⟨vp_in_nI (by omega) (by omega), nm_e (nm_r ev (br_c (fun z => ?_) (fun z => ?_)))⟩⟩⟩⟩
    · exact ca_l89 hl (by omega) (by omega) (by omega) (Or.inl ⟨rfl, (ca_ex_b (by omega)).mp z⟩) hw'
    · refine ca_l89 hl (by omega) (by omega) (by omega) (Or.inr ⟨rfl, ?_⟩) hw'
      cases e : ca_lv c0 c1 v
      · exact absurd ((ca_ex_b (by omega)).mpr e) z
      · rfl
def ca_g0 : Nat → Nat := fun q => if 64 ≤ q then q - 64 else 80
theorem ca_cnt_g0 : ∀ c, c < 80 → ca_cnt ca_g0 c 80 = if c < 16 then 1 else 0 := by decide +kernel
theorem ca_init {post : St1 → Prop} (H : ∀ u : St1, ca_L false false 0 0 u → post u) : wpX_init post 11 2181 (0, 0, 0, 0) := by
  unfold wpX_init
  dsimp only
  refine ⟨by decide, by decide, by decide, by decide, by decide, by decide, by decide, by decide, by decide, by decide, by decide, by decide, by decide, by decide, by decide, by decide, by decide, by decide, by decide, by decide, by decide, by decide, nm_e ?_⟩
  refine pk_loop (σ := (Nat → Int32) × (Nat → Int32) × (Nat → Int32)) (fun n i s => wX_init_102 post 11 2181 11 2181 0 0 0 0 n (nI i) (upd (fun _ => 0) 4 1) s.1 s.2.1 (fun _ => 0) s.2.2 (fun _ => 0) (fun _ => 0) (fun _ => 0) (fun _ => 0) (fun _ => 0) (fun _ => 0))
    (fun i s => (∀ j, s.1 j = if 64 ≤ j ∧ j < 64 + i then nI (j - 64) else 0) ∧ (∀ j, s.2.1 j = if j < i then 1 else 0)) 16 0 (fun _ => 0, fun _ => 0, fun _ => 0) (by omega) ⟨fun j => (if_neg (by omega)).symm, fun j => (if_neg (by omega)).symm⟩ ?_ ?_
  · intro n s hs
    obtain ⟨s2, s3, s5⟩ := s
    obtain ⟨e2, e3⟩ := hs
    dsimp only at e2 e3
    refine pk_le 16 16 (fun _ => H _ ⟨fun _ _ => 0, (0, 0, 0, 0), fun _ => 0, ⟨ca_g0, _, _, _, _, _, _, _, _, _, _, rfl, ⟨?_, ?_, ?_, ?_, ?_⟩, ?_, ?_⟩, fun z => absurd z (by decide), fun z => absurd z (by decide)⟩) (fun z => absurd z (by omega))
    · intro q hq hg
      unfold ca_g0 at hg ⊢
      dsimp only
      by_cases e : 64 ≤ q
      · rw [if_pos e, e2, if_pos (by omega)]
      · rw [if_neg e] at hg
        omega
    · intro c hc
      dsimp only
      rw [ca_cnt_g0 c hc, e3]
      by_cases e : c < 16
      · rw [if_pos e, if_pos e]
        rfl
      · rw [if_neg e, if_neg e]
        rfl
    · intro q b1 b2
      unfold ca_g0
      rw [if_neg (by omega)]
      omega
    · intro c hc hn
      exact absurd rfl hn
    · intro q hq hg w hw
      unfold ca_val
      grind
    · intro q hq
      unfold ca_g0
      by_cases e : 64 ≤ q
      · rw [if_pos e, show q / 16 = 4 by omega]
        exact ⟨fun _ => rfl, fun _ => by omega⟩
      · rw [if_neg e]
        refine ⟨fun z => absurd z (by omega), fun z => ?_⟩
        unfold ca_lv at z
        rw [if_neg (by omega)] at z
        by_cases a : q / 16 = 0
        · rw [if_pos a] at z
          exact absurd z (by decide)
        · rw [if_neg a] at z
          by_cases b : q / 16 = 1
          · rw [if_pos b] at z
            exact absurd z (by decide)
          · rw [if_neg b] at z
            exact absurd z (by decide)
    · decide +kernel
  · intro n i s hi hs hw
    obtain ⟨s2, s3, s5⟩ := s
    obtain ⟨e2, e3⟩ := hs
    dsimp only at e2 e3
    refine pk_le 16 i (fun z => absurd z (by omega)) (fun _ => ?_)
    rw [ca_64, nI_clamp (show 64 + i < 2 ^ 31 by omega), nI_clamp (show i < 2 ^ 31 by omega)]
    have ik : vp_in (nI i) 80 := vp_in_nI (by omega) (by omega)
    refine ⟨vp_in_nI (by omega) (by omega), nm_e ⟨ik, nm_e ⟨ik, nm_e (nm_r (nI_1 i) (hw (upd s2 (64 + i) (nI i), upd s3 i 1, upd s5 i 1) ⟨fun j => ?_, fun j => ?_⟩))⟩⟩⟩
    · dsimp only
      by_cases e : j = 64 + i
      · rw [e, pk_us, if_pos (by omega), show 64 + i - 64 = i by omega]
      · rw [pk_un e, e2]
        by_cases f : 64 ≤ j ∧ j < 64 + i
        · rw [if_pos f, if_pos (by omega)]
        · rw [if_neg f, if_neg (by omega)]
    · dsimp only
      by_cases e : j = i
      · rw [e, pk_us, if_pos (by omega)]
      · rw [pk_un e, e3]
        by_cases f : j < i
        · rw [if_pos f, if_pos (by omega)]
        · rw [if_neg f, if_neg (by omega)]
theorem i_vc (xs : Nat → Int32) (L : Nat) (hL : L ≤ 260) : wpL_law (fun r => r = 1) L xs := by
  refine ⟨11, 2181, by omega, by omega, ca_init (fun u hu => ?_)⟩
  obtain ⟨n, hn⟩ := ca_loop (xs := xs) (kc := 12) (ks := 2196) hL hu
  obtain ⟨f0, f1, f2, f3, a1, a2, a3, a4, a5, a6, a7, a8, a9, a10, a11⟩ := u
  exact ⟨n, hn⟩
end
