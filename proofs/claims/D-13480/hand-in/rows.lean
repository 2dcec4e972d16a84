section
/-! ===== Int32 by its bits ===== -/
def ws_bt (x : Int32) (i : Nat) : Bool := x.toBitVec.getLsbD i
theorem ws_ext {x y : Int32} (h : ∀ i, i < 32 → ws_bt x i = ws_bt y i) : x = y := Int32.toBitVec_inj.mp (BitVec.eq_of_getLsbD_eq (fun i hi => h i hi))
theorem ws_or (x y : Int32) (i : Nat) : ws_bt (x ||| y) i = (ws_bt x i || ws_bt y i) := by unfold ws_bt; rw [Int32.toBitVec_or, BitVec.getLsbD_or]
theorem ws_and (x y : Int32) (i : Nat) : ws_bt (x &&& y) i = (ws_bt x i && ws_bt y i) := by unfold ws_bt; rw [Int32.toBitVec_and, BitVec.getLsbD_and]
theorem ws_xor (x y : Int32) (i : Nat) : ws_bt (x ^^^ y) i = (ws_bt x i ^^ ws_bt y i) := by unfold ws_bt; rw [Int32.toBitVec_xor, BitVec.getLsbD_xor]
theorem ws_m1 : ∀ i, i < 32 → ws_bt (-1) i = true := by decide +kernel
theorem ws_b1 : ∀ i, i < 32 → ws_bt 1 i = decide (i = 0) := by decide +kernel
theorem ws_b7 : ∀ i, i < 32 → ws_bt 7 i = decide (i < 3) := by decide +kernel
theorem ws_bv : ∀ v, v < 8 → ∀ i, i < 32 → 3 ≤ i → ws_bt (nI v) i = false := by decide +kernel
theorem ws_sl : ∀ n, n < 32 → ((nI n &&& 31).toBitVec.smod 32).toNat = n := by decide +kernel
theorem ws_shl (n : Nat) (hn : n < 32) (x : Int32) {i : Nat} (hi : i < 32) : ws_bt (x <<< (nI n &&& 31)) i = (decide (n ≤ i) && ws_bt x (i - n)) := by
  unfold ws_bt
  rw [Int32.toBitVec_shiftLeft]
  show (x.toBitVec <<< ((nI n &&& 31).toBitVec.smod 32).toNat).getLsbD i = _
  rw [ws_sl n hn, BitVec.getLsbD_shiftLeft]
  rcases Nat.lt_or_ge i n with h | h
  · simp [h, Nat.not_le.mpr h]
  · simp [hi, h, Nat.not_lt.mpr h]
theorem ws_sshr (n : Nat) (hn : n < 32) (x : Int32) {i : Nat} (hi : i < 32) : ws_bt (x >>> (nI n &&& 31)) i = if n + i < 32 then ws_bt x (n + i) else ws_bt x 31 := by
  unfold ws_bt
  rw [Int32.toBitVec_shiftRight]
  show (x.toBitVec.sshiftRight ((nI n &&& 31).toBitVec.smod 32).toNat).getLsbD i = _
  rw [ws_sl n hn, BitVec.getLsbD_sshiftRight, BitVec.msb_eq_getLsbD_last]
  simp [hi]
theorem ws_bit (x : Int32) {d : Nat} (hd : d < 32) : (x >>> (nI d &&& 31)) &&& 1 = nI (if ws_bt x d = true then 1 else 0) := by
  apply ws_ext
  intro i hi
  rw [ws_and, ws_sshr d hd x hi, ws_b1 i hi]
  have e1 : ws_bt (nI 1) i = decide (i = 0) := ws_b1 i hi
  have e0 : ws_bt (nI 0) i = false := (by decide +kernel : ∀ i, i < 32 → ws_bt (nI 0) i = false) i hi
  by_cases h0 : i = 0
  · subst h0
    rw [if_pos (by omega), Nat.add_zero]
    by_cases hb : ws_bt x d = true
    · rw [if_pos hb, e1, hb]; rfl
    · rw [if_neg hb, e0, Bool.eq_false_iff.mpr hb]; rfl
  · rw [decide_eq_false h0, Bool.and_false]
    by_cases hb : ws_bt x d = true
    · rw [if_pos hb, e1, decide_eq_false h0]
    · rw [if_neg hb, e0]
theorem ws_set (x : Int32) {n d : Nat} (hn : n < 32) (hd : d < 32) : ws_bt (x ||| ((1 : Int32) <<< (nI n &&& 31))) d = (ws_bt x d || decide (d = n)) := by
  rw [ws_or, ws_shl n hn 1 hd]
  congr 1
  by_cases h : d = n
  · subst h
    rw [Nat.sub_self, decide_eq_true (Nat.le_refl d), decide_eq_true rfl, ws_b1 0 (by omega)]; rfl
  · rw [decide_eq_false h]
    by_cases g : n ≤ d
    · rw [ws_b1 (d - n) (by omega), decide_eq_false (show ¬ d - n = 0 by omega), Bool.and_false]
    · rw [decide_eq_false g, Bool.false_and]
theorem ws_clr (x : Int32) {n d : Nat} (hn : n < 32) (hd : d < 32) : ws_bt (x &&& (((1 : Int32) <<< (nI n &&& 31)) ^^^ (-1))) d = (ws_bt x d && !decide (d = n)) := by
  rw [ws_and, ws_xor, ws_shl n hn 1 hd, ws_m1 d hd, Bool.xor_true]
  congr 2
  by_cases h : d = n
  · subst h
    rw [Nat.sub_self, decide_eq_true (Nat.le_refl d), decide_eq_true rfl, ws_b1 0 (by omega)]; rfl
  · rw [decide_eq_false h]
    by_cases g : n ≤ d
    · rw [ws_b1 (d - n) (by omega), decide_eq_false (show ¬ d - n = 0 by omega), Bool.and_false]
    · rw [decide_eq_false g, Bool.false_and]
/-- the law's draft word: one field of three bits written -/
def ws_dw (x : Int32) (t v : Nat) : Int32 := (x &&& (((7 : Int32) <<< (nI (3 * t) &&& 31)) ^^^ (-1))) ||| (nI v <<< (nI (3 * t) &&& 31))
theorem ws_dwb (x : Int32) {t v j : Nat} (ht : t < 8) (hj : j < 32) : ws_bt (ws_dw x t v) j = ((ws_bt x j && !(decide (3 * t ≤ j) && ws_bt 7 (j - 3 * t))) || (decide (3 * t ≤ j) && ws_bt (nI v) (j - 3 * t))) := by
  unfold ws_dw
  rw [ws_or, ws_and, ws_xor, ws_shl _ (by omega) _ hj, ws_shl _ (by omega) _ hj, ws_m1 j hj, Bool.xor_true]
theorem ws_dw_s (x : Int32) {t v : Nat} (ht : t < 8) (hv : v < 8) : (ws_dw x t v >>> (nI (3 * t) &&& 31)) &&& 7 = nI v := by
  apply ws_ext
  intro i hi
  rw [ws_and, ws_sshr _ (by omega) _ hi, ws_b7 i hi]
  by_cases h : i < 3
  · rw [if_pos (by omega), ws_dwb x ht (by omega), decide_eq_true h, decide_eq_true (show 3 * t ≤ 3 * t + i by omega), Nat.add_sub_cancel_left, ws_b7 i hi, decide_eq_true h]
    simp
  · rw [decide_eq_false h, Bool.and_false, ws_bv v hv i hi (by omega)]
theorem ws_dw_o (x : Int32) {t s v : Nat} (ht : t < 8) (hs : s < 8) (hv : v < 8) (hn : s ≠ t) : (ws_dw x t v >>> (nI (3 * s) &&& 31)) &&& 7 = (x >>> (nI (3 * s) &&& 31)) &&& 7 := by
  apply ws_ext
  intro i hi
  rw [ws_and, ws_and, ws_sshr _ (by omega) _ hi, ws_sshr _ (by omega) _ hi, ws_b7 i hi]
  by_cases h : i < 3
  · rw [if_pos (by omega), if_pos (by omega), ws_dwb x ht (by omega)]
    by_cases g : 3 * t ≤ 3 * s + i
    · rw [ws_b7 _ (by omega), decide_eq_false (show ¬ 3 * s + i - 3 * t < 3 by omega), ws_bv v hv _ (by omega) (by omega)]
      simp
    · rw [decide_eq_false g]
      simp
  · rw [decide_eq_false h, Bool.and_false, Bool.and_false]
/-! ===== Int32 sums ===== -/
theorem ws_ix (k t i : Nat) : nI k * nI t + nI i = nI (k * t + i) := by rw [pk_mul, nI_add]
theorem ws_run {a b : Nat} (h : a ≤ b) : (nI a - 1) + nI (b - a) = nI b - 1 := by
  rw [← pk_sub h]; grind
theorem ws_pre {a : Nat} (h : 0 < a) : nI a - 1 = nI (a - 1) := pk_sub (a := a) (b := 1) h
theorem ws_gap1 {d r : Nat} (h : r ≤ d + 1) : nI d - (nI r - 1) = nI (d + 1 - r) := by
  rw [← pk_sub h, ← nI_1]; grind
theorem ws_i8 : ∀ v, v < 100 → (nI v).toInt8.toInt32 = nI v := by decide +kernel
/-! ===== counting and summing ===== -/
def ws_cnt (p : Nat → Bool) : Nat → Nat
  | 0 => 0
  | d + 1 => ws_cnt p d + (if p d = true then 1 else 0)
theorem ws_cnt_le (p : Nat → Bool) : ∀ n, ws_cnt p n ≤ n := by
  intro n
  induction n with
  | zero => exact Nat.le_refl 0
  | succ n ih =>
    show ws_cnt p n + (if p n = true then 1 else 0) ≤ n + 1
    split <;> omega
theorem ws_cnt_flat {p : Nat → Bool} {a : Nat} : ∀ {b : Nat}, a ≤ b → (∀ d, a ≤ d → d < b → p d = false) → ws_cnt p b = ws_cnt p a := by
  intro b
  induction b with
  | zero => intro h _; rw [show a = 0 by omega]
  | succ b ih =>
    intro h hp
    by_cases e : a = b + 1
    · rw [e]
    · show ws_cnt p b + (if p b = true then 1 else 0) = ws_cnt p a
      rw [hp b (by omega) (by omega), ih (by omega) (fun d h1 h2 => hp d h1 (by omega))]
      rfl
theorem ws_cnt_congr {p q : Nat → Bool} : ∀ {n : Nat}, (∀ d, d < n → p d = q d) → ws_cnt p n = ws_cnt q n := by
  intro n
  induction n with
  | zero => intro _; rfl
  | succ n ih =>
    intro h
    show ws_cnt p n + (if p n = true then 1 else 0) = ws_cnt q n + (if q n = true then 1 else 0)
    rw [ih (fun d hd => h d (by omega)), h n (by omega)]
def ws_sum (f : Nat → Nat) : Nat → Nat
  | 0 => 0
  | k + 1 => ws_sum f k + f k
theorem ws_sum_congr {f g : Nat → Nat} : ∀ {n : Nat}, (∀ d, d < n → f d = g d) → ws_sum f n = ws_sum g n := by
  intro n
  induction n with
  | zero => intro _; rfl
  | succ n ih =>
    intro h
    show ws_sum f n + f n = ws_sum g n + g n
    rw [ih (fun d hd => h d (by omega)), h n (by omega)]
theorem ws_sum_le {f g : Nat → Nat} : ∀ {n : Nat}, (∀ d, d < n → f d ≤ g d) → ws_sum f n ≤ ws_sum g n := by
  intro n
  induction n with
  | zero => intro _; exact Nat.le_refl 0
  | succ n ih =>
    intro h
    exact Nat.add_le_add (ih (fun d hd => h d (by omega))) (h n (by omega))
theorem ws_sum_bd {f : Nat → Nat} {B : Nat} : ∀ {n : Nat}, (∀ d, d < n → f d ≤ B) → ws_sum f n ≤ n * B := by
  intro n
  induction n with
  | zero => intro _; exact Nat.zero_le _
  | succ n ih =>
    intro h
    have h1 := ih (fun d hd => h d (by omega))
    have h2 := h n (by omega)
    show ws_sum f n + f n ≤ (n + 1) * B
    rw [Nat.succ_mul]; omega
theorem ws_sum_rev8 (f : Nat → Nat) : ws_sum (fun t => f (7 - t)) 8 = ws_sum f 8 := by
  show 0 + f 7 + f 6 + f 5 + f 4 + f 3 + f 2 + f 1 + f 0 = 0 + f 0 + f 1 + f 2 + f 3 + f 4 + f 5 + f 6 + f 7
  omega
def ws_st (k l : Nat) : Nat := 256 * k / (k + 2 + l / 4)
theorem ws_st_le (k l : Nat) : ws_st k l ≤ 256 := by
  refine Nat.div_le_of_le_mul ?_
  rw [Nat.mul_comm 256 k]
  exact Nat.mul_le_mul_right 256 (by omega)
theorem ws_st_0 (l : Nat) : ws_st 0 l = 0 := by unfold ws_st; rw [Nat.mul_zero, Nat.zero_div]
/-! ===== rising rows ===== -/
theorem ws_mono {e : Nat} {R : Nat → Nat} (h : ∀ i, i < e → R i < R (i + 1)) : ∀ j i, i ≤ j → j ≤ e → R i + (j - i) ≤ R j := by
  intro j
  induction j with
  | zero => intro i hi _; rw [show i = 0 by omega]; exact Nat.le_refl _
  | succ j ih =>
    intro i hi hj
    by_cases e : i = j + 1
    · rw [e]; omega
    · have h1 := ih i (by omega) (by omega)
      have h2 := h j (by omega)
      omega
theorem ws_nogap {e : Nat} {R : Nat → Nat} (h : ∀ i, i < e → R i < R (i + 1)) {i j d : Nat} (hi : i < e) (hj : j < e) (h1 : R i ≤ d) (h2 : d + 1 < R (i + 1)) (hd : R (j + 1) = d + 1) : False := by
  rcases Nat.lt_or_ge j i with g | g
  · have := ws_mono h i (j + 1) (by omega) (by omega)
    omega
  · have := ws_mono h (j + 1) (i + 1) (by omega) (by omega)
    omega
/-- the first place of a row that has a mark, or its end -/
def ws_fd (q : Nat → Bool) : Nat → Nat
  | 0 => 0
  | k + 1 => if ws_fd q k < k then ws_fd q k else if q k = true then k else k + 1
theorem ws_fd_le (q : Nat → Bool) : ∀ k, ws_fd q k ≤ k := by
  intro k
  induction k with
  | zero => exact Nat.le_refl 0
  | succ k ih =>
    show (if ws_fd q k < k then ws_fd q k else if q k = true then k else k + 1) ≤ k + 1
    split
    · omega
    · split <;> omega
theorem ws_fd_hit {q : Nat → Bool} {k : Nat} (h0 : ws_fd q k = k) (hk : q k = true) : ∀ m, k < m → ws_fd q m = k := by
  intro m
  induction m with
  | zero => intro h; omega
  | succ m ih =>
    intro h
    show (if ws_fd q m < m then ws_fd q m else if q m = true then m else m + 1) = k
    by_cases e : k = m
    · subst e
      rw [h0, if_neg (Nat.lt_irrefl k), if_pos hk]
    · rw [ih (by omega), if_pos (by omega)]
theorem ws_fd_miss {q : Nat → Bool} {k : Nat} (h0 : ws_fd q k = k) (hk : ¬ q k = true) : ws_fd q (k + 1) = k + 1 := by
  show (if ws_fd q k < k then ws_fd q k else if q k = true then k else k + 1) = k + 1
  rw [h0, if_neg (Nat.lt_irrefl k), if_neg hk]
theorem ws_fd_congr {p q : Nat → Bool} : ∀ {n : Nat}, (∀ d, d < n → p d = q d) → ws_fd p n = ws_fd q n := by
  intro n
  induction n with
  | zero => intro _; rfl
  | succ n ih =>
    intro h
    show (if ws_fd p n < n then ws_fd p n else if p n = true then n else n + 1) = (if ws_fd q n < n then ws_fd q n else if q n = true then n else n + 1)
    rw [ih (fun d hd => h d (by omega)), h n (by omega)]
/-- the least of a row, 1000 if it is empty -/
def ws_min (x : Nat → Nat) : Nat → Nat
  | 0 => 1000
  | k + 1 => if ws_min x k ≤ x k then ws_min x k else x k
theorem ws_min_le (x : Nat → Nat) : ∀ l k, k < l → ws_min x l ≤ x k := by
  intro l
  induction l with
  | zero => intro k h; omega
  | succ l ih =>
    intro k h
    show (if ws_min x l ≤ x l then ws_min x l else x l) ≤ x k
    by_cases e : k = l
    · subst e; split <;> omega
    · have := ih k (by omega)
      split <;> omega
theorem ws_min_1000 (x : Nat → Nat) : ∀ l, ws_min x l ≤ 1000 := by
  intro l
  induction l with
  | zero => exact Nat.le_refl _
  | succ l ih =>
    show (if ws_min x l ≤ x l then ws_min x l else x l) ≤ 1000
    split <;> omega
theorem ws_min_at (x : Nat → Nat) : ∀ l, ws_min x l = 1000 ∨ ∃ k, k < l ∧ ws_min x l = x k := by
  intro l
  induction l with
  | zero => exact Or.inl rfl
  | succ l ih =>
    show (if ws_min x l ≤ x l then ws_min x l else x l) = 1000 ∨ ∃ k, k < l + 1 ∧ (if ws_min x l ≤ x l then ws_min x l else x l) = x k
    split
    · rcases ih with h | ⟨k, h1, h2⟩
      · exact Or.inl h
      · exact Or.inr ⟨k, by omega, h2⟩
    · exact Or.inr ⟨l, by omega, rfl⟩
end
section
/-! ===== the picture ===== -/
/-- one word's list: e entries, R i = 1 + the document of the entry ahead of i -/
def ws_LW (n t : Nat) (c : Nat → Nat) (e : Nat) (R : Nat → Nat) (a1 a2 : Nat → Int32) : Prop :=
  a2 t = nI (2 * e) ∧ R 0 = 0 ∧ R e ≤ n ∧ ∀ i, i < e → R i < R (i + 1) ∧ a1 (48 * t + 2 * i) = nI (R (i + 1) - R i) ∧ a1 (48 * t + 2 * i + 1) = nI (c (R (i + 1) - 1)) ∧ 0 < c (R (i + 1) - 1)
/-- a word's list holds every live document that has the word -/
def ws_LC (n : Nat) (av : Int32) (c : Nat → Nat) (e : Nat) (R : Nat → Nat) : Prop := ∀ d, d < n → ws_bt av d = true → 0 < c d → ∃ i, i < e ∧ R (i + 1) = d + 1
def ws_L (n : Nat) (av : Int32) (c : Nat → Nat → Nat) (e : Nat → Nat) (R : Nat → Nat → Nat) (a1 a2 : Nat → Int32) : Prop :=
  ∀ t, t < 8 → ws_LW n t (fun d => c d t) (e t) (R t) a1 a2 ∧ ws_LC n av (fun d => c d t) (e t) (R t)
/-- counts and lengths of the documents -/
def ws_D (n : Nat) (c : Nat → Nat → Nat) (ln : Nat → Nat) (a3 a4 : Nat → Int32) : Prop :=
  ∀ d, d < n → (∀ t, t < 8 → c d t ≤ 7 ∧ a3 (8 * d + t) = nI (c d t)) ∧ ln d ≤ 56 ∧ a4 d = nI (ln d)
/-- the query's items -/
def ws_T (m : Nat) (iw ib : Nat → Nat) (a6 a7 : Nat → Int32) : Prop :=
  m ≤ 5 ∧ ∀ k, k < m → iw k < 8 ∧ ib k ≤ 19 ∧ a6 k = nI (iw k) ∧ a7 k = nI (ib k)
def ws_W (w : Nat → Nat) (a5 : Nat → Int32) : Prop := ∀ t, t < 8 → w t ≤ 7 ∧ a5 t = nI (w t)
/-- live and has the word -/
def ws_p (n : Nat) (av : Int32) (c : Nat → Nat → Nat) (t d : Nat) : Prop := d < n ∧ ws_bt av d = true ∧ 0 < c d t
def ws_sp (n : Nat) (av : Int32) (c : Nat → Nat → Nat) (t : Nat) : Nat := ws_cnt (fun d => ws_bt av d && decide (0 < c d t)) n
/-- matches: no barred word, all needed ones, one that is wanted or needed -/
def ws_M (m : Nat) (ib : Nat → Nat) (hs : Nat → Prop) : Prop :=
  (∀ k, k < m → ¬ ((ib k = 0 ∧ hs k) ∨ (10 < ib k ∧ ¬ hs k))) ∧ ∃ k, k < m ∧ 0 < ib k ∧ hs k
section
variable {n m : Nat} {av la fo : Int32} {a1 a2 a3 a4 a5 a6 a7 a8 a9 a10 a11 a12 a13 a14 a15 : Nat → Int32} {c : Nat → Nat → Nat} {ln iw ib w : Nat → Nat} {e : Nat → Nat} {R : Nat → Nat → Nat} {post : Int32 → Prop}
theorem ws_strength {k l : Nat} (hk : k ≤ 1000) (hl : l ≤ 1000) (H : post (nI (ws_st k l))) : wpX_strength post () (nI k) (nI l) := by
  have e1 : ((nI k + 2) + (nI l / 4)) = nI (k + 2 + l / 4) := by
    rw [show (4 : Int32) = nI 4 from rfl, pk_div (by omega) (by omega) (by omega), show (2 : Int32) = nI 2 from rfl, nI_add, nI_add]
  have e2 : (256 * nI k) / ((nI k + 2) + (nI l / 4)) = nI (ws_st k l) := by
    rw [e1, show (256 : Int32) = nI 256 from rfl, pk_mul, pk_div (by omega) (by omega) (by omega)]; rfl
  refine pk_lt 0 k (fun z => ⟨by decide, by rw [e1]; exact nI_ne0 (by omega) (by omega), by rw [e2]; exact H⟩) (fun z => ?_)
  have hk0 : k = 0 := by omega
  subst hk0
  rw [ws_st_0] at H
  exact H
theorem ws_isLive {d : Nat} (hd : d < 2 ^ 31) (hn : n ≤ 24) (H1 : d < n → ws_bt av d = true → post 1) (H0 : ¬ (d < n ∧ ws_bt av d = true) → post 0) : wpX_isLive post ((nI n), av, (nI m), la, fo, a1, a2, a3, a4, a5, a6, a7, a8, a9, a10, a11, a12, a13, a14, a15) (nI d) := by
  refine br_f (nI_pos hd) (pk_le n d (fun z => H0 (fun q => absurd q.1 (by omega))) (fun z => ?_))
  by_cases hb : ws_bt av d = true
  · exact br_t (by rw [ws_bit av (by omega), if_pos hb]; rfl) (H1 z hb)
  · exact br_f (by rw [ws_bit av (by omega), if_neg hb]; decide) (H0 (fun q => hb q.2))
theorem ws_liveCount (hn : n ≤ 24) (H : post (nI (ws_cnt (ws_bt av) n))) : wpX_liveCount post ((nI n), av, (nI m), la, fo, a1, a2, a3, a4, a5, a6, a7, a8, a9, a10, a11, a12, a13, a14, a15) :=
  pk_loop (σ := Unit) (fun fu i _ => wX_liveCount_4 post (nI n) av (nI m) la fo a1 a2 a3 a4 a5 a6 a7 a8 a9 a10 a11 a12 a13 a14 a15 fu (nI (ws_cnt (ws_bt av) i)) (nI i)) (fun _ _ => True) n 0 () (by omega) trivial
    (fun fu _ _ => pk_le n n (fun _ => H) (fun z => absurd z (by omega)))
    (fun fu i _ hi _ hw => pk_le n i (fun z => absurd z (by omega)) (fun _ => nm_r (by rw [ws_bit av (by omega), nI_add]; rfl) (nm_r (nI_1 i) (hw () trivial))))
/-! matches -/
theorem ws_m72 {J : Int32 → Int32 → Prop} {x1 x2 : Int32} {k b z : Nat} (hk : k < 5) (hb : a7 k = nI b) (hb2 : b ≤ 19) (hz : z < 2) (hx : x2 = 0 ∨ x2 = 1)
    (H : ∀ y, (y = 0 ∧ x2 = 0 ∧ ¬ (0 < b ∧ z = 1)) ∨ (y = 1 ∧ (x2 = 1 ∨ (0 < b ∧ z = 1))) → J y (nI (k + 1))) : wX_matches_72 post J x1 x2 (nI k) (nI z) (nI n) av (nI m) la fo a1 a2 a3 a4 a5 a6 a7 a8 a9 a10 a11 a12 a13 a14 a15 := by
  have hb' : a7 (nI k).toNatClampNeg = nI b := by rw [nI_clamp (by omega)]; exact hb
  rcases hx with h | h
  · subst h
    refine br_t rfl ⟨pk_in k 5 hk, ?_⟩
    refine pk_le b 0 (fun g => nm_r (nI_1 k) (H 0 (Or.inl ⟨rfl, rfl, fun q => absurd q.1 (by omega)⟩))) (fun g => ?_) hb'
    refine pk_eq z 0 (fun g2 => nm_r (nI_1 k) (H 0 (Or.inl ⟨rfl, rfl, fun q => absurd q.2 (by omega)⟩))) (fun g2 => nm_r (nI_1 k) (H 1 (Or.inr ⟨rfl, Or.inr ⟨g, by omega⟩⟩)))
  · subst h
    exact br_f (by decide) (nm_r (nI_1 k) (H 1 (Or.inr ⟨rfl, Or.inl rfl⟩)))
theorem ws_m36 {J : Int32 → Int32 → Prop} {x1 x2 : Int32} {k b z : Nat} (hk : k < 5) (hb : a7 k = nI b) (hb2 : b ≤ 19) (hz : z < 2) (hx : x2 = 0 ∨ x2 = 1)
    (H0 : (b = 0 ∧ z = 1) ∨ (10 < b ∧ z = 0) → post 0)
    (H : ¬ ((b = 0 ∧ z = 1) ∨ (10 < b ∧ z = 0)) → ∀ y, (y = 0 ∧ x2 = 0 ∧ ¬ (0 < b ∧ z = 1)) ∨ (y = 1 ∧ (x2 = 1 ∨ (0 < b ∧ z = 1))) → J y (nI (k + 1))) : wX_matches_36 post J x1 x2 (nI k) (nI z) (nI n) av (nI m) la fo a1 a2 a3 a4 a5 a6 a7 a8 a9 a10 a11 a12 a13 a14 a15 := by
  have hb' : a7 (nI k).toNatClampNeg = nI b := by rw [nI_clamp (by omega)]; exact hb
  have h54 : ¬ (b = 0 ∧ z = 1) → wX_matches_54 post J x1 x2 (nI k) (nI z) (nI n) av (nI m) la fo a1 a2 a3 a4 a5 a6 a7 a8 a9 a10 a11 a12 a13 a14 a15 := by
    intro hz1
    refine ⟨pk_in k 5 hk, pk_le b 10 (fun g => ws_m72 hk hb hb2 hz hx (H (by omega))) (fun g => ?_) hb'⟩
    exact pk_eq z 0 (fun g2 => H0 (Or.inr ⟨g, g2⟩)) (fun g2 => ws_m72 hk hb hb2 hz hx (H (by omega)))
  refine ⟨pk_in k 5 hk, pk_eq b 0 (fun g => ?_) (fun g => h54 (by omega)) hb'⟩
  exact pk_eq z 0 (fun g2 => h54 (by omega)) (fun g2 => H0 (Or.inl ⟨g, by omega⟩))
theorem ws_matches {d : Nat} (hd : d < n) (hn : n ≤ 24) (hD : ws_D n c ln a3 a4) (hT : ws_T m iw ib a6 a7)
    (H1 : ws_M m ib (fun k => 0 < c d (iw k)) → post 1) (H0 : ¬ ws_M m ib (fun k => 0 < c d (iw k)) → post 0) : wpX_matches post ((nI n), av, (nI m), la, fo, a1, a2, a3, a4, a5, a6, a7, a8, a9, a10, a11, a12, a13, a14, a15) (nI d) := by
  obtain ⟨hm, hT⟩ := hT
  refine pk_loop (fun fu i s => wX_matches_4 post (nI d) (nI n) av (nI m) la fo a1 a2 a3 a4 a5 a6 a7 a8 a9 a10 a11 a12 a13 a14 a15 fu s (nI i))
    (fun i s => (∀ k, k < i → ¬ ((ib k = 0 ∧ 0 < c d (iw k)) ∨ (10 < ib k ∧ ¬ 0 < c d (iw k)))) ∧ ((s = 0 ∧ ¬ ∃ k, k < i ∧ 0 < ib k ∧ 0 < c d (iw k)) ∨ (s = 1 ∧ ∃ k, k < i ∧ 0 < ib k ∧ 0 < c d (iw k)))) m 0 0 (by omega)
    ⟨fun k h => absurd h (by omega), Or.inl ⟨rfl, fun ⟨k, h, _⟩ => absurd h (by omega)⟩⟩ ?_ ?_
  · intro fu s h
    refine pk_le m m (fun _ => ?_) (fun z => absurd z (by omega))
    rcases h.2 with ⟨e1, h2⟩ | ⟨e1, h2⟩
    · subst e1
      exact ⟨by decide, H0 (fun q => h2 q.2)⟩
    · subst e1
      exact ⟨by decide, H1 ⟨h.1, h2⟩⟩
  · intro fu i s hi h hw
    obtain ⟨t1, t2, t3, t4⟩ := hT i hi
    obtain ⟨d1, _, _⟩ := hD d hd
    obtain ⟨d2, d3⟩ := d1 (iw i) t1
    have e6 : a6 (nI i).toNatClampNeg = nI (iw i) := by rw [nI_clamp (by omega)]; exact t3
    have ex : (8 * nI d) + (a6 (nI i).toNatClampNeg) = nI (8 * d + iw i) := by rw [e6]; exact ws_ix 8 d (iw i)
    have e3 : a3 ((8 * nI d) + (a6 (nI i).toNatClampNeg)).toNatClampNeg = nI (c d (iw i)) := by rw [ex, nI_clamp (by omega)]; exact d3
    have hx : s = 0 ∨ s = 1 := h.2.elim (fun q => Or.inl q.1) (fun q => Or.inr q.1)
    have key : ∀ z, z < 2 → (z = 1 ↔ 0 < c d (iw i)) → wX_matches_36 post (wX_matches_4 post (nI d) (nI n) av (nI m) la fo a1 a2 a3 a4 a5 a6 a7 a8 a9 a10 a11 a12 a13 a14 a15 fu) (nI d) s (nI i) (nI z) (nI n) av (nI m) la fo a1 a2 a3 a4 a5 a6 a7 a8 a9 a10 a11 a12 a13 a14 a15 := by
      intro z hz hzc
      refine ws_m36 (by omega) t4 t2 hz hx (fun q => H0 (fun M => M.1 i hi ?_)) (fun q y hy => hw y ⟨?_, ?_⟩)
      · rcases q with q | q
        · exact Or.inl ⟨q.1, hzc.mp q.2⟩
        · exact Or.inr ⟨q.1, fun g => absurd (hzc.mpr g) (by omega)⟩
      · refine lt_s h.1 (fun g => q ?_)
        rcases g with g | g
        · exact Or.inl ⟨g.1, hzc.mpr g.2⟩
        · refine Or.inr ⟨g.1, ?_⟩
          rcases Nat.lt_or_ge z 1 with r | r
          · omega
          · exact absurd (hzc.mp (by omega)) g.2
      · rcases hy with ⟨y0, x0, ng⟩ | ⟨y1, g⟩
        · refine Or.inl ⟨y0, fun ⟨k, k1, k2, k3⟩ => ?_⟩
          by_cases ek : k = i
          · subst ek; exact ng ⟨k2, hzc.mpr k3⟩
          · rcases h.2 with ⟨_, q2⟩ | ⟨q1, _⟩
            · exact q2 ⟨k, by omega, k2, k3⟩
            · rw [x0] at q1; exact absurd q1 (by decide)
        · refine Or.inr ⟨y1, ?_⟩
          rcases g with g | ⟨g1, g2⟩
          · rcases h.2 with ⟨q1, _⟩ | ⟨_, k, k1, k2, k3⟩
            · rw [g] at q1; exact absurd q1 (by decide)
            · exact ⟨k, by omega, k2, k3⟩
          · exact ⟨i, by omega, g1, hzc.mp g2⟩
    refine pk_le m i (fun z => absurd z (by omega)) (fun _ => ⟨pk_in i 5 (by omega), pk_in (8 * d + iw i) 192 (by omega) ex, ?_⟩)
    exact pk_le (c d (iw i)) 0 (fun g => key 0 (by omega) (by omega)) (fun g => key 1 (by omega) (by omega)) e3
theorem ws_matching {q : Nat → Bool} (hn : n ≤ 24) (hD : ws_D n c ln a3 a4) (hT : ws_T m iw ib a6 a7)
    (hq : ∀ d, d < n → (q d = true ↔ (ws_bt av d = true ∧ ws_M m ib (fun k => 0 < c d (iw k)))))
    (H : post (nI (ws_cnt q n))) : wpX_matching post ((nI n), av, (nI m), la, fo, a1, a2, a3, a4, a5, a6, a7, a8, a9, a10, a11, a12, a13, a14, a15) := by
  refine pk_loop (σ := Unit) (fun fu i _ => wX_matching_4 post (nI n) av (nI m) la fo a1 a2 a3 a4 a5 a6 a7 a8 a9 a10 a11 a12 a13 a14 a15 fu (nI (ws_cnt q i)) (nI i)) (fun _ _ => True) n 0 () (by omega) trivial
    (fun fu _ _ => pk_le n n (fun _ => H) (fun z => absurd z (by omega))) ?_
  intro fu i _ hi _ hw
  have e0 : ¬ q i = true → nI (ws_cnt q i) + 0 = nI (ws_cnt q (i + 1)) := by
    intro h
    show nI (ws_cnt q i) + 0 = nI (ws_cnt q i + if q i = true then 1 else 0)
    rw [if_neg h]; exact nI_add _ 0
  have e1 : q i = true → nI (ws_cnt q i) + 1 = nI (ws_cnt q (i + 1)) := by
    intro h
    show nI (ws_cnt q i) + 1 = nI (ws_cnt q i + if q i = true then 1 else 0)
    rw [if_pos h]; exact nI_add _ 1
  refine pk_le n i (fun z => absurd z (by omega)) (fun _ => ws_isLive (by omega) hn (fun _ hb => ?_) (fun hb => ?_))
  · refine br_f (by decide) (ws_matches hi hn hD hT (fun hM => ?_) (fun hM => ?_))
    · exact br_f (by decide) (nm_r (e1 ((hq i hi).mpr ⟨hb, hM⟩)) (nm_r (nI_1 i) (hw () trivial)))
    · exact br_t rfl (nm_r (e0 (fun g => hM ((hq i hi).mp g).2)) (nm_r (nI_1 i) (hw () trivial)))
  · exact br_t rfl (nm_r (e0 (fun g => hb ⟨hi, ((hq i hi).mp g).1⟩)) (nm_r (nI_1 i) (hw () trivial)))
/-! the lists -/
theorem ws_spreadOf {t : Nat} (ht : t < 8) (hn : n ≤ 24) (hL : ws_L n av c e R a1 a2) (H : post (nI (ws_sp n av c t))) : wpX_spreadOf post ((nI n), av, (nI m), la, fo, a1, a2, a3, a4, a5, a6, a7, a8, a9, a10, a11, a12, a13, a14, a15) (nI t) := by
  obtain ⟨⟨h2, hR0, hRe, hW⟩, hC⟩ := hL t ht
  have hm : ∀ i, i < e t → R t i < R t (i + 1) := fun i hi => (hW i hi).1
  have he : e t ≤ n := by have := ws_mono hm (e t) 0 (by omega) (by omega); omega
  have h2' : a2 (nI t).toNatClampNeg = nI (2 * e t) := by rw [nI_clamp (by omega)]; exact h2
  have fin : ws_cnt (fun d => ws_bt av d && decide (0 < c d t)) n = ws_cnt (fun d => ws_bt av d && decide (0 < c d t)) (R t (e t)) := by
    refine ws_cnt_flat hRe (fun d d1 d2 => Bool.eq_false_iff.mpr (fun g => ?_))
    obtain ⟨g1, g2⟩ := (Bool.and_eq_true _ _).mp g
    obtain ⟨j, j1, j2⟩ := hC d d2 g1 (of_decide_eq_true g2)
    have := ws_mono hm (e t) (j + 1) (by omega) (by omega)
    omega
  have k := pk_loop (σ := Unit) (fun fu i _ => wX_spreadOf_7 post (nI t) (nI n) av (nI m) la fo a1 a2 a3 a4 a5 a6 a7 a8 a9 a10 a11 a12 a13 a14 a15 fu (nI (R t i) - 1) (nI (ws_cnt (fun d => ws_bt av d && decide (0 < c d t)) (R t i))) (nI (2 * i))) (fun _ _ => True) (e t) 0 () (by omega) trivial
    (fun fu _ _ => ⟨pk_in t 8 ht, pk_le (2 * e t) (2 * e t) (fun _ => by rw [← fin]; exact H) (fun z => absurd z (by omega)) h2'⟩)
    (fun fu i _ hi _ hw => by
      obtain ⟨w1, w2, w3, w4⟩ := hW i hi
      have hb := ws_mono hm (e t) (i + 1) (by omega) (by omega)
      have ex : (48 * nI t) + nI (2 * i) = nI (48 * t + 2 * i) := ws_ix 48 t (2 * i)
      have s1 : (nI (R t i) - 1) + (a1 ((48 * nI t) + nI (2 * i)).toNatClampNeg) = nI (R t (i + 1)) - 1 := by rw [ex, nI_clamp (by omega), w2]; exact ws_run (by omega)
      have s2 : nI (ws_cnt (fun d => ws_bt av d && decide (0 < c d t)) (R t i)) + ((av >>> ((nI (R t (i + 1)) - 1) &&& 31)) &&& 1) = nI (ws_cnt (fun d => ws_bt av d && decide (0 < c d t)) (R t (i + 1))) := by
        rw [ws_pre (by omega), ws_bit av (by omega), nI_add]
        congr 1
        have e1 : R t (i + 1) = (R t (i + 1) - 1) + 1 := by omega
        have e2 : ws_cnt (fun d => ws_bt av d && decide (0 < c d t)) (R t (i + 1) - 1) = ws_cnt (fun d => ws_bt av d && decide (0 < c d t)) (R t i) := by
          refine ws_cnt_flat (by omega) (fun d d1 d2 => Bool.eq_false_iff.mpr (fun g => ?_))
          obtain ⟨g1, g2⟩ := (Bool.and_eq_true _ _).mp g
          obtain ⟨j, j1, j2⟩ := hC d (by omega) g1 (of_decide_eq_true g2)
          exact ws_nogap hm hi j1 d1 (by omega) j2
        rw [← e2]
        conv => rhs; rw [e1]
        show _ = ws_cnt _ (R t (i + 1) - 1) + if (ws_bt av (R t (i + 1) - 1) && decide (0 < c (R t (i + 1) - 1) t)) = true then 1 else 0
        rw [decide_eq_true w4, Bool.and_true]
      exact ⟨pk_in t 8 ht, pk_le (2 * e t) (2 * i) (fun z => absurd z (by omega)) (fun _ => ⟨pk_in (48 * t + 2 * i) 384 (by omega) ex, nm_r s1 (nm_r s2 (nm_r (nI_add (2 * i) 2) (hw () trivial)))⟩) h2'⟩)
  obtain ⟨fu, k⟩ := k
  refine ⟨fu, ?_⟩
  rw [hR0] at k
  exact k
theorem ws_lastOf {t : Nat} (ht : t < 8) (hn : n ≤ 24) {e1 : Nat} {R1 c1 : Nat → Nat} (hL : ws_LW n t c1 e1 R1 a1 a2) {ad im : Int32} (H : post (nI (R1 e1) - 1)) : wpX_lastOf post (ad, av, im, la, fo, a1, a2, a3, a4, a5, a6, a7, a8, a9, a10, a11, a12, a13, a14, a15) (nI t) := by
  obtain ⟨h2, hR0, hRe, hW⟩ := hL
  have hm : ∀ i, i < e1 → R1 i < R1 (i + 1) := fun i hi => (hW i hi).1
  have he : e1 ≤ n := by have := ws_mono hm e1 0 (by omega) (by omega); omega
  have h2' : a2 (nI t).toNatClampNeg = nI (2 * e1) := by rw [nI_clamp (by omega)]; exact h2
  have k := pk_loop (σ := Unit) (fun fu i _ => wX_lastOf_4 post (nI t) ad av im la fo a1 a2 a3 a4 a5 a6 a7 a8 a9 a10 a11 a12 a13 a14 a15 fu (nI (R1 i) - 1) (nI (2 * i))) (fun _ _ => True) e1 0 () (by omega) trivial
    (fun fu _ _ => ⟨pk_in t 8 ht, pk_le (2 * e1) (2 * e1) (fun _ => H) (fun z => absurd z (by omega)) h2'⟩)
    (fun fu i _ hi _ hw => by
      obtain ⟨w1, w2, w3, w4⟩ := hW i hi
      have ex : (48 * nI t) + nI (2 * i) = nI (48 * t + 2 * i) := ws_ix 48 t (2 * i)
      have s1 : (nI (R1 i) - 1) + (a1 ((48 * nI t) + nI (2 * i)).toNatClampNeg) = nI (R1 (i + 1)) - 1 := by rw [ex, nI_clamp (by omega), w2]; exact ws_run (by omega)
      exact ⟨pk_in t 8 ht, pk_le (2 * e1) (2 * i) (fun z => absurd z (by omega)) (fun _ => ⟨pk_in (48 * t + 2 * i) 384 (by omega) ex, nm_r s1 (nm_r (nI_add (2 * i) 2) (hw () trivial))⟩) h2'⟩)
  obtain ⟨fu, k⟩ := k
  refine ⟨fu, ?_⟩
  rw [hR0] at k
  exact k
theorem ws_greatest {t : Nat} (ht : t < 8) (hn : n ≤ 24) (hD : ws_D n c ln a3 a4) (hL : ws_L n av c e R a1 a2)
    (H : ∀ g, g ≤ 256 → (∀ d, d < n → ws_bt av d = true → ws_st (c d t) (ln d) ≤ g) → post (nI g)) : wpX_greatest post ((nI n), av, (nI m), la, fo, a1, a2, a3, a4, a5, a6, a7, a8, a9, a10, a11, a12, a13, a14, a15) (nI t) := by
  obtain ⟨⟨h2, hR0, hRe, hW⟩, hC⟩ := hL t ht
  have hm : ∀ i, i < e t → R t i < R t (i + 1) := fun i hi => (hW i hi).1
  have he : e t ≤ n := by have := ws_mono hm (e t) 0 (by omega) (by omega); omega
  have h2' : a2 (nI t).toNatClampNeg = nI (2 * e t) := by rw [nI_clamp (by omega)]; exact h2
  have k := pk_loop (σ := Int32) (fun fu i s => wX_greatest_7 post (nI t) (nI n) av (nI m) la fo a1 a2 a3 a4 a5 a6 a7 a8 a9 a10 a11 a12 a13 a14 a15 fu (nI (R t i) - 1) s (nI (2 * i))) (fun i s => ∃ g, s = nI g ∧ g ≤ 256 ∧ ∀ j, j < i → ws_st (c (R t (j + 1) - 1) t) (ln (R t (j + 1) - 1)) ≤ g) (e t) 0 0 (by omega) ⟨0, rfl, by omega, fun j hj => absurd hj (by omega)⟩
    (fun fu s hs => by
      obtain ⟨g, e1, g2, g3⟩ := hs
      subst e1
      refine ⟨pk_in t 8 ht, pk_le (2 * e t) (2 * e t) (fun _ => H g g2 (fun d d1 d2 => ?_)) (fun z => absurd z (by omega)) h2'⟩
      rcases Nat.eq_zero_or_pos (c d t) with q | q
      · rw [q, ws_st_0]; exact Nat.zero_le _
      · obtain ⟨j, j1, j2⟩ := hC d d1 d2 q
        have := g3 j j1
        rw [j2] at this
        exact this)
    (fun fu i s hi hs hw => by
      obtain ⟨g, e1, g2, g3⟩ := hs
      subst e1
      obtain ⟨w1, w2, w3, w4⟩ := hW i hi
      have hb := ws_mono hm (e t) (i + 1) (by omega) (by omega)
      have hdn : R t (i + 1) - 1 < n := by omega
      obtain ⟨d1, d2, d3⟩ := hD _ hdn
      have d4 := (d1 t ht).1
      have ex : (48 * nI t) + nI (2 * i) = nI (48 * t + 2 * i) := ws_ix 48 t (2 * i)
      have ex1 : (48 * nI t) + nI (2 * i) + 1 = nI (48 * t + 2 * i + 1) := by rw [ex, nI_1]
      have s1 : (nI (R t i) - 1) + (a1 ((48 * nI t) + nI (2 * i)).toNatClampNeg) = nI (R t (i + 1)) - 1 := by rw [ex, nI_clamp (by omega), w2]; exact ws_run (by omega)
      have s2 : nI (R t (i + 1)) - 1 = nI (R t (i + 1) - 1) := ws_pre (by omega)
      have x1 : a1 (((48 * nI t) + nI (2 * i)) + 1).toNatClampNeg = nI (c (R t (i + 1) - 1) t) := by rw [ex1, nI_clamp (by omega)]; exact w3
      have x2 : a4 (nI (R t (i + 1)) - 1).toNatClampNeg = nI (ln (R t (i + 1) - 1)) := by rw [s2, nI_clamp (by omega)]; exact d3
      refine ⟨pk_in t 8 ht, pk_le (2 * e t) (2 * i) (fun z => absurd z (by omega)) (fun _ => ⟨pk_in (48 * t + 2 * i) 384 (by omega) ex, nm_r s1 ⟨pk_in (48 * t + 2 * i + 1) 384 (by omega) ex1, pk_in (R t (i + 1) - 1) 24 (by omega) s2, ?_⟩⟩) h2'⟩
      rw [x1, x2]
      refine ws_strength (by omega) (by omega) ?_
      have hst := ws_st_le (c (R t (i + 1) - 1) t) (ln (R t (i + 1) - 1))
      refine pk_le (ws_st (c (R t (i + 1) - 1) t) (ln (R t (i + 1) - 1))) g (fun q => nm_r (nI_add (2 * i) 2) (hw _ ⟨g, rfl, g2, lt_s g3 q⟩)) (fun q => nm_r (nI_add (2 * i) 2) (hw _ ⟨_, rfl, hst, lt_s (fun j hj => ?_) (Nat.le_refl _)⟩))
      have := g3 j hj
      omega)
  obtain ⟨fu, k⟩ := k
  refine ⟨fu, ?_⟩
  rw [hR0] at k
  exact k
/-! the lanes -/
theorem ws_leastDocument {l : Nat} {x : Nat → Nat} (hl : l ≤ 5) (hx : ∀ k, k < l → x k ≤ 1000 ∧ a9 k = nI (x k)) (H : post (nI (ws_min x l))) : wpX_leastDocument post ((nI n), av, (nI m), nI l, fo, a1, a2, a3, a4, a5, a6, a7, a8, a9, a10, a11, a12, a13, a14, a15) := by
  refine pk_loop (σ := Unit) (fun fu i _ => wX_leastDocument_6 post (nI n) av (nI m) (nI l) fo a1 a2 a3 a4 a5 a6 a7 a8 a9 a10 a11 a12 a13 a14 a15 fu (nI (ws_min x i)) (nI i)) (fun _ _ => True) l 0 () (by omega) trivial
    (fun fu _ _ => pk_le l l (fun _ => H) (fun z => absurd z (by omega))) ?_
  intro fu i _ hi _ hw
  have hw := hw () trivial
  have e9 : a9 (nI i).toNatClampNeg = nI (x i) := by rw [nI_clamp (by omega)]; exact (hx i hi).2
  have b1 := (hx i hi).1
  have b2 := ws_min_1000 x i
  have es : ws_min x (i + 1) = if ws_min x i ≤ x i then ws_min x i else x i := rfl
  refine pk_le l i (fun z => absurd z (by omega)) (fun _ => ⟨pk_in i 5 (by omega), pk_le (ws_min x i) (x i) (fun g => nm_r (nI_1 i) ?_) (fun g => ⟨pk_in i 5 (by omega), nm_r e9 (nm_r (nI_1 i) ?_)⟩) rfl e9⟩)
  · rw [es, if_pos g] at hw; exact hw
  · rw [es, if_neg (by omega)] at hw; exact hw
theorem ws_scoreOf {d l : Nat} {tw wt : Nat → Nat} (hl : l ≤ 5) (hd : d < n) (hn : n ≤ 24) (hD : ws_D n c ln a3 a4)
    (hx : ∀ k, k < l → tw k < 8 ∧ a13 k = nI (tw k) ∧ a11 k = nI (wt k)) (H : post (nI (ws_sum (fun j => wt j * ws_st (c d (tw j)) (ln d)) l))) : wpX_scoreOf post ((nI n), av, (nI m), nI l, fo, a1, a2, a3, a4, a5, a6, a7, a8, a9, a10, a11, a12, a13, a14, a15) (nI d) := by
  refine pk_loop (σ := Unit) (fun fu i _ => wX_scoreOf_4 post (nI d) (nI n) av (nI m) (nI l) fo a1 a2 a3 a4 a5 a6 a7 a8 a9 a10 a11 a12 a13 a14 a15 fu (nI (ws_sum (fun j => wt j * ws_st (c d (tw j)) (ln d)) i)) (nI i)) (fun _ _ => True) l 0 () (by omega) trivial
    (fun fu _ _ => pk_le l l (fun _ => H) (fun z => absurd z (by omega))) ?_
  intro fu i _ hi _ hw
  obtain ⟨x1, x2, x3⟩ := hx i hi
  obtain ⟨d1, d2, d3⟩ := hD d hd
  obtain ⟨d4, d5⟩ := d1 (tw i) x1
  have e13 : a13 (nI i).toNatClampNeg = nI (tw i) := by rw [nI_clamp (by omega)]; exact x2
  have e11 : a11 (nI i).toNatClampNeg = nI (wt i) := by rw [nI_clamp (by omega)]; exact x3
  have ex : (8 * nI d) + (a13 (nI i).toNatClampNeg) = nI (8 * d + tw i) := by rw [e13]; exact ws_ix 8 d (tw i)
  have y1 : a3 ((8 * nI d) + (a13 (nI i).toNatClampNeg)).toNatClampNeg = nI (c d (tw i)) := by rw [ex, nI_clamp (by omega)]; exact d5
  have y2 : a4 (nI d).toNatClampNeg = nI (ln d) := by rw [nI_clamp (by omega)]; exact d3
  refine pk_le l i (fun z => absurd z (by omega)) (fun _ => ⟨pk_in i 5 (by omega), pk_in i 5 (by omega), pk_in (8 * d + tw i) 192 (by omega) ex, pk_in d 24 (by omega), ?_⟩)
  rw [y1, y2]
  refine ws_strength (by omega) (by omega) (nm_r ?_ (nm_r (nI_1 i) (hw () trivial)))
  rw [e11, pk_mul, nI_add]; rfl
theorem ws_scoreHere {d l : Nat} {wt x oc : Nat → Nat} (hl : l ≤ 5) (hd : d < n) (hn : n ≤ 24) (hD : ws_D n c ln a3 a4)
    (hx : ∀ k, k < l → x k ≤ 1000 ∧ a9 k = nI (x k) ∧ a11 k = nI (wt k) ∧ (x k = d → oc k ≤ 7 ∧ a10 k = nI (oc k))) (H : post (nI (ws_sum (fun j => if x j = d then wt j * ws_st (oc j) (ln d) else 0) l))) : wpX_scoreHere post ((nI n), av, (nI m), nI l, fo, a1, a2, a3, a4, a5, a6, a7, a8, a9, a10, a11, a12, a13, a14, a15) (nI d) := by
  refine pk_loop (σ := Unit) (fun fu i _ => wX_scoreHere_4 post (nI d) (nI n) av (nI m) (nI l) fo a1 a2 a3 a4 a5 a6 a7 a8 a9 a10 a11 a12 a13 a14 a15 fu (nI (ws_sum (fun j => if x j = d then wt j * ws_st (oc j) (ln d) else 0) i)) (nI i)) (fun _ _ => True) l 0 () (by omega) trivial
    (fun fu _ _ => pk_le l l (fun _ => H) (fun z => absurd z (by omega))) ?_
  intro fu i _ hi _ hw
  have hw := hw () trivial
  obtain ⟨x0, x1, x2, x3⟩ := hx i hi
  obtain ⟨d1, d2, d3⟩ := hD d hd
  have e9 : a9 (nI i).toNatClampNeg = nI (x i) := by rw [nI_clamp (by omega)]; exact x1
  have e11 : a11 (nI i).toNatClampNeg = nI (wt i) := by rw [nI_clamp (by omega)]; exact x2
  have y2 : a4 (nI d).toNatClampNeg = nI (ln d) := by rw [nI_clamp (by omega)]; exact d3
  have es : ws_sum (fun j => if x j = d then wt j * ws_st (oc j) (ln d) else 0) (i + 1) = ws_sum (fun j => if x j = d then wt j * ws_st (oc j) (ln d) else 0) i + (if x i = d then wt i * ws_st (oc i) (ln d) else 0) := rfl
  refine pk_le l i (fun z => absurd z (by omega)) (fun _ => ⟨pk_in i 5 (by omega), pk_eq (x i) d (fun g => ⟨pk_in i 5 (by omega), pk_in i 5 (by omega), pk_in d 24 (by omega), ?_⟩) (fun g => nm_r (nI_1 i) ?_) e9⟩)
  · obtain ⟨o1, o2⟩ := x3 g
    have e10 : a10 (nI i).toNatClampNeg = nI (oc i) := by rw [nI_clamp (by omega)]; exact o2
    rw [e10, y2]
    refine ws_strength (by omega) (by omega) (nm_r ?_ (nm_r (nI_1 i) hw))
    rw [e11, pk_mul, nI_add, es, if_pos g]
  · rw [es, if_neg g, Nat.add_zero] at hw
    exact hw
theorem ws_place {t : Nat} (ht : t < 8) (hT : ws_T m iw ib a6 a7) (H1 : ws_fd (fun k => decide (iw k = t)) m < m → post (nI (ws_fd (fun k => decide (iw k = t)) m))) (H0 : ws_fd (fun k => decide (iw k = t)) m = m → post (-1)) : wpX_place post ((nI n), av, (nI m), la, fo, a1, a2, a3, a4, a5, a6, a7, a8, a9, a10, a11, a12, a13, a14, a15) (nI t) := by
  obtain ⟨hm, hT⟩ := hT
  refine pk_loop (σ := Unit) (fun fu i _ => wX_place_2 post (nI t) (nI n) av (nI m) la fo a1 a2 a3 a4 a5 a6 a7 a8 a9 a10 a11 a12 a13 a14 a15 fu (nI i)) (fun i _ => ws_fd (fun k => decide (iw k = t)) i = i) m 0 () (by omega) rfl
    (fun fu _ h => pk_le m m (fun _ => H0 h) (fun z => absurd z (by omega))) ?_
  intro fu i _ hi h hw
  obtain ⟨t1, t2, t3, t4⟩ := hT i hi
  have e6 : a6 (nI i).toNatClampNeg = nI (iw i) := by rw [nI_clamp (by omega)]; exact t3
  refine pk_le m i (fun z => absurd z (by omega)) (fun _ => ⟨pk_in i 5 (by omega), pk_eq (iw i) t (fun g => ?_) (fun g => nm_r (nI_1 i) (hw () (ws_fd_miss h (by simpa using g)))) e6⟩)
  have hf := ws_fd_hit (q := fun k => decide (iw k = t)) h (by simpa using g) m hi
  rw [hf] at H1
  exact H1 hi
theorem ws_draftLength (hW : ws_W w a5) {ad im : Int32} (H : post (nI (ws_sum w 8))) : wpX_draftLength post (ad, av, im, la, fo, a1, a2, a3, a4, a5, a6, a7, a8, a9, a10, a11, a12, a13, a14, a15) :=
  pk_loop (σ := Unit) (fun fu i _ => wX_draftLength_4 post ad av im la fo a1 a2 a3 a4 a5 a6 a7 a8 a9 a10 a11 a12 a13 a14 a15 fu (nI (ws_sum w i)) (nI i)) (fun _ _ => True) 8 0 () (by omega) trivial
    (fun fu _ _ => pk_le 8 8 (fun _ => H) (fun z => absurd z (by omega)))
    (fun fu i _ hi _ hw => pk_le 8 i (fun z => absurd z (by omega)) (fun _ => ⟨pk_in i 8 (by omega), nm_r (by rw [nI_clamp (by omega), (hW i hi).2, nI_add]; rfl) (nm_r (nI_1 i) (hw () trivial))⟩))
theorem ws_isWord {t : Nat} (ht : t < 8) (H : post 1) : wpX_isWord post () (nI t) :=
  br_f (nI_pos (by omega)) (pk_le 8 t (fun z => absurd z (by omega)) (fun _ => H))
end
end
section
/-! ===== lanes ===== -/
/-- x is the first place at or behind f that has p, 1000 if there is none -/
def ws_N (p : Nat → Prop) (f x : Nat) : Prop := (x = 1000 ∧ ∀ d, f ≤ d → ¬ p d) ∨ (x < 1000 ∧ f ≤ x ∧ p x ∧ ∀ d, f ≤ d → d < x → ¬ p d)
theorem ws_N_1000 {p : Nat → Prop} {f x : Nat} (h : ws_N p f x) : x ≤ 1000 := by
  rcases h with h | h <;> omega
/-- lane k stands at the first live document at or behind f of word t's list -/
def ws_P (n : Nat) (av : Int32) (c : Nat → Nat → Nat) (e : Nat → Nat) (R : Nat → Nat → Nat) (t f k : Nat) (a8 a9 a10 : Nat → Int32) : Prop :=
  ∃ x, ws_N (ws_p n av c t) f x ∧ a9 k = nI x ∧ (x = 1000 ∨ ∃ i, i < e t ∧ a8 k = nI (2 * i) ∧ R t (i + 1) = x + 1 ∧ a10 k = nI (c x t))
theorem ws_P_fr {n : Nat} {av : Int32} {c : Nat → Nat → Nat} {e : Nat → Nat} {R : Nat → Nat → Nat} {t f k : Nat} {a8 a9 a10 b8 b9 b10 : Nat → Int32} (h : ws_P n av c e R t f k a8 a9 a10) (g : b8 k = a8 k ∧ b9 k = a9 k ∧ b10 k = a10 k) : ws_P n av c e R t f k b8 b9 b10 := by
  unfold ws_P at *
  rw [g.1, g.2.1, g.2.2]
  exact h
def ws_QP (n : Nat) (av : Int32) (c : Nat → Nat → Nat) (e : Nat → Nat) (R : Nat → Nat → Nat) (l : Nat) (tw : Nat → Nat) (f : Nat) (a8 a9 a10 : Nat → Int32) : Prop :=
  ∀ j, j < l → ws_P n av c e R (tw j) f j a8 a9 a10
/-- what a lane holds that doesn't move: its word, weight, bound -/
def ws_QS (n : Nat) (av : Int32) (c : Nat → Nat → Nat) (ln : Nat → Nat) (l : Nat) (tw wt B : Nat → Nat) (a11 a12 a13 : Nat → Int32) : Prop :=
  ∀ j, j < l → tw j < 8 ∧ a13 j = nI (tw j) ∧ a11 j = nI (wt j) ∧ a12 j = nI (B j) ∧ B j ≤ 4096000 ∧ ∀ d, d < n → ws_bt av d = true → wt j * ws_st (c d (tw j)) (ln d) ≤ B j
/-- the lanes among the first k items: how many, and the item of each -/
def ws_li (ib : Nat → Nat) : Nat → Nat × (Nat → Nat)
  | 0 => (0, fun _ => 0)
  | k + 1 => if ib k = 0 then ws_li ib k else ((ws_li ib k).1 + 1, fun j => if j = (ws_li ib k).1 then k else (ws_li ib k).2 j)
theorem ws_li_s0 {ib : Nat → Nat} {k : Nat} (h : ib k = 0) : ws_li ib (k + 1) = ws_li ib k := by
  show (if ib k = 0 then ws_li ib k else _) = _
  rw [if_pos h]
theorem ws_li_s1 {ib : Nat → Nat} {k : Nat} (h : ¬ ib k = 0) : ws_li ib (k + 1) = ((ws_li ib k).1 + 1, fun j => if j = (ws_li ib k).1 then k else (ws_li ib k).2 j) := by
  show (if ib k = 0 then ws_li ib k else _) = _
  rw [if_neg h]
theorem ws_li_le (ib : Nat → Nat) : ∀ k, (ws_li ib k).1 ≤ k := by
  intro k
  induction k with
  | zero => exact Nat.le_refl 0
  | succ k ih =>
    by_cases h : ib k = 0
    · rw [ws_li_s0 h]; omega
    · rw [ws_li_s1 h]; show (ws_li ib k).1 + 1 ≤ k + 1; omega
theorem ws_li_lt (ib : Nat → Nat) : ∀ k j, j < (ws_li ib k).1 → (ws_li ib k).2 j < k := by
  intro k
  induction k with
  | zero => intro j h; exact absurd h (Nat.not_lt_zero j)
  | succ k ih =>
    intro j
    by_cases h : ib k = 0
    · rw [ws_li_s0 h]; intro hj; have := ih j hj; omega
    · rw [ws_li_s1 h]
      show j < (ws_li ib k).1 + 1 → (if j = (ws_li ib k).1 then k else (ws_li ib k).2 j) < k + 1
      intro hj
      by_cases g : j = (ws_li ib k).1
      · rw [if_pos g]; omega
      · rw [if_neg g]; have := ih j (by omega); omega
theorem ws_li_on (ib : Nat → Nat) : ∀ k i, i < k → 0 < ib i → ∃ j, j < (ws_li ib k).1 ∧ (ws_li ib k).2 j = i := by
  intro k
  induction k with
  | zero => intro i h; exact absurd h (Nat.not_lt_zero i)
  | succ k ih =>
    intro i hi hb
    by_cases h : ib k = 0
    · rw [ws_li_s0 h]
      refine ih i ?_ hb
      by_cases e : i = k
      · subst e; omega
      · omega
    · rw [ws_li_s1 h]
      show ∃ j, j < (ws_li ib k).1 + 1 ∧ (if j = (ws_li ib k).1 then k else (ws_li ib k).2 j) = i
      by_cases e : i = k
      · subst e; exact ⟨_, Nat.lt_succ_self _, if_pos rfl⟩
      · obtain ⟨j, j1, j2⟩ := ih i (by omega) hb
        exact ⟨j, by omega, by rw [if_neg (by omega)]; exact j2⟩
def ws_z (b : Nat) : Nat := if b ≤ 10 then b else b - 10
def ws_wt (n : Nat) (av : Int32) (c : Nat → Nat → Nat) (t b : Nat) : Nat := ws_z b * (64 * (ws_cnt (ws_bt av) n + 1) / (ws_sp n av c t + 1))
theorem ws_wt_le {n : Nat} {av : Int32} {c : Nat → Nat → Nat} {t b : Nat} (hn : n ≤ 24) (hb : b ≤ 19) : ws_wt n av c t b ≤ 16000 := by
  have h1 : ws_z b ≤ 10 := by unfold ws_z; split <;> omega
  have h2 : 64 * (ws_cnt (ws_bt av) n + 1) / (ws_sp n av c t + 1) ≤ 1600 := Nat.le_trans (Nat.div_le_self _ _) (by have := ws_cnt_le (ws_bt av) n; omega)
  have := Nat.mul_le_mul h1 h2
  exact this
theorem ws_m1lt {f : Nat} (hf : f < 2 ^ 31) : nI 0 - 1 < nI f := by
  rw [Int32.lt_iff_toInt_lt, nI_toInt hf, show (nI 0 - 1).toInt = -1 from by decide]
  omega
section
variable {n m : Nat} {av la fo : Int32} {a1 a2 a3 a4 a5 a6 a7 a8 a9 a10 a11 a12 a13 a14 a15 : Nat → Int32} {c : Nat → Nat → Nat} {ln iw ib w : Nat → Nat} {e : Nat → Nat} {R : Nat → Nat → Nat} {post : St1 → Prop}
theorem ws_mv42 {J : (Nat → Int32) → (Nat → Int32) → (Nat → Int32) → (Nat → Int32) → (Nat → Int32) → (Nat → Int32) → (Nat → Int32) → (Nat → Int32) → (Nat → Int32) → (Nat → Int32) → (Nat → Int32) → (Nat → Int32) → (Nat → Int32) → (Nat → Int32) → (Nat → Int32) → Prop}
    {k t i e1 : Nat} {R1 c1 : Nat → Nat} {x2 : Int32} (hk : k < 5) (ht : t < 8) (hn : n ≤ 24) (hL : ws_LW n t c1 e1 R1 a1 a2) (hi : i ≤ e1) (h8 : a8 k = nI (2 * i) - 2) (h9 : a9 k = nI (R1 i) - 1)
    (HE : i = e1 → J a1 a2 a3 a4 a5 a6 a7 (upd a8 k (nI (2 * i))) (upd a9 k 1000) a10 a11 a12 a13 a14 a15)
    (HS : i < e1 → J a1 a2 a3 a4 a5 a6 a7 (upd a8 k (nI (2 * i))) (upd a9 k (nI (R1 (i + 1)) - 1)) (upd a10 k (nI (c1 (R1 (i + 1) - 1)))) a11 a12 a13 a14 a15) : wX_moveTo_42 post J (nI k) x2 (nI t) (nI n) av (nI m) la fo a1 a2 a3 a4 a5 a6 a7 a8 a9 a10 a11 a12 a13 a14 a15 := by
  obtain ⟨h2, hR0, hRe, hW⟩ := hL
  have hm : ∀ i, i < e1 → R1 i < R1 (i + 1) := fun i hi => (hW i hi).1
  have he : e1 ≤ n := by have := ws_mono hm e1 0 (by omega) (by omega); omega
  have ck : (nI k).toNatClampNeg = k := nI_clamp (by omega)
  have h2' : a2 (nI t).toNatClampNeg = nI (2 * e1) := by rw [nI_clamp (by omega)]; exact h2
  have e8 : upd a8 (nI k).toNatClampNeg ((a8 (nI k).toNatClampNeg) + 2) = upd a8 k (nI (2 * i)) := by rw [ck, h8, show nI (2 * i) - 2 + 2 = nI (2 * i) by grind]
  have g8 : upd a8 k (nI (2 * i)) (nI k).toNatClampNeg = nI (2 * i) := by rw [ck, pk_us]
  have ex : (48 * nI t) + (upd a8 k (nI (2 * i)) (nI k).toNatClampNeg) = nI (48 * t + 2 * i) := by rw [g8]; exact ws_ix 48 t (2 * i)
  have ex1 : ((48 * nI t) + (upd a8 k (nI (2 * i)) (nI k).toNatClampNeg)) + 1 = nI (48 * t + 2 * i + 1) := by rw [ex, nI_1]
  refine ⟨pk_in k 5 hk, pk_in k 5 hk, nm_r e8 ⟨pk_in k 5 hk, pk_in t 8 ht, pk_lt (2 * i) (2 * e1) (fun z => ?_) (fun z => ⟨pk_in k 5 hk, nm_r (by rw [ck]) (HE (by omega))⟩) g8 h2'⟩⟩
  obtain ⟨w1, w2, w3, w4⟩ := hW i (by omega)
  have e9 : upd a9 (nI k).toNatClampNeg ((a9 (nI k).toNatClampNeg) + (a1 ((48 * nI t) + (upd a8 k (nI (2 * i)) (nI k).toNatClampNeg)).toNatClampNeg)) = upd a9 k (nI (R1 (i + 1)) - 1) := by
    rw [ex, ck, h9, nI_clamp (by omega), w2, ws_run (by omega)]
  have e10 : upd a10 (nI k).toNatClampNeg (a1 (((48 * nI t) + (upd a8 k (nI (2 * i)) (nI k).toNatClampNeg)) + 1).toNatClampNeg) = upd a10 k (nI (c1 (R1 (i + 1) - 1))) := by
    rw [ex1, ck, nI_clamp (by omega), w3]
  exact ⟨pk_in k 5 hk, pk_in k 5 hk, pk_in (48 * t + 2 * i) 384 (by omega) ex, pk_in k 5 hk, nm_r e9 ⟨pk_in k 5 hk, pk_in (48 * t + 2 * i + 1) 384 (by omega) ex1, pk_in k 5 hk, nm_r e10 (HS (by omega))⟩⟩
theorem ws_mvstep {k t f i s : Nat} {b8 b9 b10 : Nat → Int32} (hk : k < 5) (ht : t < 8) (hf : f < 2 ^ 31) (hn : n ≤ 24) (hL : ws_L n av c e R a1 a2) (hi : i ≤ e t)
    (hfr : ∀ j, j ≠ k → a8 j = b8 j ∧ a9 j = b9 j ∧ a10 j = b10 j)
    (H : ∀ a8 a9 a10, (∀ j, j ≠ k → a8 j = b8 j ∧ a9 j = b9 j ∧ a10 j = b10 j) → ws_P n av c e R t f k a8 a9 a10 → post ((nI n), av, (nI m), la, fo, a1, a2, a3, a4, a5, a6, a7, a8, a9, a10, a11, a12, a13, a14, a15))
    (h8 : a8 k = nI (2 * i) - 2) (h9 : a9 k = nI (R t i) - 1) (h10 : 0 < i → a10 k = nI (c (R t i - 1) t)) (hno : ∀ d, f ≤ d → d + 1 < R t i → ¬ ws_p n av c t d)
    (ih : i < e t → ∀ a8 a9 a10, (∀ j, j ≠ k → a8 j = b8 j ∧ a9 j = b9 j ∧ a10 j = b10 j) → a8 k = nI (2 * (i + 1)) - 2 → a9 k = nI (R t (i + 1)) - 1 → a10 k = nI (c (R t (i + 1) - 1) t) → (∀ d, f ≤ d → d + 1 < R t (i + 1) → ¬ ws_p n av c t d) → wX_moveTo_7 post (nI k) (nI f) (nI t) (nI n) av (nI m) la fo (s + 1) a1 a2 a3 a4 a5 a6 a7 a8 a9 a10 a11 a12 a13 a14 a15) :
    wX_moveTo_7 post (nI k) (nI f) (nI t) (nI n) av (nI m) la fo (s + 2) a1 a2 a3 a4 a5 a6 a7 a8 a9 a10 a11 a12 a13 a14 a15 := by
  have hL' := hL t ht
  obtain ⟨hLW, hC⟩ := hL'
  have hLW' := hLW
  obtain ⟨h2, hR0, hRe, hW⟩ := hLW'
  have hm : ∀ i, i < e t → R t i < R t (i + 1) := fun i hi => (hW i hi).1
  have hRi := ws_mono hm (e t) i hi (Nat.le_refl _)
  have ck : (nI k).toNatClampNeg = k := nI_clamp (by omega)
  have mv : (∀ d, f ≤ d → d < R t i → ¬ ws_p n av c t d) → wX_moveTo_42 post (wX_moveTo_7 post (nI k) (nI f) (nI t) (nI n) av (nI m) la fo (s + 1)) (nI k) (nI f) (nI t) (nI n) av (nI m) la fo a1 a2 a3 a4 a5 a6 a7 a8 a9 a10 a11 a12 a13 a14 a15 := by
    intro hskip
    refine ws_mv42 hk ht hn hLW hi h8 h9 (fun ei => ?_) (fun li => ?_)
    · refine ⟨pk_in k 5 hk, br_t (by rw [ck, pk_us]) (H _ _ _ (fun j hj => ?_) ⟨1000, Or.inl ⟨rfl, fun d hd hp => ?_⟩, by rw [pk_us]; rfl, Or.inl rfl⟩)⟩
      · rw [pk_un hj, pk_un hj]; exact hfr j hj
      · obtain ⟨j, j1, j2⟩ := hC d hp.1 hp.2.1 hp.2.2
        have := ws_mono hm (e t) (j + 1) (by omega) (by omega)
        exact hskip d hd (by rw [ei]; omega) hp
    · refine ih li _ _ _ (fun j hj => ?_) ?_ ?_ ?_ (fun d hd hd2 hp => ?_)
      · rw [pk_un hj, pk_un hj, pk_un hj]; exact hfr j hj
      · rw [pk_us, Nat.mul_add, ← nI_add]; show nI (2 * i) = nI (2 * i) + 2 - 2; grind
      · rw [pk_us]
      · rw [pk_us]
      · rcases Nat.lt_or_ge d (R t i) with g | g
        · exact hskip d hd g hp
        · obtain ⟨j, j1, j2⟩ := hC d hp.1 hp.2.1 hp.2.2
          exact ws_nogap hm li j1 g hd2 j2
  by_cases hR : R t i = 0
  · have e9 : a9 (nI k).toNatClampNeg = nI 0 - 1 := by rw [ck, h9, hR]
    refine ⟨pk_in k 5 hk, br_f (by rw [e9]; decide) ⟨pk_in k 5 hk, br_t (by rw [e9]; exact ws_m1lt hf) (mv (fun d _ hd => absurd hd (by omega)))⟩⟩
  · have e9 : a9 (nI k).toNatClampNeg = nI (R t i - 1) := by rw [ck, h9, ws_pre (by omega)]
    have hi0 : 0 < i := by
      rcases Nat.eq_zero_or_pos i with q | q
      · rw [q] at hR; exact absurd hR0 hR
      · exact q
    have hlast : ∀ d, f ≤ d → d < R t i → ¬ (d = R t i - 1 ∧ ws_p n av c t d) → ¬ ws_p n av c t d := by
      intro d h1 h2 h3 h4
      by_cases g : d = R t i - 1
      · exact h3 ⟨g, h4⟩
      · exact hno d h1 (by omega) h4
    refine ⟨pk_in k 5 hk, pk_eq (R t i - 1) 1000 (fun z => absurd z (by omega)) (fun _ => ⟨pk_in k 5 hk, pk_lt (R t i - 1) f (fun z => mv (fun d h1 h2 => absurd h1 (by omega))) (fun z => ⟨pk_in k 5 hk, ?_⟩) e9⟩) e9⟩
    rw [e9]
    refine ws_isLive (by omega) hn (fun g1 g2 => br_f (by decide) (H _ _ _ hfr ?_)) (fun g => br_t rfl (mv (fun d h1 h2 => hlast d h1 h2 (fun q => g ⟨by omega, by rw [← q.1]; exact q.2.2.1⟩))))
    obtain ⟨w1, w2, w3, w4⟩ := hW (i - 1) (by omega)
    rw [show i - 1 + 1 = i by omega] at w4
    refine ⟨R t i - 1, Or.inr ⟨by omega, z, ⟨g1, g2, w4⟩, fun d h1 h2 => hno d h1 (by omega)⟩, by rw [h9, ws_pre (by omega)], Or.inr ⟨i - 1, by omega, ?_, by rw [show i - 1 + 1 = i by omega]; omega, h10 hi0⟩⟩
    rw [h8, show 2 * i = 2 * (i - 1) + 2 by omega, ← nI_add]
    show nI (2 * (i - 1)) + 2 - 2 = nI (2 * (i - 1))
    grind
theorem ws_mv7 {k t f : Nat} {b8 b9 b10 : Nat → Int32} (hk : k < 5) (ht : t < 8) (hf : f < 2 ^ 31) (hn : n ≤ 24) (hL : ws_L n av c e R a1 a2)
    (H : ∀ a8 a9 a10, (∀ j, j ≠ k → a8 j = b8 j ∧ a9 j = b9 j ∧ a10 j = b10 j) → ws_P n av c e R t f k a8 a9 a10 → post ((nI n), av, (nI m), la, fo, a1, a2, a3, a4, a5, a6, a7, a8, a9, a10, a11, a12, a13, a14, a15)) :
    ∀ r i a8 a9 a10, i + r = e t → (∀ j, j ≠ k → a8 j = b8 j ∧ a9 j = b9 j ∧ a10 j = b10 j) → a8 k = nI (2 * i) - 2 → a9 k = nI (R t i) - 1 → (0 < i → a10 k = nI (c (R t i - 1) t)) → (∀ d, f ≤ d → d + 1 < R t i → ¬ ws_p n av c t d) →
    wX_moveTo_7 post (nI k) (nI f) (nI t) (nI n) av (nI m) la fo (r + 2) a1 a2 a3 a4 a5 a6 a7 a8 a9 a10 a11 a12 a13 a14 a15 := by
  intro r
  induction r with
  | zero =>
    intro i a8 a9 a10 hi hfr h8 h9 h10 hno
    exact ws_mvstep hk ht hf hn hL (by omega) hfr H h8 h9 h10 hno (fun z => absurd z (by omega))
  | succ r ih =>
    intro i a8 a9 a10 hi hfr h8 h9 h10 hno
    exact ws_mvstep hk ht hf hn hL (by omega) hfr H h8 h9 h10 hno (fun _ a8 a9 a10 q1 q2 q3 q4 q5 => ih (i + 1) a8 a9 a10 (by omega) q1 q2 q3 (fun _ => q4) q5)
/-- moveTo of a lane that has just been opened -/
theorem ws_moveTo0 {k t f : Nat} (hk : k < 5) (ht : t < 8) (hf : f < 2 ^ 31) (hn : n ≤ 24) (hL : ws_L n av c e R a1 a2) (h13 : a13 k = nI t) (h8 : a8 k = -2) (h9 : a9 k = -1)
    (H : ∀ b8 b9 b10, (∀ j, j ≠ k → b8 j = a8 j ∧ b9 j = a9 j ∧ b10 j = a10 j) → ws_P n av c e R t f k b8 b9 b10 → post ((nI n), av, (nI m), la, fo, a1, a2, a3, a4, a5, a6, a7, b8, b9, b10, a11, a12, a13, a14, a15)) : wpX_moveTo post ((nI n), av, (nI m), la, fo, a1, a2, a3, a4, a5, a6, a7, a8, a9, a10, a11, a12, a13, a14, a15) (nI k) (nI f) := by
  refine ⟨pk_in k 5 hk, nm_r (e' := nI t) (by rw [nI_clamp (by omega)]; exact h13) ⟨e t + 2, ?_⟩⟩
  have hR0 := (hL t ht).1.2.1
  refine ws_mv7 hk ht hf hn hL H (e t) 0 a8 a9 a10 (by omega) (fun j _ => ⟨rfl, rfl, rfl⟩) (by rw [h8]; decide) (by rw [h9, hR0]; decide) (fun z => absurd z (by omega)) (fun d _ q => absurd q (by omega))
/-- moveTo of a lane that stands somewhere -/
theorem ws_moveTo {k t f f0 : Nat} (hk : k < 5) (ht : t < 8) (hf : f < 2 ^ 31) (hn : n ≤ 24) (hL : ws_L n av c e R a1 a2) (h13 : a13 k = nI t) (hff : f0 ≤ f) (hP : ws_P n av c e R t f0 k a8 a9 a10)
    (H : ∀ b8 b9 b10, (∀ j, j ≠ k → b8 j = a8 j ∧ b9 j = a9 j ∧ b10 j = a10 j) → ws_P n av c e R t f k b8 b9 b10 → post ((nI n), av, (nI m), la, fo, a1, a2, a3, a4, a5, a6, a7, b8, b9, b10, a11, a12, a13, a14, a15)) : wpX_moveTo post ((nI n), av, (nI m), la, fo, a1, a2, a3, a4, a5, a6, a7, a8, a9, a10, a11, a12, a13, a14, a15) (nI k) (nI f) := by
  refine ⟨pk_in k 5 hk, nm_r (e' := nI t) (by rw [nI_clamp (by omega)]; exact h13) ?_⟩
  obtain ⟨x, hN, h9, hx⟩ := hP
  have ck : (nI k).toNatClampNeg = k := nI_clamp (by omega)
  rcases hN with ⟨x1, hN⟩ | ⟨x1, x2, x3, x4⟩
  · refine ⟨1, pk_in k 5 hk, br_t (by rw [ck, h9, x1]; rfl) (H _ _ _ (fun j _ => ⟨rfl, rfl, rfl⟩) ⟨x, Or.inl ⟨x1, fun d hd => hN d (by omega)⟩, h9, Or.inl x1⟩)⟩
  · rcases hx with hx | ⟨i, i1, i2, i3, i4⟩
    · omega
    · refine ⟨e t - (i + 1) + 2, ws_mv7 hk ht hf hn hL H (e t - (i + 1)) (i + 1) a8 a9 a10 (by omega) (fun j _ => ⟨rfl, rfl, rfl⟩) ?_ ?_ (fun _ => ?_) (fun d h1 h2 => x4 d (by omega) (by omega))⟩
      · rw [i2, Nat.mul_add, ← nI_add]; show nI (2 * i) = nI (2 * i) + 2 - 2; grind
      · rw [h9, i3, ws_pre (by omega)]; rfl
      · rw [i4, i3]; rfl
end
end
section
/-! ===== openLanes, all lanes moved ===== -/
section
variable {n m : Nat} {av la fo : Int32} {a1 a2 a3 a4 a5 a6 a7 a8 a9 a10 a11 a12 a13 a14 a15 : Nat → Int32} {c : Nat → Nat → Nat} {ln iw ib w : Nat → Nat} {e : Nat → Nat} {R : Nat → Nat → Nat}
theorem ws_ol65 {post : St1 → Prop} {J : Int32 → Int32 → Int32 → Int32 → Int32 → Int32 → (Nat → Int32) → (Nat → Int32) → (Nat → Int32) → (Nat → Int32) → (Nat → Int32) → (Nat → Int32) → (Nat → Int32) → (Nat → Int32) → (Nat → Int32) → (Nat → Int32) → (Nat → Int32) → (Nat → Int32) → (Nat → Int32) → (Nat → Int32) → (Nat → Int32) → Prop}
    {k l t z : Nat} {z0 : Int32} (hz0 : z0 = nI z) (hk : k < 5) (hl : l < 5) (ht : t < 8) (hn : n ≤ 24) (hD : ws_D n c ln a3 a4) (hL : ws_L n av c e R a1 a2)
    (H : ∀ g b8 b9 b10, g ≤ 256 → (∀ d, d < n → ws_bt av d = true → ws_st (c d t) (ln d) ≤ g) → (∀ j, j ≠ l → b8 j = a8 j ∧ b9 j = a9 j ∧ b10 j = a10 j) → ws_P n av c e R t 0 l b8 b9 b10 →
      J (nI (k + 1)) (nI n) av (nI m) (nI (l + 1)) fo a1 a2 a3 a4 a5 a6 a7 b8 b9 b10 (upd a11 l (nI (z * (64 * (ws_cnt (ws_bt av) n + 1) / (ws_sp n av c t + 1))))) (upd a12 l (nI (z * (64 * (ws_cnt (ws_bt av) n + 1) / (ws_sp n av c t + 1)) * g))) (upd a13 l (nI t)) a14 a15) :
    wX_openLanes_65 post J (nI (ws_cnt (ws_bt av) n)) (nI k) (nI t) z0 (nI n) av (nI m) (nI l) fo a1 a2 a3 a4 a5 a6 a7 a8 a9 a10 a11 a12 a13 a14 a15 := by
  subst hz0
  have cl : (nI l).toNatClampNeg = l := nI_clamp (by omega)
  have b1 := ws_cnt_le (ws_bt av) n
  have b2 : ws_sp n av c t ≤ n := ws_cnt_le _ n
  have vl : vp_in (nI l) 5 := pk_in l 5 hl
  have er : (64 * (nI (ws_cnt (ws_bt av) n) + 1)) / (nI (ws_sp n av c t) + 1) = nI (64 * (ws_cnt (ws_bt av) n + 1) / (ws_sp n av c t + 1)) := by
    rw [nI_1, nI_1, show (64 : Int32) = nI 64 from rfl, pk_mul, pk_div (by omega) (by omega) (by omega)]
  refine ws_spreadOf ht hn hL ⟨by rw [nI_1]; exact nI_ne0 (by omega) (by omega), nm_r er ⟨vl, nm_r (by rw [cl, pk_mul]) ?_⟩⟩
  refine ws_greatest ht hn hD hL (fun g g1 g2 => ⟨vl, nm_r (by rw [cl, pk_mul, pk_mul]) ⟨vl, nm_r (by rw [cl]) ⟨vl, nm_r (by rw [cl]) ⟨vl, nm_r (by rw [cl]) (nm_r (nI_1 l) ?_)⟩⟩⟩⟩)
  rw [nI_pred]
  refine ws_moveTo0 (f := 0) hl ht (by omega) hn hL pk_us pk_us pk_us (fun b8 b9 b10 fr hP => nm_r (nI_1 k) (H g b8 b9 b10 g1 g2 (fun j hj => ?_) hP))
  obtain ⟨q1, q2, q3⟩ := fr j hj
  rw [pk_un hj] at q1 q2
  exact ⟨q1, q2, q3⟩
theorem ws_ol12 {post : St1 → Prop} (hn : n ≤ 24) (hD : ws_D n c ln a3 a4) (hT : ws_T m iw ib a6 a7) (hL : ws_L n av c e R a1 a2)
    (H : ∀ B a8 a9 a10 a11 a12 a13, ws_QS n av c ln (ws_li ib m).1 (fun j => iw ((ws_li ib m).2 j)) (fun j => ws_wt n av c (iw ((ws_li ib m).2 j)) (ib ((ws_li ib m).2 j))) B a11 a12 a13 → ws_QP n av c e R (ws_li ib m).1 (fun j => iw ((ws_li ib m).2 j)) 0 a8 a9 a10 →
      post ((nI n), av, (nI m), nI (ws_li ib m).1, fo, a1, a2, a3, a4, a5, a6, a7, a8, a9, a10, a11, a12, a13, a14, a15)) :
    ∀ r k B a8 a9 a10 a11 a12 a13, k + r = m → ws_QS n av c ln (ws_li ib k).1 (fun j => iw ((ws_li ib k).2 j)) (fun j => ws_wt n av c (iw ((ws_li ib k).2 j)) (ib ((ws_li ib k).2 j))) B a11 a12 a13 → ws_QP n av c e R (ws_li ib k).1 (fun j => iw ((ws_li ib k).2 j)) 0 a8 a9 a10 →
      wX_openLanes_12 post (nI (ws_cnt (ws_bt av) n)) (r + 1) (nI k) (nI n) av (nI m) (nI (ws_li ib k).1) fo a1 a2 a3 a4 a5 a6 a7 a8 a9 a10 a11 a12 a13 a14 a15 := by
  obtain ⟨hm, hT⟩ := hT
  intro r
  induction r with
  | zero =>
    intro k B a8 a9 a10 a11 a12 a13 hk hS hP
    have ek : k = m := by omega
    subst ek
    exact pk_le k k (fun _ => H B a8 a9 a10 a11 a12 a13 hS hP) (fun z => absurd z (by omega))
  | succ r ih =>
    intro k B a8 a9 a10 a11 a12 a13 hk hS hP
    obtain ⟨t1, t2, t3, t4⟩ := hT k (by omega)
    have e6 : a6 (nI k).toNatClampNeg = nI (iw k) := by rw [nI_clamp (by omega)]; exact t3
    have e7 : a7 (nI k).toNatClampNeg = nI (ib k) := by rw [nI_clamp (by omega)]; exact t4
    have vk : vp_in (nI k) 5 := pk_in k 5 (by omega)
    have hl := ws_li_le ib k
    refine pk_le m k (fun z => absurd z (by omega)) (fun _ => ⟨vk, pk_le (ib k) 0 (fun g => nm_r (nI_1 k) ?_) (fun g => ⟨vk, nm_r e6 ⟨vk, ?_⟩⟩) e7⟩)
    · have es := ws_li_s0 (ib := ib) (k := k) (by omega)
      have q := ih (k + 1) B a8 a9 a10 a11 a12 a13 (by omega) (by rw [es]; exact hS) (by rw [es]; exact hP)
      rw [es] at q
      exact q
    · have es := ws_li_s1 (ib := ib) (k := k) (by omega)
      have key : ∀ z0, z0 = nI (ws_z (ib k)) → wX_openLanes_65 post (wX_openLanes_12 post (nI (ws_cnt (ws_bt av) n)) (r + 1)) (nI (ws_cnt (ws_bt av) n)) (nI k) (nI (iw k)) z0 (nI n) av (nI m) (nI (ws_li ib k).1) fo a1 a2 a3 a4 a5 a6 a7 a8 a9 a10 a11 a12 a13 a14 a15 := by
        intro z0 hz0
        refine ws_ol65 hz0 (by omega) (by omega) t1 hn hD hL (fun gg b8 b9 b10 g1 g2 fr hPn => ?_)
        have q := ih (k + 1) (fun j => if j = (ws_li ib k).1 then ws_wt n av c (iw k) (ib k) * gg else B j) b8 b9 b10 (upd a11 (ws_li ib k).1 (nI (ws_wt n av c (iw k) (ib k)))) (upd a12 (ws_li ib k).1 (nI (ws_wt n av c (iw k) (ib k) * gg))) (upd a13 (ws_li ib k).1 (nI (iw k))) (by omega) ?_ ?_
        · rw [es] at q
          exact q
        · rw [es]
          intro j hj
          show iw (if j = (ws_li ib k).1 then k else (ws_li ib k).2 j) < 8 ∧ _ = nI (iw (if j = (ws_li ib k).1 then k else (ws_li ib k).2 j)) ∧ _ = nI (ws_wt n av c (iw (if j = (ws_li ib k).1 then k else (ws_li ib k).2 j)) (ib (if j = (ws_li ib k).1 then k else (ws_li ib k).2 j))) ∧ _ = nI (if j = (ws_li ib k).1 then ws_wt n av c (iw k) (ib k) * gg else B j) ∧ (if j = (ws_li ib k).1 then ws_wt n av c (iw k) (ib k) * gg else B j) ≤ 4096000 ∧ ∀ d, d < n → ws_bt av d = true → (ws_wt n av c (iw (if j = (ws_li ib k).1 then k else (ws_li ib k).2 j)) (ib (if j = (ws_li ib k).1 then k else (ws_li ib k).2 j))) * ws_st (c d (iw (if j = (ws_li ib k).1 then k else (ws_li ib k).2 j))) (ln d) ≤ (if j = (ws_li ib k).1 then ws_wt n av c (iw k) (ib k) * gg else B j)
          by_cases ej : j = (ws_li ib k).1
          · subst ej
            simp only [if_true]
            refine ⟨t1, pk_us, pk_us, pk_us, ?_, fun d d1 d2 => Nat.mul_le_mul_left _ (g2 d d1 d2)⟩
            exact Nat.mul_le_mul (ws_wt_le hn t2) g1
          · simp only [if_neg ej]
            rw [pk_un ej, pk_un ej, pk_un ej]
            exact hS j (by have : j < (ws_li ib k).1 + 1 := hj; omega)
        · rw [es]
          intro j hj
          show ws_P n av c e R (iw (if j = (ws_li ib k).1 then k else (ws_li ib k).2 j)) 0 j b8 b9 b10
          by_cases ej : j = (ws_li ib k).1
          · subst ej
            rw [if_pos rfl]
            exact hPn
          · rw [if_neg ej]
            exact ws_P_fr (hP j (by have : j < (ws_li ib k).1 + 1 := hj; omega)) (fr j ej)
      have ez : ws_z (ib k) = if ib k ≤ 10 then ib k else ib k - 10 := rfl
      refine pk_le (ib k) 10 (fun g2 => ⟨vk, key _ (by rw [e7, ez, if_pos g2])⟩) (fun g2 => ⟨vk, key _ (by rw [e7, ez, if_neg (by omega)]; exact pk_sub (b := 10) (by omega))⟩) e7
theorem ws_openLanes {post : St1 → Prop} (hn : n ≤ 24) (hD : ws_D n c ln a3 a4) (hT : ws_T m iw ib a6 a7) (hL : ws_L n av c e R a1 a2)
    (H : ∀ B a8 a9 a10 a11 a12 a13, ws_QS n av c ln (ws_li ib m).1 (fun j => iw ((ws_li ib m).2 j)) (fun j => ws_wt n av c (iw ((ws_li ib m).2 j)) (ib ((ws_li ib m).2 j))) B a11 a12 a13 → ws_QP n av c e R (ws_li ib m).1 (fun j => iw ((ws_li ib m).2 j)) 0 a8 a9 a10 →
      post ((nI n), av, (nI m), nI (ws_li ib m).1, fo, a1, a2, a3, a4, a5, a6, a7, a8, a9, a10, a11, a12, a13, a14, a15)) : wpX_openLanes post ((nI n), av, (nI m), la, fo, a1, a2, a3, a4, a5, a6, a7, a8, a9, a10, a11, a12, a13, a14, a15) := by
  refine ws_liveCount hn ⟨m + 1, ?_⟩
  exact ws_ol12 hn hD hT hL H m 0 (fun _ => 0) a8 a9 a10 a11 a12 a13 (by omega) (fun j hj => absurd hj (Nat.not_lt_zero j)) (fun j hj => absurd hj (Nat.not_lt_zero j))
/-! all lanes are moved: three loops of one form -/
theorem ws_all_s {l : Nat} {tw : Nat → Nat} {f g i : Nat} {a8 a9 a10 b8 b9 b10 : Nat → Int32} (hi : i < l) (h : ∀ j, j < l → ws_P n av c e R (tw j) (if j < i then g else f) j a8 a9 a10) (fr : ∀ j, j ≠ i → b8 j = a8 j ∧ b9 j = a9 j ∧ b10 j = a10 j) (hP : ws_P n av c e R (tw i) g i b8 b9 b10) :
    ∀ j, j < l → ws_P n av c e R (tw j) (if j < i + 1 then g else f) j b8 b9 b10 := by
  intro j hj
  by_cases ej : j = i
  · subst ej
    rw [if_pos (by omega)]
    exact hP
  · have q := ws_P_fr (h j hj) (fr j ej)
    by_cases g2 : j < i
    · rw [if_pos g2] at q
      rw [if_pos (by omega)]
      exact q
    · rw [if_neg g2] at q
      rw [if_neg (by omega)]
      exact q
theorem ws_sc56 {post : Int32 → St1 → Prop} {J : Int32 → Int32 → Int32 → Int32 → Int32 → Int32 → Int32 → (Nat → Int32) → (Nat → Int32) → (Nat → Int32) → (Nat → Int32) → (Nat → Int32) → (Nat → Int32) → (Nat → Int32) → (Nat → Int32) → (Nat → Int32) → (Nat → Int32) → (Nat → Int32) → (Nat → Int32) → (Nat → Int32) → (Nat → Int32) → (Nat → Int32) → Prop}
    {l f d : Nat} {tw : Nat → Nat} {x1 x2 x3 : Int32} (hl : l ≤ 5) (hd : d < 2 ^ 30) (hf : f ≤ d + 1) (hn : n ≤ 24) (hL : ws_L n av c e R a1 a2) (hS : ∀ j, j < l → tw j < 8 ∧ a13 j = nI (tw j)) (hP : ws_QP n av c e R l tw f a8 a9 a10)
    (H : ∀ a8 a9 a10, ws_QP n av c e R l tw (d + 1) a8 a9 a10 → J x2 (x3 + 1) (nI n) av (nI m) (nI l) fo a1 a2 a3 a4 a5 a6 a7 a8 a9 a10 a11 a12 a13 a14 a15) : ∃ fu, wX_scoring_56 post J x1 x2 x3 (nI d) fu 0 (nI n) av (nI m) (nI l) fo a1 a2 a3 a4 a5 a6 a7 a8 a9 a10 a11 a12 a13 a14 a15 := by
  refine pk_loop (σ := (Nat → Int32) × (Nat → Int32) × (Nat → Int32)) (fun fu i s => wX_scoring_56 post J x1 x2 x3 (nI d) fu (nI i) (nI n) av (nI m) (nI l) fo a1 a2 a3 a4 a5 a6 a7 s.1 s.2.1 s.2.2 a11 a12 a13 a14 a15)
    (fun i s => ∀ j, j < l → ws_P n av c e R (tw j) (if j < i then d + 1 else f) j s.1 s.2.1 s.2.2) l 0 (a8, a9, a10) (by omega) (fun j hj => hP j hj) ?_ ?_
  · intro fu s h
    exact pk_le l l (fun _ => nm_e (H s.1 s.2.1 s.2.2 (fun j hj => by have q := h j hj; rw [if_pos hj] at q; exact q))) (fun z => absurd z (by omega))
  · intro fu i s hi h hw
    refine pk_le l i (fun z => absurd z (by omega)) (fun _ => ?_)
    rw [nI_1 d]
    refine ws_moveTo (t := tw i) (f0 := f) (by omega) (hS i hi).1 (by omega) hn hL (hS i hi).2 hf (by have q := h i hi; rw [if_neg (by omega)] at q; exact q) (fun b8 b9 b10 fr hPi => nm_r (nI_1 i) ?_)
    exact hw (b8, b9, b10) (ws_all_s hi h fr hPi)
theorem ws_fb65 {post : St1 → Prop} {J : Int32 → Int32 → Int32 → Int32 → Int32 → Int32 → (Nat → Int32) → (Nat → Int32) → (Nat → Int32) → (Nat → Int32) → (Nat → Int32) → (Nat → Int32) → (Nat → Int32) → (Nat → Int32) → (Nat → Int32) → (Nat → Int32) → (Nat → Int32) → (Nat → Int32) → (Nat → Int32) → (Nat → Int32) → (Nat → Int32) → Prop}
    {l f d : Nat} {tw : Nat → Nat} {x1 : Int32} (hl : l ≤ 5) (hd : d < 2 ^ 30) (hf : f ≤ d + 1) (hn : n ≤ 24) (hL : ws_L n av c e R a1 a2) (hS : ∀ j, j < l → tw j < 8 ∧ a13 j = nI (tw j)) (hP : ws_QP n av c e R l tw f a8 a9 a10)
    (H : ∀ a8 a9 a10, ws_QP n av c e R l tw (d + 1) a8 a9 a10 → J (x1 + 1) (nI n) av (nI m) (nI l) fo a1 a2 a3 a4 a5 a6 a7 a8 a9 a10 a11 a12 a13 a14 a15) : ∃ fu, wX_findBest_65 post J x1 (nI d) fu 0 (nI n) av (nI m) (nI l) fo a1 a2 a3 a4 a5 a6 a7 a8 a9 a10 a11 a12 a13 a14 a15 := by
  refine pk_loop (σ := (Nat → Int32) × (Nat → Int32) × (Nat → Int32)) (fun fu i s => wX_findBest_65 post J x1 (nI d) fu (nI i) (nI n) av (nI m) (nI l) fo a1 a2 a3 a4 a5 a6 a7 s.1 s.2.1 s.2.2 a11 a12 a13 a14 a15)
    (fun i s => ∀ j, j < l → ws_P n av c e R (tw j) (if j < i then d + 1 else f) j s.1 s.2.1 s.2.2) l 0 (a8, a9, a10) (by omega) (fun j hj => hP j hj) ?_ ?_
  · intro fu s h
    exact pk_le l l (fun _ => nm_e (H s.1 s.2.1 s.2.2 (fun j hj => by have q := h j hj; rw [if_pos hj] at q; exact q))) (fun z => absurd z (by omega))
  · intro fu i s hi h hw
    refine pk_le l i (fun z => absurd z (by omega)) (fun _ => ?_)
    rw [nI_1 d]
    refine ws_moveTo (t := tw i) (f0 := f) (by omega) (hS i hi).1 (by omega) hn hL (hS i hi).2 hf (by have q := h i hi; rw [if_neg (by omega)] at q; exact q) (fun b8 b9 b10 fr hPi => nm_r (nI_1 i) ?_)
    exact hw (b8, b9, b10) (ws_all_s hi h fr hPi)
theorem ws_fb95 {post : St1 → Prop} {J : Int32 → Int32 → Int32 → Int32 → Int32 → Int32 → (Nat → Int32) → (Nat → Int32) → (Nat → Int32) → (Nat → Int32) → (Nat → Int32) → (Nat → Int32) → (Nat → Int32) → (Nat → Int32) → (Nat → Int32) → (Nat → Int32) → (Nat → Int32) → (Nat → Int32) → (Nat → Int32) → (Nat → Int32) → (Nat → Int32) → Prop}
    {l f y : Nat} {tw : Nat → Nat} {x1 : Int32} (hl : l ≤ 5) (hd : y < 2 ^ 30) (hf : f ≤ y) (hn : n ≤ 24) (hL : ws_L n av c e R a1 a2) (hS : ∀ j, j < l → tw j < 8 ∧ a13 j = nI (tw j)) (hP : ws_QP n av c e R l tw f a8 a9 a10)
    (H : ∀ a8 a9 a10, ws_QP n av c e R l tw y a8 a9 a10 → J (x1 + 1) (nI n) av (nI m) (nI l) fo a1 a2 a3 a4 a5 a6 a7 a8 a9 a10 a11 a12 a13 a14 a15) : ∃ fu, wX_findBest_95 post J x1 (nI y) fu 0 (nI n) av (nI m) (nI l) fo a1 a2 a3 a4 a5 a6 a7 a8 a9 a10 a11 a12 a13 a14 a15 := by
  refine pk_loop (σ := (Nat → Int32) × (Nat → Int32) × (Nat → Int32)) (fun fu i s => wX_findBest_95 post J x1 (nI y) fu (nI i) (nI n) av (nI m) (nI l) fo a1 a2 a3 a4 a5 a6 a7 s.1 s.2.1 s.2.2 a11 a12 a13 a14 a15)
    (fun i s => ∀ j, j < l → ws_P n av c e R (tw j) (if j < i then y else f) j s.1 s.2.1 s.2.2) l 0 (a8, a9, a10) (by omega) (fun j hj => hP j hj) ?_ ?_
  · intro fu s h
    exact pk_le l l (fun _ => nm_e (H s.1 s.2.1 s.2.2 (fun j hj => by have q := h j hj; rw [if_pos hj] at q; exact q))) (fun z => absurd z (by omega))
  · intro fu i s hi h hw
    refine pk_le l i (fun z => absurd z (by omega)) (fun _ => ?_)
    refine ws_moveTo (t := tw i) (f0 := f) (by omega) (hS i hi).1 (by omega) hn hL (hS i hi).2 hf (by have q := h i hi; rw [if_neg (by omega)] at q; exact q) (fun b8 b9 b10 fr hPi => nm_r (nI_1 i) ?_)
    exact hw (b8, b9, b10) (ws_all_s hi h fr hPi)
end
end
section
/-! ===== scoring ===== -/
def ws_sc (n : Nat) (av : Int32) (m : Nat) (c : Nat → Nat → Nat) (ln iw ib : Nat → Nat) (d : Nat) : Nat :=
  ws_sum (fun j => ws_wt n av c (iw ((ws_li ib m).2 j)) (ib ((ws_li ib m).2 j)) * ws_st (c d (iw ((ws_li ib m).2 j))) (ln d)) (ws_li ib m).1
theorem ws_P_x {n : Nat} {av : Int32} {c : Nat → Nat → Nat} {e : Nat → Nat} {R : Nat → Nat → Nat} {t f k : Nat} {a8 a9 a10 : Nat → Int32} (h : ws_P n av c e R t f k a8 a9 a10) :
    ws_N (ws_p n av c t) f (a9 k).toNatClampNeg ∧ a9 k = nI (a9 k).toNatClampNeg ∧ (a9 k).toNatClampNeg ≤ 1000 ∧ ((a9 k).toNatClampNeg = 1000 ∨ a10 k = nI (c (a9 k).toNatClampNeg t)) := by
  obtain ⟨x, h1, h2, h3⟩ := h
  have hx := ws_N_1000 h1
  have ex : (a9 k).toNatClampNeg = x := by rw [h2, nI_clamp (by omega)]
  rw [ex]
  refine ⟨h1, h2, hx, ?_⟩
  rcases h3 with h3 | ⟨i, _, _, _, h3⟩
  · exact Or.inl h3
  · exact Or.inr h3
/-- a document that matches is in a lane -/
theorem ws_in_lane {n m : Nat} {av : Int32} {c : Nat → Nat → Nat} {iw ib : Nat → Nat} {d : Nat} (hd : d < n) (hb : ws_bt av d = true) (hM : ws_M m ib (fun k => 0 < c d (iw k))) : ∃ j, j < (ws_li ib m).1 ∧ ws_p n av c (iw ((ws_li ib m).2 j)) d := by
  obtain ⟨_, k, k1, k2, k3⟩ := hM
  obtain ⟨j, j1, j2⟩ := ws_li_on ib m k k1 k2
  exact ⟨j, j1, hd, hb, by rw [j2]; exact k3⟩
section
variable {n m : Nat} {av la fo : Int32} {a1 a2 a3 a4 a5 a6 a7 a8 a9 a10 a11 a12 a13 a14 a15 : Nat → Int32} {c : Nat → Nat → Nat} {ln iw ib w : Nat → Nat} {e : Nat → Nat} {R : Nat → Nat → Nat}
theorem ws_sc8 {post : Int32 → St1 → Prop} {x1 : Int32} {q : Nat → Bool} {B : Nat → Nat} (hn : n ≤ 24) (hD : ws_D n c ln a3 a4) (hT : ws_T m iw ib a6 a7) (hL : ws_L n av c e R a1 a2)
    (hq : ∀ d, d < n → (q d = true ↔ (ws_bt av d = true ∧ ws_M m ib (fun k => 0 < c d (iw k)) ∧ ¬ nI (ws_sc n av m c ln iw ib d) < x1)))
    (hS : ws_QS n av c ln (ws_li ib m).1 (fun j => iw ((ws_li ib m).2 j)) (fun j => ws_wt n av c (iw ((ws_li ib m).2 j)) (ib ((ws_li ib m).2 j))) B a11 a12 a13)
    (H : ∀ a8 a9 a10, post (nI (ws_cnt q n)) ((nI n), av, (nI m), nI (ws_li ib m).1, fo, a1, a2, a3, a4, a5, a6, a7, a8, a9, a10, a11, a12, a13, a14, a15)) :
    ∀ s f r a8 a9 a10, n - f ≤ s → f ≤ n → r ≤ f → ws_QP n av c e R (ws_li ib m).1 (fun j => iw ((ws_li ib m).2 j)) f a8 a9 a10 → wX_scoring_8 post x1 (s + 1) (nI (ws_cnt q f)) (nI r) (nI n) av (nI m) (nI (ws_li ib m).1) fo a1 a2 a3 a4 a5 a6 a7 a8 a9 a10 a11 a12 a13 a14 a15 := by
  have hl : (ws_li ib m).1 ≤ 5 := Nat.le_trans (ws_li_le ib m) hT.1
  intro s
  induction s with
  | zero =>
    intro f r a8 a9 a10 h1 h2 h3 hP
    have ef : f = n := by omega
    subst ef
    have hx : ∀ k, k < (ws_li ib m).1 → (fun k => (a9 k).toNatClampNeg) k ≤ 1000 ∧ a9 k = nI ((fun k => (a9 k).toNatClampNeg) k) := fun k hk => ⟨(ws_P_x (hP k hk)).2.2.1, (ws_P_x (hP k hk)).2.1⟩
    refine pk_lt 48 r (fun z => absurd z (by omega)) (fun _ => ws_leastDocument hl hx ?_)
    have hmin : ws_min (fun k => (a9 k).toNatClampNeg) (ws_li ib m).1 = 1000 := by
      rcases ws_min_at (fun k => (a9 k).toNatClampNeg) (ws_li ib m).1 with g | ⟨k, k1, k2⟩
      · exact g
      · rcases (ws_P_x (hP k k1)).1 with g | g
        · rw [k2]; exact g.1
        · exact absurd g.2.2.1.1 (by omega)
    rw [hmin]
    exact br_t rfl (H a8 a9 a10)
  | succ s ih =>
    intro f r a8 a9 a10 h1 h2 h3 hP
    have hx : ∀ k, k < (ws_li ib m).1 → (fun k => (a9 k).toNatClampNeg) k ≤ 1000 ∧ a9 k = nI ((fun k => (a9 k).toNatClampNeg) k) := fun k hk => ⟨(ws_P_x (hP k hk)).2.2.1, (ws_P_x (hP k hk)).2.1⟩
    refine pk_lt 48 r (fun z => absurd z (by omega)) (fun _ => ws_leastDocument hl hx ?_)
    generalize hdd : ws_min (fun k => (a9 k).toNatClampNeg) (ws_li ib m).1 = d
    have hle : ∀ k, k < (ws_li ib m).1 → d ≤ (a9 k).toNatClampNeg := fun k hk => by rw [← hdd]; exact ws_min_le _ _ k hk
    have hno : ∀ d', f ≤ d' → d' < d → d' < n → q d' = false := by
      intro d' g1 g2 g3
      refine Bool.eq_false_iff.mpr (fun g => ?_)
      obtain ⟨u1, u2, _⟩ := (hq d' g3).mp g
      obtain ⟨j, j1, j2⟩ := ws_in_lane g3 u1 u2
      have hj := hle j j1
      rcases (ws_P_x (hP j j1)).1 with v | v
      · exact v.2 d' g1 j2
      · exact v.2.2.2 d' g1 (by omega) j2
    have hd1000 : d ≤ 1000 := by rw [← hdd]; exact ws_min_1000 _ _
    refine pk_eq d 1000 (fun z => ?_) (fun z => ?_)
    · rw [← ws_cnt_flat (p := q) h2 (fun d' g1 g2 => hno d' g1 (by omega) g2)]
      exact H a8 a9 a10
    · have hat : ∃ k, k < (ws_li ib m).1 ∧ d = (a9 k).toNatClampNeg := by
        rcases ws_min_at (fun k => (a9 k).toNatClampNeg) (ws_li ib m).1 with g | ⟨k, k1, k2⟩
        · rw [hdd] at g; exact absurd g z
        · exact ⟨k, k1, by rw [← hdd]; exact k2⟩
      obtain ⟨k, k1, k2⟩ := hat
      have hpd : f ≤ d ∧ d < n ∧ ws_bt av d = true := by
        rcases (ws_P_x (hP k k1)).1 with v | v
        · exact absurd (k2.trans v.1) z
        · rw [k2]; exact ⟨v.2.1, v.2.2.1.1, v.2.2.1.2.1⟩
      obtain ⟨p1, p2, p3⟩ := hpd
      have ecnt : ws_cnt q d = ws_cnt q f := ws_cnt_flat p1 (fun d' g1 g2 => hno d' g1 g2 (by omega))
      have es : ws_cnt q (d + 1) = ws_cnt q f + (if q d = true then 1 else 0) := by rw [← ecnt]; rfl
      have hS2 : ∀ j, j < (ws_li ib m).1 → (fun j => iw ((ws_li ib m).2 j)) j < 8 ∧ a13 j = nI ((fun j => iw ((ws_li ib m).2 j)) j) := fun j hj => ⟨(hS j hj).1, (hS j hj).2.1⟩
      have next : ∀ y, y = nI (ws_cnt q (d + 1)) → ∃ fu, wX_scoring_56 post (wX_scoring_8 post x1 (s + 1)) x1 y (nI r) (nI d) fu 0 (nI n) av (nI m) (nI (ws_li ib m).1) fo a1 a2 a3 a4 a5 a6 a7 a8 a9 a10 a11 a12 a13 a14 a15 := by
        intro y hy
        subst hy
        refine ws_sc56 (f := f) hl (by omega) (by omega) hn hL hS2 hP (fun b8 b9 b10 hP' => ?_)
        rw [nI_1 r]
        exact ih (d + 1) (r + 1) b8 b9 b10 (by omega) (by omega) (by omega) hP'
      refine ws_matches p2 hn hD hT (fun hM => br_f (by decide) ?_) (fun hM => br_t rfl (next _ ?_))
      · refine ws_scoreOf (tw := fun j => iw ((ws_li ib m).2 j)) (wt := fun j => ws_wt n av c (iw ((ws_li ib m).2 j)) (ib ((ws_li ib m).2 j))) hl p2 hn hD (fun j hj => ⟨(hS j hj).1, (hS j hj).2.1, (hS j hj).2.2.1⟩) ?_
        refine br_c (fun g => next _ ?_) (fun g => nm_e (next _ ?_))
        · rw [es, if_neg (fun v => ((hq d p2).mp v).2.2 g)]; rfl
        · rw [es, if_pos ((hq d p2).mpr ⟨p3, hM, g⟩)]; exact nI_1 _
      · rw [es, if_neg (fun v => hM ((hq d p2).mp v).2.1)]; rfl
theorem ws_scoring {post : Int32 → St1 → Prop} {x1 : Int32} {q : Nat → Bool} (hn : n ≤ 24) (hD : ws_D n c ln a3 a4) (hT : ws_T m iw ib a6 a7) (hL : ws_L n av c e R a1 a2)
    (hq : ∀ d, d < n → (q d = true ↔ (ws_bt av d = true ∧ ws_M m ib (fun k => 0 < c d (iw k)) ∧ ¬ nI (ws_sc n av m c ln iw ib d) < x1)))
    (H : ∀ la a8 a9 a10 a11 a12 a13, post (nI (ws_cnt q n)) ((nI n), av, (nI m), la, fo, a1, a2, a3, a4, a5, a6, a7, a8, a9, a10, a11, a12, a13, a14, a15)) : wpX_scoring post ((nI n), av, (nI m), la, fo, a1, a2, a3, a4, a5, a6, a7, a8, a9, a10, a11, a12, a13, a14, a15) x1 := by
  unfold wpX_scoring
  exact ws_openLanes hn hD hT hL (fun B a8 a9 a10 a11 a12 a13 hS hP => ⟨n + 1, ws_sc8 hn hD hT hL hq hS (fun a8 a9 a10 => H _ a8 a9 a10 a11 a12 a13) n 0 0 a8 a9 a10 (by omega) (by omega) (by omega) hP⟩)
theorem ws_score {post : Int32 → St1 → Prop} {d : Nat} (hd : d < 2 ^ 31) (hn : n ≤ 24) (hD : ws_D n c ln a3 a4) (hT : ws_T m iw ib a6 a7) (hL : ws_L n av c e R a1 a2)
    (H1 : d < n → ws_bt av d = true → ∀ la a8 a9 a10 a11 a12 a13, post (nI (ws_sc n av m c ln iw ib d)) ((nI n), av, (nI m), la, fo, a1, a2, a3, a4, a5, a6, a7, a8, a9, a10, a11, a12, a13, a14, a15)) (H0 : ¬ (d < n ∧ ws_bt av d = true) → post (-1) ((nI n), av, (nI m), la, fo, a1, a2, a3, a4, a5, a6, a7, a8, a9, a10, a11, a12, a13, a14, a15)) : wpX_score post ((nI n), av, (nI m), la, fo, a1, a2, a3, a4, a5, a6, a7, a8, a9, a10, a11, a12, a13, a14, a15) (nI d) := by
  have hl : (ws_li ib m).1 ≤ 5 := Nat.le_trans (ws_li_le ib m) hT.1
  unfold wpX_score
  refine ws_isLive hd hn (fun g1 g2 => br_f (by decide) (ws_openLanes hn hD hT hL (fun B a8 a9 a10 a11 a12 a13 hS hP => ?_))) (fun g => br_t rfl (H0 g))
  exact ws_scoreOf (tw := fun j => iw ((ws_li ib m).2 j)) (wt := fun j => ws_wt n av c (iw ((ws_li ib m).2 j)) (ib ((ws_li ib m).2 j))) hl g1 hn hD (fun j hj => ⟨(hS j hj).1, (hS j hj).2.1, (hS j hj).2.2.1⟩) (H1 g1 g2 _ a8 a9 a10 a11 a12 a13)
/-! ===== nextChance ===== -/
theorem ws_nc41 {post : Int32 → Prop} {J : Int32 → Int32 → Prop} {x1 : Int32} {k l y : Nat} {x B : Nat → Nat} {le : Nat → Prop} (hl : l ≤ 5) (hk : k < l) (hy : y ≤ 1000)
    (hx : ∀ j, j < l → x j ≤ 1000 ∧ a9 j = nI (x j)) (hB : ∀ j, j < l → B j ≤ 4096000 ∧ a12 j = nI (B j)) (hle : ∀ s, s ≤ 20480000 → (nI s ≤ x1 ↔ le s))
    (H : ∀ y', y' ≤ y → (y' = y ∨ y' = x k) → (¬ le (ws_sum (fun j => if x j ≤ x k then B j else 0) l) → y' ≤ x k) → J (nI y') (nI (k + 1))) :
    ∃ fu, wX_nextChance_41 post J x1 (nI y) (nI k) (nI n) av (nI m) (nI l) fo a1 a2 a3 a4 a5 a6 a7 a8 a9 a10 a11 a12 a13 a14 a15 fu 0 0 := by
  have ek : a9 (nI k).toNatClampNeg = nI (x k) := by rw [nI_clamp (by omega)]; exact (hx k hk).2
  have bk := (hx k hk).1
  have vk : vp_in (nI k) 5 := pk_in k 5 (by omega)
  refine pk_loop (σ := Unit) (fun fu i _ => wX_nextChance_41 post J x1 (nI y) (nI k) (nI n) av (nI m) (nI l) fo a1 a2 a3 a4 a5 a6 a7 a8 a9 a10 a11 a12 a13 a14 a15 fu (nI (ws_sum (fun j => if x j ≤ x k then B j else 0) i)) (nI i)) (fun _ _ => True) l 0 () (by omega) trivial ?_ ?_
  · intro fu _ _
    have hbd : ws_sum (fun j => if x j ≤ x k then B j else 0) l ≤ 20480000 := by
      have := ws_sum_bd (f := fun j => if x j ≤ x k then B j else 0) (B := 4096000) (n := l) (fun j hj => by have := (hB j hj).1; show (if x j ≤ x k then B j else 0) ≤ 4096000; split <;> omega)
      omega
    refine pk_le l l (fun _ => ?_) (fun z => absurd z (by omega))
    refine ek_if (hle _ hbd) (fun g => nm_r (nI_1 k) (H y (Nat.le_refl _) (Or.inl rfl) (fun z => absurd g z))) (fun g => ⟨vk, ?_⟩)
    exact pk_le y (x k) (fun z => nm_r (nI_1 k) (H y (Nat.le_refl _) (Or.inl rfl) (fun _ => z))) (fun z => ⟨vk, nm_r ek (nm_r (nI_1 k) (H (x k) (by omega) (Or.inr rfl) (fun _ => Nat.le_refl _)))⟩) rfl ek
  · intro fu i _ hi _ hw
    have hw := hw () trivial
    have ei : a9 (nI i).toNatClampNeg = nI (x i) := by rw [nI_clamp (by omega)]; exact (hx i hi).2
    have e12 : a12 (nI i).toNatClampNeg = nI (B i) := by rw [nI_clamp (by omega)]; exact (hB i hi).2
    have bi := (hx i hi).1
    have vi : vp_in (nI i) 5 := pk_in i 5 (by omega)
    have es : ws_sum (fun j => if x j ≤ x k then B j else 0) (i + 1) = ws_sum (fun j => if x j ≤ x k then B j else 0) i + (if x i ≤ x k then B i else 0) := rfl
    refine pk_le l i (fun z => absurd z (by omega)) (fun _ => ⟨vi, vk, pk_lt (x k) (x i) (fun z => nm_r ?_ (nm_r (nI_1 i) hw)) (fun z => ⟨vi, nm_r ?_ (nm_r (nI_1 i) hw)⟩) ek ei⟩)
    · rw [es, if_neg (by omega)]; exact nI_add _ 0
    · rw [es, if_pos z, e12, nI_add]
theorem ws_nc27 {post : Int32 → Prop} {x1 : Int32} {l : Nat} {x B : Nat → Nat} {le : Nat → Prop} (hl : l ≤ 5)
    (hx : ∀ j, j < l → x j ≤ 1000 ∧ a9 j = nI (x j)) (hB : ∀ j, j < l → B j ≤ 4096000 ∧ a12 j = nI (B j)) (hle : ∀ s, s ≤ 20480000 → (nI s ≤ x1 ↔ le s))
    (H : ∀ y, y ≤ 1000 → (y = 1000 ∨ ∃ k, k < l ∧ y = x k) → (∀ k, k < l → x k < y → le (ws_sum (fun j => if x j ≤ x k then B j else 0) l)) → post (nI y)) :
    ∃ fu, wX_nextChance_27 post x1 (nI n) av (nI m) (nI l) fo a1 a2 a3 a4 a5 a6 a7 a8 a9 a10 a11 a12 a13 a14 a15 fu 1000 0 := by
  refine pk_loop (σ := Int32) (fun fu i s => wX_nextChance_27 post x1 (nI n) av (nI m) (nI l) fo a1 a2 a3 a4 a5 a6 a7 a8 a9 a10 a11 a12 a13 a14 a15 fu s (nI i)) (fun i s => ∃ y, s = nI y ∧ y ≤ 1000 ∧ (y = 1000 ∨ ∃ k, k < l ∧ y = x k) ∧ ∀ k, k < i → ¬ le (ws_sum (fun j => if x j ≤ x k then B j else 0) l) → y ≤ x k) l 0 1000 (by omega)
    ⟨1000, rfl, by omega, Or.inl rfl, fun k hk => absurd hk (by omega)⟩ ?_ ?_
  · intro fu s h
    obtain ⟨y, e1, y1, y2, y3⟩ := h
    subst e1
    refine pk_le l l (fun _ => H y y1 y2 (fun k hk g => Classical.byContradiction (fun z => ?_))) (fun z => absurd z (by omega))
    have := y3 k hk z
    omega
  · intro fu i s hi h hw
    obtain ⟨y, e1, y1, y2, y3⟩ := h
    subst e1
    refine pk_le l i (fun z => absurd z (by omega)) (fun _ => ws_nc41 hl hi y1 hx hB hle (fun y' u1 u2 u3 => hw _ ⟨y', rfl, by omega, ?_, lt_s (fun k hk g => ?_) u3⟩))
    · rcases u2 with u2 | u2
      · rw [u2]; exact y2
      · exact Or.inr ⟨i, hi, u2⟩
    · have := y3 k hk g
      omega
theorem ws_nextChance {post : Int32 → Prop} {l K b9 : Nat} {x B : Nat → Nat} (hl : l ≤ 5) (hK : K ≤ 10) (hfo : fo = nI K) (hb : K = 10 → b9 ≤ 20480000 ∧ a15 9 = nI b9)
    (hx : ∀ j, j < l → x j ≤ 1000 ∧ a9 j = nI (x j)) (hB : ∀ j, j < l → B j ≤ 4096000 ∧ a12 j = nI (B j))
    (H : ∀ y, y ≤ 1000 → (y = 1000 ∨ ∃ k, k < l ∧ y = x k) → (∀ k, k < l → x k < y → K = 10 ∧ ws_sum (fun j => if x j ≤ x k then B j else 0) l ≤ b9) → post (nI y)) : wpX_nextChance post ((nI n), av, (nI m), nI l, fo, a1, a2, a3, a4, a5, a6, a7, a8, a9, a10, a11, a12, a13, a14, a15) := by
  subst hfo
  refine pk_eq K 10 (fun z => nm_r (hb z).2 (ws_nc27 (le := fun s => s ≤ b9) hl hx hB (fun s hs => nI_leI (by omega) (by have := (hb z).1; omega)) (fun y y1 y2 y3 => H y y1 y2 (fun k k1 k2 => ⟨z, y3 k k1 k2⟩)))) (fun z => ?_)
  refine ws_nc27 (le := fun _ => False) hl hx hB (fun s hs => ⟨fun g => ?_, fun g => g.elim⟩) (fun y y1 y2 y3 => H y y1 y2 (fun k k1 k2 => (y3 k k1 k2).elim))
  rw [Int32.le_iff_toInt_le, nI_toInt (by omega), show (-1 : Int32).toInt = -1 from by decide] at g
  omega
end
end
section
/-! ===== the ten best ===== -/
def ws_pos (b : Nat → Nat) (v : Nat) : Nat → Nat
  | 0 => 0
  | a + 1 => if b a < v then ws_pos b v a else a + 1
theorem ws_pos_t {b : Nat → Nat} {v a : Nat} (h : b a < v) : ws_pos b v (a + 1) = ws_pos b v a := by
  show (if b a < v then ws_pos b v a else a + 1) = _
  rw [if_pos h]
theorem ws_pos_f {b : Nat → Nat} {v a : Nat} (h : ¬ b a < v) : ws_pos b v (a + 1) = a + 1 := by
  show (if b a < v then ws_pos b v a else a + 1) = _
  rw [if_neg h]
def ws_sh (p v : Nat) (b : Nat → Nat) (i : Nat) : Nat := if i < p then b i else if i = p then v else b (i - 1)
def ws_off (s : Nat × (Nat → Nat) × (Nat → Nat)) (d v : Nat) : Nat × (Nat → Nat) × (Nat → Nat) :=
  if ws_pos s.2.2 v s.1 < 10 then (if s.1 < 10 then s.1 + 1 else s.1, ws_sh (ws_pos s.2.2 v s.1) d s.2.1, ws_sh (ws_pos s.2.2 v s.1) v s.2.2) else s
def ws_BS (q : Nat → Bool) (sc : Nat → Nat) : Nat → Nat × (Nat → Nat) × (Nat → Nat)
  | 0 => (0, fun _ => 0, fun _ => 0)
  | d + 1 => if q d = true then ws_off (ws_BS q sc d) d (sc d) else ws_BS q sc d
theorem ws_BS_congr {q q' : Nat → Bool} {sc sc' : Nat → Nat} : ∀ {n : Nat}, (∀ d, d < n → q d = q' d ∧ (q d = true → sc d = sc' d)) → ws_BS q sc n = ws_BS q' sc' n := by
  intro n
  induction n with
  | zero => intro _; rfl
  | succ n ih =>
    intro h
    show (if q n = true then ws_off (ws_BS q sc n) n (sc n) else ws_BS q sc n) = (if q' n = true then ws_off (ws_BS q' sc' n) n (sc' n) else ws_BS q' sc' n)
    rw [ih (fun d hd => h d (by omega)), ← (h n (by omega)).1]
    by_cases g : q n = true
    · rw [if_pos g, if_pos g, (h n (by omega)).2 g]
    · rw [if_neg g, if_neg g]
def ws_rep (s : Nat × (Nat → Nat) × (Nat → Nat)) (fo : Int32) (a14 a15 : Nat → Int32) : Prop :=
  s.1 ≤ 10 ∧ fo = nI s.1 ∧ ∀ i, i < s.1 → a14 i = nI (s.2.1 i) ∧ a15 i = nI (s.2.2 i) ∧ s.2.2 i ≤ 20480000
/-- a score no greater than the last of ten doesn't come in -/
theorem ws_off_no {s : Nat × (Nat → Nat) × (Nat → Nat)} {d v : Nat} (h : s.1 = 10) (hv : v ≤ s.2.2 9) : ws_off s d v = s := by
  unfold ws_off
  rw [h, ws_pos_f (show ¬ s.2.2 9 < v by omega), if_neg (by omega)]
theorem ws_maxlane {x : Nat → Nat} {d : Nat} : ∀ l, (∃ j, j < l ∧ x j ≤ d) → ∃ j, j < l ∧ x j ≤ d ∧ ∀ i, i < l → x i ≤ d → x i ≤ x j := by
  intro l
  induction l with
  | zero => intro ⟨j, h, _⟩; exact absurd h (Nat.not_lt_zero j)
  | succ l ih =>
    intro ⟨j, j1, j2⟩
    by_cases g : ∃ j, j < l ∧ x j ≤ d
    · obtain ⟨i, i1, i2, i3⟩ := ih g
      by_cases h : x l ≤ d ∧ x i < x l
      · refine ⟨l, by omega, h.1, lt_s (fun a ha ha2 => ?_) (fun _ => Nat.le_refl _)⟩
        have := i3 a ha ha2
        omega
      · refine ⟨i, by omega, i2, lt_s i3 (fun g2 => ?_)⟩
        omega
    · have ej : j = l := by
        rcases Nat.lt_or_ge j l with u | u
        · exact absurd ⟨j, u, j2⟩ g
        · omega
      subst ej
      exact ⟨j, by omega, j2, lt_s (fun a ha ha2 => absurd ⟨a, ha, ha2⟩ g) (fun _ => Nat.le_refl _)⟩
/-- the documents that are passed over don't change the ten best -/
theorem ws_skip {n m : Nat} {av : Int32} {c : Nat → Nat → Nat} {ln iw ib : Nat → Nat} {q : Nat → Bool} {x B : Nat → Nat} {f y : Nat}
    (hq : ∀ d, d < n → (q d = true ↔ (ws_bt av d = true ∧ ws_M m ib (fun k => 0 < c d (iw k)))))
    (hN : ∀ j, j < (ws_li ib m).1 → ws_N (ws_p n av c (iw ((ws_li ib m).2 j))) f (x j))
    (hB : ∀ j, j < (ws_li ib m).1 → ∀ d, d < n → ws_bt av d = true → ws_wt n av c (iw ((ws_li ib m).2 j)) (ib ((ws_li ib m).2 j)) * ws_st (c d (iw ((ws_li ib m).2 j))) (ln d) ≤ B j)
    (hy : ∀ k, k < (ws_li ib m).1 → x k < y → (ws_BS q (ws_sc n av m c ln iw ib) f).1 = 10 ∧ ws_sum (fun j => if x j ≤ x k then B j else 0) (ws_li ib m).1 ≤ (ws_BS q (ws_sc n av m c ln iw ib) f).2.2 9) :
    ∀ g, f ≤ g → g ≤ y → g ≤ n → ws_BS q (ws_sc n av m c ln iw ib) g = ws_BS q (ws_sc n av m c ln iw ib) f := by
  intro g
  induction g with
  | zero => intro h _ _; rw [show f = 0 by omega]
  | succ g ih =>
    intro h1 h2 h3
    by_cases e : f = g + 1
    · rw [e]
    · have ihh := ih (by omega) (by omega) (by omega)
      show (if q g = true then ws_off (ws_BS q (ws_sc n av m c ln iw ib) g) g (ws_sc n av m c ln iw ib g) else ws_BS q (ws_sc n av m c ln iw ib) g) = _
      by_cases hqg : q g = true
      · rw [if_pos hqg, ihh]
        obtain ⟨u1, u2⟩ := (hq g (by omega)).mp hqg
        obtain ⟨j, j1, j2⟩ := ws_in_lane (show g < n by omega) u1 u2
        have hxj : x j ≤ g := by
          rcases hN j j1 with v | v
          · exact absurd j2 (v.2 g (by omega))
          · rcases Nat.lt_or_ge g (x j) with w | w
            · exact absurd j2 (v.2.2.2 g (by omega) w)
            · exact w
        obtain ⟨i, i1, i2, i3⟩ := ws_maxlane (ws_li ib m).1 ⟨j, j1, hxj⟩
        obtain ⟨k1, k2⟩ := hy i i1 (by omega)
        refine ws_off_no k1 (Nat.le_trans (ws_sum_le (fun a ha => ?_)) k2)
        show ws_wt n av c (iw ((ws_li ib m).2 a)) (ib ((ws_li ib m).2 a)) * ws_st (c g (iw ((ws_li ib m).2 a))) (ln g) ≤ if x a ≤ x i then B a else 0
        by_cases hxa : x a ≤ x i
        · rw [if_pos hxa]
          exact hB a ha g (by omega) u1
        · rw [if_neg hxa]
          have hc : c g (iw ((ws_li ib m).2 a)) = 0 := by
            rcases Nat.eq_zero_or_pos (c g (iw ((ws_li ib m).2 a))) with w | w
            · exact w
            · have pa : ws_p n av c (iw ((ws_li ib m).2 a)) g := ⟨by omega, u1, w⟩
              rcases hN a ha with v | v
              · exact absurd pa (v.2 g (by omega))
              · rcases Nat.lt_or_ge g (x a) with z | z
                · exact absurd pa (v.2.2.2 g (by omega) z)
                · exact absurd (i3 a ha z) hxa
          rw [hc, ws_st_0, Nat.mul_zero]
          exact Nat.le_refl 0
      · rw [if_neg hqg]
        exact ihh
section
variable {n m : Nat} {av la fo : Int32} {a1 a2 a3 a4 a5 a6 a7 a8 a9 a10 a11 a12 a13 a14 a15 : Nat → Int32} {c : Nat → Nat → Nat} {ln iw ib w : Nat → Nat} {e : Nat → Nat} {R : Nat → Nat → Nat} {post : St1 → Prop}
theorem ws_of75 {d v p K : Nat} {bd bs : Nat → Nat} (hv : v ≤ 20480000) (hp : p ≤ K) (hK : K ≤ 10) (hpos : ws_pos bs v K = p) (hbs : ∀ i, i < K → bs i ≤ 20480000)
    (h1 : ∀ i, i < p → a14 i = nI (bd i) ∧ a15 i = nI (bs i)) (h2 : ∀ i, p < i → i ≤ K → i < 10 → a14 i = nI (bd (i - 1)) ∧ a15 i = nI (bs (i - 1)))
    (H : ∀ fo a14 a15, ws_rep (ws_off (K, bd, bs) d v) fo a14 a15 → post ((nI n), av, (nI m), la, fo, a1, a2, a3, a4, a5, a6, a7, a8, a9, a10, a11, a12, a13, a14, a15)) : wX_offer_75 post (nI d) (nI v) (nI p) (nI n) av (nI m) la (nI K) a1 a2 a3 a4 a5 a6 a7 a8 a9 a10 a11 a12 a13 a14 a15 := by
  have cp : (nI p).toNatClampNeg = p := nI_clamp (by omega)
  have eo : ws_off (K, bd, bs) d v = if p < 10 then (if K < 10 then K + 1 else K, ws_sh p d bd, ws_sh p v bs) else (K, bd, bs) := by
    show (if ws_pos bs v K < 10 then (if K < 10 then K + 1 else K, ws_sh (ws_pos bs v K) d bd, ws_sh (ws_pos bs v K) v bs) else (K, bd, bs)) = _
    rw [hpos]
  refine pk_le 10 p (fun z => H _ _ _ ?_) (fun z => ⟨pk_in p 10 z, nm_r (by rw [cp]) ⟨pk_in p 10 z, nm_r (by rw [cp]) ?_⟩⟩)
  · rw [eo, if_neg (by omega)]
    exact ⟨hK, rfl, fun i hi => ⟨(h1 i (by have : i < K := hi; omega)).1, (h1 i (by have : i < K := hi; omega)).2, hbs i hi⟩⟩
  · rw [if_pos z] at eo
    have hrep : ∀ K', K' ≤ 10 → K' ≤ K + 1 → ∀ i, i < K' → upd a14 p (nI d) i = nI (ws_sh p d bd i) ∧ upd a15 p (nI v) i = nI (ws_sh p v bs i) ∧ ws_sh p v bs i ≤ 20480000 := by
      intro K' k1 k2 i hi
      unfold ws_sh
      by_cases e1 : i = p
      · subst e1
        rw [pk_us, pk_us, if_neg (Nat.lt_irrefl _), if_pos rfl, if_neg (Nat.lt_irrefl _), if_pos rfl]
        exact ⟨rfl, rfl, hv⟩
      · rw [pk_un e1, pk_un e1]
        by_cases e2 : i < p
        · rw [if_pos e2, if_pos e2]
          exact ⟨(h1 i e2).1, (h1 i e2).2, hbs i (by omega)⟩
        · rw [if_neg e2, if_neg e1, if_neg e2, if_neg e1]
          have q := h2 i (by omega) (by omega) (by omega)
          exact ⟨q.1, q.2, hbs _ (by omega)⟩
    refine pk_le 10 K (fun z2 => nm_e (H _ _ _ ?_)) (fun z2 => nm_e (H _ _ _ ?_))
    · rw [eo, if_neg (by omega)]
      exact ⟨hK, nI_add K 0, hrep K hK (by omega)⟩
    · rw [eo, if_pos (by omega)]
      exact ⟨by show K + 1 ≤ 10; omega, nI_1 K, hrep (K + 1) (by omega) (by omega)⟩
theorem ws_of19 {d v K : Nat} {bd bs : Nat → Nat} (hv : v ≤ 20480000) (hK : K ≤ 10) (hbs : ∀ i, i < K → bs i ≤ 20480000)
    (H : ∀ fo a14 a15, ws_rep (ws_off (K, bd, bs) d v) fo a14 a15 → post ((nI n), av, (nI m), la, fo, a1, a2, a3, a4, a5, a6, a7, a8, a9, a10, a11, a12, a13, a14, a15)) :
    ∀ p a14 a15, p ≤ K → ws_pos bs v K = ws_pos bs v p → (∀ i, i < p → a14 i = nI (bd i) ∧ a15 i = nI (bs i)) → (∀ i, p < i → i ≤ K → i < 10 → a14 i = nI (bd (i - 1)) ∧ a15 i = nI (bs (i - 1))) →
      wX_offer_19 post (nI d) (nI v) (nI n) av (nI m) la (nI K) (p + 1) (nI p) a1 a2 a3 a4 a5 a6 a7 a8 a9 a10 a11 a12 a13 a14 a15 := by
  intro p
  induction p with
  | zero =>
    intro a14 a15 h0 hpos h1 h2
    exact pk_le 0 0 (fun _ => ws_of75 hv h0 hK hpos hbs h1 h2 H) (fun z => absurd z (by omega))
  | succ p ih =>
    intro a14 a15 h0 hpos h1 h2
    have em : nI (p + 1) - 1 = nI p := nI_pred p
    have cp : (nI (p + 1) - 1).toNatClampNeg = p := by rw [em, nI_clamp (by omega)]
    have cq : (nI (p + 1)).toNatClampNeg = p + 1 := nI_clamp (by omega)
    have e15 : a15 (nI (p + 1) - 1).toNatClampNeg = nI (bs p) := by rw [cp]; exact (h1 p (by omega)).2
    have hb := hbs p (by omega)
    have vp : vp_in (nI (p + 1) - 1) 10 := pk_in p 10 (by omega) em
    refine pk_le (p + 1) 0 (fun z => absurd z (by omega)) (fun _ => ⟨vp, pk_le v (bs p) (fun z => ?_) (fun z => ?_) rfl e15⟩)
    · exact ws_of75 hv h0 hK (hpos.trans (ws_pos_f (by omega))) hbs h1 h2 H
    · have hpos' := hpos.trans (ws_pos_t z)
      refine pk_le 10 (p + 1) (fun z2 => nm_r (pk_m1 p) (ih a14 a15 (by omega) hpos' (fun i hi => h1 i (by omega)) (fun i hi hi2 hi3 => absurd hi3 (by omega)))) (fun z2 => ?_)
      have vq : vp_in (nI (p + 1)) 10 := pk_in (p + 1) 10 z2
      have g1 := h1 p (by omega)
      refine ⟨vp, vq, nm_r (by rw [cq, cp]) ⟨vp, vq, nm_r (by rw [cq, cp]) (nm_r (pk_m1 p) (ih _ _ (by omega) hpos' (fun i hi => ?_) (fun i hi hi2 hi3 => ?_)))⟩⟩
      · rw [pk_un (by omega), pk_un (by omega)]
        exact h1 i (by omega)
      · by_cases ei : i = p + 1
        · subst ei
          rw [pk_us, pk_us]
          exact g1
        · rw [pk_un ei, pk_un ei]
          exact h2 i (by omega) hi2 hi3
theorem ws_offer {d v : Nat} {s : Nat × (Nat → Nat) × (Nat → Nat)} (hv : v ≤ 20480000) (hs : ws_rep s fo a14 a15)
    (H : ∀ fo a14 a15, ws_rep (ws_off s d v) fo a14 a15 → post ((nI n), av, (nI m), la, fo, a1, a2, a3, a4, a5, a6, a7, a8, a9, a10, a11, a12, a13, a14, a15)) : wpX_offer post ((nI n), av, (nI m), la, fo, a1, a2, a3, a4, a5, a6, a7, a8, a9, a10, a11, a12, a13, a14, a15) (nI d) (nI v) := by
  obtain ⟨K, bd, bs⟩ := s
  obtain ⟨h1, h2, h3⟩ := hs
  have h1 : K ≤ 10 := h1
  have h2 : fo = nI K := h2
  have h3 : ∀ i, i < K → a14 i = nI (bd i) ∧ a15 i = nI (bs i) ∧ bs i ≤ 20480000 := h3
  subst h2
  have key := ws_of19 (post := post) hv h1 (fun i hi => (h3 i hi).2.2) H K a14 a15 (Nat.le_refl K) rfl (fun i hi => ⟨(h3 i hi).1, (h3 i hi).2.1⟩) (fun i hi hi2 hi3 => absurd hi2 (by omega))
  refine pk_le 10 K (fun z => ⟨K + 1, ?_⟩) (fun z => ⟨K + 1, key⟩)
  have eK : K = 10 := by omega
  subst eK
  exact key
end
end
section
/-! ===== findBest ===== -/
section
variable {n m : Nat} {av la fo : Int32} {a1 a2 a3 a4 a5 a6 a7 a8 a9 a10 a11 a12 a13 a14 a15 : Nat → Int32} {c : Nat → Nat → Nat} {ln iw ib w : Nat → Nat} {e : Nat → Nat} {R : Nat → Nat → Nat}
theorem ws_fb11 {post : St1 → Prop} {q : Nat → Bool} {B : Nat → Nat} (hn : n ≤ 24) (hD : ws_D n c ln a3 a4) (hT : ws_T m iw ib a6 a7) (hL : ws_L n av c e R a1 a2)
    (hq : ∀ d, d < n → (q d = true ↔ (ws_bt av d = true ∧ ws_M m ib (fun k => 0 < c d (iw k)))))
    (hS : ws_QS n av c ln (ws_li ib m).1 (fun j => iw ((ws_li ib m).2 j)) (fun j => ws_wt n av c (iw ((ws_li ib m).2 j)) (ib ((ws_li ib m).2 j))) B a11 a12 a13)
    (H : ∀ fo a8 a9 a10 a14 a15, ws_rep (ws_BS q (ws_sc n av m c ln iw ib) n) fo a14 a15 → post ((nI n), av, (nI m), nI (ws_li ib m).1, fo, a1, a2, a3, a4, a5, a6, a7, a8, a9, a10, a11, a12, a13, a14, a15)) :
    ∀ s f r fo a8 a9 a10 a14 a15, n - f ≤ s → f ≤ n → r ≤ f → ws_QP n av c e R (ws_li ib m).1 (fun j => iw ((ws_li ib m).2 j)) f a8 a9 a10 → ws_rep (ws_BS q (ws_sc n av m c ln iw ib) f) fo a14 a15 → wX_findBest_11 post (s + 1) (nI r) (nI n) av (nI m) (nI (ws_li ib m).1) fo a1 a2 a3 a4 a5 a6 a7 a8 a9 a10 a11 a12 a13 a14 a15 := by
  have hl : (ws_li ib m).1 ≤ 5 := Nat.le_trans (ws_li_le ib m) hT.1
  have hB1 : ∀ j, j < (ws_li ib m).1 → B j ≤ 4096000 ∧ a12 j = nI (B j) := fun j hj => ⟨(hS j hj).2.2.2.2.1, (hS j hj).2.2.2.1⟩
  have hB2 : ∀ j, j < (ws_li ib m).1 → ∀ d, d < n → ws_bt av d = true → ws_wt n av c (iw ((ws_li ib m).2 j)) (ib ((ws_li ib m).2 j)) * ws_st (c d (iw ((ws_li ib m).2 j))) (ln d) ≤ B j := fun j hj => (hS j hj).2.2.2.2.2
  have hS2 : ∀ j, j < (ws_li ib m).1 → (fun j => iw ((ws_li ib m).2 j)) j < 8 ∧ a13 j = nI ((fun j => iw ((ws_li ib m).2 j)) j) := fun j hj => ⟨(hS j hj).1, (hS j hj).2.1⟩
  have hscb : ∀ d, d < n → ws_bt av d = true → ws_sc n av m c ln iw ib d ≤ 20480000 := by
    intro d d1 d2
    have := ws_sum_bd (f := fun j => ws_wt n av c (iw ((ws_li ib m).2 j)) (ib ((ws_li ib m).2 j)) * ws_st (c d (iw ((ws_li ib m).2 j))) (ln d)) (B := 4096000) (n := (ws_li ib m).1) (fun j hj => Nat.le_trans (hB2 j hj d d1 d2) (hB1 j hj).1)
    unfold ws_sc
    omega
  intro s
  induction s with
  | zero =>
    intro f r fo a8 a9 a10 a14 a15 h1 h2 h3 hP hr
    have ef : f = n := by omega
    subst ef
    have hx : ∀ k, k < (ws_li ib m).1 → (fun k => (a9 k).toNatClampNeg) k ≤ 1000 ∧ a9 k = nI ((fun k => (a9 k).toNatClampNeg) k) := fun k hk => ⟨(ws_P_x (hP k hk)).2.2.1, (ws_P_x (hP k hk)).2.1⟩
    have hx1 : ∀ k, k < (ws_li ib m).1 → (a9 k).toNatClampNeg = 1000 := by
      intro k k1
      rcases (ws_P_x (hP k k1)).1 with g | g
      · exact g.1
      · exact absurd g.2.2.1.1 (by omega)
    refine pk_le 125 r (fun z => absurd z (by omega)) (fun _ => ?_)
    refine ws_nextChance (b9 := (ws_BS q (ws_sc f av m c ln iw ib) f).2.2 9) hl hr.1 hr.2.1 (fun z => ⟨(hr.2.2 9 (by omega)).2.2, (hr.2.2 9 (by omega)).2.1⟩) hx hB1 (fun y y1 y2 y3 => ?_)
    have hy : y = 1000 := by
      rcases y2 with g | ⟨k, k1, k2⟩
      · exact g
      · rw [k2]; exact hx1 k k1
    subst hy
    exact br_t rfl (H fo a8 a9 a10 a14 a15 hr)
  | succ s ih =>
    intro f r fo a8 a9 a10 a14 a15 h1 h2 h3 hP hr
    have hx : ∀ k, k < (ws_li ib m).1 → (fun k => (a9 k).toNatClampNeg) k ≤ 1000 ∧ a9 k = nI ((fun k => (a9 k).toNatClampNeg) k) := fun k hk => ⟨(ws_P_x (hP k hk)).2.2.1, (ws_P_x (hP k hk)).2.1⟩
    have hN : ∀ j, j < (ws_li ib m).1 → ws_N (ws_p n av c (iw ((ws_li ib m).2 j))) f ((fun k => (a9 k).toNatClampNeg) j) := fun j hj => (ws_P_x (hP j hj)).1
    refine pk_le 125 r (fun z => absurd z (by omega)) (fun _ => ?_)
    refine ws_nextChance (b9 := (ws_BS q (ws_sc n av m c ln iw ib) f).2.2 9) hl hr.1 hr.2.1 (fun z => ⟨(hr.2.2 9 (by omega)).2.2, (hr.2.2 9 (by omega)).2.1⟩) hx hB1 (fun y y1 y2 y3 => ?_)
    have skip := ws_skip hq hN hB2 y3
    refine pk_eq y 1000 (fun z => ?_) (fun z => ?_)
    · refine H fo a8 a9 a10 a14 a15 ?_
      rw [skip n h2 (by omega) (Nat.le_refl _)]
      exact hr
    · obtain ⟨k, k1, k2⟩ : ∃ k, k < (ws_li ib m).1 ∧ y = (a9 k).toNatClampNeg := by
        rcases y2 with g | g
        · exact absurd g z
        · exact g
      have hpy : f ≤ y ∧ y < n ∧ ws_bt av y = true := by
        rcases hN k k1 with v | v
        · exact absurd (k2.trans v.1) z
        · rw [k2]; exact ⟨v.2.1, v.2.2.1.1, v.2.2.1.2.1⟩
      obtain ⟨p1, p2, p3⟩ := hpy
      refine ws_leastDocument hl hx ?_
      have hdy : ws_min (fun k => (a9 k).toNatClampNeg) (ws_li ib m).1 ≤ y := by rw [k2]; exact ws_min_le (fun k => (a9 k).toNatClampNeg) _ k k1
      have hle : ∀ k, k < (ws_li ib m).1 → ws_min (fun k => (a9 k).toNatClampNeg) (ws_li ib m).1 ≤ (a9 k).toNatClampNeg := fun k hk => ws_min_le (fun k => (a9 k).toNatClampNeg) _ k hk
      have hat := ws_min_at (fun k => (a9 k).toNatClampNeg) (ws_li ib m).1
      generalize hdd : ws_min (fun k => (a9 k).toNatClampNeg) (ws_li ib m).1 = d at hdy hle hat
      refine pk_eq d y (fun g => ?_) (fun g => ?_)
      · subst g
        have eBS : ws_BS q (ws_sc n av m c ln iw ib) d = ws_BS q (ws_sc n av m c ln iw ib) f := skip d p1 (Nat.le_refl _) (by omega)
        have es : ws_BS q (ws_sc n av m c ln iw ib) (d + 1) = if q d = true then ws_off (ws_BS q (ws_sc n av m c ln iw ib) f) d (ws_sc n av m c ln iw ib d) else ws_BS q (ws_sc n av m c ln iw ib) f := by rw [← eBS]; rfl
        have next : ∀ fo a14 a15, ws_rep (ws_BS q (ws_sc n av m c ln iw ib) (d + 1)) fo a14 a15 → ∃ fu, wX_findBest_65 post (wX_findBest_11 post (s + 1)) (nI r) (nI d) fu 0 (nI n) av (nI m) (nI (ws_li ib m).1) fo a1 a2 a3 a4 a5 a6 a7 a8 a9 a10 a11 a12 a13 a14 a15 := by
          intro fo a14 a15 hr'
          refine ws_fb65 (f := f) hl (by omega) (by omega) hn hL hS2 hP (fun b8 b9 b10 hP' => ?_)
          rw [nI_1 r]
          exact ih (d + 1) (r + 1) fo b8 b9 b10 a14 a15 (by omega) (by omega) (by omega) hP' hr'
        refine ws_matches p2 hn hD hT (fun hM => br_f (by decide) ?_) (fun hM => br_t rfl (next _ _ _ ?_))
        · have hqd : q d = true := (hq d p2).mpr ⟨p3, hM⟩
          rw [if_pos hqd] at es
          refine ws_scoreHere (wt := fun j => ws_wt n av c (iw ((ws_li ib m).2 j)) (ib ((ws_li ib m).2 j))) (x := fun k => (a9 k).toNatClampNeg) (oc := fun j => c d (iw ((ws_li ib m).2 j))) hl p2 hn hD (fun j hj => ⟨(hx j hj).1, (hx j hj).2, (hS j hj).2.2.1, fun u => ?_⟩) ?_
          · refine ⟨((hD d p2).1 _ (hS j hj).1).1, ?_⟩
            have u : (a9 j).toNatClampNeg = d := u
            rcases (ws_P_x (hP j hj)).2.2.2 with v | v
            · omega
            · rw [u] at v; exact v
          · have hsum : ws_sum (fun j => if (fun k => (a9 k).toNatClampNeg) j = d then (fun j => ws_wt n av c (iw ((ws_li ib m).2 j)) (ib ((ws_li ib m).2 j))) j * ws_st ((fun j => c d (iw ((ws_li ib m).2 j))) j) (ln d) else 0) (ws_li ib m).1 = ws_sc n av m c ln iw ib d := by
              refine ws_sum_congr (fun j hj => ?_)
              show (if (a9 j).toNatClampNeg = d then ws_wt n av c (iw ((ws_li ib m).2 j)) (ib ((ws_li ib m).2 j)) * ws_st (c d (iw ((ws_li ib m).2 j))) (ln d) else 0) = ws_wt n av c (iw ((ws_li ib m).2 j)) (ib ((ws_li ib m).2 j)) * ws_st (c d (iw ((ws_li ib m).2 j))) (ln d)
              by_cases u : (a9 j).toNatClampNeg = d
              · rw [if_pos u]
              · rw [if_neg u]
                have hc : c d (iw ((ws_li ib m).2 j)) = 0 := by
                  rcases Nat.eq_zero_or_pos (c d (iw ((ws_li ib m).2 j))) with v | v
                  · exact v
                  · have hpj : ws_p n av c (iw ((ws_li ib m).2 j)) d := ⟨p2, p3, v⟩
                    have hj2 := hle j hj
                    rcases hN j hj with t | t
                    · exact absurd hpj (t.2 d p1)
                    · exact absurd hpj (t.2.2.2 d p1 (by show d < (a9 j).toNatClampNeg; omega))
                rw [hc, ws_st_0, Nat.mul_zero]
            rw [hsum]
            refine ws_offer (hscb d p2 p3) hr (fun fo a14 a15 hr' => next fo a14 a15 ?_)
            rw [es]
            exact hr'
        · rw [es, if_neg (fun v => hM ((hq d p2).mp v).2)]
          exact hr
      · have eBS : ws_BS q (ws_sc n av m c ln iw ib) y = ws_BS q (ws_sc n av m c ln iw ib) f := skip y p1 (Nat.le_refl _) (by omega)
        have hfd : f ≤ d := by
          rcases hat with t | ⟨j, j1, j2⟩
          · omega
          · have j2 : d = (a9 j).toNatClampNeg := j2
            rcases hN j j1 with v | v
            · have v1 : (a9 j).toNatClampNeg = 1000 := v.1
              omega
            · have v1 : f ≤ (a9 j).toNatClampNeg := v.2.1
              omega
        refine ws_fb95 (f := f) hl (by omega) p1 hn hL hS2 hP (fun b8 b9 b10 hP' => ?_)
        rw [nI_1 r]
        exact ih y (r + 1) fo b8 b9 b10 a14 a15 (by omega) (by omega) (by omega) hP' (by rw [eBS]; exact hr)
theorem ws_findBest {post : St1 → Prop} {q : Nat → Bool} (hn : n ≤ 24) (hD : ws_D n c ln a3 a4) (hT : ws_T m iw ib a6 a7) (hL : ws_L n av c e R a1 a2)
    (hq : ∀ d, d < n → (q d = true ↔ (ws_bt av d = true ∧ ws_M m ib (fun k => 0 < c d (iw k)))))
    (H : ∀ la fo a8 a9 a10 a11 a12 a13 a14 a15, ws_rep (ws_BS q (ws_sc n av m c ln iw ib) n) fo a14 a15 → post ((nI n), av, (nI m), la, fo, a1, a2, a3, a4, a5, a6, a7, a8, a9, a10, a11, a12, a13, a14, a15)) : wpX_findBest post ((nI n), av, (nI m), la, fo, a1, a2, a3, a4, a5, a6, a7, a8, a9, a10, a11, a12, a13, a14, a15) := by
  unfold wpX_findBest
  exact ws_openLanes hn hD hT hL (fun B a8 a9 a10 a11 a12 a13 hS hP => ⟨n + 1, ws_fb11 hn hD hT hL hq hS (fun fo a8 a9 a10 a14 a15 => H _ fo a8 a9 a10 a11 a12 a13 a14 a15) n 0 0 0 a8 a9 a10 a14 a15 (by omega) (by omega) (by omega) hP ⟨by show 0 ≤ 10; omega, rfl, fun i hi => absurd hi (Nat.not_lt_zero i)⟩⟩)
theorem ws_ranked {post : Int32 → St1 → Prop} {q : Nat → Bool} {i : Nat} (hi : i < 10) (hn : n ≤ 24) (hD : ws_D n c ln a3 a4) (hT : ws_T m iw ib a6 a7) (hL : ws_L n av c e R a1 a2)
    (hq : ∀ d, d < n → (q d = true ↔ (ws_bt av d = true ∧ ws_M m ib (fun k => 0 < c d (iw k)))))
    (H : ∀ la fo a8 a9 a10 a11 a12 a13 a14 a15, post (if i < (ws_BS q (ws_sc n av m c ln iw ib) n).1 then nI ((ws_BS q (ws_sc n av m c ln iw ib) n).2.1 i) else -2) ((nI n), av, (nI m), la, fo, a1, a2, a3, a4, a5, a6, a7, a8, a9, a10, a11, a12, a13, a14, a15)) : wpX_ranked post ((nI n), av, (nI m), la, fo, a1, a2, a3, a4, a5, a6, a7, a8, a9, a10, a11, a12, a13, a14, a15) (nI i) := by
  refine br_f (nI_pos (by omega)) (pk_lt i 10 (fun _ => ?_) (fun z => absurd z (by omega)))
  refine ws_findBest hn hD hT hL hq (fun la fo a8 a9 a10 a11 a12 a13 a14 a15 hr => ?_)
  obtain ⟨r1, r2, r3⟩ := hr
  have H' := H la fo a8 a9 a10 a11 a12 a13 a14 a15
  refine pk_le _ i (fun z => ?_) (fun z => ⟨pk_in i 10 hi, ?_⟩) r2
  · rw [if_neg (by omega)] at H'
    exact H'
  · rw [if_pos z, ← (r3 i z).1] at H'
    rw [nI_clamp (by omega)]
    exact H'
theorem ws_rankedScore {post : Int32 → St1 → Prop} {q : Nat → Bool} {i : Nat} (hi : i < 10) (hn : n ≤ 24) (hD : ws_D n c ln a3 a4) (hT : ws_T m iw ib a6 a7) (hL : ws_L n av c e R a1 a2)
    (hq : ∀ d, d < n → (q d = true ↔ (ws_bt av d = true ∧ ws_M m ib (fun k => 0 < c d (iw k)))))
    (H : ∀ la fo a8 a9 a10 a11 a12 a13 a14 a15, post (if i < (ws_BS q (ws_sc n av m c ln iw ib) n).1 then nI ((ws_BS q (ws_sc n av m c ln iw ib) n).2.2 i) else -2) ((nI n), av, (nI m), la, fo, a1, a2, a3, a4, a5, a6, a7, a8, a9, a10, a11, a12, a13, a14, a15)) : wpX_rankedScore post ((nI n), av, (nI m), la, fo, a1, a2, a3, a4, a5, a6, a7, a8, a9, a10, a11, a12, a13, a14, a15) (nI i) := by
  refine br_f (nI_pos (by omega)) (pk_lt i 10 (fun _ => ?_) (fun z => absurd z (by omega)))
  refine ws_findBest hn hD hT hL hq (fun la fo a8 a9 a10 a11 a12 a13 a14 a15 hr => ?_)
  obtain ⟨r1, r2, r3⟩ := hr
  have H' := H la fo a8 a9 a10 a11 a12 a13 a14 a15
  refine pk_le _ i (fun z => ?_) (fun z => ⟨pk_in i 10 hi, ?_⟩) r2
  · rw [if_neg (by omega)] at H'
    exact H'
  · rw [if_pos z, ← (r3 i z).2.1] at H'
    rw [nI_clamp (by omega)]
    exact H'
end
end
section
/-! ===== the object's picture ===== -/
def ws_O (n : Nat) (av : Int32) (m : Nat) (c : Nat → Nat → Nat) (ln w iw ib : Nat → Nat) (u : St1) : Prop := match u with
  | (f1, f2, f3, f4, f5, a1, a2, a3, a4, a5, a6, a7, a8, a9, a10, a11, a12, a13, a14, a15) => n ≤ 24 ∧ nI n = f1 ∧ av = f2 ∧ nI m = f3 ∧ ws_D n c ln a3 a4 ∧ ws_W w a5 ∧ ws_T m iw ib a6 a7 ∧ ∃ e R, ws_L n av c e R a1 a2
theorem ws_O_n {n : Nat} {av : Int32} {m : Nat} {c : Nat → Nat → Nat} {ln w iw ib : Nat → Nat} {u : St1} (h : ws_O n av m c ln w iw ib u) : n ≤ 24 ∧ m ≤ 5 ∧ (∀ k, k < m → iw k < 8 ∧ ib k ≤ 19) ∧ ∀ t, t < 8 → w t ≤ 7 := by
  obtain ⟨f1, f2, f3, f4, f5, a1, a2, a3, a4, a5, a6, a7, a8, a9, a10, a11, a12, a13, a14, a15⟩ := u
  obtain ⟨h1, _, _, _, _, h5, h6, _⟩ := h
  exact ⟨h1, h6.1, fun k hk => ⟨(h6.2 k hk).1, (h6.2 k hk).2.1⟩, fun t ht => (h5 t ht).1⟩
theorem ws_LW_congr {n t : Nat} {c c' : Nat → Nat} {e : Nat} {R R' : Nat → Nat} {a1 a2 : Nat → Int32} (h : ws_LW n t c e R a1 a2) (hc : ∀ d, d < n → c' d = c d) (hR : ∀ i, i ≤ e → R' i = R i) {n' : Nat} (hn : n ≤ n') : ws_LW n' t c' e R' a1 a2 := by
  obtain ⟨h1, h2, h3, h4⟩ := h
  have hm : ∀ i, i < e → R i < R (i + 1) := fun i hi => (h4 i hi).1
  refine ⟨h1, by rw [hR 0 (by omega)]; exact h2, by rw [hR e (by omega)]; omega, fun i hi => ?_⟩
  have hb := ws_mono hm e (i + 1) (by omega) (by omega)
  have g := h4 i hi
  rw [hR i (by omega), hR (i + 1) (by omega), hc _ (by omega)]
  exact g
theorem ws_LW_fr {n t : Nat} {c : Nat → Nat} {e : Nat} {R : Nat → Nat} {a1 a2 b1 b2 : Nat → Int32} (hn : n ≤ 24) (h : ws_LW n t c e R a1 a2) (h2 : b2 t = a2 t) (h1 : ∀ j, 48 * t ≤ j → j < 48 * t + 48 → b1 j = a1 j) : ws_LW n t c e R b1 b2 := by
  obtain ⟨g1, g2, g3, g4⟩ := h
  have hm : ∀ i, i < e → R i < R (i + 1) := fun i hi => (g4 i hi).1
  have he := ws_mono hm e 0 (by omega) (by omega)
  refine ⟨by rw [h2]; exact g1, g2, g3, fun i hi => ?_⟩
  rw [h1 _ (by omega) (by omega), h1 _ (by omega) (by omega)]
  exact g4 i hi
theorem ws_LW_add {d t : Nat} {c : Nat → Nat} {e : Nat} {R R' : Nat → Nat} {a1 a2 : Nat → Int32} (hd : d < 24) (hc : 0 < c d) (h : ws_LW d t c e R a1 a2) (hR : ∀ i, i ≤ e → R' i = R i) (hR1 : R' (e + 1) = d + 1) :
    ws_LW (d + 1) t c (e + 1) R' (upd (upd a1 (48 * t + 2 * e) (nI (d + 1 - R e))) (48 * t + 2 * e + 1) (nI (c d))) (upd a2 t (nI (2 * e + 2))) := by
  obtain ⟨g1, g2, g3, g4⟩ := h
  have hm : ∀ i, i < e → R i < R (i + 1) := fun i hi => (g4 i hi).1
  have he := ws_mono hm e 0 (by omega) (by omega)
  refine ⟨pk_us, by rw [hR 0 (by omega)]; exact g2, by rw [hR1]; omega, fun i hi => ?_⟩
  by_cases ei : i = e
  · subst ei
    rw [hR i (by omega), hR1]
    refine ⟨by omega, ?_, ?_, hc⟩
    · rw [pk_un (by omega), pk_us]
    · rw [pk_us]; rfl
  · rw [hR i (by omega), hR (i + 1) (by omega), pk_un (by omega), pk_un (by omega), pk_un (by omega), pk_un (by omega)]
    exact g4 i (by omega)
section
variable {n m : Nat} {av la fo : Int32} {a1 a2 a3 a4 a5 a6 a7 a8 a9 a10 a11 a12 a13 a14 a15 : Nat → Int32} {c : Nat → Nat → Nat} {ln iw ib w : Nat → Nat} {e : Nat → Nat} {R : Nat → Nat → Nat}
theorem ws_index {post : St1 → Prop} {d : Nat} {ad im : Int32} (hd : d < 24) (hc : ∀ t, t < 8 → c d t ≤ 7 ∧ a3 (8 * d + t) = nI (c d t)) (hL : ∀ t, t < 8 → ws_LW d t (fun x => c x t) (e t) (R t) a1 a2)
    (H : ∀ a1 a2, (∀ t, t < 8 → ws_LW (d + 1) t (fun x => c x t) (if 0 < c d t then e t + 1 else e t) (fun i => if i = e t + 1 then d + 1 else R t i) a1 a2) → post (ad, av, im, la, fo, a1, a2, a3, a4, a5, a6, a7, a8, a9, a10, a11, a12, a13, a14, a15)) : wpX_index post (ad, av, im, la, fo, a1, a2, a3, a4, a5, a6, a7, a8, a9, a10, a11, a12, a13, a14, a15) (nI d) := by
  refine pk_loop (σ := (Nat → Int32) × (Nat → Int32)) (fun fu i s => wX_index_2 post (nI d) ad av im la fo fu (nI i) s.1 s.2 a3 a4 a5 a6 a7 a8 a9 a10 a11 a12 a13 a14 a15)
    (fun i s => (∀ t, t < i → ws_LW (d + 1) t (fun x => c x t) (if 0 < c d t then e t + 1 else e t) (fun i => if i = e t + 1 then d + 1 else R t i) s.1 s.2) ∧ (∀ t, i ≤ t → t < 8 → ws_LW d t (fun x => c x t) (e t) (R t) s.1 s.2)) 8 0 (a1, a2) (by omega)
    ⟨fun t ht => absurd ht (by omega), fun t _ ht => hL t ht⟩ (fun fu s h => pk_le 8 8 (fun _ => H s.1 s.2 h.1) (fun z => absurd z (by omega))) ?_
  intro fu i s hi h hw
  obtain ⟨b1, b2⟩ := s
  obtain ⟨h1, h2⟩ := h
  have h1 : ∀ t, t < i → ws_LW (d + 1) t (fun x => c x t) (if 0 < c d t then e t + 1 else e t) (fun i => if i = e t + 1 then d + 1 else R t i) b1 b2 := h1
  have h2 : ∀ t, i ≤ t → t < 8 → ws_LW d t (fun x => c x t) (e t) (R t) b1 b2 := h2
  obtain ⟨c1, c2⟩ := hc i hi
  have ex : (8 * nI d) + nI i = nI (8 * d + i) := ws_ix 8 d i
  have e3 : a3 ((8 * nI d) + nI i).toNatClampNeg = nI (c d i) := by rw [ex, nI_clamp (by omega)]; exact c2
  have vx : vp_in ((8 * nI d) + nI i) 192 := pk_in (8 * d + i) 192 (by omega) ex
  have hLi := h2 i (Nat.le_refl _) hi
  have hLi' := hLi
  obtain ⟨g1, g2, g3, g4⟩ := hLi'
  have hm : ∀ j, j < e i → R i j < R i (j + 1) := fun j hj => (g4 j hj).1
  have he := ws_mono hm (e i) 0 (by omega) (by omega)
  have ci : (nI i).toNatClampNeg = i := nI_clamp (by omega)
  refine pk_le 8 i (fun z => absurd z (by omega)) (fun _ => ⟨vx, pk_le (c d i) 0 (fun z => nm_r (nI_1 i) (hw (b1, b2) ⟨lt_s h1 ?_, fun t t1 t2 => h2 t (by omega) t2⟩)) (fun z => ?_) e3⟩)
  · rw [if_neg (by omega)]
    exact ws_LW_congr hLi (fun _ _ => rfl) (fun j hj => if_neg (by omega)) (by omega)
  · have e2 : b2 (nI i).toNatClampNeg = nI (2 * e i) := by rw [ci]; exact g1
    have ex3 : (48 * nI i) + b2 (nI i).toNatClampNeg = nI (48 * i + 2 * e i) := by rw [e2]; exact ws_ix 48 i (2 * e i)
    refine ⟨pk_in i 8 hi, nm_r ex3 ?_⟩
    refine ws_lastOf (n := d) hi (by omega) hLi ⟨pk_in (48 * i + 2 * e i) 384 (by omega), nm_r (e' := upd b1 (48 * i + 2 * e i) (nI (d + 1 - R i (e i)))) ?_ ⟨vx, pk_in (48 * i + 2 * e i + 1) 384 (by omega) (nI_1 _), nm_r (e' := upd (upd b1 (48 * i + 2 * e i) (nI (d + 1 - R i (e i)))) (48 * i + 2 * e i + 1) (nI (c d i))) ?_ ⟨pk_in i 8 hi, pk_in i 8 hi, nm_r (e' := upd b2 i (nI (2 * e i + 2))) ?_ (nm_r (nI_1 i) ?_)⟩⟩⟩
    · rw [nI_clamp (by omega), ws_gap1 (by omega), ws_i8 _ (by omega)]
    · rw [nI_1, nI_clamp (by omega), e3, ws_i8 _ (by omega)]
    · show upd b2 (nI i).toNatClampNeg (b2 (nI i).toNatClampNeg + 2) = upd b2 i (nI (2 * e i + 2))
      rw [e2, ci]; congr 1; exact nI_add _ 2
    · refine hw (upd (upd b1 (48 * i + 2 * e i) (nI (d + 1 - R i (e i)))) (48 * i + 2 * e i + 1) (nI (c d i)), upd b2 i (nI (2 * e i + 2))) ⟨lt_s (fun t ht => ?_) ?_, fun t t1 t2 => ?_⟩
      · exact ws_LW_fr (by omega) (h1 t ht) (pk_un (by omega)) (fun j j1 j2 => (pk_un (by omega)).trans (pk_un (by omega)))
      · rw [if_pos z]
        exact ws_LW_add (c := fun x => c x i) hd z hLi (fun j hj => if_neg (by omega)) (if_pos rfl)
      · exact ws_LW_fr (by omega) (h2 t (by omega) t2) (pk_un (by omega)) (fun j j1 j2 => (pk_un (by omega)).trans (pk_un (by omega)))
end
/-- what is in a list stays in it when a document is put behind -/
theorem ws_cov {e : Nat} {R : Nat → Nat} {x d k : Nat} (h : ∃ i, i < e ∧ R (i + 1) = x + 1) : ∃ i, i < (if 0 < k then e + 1 else e) ∧ (fun i => if i = e + 1 then d + 1 else R i) (i + 1) = x + 1 := by
  obtain ⟨i, i1, i2⟩ := h
  refine ⟨i, by split <;> omega, ?_⟩
  show (if i + 1 = e + 1 then d + 1 else R (i + 1)) = x + 1
  rw [if_neg (by omega)]
  exact i2
theorem ws_covn {e : Nat} {R : Nat → Nat} {d k : Nat} (h : 0 < k) : ∃ i, i < (if 0 < k then e + 1 else e) ∧ (fun i => if i = e + 1 then d + 1 else R i) (i + 1) = d + 1 :=
  ⟨e, by rw [if_pos h]; omega, if_pos rfl⟩
section
variable {n m : Nat} {av : Int32} {c c' : Nat → Nat → Nat} {ln ln' iw iw' ib ib' w w' : Nat → Nat} {u : St1} {post : Int32 → St1 → Prop}
theorem ws_write {t v : Nat} (h : ws_O n av m c ln w iw ib u) (ht : t < 8) (hv : v ≤ 7) (hw : ∀ s, s < 8 → w' s = if s = t then v else w s)
    (H : ∀ u', ws_O n av m c ln w' iw ib u' → post (nI (ws_sum w' 8)) u') : wpX_write post u (nI t) (nI v) := by
  obtain ⟨f1, f2, f3, f4, f5, a1, a2, a3, a4, a5, a6, a7, a8, a9, a10, a11, a12, a13, a14, a15⟩ := u
  obtain ⟨hn, rfl, rfl, rfl, hD, hW, hT, e, R, hL⟩ := h
  have hW' : ws_W w' (upd a5 t (nI v)) := by
    intro s hs
    rw [hw s hs]
    by_cases g : s = t
    · rw [if_pos g, g, pk_us]; exact ⟨hv, rfl⟩
    · rw [if_neg g, pk_un g]; exact hW s hs
  unfold wpX_write
  refine ws_isWord ht (br_f (by decide) (br_f (nI_pos (by omega)) (pk_le v 7 (fun _ => ⟨pk_in t 8 ht, nm_r (e' := upd a5 t (nI v)) (by rw [nI_clamp (by omega)]) ?_⟩) (fun z => absurd z (by omega)))))
  exact ws_draftLength hW' (H _ ⟨hn, rfl, rfl, rfl, hD, hW', hT, e, R, hL⟩)
theorem ws_blank (h : ws_O n av m c ln w iw ib u) (H : ∀ u', ws_O n av m c ln (fun _ => 0) iw ib u' → post (nI (ws_sum w 8)) u') : wpX_blank post u := by
  obtain ⟨f1, f2, f3, f4, f5, a1, a2, a3, a4, a5, a6, a7, a8, a9, a10, a11, a12, a13, a14, a15⟩ := u
  obtain ⟨hn, rfl, rfl, rfl, hD, hW, hT, e, R, hL⟩ := h
  unfold wpX_blank
  refine ws_draftLength hW ?_
  refine pk_loop (fun fu i s => wX_blank_7 post (nI (ws_sum w 8)) (nI n) av (nI m) f4 f5 fu (nI i) a1 a2 a3 a4 s a6 a7 a8 a9 a10 a11 a12 a13 a14 a15) (fun i s => ∀ t, t < i → s t = nI 0) 8 0 a5 (by omega) (fun t ht => absurd ht (by omega))
    (fun fu s hs => pk_le 8 8 (fun _ => H _ ⟨hn, rfl, rfl, rfl, hD, fun t ht => ⟨Nat.zero_le 7, hs t ht⟩, hT, e, R, hL⟩) (fun z => absurd z (by omega))) ?_
  intro fu i s hi hs hw
  refine pk_le 8 i (fun z => absurd z (by omega)) (fun _ => ⟨pk_in i 8 hi, nm_r (e' := upd s i 0) (by rw [nI_clamp (by omega)]) (nm_r (nI_1 i) (hw _ (lt_s (fun t ht => ?_) ?_)))⟩)
  · rw [pk_un (by omega)]; exact hs t ht
  · rw [pk_us]; rfl
theorem ws_delete {d : Nat} (hd : d < 32) (h : ws_O n av m c ln w iw ib u)
    (H1 : d < n → ws_bt av d = true → ∀ u', ws_O n (av &&& (((1 : Int32) <<< (nI d &&& 31)) ^^^ (-1))) m c ln w iw ib u' → post (nI (ws_cnt (ws_bt (av &&& (((1 : Int32) <<< (nI d &&& 31)) ^^^ (-1)))) n)) u')
    (H0 : ¬ (d < n ∧ ws_bt av d = true) → post (-1) u) : wpX_delete post u (nI d) := by
  obtain ⟨f1, f2, f3, f4, f5, a1, a2, a3, a4, a5, a6, a7, a8, a9, a10, a11, a12, a13, a14, a15⟩ := u
  obtain ⟨hn, rfl, rfl, rfl, hD, hW, hT, e, R, hL⟩ := h
  unfold wpX_delete
  refine ws_isLive (by omega) hn (fun g1 g2 => br_f (by decide) (nm_e ?_)) (fun g => br_t rfl (H0 g))
  refine ws_liveCount hn (H1 g1 g2 _ ⟨hn, rfl, rfl, rfl, hD, hW, hT, e, R, fun t ht => ⟨(hL t ht).1, fun x x1 x2 x3 => (hL t ht).2 x x1 ?_ x3⟩⟩)
  rw [ws_clr av hd (show x < 32 by omega)] at x2
  exact (Bool.and_eq_true _ _ |>.mp x2).1
theorem ws_item {t b : Nat} (ht : t < 8) (hb : b < 32) (h : ws_O n av m c ln w iw ib u)
    (H0 : (19 < b ∨ b = 10) → post (-2) u)
    (H1 : ¬ (19 < b ∨ b = 10) → ws_fd (fun k => decide (iw k = t)) m < m → ∀ u', ws_O n av m c ln w (fun k => if k = ws_fd (fun k => decide (iw k = t)) m then t else iw k) (fun k => if k = ws_fd (fun k => decide (iw k = t)) m then b else ib k) u' → post (nI m) u')
    (H2 : ¬ (19 < b ∨ b = 10) → ws_fd (fun k => decide (iw k = t)) m = m → m = 5 → post (-3) u)
    (H3 : ¬ (19 < b ∨ b = 10) → ws_fd (fun k => decide (iw k = t)) m = m → m < 5 → ∀ u', ws_O n av (m + 1) c ln w (fun k => if k = m then t else iw k) (fun k => if k = m then b else ib k) u' → post (nI (m + 1)) u') :
    wpX_item post u (nI t) (nI b) := by
  obtain ⟨f1, f2, f3, f4, f5, a1, a2, a3, a4, a5, a6, a7, a8, a9, a10, a11, a12, a13, a14, a15⟩ := u
  obtain ⟨hn, rfl, rfl, rfl, hD, hW, hT, e, R, hL⟩ := h
  have hm := hT.1
  have hput : ∀ k m', k < 5 → m' ≤ 5 → b ≤ 19 → (∀ j, j < m' → j ≠ k → j < m) → ws_T m' (fun j => if j = k then t else iw j) (fun j => if j = k then b else ib j) (upd a6 k (nI t)) (upd a7 k (nI b)) := by
    intro k m' hk hm' hb2 hj
    refine ⟨hm', fun j j1 => ?_⟩
    by_cases g : j = k
    · subst g
      simp only [if_true]
      exact ⟨ht, hb2, pk_us, pk_us⟩
    · simp only [if_neg g]
      rw [pk_un g, pk_un g]
      exact hT.2 j (hj j j1 g)
  unfold wpX_item
  refine ws_isWord ht (br_f (by decide) (br_f (nI_pos (by omega)) (pk_lt 19 b (fun z => H0 (Or.inl z)) (fun z => pk_eq b 10 (fun z2 => H0 (Or.inr z2)) (fun z2 => ?_)))))
  refine ws_place ht hT (fun g => br_t (nI_pos' (by omega)) ?_) (fun g => br_f (by decide) (pk_eq m 5 (fun z3 => H2 (by omega) g z3) (fun z3 => nm_r (nI_1 m) ?_)))
  · exact ⟨pk_in (ws_fd (fun k => decide (iw k = t)) m) 5 (by omega), nm_r (by rw [nI_clamp (by omega)]) ⟨pk_in (ws_fd (fun k => decide (iw k = t)) m) 5 (by omega), nm_r (by rw [nI_clamp (by omega)]) (H1 (by omega) g _ ⟨hn, rfl, rfl, rfl, hD, hW, hput _ m (by omega) hm (by omega) (fun j j1 _ => j1), e, R, hL⟩)⟩⟩
  · exact ⟨pk_in m 5 (by omega), nm_r (by rw [nI_clamp (by omega)]) ⟨pk_in m 5 (by omega), nm_r (by rw [nI_clamp (by omega)]) (H3 (by omega) g (by omega) _ ⟨hn, rfl, rfl, rfl, hD, hW, hput m (m + 1) (by omega) (by omega) (by omega) (fun j j1 j2 => by omega), e, R, hL⟩)⟩⟩
theorem ws_drop {t : Nat} (ht : t < 8) (h : ws_O n av m c ln w iw ib u)
    (H1 : ws_fd (fun k => decide (iw k = t)) m < m → ∀ u', ws_O n av (m - 1) c ln w (fun k => if k < ws_fd (fun k => decide (iw k = t)) m then iw k else iw (k + 1)) (fun k => if k < ws_fd (fun k => decide (iw k = t)) m then ib k else ib (k + 1)) u' → post (nI (m - 1)) u')
    (H0 : ws_fd (fun k => decide (iw k = t)) m = m → post (-1) u) : wpX_drop post u (nI t) := by
  obtain ⟨f1, f2, f3, f4, f5, a1, a2, a3, a4, a5, a6, a7, a8, a9, a10, a11, a12, a13, a14, a15⟩ := u
  obtain ⟨hn, rfl, rfl, rfl, hD, hW, hT, e, R, hL⟩ := h
  have hm := hT.1
  unfold wpX_drop
  refine ws_place ht hT (fun g => br_t (nI_pos' (by omega)) (nm_r (nI_1 _) ?_)) (fun g => br_f (by decide) (H0 g))
  generalize ws_fd (fun k => decide (iw k = t)) m = p at g H1
  refine pk_loop (σ := (Nat → Int32) × (Nat → Int32)) (fun fu i s => wX_drop_16 post (nI n) av (nI m) f4 f5 fu (nI i) a1 a2 a3 a4 a5 s.1 s.2 a8 a9 a10 a11 a12 a13 a14 a15)
    (fun i s => p < i ∧ ∀ k, k < m → (k + 1 < i → s.1 k = nI (if k < p then iw k else iw (k + 1)) ∧ s.2 k = nI (if k < p then ib k else ib (k + 1))) ∧ (i ≤ k → s.1 k = nI (iw k) ∧ s.2 k = nI (ib k))) m (p + 1) (a6, a7) (by omega) ⟨by omega, fun k hk => ⟨fun q => ?_, fun q => (hT.2 k hk).2.2⟩⟩ (fun fu s hs => ?_) (fun fu i s hi hs hw => ?_)
  · rw [if_pos (by omega), if_pos (by omega)]
    exact (hT.2 k hk).2.2
  · refine pk_le m m (fun _ => nm_r (e' := nI (m - 1)) (pk_sub (b := 1) (by omega)) (H1 g _ ⟨hn, rfl, rfl, rfl, hD, hW, ⟨by omega, fun k hk => ?_⟩, e, R, hL⟩)) (fun z => absurd z (by omega))
    have q := (hs.2 k (by omega)).1 (by omega)
    refine ⟨?_, ?_, q.1, q.2⟩
    · show (if k < p then iw k else iw (k + 1)) < 8
      split
      · exact (hT.2 k (by omega)).1
      · exact (hT.2 (k + 1) (by omega)).1
    · show (if k < p then ib k else ib (k + 1)) ≤ 19
      split
      · exact (hT.2 k (by omega)).2.1
      · exact (hT.2 (k + 1) (by omega)).2.1
  · obtain ⟨s1, s2⟩ := s
    obtain ⟨hp, hs⟩ := hs
    have hs : ∀ k, k < m → (k + 1 < i → s1 k = nI (if k < p then iw k else iw (k + 1)) ∧ s2 k = nI (if k < p then ib k else ib (k + 1))) ∧ (i ≤ k → s1 k = nI (iw k) ∧ s2 k = nI (ib k)) := hs
    have em : nI i - 1 = nI (i - 1) := ws_pre (by omega)
    have vi : vp_in (nI i) 5 := pk_in i 5 (by omega)
    have vj : vp_in (nI i - 1) 5 := pk_in (i - 1) 5 (by omega) em
    have q := (hs i hi).2 (Nat.le_refl _)
    refine pk_le m i (fun z => absurd z (by omega)) (fun _ => ⟨vi, vj, nm_r (e' := upd s1 (i - 1) (nI (iw i))) ?_ ⟨vi, vj, nm_r (e' := upd s2 (i - 1) (nI (ib i))) ?_ (nm_r (nI_1 i) (hw (upd s1 (i - 1) (nI (iw i)), upd s2 (i - 1) (nI (ib i))) ⟨by omega, fun k hk => ?_⟩))⟩⟩)
    · show upd s1 (nI i - 1).toNatClampNeg (s1 (nI i).toNatClampNeg) = _
      rw [em, nI_clamp (by omega), nI_clamp (by omega), q.1]
    · show upd s2 (nI i - 1).toNatClampNeg (s2 (nI i).toNatClampNeg) = _
      rw [em, nI_clamp (by omega), nI_clamp (by omega), q.2]
    · show (k + 1 < i + 1 → upd s1 (i - 1) (nI (iw i)) k = nI (if k < p then iw k else iw (k + 1)) ∧ upd s2 (i - 1) (nI (ib i)) k = nI (if k < p then ib k else ib (k + 1))) ∧ (i + 1 ≤ k → upd s1 (i - 1) (nI (iw i)) k = nI (iw k) ∧ upd s2 (i - 1) (nI (ib i)) k = nI (ib k))
      by_cases ek : k = i - 1
      · subst ek
        rw [pk_us, pk_us, if_neg (by omega), if_neg (by omega), show i - 1 + 1 = i by omega]
        exact ⟨fun _ => ⟨rfl, rfl⟩, fun z => absurd z (by omega)⟩
      · rw [pk_un ek, pk_un ek]
        exact ⟨fun z => (hs k hk).1 (by omega), fun z => (hs k hk).2 (by omega)⟩
end
end
section
/-! ===== documents put in ===== -/
theorem ws_O_congr {n : Nat} {av : Int32} {m : Nat} {c c' : Nat → Nat → Nat} {ln ln' w w' iw iw' ib ib' : Nat → Nat} {u : St1} (h : ws_O n av m c ln w iw ib u)
    (hc : ∀ d, d < n → ∀ t, t < 8 → c' d t = c d t) (hl : ∀ d, d < n → ln' d = ln d) (hw : ∀ t, t < 8 → w' t = w t) (hi : ∀ k, k < m → iw' k = iw k ∧ ib' k = ib k) : ws_O n av m c' ln' w' iw' ib' u := by
  obtain ⟨f1, f2, f3, f4, f5, a1, a2, a3, a4, a5, a6, a7, a8, a9, a10, a11, a12, a13, a14, a15⟩ := u
  obtain ⟨hn, h1, h2, h3, hD, hW, hT, e, R, hL⟩ := h
  refine ⟨hn, h1, h2, h3, fun d hd => ?_, fun t ht => ?_, ⟨hT.1, fun k hk => ?_⟩, e, R, fun t ht => ⟨ws_LW_congr (hL t ht).1 (fun d hd => hc d hd t ht) (fun _ _ => rfl) (Nat.le_refl _), fun d d1 d2 d3 => (hL t ht).2 d d1 d2 ?_⟩⟩
  · refine ⟨fun t ht => ?_, ?_⟩
    · rw [hc d hd t ht]; exact (hD d hd).1 t ht
    · rw [hl d hd]; exact (hD d hd).2
  · rw [hw t ht]; exact hW t ht
  · rw [(hi k hk).1, (hi k hk).2]; exact hT.2 k hk
  · have d3 : 0 < c' d t := d3
    rw [hc d d1 t ht] at d3
    exact d3
theorem ws_D_add {n : Nat} {c c' : Nat → Nat → Nat} {ln ln' : Nat → Nat} {a3 a4 b3 : Nat → Int32} (h : ws_D n c ln a3 a4) (hc : ∀ d, d < n → ∀ t, t < 8 → c' d t = c d t) (hl : ∀ d, d < n → ln' d = ln d)
    (h0 : ∀ j, j < 8 * n → b3 j = a3 j) (h1 : ∀ t, t < 8 → c' n t ≤ 7 ∧ b3 (8 * n + t) = nI (c' n t)) (h2 : ln' n ≤ 56) : ws_D (n + 1) c' ln' b3 (upd a4 n (nI (ln' n))) := by
  intro d hd
  by_cases e : d = n
  · subst e
    exact ⟨h1, h2, pk_us⟩
  · have hd' : d < n := by omega
    refine ⟨fun t ht => ?_, ?_⟩
    · rw [hc d hd' t ht, h0 _ (by omega)]; exact (h d hd').1 t ht
    · rw [hl d hd', pk_un e]; exact (h d hd').2
theorem ws_L_add {d : Nat} {av av' : Int32} {c c' : Nat → Nat → Nat} {e : Nat → Nat} {R : Nat → Nat → Nat} {a1 a2 b1 b2 : Nat → Int32} (h : ws_L d av c e R a1 a2) (hc : ∀ x, x < d → ∀ t, t < 8 → c' x t = c x t)
    (hb : ∀ x, x < d → ws_bt av' x = true → ws_bt av x = true)
    (hN : ∀ t, t < 8 → ws_LW (d + 1) t (fun x => c' x t) (if 0 < c' d t then e t + 1 else e t) (fun i => if i = e t + 1 then d + 1 else R t i) b1 b2) :
    ws_L (d + 1) av' c' (fun t => if 0 < c' d t then e t + 1 else e t) (fun t i => if i = e t + 1 then d + 1 else R t i) b1 b2 := by
  intro t ht
  refine ⟨hN t ht, fun x x1 x2 x3 => ?_⟩
  have x3 : 0 < c' x t := x3
  by_cases ex : x = d
  · subst ex
    exact ws_covn x3
  · rw [hc x (by omega) t ht] at x3
    exact ws_cov ((h t ht).2 x (by omega) (hb x (by omega) x2) x3)
theorem ws_setlo {av : Int32} {n x : Nat} (hn : n < 24) (hx : x < n) (h : ws_bt (av ||| ((1 : Int32) <<< (nI n &&& 31))) x = true) : ws_bt av x = true := by
  rw [ws_set av (by omega) (by omega), decide_eq_false (by omega), Bool.or_false] at h
  exact h
def ws_gv (s k t : Nat) : Nat := (s + 5 * k + 3 * t + k * t) % 11 - 3
theorem ws_gv_le (s k t : Nat) : ws_gv s k t ≤ 7 := by unfold ws_gv; omega
theorem ws_gv_x {s k t : Nat} (hs : s ≤ 10) (hk : k ≤ 24) (ht : t < 8) :
    (0 ≤ (((((nI s + (5 * nI k)) + (3 * nI t)) + (nI k * nI t)) - (((nI s + (5 * nI k)) + (3 * nI t)) + (nI k * nI t)) / 11 * 11) - 3) → (((((nI s + (5 * nI k)) + (3 * nI t)) + (nI k * nI t)) - (((nI s + (5 * nI k)) + (3 * nI t)) + (nI k * nI t)) / 11 * 11) - 3) = nI (ws_gv s k t)) ∧
    (¬ 0 ≤ (((((nI s + (5 * nI k)) + (3 * nI t)) + (nI k * nI t)) - (((nI s + (5 * nI k)) + (3 * nI t)) + (nI k * nI t)) / 11 * 11) - 3) → (0 : Int32) = nI (ws_gv s k t)) := by
  have hkt : k * t ≤ 24 * 8 := Nat.mul_le_mul hk (by omega)
  have e1 : ((nI s + (5 * nI k)) + (3 * nI t)) + (nI k * nI t) = nI (s + 5 * k + 3 * t + k * t) := by
    rw [show (5 : Int32) = nI 5 from rfl, show (3 : Int32) = nI 3 from rfl, pk_mul, pk_mul, pk_mul, nI_add, nI_add, nI_add]
  have e2 : (((((nI s + (5 * nI k)) + (3 * nI t)) + (nI k * nI t)) - (((nI s + (5 * nI k)) + (3 * nI t)) + (nI k * nI t)) / 11 * 11) - 3) = nI ((s + 5 * k + 3 * t + k * t) % 11) - nI 3 := by
    rw [e1, show (11 : Int32) = nI 11 from rfl, pk_rem (by omega) (by omega) (by omega)]; rfl
  rw [e2]
  unfold ws_gv
  have hr : (s + 5 * k + 3 * t + k * t) % 11 < 11 := Nat.mod_lt _ (by omega)
  generalize (s + 5 * k + 3 * t + k * t) % 11 = r at hr
  rcases Nat.lt_or_ge r 3 with g | g
  · refine ⟨fun z => ?_, fun _ => by rw [show r - 3 = 0 by omega]; rfl⟩
    have := pk_sneg (a := r) (b := 3) (by omega) g
    exact absurd this (Int32.not_lt.mpr z)
  · refine ⟨fun _ => pk_sub g, fun z => absurd ?_ z⟩
    rw [pk_sub g]
    exact nI_pos' (by omega)
/-- the alive word after k more documents -/
def ws_av (n : Nat) (av : Int32) : Nat → Int32
  | 0 => av
  | k + 1 => ws_av n av k ||| ((1 : Int32) <<< (nI (n + k) &&& 31))
section
variable {n m : Nat} {av la fo : Int32} {a1 a2 a3 a4 a5 a6 a7 a8 a9 a10 a11 a12 a13 a14 a15 : Nat → Int32} {c c' : Nat → Nat → Nat} {ln ln' iw ib w : Nat → Nat} {u : St1} {post : Int32 → St1 → Prop}
/-- the common end of add and addMany: the row stands, the length is stored, index is called -/
theorem ws_put {e : Nat → Nat} {R : Nat → Nat → Nat} {Q : St1 → Prop} {b3 : Nat → Int32} (hn : n < 24) (hD : ws_D n c ln a3 a4) (hW : ws_W w a5) (hT : ws_T m iw ib a6 a7) (hL : ws_L n av c e R a1 a2)
    (hc : ∀ d, d < n → ∀ t, t < 8 → c' d t = c d t) (hl : ∀ d, d < n → ln' d = ln d) (h0 : ∀ j, j < 8 * n → b3 j = a3 j) (h1 : ∀ t, t < 8 → c' n t ≤ 7 ∧ b3 (8 * n + t) = nI (c' n t)) (h2 : ln' n ≤ 56)
    (H : ∀ b1 b2, ws_O (n + 1) (av ||| ((1 : Int32) <<< (nI n &&& 31))) m c' ln' w iw ib (nI (n + 1), av ||| ((1 : Int32) <<< (nI n &&& 31)), nI m, la, fo, b1, b2, b3, upd a4 n (nI (ln' n)), a5, a6, a7, a8, a9, a10, a11, a12, a13, a14, a15) → Q ((nI n), av, (nI m), la, fo, b1, b2, b3, upd a4 n (nI (ln' n)), a5, a6, a7, a8, a9, a10, a11, a12, a13, a14, a15)) :
    wpX_index Q ((nI n), av, (nI m), la, fo, a1, a2, b3, upd a4 n (nI (ln' n)), a5, a6, a7, a8, a9, a10, a11, a12, a13, a14, a15) (nI n) := by
  refine ws_index (c := c') (e := e) (R := R) hn h1 (fun t ht => ws_LW_congr (hL t ht).1 (fun d hd => hc d hd t ht) (fun _ _ => rfl) (Nat.le_refl _)) (fun b1 b2 hN => H b1 b2 ?_)
  exact ⟨by omega, rfl, rfl, rfl, ws_D_add hD hc hl h0 h1 h2, hW, hT, _, _, ws_L_add hL hc (fun x hx hb => ws_setlo hn hx hb) hN⟩
theorem ws_row {a3 s : Nat → Int32} {n i : Nat} {g : Nat → Nat} {x : Int32} (hx : x = nI (g i)) (h : (∀ t, t < i → s (8 * n + t) = nI (g t)) ∧ ∀ j, j < 8 * n → s j = a3 j) :
    (∀ t, t < i + 1 → upd s (8 * n + i) x (8 * n + t) = nI (g t)) ∧ ∀ j, j < 8 * n → upd s (8 * n + i) x j = a3 j := by
  refine ⟨lt_s (fun t ht => ?_) ?_, fun j hj => ?_⟩
  · rw [pk_un (by omega)]; exact h.1 t ht
  · rw [pk_us]; exact hx
  · rw [pk_un (by omega)]; exact h.2 j hj
theorem ws_add (h : ws_O n av m c ln w iw ib u) (hc : ∀ d, d < n → ∀ t, t < 8 → c' d t = c d t) (hcn : ∀ t, t < 8 → c' n t = w t) (hl : ∀ d, d < n → ln' d = ln d) (hln : ln' n = ws_sum w 8)
    (H1 : n < 24 → ∀ u', ws_O (n + 1) (av ||| ((1 : Int32) <<< (nI n &&& 31))) m c' ln' w iw ib u' → post (nI n) u') (H0 : n = 24 → post (-1) u) : wpX_add post u := by
  obtain ⟨f1, f2, f3, f4, f5, a1, a2, a3, a4, a5, a6, a7, a8, a9, a10, a11, a12, a13, a14, a15⟩ := u
  obtain ⟨hn, rfl, rfl, rfl, hD, hW, hT, e, R, hL⟩ := h
  refine pk_eq n 24 (fun z => H0 z) (fun z => ?_)
  have hn' : n < 24 := by omega
  have h56 : ws_sum w 8 ≤ 56 := ws_sum_bd (B := 7) (n := 8) (fun t ht => (hW t ht).1)
  refine pk_loop (fun fu i s => wX_add_13 post (nI n) av (nI m) f4 f5 fu (nI i) a1 a2 s a4 a5 a6 a7 a8 a9 a10 a11 a12 a13 a14 a15) (fun i s => (∀ t, t < i → s (8 * n + t) = nI (w t)) ∧ ∀ j, j < 8 * n → s j = a3 j) 8 0 a3 (by omega)
    ⟨fun t ht => absurd ht (by omega), fun _ _ => rfl⟩ (fun fu s hs => pk_le 8 8 (fun _ => ?_) (fun z => absurd z (by omega))) (fun fu i s hi hs hw => pk_le 8 i (fun z => absurd z (by omega)) (fun _ => ?_))
  · refine ws_draftLength hW ⟨pk_in n 24 hn', nm_r (e' := upd a4 n (nI (ln' n))) (by rw [nI_clamp (by omega), hln]) ?_⟩
    refine ws_put hn' hD hW hT hL hc hl hs.2 (fun t ht => ⟨by rw [hcn t ht]; exact (hW t ht).1, by rw [hcn t ht]; exact hs.1 t ht⟩) (by omega) (fun b1 b2 hO => nm_e (nm_r (nI_1 n) ?_))
    rw [nI_pred]
    exact H1 hn' _ hO
  · have ex : (8 * nI n) + nI i = nI (8 * n + i) := ws_ix 8 n i
    refine ⟨pk_in i 8 hi, pk_in (8 * n + i) 192 (by omega) ex, nm_r (e' := upd s (8 * n + i) (nI (w i))) (by rw [ex, nI_clamp (by omega), nI_clamp (by omega), (hW i hi).2]) (nm_r (nI_1 i) (hw _ (ws_row rfl hs)))⟩
theorem ws_am48 {J : Int32 → Int32 → Int32 → Int32 → Int32 → Int32 → (Nat → Int32) → (Nat → Int32) → (Nat → Int32) → (Nat → Int32) → (Nat → Int32) → (Nat → Int32) → (Nat → Int32) → (Nat → Int32) → (Nat → Int32) → (Nat → Int32) → (Nat → Int32) → (Nat → Int32) → (Nat → Int32) → (Nat → Int32) → (Nat → Int32) → Prop}
    {s k : Nat} {x2 : Int32} (hs : s ≤ 10) (hk : k ≤ 24) (hn : n < 24) (h : ws_O n av m c ln w iw ib ((nI n), av, (nI m), la, fo, a1, a2, a3, a4, a5, a6, a7, a8, a9, a10, a11, a12, a13, a14, a15)) (hcn : ∀ t, t < 8 → c n t = ws_gv s k t) (hln : ln n = ws_sum (ws_gv s k) 8)
    (H : ∀ a1 a2 a3 a4, ws_O (n + 1) (av ||| ((1 : Int32) <<< (nI n &&& 31))) m c ln w iw ib (nI (n + 1), av ||| ((1 : Int32) <<< (nI n &&& 31)), nI m, la, fo, a1, a2, a3, a4, a5, a6, a7, a8, a9, a10, a11, a12, a13, a14, a15) → J (nI (k + 1)) (nI (n + 1)) (av ||| ((1 : Int32) <<< (nI n &&& 31))) (nI m) la fo a1 a2 a3 a4 a5 a6 a7 a8 a9 a10 a11 a12 a13 a14 a15) :
    ∃ fu, wX_addMany_48 post J (nI s) x2 (nI k) (nI n) av (nI m) la fo fu 0 0 a1 a2 a3 a4 a5 a6 a7 a8 a9 a10 a11 a12 a13 a14 a15 := by
  obtain ⟨_, _, _, _, hD, hW, hT, e, R, hL⟩ := h
  have h56 : ws_sum (ws_gv s k) 8 ≤ 56 := ws_sum_bd (B := 7) (n := 8) (fun t _ => ws_gv_le s k t)
  refine pk_loop (fun fu i b => wX_addMany_48 post J (nI s) x2 (nI k) (nI n) av (nI m) la fo fu (nI (ws_sum (ws_gv s k) i)) (nI i) a1 a2 b a4 a5 a6 a7 a8 a9 a10 a11 a12 a13 a14 a15) (fun i b => (∀ t, t < i → b (8 * n + t) = nI (ws_gv s k t)) ∧ ∀ j, j < 8 * n → b j = a3 j) 8 0 a3 (by omega)
    ⟨fun t ht => absurd ht (by omega), fun _ _ => rfl⟩ (fun fu b hb => pk_le 8 8 (fun _ => ⟨pk_in n 24 hn, nm_r (e' := upd a4 n (nI (ln n))) (by rw [nI_clamp (by omega), hln]) ?_⟩) (fun z => absurd z (by omega))) (fun fu i b hi hb hw => pk_le 8 i (fun z => absurd z (by omega)) (fun _ => ⟨by decide, nm_e ?_⟩))
  · refine ws_put hn hD hW hT hL (fun _ _ _ _ => rfl) (fun _ _ => rfl) hb.2 (fun t ht => ⟨by rw [hcn t ht]; exact ws_gv_le s k t, by rw [hcn t ht]; exact hb.1 t ht⟩) (by omega) (fun b1 b2 hO => nm_e (nm_r (nI_1 n) (nm_r (nI_1 k) (H _ _ _ _ hO))))
  · have ex : (8 * nI n) + nI i = nI (8 * n + i) := ws_ix 8 n i
    have key : ∀ z, z = nI (ws_gv s k i) → wX_addMany_88 post J (wX_addMany_48 post J (nI s) x2 (nI k) (nI n) av (nI m) la fo fu) (nI s) x2 (nI k) (nI (ws_sum (ws_gv s k) i)) (nI i) z (nI n) av (nI m) la fo a1 a2 b a4 a5 a6 a7 a8 a9 a10 a11 a12 a13 a14 a15 := by
      intro z hz
      subst hz
      exact ⟨pk_in (8 * n + i) 192 (by omega) ex, nm_r (e' := upd b (8 * n + i) (nI (ws_gv s k i))) (by rw [ex, nI_clamp (by omega)]) (nm_r (nI_add _ _) (nm_r (nI_1 i) (hw _ (ws_row rfl hb))))⟩
    obtain ⟨v1, v2⟩ := ws_gv_x hs hk hi
    exact br_c (fun g => key _ (v1 g)) (fun g => key _ (v2 g))
theorem ws_am28 {s cnt : Nat} (hs : s ≤ 10) (hcnt : cnt ≤ 24) (hcn : ∀ k t, t < 8 → c (n + k) t = ws_gv s k t) (hln : ∀ k, ln (n + k) = ws_sum (ws_gv s k) 8)
    (H : ∀ k u', k ≤ cnt → k = cnt ∨ n + k = 24 → ws_O (n + k) (ws_av n av k) m c ln w iw ib u' → post (nI k) u') :
    ∀ r k a1 a2 a3 a4, k + r = cnt → ws_O (n + k) (ws_av n av k) m c ln w iw ib (nI (n + k), ws_av n av k, (nI m), la, fo, a1, a2, a3, a4, a5, a6, a7, a8, a9, a10, a11, a12, a13, a14, a15) → wX_addMany_28 post (nI s) (nI cnt) (r + 1) (nI k) (nI (n + k)) (ws_av n av k) (nI m) la fo a1 a2 a3 a4 a5 a6 a7 a8 a9 a10 a11 a12 a13 a14 a15 := by
  intro r
  induction r with
  | zero =>
    intro k a1 a2 a3 a4 hk h
    have ek : k = cnt := by omega
    subst ek
    exact pk_le k k (fun _ => H k _ (Nat.le_refl _) (Or.inl rfl) h) (fun z => absurd z (by omega))
  | succ r ih =>
    intro k a1 a2 a3 a4 hk h
    have hn := h.1
    refine pk_le cnt k (fun z => absurd z (by omega)) (fun _ => pk_le 24 (n + k) (fun z => H k _ (by omega) (Or.inr (by omega)) h) (fun z => ?_))
    exact ws_am48 hs (by omega) z h (hcn k) (hln k) (fun a1 a2 a3 a4 hO => ih (k + 1) a1 a2 a3 a4 (by omega) hO)
theorem ws_addMany {s cnt : Nat} (hs : s ≤ 10) (hc1 : 1 ≤ cnt) (hcnt : cnt ≤ 24) (h : ws_O n av m c ln w iw ib u) (hcn : ∀ k t, t < 8 → c (n + k) t = ws_gv s k t) (hln : ∀ k, ln (n + k) = ws_sum (ws_gv s k) 8)
    (H : ∀ k u', k ≤ cnt → k = cnt ∨ n + k = 24 → ws_O (n + k) (ws_av n av k) m c ln w iw ib u' → post (nI k) u') : wpX_addMany post u (nI s) (nI cnt) := by
  obtain ⟨f1, f2, f3, f4, f5, a1, a2, a3, a4, a5, a6, a7, a8, a9, a10, a11, a12, a13, a14, a15⟩ := u
  have h' := h
  obtain ⟨hn, rfl, rfl, rfl, _⟩ := h'
  refine br_f (nI_pos (by omega)) (pk_le s 10 (fun _ => pk_lt cnt 1 (fun z => absurd z (by omega)) (fun _ => pk_le cnt 24 (fun _ => ⟨cnt + 1, ?_⟩) (fun z => absurd z (by omega)))) (fun z => absurd z (by omega)))
  exact ws_am28 hs hcnt hcn hln H cnt 0 a1 a2 a3 a4 (by omega) h
theorem ws_tidy (h : ws_O n av m c ln w iw ib u) (H : ∀ u', ws_O n av m c ln w iw ib u' → post (nI (ws_cnt (ws_bt av) n)) u') : wpX_tidy post u := by
  obtain ⟨f1, f2, f3, f4, f5, a1, a2, a3, a4, a5, a6, a7, a8, a9, a10, a11, a12, a13, a14, a15⟩ := u
  obtain ⟨hn, rfl, rfl, rfl, hD, hW, hT, e, R, hL⟩ := h
  refine pk_loop (fun fu i s => wX_tidy_2 post (nI n) av (nI m) f4 f5 fu (nI i) a1 s a3 a4 a5 a6 a7 a8 a9 a10 a11 a12 a13 a14 a15) (fun i s => ∀ t, t < i → s t = nI 0) 8 0 a2 (by omega) (fun t ht => absurd ht (by omega))
    (fun fu s hs => pk_le 8 8 (fun _ => ?_) (fun z => absurd z (by omega))) (fun fu i s hi hs hw => pk_le 8 i (fun z => absurd z (by omega)) (fun _ => ⟨pk_in i 8 hi, nm_r (e' := upd s i 0) (by rw [nI_clamp (by omega)]) (nm_r (nI_1 i) (hw _ (lt_s (fun t ht => ?_) ?_)))⟩))
  · refine pk_loop (σ := (Nat → Int32) × (Nat → Int32)) (fun fu i s => wX_tidy_23 post fu (nI i) (nI n) av (nI m) f4 f5 s.1 s.2 a3 a4 a5 a6 a7 a8 a9 a10 a11 a12 a13 a14 a15) (fun i s => ∃ e R, ws_L i av c e R s.1 s.2) n 0 (a1, s) (by omega)
      ⟨fun _ => 0, fun _ _ => 0, fun t ht => ⟨⟨hs t ht, rfl, Nat.le_refl 0, fun i hi => absurd hi (Nat.not_lt_zero i)⟩, fun d hd => absurd hd (Nat.not_lt_zero d)⟩⟩
      (fun fu s hs => pk_le n n (fun _ => ?_) (fun z => absurd z (by omega))) (fun fu i s hi hs hw => pk_le n i (fun z => absurd z (by omega)) (fun _ => ?_))
    · obtain ⟨e, R, hL⟩ := hs
      exact ws_liveCount hn (H _ ⟨hn, rfl, rfl, rfl, hD, hW, hT, e, R, hL⟩)
    · obtain ⟨e, R, hL⟩ := hs
      obtain ⟨s1, s2⟩ := s
      refine ws_isLive (by omega) hn (fun g1 g2 => br_f (by decide) ?_) (fun g => br_t rfl (nm_r (nI_1 i) (hw (s1, s2) ⟨e, R, fun t ht => ⟨ws_LW_congr (hL t ht).1 (fun _ _ => rfl) (fun _ _ => rfl) (by omega), fun x x1 x2 x3 => (hL t ht).2 x ?_ x2 x3⟩⟩)))
      · refine ws_index (c := c) (e := e) (R := R) (by omega) (hD i hi).1 (fun t ht => (hL t ht).1) (fun b1 b2 hN => nm_r (nI_1 i) (hw (b1, b2) ⟨_, _, ws_L_add hL (fun _ _ _ _ => rfl) (fun _ _ q => q) hN⟩))
      · rcases Nat.lt_or_ge x i with q | q
        · exact q
        · exact absurd ⟨hi, by rw [show i = x by omega]; exact x2⟩ g
  · rw [pk_un (by omega)]; exact hs t ht
  · rw [pk_us]; rfl
end
end
section
/-! ===== the readers over the object's picture ===== -/
section
variable {n m : Nat} {av : Int32} {c : Nat → Nat → Nat} {ln iw ib w : Nat → Nat} {u : St1}
theorem ws_live_o {post : Int32 → Prop} (h : ws_O n av m c ln w iw ib u) (H : post (nI (ws_cnt (ws_bt av) n))) : wpX_live post u := by
  obtain ⟨f1, f2, f3, f4, f5, a1, a2, a3, a4, a5, a6, a7, a8, a9, a10, a11, a12, a13, a14, a15⟩ := u
  obtain ⟨hn, rfl, rfl, rfl, hD, hW, hT, e, R, hL⟩ := h
  unfold wpX_live
  exact ws_liveCount hn H
theorem ws_matching_o {post : Int32 → Prop} {q : Nat → Bool} (h : ws_O n av m c ln w iw ib u) (hq : ∀ d, (q d = true ↔ (ws_bt av d = true ∧ ws_M m ib (fun k => 0 < c d (iw k)))))
    (H : post (nI (ws_cnt q n))) : wpX_matching post u := by
  obtain ⟨f1, f2, f3, f4, f5, a1, a2, a3, a4, a5, a6, a7, a8, a9, a10, a11, a12, a13, a14, a15⟩ := u
  obtain ⟨hn, rfl, rfl, rfl, hD, hW, hT, e, R, hL⟩ := h
  exact ws_matching hn hD hT (fun d _ => hq d) H
theorem ws_scoring_o {post : Int32 → St1 → Prop} {x1 : Int32} {q : Nat → Bool} (h : ws_O n av m c ln w iw ib u) (hq : ∀ d, (q d = true ↔ (ws_bt av d = true ∧ ws_M m ib (fun k => 0 < c d (iw k)) ∧ ¬ nI (ws_sc n av m c ln iw ib d) < x1)))
    (H : ∀ u', ws_O n av m c ln w iw ib u' → post (nI (ws_cnt q n)) u') : wpX_scoring post u x1 := by
  obtain ⟨f1, f2, f3, f4, f5, a1, a2, a3, a4, a5, a6, a7, a8, a9, a10, a11, a12, a13, a14, a15⟩ := u
  obtain ⟨hn, rfl, rfl, rfl, hD, hW, hT, e, R, hL⟩ := h
  exact ws_scoring hn hD hT hL (fun d _ => hq d) (fun la a8 a9 a10 a11 a12 a13 => H _ ⟨hn, rfl, rfl, rfl, hD, hW, hT, e, R, hL⟩)
theorem ws_ranked_o {post : Int32 → St1 → Prop} {q : Nat → Bool} {i : Nat} (hi : i < 10) (h : ws_O n av m c ln w iw ib u) (hq : ∀ d, (q d = true ↔ (ws_bt av d = true ∧ ws_M m ib (fun k => 0 < c d (iw k)))))
    (H : ∀ u', ws_O n av m c ln w iw ib u' → post (if i < (ws_BS q (ws_sc n av m c ln iw ib) n).1 then nI ((ws_BS q (ws_sc n av m c ln iw ib) n).2.1 i) else -2) u') : wpX_ranked post u (nI i) := by
  obtain ⟨f1, f2, f3, f4, f5, a1, a2, a3, a4, a5, a6, a7, a8, a9, a10, a11, a12, a13, a14, a15⟩ := u
  obtain ⟨hn, rfl, rfl, rfl, hD, hW, hT, e, R, hL⟩ := h
  exact ws_ranked hi hn hD hT hL (fun d _ => hq d) (fun la fo a8 a9 a10 a11 a12 a13 a14 a15 => H _ ⟨hn, rfl, rfl, rfl, hD, hW, hT, e, R, hL⟩)
theorem ws_rankedScore_o {post : Int32 → St1 → Prop} {q : Nat → Bool} {i : Nat} (hi : i < 10) (h : ws_O n av m c ln w iw ib u) (hq : ∀ d, (q d = true ↔ (ws_bt av d = true ∧ ws_M m ib (fun k => 0 < c d (iw k)))))
    (H : ∀ u', ws_O n av m c ln w iw ib u' → post (if i < (ws_BS q (ws_sc n av m c ln iw ib) n).1 then nI ((ws_BS q (ws_sc n av m c ln iw ib) n).2.2 i) else -2) u') : wpX_rankedScore post u (nI i) := by
  obtain ⟨f1, f2, f3, f4, f5, a1, a2, a3, a4, a5, a6, a7, a8, a9, a10, a11, a12, a13, a14, a15⟩ := u
  obtain ⟨hn, rfl, rfl, rfl, hD, hW, hT, e, R, hL⟩ := h
  exact ws_rankedScore hi hn hD hT hL (fun d _ => hq d) (fun la fo a8 a9 a10 a11 a12 a13 a14 a15 => H _ ⟨hn, rfl, rfl, rfl, hD, hW, hT, e, R, hL⟩)
theorem ws_score_o {post : Int32 → St1 → Prop} {d : Nat} (hd : d < 24) (h : ws_O n av m c ln w iw ib u)
    (H : ∀ u', ws_O n av m c ln w iw ib u' → post (if d < n ∧ ws_bt av d = true then nI (ws_sc n av m c ln iw ib d) else -1) u') : wpX_score post u (nI d) := by
  obtain ⟨f1, f2, f3, f4, f5, a1, a2, a3, a4, a5, a6, a7, a8, a9, a10, a11, a12, a13, a14, a15⟩ := u
  obtain ⟨hn, rfl, rfl, rfl, hD, hW, hT, e, R, hL⟩ := h
  refine ws_score (by omega) hn hD hT hL (fun g1 g2 la a8 a9 a10 a11 a12 a13 => ?_) (fun g => ?_)
  · have q := H (nI n, av, nI m, la, f5, a1, a2, a3, a4, a5, a6, a7, a8, a9, a10, a11, a12, a13, a14, a15) ⟨hn, rfl, rfl, rfl, hD, hW, hT, e, R, hL⟩
    rw [if_pos ⟨g1, g2⟩] at q
    exact q
  · have q := H (nI n, av, nI m, f4, f5, a1, a2, a3, a4, a5, a6, a7, a8, a9, a10, a11, a12, a13, a14, a15) ⟨hn, rfl, rfl, rfl, hD, hW, hT, e, R, hL⟩
    rw [if_neg g] at q
    exact q
theorem ws_spread_o {post : Int32 → Prop} {t : Nat} (ht : t < 8) (h : ws_O n av m c ln w iw ib u) (H : post (nI (ws_sp n av c t))) : wpX_spread post u (nI t) := by
  obtain ⟨f1, f2, f3, f4, f5, a1, a2, a3, a4, a5, a6, a7, a8, a9, a10, a11, a12, a13, a14, a15⟩ := u
  obtain ⟨hn, rfl, rfl, rfl, hD, hW, hT, e, R, hL⟩ := h
  unfold wpX_spread
  exact ws_isWord ht (br_f (by decide) (ws_spreadOf ht hn hL H))
theorem ws_times_o {post : Int32 → Prop} {t d : Nat} (ht : t < 8) (hd : d < 24) (h : ws_O n av m c ln w iw ib u) (H : post (if d < n ∧ ws_bt av d = true then nI (c d t) else -2)) : wpX_times post u (nI t) (nI d) := by
  obtain ⟨f1, f2, f3, f4, f5, a1, a2, a3, a4, a5, a6, a7, a8, a9, a10, a11, a12, a13, a14, a15⟩ := u
  obtain ⟨hn, rfl, rfl, rfl, hD, hW, hT, e, R, hL⟩ := h
  unfold wpX_times
  have ex : (8 * nI d) + nI t = nI (8 * d + t) := ws_ix 8 d t
  refine ws_isWord ht (br_f (by decide) (ws_isLive (by omega) hn (fun g1 g2 => br_f (by decide) ⟨pk_in (8 * d + t) 192 (by omega) ex, ?_⟩) (fun g => br_t rfl ?_)))
  · rw [if_pos ⟨g1, g2⟩] at H
    rw [ex, nI_clamp (by omega), ((hD d g1).1 t ht).2]
    exact H
  · rw [if_neg g] at H
    exact H
end
/-! ===== the mirror ===== -/
section
variable {n m : Nat} {av : Int32} {c : Nat → Nat → Nat} {ln iw ib w : Nat → Nat}
theorem ws_77 {t : Nat} (h : t < 8) : 7 - (7 - t) = t := by omega
theorem ws_M_mir {d : Nat} (hI : ∀ k, k < m → iw k < 8) : ws_M m ib (fun k => 0 < (fun d t => c d (7 - t)) d ((fun k => 7 - iw k) k)) ↔ ws_M m ib (fun k => 0 < c d (iw k)) := by
  have e : ∀ k, k < m → c d (7 - (7 - iw k)) = c d (iw k) := fun k hk => by rw [ws_77 (hI k hk)]
  unfold ws_M
  constructor
  · intro ⟨h1, k, k1, k2, k3⟩
    refine ⟨fun k hk => ?_, k, k1, k2, ?_⟩
    · have q := h1 k hk
      dsimp only at q
      rw [e k hk] at q
      exact q
    · dsimp only at k3
      rw [e k k1] at k3
      exact k3
  · intro ⟨h1, k, k1, k2, k3⟩
    refine ⟨fun k hk => ?_, k, k1, k2, ?_⟩
    · have q := h1 k hk
      dsimp only
      rw [e k hk]
      exact q
    · dsimp only
      rw [e k k1]
      exact k3
theorem ws_sp_mir {t : Nat} (ht : t < 8) : ws_sp n av (fun d t => c d (7 - t)) (7 - t) = ws_sp n av c t := by
  unfold ws_sp
  refine ws_cnt_congr (fun d _ => ?_)
  show (ws_bt av d && decide (0 < c d (7 - (7 - t)))) = _
  rw [ws_77 ht]
theorem ws_sc_mir (hI : ∀ k, k < m → iw k < 8) : ws_sc n av m (fun d t => c d (7 - t)) ln (fun k => 7 - iw k) ib = ws_sc n av m c ln iw ib := by
  funext d
  unfold ws_sc
  refine ws_sum_congr (fun j hj => ?_)
  have ht := hI _ (ws_li_lt ib m j hj)
  show ws_wt n av (fun d t => c d (7 - t)) (7 - iw ((ws_li ib m).2 j)) (ib ((ws_li ib m).2 j)) * ws_st (c d (7 - (7 - iw ((ws_li ib m).2 j)))) (ln d) = _
  rw [ws_77 ht]
  unfold ws_wt
  rw [ws_sp_mir ht]
theorem ws_fd_mir {t : Nat} (ht : t < 8) (hI : ∀ k, k < m → iw k < 8) : ws_fd (fun k => decide ((fun k => 7 - iw k) k = 7 - t)) m = ws_fd (fun k => decide (iw k = t)) m := by
  refine ws_fd_congr (fun k hk => ?_)
  have := hI k hk
  show decide (7 - iw k = 7 - t) = decide (iw k = t)
  exact decide_eq_decide.mpr (by omega)
end
noncomputable def ws_qm (av : Int32) (m : Nat) (c : Nat → Nat → Nat) (iw ib : Nat → Nat) (d : Nat) : Bool := @decide (ws_bt av d = true ∧ ws_M m ib (fun k => 0 < c d (iw k))) (Classical.propDecidable _)
noncomputable def ws_qs (n : Nat) (av : Int32) (m : Nat) (c : Nat → Nat → Nat) (ln iw ib : Nat → Nat) (x1 : Int32) (d : Nat) : Bool := @decide (ws_bt av d = true ∧ ws_M m ib (fun k => 0 < c d (iw k)) ∧ ¬ nI (ws_sc n av m c ln iw ib d) < x1) (Classical.propDecidable _)
theorem ws_qm_a {av : Int32} {m : Nat} {c : Nat → Nat → Nat} {iw ib : Nat → Nat} (d : Nat) : ws_qm av m c iw ib d = true ↔ (ws_bt av d = true ∧ ws_M m ib (fun k => 0 < c d (iw k))) := by
  unfold ws_qm
  exact @decide_eq_true_iff _ (Classical.propDecidable _)
theorem ws_qm_b {av : Int32} {m : Nat} {c : Nat → Nat → Nat} {iw ib : Nat → Nat} (hI : ∀ k, k < m → iw k < 8) (d : Nat) : ws_qm av m c iw ib d = true ↔ (ws_bt av d = true ∧ ws_M m ib (fun k => 0 < (fun d t => c d (7 - t)) d ((fun k => 7 - iw k) k))) := by
  rw [ws_M_mir hI]
  exact ws_qm_a d
theorem ws_qs_a {n : Nat} {av : Int32} {m : Nat} {c : Nat → Nat → Nat} {ln iw ib : Nat → Nat} {x1 : Int32} (d : Nat) : ws_qs n av m c ln iw ib x1 d = true ↔ (ws_bt av d = true ∧ ws_M m ib (fun k => 0 < c d (iw k)) ∧ ¬ nI (ws_sc n av m c ln iw ib d) < x1) := by
  unfold ws_qs
  exact @decide_eq_true_iff _ (Classical.propDecidable _)
theorem ws_qs_b {n : Nat} {av : Int32} {m : Nat} {c : Nat → Nat → Nat} {ln iw ib : Nat → Nat} {x1 : Int32} (hI : ∀ k, k < m → iw k < 8) (d : Nat) : ws_qs n av m c ln iw ib x1 d = true ↔ (ws_bt av d = true ∧ ws_M m ib (fun k => 0 < (fun d t => c d (7 - t)) d ((fun k => 7 - iw k) k)) ∧ ¬ nI (ws_sc n av m (fun d t => c d (7 - t)) ln (fun k => 7 - iw k) ib d) < x1) := by
  rw [ws_M_mir hI, ws_sc_mir hI]
  exact ws_qs_a d
/-! ===== alike ===== -/
section
variable {n m : Nat} {av : Int32} {c : Nat → Nat → Nat} {ln iw ib w : Nat → Nat} {post : Int32 → St2 → Prop} {f1 f2 f3 f4 f5 g1 g2 g3 g4 g5 : Int32} {a1 a2 a3 a4 a5 a6 a7 a8 a9 a10 a11 a12 a13 a14 a15 b1 b2 b3 b4 b5 b6 b7 b8 b9 b10 b11 b12 b13 b14 b15 : Nat → Int32}
theorem ws_al110 (hI : ∀ k, k < m → iw k < 8) (hu : ws_O n av m c ln w iw ib (f1, f2, f3, f4, f5, a1, a2, a3, a4, a5, a6, a7, a8, a9, a10, a11, a12, a13, a14, a15)) (hv : ws_O n av m (fun d t => c d (7 - t)) ln (fun t => w (7 - t)) (fun k => 7 - iw k) ib (g1, g2, g3, g4, g5, b1, b2, b3, b4, b5, b6, b7, b8, b9, b10, b11, b12, b13, b14, b15)) (H : post 1 (f1, f2, f3, f4, f5, a1, a2, a3, a4, a5, a6, a7, a8, a9, a10, a11, a12, a13, a14, a15, g1, g2, g3, g4, g5, b1, b2, b3, b4, b5, b6, b7, b8, b9, b10, b11, b12, b13, b14, b15)) : ∃ fu, wL_alike_110 post f1 f2 f3 f4 f5 a1 a2 a3 a4 a5 a6 a7 a8 a9 a10 a11 a12 a13 a14 a15 g1 g2 g3 g4 g5 b1 b2 b3 b4 b5 b6 b7 b8 b9 b10 b11 b12 b13 b14 b15 fu 0 := by
  refine pk_loop (σ := Unit) (fun fu i _ => wL_alike_110 post f1 f2 f3 f4 f5 a1 a2 a3 a4 a5 a6 a7 a8 a9 a10 a11 a12 a13 a14 a15 g1 g2 g3 g4 g5 b1 b2 b3 b4 b5 b6 b7 b8 b9 b10 b11 b12 b13 b14 b15 fu (nI i)) (fun _ _ => True) 8 0 () (by omega) trivial (fun fu _ _ => pk_le 8 8 (fun _ => H) (fun z => absurd z (by omega))) ?_
  intro fu i _ hi _ hw
  refine pk_le 8 i (fun z => absurd z (by omega)) (fun _ => ?_)
  have e7 : (7 : Int32) - nI i = nI (7 - i) := pk_sub (a := 7) (by omega)
  rw [e7]
  refine ws_spread_o hi hu (ws_spread_o (by omega) hv (br_t (by rw [ws_sp_mir hi]) ?_))
  refine ws_times_o hi (by omega) hu (ws_times_o (by omega) (by omega) hv (br_t ?_ (nm_r (nI_1 i) (hw () trivial))))
  show (if i < n ∧ ws_bt av i = true then nI (c i i) else -2) = (if i < n ∧ ws_bt av i = true then nI (c i (7 - (7 - i))) else -2)
  rw [ws_77 hi]
end
section
variable {n m : Nat} {av : Int32} {c : Nat → Nat → Nat} {ln iw ib w : Nat → Nat} {post : Int32 → St2 → Prop}
theorem ws_al81 (hI : ∀ k, k < m → iw k < 8) (H : ∀ f1 f2 f3 f4 f5 a1 a2 a3 a4 a5 a6 a7 a8 a9 a10 a11 a12 a13 a14 a15 g1 g2 g3 g4 g5 b1 b2 b3 b4 b5 b6 b7 b8 b9 b10 b11 b12 b13 b14 b15, ws_O n av m c ln w iw ib (f1, f2, f3, f4, f5, a1, a2, a3, a4, a5, a6, a7, a8, a9, a10, a11, a12, a13, a14, a15) → ws_O n av m (fun d t => c d (7 - t)) ln (fun t => w (7 - t)) (fun k => 7 - iw k) ib (g1, g2, g3, g4, g5, b1, b2, b3, b4, b5, b6, b7, b8, b9, b10, b11, b12, b13, b14, b15) → post 1 (f1, f2, f3, f4, f5, a1, a2, a3, a4, a5, a6, a7, a8, a9, a10, a11, a12, a13, a14, a15, g1, g2, g3, g4, g5, b1, b2, b3, b4, b5, b6, b7, b8, b9, b10, b11, b12, b13, b14, b15)) :
    ∀ r i f1 f2 f3 f4 f5 a1 a2 a3 a4 a5 a6 a7 a8 a9 a10 a11 a12 a13 a14 a15 g1 g2 g3 g4 g5 b1 b2 b3 b4 b5 b6 b7 b8 b9 b10 b11 b12 b13 b14 b15, i + r = 24 → ws_O n av m c ln w iw ib (f1, f2, f3, f4, f5, a1, a2, a3, a4, a5, a6, a7, a8, a9, a10, a11, a12, a13, a14, a15) → ws_O n av m (fun d t => c d (7 - t)) ln (fun t => w (7 - t)) (fun k => 7 - iw k) ib (g1, g2, g3, g4, g5, b1, b2, b3, b4, b5, b6, b7, b8, b9, b10, b11, b12, b13, b14, b15) → wL_alike_81 post (r + 1) (nI i) f1 f2 f3 f4 f5 a1 a2 a3 a4 a5 a6 a7 a8 a9 a10 a11 a12 a13 a14 a15 g1 g2 g3 g4 g5 b1 b2 b3 b4 b5 b6 b7 b8 b9 b10 b11 b12 b13 b14 b15 := by
  intro r
  induction r with
  | zero =>
    intro i f1 f2 f3 f4 f5 a1 a2 a3 a4 a5 a6 a7 a8 a9 a10 a11 a12 a13 a14 a15 g1 g2 g3 g4 g5 b1 b2 b3 b4 b5 b6 b7 b8 b9 b10 b11 b12 b13 b14 b15 hi hu hv
    exact pk_le 24 i (fun _ => ws_al110 hI hu hv (H f1 f2 f3 f4 f5 a1 a2 a3 a4 a5 a6 a7 a8 a9 a10 a11 a12 a13 a14 a15 g1 g2 g3 g4 g5 b1 b2 b3 b4 b5 b6 b7 b8 b9 b10 b11 b12 b13 b14 b15 hu hv)) (fun z => absurd z (by omega))
  | succ r ih =>
    intro i f1 f2 f3 f4 f5 a1 a2 a3 a4 a5 a6 a7 a8 a9 a10 a11 a12 a13 a14 a15 g1 g2 g3 g4 g5 b1 b2 b3 b4 b5 b6 b7 b8 b9 b10 b11 b12 b13 b14 b15 hi hu hv
    refine pk_le 24 i (fun z => absurd z (by omega)) (fun _ => ?_)
    refine ws_score_o (by omega) hu (fun u' hu' => ?_)
    obtain ⟨f1, f2, f3, f4, f5, a1, a2, a3, a4, a5, a6, a7, a8, a9, a10, a11, a12, a13, a14, a15⟩ := u'
    refine ws_score_o (by omega) hv (fun v' hv' => ?_)
    obtain ⟨g1, g2, g3, g4, g5, b1, b2, b3, b4, b5, b6, b7, b8, b9, b10, b11, b12, b13, b14, b15⟩ := v'
    exact br_t (by rw [ws_sc_mir hI]) (nm_r (nI_1 i) (ih (i + 1) f1 f2 f3 f4 f5 a1 a2 a3 a4 a5 a6 a7 a8 a9 a10 a11 a12 a13 a14 a15 g1 g2 g3 g4 g5 b1 b2 b3 b4 b5 b6 b7 b8 b9 b10 b11 b12 b13 b14 b15 (by omega) hu' hv'))
theorem ws_al39 (hI : ∀ k, k < m → iw k < 8) (H : ∀ f1 f2 f3 f4 f5 a1 a2 a3 a4 a5 a6 a7 a8 a9 a10 a11 a12 a13 a14 a15 g1 g2 g3 g4 g5 b1 b2 b3 b4 b5 b6 b7 b8 b9 b10 b11 b12 b13 b14 b15, ws_O n av m c ln w iw ib (f1, f2, f3, f4, f5, a1, a2, a3, a4, a5, a6, a7, a8, a9, a10, a11, a12, a13, a14, a15) → ws_O n av m (fun d t => c d (7 - t)) ln (fun t => w (7 - t)) (fun k => 7 - iw k) ib (g1, g2, g3, g4, g5, b1, b2, b3, b4, b5, b6, b7, b8, b9, b10, b11, b12, b13, b14, b15) → post 1 (f1, f2, f3, f4, f5, a1, a2, a3, a4, a5, a6, a7, a8, a9, a10, a11, a12, a13, a14, a15, g1, g2, g3, g4, g5, b1, b2, b3, b4, b5, b6, b7, b8, b9, b10, b11, b12, b13, b14, b15)) :
    ∀ r i f1 f2 f3 f4 f5 a1 a2 a3 a4 a5 a6 a7 a8 a9 a10 a11 a12 a13 a14 a15 g1 g2 g3 g4 g5 b1 b2 b3 b4 b5 b6 b7 b8 b9 b10 b11 b12 b13 b14 b15, i + r = 10 → ws_O n av m c ln w iw ib (f1, f2, f3, f4, f5, a1, a2, a3, a4, a5, a6, a7, a8, a9, a10, a11, a12, a13, a14, a15) → ws_O n av m (fun d t => c d (7 - t)) ln (fun t => w (7 - t)) (fun k => 7 - iw k) ib (g1, g2, g3, g4, g5, b1, b2, b3, b4, b5, b6, b7, b8, b9, b10, b11, b12, b13, b14, b15) → wL_alike_39 post (r + 1) (nI i) f1 f2 f3 f4 f5 a1 a2 a3 a4 a5 a6 a7 a8 a9 a10 a11 a12 a13 a14 a15 g1 g2 g3 g4 g5 b1 b2 b3 b4 b5 b6 b7 b8 b9 b10 b11 b12 b13 b14 b15 := by
  intro r
  induction r with
  | zero =>
    intro i f1 f2 f3 f4 f5 a1 a2 a3 a4 a5 a6 a7 a8 a9 a10 a11 a12 a13 a14 a15 g1 g2 g3 g4 g5 b1 b2 b3 b4 b5 b6 b7 b8 b9 b10 b11 b12 b13 b14 b15 hi hu hv
    exact pk_le 10 i (fun _ => ⟨25, ws_al81 hI H 24 0 f1 f2 f3 f4 f5 a1 a2 a3 a4 a5 a6 a7 a8 a9 a10 a11 a12 a13 a14 a15 g1 g2 g3 g4 g5 b1 b2 b3 b4 b5 b6 b7 b8 b9 b10 b11 b12 b13 b14 b15 (by omega) hu hv⟩) (fun z => absurd z (by omega))
  | succ r ih =>
    intro i f1 f2 f3 f4 f5 a1 a2 a3 a4 a5 a6 a7 a8 a9 a10 a11 a12 a13 a14 a15 g1 g2 g3 g4 g5 b1 b2 b3 b4 b5 b6 b7 b8 b9 b10 b11 b12 b13 b14 b15 hi hu hv
    refine pk_le 10 i (fun z => absurd z (by omega)) (fun _ => ?_)
    refine ws_ranked_o (q := ws_qm av m c iw ib) (by omega) hu ws_qm_a (fun u' hu' => ?_)
    obtain ⟨f1, f2, f3, f4, f5, a1, a2, a3, a4, a5, a6, a7, a8, a9, a10, a11, a12, a13, a14, a15⟩ := u'
    refine ws_ranked_o (q := ws_qm av m c iw ib) (by omega) hv (ws_qm_b hI) (fun v' hv' => ?_)
    obtain ⟨g1, g2, g3, g4, g5, b1, b2, b3, b4, b5, b6, b7, b8, b9, b10, b11, b12, b13, b14, b15⟩ := v'
    refine br_t (by rw [ws_sc_mir hI]) ?_
    refine ws_rankedScore_o (q := ws_qm av m c iw ib) (by omega) hu' ws_qm_a (fun u' hu' => ?_)
    obtain ⟨f1, f2, f3, f4, f5, a1, a2, a3, a4, a5, a6, a7, a8, a9, a10, a11, a12, a13, a14, a15⟩ := u'
    refine ws_rankedScore_o (q := ws_qm av m c iw ib) (by omega) hv' (ws_qm_b hI) (fun v' hv' => ?_)
    obtain ⟨g1, g2, g3, g4, g5, b1, b2, b3, b4, b5, b6, b7, b8, b9, b10, b11, b12, b13, b14, b15⟩ := v'
    exact br_t (by rw [ws_sc_mir hI]) (nm_r (nI_1 i) (ih (i + 1) f1 f2 f3 f4 f5 a1 a2 a3 a4 a5 a6 a7 a8 a9 a10 a11 a12 a13 a14 a15 g1 g2 g3 g4 g5 b1 b2 b3 b4 b5 b6 b7 b8 b9 b10 b11 b12 b13 b14 b15 (by omega) hu' hv'))
theorem ws_alike {x : Int32} {f1 f2 f3 f4 f5 : Int32} {a1 a2 a3 a4 a5 a6 a7 a8 a9 a10 a11 a12 a13 a14 a15 : Nat → Int32} {g1 g2 g3 g4 g5 : Int32} {b1 b2 b3 b4 b5 b6 b7 b8 b9 b10 b11 b12 b13 b14 b15 : Nat → Int32} (hI : ∀ k, k < m → iw k < 8) (hu : ws_O n av m c ln w iw ib (f1, f2, f3, f4, f5, a1, a2, a3, a4, a5, a6, a7, a8, a9, a10, a11, a12, a13, a14, a15)) (hv : ws_O n av m (fun d t => c d (7 - t)) ln (fun t => w (7 - t)) (fun k => 7 - iw k) ib (g1, g2, g3, g4, g5, b1, b2, b3, b4, b5, b6, b7, b8, b9, b10, b11, b12, b13, b14, b15))
    (H : ∀ f1 f2 f3 f4 f5 a1 a2 a3 a4 a5 a6 a7 a8 a9 a10 a11 a12 a13 a14 a15 g1 g2 g3 g4 g5 b1 b2 b3 b4 b5 b6 b7 b8 b9 b10 b11 b12 b13 b14 b15, ws_O n av m c ln w iw ib (f1, f2, f3, f4, f5, a1, a2, a3, a4, a5, a6, a7, a8, a9, a10, a11, a12, a13, a14, a15) → ws_O n av m (fun d t => c d (7 - t)) ln (fun t => w (7 - t)) (fun k => 7 - iw k) ib (g1, g2, g3, g4, g5, b1, b2, b3, b4, b5, b6, b7, b8, b9, b10, b11, b12, b13, b14, b15) → post 1 (f1, f2, f3, f4, f5, a1, a2, a3, a4, a5, a6, a7, a8, a9, a10, a11, a12, a13, a14, a15, g1, g2, g3, g4, g5, b1, b2, b3, b4, b5, b6, b7, b8, b9, b10, b11, b12, b13, b14, b15)) : wpL_alike post (f1, f2, f3, f4, f5, a1, a2, a3, a4, a5, a6, a7, a8, a9, a10, a11, a12, a13, a14, a15, g1, g2, g3, g4, g5, b1, b2, b3, b4, b5, b6, b7, b8, b9, b10, b11, b12, b13, b14, b15) x := by
  unfold wpL_alike
  refine ws_live_o hu (ws_live_o hv (br_t rfl ?_))
  refine ws_matching_o (q := ws_qm av m c iw ib) hu ws_qm_a (ws_matching_o (q := ws_qm av m c iw ib) hv (ws_qm_b hI) (br_t rfl ?_))
  refine ws_scoring_o (q := ws_qs n av m c ln iw ib x) hu ws_qs_a (fun u' hu' => ?_)
  obtain ⟨f1, f2, f3, f4, f5, a1, a2, a3, a4, a5, a6, a7, a8, a9, a10, a11, a12, a13, a14, a15⟩ := u'
  refine ws_scoring_o (q := ws_qs n av m c ln iw ib x) hv (ws_qs_b hI) (fun v' hv' => ?_)
  obtain ⟨g1, g2, g3, g4, g5, b1, b2, b3, b4, b5, b6, b7, b8, b9, b10, b11, b12, b13, b14, b15⟩ := v'
  exact br_t rfl ⟨11, ws_al39 hI H 10 0 f1 f2 f3 f4 f5 a1 a2 a3 a4 a5 a6 a7 a8 a9 a10 a11 a12 a13 a14 a15 g1 g2 g3 g4 g5 b1 b2 b3 b4 b5 b6 b7 b8 b9 b10 b11 b12 b13 b14 b15 (by omega) hu' hv'⟩
end
end
section
/-! ===== many ===== -/
section
variable {n m : Nat} {av : Int32} {c : Nat → Nat → Nat} {ln iw ib w : Nat → Nat} {post : Int32 → St2 → Prop}
/-- the last loop: the draft is written back, then addMany -/
theorem ws_my92 {s cnt kk : Nat} {x4 : Int32} {f1 f2 f3 f4 f5 : Int32} {a1 a2 a3 a4 a5 a6 a7 a8 a9 a10 a11 a12 a13 a14 a15 : Nat → Int32} (hs : s ≤ 10) (hc1 : 1 ≤ cnt) (hcnt : cnt ≤ 24) (hk1 : kk ≤ cnt) (hk2 : kk = cnt ∨ n + kk = 24) (hnk : n + kk ≤ 24)
    (hx : ∀ t, t < 8 → (x4 >>> (nI (3 * t) &&& 31)) &&& 7 = nI (w t)) (hu : ws_O n av m c ln w iw ib (f1, f2, f3, f4, f5, a1, a2, a3, a4, a5, a6, a7, a8, a9, a10, a11, a12, a13, a14, a15)) (hcn : ∀ k t, t < 8 → c (n + k) t = ws_gv s k t) (hln : ∀ k, ln (n + k) = ws_sum (ws_gv s k) 8)
    (H : ∀ f1 f2 f3 f4 f5 a1 a2 a3 a4 a5 a6 a7 a8 a9 a10 a11 a12 a13 a14 a15 g1 g2 g3 g4 g5 b1 b2 b3 b4 b5 b6 b7 b8 b9 b10 b11 b12 b13 b14 b15, ws_O (n + kk) (ws_av n av kk) m c ln w iw ib (f1, f2, f3, f4, f5, a1, a2, a3, a4, a5, a6, a7, a8, a9, a10, a11, a12, a13, a14, a15) → ws_O (n + kk) (ws_av n av kk) m (fun d t => c d (7 - t)) ln (fun t => w (7 - t)) (fun k => 7 - iw k) ib (g1, g2, g3, g4, g5, b1, b2, b3, b4, b5, b6, b7, b8, b9, b10, b11, b12, b13, b14, b15) → post 1 (f1, f2, f3, f4, f5, a1, a2, a3, a4, a5, a6, a7, a8, a9, a10, a11, a12, a13, a14, a15, g1, g2, g3, g4, g5, b1, b2, b3, b4, b5, b6, b7, b8, b9, b10, b11, b12, b13, b14, b15)) :
    ∀ r i wb g1 g2 g3 g4 g5 b1 b2 b3 b4 b5 b6 b7 b8 b9 b10 b11 b12 b13 b14 b15, i + r = 8 → ws_O (n + kk) (ws_av n av kk) m (fun d t => c d (7 - t)) ln wb (fun k => 7 - iw k) ib (g1, g2, g3, g4, g5, b1, b2, b3, b4, b5, b6, b7, b8, b9, b10, b11, b12, b13, b14, b15) → (∀ j, j < i → wb (7 - j) = w j) → wL_many_92 post (nI s) (nI cnt) x4 (nI kk) (r + 1) (nI i) f1 f2 f3 f4 f5 a1 a2 a3 a4 a5 a6 a7 a8 a9 a10 a11 a12 a13 a14 a15 g1 g2 g3 g4 g5 b1 b2 b3 b4 b5 b6 b7 b8 b9 b10 b11 b12 b13 b14 b15 := by
  have hw7 := (ws_O_n hu).2.2.2
  intro r
  induction r with
  | zero =>
    intro i wb g1 g2 g3 g4 g5 b1 b2 b3 b4 b5 b6 b7 b8 b9 b10 b11 b12 b13 b14 b15 hi hv hwb
    refine pk_le 8 i (fun _ => ?_) (fun z => absurd z (by omega))
    refine ws_addMany hs hc1 hcnt hu hcn hln (fun k u' k1 k2 hu' => ?_)
    have hk := (ws_O_n hu').1
    have ek : k = kk := by omega
    subst ek
    obtain ⟨f1, f2, f3, f4, f5, a1, a2, a3, a4, a5, a6, a7, a8, a9, a10, a11, a12, a13, a14, a15⟩ := u'
    refine br_t rfl (H _ _ _ _ _ _ _ _ _ _ _ _ _ _ _ _ _ _ _ _ g1 g2 g3 g4 g5 b1 b2 b3 b4 b5 b6 b7 b8 b9 b10 b11 b12 b13 b14 b15 hu' (ws_O_congr hv (fun _ _ _ _ => rfl) (fun _ _ => rfl) (fun t ht => ?_) (fun _ _ => ⟨rfl, rfl⟩)))
    have q := hwb (7 - t) (by omega)
    rw [ws_77 ht] at q
    exact q.symm
  | succ r ih =>
    intro i wb g1 g2 g3 g4 g5 b1 b2 b3 b4 b5 b6 b7 b8 b9 b10 b11 b12 b13 b14 b15 hi hv hwb
    refine pk_le 8 i (fun z => absurd z (by omega)) (fun _ => ?_)
    have e7 : (7 : Int32) - nI i = nI (7 - i) := pk_sub (a := 7) (by omega)
    have e3 : (3 : Int32) * nI i = nI (3 * i) := pk_mul 3 i
    rw [e7, e3, hx i (by omega)]
    refine ws_write (w' := fun t => if t = 7 - i then w i else wb t) hv (by omega) (hw7 i (by omega)) (fun _ _ => rfl) (fun v' hv' => ?_)
    obtain ⟨g1, g2, g3, g4, g5, b1, b2, b3, b4, b5, b6, b7, b8, b9, b10, b11, b12, b13, b14, b15⟩ := v'
    refine nm_r (nI_1 i) (ih (i + 1) _ g1 g2 g3 g4 g5 b1 b2 b3 b4 b5 b6 b7 b8 b9 b10 b11 b12 b13 b14 b15 (by omega) hv' (lt_s (fun j hj => ?_) (if_pos rfl)))
    show (if 7 - j = 7 - i then w i else wb (7 - j)) = w j
    rw [if_neg (by omega)]
    exact hwb j hj
/-- the middle loop: one row of the generator is written, then add -/
theorem ws_my15 {J : Int32 → Int32 → Int32 → Int32 → Int32 → Int32 → Int32 → (Nat → Int32) → (Nat → Int32) → (Nat → Int32) → (Nat → Int32) → (Nat → Int32) → (Nat → Int32) → (Nat → Int32) → (Nat → Int32) → (Nat → Int32) → (Nat → Int32) → (Nat → Int32) → (Nat → Int32) → (Nat → Int32) → (Nat → Int32) → (Nat → Int32) → Int32 → Int32 → Int32 → Int32 → Int32 → (Nat → Int32) → (Nat → Int32) → (Nat → Int32) → (Nat → Int32) → (Nat → Int32) → (Nat → Int32) → (Nat → Int32) → (Nat → Int32) → (Nat → Int32) → (Nat → Int32) → (Nat → Int32) → (Nat → Int32) → (Nat → Int32) → (Nat → Int32) → (Nat → Int32) → Prop}
    {s k kk : Nat} {x3 x4 : Int32} {f1 f2 f3 f4 f5 : Int32} {a1 a2 a3 a4 a5 a6 a7 a8 a9 a10 a11 a12 a13 a14 a15 : Nat → Int32} (hs : s ≤ 10) (hk : k ≤ 24) (hkk : n + kk < 24 → kk = k) (hcn : ∀ k t, t < 8 → c (n + k) t = ws_gv s k t) (hln : ∀ k, ln (n + k) = ws_sum (ws_gv s k) 8)
    (H1 : n + kk < 24 → ∀ wb g1 g2 g3 g4 g5 b1 b2 b3 b4 b5 b6 b7 b8 b9 b10 b11 b12 b13 b14 b15, ws_O (n + (kk + 1)) (ws_av n av (kk + 1)) m (fun d t => c d (7 - t)) ln wb (fun k => 7 - iw k) ib (g1, g2, g3, g4, g5, b1, b2, b3, b4, b5, b6, b7, b8, b9, b10, b11, b12, b13, b14, b15) → J (nI (kk + 1)) (nI (k + 1)) f1 f2 f3 f4 f5 a1 a2 a3 a4 a5 a6 a7 a8 a9 a10 a11 a12 a13 a14 a15 g1 g2 g3 g4 g5 b1 b2 b3 b4 b5 b6 b7 b8 b9 b10 b11 b12 b13 b14 b15)
    (H0 : n + kk = 24 → ∀ wb g1 g2 g3 g4 g5 b1 b2 b3 b4 b5 b6 b7 b8 b9 b10 b11 b12 b13 b14 b15, ws_O (n + kk) (ws_av n av kk) m (fun d t => c d (7 - t)) ln wb (fun k => 7 - iw k) ib (g1, g2, g3, g4, g5, b1, b2, b3, b4, b5, b6, b7, b8, b9, b10, b11, b12, b13, b14, b15) → J (nI kk) (nI (k + 1)) f1 f2 f3 f4 f5 a1 a2 a3 a4 a5 a6 a7 a8 a9 a10 a11 a12 a13 a14 a15 g1 g2 g3 g4 g5 b1 b2 b3 b4 b5 b6 b7 b8 b9 b10 b11 b12 b13 b14 b15) :
    ∀ r i wb g1 g2 g3 g4 g5 b1 b2 b3 b4 b5 b6 b7 b8 b9 b10 b11 b12 b13 b14 b15, i + r = 8 → ws_O (n + kk) (ws_av n av kk) m (fun d t => c d (7 - t)) ln wb (fun k => 7 - iw k) ib (g1, g2, g3, g4, g5, b1, b2, b3, b4, b5, b6, b7, b8, b9, b10, b11, b12, b13, b14, b15) → (∀ j, j < i → wb (7 - j) = ws_gv s k j) → wL_many_15 post J (nI s) x3 x4 (nI kk) (nI k) (r + 1) (nI i) f1 f2 f3 f4 f5 a1 a2 a3 a4 a5 a6 a7 a8 a9 a10 a11 a12 a13 a14 a15 g1 g2 g3 g4 g5 b1 b2 b3 b4 b5 b6 b7 b8 b9 b10 b11 b12 b13 b14 b15 := by
  intro r
  induction r with
  | zero =>
    intro i wb g1 g2 g3 g4 g5 b1 b2 b3 b4 b5 b6 b7 b8 b9 b10 b11 b12 b13 b14 b15 hi hv hwb
    have hn := (ws_O_n hv).1
    have hw : ∀ t, t < 8 → wb t = ws_gv s k (7 - t) := by
      intro t ht
      have q := hwb (7 - t) (by omega)
      rw [ws_77 ht] at q
      exact q
    refine pk_le 8 i (fun _ => ?_) (fun z => absurd z (by omega))
    by_cases g : n + kk < 24
    · have ek := hkk g
      subst ek
      refine ws_add (c' := fun d t => c d (7 - t)) (ln' := ln) hv (fun _ _ _ _ => rfl) (fun t ht => ?_) (fun _ _ => rfl) ?_ (fun _ v' hv' => ?_) (fun z => absurd z (by omega))
      · rw [hw t ht]
        exact hcn kk (7 - t) (by omega)
      · rw [hln kk, ← ws_sum_rev8]
        exact ws_sum_congr (fun t ht => (hw t ht).symm)
      · obtain ⟨g1, g2, g3, g4, g5, b1, b2, b3, b4, b5, b6, b7, b8, b9, b10, b11, b12, b13, b14, b15⟩ := v'
        exact br_f (nI_pos (by omega)) (nm_r (nI_1 kk) (nm_r (nI_1 kk) (H1 g wb g1 g2 g3 g4 g5 b1 b2 b3 b4 b5 b6 b7 b8 b9 b10 b11 b12 b13 b14 b15 hv')))
    · refine ws_add (c' := fun d t => if d = n + kk then wb t else c d (7 - t)) (ln' := fun d => if d = n + kk then ws_sum wb 8 else ln d) hv (fun d hd t _ => if_neg (by omega)) (fun t _ => if_pos rfl) (fun d hd => if_neg (by omega)) (if_pos rfl) (fun z => absurd z g) (fun z => ?_)
      exact br_t (by decide) (nm_r (nI_1 k) (H0 z wb g1 g2 g3 g4 g5 b1 b2 b3 b4 b5 b6 b7 b8 b9 b10 b11 b12 b13 b14 b15 hv))
  | succ r ih =>
    intro i wb g1 g2 g3 g4 g5 b1 b2 b3 b4 b5 b6 b7 b8 b9 b10 b11 b12 b13 b14 b15 hi hv hwb
    refine pk_le 8 i (fun z => absurd z (by omega)) (fun _ => ⟨by decide, nm_e ?_⟩)
    have e7 : (7 : Int32) - nI i = nI (7 - i) := pk_sub (a := 7) (by omega)
    have key : ∀ z, z = nI (ws_gv s k i) → wL_many_63 post J (wL_many_15 post J (nI s) x3 x4 (nI kk) (nI k) (r + 1)) (nI s) x3 x4 (nI kk) (nI k) (nI i) z (7 - nI i) f1 f2 f3 f4 f5 a1 a2 a3 a4 a5 a6 a7 a8 a9 a10 a11 a12 a13 a14 a15 g1 g2 g3 g4 g5 b1 b2 b3 b4 b5 b6 b7 b8 b9 b10 b11 b12 b13 b14 b15 := by
      intro z hz
      subst hz
      rw [e7]
      unfold wL_many_63
      refine ws_write (w' := fun t => if t = 7 - i then ws_gv s k i else wb t) hv (by omega) (ws_gv_le s k i) (fun _ _ => rfl) (fun v' hv' => ?_)
      obtain ⟨g1, g2, g3, g4, g5, b1, b2, b3, b4, b5, b6, b7, b8, b9, b10, b11, b12, b13, b14, b15⟩ := v'
      refine nm_r (nI_1 i) (ih (i + 1) _ g1 g2 g3 g4 g5 b1 b2 b3 b4 b5 b6 b7 b8 b9 b10 b11 b12 b13 b14 b15 (by omega) hv' (lt_s (fun j hj => ?_) (if_pos rfl)))
      show (if 7 - j = 7 - i then ws_gv s k i else wb (7 - j)) = ws_gv s k j
      rw [if_neg (by omega)]
      exact hwb j hj
    obtain ⟨v1, v2⟩ := ws_gv_x hs hk (show i < 8 by omega)
    exact br_c (fun g => key _ (v1 g)) (fun g => key _ (v2 g))
theorem ws_my6 {s cnt : Nat} {x4 : Int32} {f1 f2 f3 f4 f5 : Int32} {a1 a2 a3 a4 a5 a6 a7 a8 a9 a10 a11 a12 a13 a14 a15 : Nat → Int32} (hs : s ≤ 10) (hc1 : 1 ≤ cnt) (hcnt : cnt ≤ 24)
    (hx : ∀ t, t < 8 → (x4 >>> (nI (3 * t) &&& 31)) &&& 7 = nI (w t)) (hu : ws_O n av m c ln w iw ib (f1, f2, f3, f4, f5, a1, a2, a3, a4, a5, a6, a7, a8, a9, a10, a11, a12, a13, a14, a15)) (hcn : ∀ k t, t < 8 → c (n + k) t = ws_gv s k t) (hln : ∀ k, ln (n + k) = ws_sum (ws_gv s k) 8)
    (H : ∀ kk f1 f2 f3 f4 f5 a1 a2 a3 a4 a5 a6 a7 a8 a9 a10 a11 a12 a13 a14 a15 g1 g2 g3 g4 g5 b1 b2 b3 b4 b5 b6 b7 b8 b9 b10 b11 b12 b13 b14 b15, ws_O (n + kk) (ws_av n av kk) m c ln w iw ib (f1, f2, f3, f4, f5, a1, a2, a3, a4, a5, a6, a7, a8, a9, a10, a11, a12, a13, a14, a15) → ws_O (n + kk) (ws_av n av kk) m (fun d t => c d (7 - t)) ln (fun t => w (7 - t)) (fun k => 7 - iw k) ib (g1, g2, g3, g4, g5, b1, b2, b3, b4, b5, b6, b7, b8, b9, b10, b11, b12, b13, b14, b15) → post 1 (f1, f2, f3, f4, f5, a1, a2, a3, a4, a5, a6, a7, a8, a9, a10, a11, a12, a13, a14, a15, g1, g2, g3, g4, g5, b1, b2, b3, b4, b5, b6, b7, b8, b9, b10, b11, b12, b13, b14, b15)) :
    ∀ r k kk wb g1 g2 g3 g4 g5 b1 b2 b3 b4 b5 b6 b7 b8 b9 b10 b11 b12 b13 b14 b15, k + r = cnt → kk ≤ k → (kk = k ∨ n + kk = 24) → ws_O (n + kk) (ws_av n av kk) m (fun d t => c d (7 - t)) ln wb (fun k => 7 - iw k) ib (g1, g2, g3, g4, g5, b1, b2, b3, b4, b5, b6, b7, b8, b9, b10, b11, b12, b13, b14, b15) → wL_many_6 post (nI s) (nI cnt) x4 (r + 1) (nI kk) (nI k) f1 f2 f3 f4 f5 a1 a2 a3 a4 a5 a6 a7 a8 a9 a10 a11 a12 a13 a14 a15 g1 g2 g3 g4 g5 b1 b2 b3 b4 b5 b6 b7 b8 b9 b10 b11 b12 b13 b14 b15 := by
  intro r
  induction r with
  | zero =>
    intro k kk wb g1 g2 g3 g4 g5 b1 b2 b3 b4 b5 b6 b7 b8 b9 b10 b11 b12 b13 b14 b15 hr h1 h2 hv
    have hn := (ws_O_n hv).1
    refine pk_le cnt k (fun _ => ⟨9, ?_⟩) (fun z => absurd z (by omega))
    exact ws_my92 hs hc1 hcnt (by omega) (by omega) hn hx hu hcn hln (H kk) 8 0 wb g1 g2 g3 g4 g5 b1 b2 b3 b4 b5 b6 b7 b8 b9 b10 b11 b12 b13 b14 b15 (by omega) hv (fun j hj => absurd hj (by omega))
  | succ r ih =>
    intro k kk wb g1 g2 g3 g4 g5 b1 b2 b3 b4 b5 b6 b7 b8 b9 b10 b11 b12 b13 b14 b15 hr h1 h2 hv
    refine pk_le cnt k (fun z => absurd z (by omega)) (fun _ => ⟨9, ?_⟩)
    exact ws_my15 hs (by omega) (by omega) hcn hln (fun g wb g1 g2 g3 g4 g5 b1 b2 b3 b4 b5 b6 b7 b8 b9 b10 b11 b12 b13 b14 b15 hv' => ih (k + 1) (kk + 1) wb g1 g2 g3 g4 g5 b1 b2 b3 b4 b5 b6 b7 b8 b9 b10 b11 b12 b13 b14 b15 (by omega) (by omega) (by omega) hv') (fun g wb g1 g2 g3 g4 g5 b1 b2 b3 b4 b5 b6 b7 b8 b9 b10 b11 b12 b13 b14 b15 hv' => ih (k + 1) kk wb g1 g2 g3 g4 g5 b1 b2 b3 b4 b5 b6 b7 b8 b9 b10 b11 b12 b13 b14 b15 (by omega) (by omega) (by omega) hv') 8 0 wb g1 g2 g3 g4 g5 b1 b2 b3 b4 b5 b6 b7 b8 b9 b10 b11 b12 b13 b14 b15 (by omega) hv (fun j hj => absurd hj (by omega))
/-- many: both objects get the same documents -/
theorem ws_many {s cnt : Nat} {x4 : Int32} {f1 f2 f3 f4 f5 : Int32} {a1 a2 a3 a4 a5 a6 a7 a8 a9 a10 a11 a12 a13 a14 a15 : Nat → Int32} {g1 g2 g3 g4 g5 : Int32} {b1 b2 b3 b4 b5 b6 b7 b8 b9 b10 b11 b12 b13 b14 b15 : Nat → Int32} (hs : s ≤ 10) (hc1 : 1 ≤ cnt) (hcnt : cnt ≤ 24)
    (hx : ∀ t, t < 8 → (x4 >>> (nI (3 * t) &&& 31)) &&& 7 = nI (w t)) (hu : ws_O n av m c ln w iw ib (f1, f2, f3, f4, f5, a1, a2, a3, a4, a5, a6, a7, a8, a9, a10, a11, a12, a13, a14, a15)) (hv : ws_O n av m (fun d t => c d (7 - t)) ln (fun t => w (7 - t)) (fun k => 7 - iw k) ib (g1, g2, g3, g4, g5, b1, b2, b3, b4, b5, b6, b7, b8, b9, b10, b11, b12, b13, b14, b15))
    (H : ∀ kk c' ln' f1 f2 f3 f4 f5 a1 a2 a3 a4 a5 a6 a7 a8 a9 a10 a11 a12 a13 a14 a15 g1 g2 g3 g4 g5 b1 b2 b3 b4 b5 b6 b7 b8 b9 b10 b11 b12 b13 b14 b15, ws_O (n + kk) (ws_av n av kk) m c' ln' w iw ib (f1, f2, f3, f4, f5, a1, a2, a3, a4, a5, a6, a7, a8, a9, a10, a11, a12, a13, a14, a15) → ws_O (n + kk) (ws_av n av kk) m (fun d t => c' d (7 - t)) ln' (fun t => w (7 - t)) (fun k => 7 - iw k) ib (g1, g2, g3, g4, g5, b1, b2, b3, b4, b5, b6, b7, b8, b9, b10, b11, b12, b13, b14, b15) → post 1 (f1, f2, f3, f4, f5, a1, a2, a3, a4, a5, a6, a7, a8, a9, a10, a11, a12, a13, a14, a15, g1, g2, g3, g4, g5, b1, b2, b3, b4, b5, b6, b7, b8, b9, b10, b11, b12, b13, b14, b15)) : wpL_many post (f1, f2, f3, f4, f5, a1, a2, a3, a4, a5, a6, a7, a8, a9, a10, a11, a12, a13, a14, a15, g1, g2, g3, g4, g5, b1, b2, b3, b4, b5, b6, b7, b8, b9, b10, b11, b12, b13, b14, b15) (nI s) (nI cnt) x4 := by
  refine ⟨cnt + 1, ?_⟩
  refine ws_my6 (c := fun d t => if d < n then c d t else ws_gv s (d - n) t) (ln := fun d => if d < n then ln d else ws_sum (ws_gv s (d - n)) 8) hs hc1 hcnt hx (ws_O_congr hu (fun d hd t _ => if_pos hd) (fun d hd => if_pos hd) (fun _ _ => rfl) (fun _ _ => ⟨rfl, rfl⟩)) (fun k t _ => ?_) (fun k => ?_) (fun kk => H kk _ _) cnt 0 0 (fun t => w (7 - t)) g1 g2 g3 g4 g5 b1 b2 b3 b4 b5 b6 b7 b8 b9 b10 b11 b12 b13 b14 b15 (by omega) (by omega) (Or.inl rfl) (ws_O_congr hv (fun d hd t _ => if_pos hd) (fun d hd => if_pos hd) (fun _ _ => rfl) (fun _ _ => ⟨rfl, rfl⟩))
  · show (if n + k < n then c (n + k) t else ws_gv s (n + k - n) t) = ws_gv s k t
    rw [if_neg (by omega), Nat.add_sub_cancel_left]
  · show (if n + k < n then ln (n + k) else ws_sum (ws_gv s (n + k - n)) 8) = ws_sum (ws_gv s k) 8
    rw [if_neg (by omega), Nat.add_sub_cancel_left]
end
end
section
/-! ===== the law ===== -/
theorem ws_dr0 : ∀ s, s < 8 → ((0 : Int32) >>> (nI (3 * s) &&& 31)) &&& 7 = nI 0 := by decide +kernel
theorem ws_law {xs : Nat → Int32} {L kc ks : Nat} (hL : L ≤ 260) : ∀ F k n av m c ln w iw ib x3 f1 f2 f3 f4 f5 a1 a2 a3 a4 a5 a6 a7 a8 a9 a10 a11 a12 a13 a14 a15 g1 g2 g3 g4 g5 b1 b2 b3 b4 b5 b6 b7 b8 b9 b10 b11 b12 b13 b14 b15, L - k < F → k ≤ 300 → (∀ t, t < 8 → (x3 >>> (nI (3 * t) &&& 31)) &&& 7 = nI (w t)) →
    ws_O n av m c ln w iw ib (f1, f2, f3, f4, f5, a1, a2, a3, a4, a5, a6, a7, a8, a9, a10, a11, a12, a13, a14, a15) → ws_O n av m (fun d t => c d (7 - t)) ln (fun t => w (7 - t)) (fun k => 7 - iw k) ib (g1, g2, g3, g4, g5, b1, b2, b3, b4, b5, b6, b7, b8, b9, b10, b11, b12, b13, b14, b15) → wL_law_21 (fun r => r = 1) L xs kc ks F x3 (nI k) f1 f2 f3 f4 f5 a1 a2 a3 a4 a5 a6 a7 a8 a9 a10 a11 a12 a13 a14 a15 g1 g2 g3 g4 g5 b1 b2 b3 b4 b5 b6 b7 b8 b9 b10 b11 b12 b13 b14 b15 := by
  intro F
  induction F with
  | zero => intro k n av m c ln w iw ib x3 f1 f2 f3 f4 f5 a1 a2 a3 a4 a5 a6 a7 a8 a9 a10 a11 a12 a13 a14 a15 g1 g2 g3 g4 g5 b1 b2 b3 b4 b5 b6 b7 b8 b9 b10 b11 b12 b13 b14 b15 h; exact absurd h (Nat.not_lt_zero _)
  | succ F ih =>
    intro k n av m c ln w iw ib x3 f1 f2 f3 f4 f5 a1 a2 a3 a4 a5 a6 a7 a8 a9 a10 a11 a12 a13 a14 a15 g1 g2 g3 g4 g5 b1 b2 b3 b4 b5 b6 b7 b8 b9 b10 b11 b12 b13 b14 b15 hF hk hx hu hv
    refine pk_le L (k + 1) (fun _ => rfl) (fun z => ⟨pk_in k L (by omega), ?_⟩) rfl (nI_1 k)
    obtain ⟨op, hop, eop⟩ := pk_andE (xs (nI k).toNatClampNeg) (m := 15) 4 (by decide)
    refine nm_r eop ⟨pk_in (k + 1) L z (nI_1 k), ?_⟩
    intro D _
    obtain ⟨t, ht, et⟩ := pk_andE D (m := 7) 3 (by decide)
    obtain ⟨v, hvv, ev⟩ := pk_andE (D >>> ((3 : Int32) &&& 31)) (m := 7) 3 (by decide)
    refine nm_r et (nm_r ev ?_)
    obtain ⟨hn, hm, hI, hw7⟩ := ws_O_n hu
    have hI8 : ∀ k, k < m → iw k < 8 := fun k hk => (hI k hk).1
    have e7 : (7 : Int32) - nI t = nI (7 - t) := pk_sub (a := 7) (by omega)
    have em : ws_fd (fun k => decide (7 - iw k = 7 - t)) m = ws_fd (fun k => decide (iw k = t)) m := ws_fd_mir ht hI8
    have fin : ∀ n av m c ln w iw ib x3 f1 f2 f3 f4 f5 a1 a2 a3 a4 a5 a6 a7 a8 a9 a10 a11 a12 a13 a14 a15 g1 g2 g3 g4 g5 b1 b2 b3 b4 b5 b6 b7 b8 b9 b10 b11 b12 b13 b14 b15, (∀ t, t < 8 → (x3 >>> (nI (3 * t) &&& 31)) &&& 7 = nI (w t)) → ws_O n av m c ln w iw ib (f1, f2, f3, f4, f5, a1, a2, a3, a4, a5, a6, a7, a8, a9, a10, a11, a12, a13, a14, a15) → ws_O n av m (fun d t => c d (7 - t)) ln (fun t => w (7 - t)) (fun k => 7 - iw k) ib (g1, g2, g3, g4, g5, b1, b2, b3, b4, b5, b6, b7, b8, b9, b10, b11, b12, b13, b14, b15) →
        wL_law_305 (fun r => r = 1) L xs (wL_law_21 (fun r => r = 1) L xs kc ks F) x3 (nI k) D kc ks f1 f2 f3 f4 f5 a1 a2 a3 a4 a5 a6 a7 a8 a9 a10 a11 a12 a13 a14 a15 g1 g2 g3 g4 g5 b1 b2 b3 b4 b5 b6 b7 b8 b9 b10 b11 b12 b13 b14 b15 := by
      intro n av m c ln w iw ib x3 f1 f2 f3 f4 f5 a1 a2 a3 a4 a5 a6 a7 a8 a9 a10 a11 a12 a13 a14 a15 g1 g2 g3 g4 g5 b1 b2 b3 b4 b5 b6 b7 b8 b9 b10 b11 b12 b13 b14 b15 hx hu hv
      unfold wL_law_305
      refine ws_alike (fun k hk => ((ws_O_n hu).2.2.1 k hk).1) hu hv ?_
      intro f1 f2 f3 f4 f5 a1 a2 a3 a4 a5 a6 a7 a8 a9 a10 a11 a12 a13 a14 a15 g1 g2 g3 g4 g5 b1 b2 b3 b4 b5 b6 b7 b8 b9 b10 b11 b12 b13 b14 b15 hu' hv'
      exact br_f (by decide) (nm_r (nI_add k 2) (ih (k + 2) n av m c ln w iw ib x3 f1 f2 f3 f4 f5 a1 a2 a3 a4 a5 a6 a7 a8 a9 a10 a11 a12 a13 a14 a15 g1 g2 g3 g4 g5 b1 b2 b3 b4 b5 b6 b7 b8 b9 b10 b11 b12 b13 b14 b15 (by omega) (by omega) hx hu' hv'))
    have hop : op < 16 := hop
    have ht : t < 8 := ht
    have hvv : v < 8 := hvv
    refine pk_le 4 op (fun o4 => pk_eq op 4 (fun o5 => ?_) (fun o5 => pk_le 7 op (fun o7 => pk_eq op 7 (fun o8 => ⟨by decide, ?_⟩) (fun o8 => pk_eq op 8 (fun o9 => ?_) (fun o9 => pk_eq op 9 (fun o10 => ?_) (fun o10 => pk_le 14 op (fun o14 => ?_) (fun o14 => ?_))))) (fun o7 => ?_))) (fun o4 => ?_)
    · -- blank
      refine ws_blank hu (fun u' hu' => ?_)
      obtain ⟨f1, f2, f3, f4, f5, a1, a2, a3, a4, a5, a6, a7, a8, a9, a10, a11, a12, a13, a14, a15⟩ := u'
      refine ws_blank hv (fun v' hv' => ?_)
      obtain ⟨g1, g2, g3, g4, g5, b1, b2, b3, b4, b5, b6, b7, b8, b9, b10, b11, b12, b13, b14, b15⟩ := v'
      exact br_t (congrArg nI (ws_sum_rev8 w).symm) (fin n av m c ln (fun _ => 0) iw ib 0 f1 f2 f3 f4 f5 a1 a2 a3 a4 a5 a6 a7 a8 a9 a10 a11 a12 a13 a14 a15 g1 g2 g3 g4 g5 b1 b2 b3 b4 b5 b6 b7 b8 b9 b10 b11 b12 b13 b14 b15 ws_dr0 hu' hv')
    · -- many
      obtain ⟨j, hj, ej⟩ := pk_andE D (m := 15) 4 (by decide)
      obtain ⟨i, hi, ei⟩ := pk_andE (D >>> ((4 : Int32) &&& 31)) (m := 3) 2 (by decide)
      have hj : j < 16 := hj
      have hi : i < 4 := hi
      have e1 : (D &&& 15) - (D &&& 15) / 11 * 11 = nI (j % 11) := by rw [ej]; exact pk_rem (d := 11) (by omega) (by omega) (by omega)
      have e2 : 1 + ((D >>> ((4 : Int32) &&& 31)) &&& 3) = nI (1 + i) := by rw [ei]; exact nI_add 1 i
      rw [e1, e2]
      refine ws_many (by omega) (by omega) (by omega) hx hu hv ?_
      intro kk c' ln' f1 f2 f3 f4 f5 a1 a2 a3 a4 a5 a6 a7 a8 a9 a10 a11 a12 a13 a14 a15 g1 g2 g3 g4 g5 b1 b2 b3 b4 b5 b6 b7 b8 b9 b10 b11 b12 b13 b14 b15 hu' hv'
      exact br_f (by decide) (fin _ _ _ _ _ _ _ _ x3 f1 f2 f3 f4 f5 a1 a2 a3 a4 a5 a6 a7 a8 a9 a10 a11 a12 a13 a14 a15 g1 g2 g3 g4 g5 b1 b2 b3 b4 b5 b6 b7 b8 b9 b10 b11 b12 b13 b14 b15 hx hu' hv')
    · -- delete
      obtain ⟨j, hj, ej⟩ := pk_andE D (m := 31) 5 (by decide)
      have hj : j < 32 := hj
      rw [ej]
      refine ws_delete hj hu (fun g1 g2 u' hu' => ?_) (fun g => ?_)
      · obtain ⟨f1, f2, f3, f4, f5, a1, a2, a3, a4, a5, a6, a7, a8, a9, a10, a11, a12, a13, a14, a15⟩ := u'
        refine ws_delete hj hv (fun _ _ v' hv' => ?_) (fun g => absurd ⟨g1, g2⟩ g)
        obtain ⟨g1, g2, g3, g4, g5, b1, b2, b3, b4, b5, b6, b7, b8, b9, b10, b11, b12, b13, b14, b15⟩ := v'
        exact br_t rfl (fin _ _ _ _ _ _ _ _ x3 f1 f2 f3 f4 f5 a1 a2 a3 a4 a5 a6 a7 a8 a9 a10 a11 a12 a13 a14 a15 g1 g2 g3 g4 g5 b1 b2 b3 b4 b5 b6 b7 b8 b9 b10 b11 b12 b13 b14 b15 hx hu' hv')
      · exact ws_delete hj hv (fun g1 g2 => absurd ⟨g1, g2⟩ g) (fun _ => br_t rfl (fin _ _ _ _ _ _ _ _ x3 f1 f2 f3 f4 f5 a1 a2 a3 a4 a5 a6 a7 a8 a9 a10 a11 a12 a13 a14 a15 g1 g2 g3 g4 g5 b1 b2 b3 b4 b5 b6 b7 b8 b9 b10 b11 b12 b13 b14 b15 hx hu hv))
    · -- tidy
      refine ws_tidy hu (fun u' hu' => ?_)
      obtain ⟨f1, f2, f3, f4, f5, a1, a2, a3, a4, a5, a6, a7, a8, a9, a10, a11, a12, a13, a14, a15⟩ := u'
      exact ws_live_o hv (br_t rfl (fin _ _ _ _ _ _ _ _ x3 f1 f2 f3 f4 f5 a1 a2 a3 a4 a5 a6 a7 a8 a9 a10 a11 a12 a13 a14 a15 g1 g2 g3 g4 g5 b1 b2 b3 b4 b5 b6 b7 b8 b9 b10 b11 b12 b13 b14 b15 hx hu' hv))
    · -- drop
      rw [e7]
      refine ws_drop ht hu (fun g u' hu' => ?_) (fun g => ?_)
      · obtain ⟨f1, f2, f3, f4, f5, a1, a2, a3, a4, a5, a6, a7, a8, a9, a10, a11, a12, a13, a14, a15⟩ := u'
        refine ws_drop (t := 7 - t) (by omega) hv (fun g' v' hv' => ?_) (fun g' => absurd (em.symm.trans g') (by omega))
        obtain ⟨g1, g2, g3, g4, g5, b1, b2, b3, b4, b5, b6, b7, b8, b9, b10, b11, b12, b13, b14, b15⟩ := v'
        refine br_t rfl (fin _ _ _ _ _ _ _ _ x3 f1 f2 f3 f4 f5 a1 a2 a3 a4 a5 a6 a7 a8 a9 a10 a11 a12 a13 a14 a15 g1 g2 g3 g4 g5 b1 b2 b3 b4 b5 b6 b7 b8 b9 b10 b11 b12 b13 b14 b15 hx hu' (ws_O_congr hv' (fun _ _ _ _ => rfl) (fun _ _ => rfl) (fun _ _ => rfl) (fun k hk => ⟨?_, ?_⟩)))
        · show 7 - (if k < ws_fd (fun k => decide (iw k = t)) m then iw k else iw (k + 1)) = (if k < ws_fd (fun k => decide (7 - iw k = 7 - t)) m then 7 - iw k else 7 - iw (k + 1))
          rw [em]
          split <;> rfl
        · show (if k < ws_fd (fun k => decide (iw k = t)) m then ib k else ib (k + 1)) = (if k < ws_fd (fun k => decide (7 - iw k = 7 - t)) m then ib k else ib (k + 1))
          rw [em]
      · exact ws_drop (t := 7 - t) (by omega) hv (fun g' => absurd (Nat.lt_of_le_of_lt (Nat.le_of_eq em.symm) g') (by omega)) (fun _ => br_t rfl (fin _ _ _ _ _ _ _ _ x3 f1 f2 f3 f4 f5 a1 a2 a3 a4 a5 a6 a7 a8 a9 a10 a11 a12 a13 a14 a15 g1 g2 g3 g4 g5 b1 b2 b3 b4 b5 b6 b7 b8 b9 b10 b11 b12 b13 b14 b15 hx hu hv))
    · -- item
      obtain ⟨b, hb, eb⟩ := pk_andE (D >>> ((3 : Int32) &&& 31)) (m := 31) 5 (by decide)
      have hb : b < 32 := hb
      rw [e7, eb]
      refine ws_item ht hb hu (fun g => ?_) (fun g p u' hu' => ?_) (fun g p p5 => ?_) (fun g p p5 u' hu' => ?_)
      · exact ws_item (t := 7 - t) (by omega) hb hv (fun _ => br_t rfl (fin _ _ _ _ _ _ _ _ x3 f1 f2 f3 f4 f5 a1 a2 a3 a4 a5 a6 a7 a8 a9 a10 a11 a12 a13 a14 a15 g1 g2 g3 g4 g5 b1 b2 b3 b4 b5 b6 b7 b8 b9 b10 b11 b12 b13 b14 b15 hx hu hv)) (fun g' => absurd g g') (fun g' => absurd g g') (fun g' => absurd g g')
      · obtain ⟨f1, f2, f3, f4, f5, a1, a2, a3, a4, a5, a6, a7, a8, a9, a10, a11, a12, a13, a14, a15⟩ := u'
        refine ws_item (t := 7 - t) (by omega) hb hv (fun g' => absurd g' g) (fun _ p' v' hv' => ?_) (fun _ p' => absurd (em.symm.trans p') (by omega)) (fun _ p' => absurd (em.symm.trans p') (by omega))
        obtain ⟨g1, g2, g3, g4, g5, b1, b2, b3, b4, b5, b6, b7, b8, b9, b10, b11, b12, b13, b14, b15⟩ := v'
        refine br_t rfl (fin _ _ _ _ _ _ _ _ x3 f1 f2 f3 f4 f5 a1 a2 a3 a4 a5 a6 a7 a8 a9 a10 a11 a12 a13 a14 a15 g1 g2 g3 g4 g5 b1 b2 b3 b4 b5 b6 b7 b8 b9 b10 b11 b12 b13 b14 b15 hx hu' (ws_O_congr hv' (fun _ _ _ _ => rfl) (fun _ _ => rfl) (fun _ _ => rfl) (fun k hk => ⟨?_, ?_⟩)))
        · show 7 - (if k = ws_fd (fun k => decide (iw k = t)) m then t else iw k) = (if k = ws_fd (fun k => decide (7 - iw k = 7 - t)) m then 7 - t else 7 - iw k)
          rw [em]
          split <;> rfl
        · show (if k = ws_fd (fun k => decide (iw k = t)) m then b else ib k) = (if k = ws_fd (fun k => decide (7 - iw k = 7 - t)) m then b else ib k)
          rw [em]
      · exact ws_item (t := 7 - t) (by omega) hb hv (fun g' => absurd g' g) (fun _ p' => absurd (Nat.lt_of_le_of_lt (Nat.le_of_eq em.symm) p') (by omega)) (fun _ _ _ => br_t rfl (fin _ _ _ _ _ _ _ _ x3 f1 f2 f3 f4 f5 a1 a2 a3 a4 a5 a6 a7 a8 a9 a10 a11 a12 a13 a14 a15 g1 g2 g3 g4 g5 b1 b2 b3 b4 b5 b6 b7 b8 b9 b10 b11 b12 b13 b14 b15 hx hu hv)) (fun _ _ p' => absurd p' (by omega))
      · obtain ⟨f1, f2, f3, f4, f5, a1, a2, a3, a4, a5, a6, a7, a8, a9, a10, a11, a12, a13, a14, a15⟩ := u'
        refine ws_item (t := 7 - t) (by omega) hb hv (fun g' => absurd g' g) (fun _ p' => absurd (Nat.lt_of_le_of_lt (Nat.le_of_eq em.symm) p') (by omega)) (fun _ _ p' => absurd p' (by omega)) (fun _ p' _ v' hv' => ?_)
        obtain ⟨g1, g2, g3, g4, g5, b1, b2, b3, b4, b5, b6, b7, b8, b9, b10, b11, b12, b13, b14, b15⟩ := v'
        refine br_t rfl (fin _ _ _ _ _ _ _ _ x3 f1 f2 f3 f4 f5 a1 a2 a3 a4 a5 a6 a7 a8 a9 a10 a11 a12 a13 a14 a15 g1 g2 g3 g4 g5 b1 b2 b3 b4 b5 b6 b7 b8 b9 b10 b11 b12 b13 b14 b15 hx hu' (ws_O_congr hv' (fun _ _ _ _ => rfl) (fun _ _ => rfl) (fun _ _ => rfl) (fun k hk => ⟨?_, rfl⟩)))
        show 7 - (if k = m then t else iw k) = (if k = m then 7 - t else 7 - iw k)
        split <;> rfl
    · -- add
      refine ws_add (c' := fun d s => if d = n then w s else c d s) (ln' := fun d => if d = n then ws_sum w 8 else ln d) hu (fun d hd s _ => if_neg (by omega)) (fun s _ => if_pos rfl) (fun d hd => if_neg (by omega)) (if_pos rfl) (fun g u' hu' => ?_) (fun g => ?_)
      · obtain ⟨f1, f2, f3, f4, f5, a1, a2, a3, a4, a5, a6, a7, a8, a9, a10, a11, a12, a13, a14, a15⟩ := u'
        refine ws_add (c' := fun d s => if d = n then w (7 - s) else c d (7 - s)) (ln' := fun d => if d = n then ws_sum w 8 else ln d) hv (fun d hd s _ => if_neg (by omega)) (fun s _ => if_pos rfl) (fun d hd => if_neg (by omega)) ((if_pos rfl).trans (ws_sum_rev8 w).symm) (fun _ v' hv' => ?_) (fun z => absurd z (by omega))
        obtain ⟨g1, g2, g3, g4, g5, b1, b2, b3, b4, b5, b6, b7, b8, b9, b10, b11, b12, b13, b14, b15⟩ := v'
        exact br_t rfl (fin _ _ _ _ _ _ _ _ x3 f1 f2 f3 f4 f5 a1 a2 a3 a4 a5 a6 a7 a8 a9 a10 a11 a12 a13 a14 a15 g1 g2 g3 g4 g5 b1 b2 b3 b4 b5 b6 b7 b8 b9 b10 b11 b12 b13 b14 b15 hx hu' hv')
      · exact ws_add (c' := fun d s => if d = n then w (7 - s) else c d (7 - s)) (ln' := fun d => if d = n then ws_sum w 8 else ln d) hv (fun d hd s _ => if_neg (by omega)) (fun s _ => if_pos rfl) (fun d hd => if_neg (by omega)) ((if_pos rfl).trans (ws_sum_rev8 w).symm) (fun z => absurd z (by omega)) (fun _ => br_t rfl (fin _ _ _ _ _ _ _ _ x3 f1 f2 f3 f4 f5 a1 a2 a3 a4 a5 a6 a7 a8 a9 a10 a11 a12 a13 a14 a15 g1 g2 g3 g4 g5 b1 b2 b3 b4 b5 b6 b7 b8 b9 b10 b11 b12 b13 b14 b15 hx hu hv))
    · -- write
      rw [e7]
      refine ws_write (w' := fun s => if s = t then v else w s) hu ht (by omega) (fun _ _ => rfl) (fun u' hu' => ?_)
      obtain ⟨f1, f2, f3, f4, f5, a1, a2, a3, a4, a5, a6, a7, a8, a9, a10, a11, a12, a13, a14, a15⟩ := u'
      refine ws_write (w' := fun s => if 7 - s = t then v else w (7 - s)) hv (by omega) (by omega) (fun s hs => ?_) (fun v' hv' => ?_)
      · by_cases g : s = 7 - t
        · rw [if_pos g, if_pos (by omega)]
        · rw [if_neg g, if_neg (by omega)]
      · obtain ⟨g1, g2, g3, g4, g5, b1, b2, b3, b4, b5, b6, b7, b8, b9, b10, b11, b12, b13, b14, b15⟩ := v'
        refine br_t (congrArg nI (ws_sum_rev8 (fun s => if s = t then v else w s)).symm) (nm_r (e' := ws_dw x3 t v) (by rw [show (3 : Int32) * nI t = nI (3 * t) from pk_mul 3 t]; rfl) (fin _ _ _ _ _ (fun s => if s = t then v else w s) _ _ _ f1 f2 f3 f4 f5 a1 a2 a3 a4 a5 a6 a7 a8 a9 a10 a11 a12 a13 a14 a15 g1 g2 g3 g4 g5 b1 b2 b3 b4 b5 b6 b7 b8 b9 b10 b11 b12 b13 b14 b15 (fun s hs => ?_) hu' hv'))
        by_cases g : s = t
        · subst g
          rw [ws_dw_s x3 hs hvv, if_pos rfl]
        · rw [ws_dw_o x3 ht hs hvv g, if_neg g]
          exact hx s hs
theorem ws_init {post : St1 → Prop} (H : post (0, 0, 0, 0, 0, (fun _ => 0), (fun _ => 0), (fun _ => 0), (fun _ => 0), (fun _ => 0), (fun _ => 0), (fun _ => 0), (fun _ => 0), (fun _ => 0), (fun _ => 0), (fun _ => 0), (fun _ => 0), (fun _ => 0), (fun _ => 0), (fun _ => 0))) : wpX_init post 15 676 (0, 0, 0, 0, 0) :=
  ⟨by decide, by decide, by decide, by decide, by decide, by decide, by decide, by decide, by decide, by decide, by decide, by decide, by decide, by decide, by decide, by decide, by decide, by decide, by decide, by decide, by decide, by decide, by decide, by decide, by decide, by decide, by decide, by decide, by decide, by decide, H⟩
theorem ws_O_0 {c : Nat → Nat → Nat} {ln w iw ib : Nat → Nat} (hw : ∀ t, w t = 0) : ws_O 0 0 0 c ln w iw ib (0, 0, 0, 0, 0, (fun _ => 0), (fun _ => 0), (fun _ => 0), (fun _ => 0), (fun _ => 0), (fun _ => 0), (fun _ => 0), (fun _ => 0), (fun _ => 0), (fun _ => 0), (fun _ => 0), (fun _ => 0), (fun _ => 0), (fun _ => 0), (fun _ => 0)) :=
  ⟨by omega, rfl, rfl, rfl, fun d hd => absurd hd (Nat.not_lt_zero d), fun t _ => ⟨by rw [hw t]; omega, by rw [hw t]; rfl⟩, ⟨by omega, fun k hk => absurd hk (Nat.not_lt_zero k)⟩, fun _ => 0, fun _ _ => 0, fun t _ => ⟨⟨rfl, rfl, Nat.le_refl 0, fun i hi => absurd hi (Nat.not_lt_zero i)⟩, fun d hd => absurd hd (Nat.not_lt_zero d)⟩⟩
theorem i_vc (xs : Nat → Int32) (L : Nat) (hL : L ≤ 260) : wpL_law (fun r => r = 1) L xs := by
  refine ⟨15, 676, by decide, by decide, ws_init ⟨by decide, by decide, 15, 676, by decide, by decide, ws_init ⟨L + 1, ?_⟩⟩⟩
  exact ws_law hL (L + 1) 0 0 0 0 (fun _ _ => 0) (fun _ => 0) (fun _ => 0) (fun _ => 0) (fun _ => 0) 0 _ _ _ _ _ _ _ _ _ _ _ _ _ _ _ _ _ _ _ _ _ _ _ _ _ _ _ _ _ _ _ _ _ _ _ _ _ _ _ _ (by omega) (by omega) ws_dr0 (ws_O_0 (fun _ => rfl)) (ws_O_0 (fun _ => rfl))
end
