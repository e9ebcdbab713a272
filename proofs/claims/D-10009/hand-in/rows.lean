section
/-! ===== small rows on ints ===== -/
theorem ws_ix (a b c : Nat) : nI a * nI b + nI c = nI (a * b + c) := by rw [pk_mul, nI_add]
theorem ws_ix1 (a b c : Nat) : nI a * nI b + nI c + 1 = nI (a * b + c + 1) := by rw [pk_mul, nI_add, nI_1]
theorem ws_i8 : ∀ v, v < 128 → (nI v).toInt8.toInt32 = nI v := by decide +kernel
theorem ws_gap {a q : Nat} (h : q ≤ a + 1) : nI a - (nI q - 1) = nI (a + 1 - q) := by
  have e : nI (a + 1 - q) + nI q = nI a + 1 := by rw [nI_add, nI_1, show a + 1 - q + q = a + 1 by omega]
  grind
theorem ws_run {a q : Nat} (h : q ≤ a + 1) : nI q - 1 + nI (a + 1 - q) = nI a := by
  have e : nI (a + 1 - q) + nI q = nI a + 1 := by rw [nI_add, nI_1, show a + 1 - q + q = a + 1 by omega]
  grind
theorem ws_n1 (a : Nat) : nI (a + 1) - 1 = nI a := nI_pred a
theorem ws_m2 (a : Nat) : nI (2 * a) - 2 + 2 = nI (2 * a) := by grind
theorem ws_p2 (a : Nat) : nI (2 * a) + 2 = nI (2 * (a + 1)) := by
  rw [show (2 : Int32) = nI 2 from rfl, nI_add]
  rfl
/-- nI e - 1 as an int -/
theorem ws_pI {e : Nat} (h : e < 2 ^ 30) : (nI e - 1).toInt = (e : Int) - 1 := by
  have k := pk_sub_toInt (a := e) (b := 1) h (by omega)
  exact k
theorem ws_plt {e f : Nat} (he : e < 2 ^ 30) (hf : f < 2 ^ 30) : nI e - 1 < nI f ↔ e ≤ f := by
  rw [Int32.lt_iff_toInt_lt, ws_pI he, nI_toInt (by omega)]
  omega
theorem ws_pne {e f : Nat} (he : e < 2 ^ 30) (hf : f < 2 ^ 30) (h : e ≠ f + 1) : ¬ nI e - 1 = nI f := by
  intro z
  have k := congrArg Int32.toInt z
  rw [ws_pI he, nI_toInt (by omega)] at k
  omega
/-! ===== bits ===== -/
def ws_bt (x : Int32) (i : Nat) : Bool := x.toBitVec.getLsbD i
theorem ws_bor (x y : Int32) (i : Nat) : ws_bt (x ||| y) i = (ws_bt x i || ws_bt y i) := by unfold ws_bt; rw [Int32.toBitVec_or, BitVec.getLsbD_or]
theorem ws_band (x y : Int32) (i : Nat) : ws_bt (x &&& y) i = (ws_bt x i && ws_bt y i) := by unfold ws_bt; rw [Int32.toBitVec_and, BitVec.getLsbD_and]
theorem ws_bsl : ∀ n, n < 32 → ((nI n &&& 31).toBitVec.smod 32).toNat = n := by decide +kernel
theorem ws_bshl (n : Nat) (hn : n < 32) (x : Int32) {i : Nat} (hi : i < 32) : ws_bt (x <<< (nI n &&& 31)) i = (decide (n ≤ i) && ws_bt x (i - n)) := by
  unfold ws_bt
  rw [Int32.toBitVec_shiftLeft]
  show (x.toBitVec <<< ((nI n &&& 31).toBitVec.smod 32).toNat).getLsbD i = _
  rw [ws_bsl n hn, BitVec.getLsbD_shiftLeft]
  rcases Nat.lt_or_ge i n with h | h
  · simp [h, Nat.not_le.mpr h]
  · simp [hi, h, Nat.not_lt.mpr h]
theorem ws_bsshr (n : Nat) (hn : n < 32) (x : Int32) {i : Nat} (hi : i < 32) : ws_bt (x >>> (nI n &&& 31)) i = if n + i < 32 then ws_bt x (n + i) else ws_bt x 31 := by
  unfold ws_bt
  rw [Int32.toBitVec_shiftRight]
  show (x.toBitVec.sshiftRight ((nI n &&& 31).toBitVec.smod 32).toNat).getLsbD i = _
  rw [ws_bsl n hn, BitVec.getLsbD_sshiftRight, BitVec.msb_eq_getLsbD_last]
  simp [hi]
theorem ws_b1 : ∀ i, i < 32 → ws_bt 1 i = decide (i = 0) := by decide +kernel
theorem ws_b00 : ws_bt (nI 0) 0 = false := by decide +kernel
theorem ws_b10 : ws_bt (nI 1) 0 = true := by decide +kernel
theorem ws_lv (al : Int32) {d : Nat} (hd : d < 32) : (al >>> (nI d &&& 31)) &&& 1 = nI (if ws_bt al d = true then 1 else 0) := by
  obtain ⟨j, hj, e⟩ := pk_andE (al >>> (nI d &&& 31)) (m := 1) 1 (by decide)
  have hb : ws_bt ((al >>> (nI d &&& 31)) &&& 1) 0 = ws_bt al d := by
    rw [ws_band, ws_bsshr d hd al (by omega), ws_b1 0 (by omega), if_pos (show d + 0 < 32 by omega)]
    simp
  rw [e] at hb ⊢
  have hj' : j = 0 ∨ j = 1 := by omega
  rcases hj' with rfl | rfl
  · rw [ws_b00] at hb
    rw [← hb]
    rfl
  · rw [ws_b10] at hb
    rw [← hb]
    rfl
theorem ws_lv1 (al : Int32) {d : Nat} (hd : d < 32) : ((al >>> (nI d &&& 31)) &&& 1 = 1) ↔ ws_bt al d = true := by
  rw [ws_lv al hd]
  cases ws_bt al d <;> decide
theorem ws_lvOr (al : Int32) {n d : Nat} (hn : n < 32) (hd : d < 32) : ws_bt (al ||| ((1 : Int32) <<< (nI n &&& 31))) d = (ws_bt al d || decide (d = n)) := by
  rw [ws_bor, ws_bshl n hn 1 hd, ws_b1 (d - n) (by omega)]
  congr 1
  by_cases h : n ≤ d
  · by_cases h2 : d = n
    · simp [h2]
    · simp [h, h2]
      omega
  · simp [h]
    omega
theorem ws_lvAnd {al y : Int32} {d : Nat} (h : ws_bt (al &&& y) d = true) : ws_bt al d = true := by
  rw [ws_band] at h
  exact (Bool.and_eq_true_iff.mp h).1
/-! ===== counting, the place behind the last, sums ===== -/
def ws_cn (p : Nat → Bool) : Nat → Nat
  | 0 => 0
  | n + 1 => ws_cn p n + (if p n = true then 1 else 0)
def ws_q (p : Nat → Bool) : Nat → Nat
  | 0 => 0
  | n + 1 => if p n = true then n + 1 else ws_q p n
def ws_sm (f : Nat → Nat) : Nat → Nat
  | 0 => 0
  | n + 1 => ws_sm f n + f n
theorem ws_cn_t {p : Nat → Bool} {n : Nat} (h : p n = true) : ws_cn p (n + 1) = ws_cn p n + 1 := by
  show ws_cn p n + (if p n = true then 1 else 0) = _
  rw [if_pos h]
theorem ws_cn_f {p : Nat → Bool} {n : Nat} (h : p n = false) : ws_cn p (n + 1) = ws_cn p n := by
  show ws_cn p n + (if p n = true then 1 else 0) = _
  rw [if_neg (by rw [h]; decide)]
  rfl
theorem ws_q_t {p : Nat → Bool} {n : Nat} (h : p n = true) : ws_q p (n + 1) = n + 1 := by
  show (if p n = true then n + 1 else ws_q p n) = _
  rw [if_pos h]
theorem ws_q_f {p : Nat → Bool} {n : Nat} (h : p n = false) : ws_q p (n + 1) = ws_q p n := by
  show (if p n = true then n + 1 else ws_q p n) = _
  rw [if_neg (by rw [h]; decide)]
theorem ws_cn_le (p : Nat → Bool) (n : Nat) : ws_cn p n ≤ n := by
  induction n with
  | zero => exact Nat.le_refl 0
  | succ n ih =>
    cases h : p n
    · rw [ws_cn_f h]; omega
    · rw [ws_cn_t h]; omega
theorem ws_q_le (p : Nat → Bool) (n : Nat) : ws_q p n ≤ n := by
  induction n with
  | zero => exact Nat.le_refl 0
  | succ n ih =>
    cases h : p n
    · rw [ws_q_f h]; omega
    · rw [ws_q_t h]; omega
theorem ws_cn_s (p : Nat → Bool) (n : Nat) : ws_cn p n ≤ ws_cn p (n + 1) := by
  cases h : p n
  · rw [ws_cn_f h]; omega
  · rw [ws_cn_t h]; omega
theorem ws_cn_mono (p : Nat → Bool) {m : Nat} : ∀ n, m ≤ n → ws_cn p m ≤ ws_cn p n := by
  intro n
  induction n with
  | zero => intro h; rw [show m = 0 by omega]; exact Nat.le_refl _
  | succ n ih =>
    intro h
    by_cases e : m = n + 1
    · rw [e]; exact Nat.le_refl _
    · exact Nat.le_trans (ih (by omega)) (ws_cn_s p n)
theorem ws_cn_lt {p : Nat → Bool} {d n : Nat} (hd : d < n) (h : p d = true) : ws_cn p d < ws_cn p n := by
  have k := ws_cn_mono p n (show d + 1 ≤ n from hd)
  rw [ws_cn_t h] at k
  omega
theorem ws_cn_ex {p : Nat → Bool} {k : Nat} : ∀ n, k < ws_cn p n → ∃ d, d < n ∧ p d = true ∧ ws_cn p d = k := by
  intro n
  induction n with
  | zero => intro h; exact absurd h (Nat.not_lt_zero _)
  | succ n ih =>
    intro h
    by_cases e : k < ws_cn p n
    · obtain ⟨d, h1, h2, h3⟩ := ih e
      exact ⟨d, by omega, h2, h3⟩
    · cases hp : p n
      · rw [ws_cn_f hp] at h
        exact absurd h e
      · rw [ws_cn_t hp] at h
        exact ⟨n, by omega, hp, by omega⟩
theorem ws_cn_congr {p p' : Nat → Bool} : ∀ n, (∀ d, d < n → p d = p' d) → ws_cn p n = ws_cn p' n := by
  intro n
  induction n with
  | zero => intro _; rfl
  | succ n ih =>
    intro h
    show ws_cn p n + (if p n = true then 1 else 0) = ws_cn p' n + (if p' n = true then 1 else 0)
    rw [ih (fun d hd => h d (by omega)), h n (by omega)]
theorem ws_cn_imp {p p' : Nat → Bool} : ∀ n, (∀ d, d < n → p d = true → p' d = true) → ws_cn p n ≤ ws_cn p' n := by
  intro n
  induction n with
  | zero => intro _; exact Nat.le_refl _
  | succ n ih =>
    intro h
    have k := ih (fun d hd => h d (by omega))
    cases hp : p n
    · rw [ws_cn_f hp]
      exact Nat.le_trans k (ws_cn_s p' n)
    · rw [ws_cn_t hp, ws_cn_t (h n (by omega) hp)]
      omega
theorem ws_q_congr {p p' : Nat → Bool} : ∀ n, (∀ d, d < n → p d = p' d) → ws_q p n = ws_q p' n := by
  intro n
  induction n with
  | zero => intro _; rfl
  | succ n ih =>
    intro h
    show (if p n = true then n + 1 else ws_q p n) = (if p' n = true then n + 1 else ws_q p' n)
    rw [ih (fun d hd => h d (by omega)), h n (by omega)]
theorem ws_sm_congr {f f' : Nat → Nat} : ∀ n, (∀ d, d < n → f d = f' d) → ws_sm f n = ws_sm f' n := by
  intro n
  induction n with
  | zero => intro _; rfl
  | succ n ih =>
    intro h
    show ws_sm f n + f n = ws_sm f' n + f' n
    rw [ih (fun d hd => h d (by omega)), h n (by omega)]
theorem ws_sm_le {f f' : Nat → Nat} : ∀ n, (∀ d, d < n → f d ≤ f' d) → ws_sm f n ≤ ws_sm f' n := by
  intro n
  induction n with
  | zero => intro _; exact Nat.le_refl _
  | succ n ih =>
    intro h
    have k := ih (fun d hd => h d (by omega))
    have k2 := h n (by omega)
    show ws_sm f n + f n ≤ ws_sm f' n + f' n
    omega
theorem ws_sm_b {f : Nat → Nat} {B : Nat} : ∀ n, (∀ d, d < n → f d ≤ B) → ws_sm f n ≤ n * B := by
  intro n
  induction n with
  | zero => intro _; exact Nat.zero_le _
  | succ n ih =>
    intro h
    have k := ih (fun d hd => h d (by omega))
    have k2 := h n (by omega)
    show ws_sm f n + f n ≤ (n + 1) * B
    rw [Nat.succ_mul]
    omega
theorem ws_skip {I : Nat → Prop} {p : Nat → Bool} {n : Nat} (hs : ∀ d, d < n → p d = false → I d → I (d + 1)) {d : Nat} (h : I d) : ∀ e, d ≤ e → e ≤ n → (∀ j, d ≤ j → j < e → p j = false) → I e := by
  intro e
  induction e with
  | zero => intro h1 _ _; rw [show d = 0 by omega] at h; exact h
  | succ e ih =>
    intro h1 h2 h3
    by_cases e1 : d = e + 1
    · rw [← e1]; exact h
    · exact hs e (by omega) (h3 e (by omega) (by omega)) (ih (by omega) (by omega) (fun j hj hj2 => h3 j hj (by omega)))
theorem ws_cn_skip {p : Nat → Bool} {d e : Nat} (h : d ≤ e) (hp : ∀ j, d ≤ j → j < e → p j = false) : ws_cn p e = ws_cn p d :=
  ws_skip (I := fun x => ws_cn p x = ws_cn p d) (p := p) (n := e) (fun x _ hx hi => (ws_cn_f hx).trans hi) rfl e h (Nat.le_refl _) hp
theorem ws_q_skip {p : Nat → Bool} {d e : Nat} (h : d ≤ e) (hp : ∀ j, d ≤ j → j < e → p j = false) : ws_q p e = ws_q p d :=
  ws_skip (I := fun x => ws_q p x = ws_q p d) (p := p) (n := e) (fun x _ hx hi => (ws_q_f hx).trans hi) rfl e h (Nat.le_refl _) hp
theorem ws_nxt (p : Nat → Bool) (n : Nat) : ∀ k d, n - d = k → d ≤ n → (∃ e, d ≤ e ∧ e < n ∧ p e = true ∧ ∀ j, d ≤ j → j < e → p j = false) ∨ (∀ j, d ≤ j → j < n → p j = false) := by
  intro k
  induction k with
  | zero => intro d h1 h2; exact Or.inr (fun j h3 h4 => absurd h4 (by omega))
  | succ k ih =>
    intro d h1 h2
    cases hp : p d
    · rcases ih (d + 1) (by omega) (by omega) with ⟨e, e1, e2, e3, e4⟩ | h
      · refine Or.inl ⟨e, by omega, e2, e3, fun j h3 h4 => ?_⟩
        by_cases ej : j = d
        · rw [ej]; exact hp
        · exact e4 j (by omega) h4
      · refine Or.inr (fun j h3 h4 => ?_)
        by_cases ej : j = d
        · rw [ej]; exact hp
        · exact h j (by omega) h4
    · exact Or.inl ⟨d, Nat.le_refl _, by omega, hp, fun j h3 h4 => absurd h4 (by omega)⟩
/-- a loop over the places of a list, its state told by the documents -/
theorem ws_walk {σ : Type} (W : Nat → Nat → σ → Prop) (p : Nat → Bool) (n : Nat) (I : Nat → σ → Prop) (s : σ) (h0 : I 0 s)
    (hk : ∀ d s, d < n → p d = false → I d s → I (d + 1) s)
    (hx : ∀ m s, I n s → W (m + 1) (ws_cn p n) s)
    (hs : ∀ m d s, d < n → p d = true → I d s → (∀ s', I (d + 1) s' → W m (ws_cn p d + 1) s') → W (m + 1) (ws_cn p d) s) : ∃ m, W m 0 s := by
  refine pk_loop W (fun k s => ∃ d, d ≤ n ∧ ws_cn p d = k ∧ I d s) (ws_cn p n) 0 s (Nat.zero_le _) ⟨0, Nat.zero_le _, rfl, h0⟩ ?_ ?_
  · intro m s hh
    obtain ⟨d, hd, hc, hI⟩ := hh
    rcases ws_nxt p n (n - d) d rfl hd with ⟨e, h1, h2, h3, h4⟩ | h
    · have k1 := ws_cn_skip h1 h4
      have k2 := ws_cn_lt h2 h3
      omega
    · exact hx m s (ws_skip (I := fun x => I x s) (p := p) (n := n) (fun d' h' hp hi => hk d' s h' hp hi) hI n hd (Nat.le_refl _) h)
  · intro m k s hlt hh hw
    obtain ⟨d, hd, hc, hI⟩ := hh
    rcases ws_nxt p n (n - d) d rfl hd with ⟨e, h1, h2, h3, h4⟩ | h
    · have hI' : I e s := ws_skip (I := fun x => I x s) (p := p) (n := n) (fun d' h' hp hi => hk d' s h' hp hi) hI e h1 (by omega) h4
      have hc' : ws_cn p e = k := (ws_cn_skip h1 h4).trans hc
      subst hc'
      exact hs m e s h2 h3 hI' (fun s' h' => hw s' ⟨e + 1, h2, ws_cn_t h3, h'⟩)
    · have k1 := ws_cn_skip hd h
      omega
/-! ===== the j-th place at which p holds ===== -/
def ws_sel (p : Nat → Bool) : Nat → Nat → Nat
  | 0, _ => 0
  | k + 1, j => if p k = true ∧ ws_cn p k = j then k else ws_sel p k j
theorem ws_sel_at {p : Nat → Bool} {k : Nat} (hp : p k = true) : ∀ m, k < m → ws_sel p m (ws_cn p k) = k := by
  intro m
  induction m with
  | zero => intro h; exact absurd h (Nat.not_lt_zero _)
  | succ m ih =>
    intro h
    show (if p m = true ∧ ws_cn p m = ws_cn p k then m else ws_sel p m (ws_cn p k)) = k
    by_cases e : k = m
    · subst e
      rw [if_pos ⟨hp, rfl⟩]
    · have k1 := ws_cn_lt (show k < m by omega) hp
      rw [if_neg (fun z => by omega)]
      exact ih (by omega)
theorem ws_sel_lt {p : Nat → Bool} {m j : Nat} (h : j < ws_cn p m) : ws_sel p m j < m ∧ p (ws_sel p m j) = true := by
  obtain ⟨d, h1, h2, h3⟩ := ws_cn_ex m h
  rw [← h3, ws_sel_at h2 m h1]
  exact ⟨h1, h2⟩
/-! ===== the first place from f on ===== -/
def ws_nx (p : Nat → Bool) (f : Nat) : Nat → Nat
  | 0 => 1000
  | n + 1 => if ws_nx p f n < 1000 then ws_nx p f n else if f ≤ n ∧ p n = true then n else 1000
theorem ws_nx_some {p : Nat → Bool} {f d : Nat} (hf : f ≤ d) (hp : p d = true) (hn : ∀ j, f ≤ j → j < d → p j = false) : ∀ n, n ≤ 1000 → d < n → ws_nx p f n = d := by
  have h0 : ∀ n, n ≤ d → ws_nx p f n = 1000 := by
    intro n
    induction n with
    | zero => intro _; rfl
    | succ n ih =>
      intro h
      show (if ws_nx p f n < 1000 then ws_nx p f n else if f ≤ n ∧ p n = true then n else 1000) = 1000
      rw [ih (by omega), if_neg (by omega), if_neg]
      intro z
      rw [hn n z.1 (by omega)] at z
      exact absurd z.2 (by decide)
  intro n
  induction n with
  | zero => intro _ h; exact absurd h (Nat.not_lt_zero _)
  | succ n ih =>
    intro h1 h
    show (if ws_nx p f n < 1000 then ws_nx p f n else if f ≤ n ∧ p n = true then n else 1000) = d
    by_cases e : d = n
    · subst e
      rw [h0 d (Nat.le_refl _), if_neg (by omega), if_pos ⟨hf, hp⟩]
    · rw [ih (by omega) (by omega), if_pos (by omega)]
theorem ws_nx_none {p : Nat → Bool} {f : Nat} : ∀ n, (∀ j, f ≤ j → j < n → p j = false) → ws_nx p f n = 1000 := by
  intro n
  induction n with
  | zero => intro _; rfl
  | succ n ih =>
    intro h
    show (if ws_nx p f n < 1000 then ws_nx p f n else if f ≤ n ∧ p n = true then n else 1000) = 1000
    rw [ih (fun j h1 h2 => h j h1 (by omega)), if_neg (by omega), if_neg]
    intro z
    rw [h n z.1 (by omega)] at z
    exact absurd z.2 (by decide)
theorem ws_nx_or (p : Nat → Bool) {f n : Nat} (hn : n ≤ 24) : (ws_nx p f n = 1000 ∧ ∀ j, f ≤ j → j < n → p j = false) ∨ (ws_nx p f n < n ∧ f ≤ ws_nx p f n ∧ p (ws_nx p f n) = true ∧ ∀ j, f ≤ j → j < ws_nx p f n → p j = false) := by
  by_cases hf : f ≤ n
  · rcases ws_nxt p n (n - f) f rfl hf with ⟨e, h1, h2, h3, h4⟩ | h
    · have k := ws_nx_some h1 h3 h4 n (by omega) h2
      rw [k]
      exact Or.inr ⟨h2, h1, h3, h4⟩
    · exact Or.inl ⟨ws_nx_none n h, h⟩
  · have h : ∀ j, f ≤ j → j < n → p j = false := fun j h1 h2 => absurd h2 (by omega)
    exact Or.inl ⟨ws_nx_none n h, h⟩
end
section
/-! ===== the picture ===== -/
/-- document d stands in the list of word t (g: not tidied away; c d t: how often) -/
def ws_pg (g : Nat → Bool) (c : Nat → Nat → Nat) (t d : Nat) : Bool := g d && decide (0 < c d t)
/-- document d lives and has word t -/
def ws_hp (al : Int32) (c : Nat → Nat → Nat) (t d : Nat) : Bool := ws_bt al d && decide (0 < c d t)
/-- the bytes of word t's list hold the documents below m -/
def ws_li (g : Nat → Bool) (c : Nat → Nat → Nat) (t m : Nat) (a1 a2 : Nat → Int32) : Prop :=
  a2 t = nI (2 * ws_cn (ws_pg g c t) m) ∧ ∀ d, d < m → ws_pg g c t d = true → a1 (48 * t + 2 * ws_cn (ws_pg g c t) d) = nI (d + 1 - ws_q (ws_pg g c t) d) ∧ a1 (48 * t + 2 * ws_cn (ws_pg g c t) d + 1) = nI (c d t)
def ws_tb (n : Nat) (c : Nat → Nat → Nat) (ln : Nat → Nat) (a3 a4 : Nat → Int32) : Prop :=
  (∀ d, d < n → ∀ t, t < 8 → a3 (8 * d + t) = nI (c d t) ∧ c d t ≤ 7) ∧ (∀ d, d < n → a4 d = nI (ln d) ∧ ln d ≤ 56)
def ws_dr (dr : Nat → Nat) (a5 : Nat → Int32) : Prop := ∀ t, t < 8 → a5 t = nI (dr t) ∧ dr t ≤ 7
def ws_im (m : Nat) (w b : Nat → Nat) (a6 a7 : Nat → Int32) : Prop := m ≤ 5 ∧ ∀ k, k < m → a6 k = nI (w k) ∧ w k < 8 ∧ a7 k = nI (b k) ∧ b k ≤ 19
def ws_ls (n : Nat) (al : Int32) (g : Nat → Bool) (c : Nat → Nat → Nat) (a1 a2 : Nat → Int32) : Prop :=
  (∀ t, t < 8 → ws_li g c t n a1 a2) ∧ ∀ d, d < n → ws_bt al d = true → g d = true
/-- an item bars a document / speaks for it; a document matches; it lives and matches -/
def ws_bad (w b : Nat → Nat) (c : Nat → Nat → Nat) (d k : Nat) : Bool := (decide (b k = 0) && decide (0 < c d (w k))) || (decide (10 < b k) && decide (c d (w k) = 0))
def ws_any (w b : Nat → Nat) (c : Nat → Nat → Nat) (d k : Nat) : Bool := decide (0 < b k) && decide (0 < c d (w k))
def ws_mt (m : Nat) (w b : Nat → Nat) (c : Nat → Nat → Nat) (d : Nat) : Bool := decide (ws_cn (ws_bad w b c d) m = 0) && decide (0 < ws_cn (ws_any w b c d) m)
def ws_M (al : Int32) (m : Nat) (w b : Nat → Nat) (c : Nat → Nat → Nat) (d : Nat) : Bool := ws_bt al d && ws_mt m w b c d
section
variable {ad al it la fo : Int32} {a1 a2 a3 a4 a5 a6 a7 a8 a9 a10 a11 a12 a13 a14 a15 : Nat → Int32} {post : Int32 → Prop}
theorem ws_isLive {n d : Nat} (hn : n ≤ 24) (hd : d < 2 ^ 31) (h1 : d < n → ws_bt al d = true → post 1) (h0 : ¬ (d < n ∧ ws_bt al d = true) → post 0) : wpX_isLive post (nI n, al, it, la, fo, a1, a2, a3, a4, a5, a6, a7, a8, a9, a10, a11, a12, a13, a14, a15) (nI d) :=
  br_f (nI_pos hd) (pk_le n d (fun z => h0 (fun q => absurd q.1 (by omega))) (fun z => ek_if (ws_lv1 al (by omega)) (fun hb => h1 z hb) (fun hb => h0 (fun q => hb q.2))) rfl rfl (by omega) hd)
theorem ws_liveCount {n : Nat} (hn : n ≤ 24) (h : post (nI (ws_cn (ws_bt al) n))) : wpX_liveCount post (nI n, al, it, la, fo, a1, a2, a3, a4, a5, a6, a7, a8, a9, a10, a11, a12, a13, a14, a15) :=
  pk_loop (σ := Unit) (fun f i _ => wX_liveCount_4 post (nI n) al it la fo a1 a2 a3 a4 a5 a6 a7 a8 a9 a10 a11 a12 a13 a14 a15 f (nI (ws_cn (ws_bt al) i)) (nI i)) (fun _ _ => True) n 0 () (by omega) trivial
    (fun f _ _ => pk_le n n (fun _ => h) (fun z => absurd z (by omega)))
    (fun f i _ hi _ hw => pk_le n i (fun z => absurd z (by omega)) (fun _ => nm_r (e' := nI (ws_cn (ws_bt al) (i + 1))) (by rw [ws_lv al (by omega), nI_add]; rfl) (nm_r (nI_1 i) (hw () trivial))))
theorem ws_live {n : Nat} (hn : n ≤ 24) (h : post (nI (ws_cn (ws_bt al) n))) : wpX_live post (nI n, al, it, la, fo, a1, a2, a3, a4, a5, a6, a7, a8, a9, a10, a11, a12, a13, a14, a15) := by
  unfold wpX_live
  exact ws_liveCount hn h
theorem ws_draftLength {dr : Nat → Nat} (hd : ws_dr dr a5) (h : post (nI (ws_sm dr 8))) : wpX_draftLength post (ad, al, it, la, fo, a1, a2, a3, a4, a5, a6, a7, a8, a9, a10, a11, a12, a13, a14, a15) :=
  pk_loop (σ := Unit) (fun f i _ => wX_draftLength_4 post ad al it la fo a1 a2 a3 a4 a5 a6 a7 a8 a9 a10 a11 a12 a13 a14 a15 f (nI (ws_sm dr i)) (nI i)) (fun _ _ => True) 8 0 () (by omega) trivial
    (fun f _ _ => pk_le 8 8 (fun _ => h) (fun z => absurd z (by omega)))
    (fun f i _ hi _ hw => pk_le 8 i (fun z => absurd z (by omega)) (fun _ => ⟨pk_in i 8 hi, nm_r (e' := nI (ws_sm dr (i + 1))) (by rw [nI_clamp (by omega), (hd i hi).1, nI_add]; rfl) (nm_r (nI_1 i) (hw () trivial))⟩))
theorem ws_place {m : Nat} {x : Int32} (hm : m ≤ 5) (hk : ∀ k, k < m → post (nI k)) (hn : post (-1)) : wpX_place post (ad, al, nI m, la, fo, a1, a2, a3, a4, a5, a6, a7, a8, a9, a10, a11, a12, a13, a14, a15) x :=
  pk_loop (σ := Unit) (fun f i _ => wX_place_2 post x ad al (nI m) la fo a1 a2 a3 a4 a5 a6 a7 a8 a9 a10 a11 a12 a13 a14 a15 f (nI i)) (fun _ _ => True) m 0 () (by omega) trivial
    (fun f _ _ => pk_le m m (fun _ => hn) (fun z => absurd z (by omega)))
    (fun f i _ hi _ hw => pk_le m i (fun z => absurd z (by omega)) (fun _ => ⟨pk_in i 5 (by omega), br_c (fun _ => hk i hi) (fun _ => nm_r (nI_1 i) (hw () trivial))⟩))
theorem ws_isWord {x : Nat} (hx : x < 8) (h : post 1) : wpX_isWord post () (nI x) :=
  br_f (nI_pos (by omega)) (pk_le 8 x (fun z => absurd z (by omega)) (fun _ => h))
/-! ===== matches ===== -/
theorem ws_m72 {J4 : Int32 → Int32 → Prop} {x1 : Int32} {u z i bi : Nat} (hi : i < 5) (hb : a7 i = nI bi) (hbi : bi ≤ 19) (hu : u < 2) (hz : z < 2)
    (h0 : u = 0 → bi = 0 ∨ z = 0 → J4 0 (nI (i + 1))) (h1 : ¬ (u = 0 ∧ (bi = 0 ∨ z = 0)) → J4 1 (nI (i + 1))) : wX_matches_72 post J4 x1 (nI u) (nI i) (nI z) ad al it la fo a1 a2 a3 a4 a5 a6 a7 a8 a9 a10 a11 a12 a13 a14 a15 :=
  pk_eq u 0 (fun eu => ⟨pk_in i 5 hi, pk_le bi 0 (fun zb => nm_r (nI_1 i) (h0 eu (Or.inl (by omega)))) (fun zb => pk_eq z 0 (fun ez => nm_r (nI_1 i) (h0 eu (Or.inr ez))) (fun ez => nm_r (nI_1 i) (h1 (by omega)))) (by rw [nI_clamp (by omega), hb])⟩) (fun eu => nm_r (nI_1 i) (h1 (by omega)))
theorem ws_m54 {J4 : Int32 → Int32 → Prop} {x1 : Int32} {u z i bi : Nat} (hi : i < 5) (hb : a7 i = nI bi) (hbi : bi ≤ 19) (hu : u < 2) (hz : z < 2)
    (hB : 10 < bi ∧ z = 0 → post 0)
    (hG : ¬ (10 < bi ∧ z = 0) → wX_matches_72 post J4 x1 (nI u) (nI i) (nI z) ad al it la fo a1 a2 a3 a4 a5 a6 a7 a8 a9 a10 a11 a12 a13 a14 a15) : wX_matches_54 post J4 x1 (nI u) (nI i) (nI z) ad al it la fo a1 a2 a3 a4 a5 a6 a7 a8 a9 a10 a11 a12 a13 a14 a15 :=
  ⟨pk_in i 5 hi, pk_le bi 10 (fun zb => hG (by omega)) (fun zb => pk_eq z 0 (fun ez => hB ⟨zb, ez⟩) (fun ez => hG (by omega))) (by rw [nI_clamp (by omega), hb])⟩
theorem ws_m36 {J4 : Int32 → Int32 → Prop} {x1 : Int32} {u z i bi : Nat} (hi : i < 5) (hb : a7 i = nI bi) (hbi : bi ≤ 19) (hu : u < 2) (hz : z < 2)
    (hB : (bi = 0 ∧ z ≠ 0) ∨ (10 < bi ∧ z = 0) → post 0)
    (hG : ¬ ((bi = 0 ∧ z ≠ 0) ∨ (10 < bi ∧ z = 0)) → (u = 0 → bi = 0 ∨ z = 0 → J4 0 (nI (i + 1))) ∧ (¬ (u = 0 ∧ (bi = 0 ∨ z = 0)) → J4 1 (nI (i + 1)))) : wX_matches_36 post J4 x1 (nI u) (nI i) (nI z) ad al it la fo a1 a2 a3 a4 a5 a6 a7 a8 a9 a10 a11 a12 a13 a14 a15 := by
  have k : ¬ (bi = 0 ∧ z ≠ 0) → wX_matches_54 post J4 x1 (nI u) (nI i) (nI z) ad al it la fo a1 a2 a3 a4 a5 a6 a7 a8 a9 a10 a11 a12 a13 a14 a15 := fun h =>
    ws_m54 hi hb hbi hu hz (fun q => hB (Or.inr q)) (fun q => ws_m72 hi hb hbi hu hz (hG (by omega)).1 (hG (by omega)).2)
  exact ⟨pk_in i 5 hi, pk_eq bi 0 (fun eb => pk_eq z 0 (fun ez => k (by omega)) (fun ez => hB (Or.inl ⟨eb, ez⟩))) (fun eb => k (by omega)) (by rw [nI_clamp (by omega), hb])⟩
theorem ws_matches {n m d : Nat} {w b : Nat → Nat} {c : Nat → Nat → Nat} {ln : Nat → Nat} (hn : n ≤ 24) (hd : d < n) (ht : ws_tb n c ln a3 a4) (hi : ws_im m w b a6 a7)
    (h : post (nI (if ws_mt m w b c d = true then 1 else 0))) : wpX_matches post (ad, al, nI m, la, fo, a1, a2, a3, a4, a5, a6, a7, a8, a9, a10, a11, a12, a13, a14, a15) (nI d) := by
  obtain ⟨hm, hi⟩ := hi
  refine pk_loop (σ := Unit) (fun f k _ => wX_matches_4 post (nI d) ad al (nI m) la fo a1 a2 a3 a4 a5 a6 a7 a8 a9 a10 a11 a12 a13 a14 a15 f (nI (if 0 < ws_cn (ws_any w b c d) k then 1 else 0)) (nI k)) (fun k _ => ws_cn (ws_bad w b c d) k = 0) m 0 () (by omega) rfl ?_ ?_
  · intro f _ hbad
    refine pk_le m m (fun _ => ⟨?_, ?_⟩) (fun z => absurd z (by omega))
    · by_cases e : 0 < ws_cn (ws_any w b c d) m
      · rw [if_pos e]; rfl
      · rw [if_neg e]; rfl
    · have e : ws_mt m w b c d = decide (0 < ws_cn (ws_any w b c d) m) := by unfold ws_mt; rw [hbad]; simp
      rw [e] at h
      simpa using h
  · intro f i _ him hbad hw
    obtain ⟨h6, hw8, h7, hb19⟩ := hi i him
    obtain ⟨h3, hc7⟩ := ht.1 d hd (w i) hw8
    have e1 : 8 * nI d + a6 (nI i).toNatClampNeg = nI (8 * d + w i) := by rw [nI_clamp (by omega), h6]; exact ws_ix 8 d (w i)
    have e2 : a3 (8 * nI d + a6 (nI i).toNatClampNeg).toNatClampNeg = nI (c d (w i)) := by rw [e1, nI_clamp (by omega), h3]
    have key : ∀ z, z < 2 → (z = 0 ↔ c d (w i) = 0) → wX_matches_36 post (wX_matches_4 post (nI d) ad al (nI m) la fo a1 a2 a3 a4 a5 a6 a7 a8 a9 a10 a11 a12 a13 a14 a15 f) (nI d) (nI (if 0 < ws_cn (ws_any w b c d) i then 1 else 0)) (nI i) (nI z) ad al (nI m) la fo a1 a2 a3 a4 a5 a6 a7 a8 a9 a10 a11 a12 a13 a14 a15 := by
      intro z hz hzc
      refine ws_m36 (by omega) h7 hb19 (by split <;> omega) hz ?_ ?_
      · intro hB
        have hbt : ws_bad w b c d i = true := by
          unfold ws_bad
          rcases hB with ⟨x1, x2⟩ | ⟨x1, x2⟩
          · simp [x1]; omega
          · simp [x1]; omega
        have k1 := ws_cn_lt him hbt
        have e : ws_mt m w b c d = false := by
          unfold ws_mt
          rw [decide_eq_false (by omega)]
          rfl
        rw [e] at h
        exact h
      · intro hG
        have hbf : ws_bad w b c d i = false := by
          unfold ws_bad
          simp
          omega
        have hnext := hw () ((ws_cn_f hbf).trans hbad)
        refine ⟨fun hu hq => ?_, fun hu => ?_⟩
        · have ha : ws_any w b c d i = false := by
            unfold ws_any
            simp
            omega
          have h0 : ¬ 0 < ws_cn (ws_any w b c d) i := by
            intro z; rw [if_pos z] at hu; exact absurd hu (by decide)
          rw [ws_cn_f ha, if_neg h0] at hnext
          exact hnext
        · have h1 : 0 < ws_cn (ws_any w b c d) (i + 1) := by
            by_cases h0 : 0 < ws_cn (ws_any w b c d) i
            · exact Nat.lt_of_lt_of_le h0 (ws_cn_s _ i)
            · rw [if_neg h0] at hu
              have ha : ws_any w b c d i = true := by
                unfold ws_any
                simp
                omega
              rw [ws_cn_t ha]
              omega
          rw [if_pos h1] at hnext
          exact hnext
    refine pk_le m i (fun z => absurd z (by omega)) (fun _ => ⟨pk_in i 5 (by omega), pk_in (8 * d + w i) 192 (by omega) e1, pk_le (c d (w i)) 0 (fun z => key 0 (by omega) (by omega)) (fun z => key 1 (by omega) (by omega)) e2⟩)
theorem ws_matching {n m : Nat} {w b : Nat → Nat} {c : Nat → Nat → Nat} {ln : Nat → Nat} (hn : n ≤ 24) (ht : ws_tb n c ln a3 a4) (hi : ws_im m w b a6 a7)
    (h : post (nI (ws_cn (ws_M al m w b c) n))) : wpX_matching post (nI n, al, nI m, la, fo, a1, a2, a3, a4, a5, a6, a7, a8, a9, a10, a11, a12, a13, a14, a15) := by
  refine pk_loop (σ := Unit) (fun f i _ => wX_matching_4 post (nI n) al (nI m) la fo a1 a2 a3 a4 a5 a6 a7 a8 a9 a10 a11 a12 a13 a14 a15 f (nI (ws_cn (ws_M al m w b c) i)) (nI i)) (fun _ _ => True) n 0 () (by omega) trivial ?_ ?_
  · exact fun f _ _ => pk_le n n (fun _ => h) (fun z => absurd z (by omega))
  · intro f i _ hi' _ hw
    have hnext := hw () trivial
    have kf : ws_M al m w b c i = false → wX_matching_4 post (nI n) al (nI m) la fo a1 a2 a3 a4 a5 a6 a7 a8 a9 a10 a11 a12 a13 a14 a15 f (nI (ws_cn (ws_M al m w b c) i)) (nI (i + 1)) := by
      intro e
      have k := hnext
      try dsimp only at k
      rw [ws_cn_f e] at k
      exact k
    refine pk_le n i (fun z => absurd z (by omega)) (fun _ => ws_isLive hn (by omega) (fun _ hb => br_f (by decide) (ws_matches hn hi' ht hi ?_)) (fun hb => br_t rfl (nm_r (nI_add _ 0) (nm_r (nI_1 i) (kf ?_)))))
    · cases hM : ws_mt m w b c i
      · exact br_t rfl (nm_r (nI_add _ 0) (nm_r (nI_1 i) (kf (by unfold ws_M; rw [hM]; simp))))
      · refine br_f (by decide) (nm_r (nI_1 _) (nm_r (nI_1 i) ?_))
        have e : ws_M al m w b c i = true := by unfold ws_M; rw [hM, hb]; rfl
        have k := hnext
        try dsimp only at k
        rw [ws_cn_t e] at k
        exact k
    · unfold ws_M
      cases hb2 : ws_bt al i
      · rfl
      · exact absurd ⟨hi', hb2⟩ hb
end
end
section
/-! ===== lists: rows without the program ===== -/
theorem ws_hp_pg {n : Nat} {al : Int32} {g : Nat → Bool} {c : Nat → Nat → Nat} (hg : ∀ d, d < n → ws_bt al d = true → g d = true) {t d : Nat} (hd : d < n) (h : ws_hp al c t d = true) : ws_pg g c t d = true := by
  unfold ws_hp at h
  unfold ws_pg
  have k := Bool.and_eq_true_iff.mp h
  rw [hg d hd k.1, k.2]
  rfl
theorem ws_pg_hp {al : Int32} {g : Nat → Bool} {c : Nat → Nat → Nat} {t d : Nat} (h : ws_pg g c t d = true) : ws_hp al c t d = ws_bt al d ∧ 0 < c d t ∧ g d = true := by
  unfold ws_pg at h
  have k := Bool.and_eq_true_iff.mp h
  have k2 := of_decide_eq_true k.2
  refine ⟨?_, k2, k.1⟩
  unfold ws_hp
  rw [k.2]
  simp
theorem ws_npg_nhp {n : Nat} {al : Int32} {g : Nat → Bool} {c : Nat → Nat → Nat} (hg : ∀ d, d < n → ws_bt al d = true → g d = true) {t d : Nat} (hd : d < n) (h : ws_pg g c t d = false) : ws_hp al c t d = false := by
  cases e : ws_hp al c t d
  · rfl
  · rw [ws_hp_pg hg hd e] at h
    exact absurd h (by decide)
theorem ws_li_skip {g : Nat → Bool} {c : Nat → Nat → Nat} {t m : Nat} {a1 a2 : Nat → Int32} (h : ws_li g c t m a1 a2) (hp : ws_pg g c t m = false) : ws_li g c t (m + 1) a1 a2 := by
  refine ⟨by rw [ws_cn_f hp]; exact h.1, fun d hd hpd => ?_⟩
  by_cases e : d = m
  · rw [e, hp] at hpd
    exact absurd hpd (by decide)
  · exact h.2 d (by omega) hpd
theorem ws_li_keep {g : Nat → Bool} {c : Nat → Nat → Nat} {t m : Nat} {a1 a2 b1 b2 : Nat → Int32} (h : ws_li g c t m a1 a2) (hm : m ≤ 24) (h1 : ∀ j, 48 * t ≤ j → j < 48 * t + 48 → b1 j = a1 j) (h2 : b2 t = a2 t) : ws_li g c t m b1 b2 := by
  refine ⟨h2.trans h.1, fun d hd hpd => ?_⟩
  have k := ws_cn_le (ws_pg g c t) d
  rw [h1 _ (by omega) (by omega), h1 _ (by omega) (by omega)]
  exact h.2 d hd hpd
theorem ws_li_congr {g g' : Nat → Bool} {c c' : Nat → Nat → Nat} {t m : Nat} {a1 a2 : Nat → Int32} (hp : ∀ d, d < m → ws_pg g c t d = ws_pg g' c' t d) (hc : ∀ d, d < m → c d t = c' d t) (h : ws_li g c t m a1 a2) : ws_li g' c' t m a1 a2 := by
  refine ⟨by rw [← ws_cn_congr m hp]; exact h.1, fun d hd hpd => ?_⟩
  rw [← ws_cn_congr d (fun x hx => hp x (by omega)), ← ws_q_congr d (fun x hx => hp x (by omega)), ← hc d hd]
  exact h.2 d hd (by rw [hp d hd]; exact hpd)
theorem ws_li_add {g : Nat → Bool} {c : Nat → Nat → Nat} {t m : Nat} {a1 a2 b1 b2 : Nat → Int32} (h : ws_li g c t m a1 a2) (hp : ws_pg g c t m = true)
    (h1 : ∀ j, j < 48 * t + 2 * ws_cn (ws_pg g c t) m → b1 j = a1 j) (hg : b1 (48 * t + 2 * ws_cn (ws_pg g c t) m) = nI (m + 1 - ws_q (ws_pg g c t) m)) (hc : b1 (48 * t + 2 * ws_cn (ws_pg g c t) m + 1) = nI (c m t)) (h2 : b2 t = nI (2 * (ws_cn (ws_pg g c t) m + 1))) : ws_li g c t (m + 1) b1 b2 := by
  refine ⟨by rw [ws_cn_t hp]; exact h2, fun d hd hpd => ?_⟩
  by_cases e : d = m
  · rw [e]
    exact ⟨hg, hc⟩
  · have k := ws_cn_lt (show d < m by omega) hpd
    rw [h1 _ (by omega), h1 _ (by omega)]
    exact h.2 d (by omega) hpd
def ws_str (k len : Nat) : Nat := if k = 0 then 0 else 256 * k / (k + 2 + len / 4)
theorem ws_str_le (k len : Nat) : ws_str k len ≤ 256 := by
  unfold ws_str
  split
  · omega
  · exact Nat.div_le_of_le_mul (by rw [Nat.mul_comm 256 k]; exact Nat.mul_le_mul_right 256 (by omega))
theorem ws_m1 : (-1 : Int32) = nI 0 - 1 := by decide
section
variable {ad al it la fo : Int32} {a1 a2 a3 a4 a5 a6 a7 a8 a9 a10 a11 a12 a13 a14 a15 : Nat → Int32} {post : Int32 → Prop}
theorem ws_lastOf {g : Nat → Bool} {c : Nat → Nat → Nat} {t m : Nat} (ht : t < 8) (hm : m ≤ 24) (hl : ws_li g c t m a1 a2) (h : post (nI (ws_q (ws_pg g c t) m) - 1)) : wpX_lastOf post (ad, al, it, la, fo, a1, a2, a3, a4, a5, a6, a7, a8, a9, a10, a11, a12, a13, a14, a15) (nI t) := by
  refine ws_walk (fun f k s => wX_lastOf_4 post (nI t) ad al it la fo a1 a2 a3 a4 a5 a6 a7 a8 a9 a10 a11 a12 a13 a14 a15 f s (nI (2 * k))) (ws_pg g c t) m (fun d s => s = nI (ws_q (ws_pg g c t) d) - 1) (-1) ws_m1 ?_ ?_ ?_
  · intro d s hd hp hI
    rw [ws_q_f hp]
    exact hI
  · intro f s hI
    have k := ws_cn_le (ws_pg g c t) m
    refine ⟨pk_in t 8 ht, pk_le (2 * ws_cn (ws_pg g c t) m) (2 * ws_cn (ws_pg g c t) m) (fun _ => ?_) (fun z => absurd z (by omega)) (by rw [nI_clamp (by omega)]; exact hl.1)⟩
    rw [hI]
    exact h
  · intro f d s hd hp hI hw
    have k := ws_cn_le (ws_pg g c t) m
    have k1 := ws_cn_lt hd hp
    have k2 := ws_q_le (ws_pg g c t) d
    have e1 : 48 * nI t + nI (2 * ws_cn (ws_pg g c t) d) = nI (48 * t + 2 * ws_cn (ws_pg g c t) d) := ws_ix 48 t _
    refine ⟨pk_in t 8 ht, pk_le (2 * ws_cn (ws_pg g c t) m) (2 * ws_cn (ws_pg g c t) d) (fun z => absurd z (by omega)) (fun _ => ⟨pk_in (48 * t + 2 * ws_cn (ws_pg g c t) d) 384 (by omega) e1, nm_r (e' := nI d) ?_ (nm_r (ws_p2 _) (hw _ ?_))⟩) (by rw [nI_clamp (by omega)]; exact hl.1)⟩
    · rw [e1, nI_clamp (by omega), (hl.2 d hd hp).1, hI]
      exact ws_run (by omega)
    · rw [ws_q_t hp]
      exact (ws_n1 d).symm
theorem ws_spreadOf {n : Nat} {g : Nat → Bool} {c : Nat → Nat → Nat} {t : Nat} (ht : t < 8) (hn : n ≤ 24) (hl : ws_ls n al g c a1 a2) (h : post (nI (ws_cn (ws_hp al c t) n))) : wpX_spreadOf post (ad, al, it, la, fo, a1, a2, a3, a4, a5, a6, a7, a8, a9, a10, a11, a12, a13, a14, a15) (nI t) := by
  obtain ⟨hl, hg⟩ := hl
  have hl := hl t ht
  refine ws_walk (σ := Int32 × Int32) (fun f k s => wX_spreadOf_7 post (nI t) ad al it la fo a1 a2 a3 a4 a5 a6 a7 a8 a9 a10 a11 a12 a13 a14 a15 f s.1 s.2 (nI (2 * k))) (ws_pg g c t) n (fun d s => s.1 = nI (ws_q (ws_pg g c t) d) - 1 ∧ s.2 = nI (ws_cn (ws_hp al c t) d)) (-1, 0) ⟨ws_m1, rfl⟩ ?_ ?_ ?_
  · intro d s hd hp hI
    rw [ws_q_f hp, ws_cn_f (ws_npg_nhp hg hd hp)]
    exact hI
  · intro f s hI
    have k := ws_cn_le (ws_pg g c t) n
    refine ⟨pk_in t 8 ht, pk_le (2 * ws_cn (ws_pg g c t) n) (2 * ws_cn (ws_pg g c t) n) (fun _ => ?_) (fun z => absurd z (by omega)) (by rw [nI_clamp (by omega)]; exact hl.1)⟩
    rw [hI.2]
    exact h
  · intro f d s hd hp hI hw
    have k := ws_cn_le (ws_pg g c t) n
    have k1 := ws_cn_lt hd hp
    have k2 := ws_q_le (ws_pg g c t) d
    have e1 : 48 * nI t + nI (2 * ws_cn (ws_pg g c t) d) = nI (48 * t + 2 * ws_cn (ws_pg g c t) d) := ws_ix 48 t _
    refine ⟨pk_in t 8 ht, pk_le (2 * ws_cn (ws_pg g c t) n) (2 * ws_cn (ws_pg g c t) d) (fun z => absurd z (by omega)) (fun _ => ⟨pk_in (48 * t + 2 * ws_cn (ws_pg g c t) d) 384 (by omega) e1, nm_r (e' := nI d) ?_ (nm_r (e' := nI (ws_cn (ws_hp al c t) (d + 1))) ?_ (nm_r (ws_p2 _) (hw (nI d, nI (ws_cn (ws_hp al c t) (d + 1))) ⟨?_, rfl⟩)))⟩) (by rw [nI_clamp (by omega)]; exact hl.1)⟩
    · rw [e1, nI_clamp (by omega), (hl.2 d hd hp).1, hI.1]
      exact ws_run (by omega)
    · rw [ws_lv al (by omega), hI.2, nI_add]
      show _ = nI (ws_cn (ws_hp al c t) d + (if ws_hp al c t d = true then 1 else 0))
      rw [(ws_pg_hp (al := al) hp).1]
    · rw [ws_q_t hp]
      exact (ws_n1 d).symm
theorem ws_strength {k len : Nat} (hk : k < 1000) (hl : len < 1000) (h : post (nI (ws_str k len))) : wpX_strength post () (nI k) (nI len) := by
  refine pk_lt 0 k (fun z => ?_) (fun z => ?_)
  · have e1 : nI k + 2 + nI len / 4 = nI (k + 2 + len / 4) := by
      rw [show (4 : Int32) = nI 4 from rfl, show (2 : Int32) = nI 2 from rfl, pk_div (by omega) (by omega) (by omega), nI_add, nI_add]
    have e2 : 256 * nI k = nI (256 * k) := pk_mul 256 k
    have e3 : 256 * nI k / (nI k + 2 + nI len / 4) = nI (ws_str k len) := by
      rw [e1, e2, pk_div (by omega) (by omega) (by omega)]
      unfold ws_str
      rw [if_neg (by omega)]
    refine ⟨by decide, ?_, ?_⟩
    · rw [e1]
      exact nI_ne0 (by omega) (by omega)
    · rw [e3]
      exact h
  · have e : k = 0 := by omega
    subst e
    exact h
theorem ws_greatest {n : Nat} {g : Nat → Bool} {c : Nat → Nat → Nat} {ln : Nat → Nat} {t : Nat} (ht : t < 8) (hn : n ≤ 24) (hl : ws_ls n al g c a1 a2) (hb : ws_tb n c ln a3 a4)
    (h : ∀ G, G ≤ 256 → (∀ d, d < n → ws_hp al c t d = true → ws_str (c d t) (ln d) ≤ G) → post (nI G)) : wpX_greatest post (ad, al, it, la, fo, a1, a2, a3, a4, a5, a6, a7, a8, a9, a10, a11, a12, a13, a14, a15) (nI t) := by
  obtain ⟨hl, hg⟩ := hl
  have hl := hl t ht
  refine ws_walk (σ := Int32 × Int32) (fun f k s => wX_greatest_7 post (nI t) ad al it la fo a1 a2 a3 a4 a5 a6 a7 a8 a9 a10 a11 a12 a13 a14 a15 f s.1 s.2 (nI (2 * k))) (ws_pg g c t) n (fun d s => s.1 = nI (ws_q (ws_pg g c t) d) - 1 ∧ ∃ G, s.2 = nI G ∧ G ≤ 256 ∧ ∀ e, e < d → ws_pg g c t e = true → ws_str (c e t) (ln e) ≤ G) (-1, 0) ⟨ws_m1, 0, rfl, by omega, fun e he => absurd he (by omega)⟩ ?_ ?_ ?_
  · intro d s hd hp hI
    rw [ws_q_f hp]
    obtain ⟨h1, G, h2, h3, h4⟩ := hI
    refine ⟨h1, G, h2, h3, fun e he hpe => ?_⟩
    by_cases ee : e = d
    · rw [ee, hp] at hpe
      exact absurd hpe (by decide)
    · exact h4 e (by omega) hpe
  · intro f s hI
    obtain ⟨h1, G, h2, h3, h4⟩ := hI
    have k := ws_cn_le (ws_pg g c t) n
    refine ⟨pk_in t 8 ht, pk_le (2 * ws_cn (ws_pg g c t) n) (2 * ws_cn (ws_pg g c t) n) (fun _ => ?_) (fun z => absurd z (by omega)) (by rw [nI_clamp (by omega)]; exact hl.1)⟩
    rw [h2]
    exact h G h3 (fun d hd hp => h4 d hd (ws_hp_pg hg hd hp))
  · intro f d s hd hp hI hw
    obtain ⟨h1, G, h2, h3, h4⟩ := hI
    have k := ws_cn_le (ws_pg g c t) n
    have k1 := ws_cn_lt hd hp
    have k2 := ws_q_le (ws_pg g c t) d
    have hc := (hb.1 d hd t ht).2
    have hln := hb.2 d hd
    have e1 : 48 * nI t + nI (2 * ws_cn (ws_pg g c t) d) = nI (48 * t + 2 * ws_cn (ws_pg g c t) d) := ws_ix 48 t _
    have e2 : 48 * nI t + nI (2 * ws_cn (ws_pg g c t) d) + 1 = nI (48 * t + 2 * ws_cn (ws_pg g c t) d + 1) := ws_ix1 48 t _
    have e3 : a1 (48 * nI t + nI (2 * ws_cn (ws_pg g c t) d) + 1).toNatClampNeg = nI (c d t) := by rw [e2, nI_clamp (by omega), (hl.2 d hd hp).2]
    have e4 : a4 (nI d).toNatClampNeg = nI (ln d) := by rw [nI_clamp (by omega), hln.1]
    refine ⟨pk_in t 8 ht, pk_le (2 * ws_cn (ws_pg g c t) n) (2 * ws_cn (ws_pg g c t) d) (fun z => absurd z (by omega)) (fun _ => ⟨pk_in (48 * t + 2 * ws_cn (ws_pg g c t) d) 384 (by omega) e1, nm_r (e' := nI d) ?_ ⟨pk_in (48 * t + 2 * ws_cn (ws_pg g c t) d + 1) 384 (by omega) e2, pk_in d 24 (by omega), ?_⟩⟩) (by rw [nI_clamp (by omega)]; exact hl.1)⟩
    · rw [e1, nI_clamp (by omega), (hl.2 d hd hp).1, h1]
      exact ws_run (by omega)
    · rw [e3, e4]
      have hs := ws_str_le (c d t) (ln d)
      have hq : nI d = nI (ws_q (ws_pg g c t) (d + 1)) - 1 := by rw [ws_q_t hp]; exact (ws_n1 d).symm
      refine ws_strength (by omega) (by omega) (pk_le (ws_str (c d t) (ln d)) G (fun z => nm_r (ws_p2 _) (hw (nI d, s.2) ⟨hq, G, h2, h3, ?_⟩)) (fun z => nm_r (ws_p2 _) (hw (nI d, nI (ws_str (c d t) (ln d))) ⟨hq, _, rfl, hs, ?_⟩)) rfl h2)
      · intro e he hpe
        by_cases ee : e = d
        · rw [ee]; exact z
        · exact h4 e (by omega) hpe
      · intro e he hpe
        by_cases ee : e = d
        · rw [ee]; exact Nat.le_refl _
        · have k9 := h4 e (by omega) hpe
          omega
end
section
variable {ad al it la fo : Int32} {a1 a2 a3 a4 a5 a6 a7 a8 a9 a10 a11 a12 a13 a14 a15 : Nat → Int32} {post : St1 → Prop}
/-- index: the lists grow by document d -/
theorem ws_index {g : Nat → Bool} {c : Nat → Nat → Nat} {d : Nat} (hd : d < 24) (hr : ∀ t, t < 8 → a3 (8 * d + t) = nI (c d t) ∧ c d t ≤ 7) (hg : g d = true) (hl : ∀ t, t < 8 → ws_li g c t d a1 a2)
    (H : ∀ b1 b2, (∀ t, t < 8 → ws_li g c t (d + 1) b1 b2) → post (ad, al, it, la, fo, b1, b2, a3, a4, a5, a6, a7, a8, a9, a10, a11, a12, a13, a14, a15)) : wpX_index post (ad, al, it, la, fo, a1, a2, a3, a4, a5, a6, a7, a8, a9, a10, a11, a12, a13, a14, a15) (nI d) := by
  refine pk_loop (σ := (Nat → Int32) × (Nat → Int32)) (fun f i s => wX_index_2 post (nI d) ad al it la fo f (nI i) s.1 s.2 a3 a4 a5 a6 a7 a8 a9 a10 a11 a12 a13 a14 a15) (fun i s => (∀ t, t < i → t < 8 → ws_li g c t (d + 1) s.1 s.2) ∧ (∀ t, i ≤ t → t < 8 → ws_li g c t d s.1 s.2)) 8 0 (a1, a2) (by omega) ⟨fun t h => absurd h (by omega), fun t _ h => hl t h⟩ ?_ ?_
  · exact fun f s hI => pk_le 8 8 (fun _ => H s.1 s.2 (fun t ht => hI.1 t ht ht)) (fun z => absurd z (by omega))
  · intro f i s hi hI hw
    obtain ⟨b1, b2⟩ := s
    obtain ⟨hI1, hI2⟩ := hI
    dsimp only at hI1 hI2 hw ⊢
    have hli := hI2 i (Nat.le_refl _) hi
    have e1 : 8 * nI d + nI i = nI (8 * d + i) := ws_ix 8 d i
    have e2 : a3 (8 * nI d + nI i).toNatClampNeg = nI (c d i) := by rw [e1, nI_clamp (by omega), (hr i hi).1]
    have hc7 := (hr i hi).2
    have kcn := ws_cn_le (ws_pg g c i) d
    have kq := ws_q_le (ws_pg g c i) d
    refine pk_le 8 i (fun z => absurd z (by omega)) (fun _ => ⟨pk_in (8 * d + i) 192 (by omega) e1, pk_le (c d i) 0 (fun z => nm_r (nI_1 i) (hw (b1, b2) ⟨?_, ?_⟩)) (fun z => ⟨pk_in i 8 hi, nm_r (e' := nI (48 * i + 2 * ws_cn (ws_pg g c i) d)) ?_ (ws_lastOf hi (by omega) hli ?_)⟩) e2⟩)
    · intro t ht ht8
      by_cases e : t = i
      · rw [e]
        refine ws_li_skip hli ?_
        unfold ws_pg
        rw [decide_eq_false (by omega)]
        simp
      · exact hI1 t (by omega) ht8
    · exact fun t ht ht8 => hI2 t (by omega) ht8
    · rw [nI_clamp (by omega), hli.1]
      exact ws_ix 48 i _
    · have hp : ws_pg g c i d = true := by
        unfold ws_pg
        rw [hg, decide_eq_true (by omega)]
        rfl
      have e3 : (nI d - (nI (ws_q (ws_pg g c i) d) - 1)).toInt8.toInt32 = nI (d + 1 - ws_q (ws_pg g c i) d) := by
        rw [ws_gap (by omega)]
        exact ws_i8 _ (by omega)
      have e4 : (a3 (8 * nI d + nI i).toNatClampNeg).toInt8.toInt32 = nI (c d i) := by
        rw [e2]
        exact ws_i8 _ (by omega)
      have e5 : b2 (nI i).toNatClampNeg + 2 = nI (2 * (ws_cn (ws_pg g c i) d + 1)) := by
        rw [nI_clamp (by omega), hli.1]
        exact ws_p2 _
      refine ⟨pk_in (48 * i + 2 * ws_cn (ws_pg g c i) d) 384 (by omega), nm_r (e' := upd b1 (48 * i + 2 * ws_cn (ws_pg g c i) d) (nI (d + 1 - ws_q (ws_pg g c i) d))) ?_ ⟨pk_in (8 * d + i) 192 (by omega) e1, pk_in (48 * i + 2 * ws_cn (ws_pg g c i) d + 1) 384 (by omega) (nI_1 _), nm_r (e' := upd (upd b1 (48 * i + 2 * ws_cn (ws_pg g c i) d) (nI (d + 1 - ws_q (ws_pg g c i) d))) (48 * i + 2 * ws_cn (ws_pg g c i) d + 1) (nI (c d i))) ?_ ⟨pk_in i 8 hi, pk_in i 8 hi, nm_r (e' := upd b2 i (nI (2 * (ws_cn (ws_pg g c i) d + 1)))) ?_ (nm_r (nI_1 i) (hw (upd (upd b1 (48 * i + 2 * ws_cn (ws_pg g c i) d) (nI (d + 1 - ws_q (ws_pg g c i) d))) (48 * i + 2 * ws_cn (ws_pg g c i) d + 1) (nI (c d i)), upd b2 i (nI (2 * (ws_cn (ws_pg g c i) d + 1)))) ⟨?_, ?_⟩))⟩⟩⟩
      · rw [nI_clamp (by omega), e3]
      · rw [nI_1, nI_clamp (by omega), e4]
      · rw [e5, nI_clamp (by omega)]
      · intro t ht ht8
        try dsimp only
        by_cases e : t = i
        · subst e
          refine ws_li_add hli hp (fun j hj => ?_) ?_ ?_ pk_us
          · rw [pk_un (by omega), pk_un (by omega)]
          · rw [pk_un (by omega), pk_us]
          · rw [pk_us]
        · refine ws_li_keep (hI1 t (by omega) ht8) (by omega) (fun j hj hj2 => ?_) (pk_un e)
          rw [pk_un (by omega), pk_un (by omega)]
      · intro t ht ht8
        try dsimp only
        refine ws_li_keep (hI2 t (by omega) ht8) (by omega) (fun j hj hj2 => ?_) (pk_un (by omega))
        rw [pk_un (by omega), pk_un (by omega)]
end
end
section
/-! ===== the whole picture ===== -/
def ws_K (n : Nat) (al : Int32) (g : Nat → Bool) (c : Nat → Nat → Nat) (ln dr : Nat → Nat) (m : Nat) (w b : Nat → Nat) (a1 a2 a3 a4 a5 a6 a7 : Nat → Int32) : Prop :=
  n ≤ 24 ∧ ws_tb n c ln a3 a4 ∧ ws_dr dr a5 ∧ ws_im m w b a6 a7 ∧ ws_ls n al g c a1 a2
def ws_V (u : St1) : Prop := match u with
  | (ad, al, it, la, fo, a1, a2, a3, a4, a5, a6, a7, a8, a9, a10, a11, a12, a13, a14, a15) => ∃ (n m : Nat) (g : Nat → Bool) (c : Nat → Nat → Nat) (ln dr w b : Nat → Nat), ad = nI n ∧ it = nI m ∧ ws_K n al g c ln dr m w b a1 a2 a3 a4 a5 a6 a7
section
variable {ad al it la fo : Int32} {a1 a2 a3 a4 a5 a6 a7 a8 a9 a10 a11 a12 a13 a14 a15 : Nat → Int32} {n m : Nat} {g : Nat → Bool} {c : Nat → Nat → Nat} {ln dr w b : Nat → Nat}
theorem ws_V_mk (h : ws_K n al g c ln dr m w b a1 a2 a3 a4 a5 a6 a7) : ws_V (nI n, al, nI m, la, fo, a1, a2, a3, a4, a5, a6, a7, a8, a9, a10, a11, a12, a13, a14, a15) :=
  Exists.intro n (Exists.intro m (Exists.intro g (Exists.intro c (Exists.intro ln (Exists.intro dr (Exists.intro w (Exists.intro b ⟨rfl, rfl, h⟩)))))))
theorem ws_V_of (h : ws_V (ad, al, it, la, fo, a1, a2, a3, a4, a5, a6, a7, a8, a9, a10, a11, a12, a13, a14, a15)) : ∃ (n m : Nat) (g : Nat → Bool) (c : Nat → Nat → Nat) (ln dr w b : Nat → Nat), ad = nI n ∧ it = nI m ∧ ws_K n al g c ln dr m w b a1 a2 a3 a4 a5 a6 a7 := h
variable {post : Int32 → St1 → Prop}
theorem ws_write {x y : Nat} (hx : x < 8) (hy : y < 8) (hV : ws_V (ad, al, it, la, fo, a1, a2, a3, a4, a5, a6, a7, a8, a9, a10, a11, a12, a13, a14, a15)) (H : ∀ r (ad al it la fo : Int32) (a1 a2 a3 a4 a5 a6 a7 a8 a9 a10 a11 a12 a13 a14 a15 : Nat → Int32), ws_V (ad, al, it, la, fo, a1, a2, a3, a4, a5, a6, a7, a8, a9, a10, a11, a12, a13, a14, a15) → post r (ad, al, it, la, fo, a1, a2, a3, a4, a5, a6, a7, a8, a9, a10, a11, a12, a13, a14, a15)) : wpX_write post (ad, al, it, la, fo, a1, a2, a3, a4, a5, a6, a7, a8, a9, a10, a11, a12, a13, a14, a15) (nI x) (nI y) := by
  obtain ⟨n, m, g, c, ln, dr, w, b, e1, e2, hn, h1, h2, h3, h4⟩ := ws_V_of hV
  subst e1 e2
  unfold wpX_write
  try dsimp only
  refine ws_isWord hx (br_f (by decide) (br_f (nI_pos (by omega)) (pk_le y 7 (fun _ => ⟨pk_in x 8 hx, nm_r (e' := upd a5 x (nI y)) (by rw [nI_clamp (by omega)]) ?_⟩) (fun z => absurd z (by omega)))))
  have hd : ws_dr (fun t => if t = x then y else dr t) (upd a5 x (nI y)) := by
    intro t ht
    try dsimp only
    by_cases e : t = x
    · rw [e, pk_us, if_pos rfl]
      exact ⟨rfl, by omega⟩
    · rw [pk_un e, if_neg e]
      exact h2 t ht
  exact ws_draftLength hd (H _ _ _ _ _ _ _ _ _ _ _ _ _ _ _ _ _ _ _ _ _ (ws_V_mk ⟨hn, h1, hd, h3, h4⟩))
theorem ws_blank (hV : ws_V (ad, al, it, la, fo, a1, a2, a3, a4, a5, a6, a7, a8, a9, a10, a11, a12, a13, a14, a15)) (H : ∀ r (ad al it la fo : Int32) (a1 a2 a3 a4 a5 a6 a7 a8 a9 a10 a11 a12 a13 a14 a15 : Nat → Int32), ws_V (ad, al, it, la, fo, a1, a2, a3, a4, a5, a6, a7, a8, a9, a10, a11, a12, a13, a14, a15) → post r (ad, al, it, la, fo, a1, a2, a3, a4, a5, a6, a7, a8, a9, a10, a11, a12, a13, a14, a15)) : wpX_blank post (ad, al, it, la, fo, a1, a2, a3, a4, a5, a6, a7, a8, a9, a10, a11, a12, a13, a14, a15) := by
  obtain ⟨n, m, g, c, ln, dr, w, b, e1, e2, hn, h1, h2, h3, h4⟩ := ws_V_of hV
  subst e1 e2
  unfold wpX_blank
  try dsimp only
  refine ws_draftLength h2 ?_
  refine pk_loop (σ := Nat → Int32) (fun f i s => wX_blank_7 post (nI (ws_sm dr 8)) (nI n) al (nI m) la fo f (nI i) a1 a2 a3 a4 s a6 a7 a8 a9 a10 a11 a12 a13 a14 a15) (fun i s => ∃ dr', ws_dr dr' s) 8 0 a5 (by omega) ⟨dr, h2⟩ ?_ ?_
  · intro f s hI
    obtain ⟨dr', hd⟩ := hI
    exact pk_le 8 8 (fun _ => H _ _ _ _ _ _ _ _ _ _ _ _ _ _ _ _ _ _ _ _ _ (ws_V_mk ⟨hn, h1, hd, h3, h4⟩)) (fun z => absurd z (by omega))
  · intro f i s hi hI hw
    obtain ⟨dr', hd⟩ := hI
    refine pk_le 8 i (fun z => absurd z (by omega)) (fun _ => ⟨pk_in i 8 hi, nm_r (e' := upd s i (nI 0)) (by rw [nI_clamp (by omega)]; rfl) (nm_r (nI_1 i) (hw _ ⟨fun t => if t = i then 0 else dr' t, ?_⟩))⟩)
    intro t ht
    try dsimp only
    by_cases e : t = i
    · rw [e, pk_us, if_pos rfl]
      exact ⟨rfl, by omega⟩
    · rw [pk_un e, if_neg e]
      exact hd t ht
theorem ws_delete {d : Nat} (hd : d < 24) (hV : ws_V (ad, al, it, la, fo, a1, a2, a3, a4, a5, a6, a7, a8, a9, a10, a11, a12, a13, a14, a15)) (H : ∀ r (ad al it la fo : Int32) (a1 a2 a3 a4 a5 a6 a7 a8 a9 a10 a11 a12 a13 a14 a15 : Nat → Int32), ws_V (ad, al, it, la, fo, a1, a2, a3, a4, a5, a6, a7, a8, a9, a10, a11, a12, a13, a14, a15) → post r (ad, al, it, la, fo, a1, a2, a3, a4, a5, a6, a7, a8, a9, a10, a11, a12, a13, a14, a15)) : wpX_delete post (ad, al, it, la, fo, a1, a2, a3, a4, a5, a6, a7, a8, a9, a10, a11, a12, a13, a14, a15) (nI d) := by
  obtain ⟨n, m, g, c, ln, dr, w, b, e1, e2, hn, h1, h2, h3, h4⟩ := ws_V_of hV
  subst e1 e2
  unfold wpX_delete
  try dsimp only
  refine ws_isLive hn (by omega) (fun _ _ => br_f (by decide) (nm_e (ws_liveCount hn (H _ _ _ _ _ _ _ _ _ _ _ _ _ _ _ _ _ _ _ _ _ (ws_V_mk ⟨hn, h1, h2, h3, h4.1, fun e he hb => h4.2 e he (ws_lvAnd hb)⟩))))) (fun _ => br_t rfl (H _ _ _ _ _ _ _ _ _ _ _ _ _ _ _ _ _ _ _ _ _ hV))
theorem ws_item {x y : Nat} (hx : x < 8) (hy : y < 20) (hV : ws_V (ad, al, it, la, fo, a1, a2, a3, a4, a5, a6, a7, a8, a9, a10, a11, a12, a13, a14, a15)) (H : ∀ r (ad al it la fo : Int32) (a1 a2 a3 a4 a5 a6 a7 a8 a9 a10 a11 a12 a13 a14 a15 : Nat → Int32), ws_V (ad, al, it, la, fo, a1, a2, a3, a4, a5, a6, a7, a8, a9, a10, a11, a12, a13, a14, a15) → post r (ad, al, it, la, fo, a1, a2, a3, a4, a5, a6, a7, a8, a9, a10, a11, a12, a13, a14, a15)) : wpX_item post (ad, al, it, la, fo, a1, a2, a3, a4, a5, a6, a7, a8, a9, a10, a11, a12, a13, a14, a15) (nI x) (nI y) := by
  obtain ⟨n, m, g, c, ln, dr, w, b, e1, e2, hn, h1, h2, h3, h4⟩ := ws_V_of hV
  subst e1 e2
  have key : ∀ m' k, m' ≤ 5 → k < m' → m ≤ m' → m' ≤ m + 1 → (m < m' → k = m) → wX_item_64 post (nI x) (nI y) (nI k) (nI n) al (nI m') la fo a1 a2 a3 a4 a5 a6 a7 a8 a9 a10 a11 a12 a13 a14 a15 := by
    intro m' k hm' hk h5 h6 h7
    refine ⟨pk_in k 5 (by omega), nm_r (e' := upd a6 k (nI x)) (by rw [nI_clamp (by omega)]) ⟨pk_in k 5 (by omega), nm_r (e' := upd a7 k (nI y)) (by rw [nI_clamp (by omega)]) (H _ _ _ _ _ _ _ _ _ _ _ _ _ _ _ _ _ _ _ _ _ (ws_V_mk (m := m') (w := fun j => if j = k then x else w j) (b := fun j => if j = k then y else b j) ⟨hn, h1, h2, ⟨hm', ?_⟩, h4⟩))⟩⟩
    intro j hj
    try dsimp only
    by_cases e : j = k
    · rw [e, pk_us, pk_us, if_pos rfl, if_pos rfl]
      exact ⟨rfl, hx, rfl, by omega⟩
    · rw [pk_un e, pk_un e, if_neg e, if_neg e]
      refine h3.2 j ?_
      by_cases q : m < m'
      · have := h7 q
        omega
      · omega
  unfold wpX_item
  try dsimp only
  refine ws_isWord hx (br_f (by decide) (br_f (nI_pos (by omega)) (pk_lt 19 y (fun z => absurd z (by omega)) (fun _ => br_c (fun _ => H _ _ _ _ _ _ _ _ _ _ _ _ _ _ _ _ _ _ _ _ _ hV) (fun _ => ws_place h3.1 ?_ ?_)))))
  · intro k hk
    exact br_t (nI_pos' (by have := h3.1; omega)) (key m k h3.1 hk (Nat.le_refl _) (by omega) (fun z => absurd z (by omega)))
  · refine br_f (by decide) (pk_eq m 5 (fun _ => H _ _ _ _ _ _ _ _ _ _ _ _ _ _ _ _ _ _ _ _ _ hV) (fun z => nm_r (nI_1 m) ?_) rfl rfl (by have := h3.1; omega))
    exact key (m + 1) m (by have := h3.1; omega) (by omega) (by omega) (by omega) (fun _ => rfl)
theorem ws_drop {x : Int32} (hV : ws_V (ad, al, it, la, fo, a1, a2, a3, a4, a5, a6, a7, a8, a9, a10, a11, a12, a13, a14, a15)) (H : ∀ r (ad al it la fo : Int32) (a1 a2 a3 a4 a5 a6 a7 a8 a9 a10 a11 a12 a13 a14 a15 : Nat → Int32), ws_V (ad, al, it, la, fo, a1, a2, a3, a4, a5, a6, a7, a8, a9, a10, a11, a12, a13, a14, a15) → post r (ad, al, it, la, fo, a1, a2, a3, a4, a5, a6, a7, a8, a9, a10, a11, a12, a13, a14, a15)) : wpX_drop post (ad, al, it, la, fo, a1, a2, a3, a4, a5, a6, a7, a8, a9, a10, a11, a12, a13, a14, a15) x := by
  obtain ⟨n, m, g, c, ln, dr, w, b, e1, e2, hn, h1, h2, h3, h4⟩ := ws_V_of hV
  subst e1 e2
  unfold wpX_drop
  try dsimp only
  have hm5 := h3.1
  refine ws_place h3.1 (fun k hk => br_t (nI_pos' (by omega)) (nm_r (nI_1 k) ?_)) (br_f (by decide) (H _ _ _ _ _ _ _ _ _ _ _ _ _ _ _ _ _ _ _ _ _ hV))
  refine pk_loop (σ := (Nat → Int32) × (Nat → Int32)) (fun f i s => wX_drop_16 post (nI n) al (nI m) la fo f (nI i) a1 a2 a3 a4 a5 s.1 s.2 a8 a9 a10 a11 a12 a13 a14 a15) (fun i s => 1 ≤ i ∧ ∃ w b, ws_im m w b s.1 s.2) m (k + 1) (a6, a7) (by omega) ⟨by omega, w, b, h3⟩ ?_ ?_
  · intro f s hI
    obtain ⟨_, w', b', hi⟩ := hI
    refine pk_le m m (fun _ => nm_r (e' := nI (m - 1)) (pk_sub (a := m) (b := 1) (by omega)) (H _ _ _ _ _ _ _ _ _ _ _ _ _ _ _ _ _ _ _ _ _ (ws_V_mk (m := m - 1) (w := w') (b := b') ⟨hn, h1, h2, ⟨by omega, fun j hj => hi.2 j (by omega)⟩, h4⟩))) (fun z => absurd z (by omega))
  · intro f i s hi hI hw
    obtain ⟨h0, w', b', hi'⟩ := hI
    obtain ⟨s6, s7⟩ := s
    dsimp only at hi' hw ⊢
    have e1 : nI i - 1 = nI (i - 1) := pk_sub (a := i) (b := 1) h0
    refine pk_le m i (fun z => absurd z (by omega)) (fun _ => ⟨pk_in i 5 (by omega), pk_in (i - 1) 5 (by omega) e1, nm_r (e' := upd s6 (i - 1) (s6 i)) (by rw [e1, nI_clamp (by omega), nI_clamp (by omega)]) ⟨pk_in i 5 (by omega), pk_in (i - 1) 5 (by omega) e1, nm_r (e' := upd s7 (i - 1) (s7 i)) (by rw [e1, nI_clamp (by omega), nI_clamp (by omega)]) (nm_r (nI_1 i) (hw (upd s6 (i - 1) (s6 i), upd s7 (i - 1) (s7 i)) ⟨by omega, fun j => if j = i - 1 then w' i else w' j, fun j => if j = i - 1 then b' i else b' j, hm5, ?_⟩))⟩⟩)
    intro j hj
    try dsimp only
    by_cases e : j = i - 1
    · rw [e, pk_us, pk_us, if_pos rfl, if_pos rfl]
      exact hi'.2 i hi
    · rw [pk_un e, pk_un e, if_neg e, if_neg e]
      exact hi'.2 j hj
end
/-! ===== a document comes in ===== -/
section
variable {ad al it la fo : Int32} {a1 a2 a3 a4 a5 a6 a7 a8 a9 a10 a11 a12 a13 a14 a15 : Nat → Int32} {n m : Nat} {g : Nat → Bool} {c : Nat → Nat → Nat} {ln dr w b : Nat → Nat}
theorem ws_index_add {post : St1 → Prop} {r : Nat → Nat} {s : Nat} {b3 b4 : Nat → Int32} (hK : ws_K n al g c ln dr m w b a1 a2 a3 a4 a5 a6 a7) (hn : n < 24)
    (h3 : ∀ d, d < n → ∀ t, t < 8 → b3 (8 * d + t) = a3 (8 * d + t)) (hr : ∀ t, t < 8 → b3 (8 * n + t) = nI (r t) ∧ r t ≤ 7) (h4 : ∀ d, d < n → b4 d = a4 d) (hs : b4 n = nI s ∧ s ≤ 56)
    (H : ∀ g c ln b1 b2, ws_K (n + 1) (al ||| ((1 : Int32) <<< (nI n &&& 31))) g c ln dr m w b b1 b2 b3 b4 a5 a6 a7 → post (nI n, al, nI m, la, fo, b1, b2, b3, b4, a5, a6, a7, a8, a9, a10, a11, a12, a13, a14, a15)) :
    wpX_index post (nI n, al, nI m, la, fo, a1, a2, b3, b4, a5, a6, a7, a8, a9, a10, a11, a12, a13, a14, a15) (nI n) := by
  obtain ⟨_, ht, hd, hi, hl, hg⟩ := hK
  have hcn : ∀ t, (fun (d t : Nat) => if d = n then r t else c d t) n t = r t := fun t => if_pos rfl
  refine ws_index (g := fun d => if d = n then true else g d) (c := fun d t => if d = n then r t else c d t) hn ?_ (if_pos rfl) ?_ ?_
  · intro t ht8
    try dsimp only
    rw [if_pos rfl]
    exact hr t ht8
  · intro t ht8
    refine ws_li_congr (g := g) (c := c) (fun d hd' => ?_) (fun d hd' => ?_) (hl t ht8)
    · unfold ws_pg
      simp only [if_neg (show ¬ d = n by omega)]
    · try dsimp only
      rw [if_neg (by omega)]
  · intro b1 b2 hli
    refine H (fun d => if d = n then true else g d) (fun d t => if d = n then r t else c d t) (fun d => if d = n then s else ln d) b1 b2 ⟨by omega, ⟨?_, ?_⟩, hd, hi, hli, ?_⟩
    · intro d hd' t ht8
      try dsimp only
      by_cases e : d = n
      · rw [e, if_pos rfl]
        exact hr t ht8
      · rw [if_neg e, h3 d (by omega) t ht8]
        exact ht.1 d (by omega) t ht8
    · intro d hd'
      try dsimp only
      by_cases e : d = n
      · rw [e, if_pos rfl]
        exact hs
      · rw [if_neg e, h4 d (by omega)]
        exact ht.2 d (by omega)
    · intro d hd' hb
      try dsimp only
      by_cases e : d = n
      · rw [if_pos e]
      · rw [if_neg e]
        refine hg d (by omega) ?_
        rw [ws_lvOr al (by omega) (by omega), decide_eq_false e, Bool.or_false] at hb
        exact hb
variable {post : Int32 → St1 → Prop}
theorem ws_add (hV : ws_V (ad, al, it, la, fo, a1, a2, a3, a4, a5, a6, a7, a8, a9, a10, a11, a12, a13, a14, a15)) (H : ∀ r (ad al it la fo : Int32) (a1 a2 a3 a4 a5 a6 a7 a8 a9 a10 a11 a12 a13 a14 a15 : Nat → Int32), ws_V (ad, al, it, la, fo, a1, a2, a3, a4, a5, a6, a7, a8, a9, a10, a11, a12, a13, a14, a15) → post r (ad, al, it, la, fo, a1, a2, a3, a4, a5, a6, a7, a8, a9, a10, a11, a12, a13, a14, a15)) : wpX_add post (ad, al, it, la, fo, a1, a2, a3, a4, a5, a6, a7, a8, a9, a10, a11, a12, a13, a14, a15) := by
  obtain ⟨n, m, g, c, ln, dr, w, b, e1, e2, hK⟩ := ws_V_of hV
  subst e1 e2
  have hn := hK.1
  have h2 := hK.2.2.1
  refine pk_eq n 24 (fun _ => H _ _ _ _ _ _ _ _ _ _ _ _ _ _ _ _ _ _ _ _ _ hV) (fun hne => ?_)
  refine pk_loop (σ := Nat → Int32) (fun f i s => wX_add_13 post (nI n) al (nI m) la fo f (nI i) a1 a2 s a4 a5 a6 a7 a8 a9 a10 a11 a12 a13 a14 a15) (fun i s => (∀ d, d < n → ∀ t, t < 8 → s (8 * d + t) = a3 (8 * d + t)) ∧ ∀ t, t < i → s (8 * n + t) = nI (dr t)) 8 0 a3 (by omega) ⟨fun d _ t _ => rfl, fun t h => absurd h (by omega)⟩ ?_ ?_
  · intro f s hI
    refine pk_le 8 8 (fun _ => ws_draftLength h2 ⟨pk_in n 24 (by omega), nm_r (e' := upd a4 n (nI (ws_sm dr 8))) (by rw [nI_clamp (by omega)]) (ws_index_add (r := dr) (s := ws_sm dr 8) hK (by omega) hI.1 (fun t ht => ⟨hI.2 t ht, (h2 t ht).2⟩) (fun d hd => pk_un (by omega)) ⟨pk_us, ws_sm_b (B := 7) 8 (fun t ht => (h2 t ht).2)⟩ ?_)⟩) (fun z => absurd z (by omega))
    intro g' c' ln' b1 b2 hK'
    exact nm_e (nm_r (nI_1 n) (H _ _ _ _ _ _ _ _ _ _ _ _ _ _ _ _ _ _ _ _ _ (ws_V_mk hK')))
  · intro f i s hi hI hw
    have e1 : 8 * nI n + nI i = nI (8 * n + i) := ws_ix 8 n i
    refine pk_le 8 i (fun z => absurd z (by omega)) (fun _ => ⟨pk_in i 8 hi, pk_in (8 * n + i) 192 (by omega) e1, nm_r (e' := upd s (8 * n + i) (nI (dr i))) (by rw [e1, nI_clamp (by omega), nI_clamp (by omega), (h2 i hi).1]) (nm_r (nI_1 i) (hw _ ⟨?_, ?_⟩))⟩)
    · intro d hd t ht
      rw [pk_un (by omega)]
      exact hI.1 d hd t ht
    · intro t ht
      by_cases e : t = i
      · rw [e, pk_us]
      · rw [pk_un (by omega)]
        exact hI.2 t (by omega)
def ws_rv (sd dn t : Nat) : Nat := (sd + 5 * dn + 3 * t + dn * t) % 11 - 3
theorem ws_rv_le (sd dn t : Nat) : ws_rv sd dn t ≤ 7 := by
  unfold ws_rv
  omega
theorem ws_am48 {J28 : Int32 → Int32 → Int32 → Int32 → Int32 → Int32 → (Nat → Int32) → (Nat → Int32) → (Nat → Int32) → (Nat → Int32) → (Nat → Int32) → (Nat → Int32) → (Nat → Int32) → (Nat → Int32) → (Nat → Int32) → (Nat → Int32) → (Nat → Int32) → (Nat → Int32) → (Nat → Int32) → (Nat → Int32) → (Nat → Int32) → Prop} {x2 : Int32} {sd dn : Nat}
    (hsd : sd ≤ 10) (hdn : dn ≤ 24) (hK : ws_K n al g c ln dr m w b a1 a2 a3 a4 a5 a6 a7) (hn : n < 24)
    (H : ∀ g c ln b1 b2 b3 b4, ws_K (n + 1) (al ||| ((1 : Int32) <<< (nI n &&& 31))) g c ln dr m w b b1 b2 b3 b4 a5 a6 a7 → J28 (nI (dn + 1)) (nI (n + 1)) (al ||| ((1 : Int32) <<< (nI n &&& 31))) (nI m) la fo b1 b2 b3 b4 a5 a6 a7 a8 a9 a10 a11 a12 a13 a14 a15) :
    ∃ f, wX_addMany_48 post J28 (nI sd) x2 (nI dn) (nI n) al (nI m) la fo f 0 0 a1 a2 a3 a4 a5 a6 a7 a8 a9 a10 a11 a12 a13 a14 a15 := by
  refine pk_loop (σ := Nat → Int32) (fun f i s => wX_addMany_48 post J28 (nI sd) x2 (nI dn) (nI n) al (nI m) la fo f (nI (ws_sm (ws_rv sd dn) i)) (nI i) a1 a2 s a4 a5 a6 a7 a8 a9 a10 a11 a12 a13 a14 a15) (fun i s => (∀ d, d < n → ∀ t, t < 8 → s (8 * d + t) = a3 (8 * d + t)) ∧ ∀ t, t < i → s (8 * n + t) = nI (ws_rv sd dn t)) 8 0 a3 (by omega) ⟨fun d _ t _ => rfl, fun t h => absurd h (by omega)⟩ ?_ ?_
  · intro f s hI
    refine pk_le 8 8 (fun _ => ⟨pk_in n 24 (by omega), nm_r (e' := upd a4 n (nI (ws_sm (ws_rv sd dn) 8))) (by rw [nI_clamp (by omega)]) (ws_index_add (r := ws_rv sd dn) (s := ws_sm (ws_rv sd dn) 8) hK (by omega) hI.1 (fun t ht => ⟨hI.2 t ht, ws_rv_le sd dn t⟩) (fun d hd => pk_un (by omega)) ⟨pk_us, ws_sm_b (B := 7) 8 (fun t ht => ws_rv_le sd dn t)⟩ ?_)⟩) (fun z => absurd z (by omega))
    intro g' c' ln' b1 b2 hK'
    exact nm_e (nm_r (nI_1 n) (nm_r (nI_1 dn) (H _ _ _ _ _ _ _ hK')))
  · intro f i s hi hI hw
    have hmul : dn * i ≤ 24 * 8 := Nat.mul_le_mul hdn (by omega)
    have e0 : nI sd + 5 * nI dn + 3 * nI i + nI dn * nI i = nI (sd + 5 * dn + 3 * i + dn * i) := by
      rw [show (5 : Int32) = nI 5 from rfl, show (3 : Int32) = nI 3 from rfl, pk_mul, pk_mul, pk_mul, nI_add, nI_add, nI_add]
    have e1 : 8 * nI n + nI i = nI (8 * n + i) := ws_ix 8 n i
    have e2 : (nI sd + 5 * nI dn + 3 * nI i + nI dn * nI i) - (nI sd + 5 * nI dn + 3 * nI i + nI dn * nI i) / 11 * 11 - 3 = nI ((sd + 5 * dn + 3 * i + dn * i) % 11) - 3 := by
      rw [e0, show (11 : Int32) = nI 11 from rfl, pk_rem (by omega) (by omega) (by omega)]
    have key : wX_addMany_88 post J28 (wX_addMany_48 post J28 (nI sd) x2 (nI dn) (nI n) al (nI m) la fo f) (nI sd) x2 (nI dn) (nI (ws_sm (ws_rv sd dn) i)) (nI i) (nI (ws_rv sd dn i)) (nI n) al (nI m) la fo a1 a2 s a4 a5 a6 a7 a8 a9 a10 a11 a12 a13 a14 a15 := by
      refine ⟨pk_in (8 * n + i) 192 (by omega) e1, nm_r (e' := upd s (8 * n + i) (nI (ws_rv sd dn i))) (by rw [e1, nI_clamp (by omega)]) (nm_r (nI_add _ _) (nm_r (nI_1 i) (hw _ ⟨?_, ?_⟩)))⟩
      · intro d hd t ht
        rw [pk_un (by omega)]
        exact hI.1 d hd t ht
      · intro t ht
        by_cases e : t = i
        · rw [e, pk_us]
        · rw [pk_un (by omega)]
          exact hI.2 t (by omega)
    refine pk_le 8 i (fun z => absurd z (by omega)) (fun _ => ⟨by decide, nm_r e2 ?_⟩)
    rcases Nat.lt_or_ge ((sd + 5 * dn + 3 * i + dn * i) % 11) 3 with z | z
    · have e3 : ws_rv sd dn i = 0 := by unfold ws_rv; omega
      rw [e3] at key
      have e4 : nI ((sd + 5 * dn + 3 * i + dn * i) % 11) - 3 < 0 := pk_sneg (b := 3) (by omega) z
      exact br_f (fun h => absurd e4 (Int32.not_lt.mpr h)) key
    · have e4 : nI ((sd + 5 * dn + 3 * i + dn * i) % 11) - 3 = nI (ws_rv sd dn i) := pk_sub (b := 3) z
      rw [e4]
      exact br_t (nI_pos' (by have := ws_rv_le sd dn i; omega)) key
theorem ws_am28 {sd ct : Nat} (hsd : sd ≤ 10) (hct : ct ≤ 24) (H : ∀ r (ad al it la fo : Int32) (a1 a2 a3 a4 a5 a6 a7 a8 a9 a10 a11 a12 a13 a14 a15 : Nat → Int32), ws_V (ad, al, it, la, fo, a1, a2, a3, a4, a5, a6, a7, a8, a9, a10, a11, a12, a13, a14, a15) → post r (ad, al, it, la, fo, a1, a2, a3, a4, a5, a6, a7, a8, a9, a10, a11, a12, a13, a14, a15)) :
    ∀ f dn n al g c ln a1 a2 a3 a4, dn ≤ n → 24 - n < f → ws_K n al g c ln dr m w b a1 a2 a3 a4 a5 a6 a7 → wX_addMany_28 post (nI sd) (nI ct) f (nI dn) (nI n) al (nI m) la fo a1 a2 a3 a4 a5 a6 a7 a8 a9 a10 a11 a12 a13 a14 a15 := by
  intro f
  induction f with
  | zero => intro dn n al g c ln a1 a2 a3 a4 _ h _; omega
  | succ f ih =>
    intro dn n al g c ln a1 a2 a3 a4 h1 h2 hK
    have hn := hK.1
    refine pk_le ct dn (fun _ => H _ _ _ _ _ _ _ _ _ _ _ _ _ _ _ _ _ _ _ _ _ (ws_V_mk hK)) (fun _ => pk_le 24 n (fun _ => H _ _ _ _ _ _ _ _ _ _ _ _ _ _ _ _ _ _ _ _ _ (ws_V_mk hK)) (fun z => ws_am48 hsd (by omega) hK z ?_))
    intro g' c' ln' b1 b2 b3 b4 hK'
    exact ih (dn + 1) (n + 1) _ g' c' ln' b1 b2 b3 b4 (by omega) (by omega) hK'
theorem ws_addMany {sd ct : Nat} (hsd : sd ≤ 10) (h1 : 1 ≤ ct) (hct : ct ≤ 24) (hV : ws_V (ad, al, it, la, fo, a1, a2, a3, a4, a5, a6, a7, a8, a9, a10, a11, a12, a13, a14, a15)) (H : ∀ r (ad al it la fo : Int32) (a1 a2 a3 a4 a5 a6 a7 a8 a9 a10 a11 a12 a13 a14 a15 : Nat → Int32), ws_V (ad, al, it, la, fo, a1, a2, a3, a4, a5, a6, a7, a8, a9, a10, a11, a12, a13, a14, a15) → post r (ad, al, it, la, fo, a1, a2, a3, a4, a5, a6, a7, a8, a9, a10, a11, a12, a13, a14, a15)) : wpX_addMany post (ad, al, it, la, fo, a1, a2, a3, a4, a5, a6, a7, a8, a9, a10, a11, a12, a13, a14, a15) (nI sd) (nI ct) := by
  obtain ⟨n, m, g, c, ln, dr, w, b, e1, e2, hK⟩ := ws_V_of hV
  subst e1 e2
  exact br_f (nI_pos (by omega)) (pk_le sd 10 (fun _ => pk_lt ct 1 (fun z => absurd z (by omega)) (fun _ => pk_le ct 24 (fun _ => ⟨25, ws_am28 hsd hct H 25 0 n al g c ln a1 a2 a3 a4 (by omega) (by omega) hK⟩) (fun z => absurd z (by omega)))) (fun z => absurd z (by omega)))
/-! ===== tidy ===== -/
theorem ws_tidy23 (hn : n ≤ 24) (ht : ws_tb n c ln a3 a4) (H : ∀ b1 b2, ws_ls n al (ws_bt al) c b1 b2 → post (nI (ws_cn (ws_bt al) n)) (nI n, al, it, la, fo, b1, b2, a3, a4, a5, a6, a7, a8, a9, a10, a11, a12, a13, a14, a15)) (b1 b2 : Nat → Int32) (h0 : ∀ t, t < 8 → b2 t = nI 0) :
    ∃ f, wX_tidy_23 post f 0 (nI n) al it la fo b1 b2 a3 a4 a5 a6 a7 a8 a9 a10 a11 a12 a13 a14 a15 := by
  refine pk_loop (σ := (Nat → Int32) × (Nat → Int32)) (fun f i s => wX_tidy_23 post f (nI i) (nI n) al it la fo s.1 s.2 a3 a4 a5 a6 a7 a8 a9 a10 a11 a12 a13 a14 a15) (fun i s => ∀ t, t < 8 → ws_li (ws_bt al) c t i s.1 s.2) n 0 (b1, b2) (by omega) (fun t h => ⟨h0 t h, fun d hd => absurd hd (by omega)⟩) ?_ ?_
  · exact fun f s hI => pk_le n n (fun _ => ws_liveCount hn (H s.1 s.2 ⟨hI, fun d _ h => h⟩)) (fun z => absurd z (by omega))
  · intro f i s hi hI hw
    obtain ⟨s1, s2⟩ := s
    dsimp only at hI hw ⊢
    refine pk_le n i (fun z => absurd z (by omega)) (fun _ => ws_isLive hn (by omega) (fun _ hb => br_f (by decide) (ws_index (g := ws_bt al) (c := c) (by omega) (fun t h => ht.1 i hi t h) hb hI (fun c1 c2 hli => nm_r (nI_1 i) (hw (c1, c2) hli)))) (fun hb => br_t rfl (nm_r (nI_1 i) (hw (s1, s2) (fun t h => ws_li_skip (hI t h) ?_)))))
    unfold ws_pg
    cases hb2 : ws_bt al i
    · rfl
    · exact absurd ⟨hi, hb2⟩ hb
theorem ws_tidy (hn : n ≤ 24) (ht : ws_tb n c ln a3 a4) (H : ∀ b1 b2, ws_ls n al (ws_bt al) c b1 b2 → post (nI (ws_cn (ws_bt al) n)) (nI n, al, it, la, fo, b1, b2, a3, a4, a5, a6, a7, a8, a9, a10, a11, a12, a13, a14, a15)) : wpX_tidy post (nI n, al, it, la, fo, a1, a2, a3, a4, a5, a6, a7, a8, a9, a10, a11, a12, a13, a14, a15) := by
  refine pk_loop (σ := Nat → Int32) (fun f i s => wX_tidy_2 post (nI n) al it la fo f (nI i) a1 s a3 a4 a5 a6 a7 a8 a9 a10 a11 a12 a13 a14 a15) (fun i s => ∀ t, t < i → s t = nI 0) 8 0 a2 (by omega) (fun t h => absurd h (by omega)) ?_ ?_
  · exact fun f s hI => pk_le 8 8 (fun _ => ws_tidy23 hn ht H a1 s hI) (fun z => absurd z (by omega))
  · intro f i s hi hI hw
    refine pk_le 8 i (fun z => absurd z (by omega)) (fun _ => ⟨pk_in i 8 hi, nm_r (e' := upd s i (nI 0)) (by rw [nI_clamp (by omega)]; rfl) (nm_r (nI_1 i) (hw _ ?_))⟩)
    intro t ht
    by_cases e : t = i
    · rw [e, pk_us]
    · rw [pk_un e]
      exact hI t (by omega)
end
/-! ===== a turn of the law ===== -/
section
variable {ad al it la fo : Int32} {a1 a2 a3 a4 a5 a6 a7 a8 a9 a10 a11 a12 a13 a14 a15 : Nat → Int32} {post : St1 → Prop}
theorem ws_turn {op : Nat} {d : Int32} (ho : op < 16) (hV : ws_V (ad, al, it, la, fo, a1, a2, a3, a4, a5, a6, a7, a8, a9, a10, a11, a12, a13, a14, a15)) (H : ∀ (ad al it la fo : Int32) (a1 a2 a3 a4 a5 a6 a7 a8 a9 a10 a11 a12 a13 a14 a15 : Nat → Int32), ws_V (ad, al, it, la, fo, a1, a2, a3, a4, a5, a6, a7, a8, a9, a10, a11, a12, a13, a14, a15) → post (ad, al, it, la, fo, a1, a2, a3, a4, a5, a6, a7, a8, a9, a10, a11, a12, a13, a14, a15)) : wpL_turn post (ad, al, it, la, fo, a1, a2, a3, a4, a5, a6, a7, a8, a9, a10, a11, a12, a13, a14, a15) (nI op) d := by
  obtain ⟨x, hx, ex⟩ := pk_andE d (m := 7) 3 (by decide)
  obtain ⟨y, hy, ey⟩ := pk_andE (d >>> ((3 : Int32) &&& 31)) (m := 31) 5 (by decide)
  obtain ⟨z, hz, ez⟩ := pk_andE (d >>> ((3 : Int32) &&& 31)) (m := 7) 3 (by decide)
  obtain ⟨p, hp, ep⟩ := pk_andE d (m := 15) 4 (by decide)
  obtain ⟨q, hq, eq⟩ := pk_andE (d >>> ((4 : Int32) &&& 31)) (m := 7) 3 (by decide)
  obtain ⟨r, hr, er⟩ := pk_andE d (m := 31) 5 (by decide)
  have ey2 : ((d >>> ((3 : Int32) &&& 31)) &&& 31) - ((d >>> ((3 : Int32) &&& 31)) &&& 31) / 20 * 20 = nI (y % 20) := by
    rw [ey]
    exact pk_rem (d := 20) (by omega) (by omega) (by omega)
  have ep2 : (d &&& 15) - (d &&& 15) / 11 * 11 = nI (p % 11) := by
    rw [ep]
    exact pk_rem (d := 11) (by omega) (by omega) (by omega)
  have er2 : (d &&& 31) - (d &&& 31) / 24 * 24 = nI (r % 24) := by
    rw [er]
    exact pk_rem (d := 24) (by omega) (by omega) (by omega)
  have eq2 : 1 + ((d >>> ((4 : Int32) &&& 31)) &&& 7) = nI (1 + q) := by
    rw [eq]
    exact nI_add 1 q
  unfold wpL_turn
  try dsimp only
  rw [ey2, ep2, er2, eq2, ex, ez]
  refine nm_e ⟨by decide, nm_e (pk_le 4 op (fun _ => pk_eq op 4 (fun _ => ?_) (fun _ => pk_le 7 op (fun _ => pk_eq op 7 (fun _ => ⟨by decide, ?_⟩) (fun _ => pk_eq op 8 (fun _ => ⟨by decide, ?_⟩) (fun _ => pk_le 14 op (fun _ => ?_) (fun _ => ?_)))) (fun _ => ?_))) (fun _ => ?_))⟩
  · exact ws_blank hV (fun _ => H)
  · exact ws_addMany (by omega) (by omega) (by omega) hV (fun _ => H)
  · exact ws_delete (by omega) hV (fun _ => H)
  · exact ws_drop hV (fun _ => H)
  · exact ws_item hx (by omega) hV (fun _ => H)
  · exact ws_add hV (fun _ => H)
  · exact ws_write hx hz hV (fun _ => H)
end
end
section
/-! ===== a lane's place ===== -/
def ws_lp (n : Nat) (al : Int32) (g : Nat → Bool) (c : Nat → Nat → Nat) (t f : Nat) (x8 x9 x10 : Int32) : Prop :=
  x9 = nI (ws_nx (ws_hp al c t) f n) ∧ (ws_nx (ws_hp al c t) f n < 1000 → x8 = nI (2 * ws_cn (ws_pg g c t) (ws_nx (ws_hp al c t) f n)) ∧ x10 = nI (c (ws_nx (ws_hp al c t) f n) t))
theorem ws_q_last {p : Nat → Bool} {e : Nat} (h : ws_q p (e + 1) = e + 1) : p e = true := by
  cases hp : p e
  · rw [ws_q_f hp] at h
    have := ws_q_le p e
    omega
  · rfl
theorem ws_m2b (a : Nat) : nI (2 * (a + 1)) - 2 = nI (2 * a) := by
  rw [← ws_p2]
  grind
def ws_fr (j : Nat) (a8 a9 a10 b8 b9 b10 : Nat → Int32) : Prop := ∀ i, i ≠ j → b8 i = a8 i ∧ b9 i = a9 i ∧ b10 i = a10 i
section
variable {ad al it la fo : Int32} {a1 a2 a3 a4 a5 a6 a7 a8 a9 a10 a11 a12 a13 a14 a15 : Nat → Int32} {post : St1 → Prop} {n : Nat} {g : Nat → Bool} {c : Nat → Nat → Nat}
theorem ws_mvEnd {j t F f : Nat} {b8 b9 b10 : Nat → Int32} {x3 : Int32} (hj : j < 5) (h9 : b9 j = nI 1000) (hno : ∀ d, F ≤ d → d < n → ws_hp al c t d = false) (hfr : ws_fr j a8 a9 a10 b8 b9 b10)
    (H : ∀ b8 b9 b10, ws_fr j a8 a9 a10 b8 b9 b10 → ws_lp n al g c t F (b8 j) (b9 j) (b10 j) → post (nI n, al, it, la, fo, a1, a2, a3, a4, a5, a6, a7, b8, b9, b10, a11, a12, a13, a14, a15)) :
    wX_moveTo_7 post (nI j) (nI F) x3 (nI n) al it la fo (f + 1) a1 a2 a3 a4 a5 a6 a7 b8 b9 b10 a11 a12 a13 a14 a15 := by
  have k := ws_nx_none n hno
  refine ⟨pk_in j 5 hj, br_t (by rw [nI_clamp (by omega), h9]; rfl) (H b8 b9 b10 hfr ⟨by rw [k]; exact h9, fun z => absurd z (by omega)⟩)⟩
theorem ws_mv7 {j t F : Nat} (hj : j < 5) (ht : t < 8) (hn : n ≤ 24) (hF : F ≤ 1000) (hl : ws_ls n al g c a1 a2)
    (H : ∀ b8 b9 b10, ws_fr j a8 a9 a10 b8 b9 b10 → ws_lp n al g c t F (b8 j) (b9 j) (b10 j) → post (nI n, al, it, la, fo, a1, a2, a3, a4, a5, a6, a7, b8, b9, b10, a11, a12, a13, a14, a15)) :
    ∀ f e b8 b9 b10, ws_fr j a8 a9 a10 b8 b9 b10 → e ≤ n → n - e + 1 < f → ws_q (ws_pg g c t) e = e → b9 j = nI e - 1 → b8 j = nI (2 * ws_cn (ws_pg g c t) e) - 2 → (0 < e → b10 j = nI (c (e - 1) t)) →
      (∀ d, F ≤ d → d + 1 < e → ws_hp al c t d = false) → wX_moveTo_7 post (nI j) (nI F) (nI t) (nI n) al it la fo f a1 a2 a3 a4 a5 a6 a7 b8 b9 b10 a11 a12 a13 a14 a15 := by
  obtain ⟨hl1, hg⟩ := hl
  have hli := hl1 t ht
  intro f
  induction f with
  | zero => intro e b8 b9 b10 _ _ h; omega
  | succ f ih =>
    intro e b8 b9 b10 hfr he hf hq h9 h8 h10 hno
    have inj : vp_in (nI j) 5 := pk_in j 5 hj
    have kn := ws_cn_le (ws_pg g c t) n
    have ke := ws_cn_le (ws_pg g c t) e
    have step : (∀ d, F ≤ d → d < e → ws_hp al c t d = false) → wX_moveTo_42 post (wX_moveTo_7 post (nI j) (nI F) (nI t) (nI n) al it la fo f) (nI j) (nI F) (nI t) (nI n) al it la fo a1 a2 a3 a4 a5 a6 a7 b8 b9 b10 a11 a12 a13 a14 a15 := by
      intro hcur
      have e8 : upd b8 j (nI (2 * ws_cn (ws_pg g c t) e)) (nI j).toNatClampNeg = nI (2 * ws_cn (ws_pg g c t) e) := by rw [nI_clamp (by omega), pk_us]
      have e2 : a2 (nI t).toNatClampNeg = nI (2 * ws_cn (ws_pg g c t) n) := by rw [nI_clamp (by omega)]; exact hli.1
      refine ⟨inj, inj, nm_r (e' := upd b8 j (nI (2 * ws_cn (ws_pg g c t) e))) (by rw [nI_clamp (by omega), h8, ws_m2]) ⟨inj, pk_in t 8 ht, ?_⟩⟩
      rcases ws_nxt (ws_pg g c t) n (n - e) e rfl he with ⟨e', k1, k2, k3, k4⟩ | h
      · have kc := ws_cn_skip k1 k4
        have kq := ws_q_skip k1 k4
        have klt := ws_cn_lt k2 k3
        have hent := hli.2 e' k2 k3
        rw [kc, kq, hq] at hent
        have i1 : 48 * nI t + upd b8 j (nI (2 * ws_cn (ws_pg g c t) e)) (nI j).toNatClampNeg = nI (48 * t + 2 * ws_cn (ws_pg g c t) e) := by rw [e8]; exact ws_ix 48 t _
        have i2 : 48 * nI t + upd b8 j (nI (2 * ws_cn (ws_pg g c t) e)) (nI j).toNatClampNeg + 1 = nI (48 * t + 2 * ws_cn (ws_pg g c t) e + 1) := by rw [e8]; exact ws_ix1 48 t _
        refine pk_lt (2 * ws_cn (ws_pg g c t) e) (2 * ws_cn (ws_pg g c t) n) (fun _ => ⟨inj, inj, pk_in (48 * t + 2 * ws_cn (ws_pg g c t) e) 384 (by omega) i1, inj, nm_r (e' := upd b9 j (nI e')) ?_ ⟨inj, pk_in (48 * t + 2 * ws_cn (ws_pg g c t) e + 1) 384 (by omega) i2, inj, nm_r (e' := upd b10 j (nI (c e' t))) ?_ (ih (e' + 1) _ _ _ ?_ (by omega) (by omega) (ws_q_t k3) ?_ ?_ ?_ ?_)⟩⟩) (fun z => absurd z (by omega)) e8 e2
        · rw [i1, nI_clamp (by omega), nI_clamp (by omega), hent.1, h9, ws_run (by omega)]
        · rw [i2, nI_clamp (by omega), nI_clamp (by omega), hent.2]
        · intro i hi
          rw [pk_un hi, pk_un hi, pk_un hi]
          exact hfr i hi
        · rw [pk_us]
          exact (ws_n1 e').symm
        · rw [pk_us, ws_cn_t k3, kc, ws_m2b]
        · intro _
          rw [pk_us]
          rfl
        · intro d hd1 hd2
          by_cases hde : d < e
          · exact hcur d hd1 hde
          · exact ws_npg_nhp hg (by omega) (k4 d (by omega) (by omega))
      · have kc := ws_cn_skip he h
        have hf1 : ∃ f', f = f' + 1 := ⟨f - 1, by omega⟩
        obtain ⟨f', hf'⟩ := hf1
        subst hf'
        refine pk_lt (2 * ws_cn (ws_pg g c t) e) (2 * ws_cn (ws_pg g c t) n) (fun z => absurd z (by omega)) (fun _ => ⟨inj, nm_r (e' := upd b9 j (nI 1000)) (by rw [nI_clamp (by omega)]; rfl) (ws_mvEnd hj pk_us ?_ ?_ H)⟩) e8 e2
        · intro d hd1 hd2
          by_cases hde : d < e
          · exact hcur d hd1 hde
          · exact ws_npg_nhp hg hd2 (h d (by omega) hd2)
        · intro i hi
          rw [pk_un hi, pk_un hi]
          exact hfr i hi
    have e9 : b9 (nI j).toNatClampNeg = nI e - 1 := by rw [nI_clamp (by omega)]; exact h9
    refine ⟨inj, br_f ?_ ⟨inj, ek_if (d := e ≤ F) ?_ (fun hh => step (fun d hd1 hd2 => absurd hd2 (by omega))) (fun hh => ⟨inj, ?_⟩)⟩⟩
    · rw [e9]
      exact ws_pne (f := 1000) (by omega) (by omega) (by omega)
    · rw [e9]
      exact ws_plt (by omega) (by omega)
    · obtain ⟨e0, he0⟩ : ∃ e0, e = e0 + 1 := ⟨e - 1, by omega⟩
      subst he0
      rw [ws_n1] at e9
      rw [e9]
      have hpg := ws_q_last hq
      refine ws_isLive hn (by omega) (fun _ hb => br_f (by decide) (H b8 b9 b10 hfr ?_)) (fun hb => br_t rfl (step ?_))
      · have hhp : ws_hp al c t e0 = true := by rw [(ws_pg_hp (al := al) hpg).1]; exact hb
        have k := ws_nx_some (show F ≤ e0 by omega) hhp (fun d h1 h2 => hno d h1 (by omega)) n (by omega) (by omega)
        refine ⟨?_, fun _ => ⟨?_, ?_⟩⟩
        · rw [k, h9, ws_n1]
        · rw [k, h8, ws_cn_t hpg, ws_m2b]
        · rw [k]
          exact h10 (by omega)
      · intro d hd1 hd2
        by_cases hde : d = e0
        · rw [hde, (ws_pg_hp (al := al) hpg).1]
          cases hb2 : ws_bt al e0
          · rfl
          · exact absurd ⟨by omega, hb2⟩ hb
        · exact hno d hd1 (by omega)
/-- moveTo: a lane that stands at f comes to stand at F -/
theorem ws_moveTo {j t f F : Nat} (hj : j < 5) (ht : t < 8) (hn : n ≤ 24) (hF : F ≤ 1000) (hfF : f ≤ F) (hl : ws_ls n al g c a1 a2) (h13 : a13 j = nI t) (hp : ws_lp n al g c t f (a8 j) (a9 j) (a10 j))
    (H : ∀ b8 b9 b10, ws_fr j a8 a9 a10 b8 b9 b10 → ws_lp n al g c t F (b8 j) (b9 j) (b10 j) → post (nI n, al, it, la, fo, a1, a2, a3, a4, a5, a6, a7, b8, b9, b10, a11, a12, a13, a14, a15)) : wpX_moveTo post (nI n, al, it, la, fo, a1, a2, a3, a4, a5, a6, a7, a8, a9, a10, a11, a12, a13, a14, a15) (nI j) (nI F) := by
  refine ⟨pk_in j 5 hj, nm_r (e' := nI t) (by rw [nI_clamp (by omega), h13]) ?_⟩
  obtain ⟨hp1, hp2⟩ := hp
  rcases ws_nx_or (ws_hp al c t) (f := f) hn with ⟨k1, k2⟩ | ⟨k1, k2, k3, k4⟩
  · rw [k1] at hp1
    exact ⟨1, ws_mvEnd (f := 0) hj hp1 (fun d h1 h2 => k2 d (by omega) h2) (fun i _ => ⟨rfl, rfl, rfl⟩) H⟩
  · obtain ⟨q1, q2⟩ := hp2 (by omega)
    have hpg := ws_hp_pg hl.2 k1 k3
    refine ⟨n + 3, ws_mv7 hj ht hn hF hl H (n + 3) (ws_nx (ws_hp al c t) f n + 1) a8 a9 a10 (fun i _ => ⟨rfl, rfl, rfl⟩) (by omega) (by omega) (ws_q_t hpg) ?_ ?_ (fun _ => q2) (fun d h1 h2 => k4 d (by omega) (by omega))⟩
    · rw [hp1, ws_n1]
    · rw [q1, ws_cn_t hpg, ws_m2b]
theorem ws_moveTo0 {j t : Nat} (hj : j < 5) (ht : t < 8) (hn : n ≤ 24) (hl : ws_ls n al g c a1 a2) (h13 : a13 j = nI t) (h8 : a8 j = -2) (h9 : a9 j = -1)
    (H : ∀ b8 b9 b10, ws_fr j a8 a9 a10 b8 b9 b10 → ws_lp n al g c t 0 (b8 j) (b9 j) (b10 j) → post (nI n, al, it, la, fo, a1, a2, a3, a4, a5, a6, a7, b8, b9, b10, a11, a12, a13, a14, a15)) : wpX_moveTo post (nI n, al, it, la, fo, a1, a2, a3, a4, a5, a6, a7, a8, a9, a10, a11, a12, a13, a14, a15) (nI j) 0 := by
  refine ⟨pk_in j 5 hj, nm_r (e' := nI t) (by rw [nI_clamp (by omega), h13]) ?_⟩
  exact ⟨n + 3, ws_mv7 (F := 0) hj ht hn (by omega) hl H (n + 3) 0 a8 a9 a10 (fun i _ => ⟨rfl, rfl, rfl⟩) (by omega) (by omega) rfl (by rw [h9]; rfl) (by rw [h8]; rfl) (fun z => absurd z (by omega)) (fun d _ z => absurd z (by omega))⟩
end
/-! ===== the lanes ===== -/
def ws_pb (b : Nat → Nat) (k : Nat) : Bool := decide (0 < b k)
def ws_bo (x : Nat) : Nat := if 10 < x then x - 10 else x
def ws_ra (n : Nat) (al : Int32) (c : Nat → Nat → Nat) (t : Nat) : Nat := 64 * (ws_cn (ws_bt al) n + 1) / (ws_cn (ws_hp al c t) n + 1)
def ws_l (m : Nat) (b : Nat → Nat) : Nat := ws_cn (ws_pb b) m
def ws_T (m : Nat) (w b : Nat → Nat) (j : Nat) : Nat := w (ws_sel (ws_pb b) m j)
def ws_W (n : Nat) (al : Int32) (c : Nat → Nat → Nat) (m : Nat) (w b : Nat → Nat) (j : Nat) : Nat := ws_bo (b (ws_sel (ws_pb b) m j)) * ws_ra n al c (ws_T m w b j)
/-- what a lane holds for good / where the lanes stand -/
def ws_OS (n : Nat) (al : Int32) (c : Nat → Nat → Nat) (ln : Nat → Nat) (l : Nat) (T W BD : Nat → Nat) (a11 a12 a13 : Nat → Int32) : Prop :=
  ∀ j, j < l → T j < 8 ∧ W j ≤ 16000 ∧ BD j ≤ 4096000 ∧ a13 j = nI (T j) ∧ a11 j = nI (W j) ∧ a12 j = nI (BD j) ∧ ∀ d, d < n → ws_hp al c (T j) d = true → W j * ws_str (c d (T j)) (ln d) ≤ BD j
def ws_OP (n : Nat) (al : Int32) (g : Nat → Bool) (c : Nat → Nat → Nat) (l : Nat) (T : Nat → Nat) (f : Nat) (a8 a9 a10 : Nat → Int32) : Prop :=
  ∀ j, j < l → ws_lp n al g c (T j) f (a8 j) (a9 j) (a10 j)
theorem ws_ra_le {n : Nat} (hn : n ≤ 24) (al : Int32) (c : Nat → Nat → Nat) (t : Nat) : ws_ra n al c t ≤ 1600 := by
  unfold ws_ra
  have k := ws_cn_le (ws_bt al) n
  exact Nat.le_trans (Nat.div_le_self _ _) (by omega)
section
variable {ad al it la fo : Int32} {a1 a2 a3 a4 a5 a6 a7 a8 a9 a10 a11 a12 a13 a14 a15 : Nat → Int32} {n m : Nat} {g : Nat → Bool} {c : Nat → Nat → Nat} {ln w b : Nat → Nat}
theorem ws_ol65 {post : St1 → Prop} {J12 : Int32 → Int32 → Int32 → Int32 → Int32 → Int32 → (Nat → Int32) → (Nat → Int32) → (Nat → Int32) → (Nat → Int32) → (Nat → Int32) → (Nat → Int32) → (Nat → Int32) → (Nat → Int32) → (Nat → Int32) → (Nat → Int32) → (Nat → Int32) → (Nat → Int32) → (Nat → Int32) → (Nat → Int32) → (Nat → Int32) → Prop} {k l t bo : Nat}
    (hl5 : l < 5) (ht : t < 8) (hn : n ≤ 24) (hl : ws_ls n al g c a1 a2) (hb : ws_tb n c ln a3 a4)
    (H : ∀ G b8 b9 b10, G ≤ 256 → (∀ d, d < n → ws_hp al c t d = true → ws_str (c d t) (ln d) ≤ G) → ws_fr l a8 a9 a10 b8 b9 b10 → ws_lp n al g c t 0 (b8 l) (b9 l) (b10 l) →
      J12 (nI (k + 1)) (nI n) al it (nI (l + 1)) fo a1 a2 a3 a4 a5 a6 a7 b8 b9 b10 (upd a11 l (nI (bo * ws_ra n al c t))) (upd a12 l (nI (bo * ws_ra n al c t * G))) (upd a13 l (nI t)) a14 a15) :
    wX_openLanes_65 post J12 (nI (ws_cn (ws_bt al) n)) (nI k) (nI t) (nI bo) (nI n) al it (nI l) fo a1 a2 a3 a4 a5 a6 a7 a8 a9 a10 a11 a12 a13 a14 a15 := by
  unfold wX_openLanes_65
  have kall := ws_cn_le (ws_bt al) n
  have kspr := ws_cn_le (ws_hp al c t) n
  have inl : vp_in (nI l) 5 := pk_in l 5 hl5
  have er : 64 * (nI (ws_cn (ws_bt al) n) + 1) / (nI (ws_cn (ws_hp al c t) n) + 1) = nI (ws_ra n al c t) := by
    rw [show (64 : Int32) = nI 64 from rfl, nI_1, nI_1, pk_mul, pk_div (by omega) (by omega) (by omega)]
    rfl
  refine ws_spreadOf ht hn hl ⟨?_, nm_r er ⟨inl, nm_r (e' := upd a11 l (nI (bo * ws_ra n al c t))) (by rw [nI_clamp (by omega), pk_mul]) ?_⟩⟩
  · rw [nI_1]
    exact nI_ne0 (by omega) (by omega)
  · refine ws_greatest ht hn hl hb (fun G hG1 hG2 => ⟨inl, nm_r (e' := upd a12 l (nI (bo * ws_ra n al c t * G))) (by rw [nI_clamp (by omega), pk_mul, pk_mul]) ⟨inl, nm_r (e' := upd a13 l (nI t)) (by rw [nI_clamp (by omega)]) ⟨inl, nm_r (e' := upd a8 l (-2)) (by rw [nI_clamp (by omega)]) ⟨inl, nm_r (e' := upd a9 l (-1)) (by rw [nI_clamp (by omega)]) (nm_r (nI_1 l) ?_)⟩⟩⟩⟩)
    rw [ws_n1]
    refine ws_moveTo0 (g := g) (c := c) hl5 ht hn hl pk_us pk_us pk_us (fun b8 b9 b10 hfr hlp => nm_r (nI_1 k) (H G b8 b9 b10 hG1 hG2 (fun i hi => ?_) hlp))
    have q := hfr i hi
    rw [pk_un hi, pk_un hi] at q
    exact q
theorem ws_openLanes {post : St1 → Prop} (hn : n ≤ 24) (hl : ws_ls n al g c a1 a2) (hb : ws_tb n c ln a3 a4) (hi : ws_im m w b a6 a7)
    (H : ∀ BD b8 b9 b10 b11 b12 b13, ws_OS n al c ln (ws_l m b) (ws_T m w b) (ws_W n al c m w b) BD b11 b12 b13 → ws_OP n al g c (ws_l m b) (ws_T m w b) 0 b8 b9 b10 → post (nI n, al, nI m, nI (ws_l m b), fo, a1, a2, a3, a4, a5, a6, a7, b8, b9, b10, b11, b12, b13, a14, a15)) :
    wpX_openLanes post (nI n, al, nI m, la, fo, a1, a2, a3, a4, a5, a6, a7, a8, a9, a10, a11, a12, a13, a14, a15) := by
  unfold wpX_openLanes
  try dsimp only
  refine ws_liveCount hn ?_
  obtain ⟨hm, hi⟩ := hi
  refine pk_loop (σ := (Nat → Int32) × (Nat → Int32) × (Nat → Int32) × (Nat → Int32) × (Nat → Int32) × (Nat → Int32)) (fun f k s => wX_openLanes_12 post (nI (ws_cn (ws_bt al) n)) f (nI k) (nI n) al (nI m) (nI (ws_cn (ws_pb b) k)) fo a1 a2 a3 a4 a5 a6 a7 s.1 s.2.1 s.2.2.1 s.2.2.2.1 s.2.2.2.2.1 s.2.2.2.2.2 a14 a15)
    (fun k s => ∃ BD, ws_OS n al c ln (ws_cn (ws_pb b) k) (ws_T m w b) (ws_W n al c m w b) BD s.2.2.2.1 s.2.2.2.2.1 s.2.2.2.2.2 ∧ ws_OP n al g c (ws_cn (ws_pb b) k) (ws_T m w b) 0 s.1 s.2.1 s.2.2.1) m 0 (a8, a9, a10, a11, a12, a13) (by omega) ⟨fun _ => 0, fun j h => absurd h (Nat.not_lt_zero _), fun j h => absurd h (Nat.not_lt_zero _)⟩ ?_ ?_
  · intro f s hI
    obtain ⟨BD, h1, h2⟩ := hI
    exact pk_le m m (fun _ => H BD _ _ _ _ _ _ h1 h2) (fun z => absurd z (by omega))
  · intro f k s hk hI hw
    obtain ⟨BD, h1, h2⟩ := hI
    obtain ⟨s8, s9, s10, s11, s12, s13⟩ := s
    dsimp only at h1 h2 hw ⊢
    obtain ⟨q6, qw, q7, qb⟩ := hi k hk
    have e7 : a7 (nI k).toNatClampNeg = nI (b k) := by rw [nI_clamp (by omega), q7]
    have e6 : a6 (nI k).toNatClampNeg = nI (w k) := by rw [nI_clamp (by omega), q6]
    have ink : vp_in (nI k) 5 := pk_in k 5 (by omega)
    have kcn := ws_cn_le (ws_pb b) k
    refine pk_le m k (fun z => absurd z (by omega)) (fun _ => ⟨ink, pk_le (b k) 0 (fun z => nm_r (nI_1 k) ?_) (fun z => ⟨ink, nm_r e6 ⟨ink, ?_⟩⟩) e7⟩)
    · have hp : ws_pb b k = false := by unfold ws_pb; exact decide_eq_false (by omega)
      have hnext := hw (s8, s9, s10, s11, s12, s13)
      rw [ws_cn_f hp] at hnext
      exact hnext ⟨BD, h1, h2⟩
    · have hp : ws_pb b k = true := by unfold ws_pb; exact decide_eq_true (by omega)
      have hsel := ws_sel_at hp m hk
      have eT : ws_T m w b (ws_cn (ws_pb b) k) = w k := by unfold ws_T; rw [hsel]
      have eW : ws_W n al c m w b (ws_cn (ws_pb b) k) = ws_bo (b k) * ws_ra n al c (w k) := by unfold ws_W; rw [hsel, eT]
      have hra := ws_ra_le hn al c (w k)
      have hbo : ws_bo (b k) ≤ 10 := by unfold ws_bo; split <;> omega
      have hWle : ws_bo (b k) * ws_ra n al c (w k) ≤ 16000 := Nat.mul_le_mul hbo hra
      have key : wX_openLanes_65 post (wX_openLanes_12 post (nI (ws_cn (ws_bt al) n)) f) (nI (ws_cn (ws_bt al) n)) (nI k) (nI (w k)) (nI (ws_bo (b k))) (nI n) al (nI m) (nI (ws_cn (ws_pb b) k)) fo a1 a2 a3 a4 a5 a6 a7 s8 s9 s10 s11 s12 s13 a14 a15 := by
        refine ws_ol65 (by omega) qw hn hl hb (fun G b8 b9 b10 hG1 hG2 hfr hlp => ?_)
        have hnext := hw (b8, b9, b10, upd s11 (ws_cn (ws_pb b) k) (nI (ws_bo (b k) * ws_ra n al c (w k))), upd s12 (ws_cn (ws_pb b) k) (nI (ws_bo (b k) * ws_ra n al c (w k) * G)), upd s13 (ws_cn (ws_pb b) k) (nI (w k)))
        rw [ws_cn_t hp] at hnext
        refine hnext ⟨fun j => if j = ws_cn (ws_pb b) k then ws_bo (b k) * ws_ra n al c (w k) * G else BD j, ?_, ?_⟩
        · intro j hj
          try dsimp only
          by_cases e : j = ws_cn (ws_pb b) k
          · subst e
            rw [if_pos rfl, eT, eW, pk_us, pk_us, pk_us]
            refine ⟨qw, hWle, Nat.le_trans (Nat.mul_le_mul hWle hG1) (by omega), rfl, rfl, rfl, fun d hd hh => Nat.mul_le_mul_left _ (hG2 d hd hh)⟩
          · rw [if_neg e, pk_un e, pk_un e, pk_un e]
            exact h1 j (by omega)
        · intro j hj
          try dsimp only
          by_cases e : j = ws_cn (ws_pb b) k
          · subst e
            rw [eT]
            exact hlp
          · obtain ⟨r1, r2, r3⟩ := hfr j e
            rw [r1, r2, r3]
            exact h2 j (by omega)
      refine pk_le (b k) 10 (fun z2 => ⟨ink, ?_⟩) (fun z2 => ⟨ink, ?_⟩) e7
      · have e : ws_bo (b k) = b k := by unfold ws_bo; rw [if_neg (by omega)]
        rw [e] at key
        rw [e7]
        exact key
      · have e : ws_bo (b k) = b k - 10 := by unfold ws_bo; rw [if_pos z2]
        rw [e] at key
        have e8 : a7 (nI k).toNatClampNeg - 10 = nI (b k - 10) := by rw [e7]; exact pk_sub (b := 10) (by omega)
        rw [e8]
        exact key
end
end
section
/-! ===== least, sums of scores, the next chance ===== -/
def ws_mn (D : Nat → Nat) : Nat → Nat
  | 0 => 1000
  | k + 1 => if D k < ws_mn D k then D k else ws_mn D k
theorem ws_mn_le (D : Nat → Nat) (l : Nat) : ws_mn D l ≤ 1000 := by
  induction l with
  | zero => exact Nat.le_refl _
  | succ l ih =>
    show (if D l < ws_mn D l then D l else ws_mn D l) ≤ 1000
    split <;> omega
theorem ws_mn_all (D : Nat → Nat) : ∀ l j, j < l → ws_mn D l ≤ D j := by
  intro l
  induction l with
  | zero => intro j h; exact absurd h (Nat.not_lt_zero _)
  | succ l ih =>
    intro j h
    show (if D l < ws_mn D l then D l else ws_mn D l) ≤ D j
    by_cases e : j = l
    · subst e
      split <;> omega
    · have := ih j (by omega)
      split <;> omega
theorem ws_mn_ex (D : Nat → Nat) : ∀ l, ws_mn D l = 1000 ∨ ∃ j, j < l ∧ D j = ws_mn D l := by
  intro l
  induction l with
  | zero => exact Or.inl rfl
  | succ l ih =>
    by_cases e : D l < ws_mn D l
    · have e2 : ws_mn D (l + 1) = D l := if_pos e
      exact Or.inr ⟨l, by omega, e2.symm⟩
    · have e2 : ws_mn D (l + 1) = ws_mn D l := if_neg e
      rw [e2]
      rcases ih with h | ⟨j, h1, h2⟩
      · exact Or.inl h
      · exact Or.inr ⟨j, by omega, h2⟩
/-- the bounds of the lanes up to x -/
def ws_bs (D BD : Nat → Nat) (l x : Nat) : Nat := ws_sm (fun j => if D j ≤ x then BD j else 0) l
def ws_nc (D BD : Nat → Nat) (l L1 : Nat) : Nat → Nat
  | 0 => 1000
  | k + 1 => if L1 ≤ ws_bs D BD l (D k) ∧ D k < ws_nc D BD l L1 k then D k else ws_nc D BD l L1 k
theorem ws_nc_le (D BD : Nat → Nat) (l L1 k : Nat) : ws_nc D BD l L1 k ≤ 1000 := by
  induction k with
  | zero => exact Nat.le_refl _
  | succ k ih =>
    show (if L1 ≤ ws_bs D BD l (D k) ∧ D k < ws_nc D BD l L1 k then D k else ws_nc D BD l L1 k) ≤ 1000
    split <;> omega
theorem ws_nc_ex (D BD : Nat → Nat) (l L1 : Nat) : ∀ k, ws_nc D BD l L1 k = 1000 ∨ ∃ j, j < k ∧ D j = ws_nc D BD l L1 k ∧ L1 ≤ ws_bs D BD l (D j) := by
  intro k
  induction k with
  | zero => exact Or.inl rfl
  | succ k ih =>
    by_cases e : L1 ≤ ws_bs D BD l (D k) ∧ D k < ws_nc D BD l L1 k
    · have e2 : ws_nc D BD l L1 (k + 1) = D k := if_pos e
      exact Or.inr ⟨k, by omega, e2.symm, e.1⟩
    · have e2 : ws_nc D BD l L1 (k + 1) = ws_nc D BD l L1 k := if_neg e
      rw [e2]
      rcases ih with h | ⟨j, h1, h2, h3⟩
      · exact Or.inl h
      · exact Or.inr ⟨j, by omega, h2, h3⟩
theorem ws_nc_low (D BD : Nat → Nat) (l L1 : Nat) : ∀ k j, j < k → D j < ws_nc D BD l L1 k → ws_bs D BD l (D j) < L1 := by
  intro k
  induction k with
  | zero => intro j h; exact absurd h (Nat.not_lt_zero _)
  | succ k ih =>
    intro j hj h
    by_cases e : L1 ≤ ws_bs D BD l (D k) ∧ D k < ws_nc D BD l L1 k
    · have e2 : ws_nc D BD l L1 (k + 1) = D k := if_pos e
      rw [e2] at h
      by_cases ej : j = k
      · subst ej; omega
      · exact ih j (by omega) (by omega)
    · have e2 : ws_nc D BD l L1 (k + 1) = ws_nc D BD l L1 k := if_neg e
      rw [e2] at h
      by_cases ej : j = k
      · subst ej
        have : ¬ L1 ≤ ws_bs D BD l (D j) := fun z => e ⟨z, h⟩
        omega
      · exact ih j (by omega) h
/-- the score of a document from l lanes -/
def ws_sc (l : Nat) (T W : Nat → Nat) (c : Nat → Nat → Nat) (ln : Nat → Nat) (d : Nat) : Nat := ws_sm (fun j => W j * ws_str (c d (T j)) (ln d)) l
section
variable {ad al it la fo : Int32} {a1 a2 a3 a4 a5 a6 a7 a8 a9 a10 a11 a12 a13 a14 a15 : Nat → Int32} {post : Int32 → Prop} {n : Nat} {g : Nat → Bool} {c : Nat → Nat → Nat} {ln : Nat → Nat} {l : Nat} {T W BD D : Nat → Nat}
theorem ws_least (hl5 : l ≤ 5) (hD : ∀ j, j < l → a9 j = nI (D j) ∧ D j ≤ 1000) (h : post (nI (ws_mn D l))) : wpX_leastDocument post (ad, al, it, nI l, fo, a1, a2, a3, a4, a5, a6, a7, a8, a9, a10, a11, a12, a13, a14, a15) := by
  refine pk_loop (σ := Unit) (fun f i _ => wX_leastDocument_6 post ad al it (nI l) fo a1 a2 a3 a4 a5 a6 a7 a8 a9 a10 a11 a12 a13 a14 a15 f (nI (ws_mn D i)) (nI i)) (fun _ _ => True) l 0 () (by omega) trivial ?_ ?_
  · exact fun f _ _ => pk_le l l (fun _ => h) (fun z => absurd z (by omega))
  · intro f i _ hi _ hw
    have hnext := hw () trivial
    try dsimp only at hnext
    have e9 : a9 (nI i).toNatClampNeg = nI (D i) := by rw [nI_clamp (by omega), (hD i hi).1]
    have hd := (hD i hi).2
    have hm := ws_mn_le D i
    refine pk_le l i (fun z => absurd z (by omega)) (fun _ => ⟨pk_in i 5 (by omega), pk_le (ws_mn D i) (D i) (fun z => nm_r (nI_1 i) ?_) (fun z => ⟨pk_in i 5 (by omega), nm_r e9 (nm_r (nI_1 i) ?_)⟩) rfl e9⟩)
    · have e2 : ws_mn D (i + 1) = ws_mn D i := if_neg (by omega)
      rw [e2] at hnext
      exact hnext
    · have e2 : ws_mn D (i + 1) = D i := if_pos z
      rw [e2] at hnext
      exact hnext
theorem ws_scoreOf {d : Nat} (hl5 : l ≤ 5) (hn : n ≤ 24) (hd : d < n) (hb : ws_tb n c ln a3 a4) (hO : ws_OS n al c ln l T W BD a11 a12 a13)
    (h : post (nI (ws_sc l T W c ln d))) : wpX_scoreOf post (ad, al, it, nI l, fo, a1, a2, a3, a4, a5, a6, a7, a8, a9, a10, a11, a12, a13, a14, a15) (nI d) := by
  refine pk_loop (σ := Unit) (fun f i _ => wX_scoreOf_4 post (nI d) ad al it (nI l) fo a1 a2 a3 a4 a5 a6 a7 a8 a9 a10 a11 a12 a13 a14 a15 f (nI (ws_sc i T W c ln d)) (nI i)) (fun _ _ => True) l 0 () (by omega) trivial ?_ ?_
  · exact fun f _ _ => pk_le l l (fun _ => h) (fun z => absurd z (by omega))
  · intro f i _ hi _ hw
    have hnext := hw () trivial
    try dsimp only at hnext
    obtain ⟨o1, o2, o3, o4, o5, o6, o7⟩ := hO i hi
    obtain ⟨c1, c2⟩ := hb.1 d hd (T i) o1
    obtain ⟨l1, l2⟩ := hb.2 d hd
    have e13 : 8 * nI d + a13 (nI i).toNatClampNeg = nI (8 * d + T i) := by rw [nI_clamp (by omega), o4]; exact ws_ix 8 d (T i)
    have e3 : a3 (8 * nI d + a13 (nI i).toNatClampNeg).toNatClampNeg = nI (c d (T i)) := by rw [e13, nI_clamp (by omega), c1]
    have e4 : a4 (nI d).toNatClampNeg = nI (ln d) := by rw [nI_clamp (by omega), l1]
    have e11 : a11 (nI i).toNatClampNeg = nI (W i) := by rw [nI_clamp (by omega), o5]
    have ini : vp_in (nI i) 5 := pk_in i 5 (by omega)
    refine pk_le l i (fun z => absurd z (by omega)) (fun _ => ⟨ini, ini, pk_in (8 * d + T i) 192 (by omega) e13, pk_in d 24 (by omega), ?_⟩)
    rw [e3, e4]
    refine ws_strength (by omega) (by omega) (nm_r (e' := nI (ws_sc (i + 1) T W c ln d)) ?_ (nm_r (nI_1 i) hnext))
    rw [e11, pk_mul, nI_add]
    rfl
theorem ws_scoreHere {d : Nat} (hl5 : l ≤ 5) (hn : n ≤ 24) (hd : d < n) (hb : ws_tb n c ln a3 a4) (hO : ws_OS n al c ln l T W BD a11 a12 a13) (hD : ∀ j, j < l → a9 j = nI (D j) ∧ D j ≤ 1000) (h10 : ∀ j, j < l → D j = d → a10 j = nI (c d (T j)))
    (h : post (nI (ws_sm (fun j => if D j = d then W j * ws_str (c d (T j)) (ln d) else 0) l))) : wpX_scoreHere post (ad, al, it, nI l, fo, a1, a2, a3, a4, a5, a6, a7, a8, a9, a10, a11, a12, a13, a14, a15) (nI d) := by
  refine pk_loop (σ := Unit) (fun f i _ => wX_scoreHere_4 post (nI d) ad al it (nI l) fo a1 a2 a3 a4 a5 a6 a7 a8 a9 a10 a11 a12 a13 a14 a15 f (nI (ws_sm (fun j => if D j = d then W j * ws_str (c d (T j)) (ln d) else 0) i)) (nI i)) (fun _ _ => True) l 0 () (by omega) trivial ?_ ?_
  · exact fun f _ _ => pk_le l l (fun _ => h) (fun z => absurd z (by omega))
  · intro f i _ hi _ hw
    have hnext := hw () trivial
    try dsimp only at hnext
    obtain ⟨o1, o2, o3, o4, o5, o6, o7⟩ := hO i hi
    obtain ⟨c1, c2⟩ := hb.1 d hd (T i) o1
    obtain ⟨l1, l2⟩ := hb.2 d hd
    have e9 : a9 (nI i).toNatClampNeg = nI (D i) := by rw [nI_clamp (by omega), (hD i hi).1]
    have hDi := (hD i hi).2
    have e4 : a4 (nI d).toNatClampNeg = nI (ln d) := by rw [nI_clamp (by omega), l1]
    have e11 : a11 (nI i).toNatClampNeg = nI (W i) := by rw [nI_clamp (by omega), o5]
    have ini : vp_in (nI i) 5 := pk_in i 5 (by omega)
    refine pk_le l i (fun z => absurd z (by omega)) (fun _ => ⟨ini, pk_eq (D i) d (fun e => ⟨ini, ini, pk_in d 24 (by omega), ?_⟩) (fun e => nm_r (nI_1 i) ?_) e9⟩)
    · have e10 : a10 (nI i).toNatClampNeg = nI (c d (T i)) := by rw [nI_clamp (by omega), h10 i hi e]
      rw [e10, e4]
      refine ws_strength (by omega) (by omega) (nm_r (e' := nI (ws_sm (fun j => if D j = d then W j * ws_str (c d (T j)) (ln d) else 0) (i + 1))) ?_ (nm_r (nI_1 i) hnext))
      rw [e11, pk_mul, nI_add]
      show _ = nI (ws_sm (fun j => if D j = d then W j * ws_str (c d (T j)) (ln d) else 0) i + (if D i = d then W i * ws_str (c d (T i)) (ln d) else 0))
      rw [if_pos e]
    · have e2 : ws_sm (fun j => if D j = d then W j * ws_str (c d (T j)) (ln d) else 0) (i + 1) = ws_sm (fun j => if D j = d then W j * ws_str (c d (T j)) (ln d) else 0) i := by
        show ws_sm (fun j => if D j = d then W j * ws_str (c d (T j)) (ln d) else 0) i + (if D i = d then W i * ws_str (c d (T i)) (ln d) else 0) = _
        rw [if_neg e]
        rfl
      rw [e2] at hnext
      exact hnext
theorem ws_bs_le (hl5 : l ≤ 5) (hBD : ∀ j, j < l → BD j ≤ 4096000) {x : Nat} : ∀ i, i ≤ l → ws_sm (fun j => if D j ≤ x then BD j else 0) i ≤ 20480000 := by
  intro i hi
  have k := ws_sm_b (f := fun j => if D j ≤ x then BD j else 0) (B := 4096000) i (fun j hj => by
    try dsimp only
    have := hBD j (by omega)
    split <;> omega)
  omega
theorem ws_nc41 {J27 : Int32 → Int32 → Prop} {lim : Int32} {L1 k x2 : Nat} (hlim : ∀ v : Nat, v < 2 ^ 31 → (nI v ≤ lim ↔ v < L1)) (hl5 : l ≤ 5) (hk : k < l) (hx2 : x2 ≤ 1000) (hD : ∀ j, j < l → a9 j = nI (D j) ∧ D j ≤ 1000) (hBD : ∀ j, j < l → a12 j = nI (BD j) ∧ BD j ≤ 4096000)
    (hJ : J27 (nI (if L1 ≤ ws_bs D BD l (D k) ∧ D k < x2 then D k else x2)) (nI (k + 1))) : ∃ f, wX_nextChance_41 post J27 lim (nI x2) (nI k) ad al it (nI l) fo a1 a2 a3 a4 a5 a6 a7 a8 a9 a10 a11 a12 a13 a14 a15 f 0 0 := by
  have e9 : ∀ i, i < l → a9 (nI i).toNatClampNeg = nI (D i) := fun i hi => by rw [nI_clamp (by omega), (hD i hi).1]
  have hDk := (hD k hk).2
  refine pk_loop (σ := Unit) (fun f i _ => wX_nextChance_41 post J27 lim (nI x2) (nI k) ad al it (nI l) fo a1 a2 a3 a4 a5 a6 a7 a8 a9 a10 a11 a12 a13 a14 a15 f (nI (ws_sm (fun j => if D j ≤ D k then BD j else 0) i)) (nI i)) (fun _ _ => True) l 0 () (by omega) trivial ?_ ?_
  · intro f _ _
    have kb := ws_bs_le (BD := BD) (D := D) hl5 (fun j hj => (hBD j hj).2) (x := D k) l (Nat.le_refl _)
    refine pk_le l l (fun _ => ek_if (hlim _ (by omega)) (fun z => nm_r (nI_1 k) ?_) (fun z => ⟨pk_in k 5 (by omega), pk_le x2 (D k) (fun z2 => nm_r (nI_1 k) ?_) (fun z2 => ⟨pk_in k 5 (by omega), nm_r (e9 k hk) (nm_r (nI_1 k) ?_)⟩) rfl (e9 k hk)⟩)) (fun z => absurd z (by omega))
    · rw [if_neg (fun q => absurd q.1 (by unfold ws_bs; omega))] at hJ
      exact hJ
    · rw [if_neg (fun q => absurd q.2 (by omega))] at hJ
      exact hJ
    · rw [if_pos ⟨by unfold ws_bs; omega, z2⟩] at hJ
      exact hJ
  · intro f i _ hi _ hw
    have hnext := hw () trivial
    try dsimp only at hnext
    have hDi := (hD i hi).2
    have e12 : a12 (nI i).toNatClampNeg = nI (BD i) := by rw [nI_clamp (by omega), (hBD i hi).1]
    refine pk_le l i (fun z => absurd z (by omega)) (fun _ => ⟨pk_in i 5 (by omega), pk_in k 5 (by omega), pk_lt (D k) (D i) (fun z => nm_r (nI_add _ 0) (nm_r (nI_1 i) ?_)) (fun z => ⟨pk_in i 5 (by omega), nm_r (e' := nI (ws_sm (fun j => if D j ≤ D k then BD j else 0) (i + 1))) ?_ (nm_r (nI_1 i) hnext)⟩) (e9 k hk) (e9 i hi)⟩)
    · have e2 : ws_sm (fun j => if D j ≤ D k then BD j else 0) (i + 1) = ws_sm (fun j => if D j ≤ D k then BD j else 0) i + 0 := by
        show ws_sm (fun j => if D j ≤ D k then BD j else 0) i + (if D i ≤ D k then BD i else 0) = _
        rw [if_neg (by omega)]
      rw [e2] at hnext
      exact hnext
    · rw [e12, nI_add]
      show _ = nI (ws_sm (fun j => if D j ≤ D k then BD j else 0) i + (if D i ≤ D k then BD i else 0))
      rw [if_pos z]
theorem ws_nc27 {lim : Int32} {L1 : Nat} (hlim : ∀ v : Nat, v < 2 ^ 31 → (nI v ≤ lim ↔ v < L1)) (hl5 : l ≤ 5) (hD : ∀ j, j < l → a9 j = nI (D j) ∧ D j ≤ 1000) (hBD : ∀ j, j < l → a12 j = nI (BD j) ∧ BD j ≤ 4096000)
    (h : post (nI (ws_nc D BD l L1 l))) : ∃ f, wX_nextChance_27 post lim ad al it (nI l) fo a1 a2 a3 a4 a5 a6 a7 a8 a9 a10 a11 a12 a13 a14 a15 f 1000 0 := by
  refine pk_loop (σ := Unit) (fun f i _ => wX_nextChance_27 post lim ad al it (nI l) fo a1 a2 a3 a4 a5 a6 a7 a8 a9 a10 a11 a12 a13 a14 a15 f (nI (ws_nc D BD l L1 i)) (nI i)) (fun _ _ => True) l 0 () (by omega) trivial ?_ ?_
  · exact fun f _ _ => pk_le l l (fun _ => h) (fun z => absurd z (by omega))
  · intro f i _ hi _ hw
    exact pk_le l i (fun z => absurd z (by omega)) (fun _ => ws_nc41 hlim hl5 hi (ws_nc_le D BD l L1 i) hD hBD (hw () trivial))
theorem ws_lim0 : ∀ v : Nat, v < 2 ^ 31 → (nI v ≤ -1 ↔ v < 0) := by
  intro v hv
  constructor
  · intro h
    rw [Int32.le_iff_toInt_le, nI_toInt hv] at h
    have e : (-1 : Int32).toInt = -1 := by decide
    rw [e] at h
    omega
  · intro h
    exact absurd h (Nat.not_lt_zero _)
theorem ws_next {rn s9 : Nat} (hrn : rn ≤ 10) (hs : rn = 10 → a15 9 = nI s9 ∧ s9 < 2 ^ 31) (hl5 : l ≤ 5) (hD : ∀ j, j < l → a9 j = nI (D j) ∧ D j ≤ 1000) (hBD : ∀ j, j < l → a12 j = nI (BD j) ∧ BD j ≤ 4096000)
    (h : post (nI (ws_nc D BD l (if rn = 10 then s9 + 1 else 0) l))) : wpX_nextChance post (ad, al, it, nI l, nI rn, a1, a2, a3, a4, a5, a6, a7, a8, a9, a10, a11, a12, a13, a14, a15) := by
  refine pk_eq rn 10 (fun e => nm_r (hs e).1 (ws_nc27 (L1 := s9 + 1) (fun v hv => ?_) hl5 hD hBD ?_)) (fun e => ws_nc27 (L1 := 0) ws_lim0 hl5 hD hBD ?_)
  · rw [nI_leI hv (hs e).2]
    omega
  · rw [if_pos e] at h
    exact h
  · rw [if_neg e] at h
    exact h
end
/-! ===== the row of the best ===== -/
def ws_at (rs : Nat → Nat) (v : Nat) : Nat → Nat
  | 0 => 0
  | k + 1 => if rs k < v then ws_at rs v k else k + 1
def ws_put (f : Nat → Nat) (k x i : Nat) : Nat := if i < k then f i else if i = k then x else f (i - 1)
theorem ws_put_lo {f : Nat → Nat} {k x i : Nat} (h : i < k) : ws_put f k x i = f i := if_pos h
theorem ws_put_at {f : Nat → Nat} {k x : Nat} : ws_put f k x k = x := by
  unfold ws_put
  rw [if_neg (by omega), if_pos rfl]
theorem ws_put_hi {f : Nat → Nat} {k x i : Nat} (h : k < i) : ws_put f k x i = f (i - 1) := by
  unfold ws_put
  rw [if_neg (by omega), if_neg (by omega)]
def ws_ins (r : Nat × (Nat → Nat) × (Nat → Nat)) (d v : Nat) : Nat × (Nat → Nat) × (Nat → Nat) :=
  if 10 ≤ ws_at r.2.2 v r.1 then r else (if r.1 < 10 then r.1 + 1 else r.1, ws_put r.2.1 (ws_at r.2.2 v r.1) d, ws_put r.2.2 (ws_at r.2.2 v r.1) v)
def ws_rw (r : Nat × (Nat → Nat) × (Nat → Nat)) (a14 a15 : Nat → Int32) : Prop := r.1 ≤ 10 ∧ ∀ i, i < r.1 → a14 i = nI (r.2.1 i) ∧ a15 i = nI (r.2.2 i) ∧ r.2.2 i < 2 ^ 30 ∧ r.2.1 i < 24
theorem ws_at_le (rs : Nat → Nat) (v k : Nat) : ws_at rs v k ≤ k := by
  induction k with
  | zero => exact Nat.le_refl _
  | succ k ih =>
    show (if rs k < v then ws_at rs v k else k + 1) ≤ k + 1
    split <;> omega
section
variable {ad al it la fo : Int32} {a1 a2 a3 a4 a5 a6 a7 a8 a9 a10 a11 a12 a13 a14 a15 : Nat → Int32} {post : St1 → Prop} {r : Nat × (Nat → Nat) × (Nat → Nat)} {d v : Nat}
theorem ws_offer (hd : d < 24) (hv : v < 2 ^ 30) (hr : ws_rw r a14 a15)
    (H : ∀ b14 b15, ws_rw (ws_ins r d v) b14 b15 → post (ad, al, it, la, nI (ws_ins r d v).1, a1, a2, a3, a4, a5, a6, a7, a8, a9, a10, a11, a12, a13, b14, b15)) : wpX_offer post (ad, al, it, la, nI r.1, a1, a2, a3, a4, a5, a6, a7, a8, a9, a10, a11, a12, a13, a14, a15) (nI d) (nI v) := by
  obtain ⟨rn, rd, rs⟩ := r
  obtain ⟨hn, hr⟩ := hr
  dsimp only at hn hr H ⊢
  have hat := ws_at_le rs v rn
  -- the end of the scan
  have fin : ∀ b14 b15, (∀ i, i < ws_at rs v rn → b14 i = nI (rd i) ∧ b15 i = nI (rs i)) → (∀ i, ws_at rs v rn < i → i ≤ rn → i < 10 → b14 i = nI (rd (i - 1)) ∧ b15 i = nI (rs (i - 1))) →
      wX_offer_75 post (nI d) (nI v) (nI (ws_at rs v rn)) ad al it la (nI rn) a1 a2 a3 a4 a5 a6 a7 a8 a9 a10 a11 a12 a13 b14 b15 := by
    intro b14 b15 h1 h2
    refine pk_le 10 (ws_at rs v rn) (fun z => ?_) (fun z => ?_)
    · have e : ws_ins (rn, rd, rs) d v = (rn, rd, rs) := if_pos z
      rw [e] at H
      refine H b14 b15 ⟨hn, fun i hi => ?_⟩
      dsimp only at hi ⊢
      have q := h1 i (by omega)
      have q2 := hr i hi
      exact ⟨q.1, q.2, q2.2.2.1, q2.2.2.2⟩
    · have e : ws_ins (rn, rd, rs) d v = (if rn < 10 then rn + 1 else rn, ws_put rd (ws_at rs v rn) d, ws_put rs (ws_at rs v rn) v) := if_neg (by dsimp only; omega)
      rw [e] at H
      dsimp only at H
      have hrow : ws_rw (if rn < 10 then rn + 1 else rn, ws_put rd (ws_at rs v rn) d, ws_put rs (ws_at rs v rn) v) (upd b14 (ws_at rs v rn) (nI d)) (upd b15 (ws_at rs v rn) (nI v)) := by
        refine ⟨by dsimp only; split <;> omega, fun i hi => ?_⟩
        dsimp only at hi ⊢
        have hi2 : i ≤ rn ∧ i < 10 := by
          by_cases q : rn < 10
          · rw [if_pos q] at hi; omega
          · rw [if_neg q] at hi; omega
        rcases Nat.lt_trichotomy i (ws_at rs v rn) with q | q | q
        · rw [ws_put_lo q, ws_put_lo q, pk_un (by omega), pk_un (by omega)]
          have q1 := h1 i q
          have q2 := hr i (by omega)
          exact ⟨q1.1, q1.2, q2.2.2.1, q2.2.2.2⟩
        · subst q
          rw [ws_put_at, ws_put_at, pk_us, pk_us]
          exact ⟨rfl, rfl, hv, hd⟩
        · rw [ws_put_hi q, ws_put_hi q, pk_un (by omega), pk_un (by omega)]
          have q1 := h2 i q hi2.1 hi2.2
          have q2 := hr (i - 1) (by omega)
          exact ⟨q1.1, q1.2, q2.2.2.1, q2.2.2.2⟩
      have k := H _ _ hrow
      refine ⟨pk_in (ws_at rs v rn) 10 (by omega), nm_r (e' := upd b15 (ws_at rs v rn) (nI v)) (by rw [nI_clamp (by omega)]) ⟨pk_in (ws_at rs v rn) 10 (by omega), nm_r (e' := upd b14 (ws_at rs v rn) (nI d)) (by rw [nI_clamp (by omega)]) (pk_le 10 rn (fun z2 => nm_r (nI_add rn 0) ?_) (fun z2 => nm_r (nI_1 rn) ?_))⟩⟩
      · rw [if_neg (by omega)] at k
        exact k
      · rw [if_pos z2] at k
        exact k
  -- the scan
  have scan : ∀ f x b14 b15, x < f → x ≤ rn → ws_at rs v x = ws_at rs v rn → (∀ i, i < x → b14 i = nI (rd i) ∧ b15 i = nI (rs i)) → (∀ i, x < i → i ≤ rn → i < 10 → b14 i = nI (rd (i - 1)) ∧ b15 i = nI (rs (i - 1))) →
      wX_offer_19 post (nI d) (nI v) ad al it la (nI rn) f (nI x) a1 a2 a3 a4 a5 a6 a7 a8 a9 a10 a11 a12 a13 b14 b15 := by
    intro f
    induction f with
    | zero => intro x b14 b15 h; omega
    | succ f ih =>
      intro x b14 b15 hf hx hax h1 h2
      refine pk_le x 0 (fun z => ?_) (fun z => ?_)
      · have e : x = 0 := by omega
        subst e
        have e2 : ws_at rs v rn = 0 := hax.symm
        have k := fin b14 b15 (by rw [e2]; exact h1) (by rw [e2]; exact h2)
        rw [e2] at k
        exact k
      · obtain ⟨y, ey⟩ : ∃ y, x = y + 1 := ⟨x - 1, by omega⟩
        subst ey
        have q2 := hr y (by omega)
        have ex : nI (y + 1) - 1 = nI y := ws_n1 y
        have e15 : b15 (nI (y + 1) - 1).toNatClampNeg = nI (rs y) := by rw [ex, nI_clamp (by omega), (h1 y (by omega)).2]
        have e14 : b14 (nI (y + 1) - 1).toNatClampNeg = nI (rd y) := by rw [ex, nI_clamp (by omega), (h1 y (by omega)).1]
        have iny : vp_in (nI (y + 1) - 1) 10 := pk_in y 10 (by omega) ex
        refine ⟨iny, pk_le v (rs y) (fun z3 => ?_) (fun z3 => pk_le 10 (y + 1) (fun z4 => nm_r (pk_m1 y) ?_) (fun z4 => ⟨iny, pk_in (y + 1) 10 (by omega), nm_r (e' := upd b15 (y + 1) (nI (rs y))) (by rw [e15, nI_clamp (by omega)]) ⟨iny, pk_in (y + 1) 10 (by omega), nm_r (e' := upd b14 (y + 1) (nI (rd y))) (by rw [e14, nI_clamp (by omega)]) (nm_r (pk_m1 y) ?_)⟩⟩)) rfl e15⟩
        · have e2 : ws_at rs v (y + 1) = y + 1 := if_neg (by omega)
          rw [e2] at hax
          have k := fin b14 b15 (by rw [← hax]; exact h1) (by rw [← hax]; exact h2)
          rw [← hax] at k
          exact k
        · have e2 : ws_at rs v (y + 1) = ws_at rs v y := if_pos z3
          refine ih y b14 b15 (by omega) (by omega) (e2.symm.trans hax) (fun i hi => h1 i (by omega)) (fun i hi1 hi2 hi3 => absurd hi3 (by omega))
        · have e2 : ws_at rs v (y + 1) = ws_at rs v y := if_pos z3
          refine ih y _ _ (by omega) (by omega) (e2.symm.trans hax) (fun i hi => ?_) (fun i hi1 hi2 hi3 => ?_)
          · rw [pk_un (by omega), pk_un (by omega)]
            exact h1 i (by omega)
          · by_cases ei : i = y + 1
            · subst ei
              rw [pk_us, pk_us]
              exact ⟨rfl, rfl⟩
            · rw [pk_un ei, pk_un ei]
              exact h2 i (by omega) hi2 hi3
  have go := scan (rn + 1) rn a14 a15 (by omega) (Nat.le_refl _) rfl (fun i hi => ⟨(hr i hi).1, (hr i hi).2.1⟩) (fun i h1 h2 _ => absurd h2 (by omega))
  refine pk_le 10 rn (fun z => ⟨rn + 1, ?_⟩) (fun z => ⟨rn + 1, go⟩)
  have e : rn = 10 := by omega
  subst e
  exact go
end
end
section
/-! ===== the ten best, without the program ===== -/
def ws_top (M : Nat → Bool) (sc : Nat → Nat) : Nat → Nat × (Nat → Nat) × (Nat → Nat)
  | 0 => (0, fun _ => 0, fun _ => 0)
  | d + 1 => if M d = true then ws_ins (ws_top M sc d) d (sc d) else ws_top M sc d
theorem ws_top_t {M : Nat → Bool} {sc : Nat → Nat} {d : Nat} (h : M d = true) : ws_top M sc (d + 1) = ws_ins (ws_top M sc d) d (sc d) := if_pos h
theorem ws_top_f {M : Nat → Bool} {sc : Nat → Nat} {d : Nat} (h : M d = false) : ws_top M sc (d + 1) = ws_top M sc d := if_neg (by rw [h]; decide)
/-- how many of the documents below d match and score at least s -/
def ws_ct (M : Nat → Bool) (sc : Nat → Nat) (s e : Nat) : Bool := M e && decide (s ≤ sc e)
def ws_inv (M : Nat → Bool) (sc : Nat → Nat) (d : Nat) (r : Nat × (Nat → Nat) × (Nat → Nat)) : Prop :=
  (r.1 = if ws_cn M d < 10 then ws_cn M d else 10) ∧ (∀ i, i < r.1 → r.2.1 i < d ∧ M (r.2.1 i) = true ∧ r.2.2 i = sc (r.2.1 i)) ∧
  (∀ i, i + 1 < r.1 → r.2.2 (i + 1) ≤ r.2.2 i ∧ (r.2.2 (i + 1) = r.2.2 i → r.2.1 i < r.2.1 (i + 1))) ∧ (∀ i, i < r.1 → i + 1 ≤ ws_cn (ws_ct M sc (r.2.2 i)) d)
theorem ws_at_hi (rs : Nat → Nat) (v : Nat) : ∀ k i, ws_at rs v k ≤ i → i < k → rs i < v := by
  intro k
  induction k with
  | zero => intro i _ h; exact absurd h (Nat.not_lt_zero _)
  | succ k ih =>
    intro i h1 h2
    by_cases e : rs k < v
    · have e2 : ws_at rs v (k + 1) = ws_at rs v k := if_pos e
      rw [e2] at h1
      by_cases ei : i = k
      · rw [ei]; exact e
      · exact ih i h1 (by omega)
    · have e2 : ws_at rs v (k + 1) = k + 1 := if_neg e
      omega
theorem ws_at_lo (rs : Nat → Nat) (v : Nat) : ∀ k, 0 < ws_at rs v k → v ≤ rs (ws_at rs v k - 1) := by
  intro k
  induction k with
  | zero => intro h; exact absurd h (Nat.not_lt_zero _)
  | succ k ih =>
    intro h
    by_cases e : rs k < v
    · have e2 : ws_at rs v (k + 1) = ws_at rs v k := if_pos e
      rw [e2] at h ⊢
      exact ih h
    · have e2 : ws_at rs v (k + 1) = k + 1 := if_neg e
      rw [e2]
      exact Nat.le_of_not_lt e
theorem ws_ct_s {M : Nat → Bool} {sc : Nat → Nat} {s d : Nat} (hM : M d = true) (h : s ≤ sc d) : ws_cn (ws_ct M sc s) (d + 1) = ws_cn (ws_ct M sc s) d + 1 := by
  refine ws_cn_t ?_
  unfold ws_ct
  rw [hM, decide_eq_true h]
  rfl
theorem ws_ct_mono {M : Nat → Bool} {sc : Nat → Nat} {s s' d : Nat} (h : s ≤ s') : ws_cn (ws_ct M sc s') d ≤ ws_cn (ws_ct M sc s) d := by
  refine ws_cn_imp d (fun e _ he => ?_)
  unfold ws_ct at he ⊢
  have k := Bool.and_eq_true_iff.mp he
  have k2 := of_decide_eq_true k.2
  rw [k.1, decide_eq_true (by omega)]
  rfl
theorem ws_inv_f {M : Nat → Bool} {sc : Nat → Nat} {d : Nat} {r : Nat × (Nat → Nat) × (Nat → Nat)} (h : ws_inv M sc d r) (hM : M d = false) : ws_inv M sc (d + 1) r := by
  obtain ⟨h1, h2, h3, h4⟩ := h
  refine ⟨by rw [ws_cn_f hM]; exact h1, fun i hi => ?_, h3, fun i hi => Nat.le_trans (h4 i hi) (ws_cn_s _ d)⟩
  obtain ⟨q1, q2, q3⟩ := h2 i hi
  exact ⟨by omega, q2, q3⟩
theorem ws_inv_t {M : Nat → Bool} {sc : Nat → Nat} {d : Nat} {r : Nat × (Nat → Nat) × (Nat → Nat)} (h : ws_inv M sc d r) (hM : M d = true) : ws_inv M sc (d + 1) (ws_ins r d (sc d)) := by
  obtain ⟨rn, rd, rs⟩ := r
  obtain ⟨h1, h2, h3, h4⟩ := h
  dsimp only at h1 h2 h3 h4
  have hcn := ws_cn_t hM
  have hal := ws_at_le rs (sc d) rn
  have hhi := ws_at_hi rs (sc d) rn
  have hlo := ws_at_lo rs (sc d) rn
  by_cases z : 10 ≤ ws_at rs (sc d) rn
  · have e : ws_ins (rn, rd, rs) d (sc d) = (rn, rd, rs) := if_pos z
    rw [e]
    have hrn : ws_cn M d ≥ 10 ∧ rn = 10 := by
      by_cases q : ws_cn M d < 10
      · rw [if_pos q] at h1; omega
      · rw [if_neg q] at h1; omega
    refine ⟨?_, fun i hi => ?_, h3, fun i hi => Nat.le_trans (h4 i hi) (ws_cn_s _ d)⟩
    · try dsimp only
      rw [hcn, if_neg (by omega)]
      exact hrn.2
    · obtain ⟨q1, q2, q3⟩ := h2 i hi
      exact ⟨by dsimp only at q1 ⊢; omega, q2, q3⟩
  · have e : ws_ins (rn, rd, rs) d (sc d) = (if rn < 10 then rn + 1 else rn, ws_put rd (ws_at rs (sc d) rn) d, ws_put rs (ws_at rs (sc d) rn) (sc d)) := if_neg z
    rw [e]
    have hrn10 : rn ≤ 10 := by
      by_cases q : ws_cn M d < 10
      · rw [if_pos q] at h1; omega
      · rw [if_neg q] at h1; omega
    have hi2 : ∀ i, i < (if rn < 10 then rn + 1 else rn) → i ≤ rn ∧ i < 10 := by
      intro i hi
      by_cases q : rn < 10
      · rw [if_pos q] at hi; omega
      · rw [if_neg q] at hi; omega
    generalize ws_at rs (sc d) rn = k at *
    refine ⟨?_, ?_, ?_, ?_⟩
    · try dsimp only
      rw [hcn]
      by_cases q : ws_cn M d < 10
      · rw [if_pos q] at h1
        rw [h1, if_pos q]
        by_cases q2 : ws_cn M d + 1 < 10
        · rw [if_pos q2]
        · rw [if_neg q2]; omega
      · rw [if_neg q] at h1
        rw [h1, if_neg (by omega), if_neg (by omega)]
    · intro i hi
      dsimp only at hi ⊢
      have hi3 := hi2 i hi
      rcases Nat.lt_trichotomy i k with q | q | q
      · rw [ws_put_lo q, ws_put_lo q]
        obtain ⟨q1, q2, q3⟩ := h2 i (by omega)
        exact ⟨by omega, q2, q3⟩
      · subst q
        rw [ws_put_at, ws_put_at]
        exact ⟨by omega, hM, rfl⟩
      · rw [ws_put_hi q, ws_put_hi q]
        obtain ⟨q1, q2, q3⟩ := h2 (i - 1) (by omega)
        exact ⟨by omega, q2, q3⟩
    · intro i hi
      dsimp only at hi ⊢
      have hi3 := hi2 (i + 1) hi
      rcases Nat.lt_trichotomy (i + 1) k with q | q | q
      · rw [ws_put_lo q, ws_put_lo q, ws_put_lo (show i < k by omega), ws_put_lo (show i < k by omega)]
        exact h3 i (by omega)
      · subst q
        rw [ws_put_at, ws_put_at, ws_put_lo (show i < i + 1 by omega), ws_put_lo (show i < i + 1 by omega)]
        exact ⟨hlo (by omega), fun _ => (h2 i (by omega)).1⟩
      · rw [ws_put_hi q, ws_put_hi q]
        by_cases q2 : i = k
        · subst q2
          rw [ws_put_at, ws_put_at]
          have q3 := hhi i (Nat.le_refl _) (by omega)
          rw [show i + 1 - 1 = i by omega]
          exact ⟨by omega, fun z => absurd z (by omega)⟩
        · rw [ws_put_hi (show k < i by omega), ws_put_hi (show k < i by omega)]
          have q3 := h3 (i - 1) (by omega)
          rw [show i - 1 + 1 = i by omega] at q3
          rw [show i + 1 - 1 = i by omega]
          exact q3
    · intro i hi
      dsimp only at hi ⊢
      have hi3 := hi2 i hi
      rcases Nat.lt_trichotomy i k with q | q | q
      · rw [ws_put_lo q]
        exact Nat.le_trans (h4 i (by omega)) (ws_cn_s _ d)
      · subst q
        rw [ws_put_at, ws_ct_s hM (Nat.le_refl _)]
        by_cases q2 : i = 0
        · omega
        · have q3 := h4 (i - 1) (by omega)
          have q4 := ws_ct_mono (M := M) (sc := sc) (d := d) (hlo (by omega))
          omega
      · rw [ws_put_hi q]
        have q3 := hhi (i - 1) (by omega) (by omega)
        rw [ws_ct_s hM (by omega)]
        have q4 := h4 (i - 1) (by omega)
        omega
theorem ws_top_inv (M : Nat → Bool) (sc : Nat → Nat) : ∀ d, ws_inv M sc d (ws_top M sc d) := by
  intro d
  induction d with
  | zero => exact ⟨rfl, fun i h => absurd h (Nat.not_lt_zero _), fun i h => absurd h (Nat.not_lt_zero _), fun i h => absurd h (Nat.not_lt_zero _)⟩
  | succ d ih =>
    cases hM : M d
    · rw [ws_top_f hM]
      exact ws_inv_f ih hM
    · rw [ws_top_t hM]
      exact ws_inv_t ih hM
/-- documents that cannot come in change nothing -/
theorem ws_top_skip {M : Nat → Bool} {sc : Nat → Nat} {F : Nat} : ∀ e, F ≤ e → (∀ d, F ≤ d → d < e → M d = true → (ws_top M sc F).1 = 10 ∧ sc d ≤ (ws_top M sc F).2.2 9) → ws_top M sc e = ws_top M sc F := by
  intro e
  induction e with
  | zero => intro h _; rw [show F = 0 by omega]
  | succ e ih =>
    intro h hs
    by_cases e1 : F = e + 1
    · rw [e1]
    · have k := ih (by omega) (fun d h1 h2 => hs d h1 (by omega))
      cases hM : M e
      · rw [ws_top_f hM]
        exact k
      · obtain ⟨q1, q2⟩ := hs e (by omega) (by omega) hM
        rw [ws_top_t hM, k]
        refine if_pos ?_
        rw [q1]
        have e2 : ws_at (ws_top M sc F).2.2 (sc e) 10 = 10 := if_neg (Nat.not_lt.mpr q2)
        rw [e2]
        exact Nat.le_refl _
/-! ===== the lanes of a document ===== -/
theorem ws_M_lane {al : Int32} {m : Nat} {w b : Nat → Nat} {c : Nat → Nat → Nat} {d : Nat} (h : ws_M al m w b c d = true) : ws_bt al d = true ∧ ∃ j, j < ws_l m b ∧ ws_hp al c (ws_T m w b j) d = true := by
  unfold ws_M at h
  have k := Bool.and_eq_true_iff.mp h
  refine ⟨k.1, ?_⟩
  have k2 := k.2
  unfold ws_mt at k2
  have k3 := of_decide_eq_true (Bool.and_eq_true_iff.mp k2).2
  obtain ⟨i, i1, i2, i3⟩ := ws_cn_ex m k3
  unfold ws_any at i2
  have k4 := Bool.and_eq_true_iff.mp i2
  have hp : ws_pb b i = true := k4.1
  refine ⟨ws_cn (ws_pb b) i, ws_cn_lt i1 hp, ?_⟩
  unfold ws_T ws_hp
  rw [ws_sel_at hp m i1, k.1, k4.2]
  rfl
theorem ws_nx_le {p : Nat → Bool} {f n d : Nat} (hn : n ≤ 24) (h1 : f ≤ d) (h2 : d < n) (h3 : p d = true) : ws_nx p f n ≤ d := by
  rcases ws_nx_or p (f := f) hn with ⟨_, k⟩ | ⟨_, _, _, k⟩
  · rw [k d h1 h2] at h3
    exact absurd h3 (by decide)
  · rcases Nat.lt_or_ge d (ws_nx p f n) with z | z
    · rw [k d h1 z] at h3
      exact absurd h3 (by decide)
    · exact z
theorem ws_nx_1000 (p : Nat → Bool) {f n : Nat} (hn : n ≤ 24) : ws_nx p f n ≤ 1000 := by
  rcases ws_nx_or p (f := f) hn with ⟨k, _⟩ | ⟨k, _⟩ <;> omega
theorem ws_maxl (D : Nat → Nat) (x : Nat) : ∀ l j, j < l → D j ≤ x → ∃ k, k < l ∧ D k ≤ x ∧ ∀ i, i < l → D i ≤ x → D i ≤ D k := by
  intro l
  induction l with
  | zero => intro j h; exact absurd h (Nat.not_lt_zero _)
  | succ l ih =>
    intro j hj hx
    by_cases hl : D l ≤ x
    · by_cases he : ∃ j', j' < l ∧ D j' ≤ x
      · obtain ⟨j', q1, q2⟩ := he
        obtain ⟨k, k1, k2, k3⟩ := ih j' q1 q2
        by_cases hc : D l ≤ D k
        · refine ⟨k, by omega, k2, fun i hi hi2 => ?_⟩
          by_cases e : i = l
          · rw [e]; exact hc
          · exact k3 i (by omega) hi2
        · refine ⟨l, by omega, hl, fun i hi hi2 => ?_⟩
          by_cases e : i = l
          · rw [e]; exact Nat.le_refl _
          · have := k3 i (by omega) hi2
            omega
      · refine ⟨l, by omega, hl, fun i hi hi2 => ?_⟩
        by_cases e : i = l
        · rw [e]; exact Nat.le_refl _
        · exact absurd ⟨i, by omega, hi2⟩ he
    · have hjl : j ≠ l := fun e => hl (e ▸ hx)
      obtain ⟨k, k1, k2, k3⟩ := ih j (by omega) hx
      refine ⟨k, by omega, k2, fun i hi hi2 => ?_⟩
      by_cases e : i = l
      · subst e
        exact absurd hi2 hl
      · exact k3 i (by omega) hi2
theorem ws_str0 (len : Nat) : ws_str 0 len = 0 := if_pos rfl
section
variable {n : Nat} {al : Int32} {c : Nat → Nat → Nat} {ln : Nat → Nat} {l : Nat} {T W BD : Nat → Nat} {a11 a12 a13 : Nat → Int32}
theorem ws_sc_le (hl5 : l ≤ 5) (hO : ws_OS n al c ln l T W BD a11 a12 a13) (d : Nat) : ws_sc l T W c ln d ≤ 20480000 := by
  unfold ws_sc
  have k := ws_sm_b (f := fun j => W j * ws_str (c d (T j)) (ln d)) (B := 4096000) l (fun j hj => Nat.le_trans (Nat.mul_le_mul (hO j hj).2.1 (ws_str_le _ _)) (by omega))
  omega
/-- the score of a live document below the next chance is below the limit -/
theorem ws_low (hn : n ≤ 24) (hO : ws_OS n al c ln l T W BD a11 a12 a13) {F L1 d : Nat} (hF : F ≤ d) (hd : d < n) (hb : ws_bt al d = true) (hlane : ∃ j, j < l ∧ ws_hp al c (T j) d = true)
    (hnx : d < ws_nc (fun j => ws_nx (ws_hp al c (T j)) F n) BD l L1 l) : ws_sc l T W c ln d < L1 := by
  obtain ⟨j, hj, hh⟩ := hlane
  obtain ⟨k, k1, k2, k3⟩ := ws_maxl (fun j => ws_nx (ws_hp al c (T j)) F n) d l j hj (ws_nx_le hn hF hd hh)
  try dsimp only at k2 k3
  have q := ws_nc_low (fun j => ws_nx (ws_hp al c (T j)) F n) BD l L1 l k k1 (by (try dsimp only); omega)
  refine Nat.lt_of_le_of_lt ?_ q
  unfold ws_sc ws_bs
  refine ws_sm_le l (fun i hi => ?_)
  try dsimp only
  by_cases hc : 0 < c d (T i)
  · have hp : ws_hp al c (T i) d = true := by
      unfold ws_hp
      rw [hb, decide_eq_true hc]
      rfl
    rw [if_pos (k3 i hi (ws_nx_le hn hF hd hp))]
    exact (hO i hi).2.2.2.2.2.2 d hd hp
  · rw [show c d (T i) = 0 by omega, ws_str0, Nat.mul_zero]
    exact Nat.zero_le _
theorem ws_here (hn : n ≤ 24) {F d : Nat} (hF : F ≤ d) (hd : d < n) (hb : ws_bt al d = true) (hmn : ∀ j, j < l → d ≤ ws_nx (ws_hp al c (T j)) F n) :
    ws_sm (fun j => if ws_nx (ws_hp al c (T j)) F n = d then W j * ws_str (c d (T j)) (ln d) else 0) l = ws_sc l T W c ln d := by
  unfold ws_sc
  refine ws_sm_congr l (fun i hi => ?_)
  try dsimp only
  by_cases hc : 0 < c d (T i)
  · have hp : ws_hp al c (T i) d = true := by
      unfold ws_hp
      rw [hb, decide_eq_true hc]
      rfl
    have k := ws_nx_le hn hF hd hp
    have k2 := hmn i hi
    rw [if_pos (by omega)]
  · rw [show c d (T i) = 0 by omega, ws_str0, Nat.mul_zero]
    split <;> rfl
end
end
section
/-! ===== all lanes move on ===== -/
section
variable {ad al it la fo : Int32} {a1 a2 a3 a4 a5 a6 a7 a8 a9 a10 a11 a12 a13 a14 a15 : Nat → Int32} {n m : Nat} {g : Nat → Bool} {c : Nat → Nat → Nat} {ln w b : Nat → Nat} {l F : Nat} {T W BD : Nat → Nat}
theorem ws_fb65 {J : Int32 → Int32 → Int32 → Int32 → Int32 → Int32 → (Nat → Int32) → (Nat → Int32) → (Nat → Int32) → (Nat → Int32) → (Nat → Int32) → (Nat → Int32) → (Nat → Int32) → (Nat → Int32) → (Nat → Int32) → (Nat → Int32) → (Nat → Int32) → (Nat → Int32) → (Nat → Int32) → (Nat → Int32) → (Nat → Int32) → Prop} {post : St1 → Prop} {rnd x : Nat} (hl5 : l ≤ 5) (hn : n ≤ 24) (hx : x + 1 ≤ 1000) (hF : F ≤ x + 1) (hls : ws_ls n al g c a1 a2) (hO : ws_OS n al c ln l T W BD a11 a12 a13) (hP : ws_OP n al g c l T F a8 a9 a10)
    (H : ∀ a8 a9 a10, ws_OP n al g c l T (x + 1) a8 a9 a10 → J (nI (rnd + 1)) (nI n) al it (nI l) fo a1 a2 a3 a4 a5 a6 a7 a8 a9 a10 a11 a12 a13 a14 a15) : ∃ f, wX_findBest_65 post J (nI rnd) (nI x) f 0 (nI n) al it (nI l) fo a1 a2 a3 a4 a5 a6 a7 a8 a9 a10 a11 a12 a13 a14 a15 := by
  refine pk_loop (σ := (Nat → Int32) × (Nat → Int32) × (Nat → Int32)) (fun f i s => wX_findBest_65 post J (nI rnd) (nI x) f (nI i) (nI n) al it (nI l) fo a1 a2 a3 a4 a5 a6 a7 s.1 s.2.1 s.2.2 a11 a12 a13 a14 a15)
    (fun i s => (∀ j, j < i → j < l → ws_lp n al g c (T j) (x + 1) (s.1 j) (s.2.1 j) (s.2.2 j)) ∧ (∀ j, i ≤ j → j < l → ws_lp n al g c (T j) F (s.1 j) (s.2.1 j) (s.2.2 j))) l 0 (a8, a9, a10) (by omega) ⟨fun j h => absurd h (Nat.not_lt_zero _), fun j _ h => hP j h⟩ ?_ ?_
  · exact fun f s hI => pk_le l l (fun _ => nm_r (nI_1 rnd) (H s.1 s.2.1 s.2.2 (fun j hj => hI.1 j hj hj))) (fun z => absurd z (by omega))
  · intro f i s hi hI hw
    obtain ⟨s8, s9, s10⟩ := s
    obtain ⟨hI1, hI2⟩ := hI
    dsimp only at hI1 hI2 hw ⊢
    obtain ⟨o1, o2, o3, o4, o5, o6, o7⟩ := hO i hi
    refine pk_le l i (fun z => absurd z (by omega)) (fun _ => ?_)
    rw [nI_1 x]
    refine ws_moveTo (f := F) (F := x + 1) (by omega) o1 hn hx hF hls o4 (hI2 i (Nat.le_refl _) hi) (fun b8 b9 b10 hfr hlp => nm_r (nI_1 i) (hw (b8, b9, b10) ⟨fun j hj hj2 => ?_, fun j hj hj2 => ?_⟩))
    · by_cases e : j = i
      · rw [e]
        exact hlp
      · obtain ⟨r1, r2, r3⟩ := hfr j e
        dsimp only
        rw [r1, r2, r3]
        exact hI1 j (by omega) hj2
    · obtain ⟨r1, r2, r3⟩ := hfr j (by omega)
      dsimp only
      rw [r1, r2, r3]
      exact hI2 j (by omega) hj2
theorem ws_fb95 {J : Int32 → Int32 → Int32 → Int32 → Int32 → Int32 → (Nat → Int32) → (Nat → Int32) → (Nat → Int32) → (Nat → Int32) → (Nat → Int32) → (Nat → Int32) → (Nat → Int32) → (Nat → Int32) → (Nat → Int32) → (Nat → Int32) → (Nat → Int32) → (Nat → Int32) → (Nat → Int32) → (Nat → Int32) → (Nat → Int32) → Prop} {post : St1 → Prop} {rnd x : Nat} (hl5 : l ≤ 5) (hn : n ≤ 24) (hx : x ≤ 1000) (hF : F ≤ x) (hls : ws_ls n al g c a1 a2) (hO : ws_OS n al c ln l T W BD a11 a12 a13) (hP : ws_OP n al g c l T F a8 a9 a10)
    (H : ∀ a8 a9 a10, ws_OP n al g c l T (x) a8 a9 a10 → J (nI (rnd + 1)) (nI n) al it (nI l) fo a1 a2 a3 a4 a5 a6 a7 a8 a9 a10 a11 a12 a13 a14 a15) : ∃ f, wX_findBest_95 post J (nI rnd) (nI x) f 0 (nI n) al it (nI l) fo a1 a2 a3 a4 a5 a6 a7 a8 a9 a10 a11 a12 a13 a14 a15 := by
  refine pk_loop (σ := (Nat → Int32) × (Nat → Int32) × (Nat → Int32)) (fun f i s => wX_findBest_95 post J (nI rnd) (nI x) f (nI i) (nI n) al it (nI l) fo a1 a2 a3 a4 a5 a6 a7 s.1 s.2.1 s.2.2 a11 a12 a13 a14 a15)
    (fun i s => (∀ j, j < i → j < l → ws_lp n al g c (T j) (x) (s.1 j) (s.2.1 j) (s.2.2 j)) ∧ (∀ j, i ≤ j → j < l → ws_lp n al g c (T j) F (s.1 j) (s.2.1 j) (s.2.2 j))) l 0 (a8, a9, a10) (by omega) ⟨fun j h => absurd h (Nat.not_lt_zero _), fun j _ h => hP j h⟩ ?_ ?_
  · exact fun f s hI => pk_le l l (fun _ => nm_r (nI_1 rnd) (H s.1 s.2.1 s.2.2 (fun j hj => hI.1 j hj hj))) (fun z => absurd z (by omega))
  · intro f i s hi hI hw
    obtain ⟨s8, s9, s10⟩ := s
    obtain ⟨hI1, hI2⟩ := hI
    dsimp only at hI1 hI2 hw ⊢
    obtain ⟨o1, o2, o3, o4, o5, o6, o7⟩ := hO i hi
    refine pk_le l i (fun z => absurd z (by omega)) (fun _ => ?_)
    refine ws_moveTo (f := F) (F := x) (by omega) o1 hn hx hF hls o4 (hI2 i (Nat.le_refl _) hi) (fun b8 b9 b10 hfr hlp => nm_r (nI_1 i) (hw (b8, b9, b10) ⟨fun j hj hj2 => ?_, fun j hj hj2 => ?_⟩))
    · by_cases e : j = i
      · rw [e]
        exact hlp
      · obtain ⟨r1, r2, r3⟩ := hfr j e
        dsimp only
        rw [r1, r2, r3]
        exact hI1 j (by omega) hj2
    · obtain ⟨r1, r2, r3⟩ := hfr j (by omega)
      dsimp only
      rw [r1, r2, r3]
      exact hI2 j (by omega) hj2
theorem ws_sg56 {J : Int32 → Int32 → Int32 → Int32 → Int32 → Int32 → Int32 → (Nat → Int32) → (Nat → Int32) → (Nat → Int32) → (Nat → Int32) → (Nat → Int32) → (Nat → Int32) → (Nat → Int32) → (Nat → Int32) → (Nat → Int32) → (Nat → Int32) → (Nat → Int32) → (Nat → Int32) → (Nat → Int32) → (Nat → Int32) → (Nat → Int32) → Prop} {post : Int32 → St1 → Prop} {bnd x2 : Int32} {rnd x : Nat} (hl5 : l ≤ 5) (hn : n ≤ 24) (hx : x + 1 ≤ 1000) (hF : F ≤ x + 1) (hls : ws_ls n al g c a1 a2) (hO : ws_OS n al c ln l T W BD a11 a12 a13) (hP : ws_OP n al g c l T F a8 a9 a10)
    (H : ∀ a8 a9 a10, ws_OP n al g c l T (x + 1) a8 a9 a10 → J x2 (nI (rnd + 1)) (nI n) al it (nI l) fo a1 a2 a3 a4 a5 a6 a7 a8 a9 a10 a11 a12 a13 a14 a15) : ∃ f, wX_scoring_56 post J bnd x2 (nI rnd) (nI x) f 0 (nI n) al it (nI l) fo a1 a2 a3 a4 a5 a6 a7 a8 a9 a10 a11 a12 a13 a14 a15 := by
  refine pk_loop (σ := (Nat → Int32) × (Nat → Int32) × (Nat → Int32)) (fun f i s => wX_scoring_56 post J bnd x2 (nI rnd) (nI x) f (nI i) (nI n) al it (nI l) fo a1 a2 a3 a4 a5 a6 a7 s.1 s.2.1 s.2.2 a11 a12 a13 a14 a15)
    (fun i s => (∀ j, j < i → j < l → ws_lp n al g c (T j) (x + 1) (s.1 j) (s.2.1 j) (s.2.2 j)) ∧ (∀ j, i ≤ j → j < l → ws_lp n al g c (T j) F (s.1 j) (s.2.1 j) (s.2.2 j))) l 0 (a8, a9, a10) (by omega) ⟨fun j h => absurd h (Nat.not_lt_zero _), fun j _ h => hP j h⟩ ?_ ?_
  · exact fun f s hI => pk_le l l (fun _ => nm_r (nI_1 rnd) (H s.1 s.2.1 s.2.2 (fun j hj => hI.1 j hj hj))) (fun z => absurd z (by omega))
  · intro f i s hi hI hw
    obtain ⟨s8, s9, s10⟩ := s
    obtain ⟨hI1, hI2⟩ := hI
    dsimp only at hI1 hI2 hw ⊢
    obtain ⟨o1, o2, o3, o4, o5, o6, o7⟩ := hO i hi
    refine pk_le l i (fun z => absurd z (by omega)) (fun _ => ?_)
    rw [nI_1 x]
    refine ws_moveTo (f := F) (F := x + 1) (by omega) o1 hn hx hF hls o4 (hI2 i (Nat.le_refl _) hi) (fun b8 b9 b10 hfr hlp => nm_r (nI_1 i) (hw (b8, b9, b10) ⟨fun j hj hj2 => ?_, fun j hj hj2 => ?_⟩))
    · by_cases e : j = i
      · rw [e]
        exact hlp
      · obtain ⟨r1, r2, r3⟩ := hfr j e
        dsimp only
        rw [r1, r2, r3]
        exact hI1 j (by omega) hj2
    · obtain ⟨r1, r2, r3⟩ := hfr j (by omega)
      dsimp only
      rw [r1, r2, r3]
      exact hI2 j (by omega) hj2
end
end
section
/-! ===== the search ===== -/
def ws_S (n : Nat) (al : Int32) (c : Nat → Nat → Nat) (ln : Nat → Nat) (m : Nat) (w b : Nat → Nat) (d : Nat) : Nat := ws_sc (ws_l m b) (ws_T m w b) (ws_W n al c m w b) c ln d
def ws_R (n : Nat) (al : Int32) (c : Nat → Nat → Nat) (ln : Nat → Nat) (m : Nat) (w b : Nat → Nat) (F : Nat) : Nat × (Nat → Nat) × (Nat → Nat) := ws_top (ws_M al m w b c) (ws_S n al c ln m w b) F
def ws_D (n : Nat) (al : Int32) (c : Nat → Nat → Nat) (m : Nat) (w b : Nat → Nat) (F j : Nat) : Nat := ws_nx (ws_hp al c (ws_T m w b j)) F n
def ws_rk (rn : Nat) (f : Nat → Nat) (i : Nat) : Int32 := if i < rn then nI (f i) else -2
section
variable {ad al it la fo : Int32} {a1 a2 a3 a4 a5 a6 a7 a8 a9 a10 a11 a12 a13 a14 a15 : Nat → Int32} {n m : Nat} {g : Nat → Bool} {c : Nat → Nat → Nat} {ln w b BD : Nat → Nat}
theorem ws_l5 (hi : ws_im m w b a6 a7) : ws_l m b ≤ 5 := Nat.le_trans (ws_cn_le _ m) hi.1
theorem ws_hD (hn : n ≤ 24) {F : Nat} (hP : ws_OP n al g c (ws_l m b) (ws_T m w b) F a8 a9 a10) : ∀ j, j < ws_l m b → a9 j = nI (ws_D n al c m w b F j) ∧ ws_D n al c m w b F j ≤ 1000 :=
  fun j hj => ⟨(hP j hj).1, ws_nx_1000 _ hn⟩
/-- a lane's document is a live one from F on -/
theorem ws_Dok (hn : n ≤ 24) {F j : Nat} (h : ws_D n al c m w b F j ≠ 1000) : ws_D n al c m w b F j < n ∧ F ≤ ws_D n al c m w b F j ∧ ws_bt al (ws_D n al c m w b F j) = true := by
  rcases ws_nx_or (ws_hp al c (ws_T m w b j)) (f := F) hn with ⟨k, _⟩ | ⟨k1, k2, k3, _⟩
  · exact absurd k h
  · refine ⟨k1, k2, ?_⟩
    unfold ws_hp at k3
    exact (Bool.and_eq_true_iff.mp k3).1
theorem ws_fb11 {post : St1 → Prop} (hn : n ≤ 24) (hls : ws_ls n al g c a1 a2) (htb : ws_tb n c ln a3 a4) (him : ws_im m w b a6 a7) (hO : ws_OS n al c ln (ws_l m b) (ws_T m w b) (ws_W n al c m w b) BD a11 a12 a13)
    (H : ∀ fo a8 a9 a10 a14 a15, fo = nI (ws_R n al c ln m w b n).1 → ws_rw (ws_R n al c ln m w b n) a14 a15 → post (nI n, al, nI m, nI (ws_l m b), fo, a1, a2, a3, a4, a5, a6, a7, a8, a9, a10, a11, a12, a13, a14, a15)) :
    ∀ f F rnd a8 a9 a10 a14 a15, F ≤ n → n - F < f → rnd ≤ F → ws_OP n al g c (ws_l m b) (ws_T m w b) F a8 a9 a10 → ws_rw (ws_R n al c ln m w b F) a14 a15 →
      wX_findBest_11 post f (nI rnd) (nI n) al (nI m) (nI (ws_l m b)) (nI (ws_R n al c ln m w b F).1) a1 a2 a3 a4 a5 a6 a7 a8 a9 a10 a11 a12 a13 a14 a15 := by
  have hl5 := ws_l5 him
  intro f
  induction f with
  | zero => intro F rnd a8 a9 a10 a14 a15 _ h; omega
  | succ f ih =>
    intro F rnd a8 a9 a10 a14 a15 hF hf hr hP hrow
    have hD := ws_hD hn hP
    have hBD : ∀ j, j < ws_l m b → a12 j = nI (BD j) ∧ BD j ≤ 4096000 := fun j hj => ⟨(hO j hj).2.2.2.2.2.1, (hO j hj).2.2.1⟩
    refine pk_le 125 rnd (fun z => absurd z (by omega)) (fun _ => ws_next (D := ws_D n al c m w b F) (BD := BD) (rn := (ws_R n al c ln m w b F).1) (s9 := (ws_R n al c ln m w b F).2.2 9) hrow.1 (fun e => ⟨(hrow.2 9 (by omega)).2.1, by have := (hrow.2 9 (by omega)).2.2.1; omega⟩) hl5 hD hBD ?_)
    have hNCle := ws_nc_le (ws_D n al c m w b F) BD (ws_l m b) (if (ws_R n al c ln m w b F).1 = 10 then (ws_R n al c ln m w b F).2.2 9 + 1 else 0) (ws_l m b)
    have hNCex := ws_nc_ex (ws_D n al c m w b F) BD (ws_l m b) (if (ws_R n al c ln m w b F).1 = 10 then (ws_R n al c ln m w b F).2.2 9 + 1 else 0) (ws_l m b)
    have skip : ∀ e, F ≤ e → e ≤ n → e ≤ ws_nc (ws_D n al c m w b F) BD (ws_l m b) (if (ws_R n al c ln m w b F).1 = 10 then (ws_R n al c ln m w b F).2.2 9 + 1 else 0) (ws_l m b) → ws_R n al c ln m w b e = ws_R n al c ln m w b F := by
      intro e h1 h2 h3
      refine ws_top_skip e h1 (fun d d1 d2 hM => ?_)
      obtain ⟨hb, hlane⟩ := ws_M_lane hM
      have q := ws_low hn hO d1 (by omega) hb hlane (Nat.lt_of_lt_of_le d2 h3)
      by_cases e10 : (ws_R n al c ln m w b F).1 = 10
      · rw [if_pos e10] at q
        exact ⟨e10, Nat.le_of_lt_succ q⟩
      · rw [if_neg e10] at q
        exact absurd q (Nat.not_lt_zero _)
    generalize ws_nc (ws_D n al c m w b F) BD (ws_l m b) (if (ws_R n al c ln m w b F).1 = 10 then (ws_R n al c ln m w b F).2.2 9 + 1 else 0) (ws_l m b) = NC at hNCle hNCex skip ⊢
    refine pk_eq NC 1000 (fun e => ?_) (fun e => ws_least hl5 hD ?_)
    · have k := skip n hF (Nat.le_refl _) (by omega)
      refine H _ a8 a9 a10 a14 a15 ?_ ?_
      · rw [k]
      · rw [k]
        exact hrow
    · have hMNle := ws_mn_le (ws_D n al c m w b F) (ws_l m b)
      have hMNall := ws_mn_all (ws_D n al c m w b F) (ws_l m b)
      have hMNex := ws_mn_ex (ws_D n al c m w b F) (ws_l m b)
      generalize ws_mn (ws_D n al c m w b F) (ws_l m b) = MN at hMNle hMNall hMNex ⊢
      obtain ⟨jn, jn1, jn2⟩ : ∃ j, j < ws_l m b ∧ ws_D n al c m w b F j = NC := by
        rcases hNCex with z | ⟨j, h1, h2, _⟩
        · exact absurd z e
        · exact ⟨j, h1, h2⟩
      have hNCok := ws_Dok (n := n) (al := al) (c := c) (m := m) (w := w) (b := b) (F := F) (j := jn) hn (by rw [jn2]; exact e)
      rw [jn2] at hNCok
      have hMNNC : MN ≤ NC := by
        have := hMNall jn jn1
        omega
      obtain ⟨jm, jm1, jm2⟩ : ∃ j, j < ws_l m b ∧ ws_D n al c m w b F j = MN := by
        rcases hMNex with z | ⟨j, h1, h2⟩
        · omega
        · exact ⟨j, h1, h2⟩
      have hMNok := ws_Dok (n := n) (al := al) (c := c) (m := m) (w := w) (b := b) (F := F) (j := jm) hn (by rw [jm2]; omega)
      rw [jm2] at hMNok
      obtain ⟨mn1, mn2, mn3⟩ := hMNok
      have kMN := skip MN mn2 (by omega) hMNNC
      refine pk_eq MN NC (fun e2 => ws_matches hn mn1 htb him ?_) (fun e2 => ?_)
      · cases hmt : ws_mt m w b c MN
        · have eM : ws_M al m w b c MN = false := by unfold ws_M; rw [hmt]; simp
          have eR : ws_R n al c ln m w b (MN + 1) = ws_R n al c ln m w b F := (ws_top_f eM).trans kMN
          refine br_t rfl (ws_fb65 (F := F) (x := MN) hl5 hn (by omega) (by omega) hls hO hP (fun b8 b9 b10 hP' => ?_))
          have k := ih (MN + 1) (rnd + 1) b8 b9 b10 a14 a15 (by omega) (by omega) (by omega) hP' (by rw [eR]; exact hrow)
          rw [eR] at k
          exact k
        · have eM : ws_M al m w b c MN = true := by unfold ws_M; rw [hmt, mn3]; rfl
          have eR : ws_R n al c ln m w b (MN + 1) = ws_ins (ws_R n al c ln m w b F) MN (ws_S n al c ln m w b MN) := by
            refine (ws_top_t eM).trans ?_
            rw [← kMN]
            rfl
          have h10 : ∀ j, j < ws_l m b → ws_D n al c m w b F j = MN → a10 j = nI (c MN (ws_T m w b j)) := by
            intro j hj ej
            have q := ((hP j hj).2 (by
              have : ws_nx (ws_hp al c (ws_T m w b j)) F n = MN := ej
              omega)).2
            rw [show ws_nx (ws_hp al c (ws_T m w b j)) F n = MN from ej] at q
            exact q
          refine br_f (by decide) (ws_scoreHere hl5 hn mn1 htb hO hD h10 ?_)
          have eH : ws_sm (fun j => if ws_D n al c m w b F j = MN then ws_W n al c m w b j * ws_str (c MN (ws_T m w b j)) (ln MN) else 0) (ws_l m b) = ws_S n al c ln m w b MN := ws_here hn mn2 mn1 mn3 hMNall
          rw [eH]
          have hSle : ws_S n al c ln m w b MN ≤ 20480000 := ws_sc_le hl5 hO MN
          refine ws_offer (r := ws_R n al c ln m w b F) (by omega) (by omega) hrow (fun b14 b15 hrow' => ?_)
          refine ws_fb65 (F := F) (x := MN) hl5 hn (by omega) (by omega) hls hO hP (fun b8 b9 b10 hP' => ?_)
          have k := ih (MN + 1) (rnd + 1) b8 b9 b10 b14 b15 (by omega) (by omega) (by omega) hP' (by rw [eR]; exact hrow')
          rw [eR] at k
          exact k
      · have eR := skip NC hNCok.2.1 (by omega) (Nat.le_refl _)
        refine ws_fb95 (F := F) (x := NC) hl5 hn (by omega) hNCok.2.1 hls hO hP (fun b8 b9 b10 hP' => ?_)
        have k := ih NC (rnd + 1) b8 b9 b10 a14 a15 (by omega) (by omega) (by omega) hP' (by rw [eR]; exact hrow)
        rw [eR] at k
        exact k
theorem ws_findBest {post : St1 → Prop} (hn : n ≤ 24) (hls : ws_ls n al g c a1 a2) (htb : ws_tb n c ln a3 a4) (him : ws_im m w b a6 a7)
    (H : ∀ (la fo : Int32) (a8 a9 a10 a11 a12 a13 a14 a15 : Nat → Int32), fo = nI (ws_R n al c ln m w b n).1 → ws_rw (ws_R n al c ln m w b n) a14 a15 → post (nI n, al, nI m, la, fo, a1, a2, a3, a4, a5, a6, a7, a8, a9, a10, a11, a12, a13, a14, a15)) : wpX_findBest post (nI n, al, nI m, la, fo, a1, a2, a3, a4, a5, a6, a7, a8, a9, a10, a11, a12, a13, a14, a15) := by
  unfold wpX_findBest
  dsimp only
  refine ws_openLanes hn hls htb him (fun BD b8 b9 b10 b11 b12 b13 hO hP => ⟨n + 1, ?_⟩)
  exact ws_fb11 hn hls htb him hO (fun fo a8 a9 a10 a14 a15 h1 h2 => H _ fo a8 a9 a10 _ _ _ a14 a15 h1 h2) (n + 1) 0 0 b8 b9 b10 a14 a15 (by omega) (by omega) (by omega) hP ⟨Nat.zero_le _, fun i h => absurd h (Nat.not_lt_zero _)⟩
theorem ws_ranked {post : Int32 → St1 → Prop} {i : Nat} (hi : i < 10) (hn : n ≤ 24) (hls : ws_ls n al g c a1 a2) (htb : ws_tb n c ln a3 a4) (him : ws_im m w b a6 a7)
    (H : ∀ (la fo : Int32) (a8 a9 a10 a11 a12 a13 a14 a15 : Nat → Int32), post (ws_rk (ws_R n al c ln m w b n).1 (ws_R n al c ln m w b n).2.1 i) (nI n, al, nI m, la, fo, a1, a2, a3, a4, a5, a6, a7, a8, a9, a10, a11, a12, a13, a14, a15)) : wpX_ranked post (nI n, al, nI m, la, fo, a1, a2, a3, a4, a5, a6, a7, a8, a9, a10, a11, a12, a13, a14, a15) (nI i) := by
  refine br_f (nI_pos (by omega)) (pk_lt i 10 (fun _ => ws_findBest hn hls htb him (fun la fo a8 a9 a10 a11 a12 a13 a14 a15 hfo hrow => ?_)) (fun z => absurd z (by omega)))
  have h10 := hrow.1
  have k := H la fo a8 a9 a10 a11 a12 a13 a14 a15
  refine pk_le (ws_R n al c ln m w b n).1 i (fun z => ?_) (fun z => ⟨pk_in i 10 hi, ?_⟩) hfo
  · rw [show ws_rk (ws_R n al c ln m w b n).1 (ws_R n al c ln m w b n).2.1 i = -2 from if_neg (by omega)] at k
    exact k
  · rw [show ws_rk (ws_R n al c ln m w b n).1 (ws_R n al c ln m w b n).2.1 i = nI ((ws_R n al c ln m w b n).2.1 i) from if_pos z] at k
    rw [nI_clamp (by omega), (hrow.2 i z).1]
    exact k
theorem ws_rankedScore {post : Int32 → St1 → Prop} {i : Nat} (hi : i < 10) (hn : n ≤ 24) (hls : ws_ls n al g c a1 a2) (htb : ws_tb n c ln a3 a4) (him : ws_im m w b a6 a7)
    (H : ∀ (la fo : Int32) (a8 a9 a10 a11 a12 a13 a14 a15 : Nat → Int32), post (ws_rk (ws_R n al c ln m w b n).1 (ws_R n al c ln m w b n).2.2 i) (nI n, al, nI m, la, fo, a1, a2, a3, a4, a5, a6, a7, a8, a9, a10, a11, a12, a13, a14, a15)) : wpX_rankedScore post (nI n, al, nI m, la, fo, a1, a2, a3, a4, a5, a6, a7, a8, a9, a10, a11, a12, a13, a14, a15) (nI i) := by
  refine br_f (nI_pos (by omega)) (pk_lt i 10 (fun _ => ws_findBest hn hls htb him (fun la fo a8 a9 a10 a11 a12 a13 a14 a15 hfo hrow => ?_)) (fun z => absurd z (by omega)))
  have h10 := hrow.1
  have k := H la fo a8 a9 a10 a11 a12 a13 a14 a15
  refine pk_le (ws_R n al c ln m w b n).1 i (fun z => ?_) (fun z => ⟨pk_in i 10 hi, ?_⟩) hfo
  · rw [show ws_rk (ws_R n al c ln m w b n).1 (ws_R n al c ln m w b n).2.2 i = -2 from if_neg (by omega)] at k
    exact k
  · rw [show ws_rk (ws_R n al c ln m w b n).1 (ws_R n al c ln m w b n).2.2 i = nI ((ws_R n al c ln m w b n).2.2 i) from if_pos z] at k
    rw [nI_clamp (by omega), (hrow.2 i z).2.1]
    exact k
theorem ws_score {post : Int32 → St1 → Prop} {d : Nat} (hd : d < n) (hb : ws_bt al d = true) (hn : n ≤ 24) (hls : ws_ls n al g c a1 a2) (htb : ws_tb n c ln a3 a4) (him : ws_im m w b a6 a7)
    (H : ∀ (la fo : Int32) (a8 a9 a10 a11 a12 a13 a14 a15 : Nat → Int32), post (nI (ws_S n al c ln m w b d)) (nI n, al, nI m, la, fo, a1, a2, a3, a4, a5, a6, a7, a8, a9, a10, a11, a12, a13, a14, a15)) : wpX_score post (nI n, al, nI m, la, fo, a1, a2, a3, a4, a5, a6, a7, a8, a9, a10, a11, a12, a13, a14, a15) (nI d) := by
  unfold wpX_score
  dsimp only
  refine ws_isLive hn (by omega) (fun _ _ => br_f (by decide) (ws_openLanes hn hls htb him (fun BD b8 b9 b10 b11 b12 b13 hO hP => ?_))) (fun z => absurd ⟨hd, hb⟩ z)
  exact ws_scoreOf (ws_l5 him) hn hd htb hO (H _ _ _ _ _ _ _ _ _ _)
/-- what scoring counts -/
def ws_sg (n : Nat) (al : Int32) (c : Nat → Nat → Nat) (ln : Nat → Nat) (m : Nat) (w b : Nat → Nat) (bnd : Int32) (d : Nat) : Bool := ws_M al m w b c d && !decide (nI (ws_S n al c ln m w b d) < bnd)
theorem ws_sg8 {post : Int32 → St1 → Prop} {bnd : Int32} (hn : n ≤ 24) (hls : ws_ls n al g c a1 a2) (htb : ws_tb n c ln a3 a4) (him : ws_im m w b a6 a7) (hO : ws_OS n al c ln (ws_l m b) (ws_T m w b) (ws_W n al c m w b) BD a11 a12 a13)
    (H : ∀ a8 a9 a10, post (nI (ws_cn (ws_sg n al c ln m w b bnd) n)) (nI n, al, nI m, nI (ws_l m b), fo, a1, a2, a3, a4, a5, a6, a7, a8, a9, a10, a11, a12, a13, a14, a15)) :
    ∀ f F rnd a8 a9 a10, F ≤ n → n - F < f → rnd ≤ F → ws_OP n al g c (ws_l m b) (ws_T m w b) F a8 a9 a10 →
      wX_scoring_8 post bnd f (nI (ws_cn (ws_sg n al c ln m w b bnd) F)) (nI rnd) (nI n) al (nI m) (nI (ws_l m b)) fo a1 a2 a3 a4 a5 a6 a7 a8 a9 a10 a11 a12 a13 a14 a15 := by
  have hl5 := ws_l5 him
  intro f
  induction f with
  | zero => intro F rnd a8 a9 a10 _ h; omega
  | succ f ih =>
    intro F rnd a8 a9 a10 hF hf hr hP
    have hD := ws_hD hn hP
    refine pk_lt 48 rnd (fun z => absurd z (by omega)) (fun _ => ws_least hl5 hD ?_)
    have hMNle := ws_mn_le (ws_D n al c m w b F) (ws_l m b)
    have hMNall := ws_mn_all (ws_D n al c m w b F) (ws_l m b)
    have hMNex := ws_mn_ex (ws_D n al c m w b F) (ws_l m b)
    generalize ws_mn (ws_D n al c m w b F) (ws_l m b) = MN at hMNle hMNall hMNex ⊢
    have skip : ∀ e, F ≤ e → e ≤ n → e ≤ MN → ws_cn (ws_sg n al c ln m w b bnd) e = ws_cn (ws_sg n al c ln m w b bnd) F := by
      intro e h1 h2 h3
      refine ws_cn_skip h1 (fun d d1 d2 => ?_)
      cases hM : ws_M al m w b c d
      · unfold ws_sg
        rw [hM]
        rfl
      · obtain ⟨hb, j, hj, hh⟩ := ws_M_lane hM
        have q := hMNall j hj
        have q2 := ws_nx_le hn d1 (show d < n by omega) hh
        have q3 : ws_D n al c m w b F j ≤ d := q2
        omega
    refine pk_eq MN 1000 (fun e => ?_) (fun e => ?_)
    · rw [← skip n hF (Nat.le_refl _) (by omega)]
      exact H a8 a9 a10
    · obtain ⟨jm, jm1, jm2⟩ : ∃ j, j < ws_l m b ∧ ws_D n al c m w b F j = MN := by
        rcases hMNex with z | ⟨j, h1, h2⟩
        · omega
        · exact ⟨j, h1, h2⟩
      have hMNok := ws_Dok (n := n) (al := al) (c := c) (m := m) (w := w) (b := b) (F := F) (j := jm) hn (by rw [jm2]; omega)
      rw [jm2] at hMNok
      obtain ⟨mn1, mn2, mn3⟩ := hMNok
      have kMN := skip MN mn2 (by omega) (Nat.le_refl _)
      have key : ∀ x, ws_cn (ws_sg n al c ln m w b bnd) (MN + 1) = x → ∃ fu, wX_scoring_56 post (wX_scoring_8 post bnd f) bnd (nI x) (nI rnd) (nI MN) fu 0 (nI n) al (nI m) (nI (ws_l m b)) fo a1 a2 a3 a4 a5 a6 a7 a8 a9 a10 a11 a12 a13 a14 a15 := by
        intro x hx
        refine ws_sg56 (F := F) (x := MN) hl5 hn (by omega) (by omega) hls hO hP (fun b8 b9 b10 hP' => ?_)
        rw [← hx]
        exact ih (MN + 1) (rnd + 1) b8 b9 b10 (by omega) (by omega) (by omega) hP'
      refine ws_matches hn mn1 htb him ?_
      cases hmt : ws_mt m w b c MN
      · have eM : ws_sg n al c ln m w b bnd MN = false := by unfold ws_sg ws_M; rw [hmt]; simp
        exact br_t rfl (key _ ((ws_cn_f eM).trans kMN))
      · have eM : ws_M al m w b c MN = true := by unfold ws_M; rw [hmt, mn3]; rfl
        refine br_f (by decide) (ws_scoreOf hl5 hn mn1 htb hO (br_c (fun z => ?_) (fun z => nm_r (nI_1 _) ?_)))
        · have z' : nI (ws_S n al c ln m w b MN) < bnd := z
          have eM2 : ws_sg n al c ln m w b bnd MN = false := by unfold ws_sg; rw [decide_eq_true z']; simp
          exact key _ ((ws_cn_f eM2).trans kMN)
        · have z' : ¬ nI (ws_S n al c ln m w b MN) < bnd := z
          have eM2 : ws_sg n al c ln m w b bnd MN = true := by unfold ws_sg; rw [eM, decide_eq_false z']; rfl
          exact key _ ((ws_cn_t eM2).trans (by rw [kMN]))
theorem ws_scoring {post : Int32 → St1 → Prop} {bnd : Int32} (hn : n ≤ 24) (hls : ws_ls n al g c a1 a2) (htb : ws_tb n c ln a3 a4) (him : ws_im m w b a6 a7)
    (H : ∀ (la fo : Int32) (a8 a9 a10 a11 a12 a13 a14 a15 : Nat → Int32), post (nI (ws_cn (ws_sg n al c ln m w b bnd) n)) (nI n, al, nI m, la, fo, a1, a2, a3, a4, a5, a6, a7, a8, a9, a10, a11, a12, a13, a14, a15)) : wpX_scoring post (nI n, al, nI m, la, fo, a1, a2, a3, a4, a5, a6, a7, a8, a9, a10, a11, a12, a13, a14, a15) bnd := by
  unfold wpX_scoring
  dsimp only
  refine ws_openLanes hn hls htb him (fun BD b8 b9 b10 b11 b12 b13 hO hP => ⟨n + 1, ?_⟩)
  exact ws_sg8 hn hls htb him hO (fun a8 a9 a10 => H _ _ _ _ _ _ _ _ _ _) (n + 1) 0 0 b8 b9 b10 (by omega) (by omega) (by omega) hP
end
end
section
/-! ===== the law ===== -/
section
variable {ad al it la fo : Int32} {a1 a2 a3 a4 a5 a6 a7 a8 a9 a10 a11 a12 a13 a14 a15 : Nat → Int32} {n m : Nat} {g : Nat → Bool} {c : Nat → Nat → Nat} {ln w b : Nat → Nat} {post : Int32 → St1 → Prop}
theorem ws_h119 {J26 : Int32 → Int32 → Int32 → Int32 → Int32 → Int32 → Int32 → Int32 → (Nat → Int32) → (Nat → Int32) → (Nat → Int32) → (Nat → Int32) → (Nat → Int32) → (Nat → Int32) → (Nat → Int32) → (Nat → Int32) → (Nat → Int32) → (Nat → Int32) → (Nat → Int32) → (Nat → Int32) → (Nat → Int32) → (Nat → Int32) → (Nat → Int32) → Prop} {x1 : Int32} {i rd rs : Nat} (hi : i < 10) (hn : n ≤ 24) (hls : ws_ls n al g c a1 a2) (htb : ws_tb n c ln a3 a4) (him : ws_im m w b a6 a7)
    (hc : i + 1 ≤ ws_cn (ws_sg n al c ln m w b (nI rs)) n) (H : ∀ (la fo : Int32) (a8 a9 a10 a11 a12 a13 a14 a15 : Nat → Int32), J26 (nI rs) (nI rd) (nI (i + 1)) (nI n) al (nI m) la fo a1 a2 a3 a4 a5 a6 a7 a8 a9 a10 a11 a12 a13 a14 a15) : wL_holds_119 post J26 x1 (nI i) (nI rd) (nI rs) (nI n) al (nI m) la fo a1 a2 a3 a4 a5 a6 a7 a8 a9 a10 a11 a12 a13 a14 a15 := by
  unfold wL_holds_119
  refine ws_scoring hn hls htb him (fun la fo a8 a9 a10 a11 a12 a13 a14 a15 => ?_)
  have k := ws_cn_le (ws_sg n al c ln m w b (nI rs)) n
  exact pk_le (i + 1) (ws_cn (ws_sg n al c ln m w b (nI rs)) n) (fun _ => nm_r (nI_1 i) (H la fo a8 a9 a10 a11 a12 a13 a14 a15)) (fun z => absurd z (by omega)) (nI_1 i)
theorem ws_h26 (hn : n ≤ 24) (hls : ws_ls n al g c a1 a2) (htb : ws_tb n c ln a3 a4) (him : ws_im m w b a6 a7) (H : ∀ (la fo : Int32) (a8 a9 a10 a11 a12 a13 a14 a15 : Nat → Int32), post 1 (nI n, al, nI m, la, fo, a1, a2, a3, a4, a5, a6, a7, a8, a9, a10, a11, a12, a13, a14, a15)) :
    ∀ f i x2 x3 la fo a8 a9 a10 a11 a12 a13 a14 a15, i ≤ 10 → 10 - i < f → (0 < i → i ≤ ws_cn (ws_M al m w b c) n → x2 = nI ((ws_R n al c ln m w b n).2.2 (i - 1)) ∧ x3 = nI ((ws_R n al c ln m w b n).2.1 (i - 1))) →
      wL_holds_26 post (nI (ws_cn (ws_M al m w b c) n)) f x2 x3 (nI i) (nI n) al (nI m) la fo a1 a2 a3 a4 a5 a6 a7 a8 a9 a10 a11 a12 a13 a14 a15 := by
  have hinv := ws_top_inv (ws_M al m w b c) (ws_S n al c ln m w b) n
  obtain ⟨v1, v2, v3, v4⟩ := hinv
  have hMle := ws_cn_le (ws_M al m w b c) n
  have hSle : ∀ d, ws_S n al c ln m w b d < 2 ^ 30 := by
    intro d
    have k := ws_sm_b (f := fun j => ws_W n al c m w b j * ws_str (c d (ws_T m w b j)) (ln d)) (B := 4096000) (ws_l m b) (fun j hj => by
      try dsimp only
      have hsel := ws_sel_lt hj
      have hb19 := (him.2 _ hsel.1).2.2.2
      have hbo : ws_bo (b (ws_sel (ws_pb b) m j)) ≤ 10 := by unfold ws_bo; split <;> omega
      exact Nat.le_trans (Nat.mul_le_mul (Nat.mul_le_mul hbo (ws_ra_le hn al c _)) (ws_str_le _ _)) (by omega))
    have hl5 := ws_l5 him
    have k2 : ws_S n al c ln m w b d ≤ ws_l m b * 4096000 := k
    omega
  intro f
  induction f with
  | zero => intro i x2 x3 la fo a8 a9 a10 a11 a12 a13 a14 a15 _ h; omega
  | succ f ih =>
    intro i x2 x3 la fo a8 a9 a10 a11 a12 a13 a14 a15 h10 hf hx
    refine pk_le 10 i (fun _ => H la fo a8 a9 a10 a11 a12 a13 a14 a15) (fun hi => ?_)
    refine ws_ranked hi hn hls htb him (fun la fo a8 a9 a10 a11 a12 a13 a14 a15 => ws_rankedScore hi hn hls htb him (fun la fo a8 a9 a10 a11 a12 a13 a14 a15 => ?_))
    refine pk_lt i (ws_cn (ws_M al m w b c) n) (fun hlt => ?_) (fun hge => ?_)
    · have hin : i < (ws_R n al c ln m w b n).1 := by
        have e : (ws_R n al c ln m w b n).1 = if ws_cn (ws_M al m w b c) n < 10 then ws_cn (ws_M al m w b c) n else 10 := v1
        rw [e]
        split <;> omega
      have v2i := v2 i hin
      have v4i := v4 i hin
      have v3i := fun h => v3 (i - 1) h
      have e1 : ws_rk (ws_R n al c ln m w b n).1 (ws_R n al c ln m w b n).2.1 i = nI ((ws_R n al c ln m w b n).2.1 i) := if_pos hin
      have e2 : ws_rk (ws_R n al c ln m w b n).1 (ws_R n al c ln m w b n).2.2 i = nI ((ws_R n al c ln m w b n).2.2 i) := if_pos hin
      rw [e1, e2]
      have w1 : (ws_R n al c ln m w b n).2.1 i < n := v2i.1
      have w2 : ws_M al m w b c ((ws_R n al c ln m w b n).2.1 i) = true := v2i.2.1
      have w3 : (ws_R n al c ln m w b n).2.2 i = ws_S n al c ln m w b ((ws_R n al c ln m w b n).2.1 i) := v2i.2.2
      have w4 : (ws_R n al c ln m w b n).2.2 i < 2 ^ 30 := by rw [w3]; exact hSle _
      have w5 := (ws_M_lane w2).1
      have key : ∀ (la fo : Int32) (a8 a9 a10 a11 a12 a13 a14 a15 : Nat → Int32), wL_holds_119 post (wL_holds_26 post (nI (ws_cn (ws_M al m w b c) n)) f) (nI (ws_cn (ws_M al m w b c) n)) (nI i) (nI ((ws_R n al c ln m w b n).2.1 i)) (nI ((ws_R n al c ln m w b n).2.2 i)) (nI n) al (nI m) la fo a1 a2 a3 a4 a5 a6 a7 a8 a9 a10 a11 a12 a13 a14 a15 := by
        intro la fo a8 a9 a10 a11 a12 a13 a14 a15
        refine ws_h119 hi hn hls htb him ?_ (fun la fo a8 a9 a10 a11 a12 a13 a14 a15 => ih (i + 1) _ _ la fo a8 a9 a10 a11 a12 a13 a14 a15 (by omega) (by omega) (fun _ _ => ⟨rfl, rfl⟩))
        have e3 : ws_cn (ws_sg n al c ln m w b (nI ((ws_R n al c ln m w b n).2.2 i))) n = ws_cn (ws_ct (ws_M al m w b c) (ws_S n al c ln m w b) ((ws_R n al c ln m w b n).2.2 i)) n := by
          refine ws_cn_congr n (fun d _ => ?_)
          unfold ws_sg ws_ct
          have hS := hSle d
          by_cases hq : (ws_R n al c ln m w b n).2.2 i ≤ ws_S n al c ln m w b d
          · rw [decide_eq_true hq, decide_eq_false (nI_nlt hq (by omega))]
            rfl
          · rw [decide_eq_false hq, decide_eq_true (nI_lt (by omega) (by omega))]
            rfl
        rw [e3]
        exact v4i
      refine br_f (nI_pos (by omega)) (br_f (nI_pos (by omega)) (ws_score w1 w5 hn hls htb him (fun la fo a8 a9 a10 a11 a12 a13 a14 a15 => br_t (by rw [w3]) (pk_le i 0 (fun _ => key la fo a8 a9 a10 a11 a12 a13 a14 a15) (fun hpos => ?_)))))
      obtain ⟨y2, y3⟩ := hx hpos (by omega)
      rw [y2, y3]
      have hin1 : i - 1 + 1 < (ws_R n al c ln m w b n).1 := by omega
      have q := v3i hin1
      rw [show i - 1 + 1 = i by omega] at q
      have q1 : (ws_R n al c ln m w b n).2.2 i ≤ (ws_R n al c ln m w b n).2.2 (i - 1) := q.1
      have q2 : (ws_R n al c ln m w b n).2.2 i = (ws_R n al c ln m w b n).2.2 (i - 1) → (ws_R n al c ln m w b n).2.1 (i - 1) < (ws_R n al c ln m w b n).2.1 i := q.2
      have p1 : (ws_R n al c ln m w b n).2.2 (i - 1) < 2 ^ 30 := by
        have z : (ws_R n al c ln m w b n).2.2 (i - 1) = ws_S n al c ln m w b ((ws_R n al c ln m w b n).2.1 (i - 1)) := (v2 (i - 1) (by exact Nat.lt_of_succ_lt hin1)).2.2
        rw [z]
        exact hSle _
      have p2 : (ws_R n al c ln m w b n).2.1 (i - 1) < n := (v2 (i - 1) (by exact Nat.lt_of_succ_lt hin1)).1
      exact pk_lt ((ws_R n al c ln m w b n).2.2 (i - 1)) ((ws_R n al c ln m w b n).2.2 i) (fun z => absurd z (by omega)) (fun _ => pk_eq ((ws_R n al c ln m w b n).2.2 i) ((ws_R n al c ln m w b n).2.2 (i - 1)) (fun z => pk_lt ((ws_R n al c ln m w b n).2.1 (i - 1)) ((ws_R n al c ln m w b n).2.1 i) (fun _ => key la fo a8 a9 a10 a11 a12 a13 a14 a15) (fun z2 => absurd (q2 z) (by omega))) (fun _ => key la fo a8 a9 a10 a11 a12 a13 a14 a15))
    · have hin : ¬ i < (ws_R n al c ln m w b n).1 := by
        have e : (ws_R n al c ln m w b n).1 = if ws_cn (ws_M al m w b c) n < 10 then ws_cn (ws_M al m w b c) n else 10 := v1
        rw [e]
        split <;> omega
      have e1 : ws_rk (ws_R n al c ln m w b n).1 (ws_R n al c ln m w b n).2.1 i = -2 := if_neg hin
      have e2 : ws_rk (ws_R n al c ln m w b n).1 (ws_R n al c ln m w b n).2.2 i = -2 := if_neg hin
      rw [e1, e2]
      exact br_t rfl (br_t rfl (nm_r (nI_1 i) (ih (i + 1) _ _ la fo a8 a9 a10 a11 a12 a13 a14 a15 (by omega) (by omega) (fun _ h => absurd h (by omega)))))
theorem ws_holds (hn : n ≤ 24) (hls : ws_ls n al g c a1 a2) (htb : ws_tb n c ln a3 a4) (him : ws_im m w b a6 a7) (H : ∀ (la fo : Int32) (a8 a9 a10 a11 a12 a13 a14 a15 : Nat → Int32), post 1 (nI n, al, nI m, la, fo, a1, a2, a3, a4, a5, a6, a7, a8, a9, a10, a11, a12, a13, a14, a15)) : wpL_holds post (nI n, al, nI m, la, fo, a1, a2, a3, a4, a5, a6, a7, a8, a9, a10, a11, a12, a13, a14, a15) := by
  unfold wpL_holds
  dsimp only
  have h1 := ws_cn_le (ws_M al m w b c) n
  have h2 := ws_cn_le (ws_bt al) n
  have h3 : ws_cn (ws_M al m w b c) n ≤ ws_cn (ws_bt al) n := ws_cn_imp n (fun d _ h => (ws_M_lane h).1)
  refine ws_matching hn htb him (br_f (nI_pos (by omega)) (ws_live hn (pk_le (ws_cn (ws_M al m w b c) n) (ws_cn (ws_bt al) n) (fun _ => ⟨11, ?_⟩) (fun z => absurd z (by omega)))))
  exact ws_h26 hn hls htb him H 11 0 (-1) (-1) la fo a8 a9 a10 a11 a12 a13 a14 a15 (by omega) (by omega) (fun z => absurd z (by omega))
theorem ws_tidied (hn : n ≤ 24) (hls : ws_ls n al g c a1 a2) (htb : ws_tb n c ln a3 a4) (him : ws_im m w b a6 a7) (H : ∀ a1 a2 (la fo : Int32) (a8 a9 a10 a11 a12 a13 a14 a15 : Nat → Int32), ws_ls n al (ws_bt al) c a1 a2 → post 1 (nI n, al, nI m, la, fo, a1, a2, a3, a4, a5, a6, a7, a8, a9, a10, a11, a12, a13, a14, a15)) : wpL_tidied post (nI n, al, nI m, la, fo, a1, a2, a3, a4, a5, a6, a7, a8, a9, a10, a11, a12, a13, a14, a15) := by
  unfold wpL_tidied
  dsimp only
  refine ws_ranked (i := 0) (by omega) hn hls htb him (fun la fo a8 a9 a10 a11 a12 a13 a14 a15 => ?_)
  refine ws_ranked (i := 1) (by omega) hn hls htb him (fun la fo a8 a9 a10 a11 a12 a13 a14 a15 => ?_)
  refine ws_rankedScore (i := 1) (by omega) hn hls htb him (fun la fo a8 a9 a10 a11 a12 a13 a14 a15 => ?_)
  refine ws_matching hn htb him ?_
  refine ws_scoring hn hls htb him (fun la fo a8 a9 a10 a11 a12 a13 a14 a15 => ?_)
  refine ws_tidy hn htb (fun a1 a2 hls => ?_)
  refine ws_live hn (br_t rfl ?_)
  refine ws_ranked (i := 0) (by omega) hn hls htb him (fun la fo a8 a9 a10 a11 a12 a13 a14 a15 => br_t rfl ?_)
  refine ws_ranked (i := 1) (by omega) hn hls htb him (fun la fo a8 a9 a10 a11 a12 a13 a14 a15 => br_t rfl ?_)
  refine ws_rankedScore (i := 1) (by omega) hn hls htb him (fun la fo a8 a9 a10 a11 a12 a13 a14 a15 => br_t rfl ?_)
  refine ws_matching hn htb him (br_t rfl ?_)
  exact ws_scoring hn hls htb him (fun la fo a8 a9 a10 a11 a12 a13 a14 a15 => br_t rfl (H a1 a2 la fo a8 a9 a10 a11 a12 a13 a14 a15 hls))
end
theorem ws_cell {post : Int32 → Prop} {L : Nat} {xs : Nat → Int32} {s : Nat} (hL : L < 2 ^ 31) (hs : s < 2 ^ 31) (h : ∀ v, post v) : wpL_cell post L xs () (nI s) :=
  pk_le L s (fun _ => h 0) (fun z => ⟨pk_in s L z, h _⟩)
theorem ws_law10 {xs : Nat → Int32} {L kc ks : Nat} (hL : L ≤ 260) : ∀ f s (ad al it la fo : Int32) (a1 a2 a3 a4 a5 a6 a7 a8 a9 a10 a11 a12 a13 a14 a15 : Nat → Int32), s ≤ L + 1 → L + 1 - s < f → ws_V (ad, al, it, la, fo, a1, a2, a3, a4, a5, a6, a7, a8, a9, a10, a11, a12, a13, a14, a15) → wL_law_10 (fun r => r = 1) L xs kc ks f (nI s) ad al it la fo a1 a2 a3 a4 a5 a6 a7 a8 a9 a10 a11 a12 a13 a14 a15 := by
  intro f
  induction f with
  | zero => intro s ad al it la fo a1 a2 a3 a4 a5 a6 a7 a8 a9 a10 a11 a12 a13 a14 a15 _ h; omega
  | succ f ih =>
    intro s ad al it la fo a1 a2 a3 a4 a5 a6 a7 a8 a9 a10 a11 a12 a13 a14 a15 hs hf hV
    refine pk_le L s (fun _ => rfl) (fun hlt => ws_cell (by omega) (by omega) (fun v => ?_))
    obtain ⟨op, ho, eo⟩ := pk_andE v (m := 15) 4 (by decide)
    refine nm_r eo ?_
    rw [nI_1]
    refine ws_cell (by omega) (by omega) (fun d => ws_turn ho hV ?_)
    intro ad al it la fo a1 a2 a3 a4 a5 a6 a7 a8 a9 a10 a11 a12 a13 a14 a15 hV
    obtain ⟨n, m, g, c, ln, dr, w, b, e1, e2, hn, htb, hdr, him, hls⟩ := ws_V_of hV
    subst e1 e2
    have es : nI s + 2 = nI (s + 2) := nI_add s 2
    refine ws_holds hn hls htb him (fun la fo a8 a9 a10 a11 a12 a13 a14 a15 => br_f (by decide) (ws_cell (by omega) (by omega) (fun v2 => br_c (fun _ => ?_) (fun _ => nm_r es (ih (s + 2) _ _ _ _ _ _ _ _ _ _ _ _ _ _ _ _ _ _ _ _ (by omega) (by omega) (ws_V_mk ⟨hn, htb, hdr, him, hls⟩))))))
    refine ws_tidied hn hls htb him (fun a1 a2 la fo a8 a9 a10 a11 a12 a13 a14 a15 hls => br_f (by decide) ?_)
    exact ws_holds hn hls htb him (fun la fo a8 a9 a10 a11 a12 a13 a14 a15 => br_f (by decide) (nm_r es (ih (s + 2) _ _ _ _ _ _ _ _ _ _ _ _ _ _ _ _ _ _ _ _ (by omega) (by omega) (ws_V_mk ⟨hn, htb, hdr, him, hls⟩))))
theorem i_vc (xs : Nat → Int32) (L : Nat) (hL : L ≤ 260) : wpL_law (fun r => r = 1) L xs := by
  refine ⟨15, 676, by omega, by omega, ?_⟩
  refine ⟨by omega, by omega, by omega, by omega, by omega, by omega, by omega, by omega, by omega, by omega, by omega, by omega, by omega, by omega, by omega, by omega, by omega, by omega, by omega, by omega, by omega, by omega, by omega, by omega, by omega, by omega, by omega, by omega, by omega, by omega, L + 2, ?_⟩
  have h0 : ws_V (nI 0, 0, nI 0, 0, 0, (fun _ => 0), (fun _ => 0), (fun _ => 0), (fun _ => 0), (fun _ => 0), (fun _ => 0), (fun _ => 0), (fun _ => 0), (fun _ => 0), (fun _ => 0), (fun _ => 0), (fun _ => 0), (fun _ => 0), (fun _ => 0), (fun _ => 0)) :=
    ws_V_mk (n := 0) (m := 0) (g := fun _ => true) (c := fun _ _ => 0) (ln := fun _ => 0) (dr := fun _ => 0) (w := fun _ => 0) (b := fun _ => 0) ⟨by omega, ⟨fun d h => absurd h (Nat.not_lt_zero _), fun d h => absurd h (Nat.not_lt_zero _)⟩, fun t _ => ⟨rfl, Nat.zero_le 7⟩, ⟨by omega, fun k h => absurd h (Nat.not_lt_zero _)⟩, fun t _ => ⟨rfl, fun d h => absurd h (Nat.not_lt_zero _)⟩, fun d h => absurd h (Nat.not_lt_zero _)⟩
  exact ws_law10 (L := L) (xs := xs) hL (L + 2) 0 _ _ _ _ _ _ _ _ _ _ _ _ _ _ _ _ _ _ _ _ (by omega) (by omega) h0
end
