section
/-! the layered graph as a pure picture: t says which nodes are hit, f and g lead to the two kids -/
/-- a kid's place: it lies in [p, q) -/
def wr_K (p q : Nat) (x : Int32) : Prop := ∃ k : Nat, p ≤ k ∧ k < q ∧ x = nI k
def wr_k (a : Nat → Int32) (i : Nat) : Nat := (a i).toNatClampNeg
/-- how many chosen words of m more letters start at node i -/
def wr_W (t f g : Nat → Int32) : Nat → Nat → Nat
  | 0, i => if t i = 0 then 0 else 1
  | m + 1, i => wr_W t f g m (wr_k f i) + wr_W t f g m (wr_k g i)
/-- how many chosen words are shorter than l -/
def wr_S (t f g : Nat → Int32) : Nat → Nat
  | 0 => 0
  | l + 1 => wr_S t f g l + wr_W t f g l 0
/-- the node that the word b of j letters leads to -/
def wr_p (f g : Nat → Int32) : Nat → Nat → Nat
  | 0, _ => 0
  | j + 1, b => wr_k (if b % 2 = 1 then g else f) (wr_p f g j (b / 2))
/-- how many chosen words of length len have their first j letters ahead of b -/
def wr_o (t f g : Nat → Int32) (len : Nat) : Nat → Nat → Nat
  | 0, _ => 0
  | j + 1, b => wr_o t f g len j (b / 2) + if b % 2 = 1 then wr_W t f g (len - (j + 1)) (wr_k f (wr_p f g j (b / 2))) else 0
/-- the graph as build() leaves it: L d is where layer d starts -/
def wr_G (n : Nat) (L : Nat → Nat) (c f g : Nat → Int32) : Prop :=
  L 0 = 0 ∧ 0 < L 1 ∧ (∀ d, d ≤ n → L d ≤ L (d + 1)) ∧ L (n + 1) ≤ 256 ∧ (∀ d, d ≤ n + 1 → c d = nI (L d)) ∧
  (∀ d i, d < n → L d ≤ i → i < L (d + 1) → wr_K (L (d + 1)) (L (d + 2)) (f i) ∧ wr_K (L (d + 1)) (L (d + 2)) (g i))
theorem wr_upd {f : Nat → Int32} {i : Nat} {x : Int32} (h : i < 2 ^ 31) : upd f (nI i).toNatClampNeg x = upd f i x := by
  rw [nI_clamp h]
theorem wr_kid {a : Nat → Int32} {i p q : Nat} (h : wr_K p q (a i)) (hq : q ≤ 256) : p ≤ wr_k a i ∧ wr_k a i < q ∧ a i = nI (wr_k a i) := by
  obtain ⟨k, h1, h2, h3⟩ := h
  have e : wr_k a i = k := by
    unfold wr_k
    rw [h3]
    exact nI_clamp (by omega)
  rw [e]
  exact ⟨h1, h2, h3⟩
theorem wr_W_le (t f g : Nat → Int32) (m : Nat) : ∀ i, wr_W t f g m i ≤ 2 ^ m := by
  induction m with
  | zero =>
    intro i
    show (if t i = 0 then 0 else 1) ≤ 2 ^ 0
    by_cases h : t i = 0
    · rw [if_pos h]; omega
    · rw [if_neg h]; omega
  | succ m ih =>
    intro i
    show wr_W t f g m (wr_k f i) + wr_W t f g m (wr_k g i) ≤ 2 ^ (m + 1)
    have h1 := ih (wr_k f i)
    have h2 := ih (wr_k g i)
    rw [Nat.pow_succ]
    omega
theorem wr_S_succ (t f g : Nat → Int32) (l : Nat) : wr_S t f g (l + 1) = wr_S t f g l + wr_W t f g l 0 := rfl
theorem wr_S_lt (t f g : Nat → Int32) (l : Nat) : wr_S t f g l < 2 ^ l := by
  induction l with
  | zero => exact Nat.one_pos
  | succ l ih =>
    rw [wr_S_succ, Nat.pow_succ]
    have h := wr_W_le t f g l 0
    omega
theorem wr_S_mono (t f g : Nat → Int32) {a b : Nat} (h : a ≤ b) : wr_S t f g a ≤ wr_S t f g b := by
  induction h with
  | refl => exact Nat.le_refl _
  | step _ ih => exact Nat.le_trans ih (by rw [wr_S_succ]; omega)
/-- the length of the k-th chosen word -/
theorem wr_len (t f g : Nat → Int32) {k : Nat} : ∀ m, k < wr_S t f g m → ∃ l, l < m ∧ wr_S t f g l ≤ k ∧ k < wr_S t f g (l + 1) := by
  intro m
  induction m with
  | zero => intro h; exact absurd h (Nat.not_lt_zero k)
  | succ m ih =>
    intro h
    rcases Nat.lt_or_ge k (wr_S t f g m) with z | z
    · obtain ⟨l, h1, h2, h3⟩ := ih z
      exact ⟨l, by omega, h2, h3⟩
    · exact ⟨m, by omega, z, h⟩
theorem wr_L_mono {n : Nat} {L : Nat → Nat} {c f g : Nat → Int32} (hG : wr_G n L c f g) {a b : Nat} (h : a ≤ b) : b ≤ n + 1 → L a ≤ L b := by
  obtain ⟨_, _, hm, _⟩ := hG
  induction h with
  | refl => exact fun _ => Nat.le_refl _
  | step _ ih => exact fun hb => Nat.le_trans (ih (by omega)) (hm _ (by omega))
theorem wr_L_top {n : Nat} {L : Nat → Nat} {c f g : Nat → Int32} (hG : wr_G n L c f g) {a : Nat} (h : a ≤ n + 1) : L a ≤ 256 :=
  Nat.le_trans (wr_L_mono hG h (Nat.le_refl _)) hG.2.2.2.1
/-- every node ahead of layer len lies in one -/
theorem wr_at {n : Nat} {L : Nat → Nat} {c f g : Nat → Int32} (hG : wr_G n L c f g) {i : Nat} : ∀ len, i < L len → ∃ d, d < len ∧ L d ≤ i ∧ i < L (d + 1) := by
  intro len
  induction len with
  | zero => intro h; rw [hG.1] at h; exact absurd h (Nat.not_lt_zero i)
  | succ m ih =>
    intro h
    rcases Nat.lt_or_ge i (L m) with z | z
    · obtain ⟨d, h1, h2, h3⟩ := ih z
      exact ⟨d, by omega, h2, h3⟩
    · exact ⟨m, by omega, z, h⟩
theorem wr_kids {n : Nat} {L : Nat → Nat} {c f g : Nat → Int32} (hG : wr_G n L c f g) {d i : Nat} (hd : d < n) (h1 : L d ≤ i) (h2 : i < L (d + 1)) :
    (L (d + 1) ≤ wr_k f i ∧ wr_k f i < L (d + 2) ∧ f i = nI (wr_k f i)) ∧ (L (d + 1) ≤ wr_k g i ∧ wr_k g i < L (d + 2) ∧ g i = nI (wr_k g i)) := by
  have hk := hG.2.2.2.2.2 d i hd h1 h2
  have ht := wr_L_top hG (show d + 2 ≤ n + 1 by omega)
  exact ⟨wr_kid hk.1 ht, wr_kid hk.2 ht⟩
/-- a word's node lies in the layer of the word's length -/
theorem wr_path {n : Nat} {L : Nat → Nat} {c f g : Nat → Int32} (hG : wr_G n L c f g) : ∀ j b, j ≤ n → L j ≤ wr_p f g j b ∧ wr_p f g j b < L (j + 1) := by
  intro j
  induction j with
  | zero =>
    intro b _
    show L 0 ≤ 0 ∧ 0 < L 1
    exact ⟨by rw [hG.1]; omega, hG.2.1⟩
  | succ j ih =>
    intro b hj
    obtain ⟨h1, h2⟩ := ih (b / 2) (by omega)
    have hk := wr_kids hG (show j < n by omega) h1 h2
    show L (j + 1) ≤ wr_k (if b % 2 = 1 then g else f) (wr_p f g j (b / 2)) ∧ wr_k (if b % 2 = 1 then g else f) (wr_p f g j (b / 2)) < L (j + 2)
    by_cases e : b % 2 = 1
    · rw [if_pos e]; exact ⟨hk.2.1, hk.2.2.1⟩
    · rw [if_neg e]; exact ⟨hk.1.1, hk.1.2.1⟩
theorem wr_p_odd (f g : Nat → Int32) (i b : Nat) : wr_p f g (i + 1) (2 * b + 1) = wr_k g (wr_p f g i b) := by
  show wr_k (if (2 * b + 1) % 2 = 1 then g else f) (wr_p f g i ((2 * b + 1) / 2)) = _
  rw [if_pos (by omega), show (2 * b + 1) / 2 = b by omega]
theorem wr_p_even (f g : Nat → Int32) (i b : Nat) : wr_p f g (i + 1) (2 * b) = wr_k f (wr_p f g i b) := by
  show wr_k (if (2 * b) % 2 = 1 then g else f) (wr_p f g i ((2 * b) / 2)) = _
  rw [if_neg (by omega), show (2 * b) / 2 = b by omega]
theorem wr_o_odd (t f g : Nat → Int32) (len i b : Nat) : wr_o t f g len (i + 1) (2 * b + 1) = wr_o t f g len i b + wr_W t f g (len - (i + 1)) (wr_k f (wr_p f g i b)) := by
  show wr_o t f g len i ((2 * b + 1) / 2) + (if (2 * b + 1) % 2 = 1 then wr_W t f g (len - (i + 1)) (wr_k f (wr_p f g i ((2 * b + 1) / 2))) else 0) = _
  rw [if_pos (by omega), show (2 * b + 1) / 2 = b by omega]
theorem wr_o_even (t f g : Nat → Int32) (len i b : Nat) : wr_o t f g len (i + 1) (2 * b) = wr_o t f g len i b := by
  show wr_o t f g len i ((2 * b) / 2) + (if (2 * b) % 2 = 1 then wr_W t f g (len - (i + 1)) (wr_k f (wr_p f g i ((2 * b) / 2))) else 0) = _
  rw [if_neg (by omega), show (2 * b) / 2 = b by omega, Nat.add_zero]
theorem wr_half (b i : Nat) : b / 2 ^ i / 2 = b / 2 ^ (i + 1) := by
  rw [Nat.div_div_eq_div_mul, Nat.pow_succ]
/-- the walk's step: from the word's first len - (i + 1) letters to one more -/
theorem wr_p_step (f g : Nat → Int32) {len i b : Nat} (h : i < len) : wr_p f g (len - i) (b / 2 ^ i) = wr_k (if b / 2 ^ i % 2 = 1 then g else f) (wr_p f g (len - (i + 1)) (b / 2 ^ (i + 1))) := by
  rw [show len - i = (len - (i + 1)) + 1 by omega, ← wr_half]
  rfl
theorem wr_o_step (t f g : Nat → Int32) {len i b : Nat} (h : i < len) : wr_o t f g len (len - i) (b / 2 ^ i) = wr_o t f g len (len - (i + 1)) (b / 2 ^ (i + 1)) + if b / 2 ^ i % 2 = 1 then wr_W t f g i (wr_k f (wr_p f g (len - (i + 1)) (b / 2 ^ (i + 1)))) else 0 := by
  have e : wr_o t f g len ((len - (i + 1)) + 1) (b / 2 ^ i) = wr_o t f g len (len - (i + 1)) (b / 2 ^ i / 2) + if b / 2 ^ i % 2 = 1 then wr_W t f g (len - ((len - (i + 1)) + 1)) (wr_k f (wr_p f g (len - (i + 1)) (b / 2 ^ i / 2))) else 0 := rfl
  rw [show (len - (i + 1)) + 1 = len - i by omega, show len - (len - i) = i by omega, wr_half] at e
  exact e
/-! fill(): what ways holds -/
def wr_V (len : Nat) (L : Nat → Nat) (t f g : Nat → Int32) (i : Nat) (w : Nat → Int32) : Prop :=
  ∀ j, i ≤ j → ∀ d, d ≤ len → L d ≤ j → j < L (d + 1) → w j = nI (wr_W t f g (len - d) j)
theorem wr_V_top {n len : Nat} {L : Nat → Nat} {c t f g : Nat → Int32} (hG : wr_G n L c f g) (hl : len ≤ n) {w : Nat → Int32}
    (h : ∀ j, L len ≤ j → j < L (len + 1) → w j = nI (wr_W t f g 0 j)) : wr_V len L t f g (L len) w := by
  intro j hj d hd h1 h2
  rcases Nat.lt_or_ge d len with z | z
  · have hm := wr_L_mono hG (show d + 1 ≤ len by omega) (by omega)
    exact absurd h2 (by omega)
  · have e : d = len := by omega
    subst e
    rw [Nat.sub_self]
    exact h j hj h2
theorem wr_V_step {n len : Nat} {L : Nat → Nat} {c t f g : Nat → Int32} (hG : wr_G n L c f g) (hl : len ≤ n) {i : Nat} (hi : i < L len) {w : Nat → Int32}
    (h : wr_V len L t f g (i + 1) w) : wr_V len L t f g i (upd w i (w (wr_k f i) + w (wr_k g i))) := by
  intro j hj d hd h1 h2
  by_cases e : j = i
  · subst e
    have hdl : d < len := by
      rcases Nat.lt_or_ge d len with z | z
      · exact z
      · have : d = len := by omega
        subst this
        omega
    have hk := wr_kids hG (show d < n by omega) h1 h2
    rw [pk_us, h (wr_k f j) (by omega) (d + 1) (by omega) hk.1.1 hk.1.2.1, h (wr_k g j) (by omega) (d + 1) (by omega) hk.2.1 hk.2.2.1, nI_add, show len - d = (len - (d + 1)) + 1 by omega]
    rfl
  · rw [pk_un e]
    exact h j (by omega) d hd h1 h2
theorem wr_root {n len : Nat} {L : Nat → Nat} {c t f g : Nat → Int32} (hG : wr_G n L c f g) {w : Nat → Int32} (h : wr_V len L t f g 0 w) : w 0 = nI (wr_W t f g len 0) := by
  have e := h 0 (Nat.le_refl 0) 0 (Nat.zero_le len) (by rw [hG.1]; omega) hG.2.1
  rw [Nat.sub_zero] at e
  exact e
theorem wr_sum {n len : Nat} {L : Nat → Nat} {c t f g : Nat → Int32} (hG : wr_G n L c f g) {w : Nat → Int32} (h : wr_V len L t f g 0 w) : nI (wr_S t f g len) + w 0 = nI (wr_S t f g (len + 1)) := by
  rw [wr_root hG h, nI_add, wr_S_succ]
/-! build(): the layers as they grow -/
def wr_Q (s e N i : Nat) (a f : Nat → Int32) : Prop := (∀ j, j < s → f j = a j) ∧ ∀ j, s ≤ j → j < i → wr_K e N (f j)
theorem wr_Q_add {s e N N' i k : Nat} {a f : Nat → Int32} (h : wr_Q s e N i a f) (hs : s ≤ i) (hN : N ≤ N') (h1 : e ≤ k) (h2 : k < N') : wr_Q s e N' (i + 1) a (upd f i (nI k)) := by
  constructor
  · intro j hj
    rw [pk_un (by omega)]
    exact h.1 j hj
  · intro j hj hi
    by_cases z : j = i
    · rw [z, pk_us]
      exact ⟨k, h1, h2, rfl⟩
    · rw [pk_un z]
      obtain ⟨q, q1, q2, q3⟩ := h.2 j hj (by omega)
      exact ⟨q, q1, by omega, q3⟩
theorem wr_Q_up {s e N N' i : Nat} {a f : Nat → Int32} (h : wr_Q s e N i a f) (hN : N ≤ N') : wr_Q s e N' i a f :=
  ⟨h.1, fun j hj hi => by
    obtain ⟨q, q1, q2, q3⟩ := h.2 j hj hi
    exact ⟨q, q1, by omega, q3⟩⟩
/-- d layers have their kids, the next one ends at L (d + 1) -/
def wr_J (d : Nat) (L : Nat → Nat) (c f g : Nat → Int32) : Prop :=
  L 0 = 0 ∧ 0 < L 1 ∧ (∀ e, e ≤ d → L e ≤ L (e + 1) ∧ L (e + 1) ≤ L e + 2 ^ e ∧ L (e + 1) + 1 ≤ 2 ^ (e + 1)) ∧ (∀ e, e ≤ d → c e = nI (L e)) ∧
  (∀ e i, e < d → L e ≤ i → i < L (e + 1) → wr_K (L (e + 1)) (L (e + 2)) (f i) ∧ wr_K (L (e + 1)) (L (e + 2)) (g i))
theorem wr_J_0 {c f g : Nat → Int32} (h : c 0 = 0) : wr_J 0 (fun e => e) c f g := by
  refine ⟨rfl, Nat.one_pos, fun e he => ?_, fun e he => ?_, fun e i he => absurd he (Nat.not_lt_zero e)⟩
  · have : e = 0 := by omega
    subst this
    exact ⟨by decide, by decide, by decide⟩
  · have : e = 0 := by omega
    subst this
    exact h
theorem wr_J_G {n : Nat} {L : Nat → Nat} {c f g : Nat → Int32} (hn : n ≤ 7) (h : wr_J n L c f g) : wr_G n L (upd c (n + 1) (nI (L (n + 1)))) f g := by
  obtain ⟨h1, h2, h3, h4, h5⟩ := h
  refine ⟨h1, h2, fun d hd => (h3 d hd).1, ?_, fun d hd => ?_, h5⟩
  · have h := (h3 n (Nat.le_refl n)).2.2
    have h' : 2 ^ (n + 1) ≤ 2 ^ 8 := Nat.pow_le_pow_right (by omega) (by omega)
    omega
  · by_cases e : d = n + 1
    · rw [e, pk_us]
    · rw [pk_un e]
      exact h4 d (by omega)
theorem wr_J_room {n d : Nat} {L : Nat → Nat} {c f g : Nat → Int32} (hn : n ≤ 7) (hd : d < n) (h : wr_J d L c f g) : L d ≤ L (d + 1) ∧ L (d + 1) + 2 * (L (d + 1) - L d) ≤ 255 := by
  obtain ⟨h1, h2, h3, h4, h5⟩ := h
  have h := h3 d (Nat.le_refl d)
  have h' : 2 ^ (d + 1) ≤ 2 ^ 7 := Nat.pow_le_pow_right (by omega) (by omega)
  have h'' : 2 ^ (d + 1) = 2 ^ d * 2 := Nat.pow_succ 2 d
  omega
def wr_L (L : Nat → Nat) (d N : Nat) : Nat → Nat := fun e => if e = d then N else L e
theorem wr_J_step {d N : Nat} {L : Nat → Nat} {c f g f' g' : Nat → Int32} (h : wr_J d L c f g) (h1 : L (d + 1) ≤ N) (h2 : N ≤ L (d + 1) + 2 * (L (d + 1) - L d))
    (hf : wr_Q (L d) (L (d + 1)) N (L (d + 1)) f f') (hg : wr_Q (L d) (L (d + 1)) N (L (d + 1)) g g') :
    wr_J (d + 1) (wr_L L (d + 2) N) (upd c (d + 1) (nI (L (d + 1)))) f' g' := by
  obtain ⟨j1, j2, j3, j4, j5⟩ := h
  have old : ∀ e, e ≤ d + 1 → wr_L L (d + 2) N e = L e := fun e he => if_neg (by omega)
  have new : wr_L L (d + 2) N (d + 2) = N := if_pos rfl
  have mono : ∀ a, a ≤ d → L (a + 1) ≤ L (d + 1) := by
    intro a ha
    have : ∀ m, a + 1 + m ≤ d + 1 → L (a + 1) ≤ L (a + 1 + m) := by
      intro m
      induction m with
      | zero => exact fun _ => Nat.le_refl _
      | succ m ih => exact fun hm => Nat.le_trans (ih (by omega)) (j3 (a + 1 + m) (by omega)).1
    have h := this (d - a) (by omega)
    rw [show a + 1 + (d - a) = d + 1 by omega] at h
    exact h
  refine ⟨by rw [old 0 (by omega)]; exact j1, by rw [old 1 (by omega)]; exact j2, fun e he => ?_, fun e he => ?_, fun e i he hi1 hi2 => ?_⟩
  · by_cases z : e = d + 1
    · subst z
      rw [old (d + 1) (Nat.le_refl _), show d + 1 + 1 = d + 2 from rfl, new]
      have hh := j3 d (Nat.le_refl d)
      have h' : 2 ^ (d + 1) = 2 ^ d * 2 := Nat.pow_succ 2 d
      have h'' : 2 ^ (d + 2) = 2 ^ (d + 1) * 2 := Nat.pow_succ 2 (d + 1)
      omega
    · rw [old e (by omega), old (e + 1) (by omega)]
      exact j3 e (by omega)
  · rw [old e he]
    by_cases z : e = d + 1
    · rw [z, pk_us]
    · rw [pk_un z]
      exact j4 e (by omega)
  · rw [old e (by omega)] at hi1
    rw [old (e + 1) (by omega)] at hi2
    rw [old (e + 1) (by omega)]
    by_cases z : e = d
    · subst z
      rw [new]
      exact ⟨hf.2 i hi1 hi2, hg.2 i hi1 hi2⟩
    · rw [old (e + 2) (by omega)]
      have hm := (mono e (by omega))
      have hl : i < L d := by
        have : ∀ m, e + 1 + m ≤ d → L (e + 1) ≤ L (e + 1 + m) := by
          intro m
          induction m with
          | zero => exact fun _ => Nat.le_refl _
          | succ m ih => exact fun hm => Nat.le_trans (ih (by omega)) (j3 (e + 1 + m) (by omega)).1
        have h := this (d - (e + 1)) (by omega)
        rw [show e + 1 + (d - (e + 1)) = d by omega] at h
        omega
      rw [hf.1 i hl, hg.1 i hl]
      exact j5 e i (by omega) hi1 hi2
/-! bits -/
theorem wr_sh : ∀ n, n < 32 → ((nI n &&& 31).toBitVec.smod 32).toNat = n := by decide +kernel
theorem wr_bit {b i : Nat} (hb : b < 2 ^ 31) (hi : i < 32) : (nI b >>> (nI i &&& 31)) &&& 1 = nI (b / 2 ^ i % 2) := by
  rw [pk_shrN hb _ i (wr_sh i hi)]
  exact pk_andN (Nat.lt_of_le_of_lt (Nat.div_le_self b _) (by omega)) 1 (by decide)
theorem wr_pow {l : Nat} (h : l < 31) : (1 : Int32) <<< (nI l &&& 31) = nI (2 ^ l) := by
  have h' : 2 ^ l ≤ 2 ^ 30 := Nat.pow_le_pow_right (by omega) (by omega)
  have e := pk_shlN (n := 1) (nI l &&& 31) l (wr_sh l (by omega)) (by omega)
  rw [Nat.one_mul] at e
  exact e
theorem wr_m1 (x : Int32) : x - 1 = x + (-1) := Int32.sub_eq_add_neg x 1
theorem wr_neg : nI 0 + (-1) < 0 := by decide
end
section
/-! the stack of expressions: only heights, places and the run starts matter -/
def wr_I (n : Nat) (u : St2) : Prop := u.1 = nI n ∧ (∃ h : Nat, h ≤ 8 ∧ u.2.1 = nI h) ∧ (∃ p : Nat, p ≤ 12 ∧ u.2.2.1 = nI p) ∧ u.2.2.2.2.1 = 0 ∧ (∀ i, i < 8 → ∃ q : Nat, q ≤ 12 ∧ u.2.2.2.2.2.2.1 i = nI q)
theorem wr_mk {n h p : Nat} (hh : h ≤ 8) (hp : p ≤ 12) {ta no : Int32} {a1 a2 a3 a4 a5 a6 a7 a8 a9 a10 a11 a12 a13 a14 a15 a16 a17 a18 a19 a20 a21 a22 : Nat → Int32} (ha : ∀ i, i < 8 → ∃ q : Nat, q ≤ 12 ∧ a1 i = nI q) : wr_I n (nI n, nI h, nI p, ta, 0, no, a1, a2, a3, a4, a5, a6, a7, a8, a9, a10, a11, a12, a13, a14, a15, a16, a17, a18, a19, a20, a21, a22) :=
  ⟨rfl, ⟨h, hh, rfl⟩, ⟨p, hp, rfl⟩, rfl, ha⟩
theorem wr_ua {a : Nat → Int32} {h p : Nat} (hp : p ≤ 12) (ha : ∀ i, i < 8 → ∃ q : Nat, q ≤ 12 ∧ a i = nI q) : ∀ i, i < 8 → ∃ q : Nat, q ≤ 12 ∧ upd a h (nI p) i = nI q := by
  intro i hi
  by_cases e : i = h
  · rw [e, pk_us]
    exact ⟨p, hp, rfl⟩
  · rw [pk_un e]
    exact ha i hi
theorem wr_link {post : St2 → Prop} {lo he pl ta fr no : Int32} {a1 a2 a3 a4 a5 a6 a7 a8 a9 a10 a11 a12 a13 a14 a15 a16 a17 a18 a19 a20 a21 a22 : Nat → Int32} {x y : Int32} (H : ∀ s, post (lo, he, pl, ta, fr, no, a1, a2, a3, a4, a5, s, a7, a8, a9, a10, a11, a12, a13, a14, a15, a16, a17, a18, a19, a20, a21, a22)) : wpX_link post (lo, he, pl, ta, fr, no, a1, a2, a3, a4, a5, a6, a7, a8, a9, a10, a11, a12, a13, a14, a15, a16, a17, a18, a19, a20, a21, a22) x y :=
  pk_loop (fun n i s => wX_link_2 post x y lo he pl ta fr no n (nI i) a1 a2 a3 a4 a5 s a7 a8 a9 a10 a11 a12 a13 a14 a15 a16 a17 a18 a19 a20 a21 a22) (fun _ _ => True) 12 0 a6 (by omega) trivial
    (fun n s _ => pk_le 12 12 (fun _ => H s) (fun z => absurd z (by omega)))
    (fun n i s hi _ hw => pk_le 12 i (fun z => absurd z (by omega)) (fun _ => br_c
      (fun _ => ⟨pk_in i 12 hi, pk_in i 12 hi, nm_e (nm_r (nI_1 i) (hw _ trivial))⟩)
      (fun _ => nm_r (nI_1 i) (hw _ trivial))))
theorem wr_turn1 {post : St2 → Prop} {lo he pl ta fr no : Int32} {a1 a2 a3 a4 a5 a6 a7 a8 a9 a10 a11 a12 a13 a14 a15 a16 a17 a18 a19 a20 a21 a22 : Nat → Int32} {q : Nat} (hq : q < 12) (H : ∀ s, post (lo, he, pl, ta, fr, no, a1, a2, a3, a4, a5, a6, s, a8, a9, a10, a11, a12, a13, a14, a15, a16, a17, a18, a19, a20, a21, a22)) : wpX_turn post (lo, he, pl, ta, fr, no, a1, a2, a3, a4, a5, a6, a7, a8, a9, a10, a11, a12, a13, a14, a15, a16, a17, a18, a19, a20, a21, a22) (nI q) :=
  pk_loop (fun n i s => wX_turn_2 post (nI q) lo he pl ta fr no n (nI i) a1 a2 a3 a4 a5 a6 s a8 a9 a10 a11 a12 a13 a14 a15 a16 a17 a18 a19 a20 a21 a22) (fun _ _ => True) 12 0 a7 (by omega) trivial
    (fun n s _ => pk_le 12 12 (fun _ => H s) (fun z => absurd z (by omega)))
    (fun n i s hi _ hw => pk_le 12 i (fun z => absurd z (by omega)) (fun _ => ⟨pk_in q 12 hq, br_c
      (fun _ => ⟨pk_in i 12 hi, pk_in i 12 hi, nm_e (nm_r (nI_1 i) (hw _ trivial))⟩)
      (fun _ => nm_r (nI_1 i) (hw _ trivial))⟩))
theorem wr_push {post : St2 → Prop} {lo pl ta fr no : Int32} {a1 a2 a3 a4 a5 a6 a7 a8 a9 a10 a11 a12 a13 a14 a15 a16 a17 a18 a19 a20 a21 a22 : Nat → Int32} {h : Nat} {x y z : Int32} (hh : h < 8) (H : ∀ s2 s3 s4, post (lo, nI (h + 1), pl, ta, fr, no, upd a1 h pl, s2, s3, s4, a5, a6, a7, a8, a9, a10, a11, a12, a13, a14, a15, a16, a17, a18, a19, a20, a21, a22)) : wpX_push post (lo, nI h, pl, ta, fr, no, a1, a2, a3, a4, a5, a6, a7, a8, a9, a10, a11, a12, a13, a14, a15, a16, a17, a18, a19, a20, a21, a22) x y z :=
  And.intro (pk_in h 8 hh) (nm_r (wr_upd (by omega)) ⟨pk_in h 8 hh, nm_e ⟨pk_in h 8 hh, nm_e ⟨pk_in h 8 hh, nm_e (nm_r (nI_1 h) (H _ _ _))⟩⟩⟩)
theorem wr_none {post : Int32 → St2 → Prop} {n : Nat} {u : St2} (hI : wr_I n u) (H : ∀ r u', wr_I n u' → post r u') : wpX_none post u := by
  obtain ⟨lo, he, pl, ta, fr, no, a1, a2, a3, a4, a5, a6, a7, a8, a9, a10, a11, a12, a13, a14, a15, a16, a17, a18, a19, a20, a21, a22⟩ := u
  obtain ⟨h1, ⟨h, h2, h3⟩, ⟨p, h4, h5⟩, h6, h7⟩ := hI
  dsimp only at h1 h3 h5 h6 h7
  subst h1 h3 h5 h6
  exact pk_eq h 8 (fun _ => H _ _ (wr_mk h2 h4 h7)) (fun z => wr_push (by omega) (fun s2 s3 s4 => H _ _ (wr_mk (by omega) h4 (wr_ua h4 h7))))
theorem wr_unit {post : Int32 → St2 → Prop} {n : Nat} {u : St2} (hI : wr_I n u) (H : ∀ r u', wr_I n u' → post r u') : wpX_unit post u := by
  obtain ⟨lo, he, pl, ta, fr, no, a1, a2, a3, a4, a5, a6, a7, a8, a9, a10, a11, a12, a13, a14, a15, a16, a17, a18, a19, a20, a21, a22⟩ := u
  obtain ⟨h1, ⟨h, h2, h3⟩, ⟨p, h4, h5⟩, h6, h7⟩ := hI
  dsimp only at h1 h3 h5 h6 h7
  subst h1 h3 h5 h6
  exact pk_eq h 8 (fun _ => H _ _ (wr_mk h2 h4 h7)) (fun z => wr_push (by omega) (fun s2 s3 s4 => H _ _ (wr_mk (by omega) h4 (wr_ua h4 h7))))
theorem wr_letter {post : Int32 → St2 → Prop} {n : Nat} {u : St2} {x : Int32} (hI : wr_I n u) (H : ∀ r u', wr_I n u' → post r u') : wpX_letter post u x := by
  obtain ⟨lo, he, pl, ta, fr, no, a1, a2, a3, a4, a5, a6, a7, a8, a9, a10, a11, a12, a13, a14, a15, a16, a17, a18, a19, a20, a21, a22⟩ := u
  obtain ⟨h1, ⟨h, h2, h3⟩, ⟨p, h4, h5⟩, h6, h7⟩ := hI
  dsimp only at h1 h3 h5 h6 h7
  subst h1 h3 h5 h6
  have E : ∀ r : Int32, post r (nI n, nI h, nI p, ta, 0, no, a1, a2, a3, a4, a5, a6, a7, a8, a9, a10, a11, a12, a13, a14, a15, a16, a17, a18, a19, a20, a21, a22) := fun r => H _ _ (wr_mk h2 h4 h7)
  exact br_c (fun _ => E _) (fun _ => br_c (fun _ => pk_eq h 8 (fun _ => E _) (fun z => pk_eq p 12 (fun _ => E _) (fun z2 => nm_e (wr_push (by omega) (fun s2 s3 s4 =>
    And.intro (pk_in p 12 (by omega)) (nm_e ⟨pk_in p 12 (by omega), nm_e (nm_r (nI_1 p) (H _ _ (wr_mk (by omega) (by omega) (wr_ua h4 h7))))⟩)))))) (fun _ => E _))
theorem wr_opt {post : Int32 → St2 → Prop} {n : Nat} {u : St2} (hI : wr_I n u) (H : ∀ r u', wr_I n u' → post r u') : wpX_opt post u := by
  obtain ⟨lo, he, pl, ta, fr, no, a1, a2, a3, a4, a5, a6, a7, a8, a9, a10, a11, a12, a13, a14, a15, a16, a17, a18, a19, a20, a21, a22⟩ := u
  obtain ⟨h1, ⟨h, h2, h3⟩, ⟨p, h4, h5⟩, h6, h7⟩ := hI
  dsimp only at h1 h3 h5 h6 h7
  subst h1 h3 h5 h6
  exact pk_le 1 h (fun z => ⟨pk_in (h - 1) 8 (by omega) (pk_sub z), nm_e (H _ _ (wr_mk h2 h4 h7))⟩) (fun _ => H _ _ (wr_mk h2 h4 h7))
theorem wr_plus {post : Int32 → St2 → Prop} {n : Nat} {u : St2} (hI : wr_I n u) (H : ∀ r u', wr_I n u' → post r u') : wpX_plus post u := by
  obtain ⟨lo, he, pl, ta, fr, no, a1, a2, a3, a4, a5, a6, a7, a8, a9, a10, a11, a12, a13, a14, a15, a16, a17, a18, a19, a20, a21, a22⟩ := u
  obtain ⟨h1, ⟨h, h2, h3⟩, ⟨p, h4, h5⟩, h6, h7⟩ := hI
  dsimp only at h1 h3 h5 h6 h7
  subst h1 h3 h5 h6
  exact pk_le 1 h (fun z => nm_r (pk_sub z) ⟨pk_in (h - 1) 8 (by omega), pk_in (h - 1) 8 (by omega), wr_link (fun s => H _ _ (wr_mk h2 h4 h7))⟩) (fun _ => H _ _ (wr_mk h2 h4 h7))
theorem wr_star {post : Int32 → St2 → Prop} {n : Nat} {u : St2} (hI : wr_I n u) (H : ∀ r u', wr_I n u' → post r u') : wpX_star post u := by
  obtain ⟨lo, he, pl, ta, fr, no, a1, a2, a3, a4, a5, a6, a7, a8, a9, a10, a11, a12, a13, a14, a15, a16, a17, a18, a19, a20, a21, a22⟩ := u
  obtain ⟨h1, ⟨h, h2, h3⟩, ⟨p, h4, h5⟩, h6, h7⟩ := hI
  dsimp only at h1 h3 h5 h6 h7
  subst h1 h3 h5 h6
  exact pk_le 1 h (fun z => nm_r (pk_sub z) ⟨pk_in (h - 1) 8 (by omega), pk_in (h - 1) 8 (by omega), wr_link (fun s => And.intro (pk_in (h - 1) 8 (by omega)) (nm_e (H _ _ (wr_mk h2 h4 h7))))⟩) (fun _ => H _ _ (wr_mk h2 h4 h7))
theorem wr_alt {post : Int32 → St2 → Prop} {n : Nat} {u : St2} (hI : wr_I n u) (H : ∀ r u', wr_I n u' → post r u') : wpX_alt post u := by
  obtain ⟨lo, he, pl, ta, fr, no, a1, a2, a3, a4, a5, a6, a7, a8, a9, a10, a11, a12, a13, a14, a15, a16, a17, a18, a19, a20, a21, a22⟩ := u
  obtain ⟨h1, ⟨h, h2, h3⟩, ⟨p, h4, h5⟩, h6, h7⟩ := hI
  dsimp only at h1 h3 h5 h6 h7
  subst h1 h3 h5 h6
  refine pk_le 2 h (fun z => ?_) (fun _ => H _ _ (wr_mk h2 h4 h7))
  have y : vp_in (nI (h - 1)) 8 := pk_in (h - 1) 8 (by omega)
  have x : vp_in (nI (h - 2)) 8 := pk_in (h - 2) 8 (by omega)
  have A : ∀ b2 b3, wX_alt_86 post (nI (h - 1)) (nI (h - 2)) (nI n) (nI h) (nI p) ta 0 no a1 b2 b3 a4 a5 a6 a7 a8 a9 a10 a11 a12 a13 a14 a15 a16 a17 a18 a19 a20 a21 a22 := fun b2 b3 => And.intro x (nm_e (H _ _ (wr_mk (by omega) h4 h7)))
  exact nm_r (pk_sub (show 1 ≤ h by omega)) (nm_r (pk_sub z) ⟨x, y, x, nm_e ⟨x, y, x, nm_e ⟨x, br_c (fun _ => ⟨y, br_c (fun _ => ⟨x, nm_e (H _ _ (wr_mk (by omega) h4 h7))⟩) (fun _ => A _ _)⟩) (fun _ => A _ _)⟩⟩⟩)
theorem wr_cat {post : Int32 → St2 → Prop} {n : Nat} {u : St2} (hI : wr_I n u) (H : ∀ r u', wr_I n u' → post r u') : wpX_cat post u := by
  obtain ⟨lo, he, pl, ta, fr, no, a1, a2, a3, a4, a5, a6, a7, a8, a9, a10, a11, a12, a13, a14, a15, a16, a17, a18, a19, a20, a21, a22⟩ := u
  obtain ⟨h1, ⟨h, h2, h3⟩, ⟨p, h4, h5⟩, h6, h7⟩ := hI
  dsimp only at h1 h3 h5 h6 h7
  subst h1 h3 h5 h6
  refine pk_le 2 h (fun z => ?_) (fun _ => H _ _ (wr_mk h2 h4 h7))
  have y : vp_in (nI (h - 1)) 8 := pk_in (h - 1) 8 (by omega)
  have x : vp_in (nI (h - 2)) 8 := pk_in (h - 2) 8 (by omega)
  have A : ∀ b2 b3 b6, wX_cat_139 post (nI (h - 1)) (nI (h - 2)) (nI n) (nI h) (nI p) ta 0 no a1 b2 b3 a4 a5 b6 a7 a8 a9 a10 a11 a12 a13 a14 a15 a16 a17 a18 a19 a20 a21 a22 := fun b2 b3 b6 => And.intro x (nm_e (H _ _ (wr_mk (by omega) h4 h7)))
  have B : ∀ b2 b3 b6, wX_cat_112 post (nI (h - 1)) (nI (h - 2)) (nI n) (nI h) (nI p) ta 0 no a1 b2 b3 a4 a5 b6 a7 a8 a9 a10 a11 a12 a13 a14 a15 a16 a17 a18 a19 a20 a21 a22 := fun b2 b3 b6 => And.intro x (br_c (fun _ => A b2 b3 b6) (fun _ => ⟨y, br_c (fun _ => A b2 b3 b6) (fun _ => ⟨x, nm_e (H _ _ (wr_mk (by omega) h4 h7))⟩)⟩))
  have C : ∀ b2 b3 b6, wX_cat_69 post (nI (h - 1)) (nI (h - 2)) (nI n) (nI h) (nI p) ta 0 no a1 b2 b3 a4 a5 b6 a7 a8 a9 a10 a11 a12 a13 a14 a15 a16 a17 a18 a19 a20 a21 a22 := fun b2 b3 b6 => And.intro y (br_c (fun _ => ⟨y, x, nm_e (B b2 _ b6)⟩) (fun _ => ⟨x, y, x, nm_e (B b2 _ b6)⟩))
  exact nm_r (pk_sub (show 1 ≤ h by omega)) (nm_r (pk_sub z) ⟨x, y, wr_link (fun s => And.intro x (br_c (fun _ => C _ _ _) (fun _ => ⟨x, y, x, nm_e (C _ _ _)⟩)))⟩)
theorem wr_max {p q i : Nat} (h1 : q ≤ i) (h2 : i < max p q) : i < p := by omega
theorem wr_reverse {post : Int32 → St2 → Prop} {n : Nat} {u : St2} (hI : wr_I n u) (H : ∀ r u', wr_I n u' → post r u') : wpX_reverse post u := by
  obtain ⟨lo, he, pl, ta, fr, no, a1, a2, a3, a4, a5, a6, a7, a8, a9, a10, a11, a12, a13, a14, a15, a16, a17, a18, a19, a20, a21, a22⟩ := u
  obtain ⟨h1, ⟨h, h2, h3⟩, ⟨p, h4, h5⟩, h6, h7⟩ := hI
  dsimp only at h1 h3 h5 h6 h7
  subst h1 h3 h5 h6
  refine pk_le 1 h (fun z => nm_r (pk_sub z) ?_) (fun _ => H _ _ (wr_mk h2 h4 h7))
  have x : vp_in (nI (h - 1)) 8 := pk_in (h - 1) 8 (by omega)
  obtain ⟨q, hq, hq'⟩ := h7 (h - 1) (by omega)
  have e : a1 (nI (h - 1)).toNatClampNeg = nI q := by
    rw [nI_clamp (by omega)]
    exact hq'
  have C : ∀ b6 b7, ∃ m, wX_reverse_72 post (nI (h - 1)) (nI n) (nI h) (nI p) ta 0 no m (nI q) a1 a2 a3 a4 a5 b6 b7 a8 a9 a10 a11 a12 a13 a14 a15 a16 a17 a18 a19 a20 a21 a22 := fun b6 b7 =>
    pk_loop (fun m i s => wX_reverse_72 post (nI (h - 1)) (nI n) (nI h) (nI p) ta 0 no m (nI i) a1 a2 a3 a4 a5 s b7 a8 a9 a10 a11 a12 a13 a14 a15 a16 a17 a18 a19 a20 a21 a22) (fun i _ => q ≤ i) (max p q) q b6 (by omega) (Nat.le_refl q)
      (fun m s _ => pk_le p (max p q) (fun _ => ⟨x, nm_e ⟨x, x, nm_e ⟨x, nm_e (H _ _ (wr_mk h2 h4 h7))⟩⟩⟩) (fun w => absurd w (by omega)))
      (fun m i s hi hq hw => pk_le p i (fun w => absurd (wr_max hq hi) (by omega)) (fun w => ⟨pk_in i 12 (by omega), pk_in i 12 (by omega), nm_e (nm_r (nI_1 i) (hw _ (Nat.le_succ_of_le hq)))⟩))
  have B : ∀ b7, ∃ m, wX_reverse_46 post (nI (h - 1)) m (nI q) (nI n) (nI h) (nI p) ta 0 no a1 a2 a3 a4 a5 a6 b7 a8 a9 a10 a11 a12 a13 a14 a15 a16 a17 a18 a19 a20 a21 a22 := fun b7 =>
    pk_loop (fun m i s => wX_reverse_46 post (nI (h - 1)) m (nI i) (nI n) (nI h) (nI p) ta 0 no a1 a2 a3 a4 a5 a6 s a8 a9 a10 a11 a12 a13 a14 a15 a16 a17 a18 a19 a20 a21 a22) (fun i _ => q ≤ i) (max p q) q b7 (by omega) (Nat.le_refl q)
      (fun m s _ => pk_le p (max p q) (fun _ => ⟨x, nm_r e (C a6 s)⟩) (fun w => absurd w (by omega)))
      (fun m i s hi hq hw => pk_le p i (fun w => absurd (wr_max hq hi) (by omega)) (fun w => wr_turn1 (by omega) (fun s' => nm_r (nI_1 i) (hw _ (Nat.le_succ_of_le hq)))))
  exact pk_loop (fun m i s => wX_reverse_20 post (nI (h - 1)) (nI n) (nI h) (nI p) ta 0 no m (nI i) a1 a2 a3 a4 a5 a6 s a8 a9 a10 a11 a12 a13 a14 a15 a16 a17 a18 a19 a20 a21 a22) (fun _ _ => True) 12 0 a7 (by omega) trivial
      (fun m s _ => pk_le 12 12 (fun _ => ⟨x, nm_r e (B s)⟩) (fun w => absurd w (by omega)))
      (fun m i s hi _ hw => pk_le 12 i (fun w => absurd w (by omega)) (fun w => ⟨pk_in i 12 hi, nm_e (nm_r (nI_1 i) (hw _ trivial))⟩))
theorem wr_161 {post : Int32 → St2 → Prop} {J : Int32 → (Nat → Int32) → (Nat → Int32) → (Nat → Int32) → (Nat → Int32) → (Nat → Int32) → (Nat → Int32) → (Nat → Int32) → (Nat → Int32) → (Nat → Int32) → (Nat → Int32) → (Nat → Int32) → (Nat → Int32) → (Nat → Int32) → (Nat → Int32) → (Nat → Int32) → (Nat → Int32) → (Nat → Int32) → (Nat → Int32) → (Nat → Int32) → (Nat → Int32) → (Nat → Int32) → (Nat → Int32) → Prop} {lo he pl ta fr no : Int32} {a1 a2 a3 a4 a5 a6 a7 a8 a9 a10 a11 a12 a13 a14 a15 a16 a17 a18 a19 a20 a21 a22 : Nat → Int32} {s q i : Nat} {x : Int32} (hs : s ≤ 2) (hq : q ≤ i) (hi : i < 12)
    (H : ∀ b, J (nI (i + 1)) a1 a2 a3 a4 a5 a6 a7 a8 a9 a10 a11 a12 b a14 a15 a16 a17 a18 a19 a20 a21 a22) : wX_store_161 post J (nI s) x (nI q) (nI i) lo he pl ta fr no a1 a2 a3 a4 a5 a6 a7 a8 a9 a10 a11 a12 a13 a14 a15 a16 a17 a18 a19 a20 a21 a22 := by
  have e : nI s * 12 + nI i - nI q = nI (s * 12 + i - q) := by
    rw [show (12 : Int32) = nI 12 from rfl, pk_mul, nI_add, pk_sub (by omega)]
  exact And.intro (pk_in i 12 hi) ⟨pk_in (s * 12 + i - q) 36 (by omega) e, nm_e (nm_r (nI_1 i) (H _))⟩
theorem wr_store {post : Int32 → St2 → Prop} {n : Nat} {u : St2} {sl : Int32} (hI : wr_I n u) (H : ∀ r u', wr_I n u' → post r u') : wpX_store post u sl := by
  obtain ⟨lo, he, pl, ta, fr, no, a1, a2, a3, a4, a5, a6, a7, a8, a9, a10, a11, a12, a13, a14, a15, a16, a17, a18, a19, a20, a21, a22⟩ := u
  obtain ⟨h1, ⟨h, h2, h3⟩, ⟨p, h4, h5⟩, h6, h7⟩ := hI
  dsimp only at h1 h3 h5 h6 h7
  subst h1 h3 h5 h6
  have E : ∀ r : Int32, post r (nI n, nI h, nI p, ta, 0, no, a1, a2, a3, a4, a5, a6, a7, a8, a9, a10, a11, a12, a13, a14, a15, a16, a17, a18, a19, a20, a21, a22) := fun r => H _ _ (wr_mk h2 h4 h7)
  refine br_c (fun _ => E _) (fun z0 => br_c (fun z1 => pk_le 1 h (fun z => nm_r (pk_sub z) ?_) (fun _ => E _)) (fun _ => E _))
  obtain ⟨s, hs, rfl⟩ := nI_of2 (n := 2) (by decide) z0 z1
  have x : vp_in (nI (h - 1)) 8 := pk_in (h - 1) 8 (by omega)
  have y : vp_in (nI s) 3 := pk_in s 3 (by omega)
  obtain ⟨q, hq, hq'⟩ := h7 (h - 1) (by omega)
  have e : a1 (nI (h - 1)).toNatClampNeg = nI q := by
    rw [nI_clamp (by omega)]
    exact hq'
  have C : ∀ b8 b9 b10 b11 b12, ∃ m, wX_store_93 post (nI s) (nI (h - 1)) (nI q) (nI n) (nI h) (nI p) ta 0 no m (nI q) a1 a2 a3 a4 a5 a6 a7 b8 b9 b10 b11 b12 a13 a14 a15 a16 a17 a18 a19 a20 a21 a22 := fun b8 b9 b10 b11 b12 =>
    pk_loop (fun m i (v : (Nat → Int32) × (Nat → Int32) × (Nat → Int32)) => wX_store_93 post (nI s) (nI (h - 1)) (nI q) (nI n) (nI h) (nI p) ta 0 no m (nI i) a1 a2 a3 a4 a5 a6 a7 b8 b9 b10 v.1 v.2.1 v.2.2 a14 a15 a16 a17 a18 a19 a20 a21 a22) (fun i _ => q ≤ i) (max p q) q (b11, b12, a13) (by omega) (Nat.le_refl q)
      (fun m v _ => pk_le p (max p q) (fun _ => H _ _ (wr_mk (by omega) hq h7)) (fun w => absurd w (by omega)))
      (fun m i v hi hqi hw => pk_le p i (fun w => absurd (wr_max hqi hi) (by omega)) (fun w => by
        have i12 : vp_in (nI i) 12 := pk_in i 12 (by omega)
        have D : ∀ c11 c12 k, wX_store_136 post (wX_store_93 post (nI s) (nI (h - 1)) (nI q) (nI n) (nI h) (nI p) ta 0 no m) (nI s) (nI (h - 1)) (nI q) (nI i) k (nI n) (nI h) (nI p) ta 0 no a1 a2 a3 a4 a5 a6 a7 b8 b9 b10 c11 c12 v.2.2 a14 a15 a16 a17 a18 a19 a20 a21 a22 := fun c11 c12 k =>
          And.intro i12 (br_c (fun _ => wr_161 hs hqi (by omega) (fun b => hw (c11, c12, b) (Nat.le_succ_of_le hqi))) (fun _ => ⟨y, y, nm_e (wr_161 hs hqi (by omega) (fun b => hw (c11, _, b) (Nat.le_succ_of_le hqi)))⟩))
        exact nm_e ⟨i12, br_c (fun _ => D _ _ _) (fun _ => ⟨y, y, nm_e (D _ _ _)⟩)⟩))
  exact ⟨x, nm_r e ⟨x, y, nm_e ⟨x, y, nm_e ⟨x, y, nm_e ⟨y, nm_e ⟨y, nm_e (C _ _ _ _ _)⟩⟩⟩⟩⟩⟩
theorem wr_choose {post : Int32 → St2 → Prop} {n : Nat} {u : St2} {x : Int32} (hI : wr_I n u) (H : ∀ r u', wr_I n u' → post r u') : wpX_choose post u x := by
  obtain ⟨lo, he, pl, ta, fr, no, a1, a2, a3, a4, a5, a6, a7, a8, a9, a10, a11, a12, a13, a14, a15, a16, a17, a18, a19, a20, a21, a22⟩ := u
  obtain ⟨h1, ⟨h, h2, h3⟩, ⟨p, h4, h5⟩, h6, h7⟩ := hI
  dsimp only at h1 h3 h5 h6 h7
  subst h1 h3 h5 h6
  exact br_c (fun _ => H _ _ (wr_mk h2 h4 h7)) (fun _ => br_c (fun _ => H _ _ (wr_mk h2 h4 h7)) (fun _ => H _ _ (wr_mk h2 h4 h7)))
theorem wr_discard {post : St2 → Prop} {n : Nat} {u : St2} (hI : wr_I n u) (H : ∀ u', wr_I n u' → post u') : wpX_discard post u := by
  obtain ⟨lo, he, pl, ta, fr, no, a1, a2, a3, a4, a5, a6, a7, a8, a9, a10, a11, a12, a13, a14, a15, a16, a17, a18, a19, a20, a21, a22⟩ := u
  obtain ⟨h1, ⟨h, h2, h3⟩, ⟨p, h4, h5⟩, h6, h7⟩ := hI
  dsimp only at h1 h3 h5 h6 h7
  subst h1 h3 h5 h6
  exact H _ (wr_mk (h := 0) (p := 0) (by omega) (by omega) h7)
theorem wr_turn {post : St2 → Prop} {n : Nat} {u : St2} {x y : Int32} (hI : wr_I n u) (H : ∀ u', wr_I n u' → post u') : wpL_turn post u x y := by
  have X : ∀ (r : Int32) (u' : St2), wr_I n u' → (fun (_ : Int32) (v : St2) => match v with | (lo, he, pl, ta, fr, no, a1, a2, a3, a4, a5, a6, a7, a8, a9, a10, a11, a12, a13, a14, a15, a16, a17, a18, a19, a20, a21, a22) => post (lo, he, pl, ta, fr, no, a1, a2, a3, a4, a5, a6, a7, a8, a9, a10, a11, a12, a13, a14, a15, a16, a17, a18, a19, a20, a21, a22)) r u' := by
    intro r u' h
    obtain ⟨lo, he, pl, ta, fr, no, a1, a2, a3, a4, a5, a6, a7, a8, a9, a10, a11, a12, a13, a14, a15, a16, a17, a18, a19, a20, a21, a22⟩ := u'
    exact H _ h
  have Y : ∀ (u' : St2), wr_I n u' → (fun (v : St2) => match v with | (lo, he, pl, ta, fr, no, a1, a2, a3, a4, a5, a6, a7, a8, a9, a10, a11, a12, a13, a14, a15, a16, a17, a18, a19, a20, a21, a22) => post (lo, he, pl, ta, fr, no, a1, a2, a3, a4, a5, a6, a7, a8, a9, a10, a11, a12, a13, a14, a15, a16, a17, a18, a19, a20, a21, a22)) u' := by
    intro u' h
    obtain ⟨lo, he, pl, ta, fr, no, a1, a2, a3, a4, a5, a6, a7, a8, a9, a10, a11, a12, a13, a14, a15, a16, a17, a18, a19, a20, a21, a22⟩ := u'
    exact H _ h
  obtain ⟨lo, he, pl, ta, fr, no, a1, a2, a3, a4, a5, a6, a7, a8, a9, a10, a11, a12, a13, a14, a15, a16, a17, a18, a19, a20, a21, a22⟩ := u
  exact nm_e (br_c (fun _ => br_c (fun _ => wr_unit hI X) (fun _ => br_c (fun _ => wr_none hI X) (fun _ => br_c
    (fun _ => br_c (fun _ => wr_alt hI X) (fun _ => br_c (fun _ => wr_star hI X) (fun _ => br_c (fun _ => wr_plus hI X) (fun _ => br_c (fun _ => wr_opt hI X) (fun _ => br_c (fun _ => wr_reverse hI X) (fun _ => br_c
      (fun _ => br_c (fun _ => wr_discard hI Y) (fun _ => wr_choose hI X)) (fun _ => wr_store hI X)))))))
    (fun _ => wr_cat hI X)))) (fun _ => wr_letter hI X))
end
section
/-! build(): the walk -/
theorem wr_accepts {post : Int32 → Prop} {u : St2} (s : Nat) (hs : s < 3) (x : Int32) (H : ∀ r, post r) : wpX_accepts post u (nI s) x := by
  obtain ⟨lo, he, pl, ta, fr, no, a1, a2, a3, a4, a5, a6, a7, a8, a9, a10, a11, a12, a13, a14, a15, a16, a17, a18, a19, a20, a21, a22⟩ := u
  have A : wX_accepts_19 post (nI s) x lo he pl ta fr no a1 a2 a3 a4 a5 a6 a7 a8 a9 a10 a11 a12 a13 a14 a15 a16 a17 a18 a19 a20 a21 a22 := And.intro (pk_in s 3 hs) (br_c (fun _ => H _) (fun _ => H _))
  exact br_c (fun _ => A) (fun _ => ⟨pk_in s 3 hs, br_c (fun _ => A) (fun _ => H _)⟩)
theorem wr_chosen {post : Int32 → Prop} {u : St2} {x y z : Int32} (H : ∀ r, post r) : wpX_chosen post u x y z := by
  obtain ⟨lo, he, pl, ta, fr, no, a1, a2, a3, a4, a5, a6, a7, a8, a9, a10, a11, a12, a13, a14, a15, a16, a17, a18, a19, a20, a21, a22⟩ := u
  have A : ∀ k, wX_chosen_45 post k lo he pl ta fr no a1 a2 a3 a4 a5 a6 a7 a8 a9 a10 a11 a12 a13 a14 a15 a16 a17 a18 a19 a20 a21 a22 := fun k => br_c (fun _ => H _) (fun _ => H _)
  have B : ∀ k, wX_chosen_30 post z k lo he pl ta fr no a1 a2 a3 a4 a5 a6 a7 a8 a9 a10 a11 a12 a13 a14 a15 a16 a17 a18 a19 a20 a21 a22 := fun k => wr_accepts 2 (by omega) z (fun r => br_c (fun _ => A _) (fun _ => nm_e (A _)))
  have C : ∀ k, wX_chosen_15 post y z k lo he pl ta fr no a1 a2 a3 a4 a5 a6 a7 a8 a9 a10 a11 a12 a13 a14 a15 a16 a17 a18 a19 a20 a21 a22 := fun k => wr_accepts 1 (by omega) y (fun r => br_c (fun _ => B _) (fun _ => nm_e (B _)))
  unfold wpX_chosen
  exact wr_accepts 0 (by omega) x (fun r => br_c (fun _ => C _) (fun _ => C _))
theorem wr_node {post : Int32 → St2 → Prop} {lo he pl ta fr : Int32} {a1 a2 a3 a4 a5 a6 a7 a8 a9 a10 a11 a12 a13 a14 a15 a16 a17 a18 a19 a20 a21 a22 : Nat → Int32} {f N : Nat} (hf : f ≤ N) (hN : N < 256) (x y z : Int32)
    (H : ∀ (k N' : Nat) (b15 b16 b17 b20 : Nat → Int32), f ≤ k → k < N' → N ≤ N' → N' ≤ N + 1 → post (nI k) (lo, he, pl, ta, fr, nI N', a1, a2, a3, a4, a5, a6, a7, a8, a9, a10, a11, a12, a13, a14, b15, b16, b17, a18, a19, b20, a21, a22)) :
    wpX_node post (lo, he, pl, ta, fr, nI N, a1, a2, a3, a4, a5, a6, a7, a8, a9, a10, a11, a12, a13, a14, a15, a16, a17, a18, a19, a20, a21, a22) (nI f) x y z :=
  pk_loop (σ := Unit) (fun n i _ => wX_node_3 post x y z lo he pl ta fr (nI N) a1 a2 a3 a4 a5 a6 a7 a8 a9 a10 a11 a12 a13 a14 a15 a16 a17 a18 a19 a20 a21 a22 n (nI i)) (fun i _ => f ≤ i) N f () hf (Nat.le_refl f)
    (fun n _ _ => pk_le N N (fun _ => pk_le 256 N (fun w => absurd w (by omega)) (fun _ => ⟨pk_in N 256 hN, nm_e ⟨pk_in N 256 hN, nm_e ⟨pk_in N 256 hN, nm_e (wr_chosen (fun r => And.intro (pk_in N 256 hN) (nm_e (nm_r (nI_1 N) (H N (N + 1) _ _ _ _ hf (by omega) (by omega) (by omega))))))⟩⟩⟩)) (fun w => absurd w (by omega)))
    (fun n i _ hi hI hw => pk_le N i (fun w => absurd w (by omega)) (fun _ => ⟨pk_in i 256 (by omega), br_c (fun _ => ⟨pk_in i 256 (by omega), br_c (fun _ => ⟨pk_in i 256 (by omega), br_c (fun _ => H i N _ _ _ _ hI hi (by omega) (by omega))
      (fun _ => nm_r (nI_1 i) (hw () (Nat.le_succ_of_le hI)))⟩) (fun _ => nm_r (nI_1 i) (hw () (Nat.le_succ_of_le hI)))⟩) (fun _ => nm_r (nI_1 i) (hw () (Nat.le_succ_of_le hI)))⟩))
theorem wr_node_2 {post : Int32 → St2 → Prop} {lo he pl ta fr : Int32} {a1 a2 a3 a4 a5 a6 a7 a8 a9 a10 a11 a12 a13 a14 a15 a16 a17 a18 a19 a20 a21 a22 : Nat → Int32} {f N : Nat} (hf : f ≤ N) (hN : N < 256) (x y z : Int32)
    (H : ∀ (k N' : Nat) (b15 b16 b17 b20 : Nat → Int32), f ≤ k → k < N' → N ≤ N' → N' ≤ N + 1 → post (nI k) (lo, he, pl, ta, fr, nI N', a1, a2, a3, a4, a5, a6, a7, a8, a9, a10, a11, a12, a13, a14, b15, b16, b17, a18, a19, b20, a21, a22)) :
    wpX_node_2 post (lo, he, pl, ta, fr, nI N, a1, a2, a3, a4, a5, a6, a7, a8, a9, a10, a11, a12, a13, a14, a15, a16, a17, a18, a19, a20, a21, a22) (nI f) x y z :=
  pk_loop (σ := Unit) (fun n i _ => wX_node_2_3 post x y z lo he pl ta fr (nI N) a1 a2 a3 a4 a5 a6 a7 a8 a9 a10 a11 a12 a13 a14 a15 a16 a17 a18 a19 a20 a21 a22 n (nI i)) (fun i _ => f ≤ i) N f () hf (Nat.le_refl f)
    (fun n _ _ => pk_le N N (fun _ => pk_le 256 N (fun w => absurd w (by omega)) (fun _ => ⟨pk_in N 256 hN, nm_e ⟨pk_in N 256 hN, nm_e ⟨pk_in N 256 hN, nm_e (wr_chosen (fun r => And.intro (pk_in N 256 hN) (nm_e (nm_r (nI_1 N) (H N (N + 1) _ _ _ _ hf (by omega) (by omega) (by omega))))))⟩⟩⟩)) (fun w => absurd w (by omega)))
    (fun n i _ hi hI hw => pk_le N i (fun w => absurd w (by omega)) (fun _ => ⟨pk_in i 256 (by omega), br_c (fun _ => ⟨pk_in i 256 (by omega), br_c (fun _ => ⟨pk_in i 256 (by omega), br_c (fun _ => H i N _ _ _ _ hI hi (by omega) (by omega))
      (fun _ => nm_r (nI_1 i) (hw () (Nat.le_succ_of_le hI)))⟩) (fun _ => nm_r (nI_1 i) (hw () (Nat.le_succ_of_le hI)))⟩) (fun _ => nm_r (nI_1 i) (hw () (Nat.le_succ_of_le hI)))⟩))
theorem wr_node_3 {post : Int32 → St2 → Prop} {lo he pl ta fr : Int32} {a1 a2 a3 a4 a5 a6 a7 a8 a9 a10 a11 a12 a13 a14 a15 a16 a17 a18 a19 a20 a21 a22 : Nat → Int32} {f N : Nat} (hf : f ≤ N) (hN : N < 256) (x y z : Int32)
    (H : ∀ (k N' : Nat) (b15 b16 b17 b20 : Nat → Int32), f ≤ k → k < N' → N ≤ N' → N' ≤ N + 1 → post (nI k) (lo, he, pl, ta, fr, nI N', a1, a2, a3, a4, a5, a6, a7, a8, a9, a10, a11, a12, a13, a14, b15, b16, b17, a18, a19, b20, a21, a22)) :
    wpX_node_3 post (lo, he, pl, ta, fr, nI N, a1, a2, a3, a4, a5, a6, a7, a8, a9, a10, a11, a12, a13, a14, a15, a16, a17, a18, a19, a20, a21, a22) (nI f) x y z :=
  pk_loop (σ := Unit) (fun n i _ => wX_node_3_3 post x y z lo he pl ta fr (nI N) a1 a2 a3 a4 a5 a6 a7 a8 a9 a10 a11 a12 a13 a14 a15 a16 a17 a18 a19 a20 a21 a22 n (nI i)) (fun i _ => f ≤ i) N f () hf (Nat.le_refl f)
    (fun n _ _ => pk_le N N (fun _ => pk_le 256 N (fun w => absurd w (by omega)) (fun _ => ⟨pk_in N 256 hN, nm_e ⟨pk_in N 256 hN, nm_e ⟨pk_in N 256 hN, nm_e (wr_chosen (fun r => And.intro (pk_in N 256 hN) (nm_e (nm_r (nI_1 N) (H N (N + 1) _ _ _ _ hf (by omega) (by omega) (by omega))))))⟩⟩⟩)) (fun w => absurd w (by omega)))
    (fun n i _ hi hI hw => pk_le N i (fun w => absurd w (by omega)) (fun _ => ⟨pk_in i 256 (by omega), br_c (fun _ => ⟨pk_in i 256 (by omega), br_c (fun _ => ⟨pk_in i 256 (by omega), br_c (fun _ => H i N _ _ _ _ hI hi (by omega) (by omega))
      (fun _ => nm_r (nI_1 i) (hw () (Nat.le_succ_of_le hI)))⟩) (fun _ => nm_r (nI_1 i) (hw () (Nat.le_succ_of_le hI)))⟩) (fun _ => nm_r (nI_1 i) (hw () (Nat.le_succ_of_le hI)))⟩))
theorem wr_step {post : Int32 → Prop} {u : St2} (s : Nat) (hs : s < 3) (x c : Int32) (H : ∀ r, post r) : wpX_step post u (nI s) x c := by
  obtain ⟨lo, he, pl, ta, fr, no, a1, a2, a3, a4, a5, a6, a7, a8, a9, a10, a11, a12, a13, a14, a15, a16, a17, a18, a19, a20, a21, a22⟩ := u
  have A : ∀ v0, ∃ m, wX_step_22 post (nI s) x c lo he pl ta fr no a1 a2 a3 a4 a5 a6 a7 a8 a9 a10 a11 a12 a13 a14 a15 a16 a17 a18 a19 a20 a21 a22 m v0 0 := fun v0 =>
    pk_loop (fun m i v => wX_step_22 post (nI s) x c lo he pl ta fr no a1 a2 a3 a4 a5 a6 a7 a8 a9 a10 a11 a12 a13 a14 a15 a16 a17 a18 a19 a20 a21 a22 m v (nI i)) (fun _ _ => True) 12 0 v0 (by omega) trivial
      (fun m v _ => pk_le 12 12 (fun _ => br_c (fun _ => ⟨pk_in s 3 hs, H _⟩) (fun _ => ⟨pk_in s 3 hs, H _⟩)) (fun w => absurd w (by omega)))
      (fun m i v hi _ hw => pk_le 12 i (fun w => absurd w (by omega)) (fun _ => br_c
        (fun _ => ⟨pk_in (s * 12 + i) 36 (by omega) (by rw [show (12 : Int32) = nI 12 from rfl, pk_mul, nI_add]), nm_e (nm_r (nI_1 i) (hw _ trivial))⟩)
        (fun _ => nm_r (nI_1 i) (hw _ trivial))))
  exact br_c (fun _ => A _) (fun _ => ⟨pk_in s 3 hs, nm_e (A _)⟩)
theorem wr_child {post : Int32 → St2 → Prop} {lo he pl ta fr : Int32} {a1 a2 a3 a4 a5 a6 a7 a8 a9 a10 a11 a12 a13 a14 a15 a16 a17 a18 a19 a20 a21 a22 : Nat → Int32} {f N i : Nat} (hf : f ≤ N) (hN : N < 256) (hi : i < 256) (c : Int32)
    (H : ∀ (k N' : Nat) (b15 b16 b17 b20 : Nat → Int32), f ≤ k → k < N' → N ≤ N' → N' ≤ N + 1 → post (nI k) (lo, he, pl, ta, fr, nI N', a1, a2, a3, a4, a5, a6, a7, a8, a9, a10, a11, a12, a13, a14, b15, b16, b17, a18, a19, b20, a21, a22)) :
    wpX_child post (lo, he, pl, ta, fr, nI N, a1, a2, a3, a4, a5, a6, a7, a8, a9, a10, a11, a12, a13, a14, a15, a16, a17, a18, a19, a20, a21, a22) (nI f) (nI i) c :=
  And.intro (pk_in i 256 hi) (wr_step 0 (by omega) _ c (fun r2 => And.intro (pk_in i 256 hi) (wr_step 1 (by omega) _ c (fun r4 => And.intro (pk_in i 256 hi) (wr_step 2 (by omega) _ c (fun r6 =>
    wr_node_2 hf hN r2 r4 r6 (fun k N' b15 b16 b17 b20 h1 h2 h3 h4 => H k N' b15 b16 b17 b20 h1 h2 h3 h4)))))))
theorem wr_child_2 {post : Int32 → St2 → Prop} {lo he pl ta fr : Int32} {a1 a2 a3 a4 a5 a6 a7 a8 a9 a10 a11 a12 a13 a14 a15 a16 a17 a18 a19 a20 a21 a22 : Nat → Int32} {f N i : Nat} (hf : f ≤ N) (hN : N < 256) (hi : i < 256) (c : Int32)
    (H : ∀ (k N' : Nat) (b15 b16 b17 b20 : Nat → Int32), f ≤ k → k < N' → N ≤ N' → N' ≤ N + 1 → post (nI k) (lo, he, pl, ta, fr, nI N', a1, a2, a3, a4, a5, a6, a7, a8, a9, a10, a11, a12, a13, a14, b15, b16, b17, a18, a19, b20, a21, a22)) :
    wpX_child_2 post (lo, he, pl, ta, fr, nI N, a1, a2, a3, a4, a5, a6, a7, a8, a9, a10, a11, a12, a13, a14, a15, a16, a17, a18, a19, a20, a21, a22) (nI f) (nI i) c :=
  And.intro (pk_in i 256 hi) (wr_step 0 (by omega) _ c (fun r2 => And.intro (pk_in i 256 hi) (wr_step 1 (by omega) _ c (fun r4 => And.intro (pk_in i 256 hi) (wr_step 2 (by omega) _ c (fun r6 =>
    wr_node_3 hf hN r2 r4 r6 (fun k N' b15 b16 b17 b20 h1 h2 h3 h4 => H k N' b15 b16 b17 b20 h1 h2 h3 h4)))))))
theorem wr_b66 {post : St2 → Prop} {J : Int32 → Int32 → Int32 → Int32 → Int32 → Int32 → Int32 → (Nat → Int32) → (Nat → Int32) → (Nat → Int32) → (Nat → Int32) → (Nat → Int32) → (Nat → Int32) → (Nat → Int32) → (Nat → Int32) → (Nat → Int32) → (Nat → Int32) → (Nat → Int32) → (Nat → Int32) → (Nat → Int32) → (Nat → Int32) → (Nat → Int32) → (Nat → Int32) → (Nat → Int32) → (Nat → Int32) → (Nat → Int32) → (Nat → Int32) → (Nat → Int32) → (Nat → Int32) → Prop} {lo he pl ta fr : Int32} {a1 a2 a3 a4 a5 a6 a7 a8 a9 a10 a11 a12 a13 a14 a18 a19 a21 a22 : Nat → Int32} {d s e : Nat} (hs : s ≤ e) (h255 : e + 2 * (e - s) ≤ 255)
    (HJ : ∀ (N : Nat) (b15 b16 b17 b18 b19 b20 : Nat → Int32), e ≤ N → N ≤ e + 2 * (e - s) → wr_Q s e N e a18 b18 → wr_Q s e N e a19 b19 → J (nI (d + 1)) lo he pl ta fr (nI N) a1 a2 a3 a4 a5 a6 a7 a8 a9 a10 a11 a12 a13 a14 b15 b16 b17 b18 b19 b20 a21 a22) :
    ∀ (m i N : Nat) (b15 b16 b17 b18 b19 b20 : Nat → Int32), s ≤ i → i ≤ e → e - i < m → e ≤ N → N ≤ e + 2 * (i - s) → wr_Q s e N i a18 b18 → wr_Q s e N i a19 b19 →
      wX_build_66 post J (nI d) (nI e) m (nI i) lo he pl ta fr (nI N) a1 a2 a3 a4 a5 a6 a7 a8 a9 a10 a11 a12 a13 a14 b15 b16 b17 b18 b19 b20 a21 a22 := by
  intro m
  induction m with
  | zero => intro i N b15 b16 b17 b18 b19 b20 _ _ h; exact absurd h (Nat.not_lt_zero _)
  | succ m ih =>
    intro i N b15 b16 b17 b18 b19 b20 h1 h2 h3 h4 h5 h6 h7
    refine pk_le e i (fun z => nm_r (nI_1 d) ?_) (fun z => wr_child h4 (by omega) (by omega) _ (fun k N1 c15 c16 c17 c20 k1 k2 k3 k4 =>
      And.intro (pk_in i 256 (by omega)) (nm_r (wr_upd (by omega)) (wr_child_2 (by omega) (by omega) (by omega) _ (fun k' N2 e15 e16 e17 e20 g1 g2 g3 g4 =>
        And.intro (pk_in i 256 (by omega)) (nm_r (wr_upd (by omega)) (nm_r (nI_1 i)
          (ih (i + 1) N2 e15 e16 e17 (upd b18 i (nI k)) (upd b19 i (nI k')) e20 (by omega) (by omega) (by omega) (by omega) (by omega)
            (wr_Q_up (wr_Q_add h6 h1 k3 k1 k2) g3) (wr_Q_add h7 h1 (by omega) g1 g2)))))))))
    have ei : i = e := by omega
    subst ei
    exact HJ N b15 b16 b17 b18 b19 b20 h4 h5 h6 h7
theorem wr_b37 {post : St2 → Prop} {he pl ta fr : Int32} {a1 a2 a3 a4 a5 a6 a7 a8 a9 a10 a11 a12 a13 a21 a22 : Nat → Int32} {n : Nat} (hn : n ≤ 7)
    (H : ∀ (L : Nat → Nat) (N : Int32) (b14 b15 b16 b17 b18 b19 b20 : Nat → Int32), wr_G n L b14 b18 b19 → post (nI n, he, pl, ta, 1, N, a1, a2, a3, a4, a5, a6, a7, a8, a9, a10, a11, a12, a13, b14, b15, b16, b17, b18, b19, b20, a21, a22)) :
    ∀ (m d N : Nat) (L : Nat → Nat) (b14 b15 b16 b17 b18 b19 b20 : Nat → Int32), d ≤ n → n - d < m → L (d + 1) = N → wr_J d L b14 b18 b19 →
      wX_build_37 post m (nI d) (nI n) he pl ta fr (nI N) a1 a2 a3 a4 a5 a6 a7 a8 a9 a10 a11 a12 a13 b14 b15 b16 b17 b18 b19 b20 a21 a22 := by
  intro m
  induction m with
  | zero => intro d N L b14 b15 b16 b17 b18 b19 b20 _ h; exact absurd h (Nat.not_lt_zero _)
  | succ m ih =>
    intro d N L b14 b15 b16 b17 b18 b19 b20 h1 h2 h3 h4
    subst h3
    refine pk_le n d (fun z => ?_) (fun z => ?_)
    · have ed : d = n := by omega
      subst ed
      exact ⟨pk_in (d + 1) 10 (by omega) (nI_1 d), nm_r (by rw [nI_1, nI_clamp (by omega)]) (H L _ _ _ _ _ _ _ _ (wr_J_G hn h4))⟩
    · have hr := wr_J_room hn z h4
      have e0 : (upd b14 (d + 1) (nI (L (d + 1)))) (nI d).toNatClampNeg = nI (L d) := by
        rw [nI_clamp (by omega), pk_un (by omega)]
        exact h4.2.2.2.1 d (Nat.le_refl d)
      refine ⟨pk_in (d + 1) 10 (by omega) (nI_1 d), nm_r (e' := upd b14 (d + 1) (nI (L (d + 1)))) (by rw [nI_1, nI_clamp (by omega)]) ⟨pk_in d 10 (by omega), nm_r e0 ?_⟩⟩
      exact ⟨_, wr_b66 hr.1 hr.2 (fun N c15 c16 c17 c18 c19 c20 g1 g2 g3 g4 => ih (d + 1) N (wr_L L (d + 2) N) _ c15 c16 c17 c18 c19 c20 (by omega) (by omega) (if_pos rfl) (wr_J_step h4 g1 g2 g3 g4))
        (L (d + 1) - L d + 1) (L d) (L (d + 1)) b15 b16 b17 b18 b19 b20 (Nat.le_refl _) hr.1 (by omega) (Nat.le_refl _) (by omega)
        ⟨fun j _ => rfl, fun j hj hj' => absurd hj' (by omega)⟩ ⟨fun j _ => rfl, fun j hj hj' => absurd hj' (by omega)⟩⟩
theorem wr_build {post : St2 → Prop} {he pl ta no : Int32} {a1 a2 a3 a4 a5 a6 a7 a8 a9 a10 a11 a12 a13 a14 a15 a16 a17 a18 a19 a20 a21 a22 : Nat → Int32} {n : Nat} (hn : n ≤ 7)
    (H : ∀ (L : Nat → Nat) (N : Int32) (b14 b15 b16 b17 b18 b19 b20 : Nat → Int32), wr_G n L b14 b18 b19 → post (nI n, he, pl, ta, 1, N, a1, a2, a3, a4, a5, a6, a7, a8, a9, a10, a11, a12, a13, b14, b15, b16, b17, b18, b19, b20, a21, a22)) :
    wpX_build post (nI n, he, pl, ta, 0, no, a1, a2, a3, a4, a5, a6, a7, a8, a9, a10, a11, a12, a13, a14, a15, a16, a17, a18, a19, a20, a21, a22) :=
  br_t rfl (nm_e (wr_node (f := 0) (N := 0) (Nat.le_refl 0) (by omega) _ _ _ (fun k N' b15 b16 b17 b20 h1 h2 h3 h4 =>
    Exists.intro (n + 1) (wr_b37 hn H (n + 1) 0 N' (fun e => e) _ b15 b16 b17 a18 a19 b20 (by omega) (by omega) (by show 0 + 1 = N'; omega) (wr_J_0 pk_us)))))
end
section
/-! the questions over a built graph: ways alone changes -/
theorem wr_put {w P : Nat → Int32} {s i : Nat} {x : Int32} (h : ∀ j, s ≤ j → j < i → w j = P j) (hx : x = P i) : ∀ j, s ≤ j → j < i + 1 → upd w i x j = P j := by
  intro j h1 h2
  by_cases e : j = i
  · rw [e, pk_us, hx]
  · rw [pk_un e]
    exact h j h1 (by omega)
theorem wr_hit0 {t f g : Nat → Int32} {i : Nat} (h : t (nI i).toNatClampNeg = 0) (hi : i < 2 ^ 31) : 0 = nI (wr_W t f g 0 i) := by
  rw [nI_clamp hi] at h
  show 0 = nI (if t i = 0 then 0 else 1)
  rw [if_pos h]
  rfl
theorem wr_hit1 {t f g : Nat → Int32} {i : Nat} (h : ¬ t (nI i).toNatClampNeg = 0) (hi : i < 2 ^ 31) : 1 = nI (wr_W t f g 0 i) := by
  rw [nI_clamp hi] at h
  show 1 = nI (if t i = 0 then 0 else 1)
  rw [if_neg h]
  rfl
theorem wr_pos {t f g : Nat → Int32} {i r : Nat} (h : r < wr_W t f g 0 i) : ¬ t i = 0 ∧ r = 0 := by
  have h' : r < (if t i = 0 then 0 else 1) := h
  by_cases e : t i = 0
  · rw [if_pos e] at h'
    exact absurd h' (Nat.not_lt_zero r)
  · rw [if_neg e] at h'
    exact ⟨e, by omega⟩
theorem wr_f58 {post : St2 → Prop} {he pl ta no : Int32} {a1 a2 a3 a4 a5 a6 a7 a8 a9 a10 a11 a12 a13 a14 a15 a16 a17 a18 a19 a20 a22 : Nat → Int32} {n len : Nat} {L : Nat → Nat} (hG : wr_G n L a14 a18 a19) (hl : len ≤ n)
    (H : ∀ w, wr_V len L a20 a18 a19 0 w → post (nI n, he, pl, ta, 1, no, a1, a2, a3, a4, a5, a6, a7, a8, a9, a10, a11, a12, a13, a14, a15, a16, a17, a18, a19, a20, w, a22)) :
    ∀ i w, (i ≤ L len ∧ wr_V len L a20 a18 a19 i w) → wX_fill_58 post (nI n) he pl ta 1 no (i + 1) (nI i + (-1)) a1 a2 a3 a4 a5 a6 a7 a8 a9 a10 a11 a12 a13 a14 a15 a16 a17 a18 a19 a20 w a22 := by
  refine pk_loopD (fun m i w => wX_fill_58 post (nI n) he pl ta 1 no m (nI i + (-1)) a1 a2 a3 a4 a5 a6 a7 a8 a9 a10 a11 a12 a13 a14 a15 a16 a17 a18 a19 a20 w a22) (fun i w => i ≤ L len ∧ wr_V len L a20 a18 a19 i w) ?_ ?_
  · intro m w h
    exact br_t wr_neg (H w h.2)
  · intro m i w h hw
    obtain ⟨hi, hv⟩ := h
    have ht := wr_L_top hG (show len ≤ n + 1 by omega)
    obtain ⟨d, d1, d2, d3⟩ := wr_at hG len (show i < L len by omega)
    have hk := wr_kids hG (show d < n by omega) d2 d3
    have ht' := wr_L_top hG (show d + 2 ≤ n + 1 by omega)
    show wX_fill_58 post (nI n) he pl ta 1 no (m + 1) (nI (i + 1) + (-1)) a1 a2 a3 a4 a5 a6 a7 a8 a9 a10 a11 a12 a13 a14 a15 a16 a17 a18 a19 a20 w a22
    rw [pk_m1]
    refine br_f (nI_pos (by omega)) ?_
    rw [nI_clamp (show i < 2 ^ 31 by omega), hk.1.2.2, hk.2.2.2, nI_clamp (show wr_k a18 i < 2 ^ 31 by omega), nI_clamp (show wr_k a19 i < 2 ^ 31 by omega)]
    exact ⟨pk_in i 256 (by omega), vp_in_nI (by omega) (by omega), pk_in i 256 (by omega), vp_in_nI (by omega) (by omega), pk_in i 256 (by omega), nm_e (nm_e (hw _ ⟨by omega, wr_V_step hG hl (by omega) hv⟩))⟩
theorem wr_f11 {post : St2 → Prop} {he pl ta no : Int32} {a1 a2 a3 a4 a5 a6 a7 a8 a9 a10 a11 a12 a13 a14 a15 a16 a17 a18 a19 a20 a21 a22 : Nat → Int32} {n len : Nat} {L : Nat → Nat} (hn : n ≤ 7) (hG : wr_G n L a14 a18 a19) (hl : len ≤ n)
    (H : ∀ w, wr_V len L a20 a18 a19 0 w → post (nI n, he, pl, ta, 1, no, a1, a2, a3, a4, a5, a6, a7, a8, a9, a10, a11, a12, a13, a14, a15, a16, a17, a18, a19, a20, w, a22)) :
    vp_in (nI len) 10 ∧ ∀ x, x = a14 (nI len).toNatClampNeg → ∃ m, wX_fill_11 post (nI len) (nI n) he pl ta 1 no m x a1 a2 a3 a4 a5 a6 a7 a8 a9 a10 a11 a12 a13 a14 a15 a16 a17 a18 a19 a20 a21 a22 := by
  have ht := wr_L_top hG (show len + 1 ≤ n + 1 by omega)
  have hm := wr_L_mono hG (show len ≤ len + 1 by omega) (by omega)
  have v1 : vp_in (nI len + 1) 10 := pk_in (len + 1) 10 (by omega) (nI_1 len)
  have v0 : vp_in (nI len) 10 := pk_in len 10 (by omega)
  have e1 : a14 (nI len + 1).toNatClampNeg = nI (L (len + 1)) := by
    rw [nI_1, nI_clamp (by omega)]
    exact hG.2.2.2.2.1 (len + 1) (by omega)
  have e0 : a14 (nI len).toNatClampNeg = nI (L len) := by
    rw [nI_clamp (by omega)]
    exact hG.2.2.2.2.1 len (by omega)
  have e2 : a14 (nI len).toNatClampNeg - 1 = nI (L len) + (-1) := by
    rw [e0, wr_m1]
  refine ⟨v0, nm_r e0 ?_⟩
  refine pk_loop (fun m i w => wX_fill_11 post (nI len) (nI n) he pl ta 1 no m (nI i) a1 a2 a3 a4 a5 a6 a7 a8 a9 a10 a11 a12 a13 a14 a15 a16 a17 a18 a19 a20 w a22) (fun i w => ∀ j, L len ≤ j → j < i → w j = nI (wr_W a20 a18 a19 0 j)) (L (len + 1)) (L len) a21 hm (fun j h1 h2 => absurd h2 (by omega)) ?_ ?_
  · intro m w h
    exact And.intro v1 (pk_le (L (len + 1)) (L (len + 1)) (fun _ => ⟨v0, nm_r e2 ⟨_, wr_f58 hG hl H (L len) w ⟨Nat.le_refl _, wr_V_top hG hl h⟩⟩⟩) (fun z => absurd z (by omega)) e1)
  · intro m i w hi h hw
    have vi : vp_in (nI i) 256 := pk_in i 256 (by omega)
    exact And.intro v1 (pk_le (L (len + 1)) i (fun z => absurd z (by omega)) (fun _ => ⟨vi, br_c
      (fun z => ⟨vi, nm_r (wr_upd (by omega)) (nm_r (nI_1 i) (hw _ (wr_put (P := fun j => nI (wr_W a20 a18 a19 0 j)) h (wr_hit0 z (by omega)))))⟩)
      (fun z => ⟨vi, nm_r (wr_upd (by omega)) (nm_r (nI_1 i) (hw _ (wr_put (P := fun j => nI (wr_W a20 a18 a19 0 j)) h (wr_hit1 z (by omega)))))⟩)⟩) e1)
/-- fill() over a built graph -/
theorem wr_fill {post : St2 → Prop} {he pl ta no : Int32} {a1 a2 a3 a4 a5 a6 a7 a8 a9 a10 a11 a12 a13 a14 a15 a16 a17 a18 a19 a20 a21 a22 : Nat → Int32} {n len : Nat} {L : Nat → Nat} (hn : n ≤ 7) (hG : wr_G n L a14 a18 a19) (hl : len ≤ n)
    (H : ∀ w, wr_V len L a20 a18 a19 0 w → post (nI n, he, pl, ta, 1, no, a1, a2, a3, a4, a5, a6, a7, a8, a9, a10, a11, a12, a13, a14, a15, a16, a17, a18, a19, a20, w, a22)) : wpX_fill post (nI n, he, pl, ta, 1, no, a1, a2, a3, a4, a5, a6, a7, a8, a9, a10, a11, a12, a13, a14, a15, a16, a17, a18, a19, a20, a21, a22) (nI len) :=
  br_f (c := (1 : Int32) = 0) (by decide) (wr_f11 hn hG hl H)
/-- fill() that builds -/
theorem wr_fillU {post : St2 → Prop} {he pl ta no : Int32} {a1 a2 a3 a4 a5 a6 a7 a8 a9 a10 a11 a12 a13 a14 a15 a16 a17 a18 a19 a20 a21 a22 : Nat → Int32} {n len : Nat} (hn : n ≤ 7) (hl : len ≤ n)
    (H : ∀ (L : Nat → Nat) (N : Int32) (b14 b15 b16 b17 b18 b19 b20 w : Nat → Int32), wr_G n L b14 b18 b19 → wr_V len L b20 b18 b19 0 w → post (nI n, he, pl, ta, 1, N, a1, a2, a3, a4, a5, a6, a7, a8, a9, a10, a11, a12, a13, b14, b15, b16, b17, b18, b19, b20, w, a22)) :
    wpX_fill post (nI n, he, pl, ta, 0, no, a1, a2, a3, a4, a5, a6, a7, a8, a9, a10, a11, a12, a13, a14, a15, a16, a17, a18, a19, a20, a21, a22) (nI len) := by
  unfold wpX_fill
  exact wr_build (post := fun u => match u with | (lo, he, pl, ta, fr, no, a1, a2, a3, a4, a5, a6, a7, a8, a9, a10, a11, a12, a13, a14, a15, a16, a17, a18, a19, a20, a21, a22) => vp_in (nI len) 10 ∧ ∀ x : Int32, x = a14 (nI len).toNatClampNeg → ∃ m, wX_fill_11 post (nI len) lo he pl ta fr no m x a1 a2 a3 a4 a5 a6 a7 a8 a9 a10 a11 a12 a13 a14 a15 a16 a17 a18 a19 a20 a21 a22) hn (fun L N b14 b15 b16 b17 b18 b19 b20 hG => wr_f11 hn hG hl (fun w hw => H L N b14 b15 b16 b17 b18 b19 b20 w hG hw))
theorem wr_sh4 {post : Int32 → St2 → Prop} {he pl ta no : Int32} {a1 a2 a3 a4 a5 a6 a7 a8 a9 a10 a11 a12 a13 a14 a15 a16 a17 a18 a19 a20 a22 : Nat → Int32} {n e : Nat} {L : Nat → Nat} (hn : n ≤ 7) (hG : wr_G n L a14 a18 a19) (hE : e ≤ n + 1)
    (H : ∀ w, post (nI (wr_S a20 a18 a19 e)) (nI n, he, pl, ta, 1, no, a1, a2, a3, a4, a5, a6, a7, a8, a9, a10, a11, a12, a13, a14, a15, a16, a17, a18, a19, a20, w, a22)) :
    ∀ m i w, i ≤ e → e - i < m → True → wX_shorter_4 post (nI e) m (nI (wr_S a20 a18 a19 i)) (nI i) (nI n) he pl ta 1 no a1 a2 a3 a4 a5 a6 a7 a8 a9 a10 a11 a12 a13 a14 a15 a16 a17 a18 a19 a20 w a22 :=
  loop_i (fun m i w => wX_shorter_4 post (nI e) m (nI (wr_S a20 a18 a19 i)) (nI i) (nI n) he pl ta 1 no a1 a2 a3 a4 a5 a6 a7 a8 a9 a10 a11 a12 a13 a14 a15 a16 a17 a18 a19 a20 w a22) (fun _ _ => True) e
    (fun m w _ => pk_le e e (fun _ => H w) (fun z => absurd z (by omega)))
    (fun m i w hi _ hw => pk_le e i (fun z => absurd z (by omega)) (fun _ => wr_fill hn hG (by omega) (fun w' hv => nm_r (wr_sum hG hv) (nm_r (nI_1 i) (hw w' trivial)))))
theorem wr_shorter {post : Int32 → St2 → Prop} {he pl ta no : Int32} {a1 a2 a3 a4 a5 a6 a7 a8 a9 a10 a11 a12 a13 a14 a15 a16 a17 a18 a19 a20 a21 a22 : Nat → Int32} {n e : Nat} {L : Nat → Nat} (hn : n ≤ 7) (hG : wr_G n L a14 a18 a19) (hE : e ≤ n + 1)
    (H : ∀ w, post (nI (wr_S a20 a18 a19 e)) (nI n, he, pl, ta, 1, no, a1, a2, a3, a4, a5, a6, a7, a8, a9, a10, a11, a12, a13, a14, a15, a16, a17, a18, a19, a20, w, a22)) : wpX_shorter post (nI n, he, pl, ta, 1, no, a1, a2, a3, a4, a5, a6, a7, a8, a9, a10, a11, a12, a13, a14, a15, a16, a17, a18, a19, a20, a21, a22) (nI e) :=
  Exists.intro (e + 1) (wr_sh4 hn hG hE H (e + 1) 0 a21 (by omega) (by omega) trivial)
/-- total(), the first question: it builds -/
theorem wr_total {post : Int32 → St2 → Prop} {he pl ta no : Int32} {a1 a2 a3 a4 a5 a6 a7 a8 a9 a10 a11 a12 a13 a14 a15 a16 a17 a18 a19 a20 a21 a22 : Nat → Int32} {n : Nat} (hn : n ≤ 7)
    (H : ∀ (L : Nat → Nat) (N : Int32) (b14 b15 b16 b17 b18 b19 b20 w : Nat → Int32), wr_G n L b14 b18 b19 → post (nI (wr_S b20 b18 b19 (n + 1))) (nI n, he, pl, ta, 1, N, a1, a2, a3, a4, a5, a6, a7, a8, a9, a10, a11, a12, a13, b14, b15, b16, b17, b18, b19, b20, w, a22)) :
    wpX_total post (nI n, he, pl, ta, 0, no, a1, a2, a3, a4, a5, a6, a7, a8, a9, a10, a11, a12, a13, a14, a15, a16, a17, a18, a19, a20, a21, a22) := by
  refine Exists.intro (n + 3) ?_
  rw [nI_1]
  refine pk_le (n + 1) 0 (fun z => absurd z (by omega)) (fun _ => wr_fillU (len := 0) hn (by omega) (fun L N b14 b15 b16 b17 b18 b19 b20 w hG hv => ?_))
  exact nm_r (wr_sum hG hv) (nm_r (nI_1 0) (wr_sh4 hn hG (Nat.le_refl _) (fun w' => H L N b14 b15 b16 b17 b18 b19 b20 w' hG) (n + 2) 1 w (by omega) (by omega) trivial))
theorem wr_count {post : Int32 → St2 → Prop} {he pl ta no : Int32} {a1 a2 a3 a4 a5 a6 a7 a8 a9 a10 a11 a12 a13 a14 a15 a16 a17 a18 a19 a20 a21 a22 : Nat → Int32} {n len : Nat} {L : Nat → Nat} (hn : n ≤ 7) (hG : wr_G n L a14 a18 a19) (hl : len ≤ n)
    (H : ∀ w, post (nI (wr_W a20 a18 a19 len 0)) (nI n, he, pl, ta, 1, no, a1, a2, a3, a4, a5, a6, a7, a8, a9, a10, a11, a12, a13, a14, a15, a16, a17, a18, a19, a20, w, a22)) : wpX_count post (nI n, he, pl, ta, 1, no, a1, a2, a3, a4, a5, a6, a7, a8, a9, a10, a11, a12, a13, a14, a15, a16, a17, a18, a19, a20, a21, a22) (nI len) :=
  br_f (nI_pos (by omega)) (pk_le len n (fun _ => wr_fill hn hG hl (fun w hv => by
    have h := H w
    rw [← wr_root hG hv] at h
    exact h)) (fun z => absurd z (by omega)))
theorem wr_wordLen {post : Int32 → St2 → Prop} {he pl ta no : Int32} {a1 a2 a3 a4 a5 a6 a7 a8 a9 a10 a11 a12 a13 a14 a15 a16 a17 a18 a19 a20 a21 a22 : Nat → Int32} {n l k : Nat} {L : Nat → Nat} (hn : n ≤ 7) (hG : wr_G n L a14 a18 a19) (hl : l ≤ n) (hk : k < 256)
    (h1 : wr_S a20 a18 a19 l ≤ k) (h2 : k < wr_S a20 a18 a19 (l + 1)) (H : ∀ w, post (nI l) (nI n, he, pl, ta, 1, no, a1, a2, a3, a4, a5, a6, a7, a8, a9, a10, a11, a12, a13, a14, a15, a16, a17, a18, a19, a20, w, a22)) : wpX_wordLen post (nI n, he, pl, ta, 1, no, a1, a2, a3, a4, a5, a6, a7, a8, a9, a10, a11, a12, a13, a14, a15, a16, a17, a18, a19, a20, a21, a22) (nI k) := by
  have W128 : ∀ i, i ≤ n → wr_W a20 a18 a19 i 0 ≤ 128 := by
    intro i hi
    have h := wr_W_le a20 a18 a19 i 0
    have h' : 2 ^ i ≤ 2 ^ 7 := Nat.pow_le_pow_right (by omega) (by omega)
    omega
  refine pk_le 0 k (fun _ => ?_) (fun z => absurd z (by omega))
  refine Exists.intro (l + 1) ?_
  have R := loop_i (fun m i w => wX_wordLen_10 post m (nI (k - wr_S a20 a18 a19 i)) (nI i) (nI n) he pl ta 1 no a1 a2 a3 a4 a5 a6 a7 a8 a9 a10 a11 a12 a13 a14 a15 a16 a17 a18 a19 a20 w a22) (fun _ _ => True) l ?_ ?_ (l + 1) 0 a21 (by omega) (by omega) trivial
  · exact R
  · intro m w _
    refine pk_lt n l (fun z => absurd z (by omega)) (fun _ => wr_fill hn hG hl (fun w' hv => ?_))
    have h := W128 l hl
    rw [wr_S_succ] at h2
    exact pk_le (wr_W a20 a18 a19 l 0) (k - wr_S a20 a18 a19 l) (fun z => absurd z (by omega)) (fun _ => H w') (wr_root hG hv)
  · intro m i w hi _ hw
    refine pk_lt n i (fun z => absurd z (by omega)) (fun _ => wr_fill hn hG (by omega) (fun w' hv => ?_))
    have h := W128 i (by omega)
    have hm := wr_S_mono a20 a18 a19 (show i + 1 ≤ l by omega)
    have hS := wr_S_succ a20 a18 a19 i
    have e : nI (k - wr_S a20 a18 a19 i) - w' 0 = nI (k - wr_S a20 a18 a19 (i + 1)) := by
      rw [wr_root hG hv, pk_sub (by omega), hS, Nat.sub_sub]
    exact pk_le (wr_W a20 a18 a19 i 0) (k - wr_S a20 a18 a19 i) (fun _ => nm_r e (nm_r (nI_1 i) (hw w' trivial))) (fun z => absurd z (by omega)) (wr_root hG hv)
theorem wr_dbl (b : Nat) : nI b * 2 = nI (2 * b) := by
  rw [show (2 : Int32) = nI 2 from rfl, pk_mul, Nat.mul_comm]
theorem wr_dbl1 (b : Nat) : nI b * 2 + 1 = nI (2 * b + 1) := by
  rw [wr_dbl, nI_1]
theorem wr_wb34 {post : Int32 → St2 → Prop} {he pl ta no : Int32} {a1 a2 a3 a4 a5 a6 a7 a8 a9 a10 a11 a12 a13 a14 a15 a16 a17 a18 a19 a20 a21 a22 : Nat → Int32} {n len k r0 : Nat} {L : Nat → Nat} (hn : n ≤ 7) (hG : wr_G n L a14 a18 a19) (hl : len ≤ n) (hV : wr_V len L a20 a18 a19 0 a21) (hk : k < 256)
    (hr : r0 + wr_S a20 a18 a19 len = k) (hr' : r0 < wr_W a20 a18 a19 len 0)
    (H : ∀ b, b < 2 ^ len → ¬ a20 (wr_p a18 a19 len b) = 0 → wr_S a20 a18 a19 len + wr_o a20 a18 a19 len len b = k → post (nI b) (nI n, he, pl, ta, 1, no, a1, a2, a3, a4, a5, a6, a7, a8, a9, a10, a11, a12, a13, a14, a15, a16, a17, a18, a19, a20, a21, a22)) :
    ∃ m, wX_wordBits_34 post (nI len) (nI n) he pl ta 1 no a1 a2 a3 a4 a5 a6 a7 a8 a9 a10 a11 a12 a13 a14 a15 a16 a17 a18 a19 a20 a21 a22 m (nI r0) 0 0 0 := by
  refine pk_loop (fun m i (v : Nat × Nat) => wX_wordBits_34 post (nI len) (nI n) he pl ta 1 no a1 a2 a3 a4 a5 a6 a7 a8 a9 a10 a11 a12 a13 a14 a15 a16 a17 a18 a19 a20 a21 a22 m (nI v.2) (nI (wr_p a18 a19 i v.1)) (nI v.1) (nI i))
    (fun i v => v.1 < 2 ^ i ∧ v.2 + (wr_S a20 a18 a19 len + wr_o a20 a18 a19 len i v.1) = k ∧ v.2 < wr_W a20 a18 a19 (len - i) (wr_p a18 a19 i v.1)) len 0 (0, r0) (by omega) ?_ ?_ ?_
  · exact ⟨Nat.one_pos, hr, hr'⟩
  · intro m v h
    obtain ⟨h1, h2, h3⟩ := h
    rw [Nat.sub_self] at h3
    have hp := wr_pos h3
    exact pk_le len len (fun _ => H v.1 h1 hp.1 (by omega)) (fun z => absurd z (by omega))
  · intro m i v hi h hw
    obtain ⟨b, r⟩ := v
    obtain ⟨h1, h2, h3⟩ := h
    dsimp only at h1 h2 h3
    have hp := wr_path hG i b (by omega)
    have hk' := wr_kids hG (show i < n by omega) hp.1 hp.2
    have ht := wr_L_top hG (show i + 2 ≤ n + 1 by omega)
    have ht1 := wr_L_top hG (show i + 1 ≤ n + 1 by omega)
    have hW := hV (wr_k a18 (wr_p a18 a19 i b)) (Nat.zero_le _) (i + 1) (by omega) hk'.1.1 hk'.1.2.1
    have hz := wr_W_le a20 a18 a19 (len - (i + 1)) (wr_k a18 (wr_p a18 a19 i b))
    have h128 : 2 ^ (len - (i + 1)) ≤ 2 ^ 7 := Nat.pow_le_pow_right (by omega) (by omega)
    have hs : wr_W a20 a18 a19 (len - i) (wr_p a18 a19 i b) = wr_W a20 a18 a19 (len - (i + 1)) (wr_k a18 (wr_p a18 a19 i b)) + wr_W a20 a18 a19 (len - (i + 1)) (wr_k a19 (wr_p a18 a19 i b)) := by
      rw [show len - i = (len - (i + 1)) + 1 by omega]
      rfl
    have hb : 2 ^ (i + 1) = 2 ^ i * 2 := Nat.pow_succ 2 i
    have vp : vp_in (nI (wr_p a18 a19 i b)) 256 := vp_in_nI (by omega) (by omega)
    show wX_wordBits_34 post (nI len) (nI n) he pl ta 1 no a1 a2 a3 a4 a5 a6 a7 a8 a9 a10 a11 a12 a13 a14 a15 a16 a17 a18 a19 a20 a21 a22 (m + 1) (nI r) (nI (wr_p a18 a19 i b)) (nI b) (nI i)
    refine pk_le len i (fun z => absurd z (by omega)) (fun _ => ?_)
    rw [nI_clamp (show wr_p a18 a19 i b < 2 ^ 31 by omega), hk'.1.2.2, nI_clamp (show wr_k a18 (wr_p a18 a19 i b) < 2 ^ 31 by omega), hW]
    refine ⟨vp, vp_in_nI (by omega) (by omega), nm_e (pk_le (wr_W a20 a18 a19 (len - (i + 1)) (wr_k a18 (wr_p a18 a19 i b))) r (fun z => ?_) (fun z => ?_))⟩
    · refine nm_r (pk_sub z) (nm_r (wr_dbl1 b) ⟨vp, nm_r (e' := nI (wr_p a18 a19 (i + 1) (2 * b + 1))) (by rw [wr_p_odd]; exact hk'.2.2.2) (nm_r (nI_1 i) (hw (2 * b + 1, _) ?_))⟩)
      refine ⟨by show 2 * b + 1 < 2 ^ (i + 1); omega, ?_, ?_⟩
      · show r - _ + (wr_S a20 a18 a19 len + wr_o a20 a18 a19 len (i + 1) (2 * b + 1)) = k
        rw [wr_o_odd]
        omega
      · show r - _ < wr_W a20 a18 a19 (len - (i + 1)) (wr_p a18 a19 (i + 1) (2 * b + 1))
        rw [wr_p_odd]
        omega
    · refine nm_r (wr_dbl b) ⟨vp, nm_r (e' := nI (wr_p a18 a19 (i + 1) (2 * b))) (by rw [wr_p_even]) (nm_r (nI_1 i) (hw (2 * b, r) ?_))⟩
      refine ⟨by show 2 * b < 2 ^ (i + 1); omega, ?_, ?_⟩
      · show r + (wr_S a20 a18 a19 len + wr_o a20 a18 a19 len (i + 1) (2 * b)) = k
        rw [wr_o_even]
        exact h2
      · show r < wr_W a20 a18 a19 (len - (i + 1)) (wr_p a18 a19 (i + 1) (2 * b))
        rw [wr_p_even]
        exact z
theorem wr_wordBits {post : Int32 → St2 → Prop} {he pl ta no : Int32} {a1 a2 a3 a4 a5 a6 a7 a8 a9 a10 a11 a12 a13 a14 a15 a16 a17 a18 a19 a20 a21 a22 : Nat → Int32} {n l k : Nat} {L : Nat → Nat} (hn : n ≤ 7) (hG : wr_G n L a14 a18 a19) (hl : l ≤ n) (hk : k < 256)
    (h1 : wr_S a20 a18 a19 l ≤ k) (h2 : k < wr_S a20 a18 a19 (l + 1))
    (H : ∀ b w, b < 2 ^ l → ¬ a20 (wr_p a18 a19 l b) = 0 → wr_S a20 a18 a19 l + wr_o a20 a18 a19 l l b = k → post (nI b) (nI n, he, pl, ta, 1, no, a1, a2, a3, a4, a5, a6, a7, a8, a9, a10, a11, a12, a13, a14, a15, a16, a17, a18, a19, a20, w, a22)) : wpX_wordBits post (nI n, he, pl, ta, 1, no, a1, a2, a3, a4, a5, a6, a7, a8, a9, a10, a11, a12, a13, a14, a15, a16, a17, a18, a19, a20, a21, a22) (nI k) := by
  rw [wr_S_succ] at h2
  unfold wpX_wordBits
  exact wr_wordLen hn hG hl hk h1 (by rw [wr_S_succ]; exact h2) (fun w => pk_le 0 l (fun _ => wr_shorter hn hG (by omega) (fun w' => nm_r (pk_sub h1) (wr_fill hn hG hl (fun w'' hv =>
    wr_wb34 hn hG hl hv hk (by omega) (by omega) (fun b b1 b2 b3 => H b w'' b1 b2 b3))))) (fun z => absurd z (by omega)))
theorem wr_valid {post : Int32 → Prop} {he pl ta fr no : Int32} {a1 a2 a3 a4 a5 a6 a7 a8 a9 a10 a11 a12 a13 a14 a15 a16 a17 a18 a19 a20 a21 a22 : Nat → Int32} {n l b : Nat} (hn : n ≤ 7) (hl : l ≤ n) (hb : b < 2 ^ l) (H : post 1) : wpX_valid post (nI n, he, pl, ta, fr, no, a1, a2, a3, a4, a5, a6, a7, a8, a9, a10, a11, a12, a13, a14, a15, a16, a17, a18, a19, a20, a21, a22) (nI l) (nI b) := by
  have h' : 2 ^ l ≤ 2 ^ 7 := Nat.pow_le_pow_right (by omega) (by omega)
  exact br_f (nI_pos (by omega)) (pk_lt n l (fun z => absurd z (by omega)) (fun _ => pk_le 0 b (fun _ => pk_le (2 ^ l) b (fun z => absurd z (by omega)) (fun _ => H) (wr_pow (by omega))) (fun z => absurd z (by omega))))
theorem wr_walk {post : Int32 → St2 → Prop} {he pl ta no : Int32} {a1 a2 a3 a4 a5 a6 a7 a8 a9 a10 a11 a12 a13 a14 a15 a16 a17 a18 a19 a20 a21 a22 : Nat → Int32} {n l b : Nat} {L : Nat → Nat} (hn : n ≤ 7) (hG : wr_G n L a14 a18 a19) (hl : l ≤ n) (hb : b < 2 ^ l)
    (H : post (nI (wr_p a18 a19 l b)) (nI n, he, pl, ta, 1, no, a1, a2, a3, a4, a5, a6, a7, a8, a9, a10, a11, a12, a13, a14, a15, a16, a17, a18, a19, a20, a21, a22)) : wpX_walk post (nI n, he, pl, ta, 1, no, a1, a2, a3, a4, a5, a6, a7, a8, a9, a10, a11, a12, a13, a14, a15, a16, a17, a18, a19, a20, a21, a22) (nI l) (nI b) := by
  have h' : 2 ^ l ≤ 2 ^ 7 := Nat.pow_le_pow_right (by omega) (by omega)
  refine br_f (c := (1 : Int32) = 0) (by decide) (nm_r (wr_m1 (nI l)) (Exists.intro (l + 1) ?_))
  refine pk_loopD (fun m i (v : Nat) => wX_walk_11 post (nI b) (nI n) he pl ta 1 no a1 a2 a3 a4 a5 a6 a7 a8 a9 a10 a11 a12 a13 a14 a15 a16 a17 a18 a19 a20 a21 a22 m (nI v) (nI i + (-1))) (fun i v => i ≤ l ∧ v = wr_p a18 a19 (l - i) (b / 2 ^ i)) ?_ ?_ l 0 ⟨Nat.le_refl l, by rw [Nat.sub_self]; rfl⟩
  · intro m v h
    obtain ⟨_, h2⟩ := h
    rw [Nat.pow_zero, Nat.div_one, Nat.sub_zero] at h2
    subst h2
    exact br_t wr_neg H
  · intro m i v h hw
    obtain ⟨h1, h2⟩ := h
    have hp := wr_path hG (l - (i + 1)) (b / 2 ^ (i + 1)) (by omega)
    rw [← h2] at hp
    have hk := wr_kids hG (show l - (i + 1) < n by omega) hp.1 hp.2
    have ht := wr_L_top hG (show l - (i + 1) + 1 ≤ n + 1 by omega)
    have hs := wr_p_step a18 a19 (b := b) (show i < l by omega)
    rw [← h2] at hs
    have vp : vp_in (nI v) 256 := pk_in v 256 (by omega)
    show wX_walk_11 post (nI b) (nI n) he pl ta 1 no a1 a2 a3 a4 a5 a6 a7 a8 a9 a10 a11 a12 a13 a14 a15 a16 a17 a18 a19 a20 a21 a22 (m + 1) (nI v) (nI (i + 1) + (-1))
    rw [pk_m1]
    refine br_f (nI_pos (by omega)) ?_
    rw [wr_bit (show b < 2 ^ 31 by omega) (show i < 32 by omega), nI_clamp (show v < 2 ^ 31 by omega), hk.1.2.2, hk.2.2.2]
    refine pk_eq (b / 2 ^ i % 2) 1 (fun z => ?_) (fun z => ?_)
    · rw [if_pos z] at hs
      exact ⟨vp, nm_e (nm_e (hw _ ⟨by omega, hs.symm⟩))⟩
    · rw [if_neg z] at hs
      exact ⟨vp, nm_e (nm_e (hw _ ⟨by omega, hs.symm⟩))⟩
theorem wr_isChosen {post : Int32 → St2 → Prop} {he pl ta no : Int32} {a1 a2 a3 a4 a5 a6 a7 a8 a9 a10 a11 a12 a13 a14 a15 a16 a17 a18 a19 a20 a21 a22 : Nat → Int32} {n l b : Nat} {L : Nat → Nat} (hn : n ≤ 7) (hG : wr_G n L a14 a18 a19) (hl : l ≤ n) (hb : b < 2 ^ l) (hc : ¬ a20 (wr_p a18 a19 l b) = 0)
    (H : post 1 (nI n, he, pl, ta, 1, no, a1, a2, a3, a4, a5, a6, a7, a8, a9, a10, a11, a12, a13, a14, a15, a16, a17, a18, a19, a20, a21, a22)) : wpX_isChosen post (nI n, he, pl, ta, 1, no, a1, a2, a3, a4, a5, a6, a7, a8, a9, a10, a11, a12, a13, a14, a15, a16, a17, a18, a19, a20, a21, a22) (nI l) (nI b) := by
  have hp := wr_path hG l b hl
  have ht := wr_L_top hG (show l + 1 ≤ n + 1 by omega)
  unfold wpX_isChosen
  refine wr_valid hn hl hb (br_f (c := (1 : Int32) = 0) (by decide) (wr_walk hn hG hl hb (And.intro (vp_in_nI (by omega) (by omega)) (br_f ?_ H))))
  rw [nI_clamp (by omega)]
  exact hc
theorem wr_rank {post : Int32 → St2 → Prop} {he pl ta no : Int32} {a1 a2 a3 a4 a5 a6 a7 a8 a9 a10 a11 a12 a13 a14 a15 a16 a17 a18 a19 a20 a21 a22 : Nat → Int32} {n l b : Nat} {L : Nat → Nat} (hn : n ≤ 7) (hG : wr_G n L a14 a18 a19) (hl : l ≤ n) (hb : b < 2 ^ l)
    (H : ∀ w, post (nI (wr_S a20 a18 a19 l + wr_o a20 a18 a19 l l b)) (nI n, he, pl, ta, 1, no, a1, a2, a3, a4, a5, a6, a7, a8, a9, a10, a11, a12, a13, a14, a15, a16, a17, a18, a19, a20, w, a22)) : wpX_rank post (nI n, he, pl, ta, 1, no, a1, a2, a3, a4, a5, a6, a7, a8, a9, a10, a11, a12, a13, a14, a15, a16, a17, a18, a19, a20, a21, a22) (nI l) (nI b) := by
  have h' : 2 ^ l ≤ 2 ^ 7 := Nat.pow_le_pow_right (by omega) (by omega)
  unfold wpX_rank
  refine wr_valid hn hl hb (br_f (c := (1 : Int32) = 0) (by decide) (wr_shorter hn hG (by omega) (fun w' => wr_fill hn hG hl (fun w hv => nm_r (wr_m1 (nI l)) (Exists.intro (l + 1) ?_)))))
  refine pk_loopD (fun m i (v : Nat × Nat) => wX_rank_30 post (nI b) (nI n) he pl ta 1 no a1 a2 a3 a4 a5 a6 a7 a8 a9 a10 a11 a12 a13 a14 a15 a16 a17 a18 a19 a20 w a22 m (nI v.1) (nI v.2) (nI i + (-1)))
    (fun i v => i ≤ l ∧ v.1 = wr_S a20 a18 a19 l + wr_o a20 a18 a19 l (l - i) (b / 2 ^ i) ∧ v.2 = wr_p a18 a19 (l - i) (b / 2 ^ i)) ?_ ?_ l (wr_S a20 a18 a19 l, 0) ⟨Nat.le_refl l, by rw [Nat.sub_self]; rfl, by rw [Nat.sub_self]; rfl⟩
  · intro m v h
    obtain ⟨v1, v2⟩ := v
    obtain ⟨_, h1, _⟩ := h
    dsimp only at h1
    rw [Nat.pow_zero, Nat.div_one, Nat.sub_zero] at h1
    subst h1
    exact br_t wr_neg (H w)
  · intro m i v h hw
    obtain ⟨v1, v⟩ := v
    obtain ⟨h1, h0, h2⟩ := h
    dsimp only at h0 h2
    have hp := wr_path hG (l - (i + 1)) (b / 2 ^ (i + 1)) (by omega)
    rw [← h2] at hp
    have hk := wr_kids hG (show l - (i + 1) < n by omega) hp.1 hp.2
    have ht := wr_L_top hG (show l - (i + 1) + 1 ≤ n + 1 by omega)
    have ht' := wr_L_top hG (show l - (i + 1) + 2 ≤ n + 1 by omega)
    have hs := wr_p_step a18 a19 (b := b) (show i < l by omega)
    have ho := wr_o_step a20 a18 a19 (b := b) (show i < l by omega)
    rw [← h2] at hs ho
    have hW := hv (wr_k a18 v) (Nat.zero_le _) (l - (i + 1) + 1) (by omega) hk.1.1 hk.1.2.1
    rw [show l - (l - (i + 1) + 1) = i by omega] at hW
    have vp : vp_in (nI v) 256 := pk_in v 256 (by omega)
    show wX_rank_30 post (nI b) (nI n) he pl ta 1 no a1 a2 a3 a4 a5 a6 a7 a8 a9 a10 a11 a12 a13 a14 a15 a16 a17 a18 a19 a20 w a22 (m + 1) (nI v1) (nI v) (nI (i + 1) + (-1))
    rw [pk_m1]
    refine br_f (nI_pos (by omega)) ?_
    rw [wr_bit (show b < 2 ^ 31 by omega) (show i < 32 by omega), nI_clamp (show v < 2 ^ 31 by omega), hk.1.2.2, hk.2.2.2, nI_clamp (show wr_k a18 v < 2 ^ 31 by omega), hW]
    refine pk_eq (b / 2 ^ i % 2) 1 (fun z => ?_) (fun z => ?_)
    · rw [if_pos z] at hs ho
      exact ⟨vp, vp_in_nI (by omega) (by omega), nm_r (nI_add _ _) ⟨vp, nm_e (nm_e (hw (_, _) ⟨by omega, by show v1 + _ = _; rw [ho, h0, Nat.add_assoc], hs.symm⟩))⟩⟩
    · rw [if_neg z] at hs ho
      rw [Nat.add_zero] at ho
      exact ⟨vp, nm_e (nm_e (hw (_, _) ⟨by omega, by show v1 = _; rw [ho]; exact h0, hs.symm⟩))⟩
end
section
/-! the law -/
theorem wr_agree {post : Int32 → St2 → Prop} {he pl ta no : Int32} {a1 a2 a3 a4 a5 a6 a7 a8 a9 a10 a11 a12 a13 a14 a15 a16 a17 a18 a19 a20 a21 a22 : Nat → Int32} {n : Nat} {L : Nat → Nat} (hn : n ≤ 7) (hG : wr_G n L a14 a18 a19)
    (H : ∀ w, post 1 (nI n, he, pl, ta, 1, no, a1, a2, a3, a4, a5, a6, a7, a8, a9, a10, a11, a12, a13, a14, a15, a16, a17, a18, a19, a20, w, a22)) : wpL_ranksAgree post (nI n, he, pl, ta, 1, no, a1, a2, a3, a4, a5, a6, a7, a8, a9, a10, a11, a12, a13, a14, a15, a16, a17, a18, a19, a20, a21, a22) (nI (wr_S a20 a18 a19 (n + 1))) := by
  have hS := wr_S_lt a20 a18 a19 (n + 1)
  have hP : 2 ^ (n + 1) ≤ 2 ^ 8 := Nat.pow_le_pow_right (by omega) (by omega)
  refine pk_loop (fun m i w => wL_ranksAgree_2 post (nI (wr_S a20 a18 a19 (n + 1))) m (nI i) (nI n) he pl ta 1 no a1 a2 a3 a4 a5 a6 a7 a8 a9 a10 a11 a12 a13 a14 a15 a16 a17 a18 a19 a20 w a22) (fun _ _ => True) (min 255 (wr_S a20 a18 a19 (n + 1))) 0 a21 (by omega) trivial ?_ ?_
  · intro m w _
    exact pk_le 255 (min 255 (wr_S a20 a18 a19 (n + 1))) (fun _ => H w) (fun _ => pk_le (wr_S a20 a18 a19 (n + 1)) (min 255 (wr_S a20 a18 a19 (n + 1))) (fun _ => H w) (fun z => absurd z (by omega)))
  · intro m i w hi _ hw
    refine pk_le 255 i (fun z => absurd z (by omega)) (fun z1 => pk_le (wr_S a20 a18 a19 (n + 1)) i (fun z => absurd z (by omega)) (fun z2 => ?_))
    obtain ⟨l, l1, l2, l3⟩ := wr_len a20 a18 a19 (n + 1) z2
    exact wr_wordLen hn hG (by omega) (by omega) l2 l3 (fun w1 => wr_wordBits hn hG (by omega) (by omega) l2 l3 (fun b w2 b1 b2 b3 =>
      wr_isChosen hn hG (by omega) b1 b2 (br_t rfl (wr_rank hn hG (by omega) b1 (fun w3 => br_t (by rw [b3]) (nm_r (nI_1 i) (hw w3 trivial)))))))
theorem wr_97 {post : Int32 → Prop} {he pl ta no : Int32} {a1 a2 a3 a4 a5 a6 a7 a8 a9 a10 a11 a12 a13 a14 a15 a16 a17 a18 a19 a20 a21 a22 : Nat → Int32} {n : Nat} {L : Nat → Nat} {M : Nat} {xs : Nat → Int32} {kc ks : Nat} (hn : n ≤ 7) (hG : wr_G n L a14 a18 a19) (H : post 1) :
    wL_law_97 post M xs (nI n) (nI (wr_S a20 a18 a19 (n + 1))) (nI (wr_S a20 a18 a19 (n + 1))) kc ks (nI n) he pl ta 1 no a1 a2 a3 a4 a5 a6 a7 a8 a9 a10 a11 a12 a13 a14 a15 a16 a17 a18 a19 a20 a21 a22 := by
  have hS := wr_S_lt a20 a18 a19 (n + 1)
  have hP : 2 ^ (n + 1) ≤ 2 ^ 8 := Nat.pow_le_pow_right (by omega) (by omega)
  have e : ((1 : Int32) <<< ((nI n + 1) &&& 31)) - 1 = nI (2 ^ (n + 1) - 1) := by
    rw [nI_1, wr_pow (by omega)]
    exact pk_sub (b := 1) (by omega)
  exact br_t rfl (br_f (nI_pos (by omega)) (pk_le (wr_S a20 a18 a19 (n + 1)) (2 ^ (n + 1) - 1) (fun _ => wr_agree hn hG (fun w => H)) (fun z => absurd z (by omega)) rfl e))
theorem wr_67 {post : Int32 → Prop} {he pl ta no : Int32} {a1 a2 a3 a4 a5 a6 a7 a8 a9 a10 a11 a12 a13 a14 a15 a16 a17 a18 a19 a20 a21 a22 : Nat → Int32} {n : Nat} {L : Nat → Nat} {M : Nat} {xs : Nat → Int32} {kc ks : Nat} (hn : n ≤ 7) (hG : wr_G n L a14 a18 a19) (H : post 1) :
    ∃ m, wL_law_67 post M xs (nI n) (nI (wr_S a20 a18 a19 (n + 1))) kc ks m 0 0 (nI n) he pl ta 1 no a1 a2 a3 a4 a5 a6 a7 a8 a9 a10 a11 a12 a13 a14 a15 a16 a17 a18 a19 a20 a21 a22 :=
  pk_loop (fun m i w => wL_law_67 post M xs (nI n) (nI (wr_S a20 a18 a19 (n + 1))) kc ks m (nI (wr_S a20 a18 a19 i)) (nI i) (nI n) he pl ta 1 no a1 a2 a3 a4 a5 a6 a7 a8 a9 a10 a11 a12 a13 a14 a15 a16 a17 a18 a19 a20 w a22) (fun _ _ => True) (n + 1) 0 a21 (by omega) trivial
    (fun m w _ => pk_lt 7 (n + 1) (fun _ => wr_97 hn hG H) (fun _ => pk_lt n (n + 1) (fun _ => wr_97 hn hG H) (fun z => absurd z (by omega))))
    (fun m i w hi _ hw => pk_lt 7 i (fun z => absurd z (by omega)) (fun _ => pk_lt n i (fun z => absurd z (by omega)) (fun _ => wr_count hn hG (by omega) (fun w' => nm_r (nI_add _ _) (nm_r (nI_1 i) (hw w' trivial))))))
theorem wr_30 {post : Int32 → Prop} {n M : Nat} {xs : Nat → Int32} {kc ks : Nat} (hn : n ≤ 7) (hM : M ≤ 260) (H : post 1) :
    ∀ (m i : Nat) (lo he pl ta fr no : Int32) (a1 a2 a3 a4 a5 a6 a7 a8 a9 a10 a11 a12 a13 a14 a15 a16 a17 a18 a19 a20 a21 a22 : Nat → Int32), wr_I n (lo, he, pl, ta, fr, no, a1, a2, a3, a4, a5, a6, a7, a8, a9, a10, a11, a12, a13, a14, a15, a16, a17, a18, a19, a20, a21, a22) → M + 1 - i < m → i ≤ M + 1 →
      wL_law_30 post M xs (nI n) kc ks m (nI i) lo he pl ta fr no a1 a2 a3 a4 a5 a6 a7 a8 a9 a10 a11 a12 a13 a14 a15 a16 a17 a18 a19 a20 a21 a22 := by
  intro m
  induction m with
  | zero => intro i lo he pl ta fr no a1 a2 a3 a4 a5 a6 a7 a8 a9 a10 a11 a12 a13 a14 a15 a16 a17 a18 a19 a20 a21 a22 _ h; exact absurd h (Nat.not_lt_zero _)
  | succ m ih =>
    intro i lo he pl ta fr no a1 a2 a3 a4 a5 a6 a7 a8 a9 a10 a11 a12 a13 a14 a15 a16 a17 a18 a19 a20 a21 a22 hI h1 h2
    refine pk_le M (i + 1) (fun z => ?_) (fun z => ⟨pk_in i M (by omega), pk_in (i + 1) M (by omega) (nI_1 i), wr_turn hI (fun u' hI' => ?_)⟩) rfl (nI_1 i)
    · obtain ⟨e1, _, _, e4, _⟩ := hI
      dsimp only at e1 e4
      subst e1 e4
      exact wr_total hn (fun L N b14 b15 b16 b17 b18 b19 b20 w hG => wr_67 hn hG H)
    · obtain ⟨g1, g2, g3, g4, g5, g6, c1, c2, c3, c4, c5, c6, c7, c8, c9, c10, c11, c12, c13, c14, c15, c16, c17, c18, c19, c20, c21, c22⟩ := u'
      exact nm_r (nI_add i 2) (ih (i + 2) _ _ _ _ _ _ _ _ _ _ _ _ _ _ _ _ _ _ _ _ _ _ _ _ _ _ _ _ hI' (by omega) (by omega))
theorem wr_init {post : St2 → Prop} {j n : Nat} (h1 : 1 ≤ n) (h7 : n ≤ 7) (h : (j = 0 ∧ n = 1) ∨ j = n) (H : post (nI n, 0, 0, 170, 0, 0, (fun _ => 0), (fun _ => 0), (fun _ => 0), (fun _ => 0), (fun _ => 0), (fun _ => 0), (fun _ => 0), (fun _ => 0), (fun _ => 0), (fun _ => 0), (fun _ => 0), (fun _ => 0), (fun _ => 0), (fun _ => 0), (fun _ => 0), (fun _ => 0), (fun _ => 0), (fun _ => 0), (fun _ => 0), (fun _ => 0), (fun _ => 0), (fun _ => 0))) : wpX_init post 22 2177 (0, 0, 0, 0, 0, 0) (nI j) := by
  unfold wpX_init
  dsimp only
  refine ⟨by omega, by omega, by omega, by omega, by omega, by omega, by omega, by omega, by omega, by omega, by omega, by omega, by omega, by omega, by omega, by omega, by omega, by omega, by omega, by omega, by omega, by omega, by omega, by omega, by omega, by omega, by omega, by omega, by omega, by omega, by omega, by omega, by omega, by omega, by omega, by omega, by omega, by omega, by omega, by omega, by omega, by omega, by omega, by omega, pk_le 1 j (fun z => ?_) (fun z => ?_)⟩
  · have e : j = n := by omega
    subst e
    exact pk_le j 7 (fun _ => H) (fun z => absurd z (by omega))
  · have e : n = 1 := by omega
    subst e
    exact pk_le 1 7 (fun _ => H) (fun z => absurd z (by omega))
theorem wr_cell {post : Int32 → Prop} {M : Nat} {xs : Nat → Int32} (hM : M ≤ 260) (H : ∀ r, post r) : wpL_cell post M xs () 0 :=
  pk_le M 0 (fun _ => H _) (fun z => ⟨pk_in 0 M z, H _⟩)
theorem wr_I0 {n : Nat} : wr_I n (nI n, 0, 0, 170, 0, 0, (fun _ => 0), (fun _ => 0), (fun _ => 0), (fun _ => 0), (fun _ => 0), (fun _ => 0), (fun _ => 0), (fun _ => 0), (fun _ => 0), (fun _ => 0), (fun _ => 0), (fun _ => 0), (fun _ => 0), (fun _ => 0), (fun _ => 0), (fun _ => 0), (fun _ => 0), (fun _ => 0), (fun _ => 0), (fun _ => 0), (fun _ => 0), (fun _ => 0)) :=
  wr_mk (h := 0) (p := 0) (by omega) (by omega) (fun i _ => ⟨0, by omega, rfl⟩)
theorem i_vc (xs : Nat → Int32) (L : Nat) (hL : L ≤ 260) : wpL_law (fun r => r = 1) L xs := by
  refine wr_cell hL (fun r => ?_)
  obtain ⟨j, hj, e⟩ := pk_andE r (m := 7) 3 (by decide)
  refine nm_r e ⟨22, 2177, by omega, by omega, ?_⟩
  rcases Nat.eq_zero_or_pos j with z | z
  · exact wr_init (n := 1) (by omega) (by omega) (Or.inl ⟨z, rfl⟩) (pk_eq j 0 (fun _ => ⟨L + 2, wr_30 (post := fun r => r = 1) (n := 1) (by omega) hL rfl (L + 2) 1 _ _ _ _ _ _ _ _ _ _ _ _ _ _ _ _ _ _ _ _ _ _ _ _ _ _ _ _ wr_I0 (by omega) (by omega)⟩) (fun h => absurd z h))
  · exact wr_init (n := j) (by omega) (by omega) (Or.inr rfl) (pk_eq j 0 (fun h => absurd h (by omega)) (fun _ => ⟨L + 2, wr_30 (post := fun r => r = 1) (n := j) (by omega) hL rfl (L + 2) 1 _ _ _ _ _ _ _ _ _ _ _ _ _ _ _ _ _ _ _ _ _ _ _ _ _ _ _ _ wr_I0 (by omega) (by omega)⟩))
end
