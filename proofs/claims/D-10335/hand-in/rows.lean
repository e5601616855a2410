section
/-! ===== BreakHeap: the pure picture ===== -/
def bh_B (f : Nat → Int32) : Prop := ∀ j, f j = 0 ∨ f j = 1
theorem bh_B_upd {f : Nat → Int32} {k : Nat} {x : Int32} (h : bh_B f) (hx : x = 0 ∨ x = 1) : bh_B (upd f k x) := by
  intro j
  by_cases e : j = k
  · rw [e, pk_us]; exact hx
  · rw [pk_un e]; exact h j
theorem bh_nar {x : Int32} (h : x = 0 ∨ x = 1) : vp_nar .boolean x = x := by
  rcases h with e | e
  · rw [e]; rfl
  · rw [e]; rfl
theorem bh_1 {x : Int32} (h : x = 0 ∨ x = 1) (h0 : x ≠ 0) : x = 1 := by
  rcases h with e | e
  · exact absurd e h0
  · exact e
theorem bh_ne01 : (1 : Int32) ≠ 0 := by decide
/-! m records, the i-th stands at st i -/
def bh_Ch (w : Nat → Int32) (m : Nat) (st : Nat → Nat) : Prop :=
  st 0 = 0 ∧ st m ≤ 72 ∧ ∀ i, i < m → ∃ k : Nat, 1 ≤ k ∧ w (st i) = nI k ∧ st (i + 1) = st i + k + 1
section
variable {w : Nat → Int32} {m : Nat} {st : Nat → Nat}
theorem bh_ch_up (h : bh_Ch w m st) : ∀ d i, i + d ≤ m → st i + 2 * d ≤ st (i + d) := by
  intro d
  induction d with
  | zero => intro i _; exact Nat.le_refl _
  | succ d ih =>
    intro i hi
    have h1 := ih i (by omega)
    obtain ⟨k, hk, _, e⟩ := h.2.2 (i + d) (by omega)
    have e' : st (i + (d + 1)) = st (i + d) + k + 1 := e
    omega
theorem bh_ch_sz (h : bh_Ch w m st) {i : Nat} (hi : i < m) :
    st i + 2 ≤ st (i + 1) ∧ st (i + 1) ≤ 72 ∧ 2 * i ≤ st i ∧ st i < 72 ∧ i < 36 ∧ st (i + 1) ≤ st m ∧ w (st i) = nI (st (i + 1) - st i - 1) ∧ (w (st i)).toNatClampNeg = st (i + 1) - st i - 1 := by
  obtain ⟨k, hk, e, e'⟩ := h.2.2 i hi
  have h1 := bh_ch_up h i 0 (by omega)
  have h2 := bh_ch_up h (m - (i + 1)) (i + 1) (by omega)
  have h3 := h.1
  have h4 := h.2.1
  rw [Nat.zero_add] at h1
  rw [show i + 1 + (m - (i + 1)) = m by omega] at h2
  have ek : k = st (i + 1) - st i - 1 := by omega
  have e2 : w (st i) = nI (st (i + 1) - st i - 1) := by rw [← ek]; exact e
  refine ⟨by omega, by omega, by omega, by omega, by omega, by omega, e2, ?_⟩
  rw [e2, nI_clamp (by omega)]
theorem bh_ch_m (h : bh_Ch w m st) : m ≤ 36 := by
  have h1 := bh_ch_up h m 0 (by omega)
  have h3 := h.1
  have h4 := h.2.1
  rw [Nat.zero_add] at h1
  omega
theorem bh_ch_lt (h : bh_Ch w m st) {i j : Nat} (hij : i < j) (hj : j ≤ m) : st (i + 1) ≤ st j := by
  have h2 := bh_ch_up h (j - (i + 1)) (i + 1) (by omega)
  rw [show i + 1 + (j - (i + 1)) = j by omega] at h2
  omega
theorem bh_ch_dis (h : bh_Ch w m st) {i i' p : Nat} (hi : i < m) (hi' : i' < m) (h1 : st i ≤ p) (h2 : p < st (i + 1)) (h3 : st i' ≤ p) (h4 : p < st (i' + 1)) : i = i' := by
  rcases Nat.lt_trichotomy i i' with z | z | z
  · have := bh_ch_lt h z (by omega); omega
  · exact z
  · have := bh_ch_lt h z (by omega); omega
theorem bh_ch_inj (h : bh_Ch w m st) {i i' : Nat} (hi : i < m) (hi' : i' < m) (e : st i = st i') : i = i' := by
  have a := bh_ch_sz h hi
  have b := bh_ch_sz h hi'
  exact bh_ch_dis h hi hi' (Nat.le_refl (st i)) (by omega) (by omega) (by omega)
theorem bh_nI_inj {a b : Nat} (ha : a < 72) (hb : b < 72) (e : nI a = nI b) : a = b := (nI_eq (by omega) (by omega)).mp e
theorem bh_ch_keep {w' : Nat → Int32} (h : bh_Ch w m st) (hk : ∀ i, i < m → w' (st i) = w (st i)) : bh_Ch w' m st := by
  refine ⟨h.1, h.2.1, fun i hi => ?_⟩
  rw [hk i hi]
  exact h.2.2 i hi
end
/-! the heap: every reference names a record -/
def bh_WF (m : Nat) (st : Nat → Nat) (w rf h hr : Nat → Int32) : Prop :=
  bh_Ch w m st ∧
  (∀ i, i < m → ∀ j, st i < j → j < st (i + 1) → rf j ≠ 0 → ∃ i', i' < m ∧ w j = nI (st i')) ∧
  (∀ r, r < 6 → hr r ≠ 0 → ∃ i, i < m ∧ h r = nI (st i)) ∧ bh_B rf ∧ bh_B hr
/-! reached from the registers -/
def bh_Re (w rf h hr : Nat → Int32) (a : Nat) : Prop :=
  ∀ P : Nat → Prop, (∀ r, r < 6 → hr r ≠ 0 → P (h r).toNatClampNeg) →
    (∀ b j, P b → 1 ≤ j → j ≤ (w b).toNatClampNeg → rf (b + j) ≠ 0 → P (w (b + j)).toNatClampNeg) → P a
section
variable {m : Nat} {st : Nat → Nat} {w rf h hr : Nat → Int32}
theorem bh_re_root {r : Nat} (hr6 : r < 6) (hf : hr r ≠ 0) : bh_Re w rf h hr (h r).toNatClampNeg :=
  fun _ h1 _ => h1 r hr6 hf
theorem bh_re_step {b j : Nat} (hb : bh_Re w rf h hr b) (h1 : 1 ≤ j) (h2 : j ≤ (w b).toNatClampNeg) (h3 : rf (b + j) ≠ 0) : bh_Re w rf h hr (w (b + j)).toNatClampNeg :=
  fun P g1 g2 => g2 b j (hb P g1 g2) h1 h2 h3
/-- a field of the record st i -/
theorem bh_re_fld (hc : bh_Ch w m st) {i p : Nat} (hi : i < m) (hb : bh_Re w rf h hr (st i)) (h1 : st i < p) (h2 : p < st (i + 1)) (h3 : rf p ≠ 0) : bh_Re w rf h hr (w p).toNatClampNeg := by
  have s := bh_ch_sz hc hi
  have e : p = st i + (p - st i) := by omega
  have := bh_re_step (j := p - st i) hb (by omega) (by rw [s.2.2.2.2.2.2.2]; omega) (by rw [← e]; exact h3)
  rw [← e] at this
  exact this
theorem bh_clamp_st (hc : bh_Ch w m st) {i : Nat} (hi : i < m) {v : Int32} (e : v = nI (st i)) : v.toNatClampNeg = st i := by
  have s := bh_ch_sz hc hi
  rw [e, nI_clamp (by omega)]
/-- what a set of records that holds the registers' and is closed under fields holds -/
theorem bh_re_ind (hw : bh_WF m st w rf h hr) (Q : Nat → Prop)
    (h1 : ∀ r i, r < 6 → hr r ≠ 0 → i < m → h r = nI (st i) → Q i)
    (h2 : ∀ i p i', i < m → Q i → st i < p → p < st (i + 1) → rf p ≠ 0 → i' < m → w p = nI (st i') → Q i')
    {a : Nat} (ha : bh_Re w rf h hr a) : ∃ i, i < m ∧ a = st i ∧ Q i := by
  obtain ⟨hc, hf, hg, _, _⟩ := hw
  refine ha (fun a => ∃ i, i < m ∧ a = st i ∧ Q i) ?_ ?_
  · intro r hr6 h0
    obtain ⟨i, hi, e⟩ := hg r hr6 h0
    exact ⟨i, hi, bh_clamp_st hc hi e, h1 r i hr6 h0 hi e⟩
  · rintro b j ⟨i, hi, rfl, hq⟩ j1 j2 j3
    have s := bh_ch_sz hc hi
    rw [s.2.2.2.2.2.2.2] at j2
    obtain ⟨i', hi', e⟩ := hf i hi (st i + j) (by omega) (by omega) j3
    exact ⟨i', hi', bh_clamp_st hc hi' e, h2 i (st i + j) i' hi hq (by omega) (by omega) j3 hi' e⟩
end
/-! words of the marked records among the first i -/
def bh_to (re : Nat → Int32) (st : Nat → Nat) : Nat → Nat
  | 0 => 0
  | i + 1 => bh_to re st i + if re (st i) = 0 then 0 else st (i + 1) - st i
def bh_N (re : Nat → Int32) (st : Nat → Nat) : Nat → Nat
  | 0 => 0
  | i + 1 => bh_N re st i + if re (st i) = 0 then 0 else 1
section
variable {re : Nat → Int32} {m : Nat} {st : Nat → Nat} {w : Nat → Int32}
theorem bh_to_0 {i : Nat} (h : re (st i) = 0) : bh_to re st (i + 1) = bh_to re st i := by
  show bh_to re st i + (if re (st i) = 0 then 0 else st (i + 1) - st i) = _
  rw [if_pos h]; rfl
theorem bh_to_1 {i : Nat} (h : re (st i) ≠ 0) : bh_to re st (i + 1) = bh_to re st i + (st (i + 1) - st i) := by
  show bh_to re st i + (if re (st i) = 0 then 0 else st (i + 1) - st i) = _
  rw [if_neg h]
theorem bh_N_0 {i : Nat} (h : re (st i) = 0) : bh_N re st (i + 1) = bh_N re st i := by
  show bh_N re st i + (if re (st i) = 0 then 0 else 1) = _
  rw [if_pos h]; rfl
theorem bh_N_1 {i : Nat} (h : re (st i) ≠ 0) : bh_N re st (i + 1) = bh_N re st i + 1 := by
  show bh_N re st i + (if re (st i) = 0 then 0 else 1) = _
  rw [if_neg h]
theorem bh_to_le (hc : bh_Ch w m st) : ∀ i, i ≤ m → bh_to re st i ≤ st i := by
  intro i
  induction i with
  | zero => intro _; exact Nat.zero_le _
  | succ i ih =>
    intro hi
    have a := ih (by omega)
    have s := bh_ch_sz hc (show i < m by omega)
    by_cases e : re (st i) = 0
    · rw [bh_to_0 e]; omega
    · rw [bh_to_1 e]; omega
theorem bh_to_mono : ∀ d i, bh_to re st i ≤ bh_to re st (i + d) := by
  intro d
  induction d with
  | zero => intro i; exact Nat.le_refl _
  | succ d ih =>
    intro i
    have a := ih i
    have b : bh_to re st (i + d) ≤ bh_to re st (i + d + 1) := by
      by_cases e : re (st (i + d)) = 0
      · rw [bh_to_0 e]; exact Nat.le_refl _
      · rw [bh_to_1 e]; omega
    exact Nat.le_trans a b
theorem bh_to_lt {i j : Nat} (h : re (st i) ≠ 0) (hij : i < j) : bh_to re st i + (st (i + 1) - st i) ≤ bh_to re st j := by
  rw [← bh_to_1 h]
  have := bh_to_mono (re := re) (st := st) (j - (i + 1)) (i + 1)
  rw [show i + 1 + (j - (i + 1)) = j by omega] at this
  exact this
theorem bh_to_inj (hc : bh_Ch w m st) {i j : Nat} (hi : i < m) (hj : j < m) (h1 : re (st i) ≠ 0) (h2 : re (st j) ≠ 0) (e : bh_to re st i = bh_to re st j) : i = j := by
  have a := bh_ch_sz hc hi
  have b := bh_ch_sz hc hj
  rcases Nat.lt_trichotomy i j with z | z | z
  · have := bh_to_lt h1 z; omega
  · exact z
  · have := bh_to_lt h2 z; omega
theorem bh_to_congr {re' : Nat → Int32} : ∀ n, (∀ i, i < n → (re (st i) = 0 ↔ re' (st i) = 0)) → bh_to re st n = bh_to re' st n := by
  intro n
  induction n with
  | zero => intro _; rfl
  | succ n ih =>
    intro h
    have a := ih (fun i hi => h i (by omega))
    have b := h n (by omega)
    by_cases e : re (st n) = 0
    · rw [bh_to_0 e, bh_to_0 (b.mp e), a]
    · rw [bh_to_1 e, bh_to_1 (fun z => e (b.mpr z)), a]
theorem bh_N_le : ∀ n, bh_N re st n ≤ n := by
  intro n
  induction n with
  | zero => exact Nat.le_refl _
  | succ n ih =>
    by_cases e : re (st n) = 0
    · rw [bh_N_0 e]; omega
    · rw [bh_N_1 e]; omega
theorem bh_N_mono : ∀ d i, bh_N re st i ≤ bh_N re st (i + d) := by
  intro d
  induction d with
  | zero => intro i; exact Nat.le_refl _
  | succ d ih =>
    intro i
    have a := ih i
    have b : bh_N re st (i + d) ≤ bh_N re st (i + d + 1) := by
      by_cases e : re (st (i + d)) = 0
      · rw [bh_N_0 e]; exact Nat.le_refl _
      · rw [bh_N_1 e]; omega
    exact Nat.le_trans a b
theorem bh_N_lt {i j : Nat} (h : re (st i) ≠ 0) (hij : i < j) : bh_N re st i < bh_N re st j := by
  have := bh_N_mono (re := re) (st := st) (j - (i + 1)) (i + 1)
  rw [show i + 1 + (j - (i + 1)) = j by omega, bh_N_1 h] at this
  omega
theorem bh_N_hit : ∀ n l, l < bh_N re st n → ∃ i, i < n ∧ re (st i) ≠ 0 ∧ bh_N re st i = l := by
  intro n
  induction n with
  | zero => intro l h; exact absurd h (Nat.not_lt_zero _)
  | succ n ih =>
    intro l h
    by_cases e : re (st n) = 0
    · rw [bh_N_0 e] at h
      obtain ⟨i, a, b, c⟩ := ih l h
      exact ⟨i, by omega, b, c⟩
    · rw [bh_N_1 e] at h
      by_cases g : l < bh_N re st n
      · obtain ⟨i, a, b, c⟩ := ih l g
        exact ⟨i, by omega, b, c⟩
      · exact ⟨n, by omega, e, by omega⟩
theorem bh_N_none : ∀ n, (∀ i, i < n → re (st i) = 0) → bh_N re st n = 0 := by
  intro n
  induction n with
  | zero => intro _; rfl
  | succ n ih =>
    intro h
    rw [bh_N_0 (h n (by omega))]
    exact ih (fun i hi => h i (by omega))
theorem bh_to_none : ∀ n, (∀ i, i < n → re (st i) = 0) → bh_to re st n = 0 := by
  intro n
  induction n with
  | zero => intro _; rfl
  | succ n ih =>
    intro h
    rw [bh_to_0 (h n (by omega))]
    exact ih (fun i hi => h i (by omega))
theorem bh_N_upd (hc : bh_Ch w m st) {i0 : Nat} (hi : i0 < m) (h0 : re (st i0) = 0) : ∀ n, n ≤ m → bh_N (upd re (st i0) 1) st n = bh_N re st n + if i0 < n then 1 else 0 := by
  intro n
  induction n with
  | zero => intro _; rfl
  | succ n ih =>
    intro hn
    have a := ih (by omega)
    by_cases e : n = i0
    · have b : upd re (st i0) 1 (st n) ≠ 0 := by rw [e, pk_us]; exact bh_ne01
      rw [bh_N_1 b, a, bh_N_0 (by rw [e]; exact h0), if_neg (by omega), if_pos (by omega)]
    · have b : upd re (st i0) 1 (st n) = re (st n) := pk_un (fun z => e (bh_ch_inj hc (by omega) hi z))
      have c : (if i0 < n then 1 else 0) = (if i0 < n + 1 then 1 else 0) := by
        by_cases g : i0 < n
        · rw [if_pos g, if_pos (by omega)]
        · rw [if_neg g, if_neg (by omega)]
      by_cases g : re (st n) = 0
      · rw [bh_N_0 (by rw [b]; exact g), bh_N_0 g, a, c]
      · rw [bh_N_1 (by rw [b]; exact g), bh_N_1 g, a, c]; omega
end
end
section
/-! ===== two heaps that say the same ===== -/
def bh_V (R : Nat → Nat → Prop) (f v f' v' : Int32) : Prop :=
  f = f' ∧ (f = 0 → v = v') ∧ (f ≠ 0 → ∃ a b, v = nI a ∧ v' = nI b ∧ R a b)
def bh_Sim (R : Nat → Nat → Prop) (m : Nat) (st : Nat → Nat) (w rf h hr : Nat → Int32) (m' : Nat) (st' : Nat → Nat) (w' rf' h' hr' : Nat → Int32) : Prop :=
  (∀ a b, R a b → (∃ i, i < m ∧ a = st i) ∧ (∃ i, i < m' ∧ b = st' i)) ∧
  (∀ a b c d, R a b → R c d → (a = c ↔ b = d)) ∧
  (∀ r, r < 6 → bh_V R (hr r) (h r) (hr' r) (h' r)) ∧
  (∀ a b, R a b → w a = w' b ∧ ∀ j, 1 ≤ j → j ≤ (w a).toNatClampNeg → bh_V R (rf (a + j)) (w (a + j)) (rf' (b + j)) (w' (b + j)))
theorem bh_V_symm {R : Nat → Nat → Prop} {f v f' v' : Int32} (h : bh_V R f v f' v') : bh_V (fun a b => R b a) f' v' f v := by
  obtain ⟨e, h0, h1⟩ := h
  subst e
  refine ⟨rfl, fun z => (h0 z).symm, fun z => ?_⟩
  obtain ⟨a, b, x, y, g⟩ := h1 z
  exact ⟨b, a, y, x, g⟩
theorem bh_V_mono {R S : Nat → Nat → Prop} {f v f' v' : Int32} (hRS : ∀ a b, R a b → S a b) (h : bh_V R f v f' v') : bh_V S f v f' v' := by
  refine ⟨h.1, h.2.1, fun z => ?_⟩
  obtain ⟨a, b, x, y, g⟩ := h.2.2 z
  exact ⟨a, b, x, y, hRS a b g⟩
theorem bh_V_trans {R S : Nat → Nat → Prop} {f v f' v' f'' v'' : Int32} (hR : ∀ a b, R a b → b < 72) (hS : ∀ a b, S a b → a < 72) (h : bh_V R f v f' v') (g : bh_V S f' v' f'' v'') : bh_V (fun a c => ∃ b, R a b ∧ S b c) f v f'' v'' := by
  obtain ⟨e, h0, h1⟩ := h
  obtain ⟨e', g0, g1⟩ := g
  subst e
  subst e'
  refine ⟨rfl, fun z => (h0 z).trans (g0 z), fun z => ?_⟩
  obtain ⟨a, b, x, y, k⟩ := h1 z
  obtain ⟨b', c, x', y', k'⟩ := g1 z
  have e : b = b' := bh_nI_inj (hR a b k) (hS b' c k') (y.symm.trans x')
  subst e
  exact ⟨a, c, x, y', b, k, k'⟩
section
variable {R S : Nat → Nat → Prop} {m m' m'' : Nat} {st st' st'' : Nat → Nat} {w rf h hr w' rf' h' hr' w'' rf'' h'' hr'' : Nat → Int32}
theorem bh_sim_l (hc : bh_Ch w m st) (hs : bh_Sim R m st w rf h hr m' st' w' rf' h' hr') {a b : Nat} (g : R a b) : a < 72 := by
  obtain ⟨i, hi, e⟩ := (hs.1 a b g).1
  have := bh_ch_sz hc hi
  omega
theorem bh_sim_r (hc : bh_Ch w' m' st') (hs : bh_Sim R m st w rf h hr m' st' w' rf' h' hr') {a b : Nat} (g : R a b) : b < 72 := by
  obtain ⟨i, hi, e⟩ := (hs.1 a b g).2
  have := bh_ch_sz hc hi
  omega
theorem bh_sim_symm (hs : bh_Sim R m st w rf h hr m' st' w' rf' h' hr') : bh_Sim (fun a b => R b a) m' st' w' rf' h' hr' m st w rf h hr := by
  obtain ⟨h1, h2, h3, h4⟩ := hs
  refine ⟨fun a b g => ⟨(h1 b a g).2, (h1 b a g).1⟩, fun a b c d g g' => (h2 b a d c g g').symm, fun r hr6 => bh_V_symm (h3 r hr6), fun a b g => ?_⟩
  obtain ⟨e, k⟩ := h4 b a g
  refine ⟨e.symm, fun j j1 j2 => bh_V_symm (k j j1 ?_)⟩
  rw [e]; exact j2
theorem bh_sim_trans (hc : bh_Ch w' m' st') (hs : bh_Sim R m st w rf h hr m' st' w' rf' h' hr') (hs' : bh_Sim S m' st' w' rf' h' hr' m'' st'' w'' rf'' h'' hr'') :
    bh_Sim (fun a c => ∃ b, R a b ∧ S b c) m st w rf h hr m'' st'' w'' rf'' h'' hr'' := by
  have b1 : ∀ a b, R a b → b < 72 := fun a b g => bh_sim_r hc hs g
  have b2 : ∀ a b, S a b → a < 72 := fun a b g => bh_sim_l hc hs' g
  obtain ⟨h1, h2, h3, h4⟩ := hs
  obtain ⟨k1, k2, k3, k4⟩ := hs'
  refine ⟨?_, ?_, fun r hr6 => bh_V_trans b1 b2 (h3 r hr6) (k3 r hr6), ?_⟩
  · rintro a c ⟨b, x, y⟩
    exact ⟨(h1 a b x).1, (k1 b c y).2⟩
  · rintro a c a' c' ⟨b, x, y⟩ ⟨b', x', y'⟩
    exact (h2 a b a' b' x x').trans (k2 b c b' c' y y')
  · rintro a c ⟨b, x, y⟩
    obtain ⟨e, f⟩ := h4 a b x
    obtain ⟨e', f'⟩ := k4 b c y
    exact ⟨e.trans e', fun j j1 j2 => bh_V_trans b1 b2 (f j j1 j2) (f' j j1 (by rw [← e]; exact j2))⟩
theorem bh_sim_re (hc : bh_Ch w m st) (hc' : bh_Ch w' m' st') (hs : bh_Sim R m st w rf h hr m' st' w' rf' h' hr') {a : Nat} (ha : bh_Re w rf h hr a) : ∃ b, R a b ∧ bh_Re w' rf' h' hr' b := by
  have b1 : ∀ a b, R a b → a < 72 := fun a b g => bh_sim_l hc hs g
  have b2 : ∀ a b, R a b → b < 72 := fun a b g => bh_sim_r hc' hs g
  obtain ⟨h1, h2, h3, h4⟩ := hs
  refine ha (fun a => ∃ b, R a b ∧ bh_Re w' rf' h' hr' b) ?_ ?_
  · intro r hr6 h0
    obtain ⟨e, _, k⟩ := h3 r hr6
    obtain ⟨a, b, x, y, g⟩ := k h0
    have xa : (h r).toNatClampNeg = a := by rw [x, nI_clamp (by have := b1 a b g; omega)]
    have yb : (h' r).toNatClampNeg = b := by rw [y, nI_clamp (by have := b2 a b g; omega)]
    rw [xa]
    refine ⟨b, g, ?_⟩
    rw [← yb]
    exact bh_re_root hr6 (by rw [← e]; exact h0)
  · rintro c j ⟨d, g, hd⟩ j1 j2 j3
    obtain ⟨e, k⟩ := h4 c d g
    obtain ⟨e', _, k'⟩ := k j j1 j2
    obtain ⟨a, b, x, y, g'⟩ := k' j3
    have xa : (w (c + j)).toNatClampNeg = a := by rw [x, nI_clamp (by have := b1 a b g'; omega)]
    have yb : (w' (d + j)).toNatClampNeg = b := by rw [y, nI_clamp (by have := b2 a b g'; omega)]
    rw [xa]
    refine ⟨b, g', ?_⟩
    rw [← yb]
    exact bh_re_step hd j1 (by rw [← e]; exact j2) (by rw [← e']; exact j3)
end
/-! sums -/
def bh_S (f : Nat → Nat) : Nat → Nat
  | 0 => 0
  | n + 1 => bh_S f n + f n
theorem bh_S_s (f : Nat → Nat) (n : Nat) : bh_S f (n + 1) = bh_S f n + f n := rfl
theorem bh_S_congr {f g : Nat → Nat} : ∀ n, (∀ i, i < n → f i = g i) → bh_S f n = bh_S g n := by
  intro n
  induction n with
  | zero => intro _; rfl
  | succ n ih =>
    intro h
    rw [bh_S_s, bh_S_s, ih (fun i hi => h i (by omega)), h n (by omega)]
theorem bh_S_0 : ∀ n, bh_S (fun _ => 0) n = 0 := by
  intro n
  induction n with
  | zero => rfl
  | succ n ih => rw [bh_S_s, ih]
theorem bh_S_zero {f : Nat → Nat} (n : Nat) (h : ∀ i, i < n → f i = 0) : bh_S f n = 0 := by
  rw [bh_S_congr (g := fun _ => 0) n h, bh_S_0]
theorem bh_S_add (f g : Nat → Nat) : ∀ n, bh_S (fun i => f i + g i) n = bh_S f n + bh_S g n := by
  intro n
  induction n with
  | zero => rfl
  | succ n ih =>
    rw [bh_S_s, bh_S_s, bh_S_s, ih]
    omega
theorem bh_S_swap (f : Nat → Nat → Nat) (n' : Nat) : ∀ n, bh_S (fun i => bh_S (fun j => f i j) n') n = bh_S (fun j => bh_S (fun i => f i j) n) n' := by
  intro n
  induction n with
  | zero => exact (bh_S_0 n').symm
  | succ n ih =>
    have a := bh_S_add (fun j => bh_S (fun i => f i j) n) (fun j => f n j) n'
    rw [bh_S_s, ih]
    exact a.symm
theorem bh_S_one {f : Nat → Nat} {i0 : Nat} : ∀ n, i0 < n → (∀ i, i < n → i ≠ i0 → f i = 0) → bh_S f n = f i0 := by
  intro n
  induction n with
  | zero => intro h; exact absurd h (Nat.not_lt_zero _)
  | succ n ih =>
    intro h0 h
    by_cases e : n = i0
    · rw [bh_S_s, bh_S_zero n (fun i hi => h i (by omega) (by omega)), e, Nat.zero_add]
    · rw [bh_S_s, ih (by omega) (fun i hi => h i (by omega)), h n (by omega) e, Nat.add_zero]
theorem bh_to_S (re : Nat → Int32) (st : Nat → Nat) : ∀ n, bh_to re st n = bh_S (fun i => if re (st i) = 0 then 0 else st (i + 1) - st i) n := by
  intro n
  induction n with
  | zero => rfl
  | succ n ih =>
    rw [bh_S_s, ← ih]
    rfl
/-! the reached words -/
noncomputable def bh_rc (w rf h hr : Nat → Int32) : Nat → Int32 := fun a => @ite Int32 (bh_Re w rf h hr a) (Classical.propDecidable _) 1 0
noncomputable def bh_W (m : Nat) (st : Nat → Nat) (w rf h hr : Nat → Int32) : Nat := bh_to (bh_rc w rf h hr) st m
theorem bh_rc_1 {w rf h hr : Nat → Int32} {a : Nat} (g : bh_Re w rf h hr a) : bh_rc w rf h hr a ≠ 0 := by
  unfold bh_rc
  rw [if_pos g]
  exact bh_ne01
theorem bh_rc_0 {w rf h hr : Nat → Int32} {a : Nat} (g : ¬ bh_Re w rf h hr a) : bh_rc w rf h hr a = 0 := by
  unfold bh_rc
  rw [if_neg g]
section
variable {R : Nat → Nat → Prop} {m m' : Nat} {st st' : Nat → Nat} {w rf h hr w' rf' h' hr' re : Nat → Int32}
theorem bh_W_eq (hm : ∀ i, i < m → (re (st i) ≠ 0 ↔ bh_Re w rf h hr (st i))) : bh_to re st m = bh_W m st w rf h hr := by
  unfold bh_W
  refine bh_to_congr m (fun i hi => ?_)
  have a := hm i hi
  by_cases g : bh_Re w rf h hr (st i)
  · exact ⟨fun z => absurd z (a.mpr g), fun z => absurd z (bh_rc_1 g)⟩
  · refine ⟨fun _ => bh_rc_0 g, fun _ => ?_⟩
    by_cases z : re (st i) = 0
    · exact z
    · exact absurd (a.mp z) g
theorem bh_W_le (hc : bh_Ch w m st) : bh_W m st w rf h hr ≤ st m := bh_to_le hc m (Nat.le_refl m)
theorem bh_sim_W (hc : bh_Ch w m st) (hc' : bh_Ch w' m' st') (hs : bh_Sim R m st w rf h hr m' st' w' rf' h' hr') : bh_W m st w rf h hr = bh_W m' st' w' rf' h' hr' := by
  classical
  have F : ∀ a, bh_Re w rf h hr a → ∃ b, R a b ∧ bh_Re w' rf' h' hr' b := fun a ha => bh_sim_re hc hc' hs ha
  have G : ∀ b, bh_Re w' rf' h' hr' b → ∃ a, R a b ∧ bh_Re w rf h hr a := fun b hb => bh_sim_re hc' hc (bh_sim_symm hs) hb
  obtain ⟨h1, h2, h3, h4⟩ := hs
  let g : Nat → Nat → Nat := fun i i' => if R (st i) (st' i') ∧ bh_Re w rf h hr (st i) then st (i + 1) - st i else 0
  have A : ∀ i, i < m → (if bh_rc w rf h hr (st i) = 0 then 0 else st (i + 1) - st i) = bh_S (fun i' => g i i') m' := by
    intro i hi
    by_cases e : bh_Re w rf h hr (st i)
    · rw [if_neg (bh_rc_1 e)]
      obtain ⟨b, x, _⟩ := F _ e
      obtain ⟨i0, hi0, e0⟩ := (h1 _ _ x).2
      subst e0
      rw [bh_S_one (i0 := i0) m' hi0 (fun i' hi' ne => ?_)]
      · exact (if_pos ⟨x, e⟩).symm
      · refine if_neg (fun z => ne ?_)
        exact bh_ch_inj hc' hi' hi0 ((h2 _ _ _ _ z.1 x).mp rfl)
    · rw [if_pos (bh_rc_0 e)]
      exact (bh_S_zero m' (fun i' _ => if_neg (fun z => e z.2))).symm
  have B : ∀ i', i' < m' → (if bh_rc w' rf' h' hr' (st' i') = 0 then 0 else st' (i' + 1) - st' i') = bh_S (fun i => g i i') m := by
    intro i' hi'
    by_cases e : bh_Re w' rf' h' hr' (st' i')
    · rw [if_neg (bh_rc_1 e)]
      obtain ⟨a, x, y⟩ := G _ e
      obtain ⟨i0, hi0, e0⟩ := (h1 _ _ x).1
      subst e0
      rw [bh_S_one (i0 := i0) m hi0 (fun i hi ne => ?_)]
      · refine Eq.trans ?_ (if_pos ⟨x, y⟩).symm
        have s := bh_ch_sz hc hi0
        have s' := bh_ch_sz hc' hi'
        have q : (w (st i0)).toNatClampNeg = (w' (st' i')).toNatClampNeg := by rw [(h4 _ _ x).1]
        rw [s.2.2.2.2.2.2.2, s'.2.2.2.2.2.2.2] at q
        omega
      · refine if_neg (fun z => ne ?_)
        exact bh_ch_inj hc hi hi0 ((h2 _ _ _ _ z.1 x).mpr rfl)
    · rw [if_pos (bh_rc_0 e)]
      refine (bh_S_zero m (fun i _ => if_neg (fun z => e ?_))).symm
      obtain ⟨b, x, y⟩ := F _ z.2
      have := (h2 _ _ _ _ z.1 x).mp rfl
      rw [this]
      exact y
  unfold bh_W
  rw [bh_to_S, bh_to_S, bh_S_congr m A, bh_S_congr m' B]
  exact bh_S_swap g m' m
end
end
section
/-! ===== marking ===== -/
def bh_MK (m : Nat) (st : Nat → Nat) (w rf h hr re sk : Nat → Int32) (q s cur c : Nat) : Prop :=
  (∀ j, j < q → ∃ i, i < m ∧ sk j = nI (st i) ∧ re (st i) ≠ 0) ∧
  (∀ i, i < m → re (st i) ≠ 0 → bh_Re w rf h hr (st i)) ∧
  (∀ i, i < m → re (st i) ≠ 0 → (∃ j, j < q ∧ sk j = nI (st i)) ∨ (∀ p, st i < p → p < st (i + 1) → rf p ≠ 0 → re (w p).toNatClampNeg ≠ 0 ∨ (st i = cur ∧ c ≤ p))) ∧
  s + q = bh_N re st m
theorem bh_mono1 {re : Nat → Int32} {a b : Nat} (h : re b ≠ 0) : upd re a 1 b ≠ 0 := by
  by_cases e : b = a
  · rw [e, pk_us]; exact bh_ne01
  · rw [pk_un e]; exact h
section
variable {m : Nat} {st : Nat → Nat} {w rf h hr re sk : Nat → Int32} {q s cur c : Nat}
theorem bh_mk_q (hc : bh_Ch w m st) (hM : bh_MK m st w rf h hr re sk q s cur c) {i0 : Nat} (hi : i0 < m) (h0 : re (st i0) = 0) : s + q < 36 := by
  have a := bh_N_upd hc hi h0 m (Nat.le_refl m)
  have b := bh_N_le (re := upd re (st i0) 1) (st := st) m
  have d := bh_ch_m hc
  have e := hM.2.2.2
  rw [if_pos hi] at a
  omega
theorem bh_mk_push (hc : bh_Ch w m st) (hM : bh_MK m st w rf h hr re sk q s cur c) {i0 : Nat} (hi : i0 < m) (hR : bh_Re w rf h hr (st i0)) (h0 : re (st i0) = 0) :
    bh_MK m st w rf h hr (upd re (st i0) 1) (upd sk q (nI (st i0))) (q + 1) s cur c := by
  have a := bh_N_upd hc hi h0 m (Nat.le_refl m)
  rw [if_pos hi] at a
  obtain ⟨h1, h2, h3, h4⟩ := hM
  refine ⟨?_, ?_, ?_, by omega⟩
  · intro j hj
    by_cases e : j = q
    · subst e
      exact ⟨i0, hi, pk_us, by rw [pk_us]; exact bh_ne01⟩
    · obtain ⟨i, x, y, z⟩ := h1 j (by omega)
      exact ⟨i, x, by rw [pk_un e]; exact y, bh_mono1 z⟩
  · intro i hi' g
    by_cases e : i = i0
    · rw [e]; exact hR
    · rw [pk_un (fun z => e (bh_ch_inj hc hi' hi z))] at g
      exact h2 i hi' g
  · intro i hi' g
    by_cases e : i = i0
    · subst e
      exact Or.inl ⟨q, by omega, pk_us⟩
    · rw [pk_un (fun z => e (bh_ch_inj hc hi' hi z))] at g
      rcases h3 i hi' g with ⟨j, x, y⟩ | k
      · exact Or.inl ⟨j, by omega, by rw [pk_un (by omega)]; exact y⟩
      · refine Or.inr (fun p p1 p2 p3 => ?_)
        rcases k p p1 p2 p3 with z | z
        · exact Or.inl (bh_mono1 z)
        · exact Or.inr z
theorem bh_mk_adv {p : Nat} (hM : bh_MK m st w rf h hr re sk q s cur p) (hp : rf p ≠ 0 → re (w p).toNatClampNeg ≠ 0) : bh_MK m st w rf h hr re sk q s cur (p + 1) := by
  obtain ⟨h1, h2, h3, h4⟩ := hM
  refine ⟨h1, h2, fun i hi g => ?_, h4⟩
  rcases h3 i hi g with k | k
  · exact Or.inl k
  · refine Or.inr (fun p' p1 p2 p3 => ?_)
    rcases k p' p1 p2 p3 with z | z
    · exact Or.inl z
    · by_cases e : p' = p
      · subst e
        exact Or.inl (hp p3)
      · exact Or.inr ⟨z.1, by omega⟩
theorem bh_mk_fin (hc : bh_Ch w m st) {i0 : Nat} (hi0 : i0 < m) (hM : bh_MK m st w rf h hr re sk q s (st i0) (st (i0 + 1))) : bh_MK m st w rf h hr re sk q s 0 72 := by
  obtain ⟨h1, h2, h3, h4⟩ := hM
  refine ⟨h1, h2, fun i hi g => ?_, h4⟩
  rcases h3 i hi g with k | k
  · exact Or.inl k
  · refine Or.inr (fun p p1 p2 p3 => ?_)
    rcases k p p1 p2 p3 with z | z
    · exact Or.inl z
    · have e := bh_ch_inj hc hi hi0 z.1
      subst e
      omega
theorem bh_mk_pop (hc : bh_Ch w m st) (hM : bh_MK m st w rf h hr re sk (q + 1) s 0 72) : ∃ i0, i0 < m ∧ sk q = nI (st i0) ∧ re (st i0) ≠ 0 ∧ bh_MK m st w rf h hr re sk q (s + 1) (st i0) (st i0 + 1) := by
  obtain ⟨h1, h2, h3, h4⟩ := hM
  obtain ⟨i0, x, y, z⟩ := h1 q (by omega)
  refine ⟨i0, x, y, z, fun j hj => h1 j (by omega), h2, fun i hi g => ?_, by omega⟩
  have s0 := bh_ch_sz hc x
  have s1 := bh_ch_sz hc hi
  rcases h3 i hi g with ⟨j, j1, j2⟩ | k
  · by_cases e : j = q
    · subst e
      have e2 := bh_nI_inj s1.2.2.2.1 s0.2.2.2.1 (j2.symm.trans y)
      exact Or.inr (fun p p1 _ _ => Or.inr ⟨e2, by omega⟩)
    · exact Or.inl ⟨j, by omega, j2⟩
  · refine Or.inr (fun p p1 p2 p3 => ?_)
    rcases k p p1 p2 p3 with z | z
    · exact Or.inl z
    · omega
theorem bh_mk_end (hw : bh_WF m st w rf h hr) (hM : bh_MK m st w rf h hr re sk 0 s 0 72) (hroot : ∀ r, r < 6 → hr r ≠ 0 → re (h r).toNatClampNeg ≠ 0) : ∀ i, i < m → (re (st i) ≠ 0 ↔ bh_Re w rf h hr (st i)) := by
  have hc := hw.1
  obtain ⟨h1, h2, h3, h4⟩ := hM
  refine fun i hi => ⟨h2 i hi, fun g => ?_⟩
  have A1 : ∀ r i, r < 6 → hr r ≠ 0 → i < m → h r = nI (st i) → re (st i) ≠ 0 := by
    intro r i r6 r0 hi e
    have := hroot r r6 r0
    rw [bh_clamp_st hc hi e] at this
    exact this
  have A2 : ∀ i p i', i < m → re (st i) ≠ 0 → st i < p → p < st (i + 1) → rf p ≠ 0 → i' < m → w p = nI (st i') → re (st i') ≠ 0 := by
    intro i p i' hi k p1 p2 p3 hi' e
    have s1 := bh_ch_sz hc hi
    rcases h3 i hi k with ⟨j, z, _⟩ | z
    · omega
    · rcases z p p1 p2 p3 with y | y
      · rw [bh_clamp_st hc hi' e] at y
        exact y
      · omega
  obtain ⟨i', hi', e, k⟩ := bh_re_ind hw (fun i => re (st i) ≠ 0) A1 A2 g
  rw [e]
  exact k
end
/-! the walk -/
section
variable {post : St1 → Prop} {m : Nat} {st : Nat → Nat} {w rf h hr a7 a8 : Nat → Int32} {t b : Int32}
theorem bh_reach {re sk : Nat → Int32} {q s cur c i0 : Nat} (hc : bh_Ch w m st) (hM : bh_MK m st w rf h hr re sk q s cur c) (hi : i0 < m) (hR : bh_Re w rf h hr (st i0))
    (H : ∀ re' sk' q', bh_MK m st w rf h hr re' sk' q' s cur c → re' (st i0) ≠ 0 → (∀ a, re a ≠ 0 → re' a ≠ 0) → post (t, nI q', b, w, rf, h, hr, re', sk', a7, a8)) :
    wpX_reach post (t, nI q, b, w, rf, h, hr, re, sk, a7, a8) (nI (st i0)) := by
  have s0 := bh_ch_sz hc hi
  have e : (nI (st i0)).toNatClampNeg = st i0 := nI_clamp (by omega)
  refine ⟨pk_in (st i0) 72 (by omega), br_c (fun g => ?_) (fun g => ?_)⟩
  · rw [e] at g
    have hq := bh_mk_q hc hM hi g
    refine ⟨pk_in (st i0) 72 (by omega), fun a5 e5 => ⟨pk_in q 40 (by omega), fun a6 e6 f7 e7 => ?_⟩⟩
    rw [e] at e5
    rw [nI_clamp (by omega)] at e6
    rw [nI_1] at e7
    subst e5 e6 e7
    exact H _ _ _ (bh_mk_push hc hM hi hR g) (by rw [pk_us]; exact bh_ne01) (fun a ha => bh_mono1 ha)
  · rw [e] at g
    exact H re sk q hM g (fun a ha => ha)
theorem bh_98 {J : Int32 → Int32 → Int32 → Int32 → (Nat → Int32) → (Nat → Int32) → (Nat → Int32) → (Nat → Int32) → (Nat → Int32) → (Nat → Int32) → (Nat → Int32) → (Nat → Int32) → Prop} {s i0 : Nat}
    (hw : bh_WF m st w rf h hr) (hi : i0 < m) (hR : bh_Re w rf h hr (st i0)) (K : (Nat → Int32) → Prop) (hK : ∀ re re' : Nat → Int32, (∀ a, re a ≠ 0 → re' a ≠ 0) → K re → K re')
    (H : ∀ re sk q, bh_MK m st w rf h hr re sk q (s + 1) 0 72 → K re → J (nI (s + 1)) t (nI q) b w rf h hr re sk a7 a8) :
    ∀ d p re sk q, p + d = st (i0 + 1) → st i0 < p → bh_MK m st w rf h hr re sk q (s + 1) (st i0) p → K re → wX_markReached_98 post J (nI s) (nI (st i0)) (d + 1) (nI p) t (nI q) b w rf h hr re sk a7 a8 := by
  have hc := hw.1
  have s0 := bh_ch_sz hc hi
  have e : (nI (st i0)).toNatClampNeg = st i0 := nI_clamp (by omega)
  have ex : nI (st i0) + w (nI (st i0)).toNatClampNeg = nI (st (i0 + 1) - 1) := by
    rw [e, s0.2.2.2.2.2.2.1, nI_add]
    congr 1
    omega
  intro d
  induction d with
  | zero =>
    intro p re sk q hp h1 hM hk
    have hp' : p = st (i0 + 1) := by omega
    subst hp'
    refine ⟨pk_in (st i0) 72 (by omega), pk_lt (st (i0 + 1) - 1) (st (i0 + 1)) (fun _ => nm_r (nI_1 s) (H re sk q (bh_mk_fin hc hi hM) hk)) (fun z => absurd z (by omega)) ex⟩
  | succ d ih =>
    intro p re sk q hp h1 hM hk
    have ep : (nI p).toNatClampNeg = p := nI_clamp (by omega)
    refine ⟨pk_in (st i0) 72 (by omega), pk_lt (st (i0 + 1) - 1) p (fun z => absurd z (by omega)) (fun _ => ⟨pk_in p 72 (by omega), br_c (fun g => ?_) (fun g => ⟨pk_in p 72 (by omega), ?_⟩)⟩) ex⟩
    · rw [ep] at g
      exact nm_r (nI_1 p) (ih (p + 1) re sk q (by omega) (by omega) (bh_mk_adv hM (fun z => absurd g z)) hk)
    · rw [ep] at g
      obtain ⟨i', hi', e'⟩ := hw.2.1 i0 hi p h1 (by omega) g
      have hR' := bh_re_fld hc hi hR h1 (by omega) g
      rw [bh_clamp_st hc hi' e'] at hR'
      rw [ep, e']
      refine bh_reach hc hM hi' hR' (fun re' sk' q' hM' h0 hmono => ?_)
      exact nm_r (nI_1 p) (ih (p + 1) re' sk' q' (by omega) (by omega) (bh_mk_adv hM' (fun _ => by rw [bh_clamp_st hc hi' e']; exact h0)) (hK _ _ hmono hk))
theorem bh_61 (hw : bh_WF m st w rf h hr) (K : (Nat → Int32) → Prop) (hK : ∀ re re' : Nat → Int32, (∀ a, re a ≠ 0 → re' a ≠ 0) → K re → K re')
    (H : ∀ re sk s, bh_MK m st w rf h hr re sk 0 s 0 72 → K re → post (t, nI 0, b, w, rf, h, hr, re, sk, a7, a8)) :
    ∀ d s re sk q, s + d = 37 → bh_MK m st w rf h hr re sk q s 0 72 → K re → wX_markReached_61 post (d + 1) (nI s) t (nI q) b w rf h hr re sk a7 a8 := by
  have hc := hw.1
  have hm := bh_ch_m hc
  intro d
  induction d with
  | zero =>
    intro s re sk q hs hM _
    have a := bh_N_le (re := re) (st := st) m
    have := hM.2.2.2
    omega
  | succ d ih =>
    intro s re sk q hs hM hk
    refine pk_le 37 s (fun z => absurd z (by omega)) (fun _ => ?_)
    cases q with
    | zero => exact pk_le 0 0 (fun _ => H re sk s hM hk) (fun z => absurd z (by omega))
    | succ q =>
      have a := bh_N_le (re := re) (st := st) m
      have hq := hM.2.2.2
      refine pk_le (q + 1) 0 (fun z => absurd z (by omega)) (fun _ => nm_r (nI_pred q) ⟨pk_in q 40 (by omega), ?_⟩)
      obtain ⟨i0, hi0, e0, r0, hM'⟩ := bh_mk_pop hc hM
      have s0 := bh_ch_sz hc hi0
      have eq : sk (nI q).toNatClampNeg = nI (st i0) := by rw [nI_clamp (by omega)]; exact e0
      refine nm_r eq (nm_r (nI_1 (st i0)) ⟨st (i0 + 1) - (st i0 + 1) + 1, ?_⟩)
      exact bh_98 (s := s) hw hi0 (hM.2.1 i0 hi0 r0) K hK (fun re' sk' q' hM2 hk2 => ih (s + 1) re' sk' q' (by omega) hM2 hk2) (st (i0 + 1) - (st i0 + 1)) (st i0 + 1) re sk q (by omega) (by omega) hM' hk
theorem bh_28 (hw : bh_WF m st w rf h hr)
    (H : ∀ re sk, (∀ i, i < m → (re (st i) ≠ 0 ↔ bh_Re w rf h hr (st i))) → post (t, nI 0, b, w, rf, h, hr, re, sk, a7, a8)) :
    ∀ d r re sk q, r + d = 6 → bh_MK m st w rf h hr re sk q 0 0 72 → (∀ r', r' < r → hr r' ≠ 0 → re (h r').toNatClampNeg ≠ 0) → wX_markReached_28 post (d + 1) (nI r) t (nI q) b w rf h hr re sk a7 a8 := by
  have hc := hw.1
  intro d
  induction d with
  | zero =>
    intro r re sk q hd hM hk
    have e : r = 6 := by omega
    subst e
    refine pk_le 6 6 (fun _ => ⟨37 + 1, ?_⟩) (fun z => absurd z (by omega))
    exact bh_61 hw (fun re => ∀ r', r' < 6 → hr r' ≠ 0 → re (h r').toNatClampNeg ≠ 0) (fun re re' hm hk r' a1 a2 => hm _ (hk r' a1 a2))
      (fun re sk s hM hk => H re sk (bh_mk_end hw hM hk)) 37 0 re sk q (by omega) hM hk
  | succ d ih =>
    intro r re sk q hd hM hk
    have er : (nI r).toNatClampNeg = r := nI_clamp (by omega)
    refine pk_le 6 r (fun z => absurd z (by omega)) (fun _ => ⟨pk_in r 6 (by omega), br_c (fun g => ?_) (fun g => ⟨pk_in r 6 (by omega), ?_⟩)⟩)
    · rw [er] at g
      exact nm_r (nI_1 r) (ih (r + 1) re sk q (by omega) hM (lt_s hk (fun z => absurd g z)))
    · rw [er] at g
      obtain ⟨i, hi, e⟩ := hw.2.2.1 r (by omega) g
      have hR : bh_Re w rf h hr (h r).toNatClampNeg := bh_re_root (by omega) g
      rw [bh_clamp_st hc hi e] at hR
      rw [er, e]
      refine bh_reach hc hM hi hR (fun re' sk' q' hM' h0 hmono => ?_)
      exact nm_r (nI_1 r) (ih (r + 1) re' sk' q' (by omega) hM' (lt_s (fun r' a1 a2 => hmono _ (hk r' a1 a2)) (fun _ => by rw [bh_clamp_st hc hi e]; exact h0)))
theorem bh_2 {t0 : Int32} {sk : Nat → Int32} (hw : bh_WF m st w rf h hr)
    (H : ∀ re sk, (∀ i, i < m → (re (st i) ≠ 0 ↔ bh_Re w rf h hr (st i))) → post (t, nI 0, b, w, rf, h, hr, re, sk, a7, a8)) :
    ∀ d a re, a + d = 72 → (∀ j, j < a → re j = 0) → wX_markReached_2 post t t0 b (d + 1) (nI a) w rf h hr re sk a7 a8 := by
  have hc := hw.1
  intro d
  induction d with
  | zero =>
    intro a re hd hz
    have e : a = 72 := by omega
    subst e
    refine pk_le 72 72 (fun _ => ⟨6 + 1, ?_⟩) (fun z => absurd z (by omega))
    have z : ∀ i, i < m → re (st i) = 0 := fun i hi => hz _ (by have := bh_ch_sz hc hi; omega)
    refine bh_28 hw H 6 0 re sk 0 (by omega) ⟨fun j hj => absurd hj (by omega), fun i hi g => absurd (z i hi) g, fun i hi g => absurd (z i hi) g, ?_⟩ (fun r' hr' => absurd hr' (by omega))
    rw [bh_N_none m z]
  | succ d ih =>
    intro a re hd hz
    refine pk_le 72 a (fun z => absurd z (by omega)) (fun _ => ⟨pk_in a 72 (by omega), fun a5 e5 => nm_r (nI_1 a) ?_⟩)
    rw [nI_clamp (by omega)] at e5
    subst e5
    refine ih (a + 1) _ (by omega) (fun j hj => ?_)
    by_cases e : j = a
    · rw [e, pk_us]
    · rw [pk_un e]; exact hz j (by omega)
theorem bh_mark {t0 : Int32} {re sk : Nat → Int32} (hw : bh_WF m st w rf h hr)
    (H : ∀ re sk, (∀ i, i < m → (re (st i) ≠ 0 ↔ bh_Re w rf h hr (st i))) → post (t, nI 0, b, w, rf, h, hr, re, sk, a7, a8)) :
    wpX_markReached post (t, t0, b, w, rf, h, hr, re, sk, a7, a8) :=
  ⟨72 + 1, bh_2 hw H 72 0 re (by omega) (fun j hj => absurd hj (by omega))⟩
end
end
section
/-! ===== the breaks: the last one at or before a says g ===== -/
def bh_Br (ba bb : Nat → Int32) (c a g : Nat) : Prop :=
  ∃ c', c' ≤ c ∧ (∀ j, j < c' → ∃ v, v ≤ a ∧ ba j = nI v) ∧ (∀ j, c' ≤ j → j < c → ∃ v, a < v ∧ v < 72 ∧ ba j = nI v) ∧ (c' = 0 → g = 0) ∧ (0 < c' → bb (c' - 1) = nI g)
def bh_LB (st : Nat → Nat) (re ba bb : Nat → Int32) (i : Nat) (fl : Int32) (c : Nat) : Prop :=
  c ≤ i ∧ (∀ j, j < c → ∃ v, v < st i ∧ ba j = nI v) ∧
  (∀ i', i' < i → re (st i') ≠ 0 → bh_Br ba bb c (st i') (st i' - bh_to re st i')) ∧
  (fl = 0 → (c = 0 → st i - bh_to re st i = 0) ∧ (0 < c → bb (c - 1) = nI (st i - bh_to re st i)))
section
variable {m : Nat} {st : Nat → Nat} {w re ba bb : Nat → Int32} {i c : Nat} {fl : Int32}
theorem bh_lb_gap (hc : bh_Ch w m st) (hi : i < m) (h : bh_LB st re ba bb i fl c) : bh_LB st re ba bb (i + 1) 1 c ∨ re (st i) ≠ 0 := by
  by_cases e : re (st i) = 0
  · left
    have s := bh_ch_sz hc hi
    obtain ⟨h1, h2, h3, h4⟩ := h
    refine ⟨by omega, fun j hj => ?_, fun i' hi' g => ?_, fun z => absurd z bh_ne01⟩
    · obtain ⟨v, x, y⟩ := h2 j hj
      exact ⟨v, by omega, y⟩
    · by_cases k : i' = i
      · rw [k] at g; exact absurd e g
      · exact h3 i' (by omega) g
  · exact Or.inr e
theorem bh_lb_on (hc : bh_Ch w m st) (hi : i < m) (e : re (st i) ≠ 0) (h : bh_LB st re ba bb i 0 c) : bh_LB st re ba bb (i + 1) 0 c := by
  have s := bh_ch_sz hc hi
  have t := bh_to_le (re := re) hc i (by omega)
  have t1 := bh_to_1 e
  have g : st (i + 1) - bh_to re st (i + 1) = st i - bh_to re st i := by omega
  obtain ⟨h1, h2, h3, h4⟩ := h
  refine ⟨by omega, fun j hj => ?_, lt_s h3 (fun _ => ?_), fun z => by rw [g]; exact h4 z⟩
  · obtain ⟨v, x, y⟩ := h2 j hj
    exact ⟨v, by omega, y⟩
  · refine ⟨c, Nat.le_refl c, fun j hj => ?_, fun j j1 j2 => absurd j2 (by omega), (h4 rfl).1, (h4 rfl).2⟩
    obtain ⟨v, x, y⟩ := h2 j hj
    exact ⟨v, by omega, y⟩
theorem bh_lb_new (hc : bh_Ch w m st) (hi : i < m) (e : re (st i) ≠ 0) (h : bh_LB st re ba bb i fl c) :
    bh_LB st re (upd ba c (nI (st i))) (upd bb c (nI (st i - bh_to re st i))) (i + 1) 0 (c + 1) := by
  have s := bh_ch_sz hc hi
  have t := bh_to_le (re := re) hc i (by omega)
  have t1 := bh_to_1 e
  have g : st (i + 1) - bh_to re st (i + 1) = st i - bh_to re st i := by omega
  obtain ⟨h1, h2, h3, h4⟩ := h
  have L : ∀ j, j < c + 1 → ∃ v, v ≤ st i ∧ upd ba c (nI (st i)) j = nI v := by
    intro j hj
    by_cases k : j = c
    · exact ⟨st i, Nat.le_refl _, by rw [k, pk_us]⟩
    · obtain ⟨v, x, y⟩ := h2 j (by omega)
      exact ⟨v, by omega, by rw [pk_un k]; exact y⟩
  refine ⟨by omega, fun j hj => ?_, lt_s (fun i' hi' r => ?_) (fun _ => ?_), fun _ => ⟨fun z => absurd z (by omega), fun _ => ?_⟩⟩
  · obtain ⟨v, x, y⟩ := L j hj
    exact ⟨v, by omega, y⟩
  · obtain ⟨c', k1, k2, k3, k4, k5⟩ := h3 i' hi' r
    have lt := bh_ch_lt hc hi' (by omega)
    have s' := bh_ch_sz hc (show i' < m by omega)
    refine ⟨c', by omega, fun j hj => ?_, fun j j1 j2 => ?_, k4, fun z => ?_⟩
    · rw [pk_un (by omega)]; exact k2 j hj
    · by_cases k : j = c
      · exact ⟨st i, by omega, by omega, by rw [k, pk_us]⟩
      · rw [pk_un k]; exact k3 j j1 (by omega)
    · rw [pk_un (by omega)]; exact k5 z
  · refine ⟨c + 1, Nat.le_refl _, L, fun j j1 j2 => absurd j2 (by omega), fun z => absurd z (by omega), fun _ => ?_⟩
    rw [Nat.add_sub_cancel, pk_us]
  · rw [Nat.add_sub_cancel, pk_us, g]
end
section
variable {post : St1 → Prop} {m : Nat} {st : Nat → Nat} {w rf h hr re sk : Nat → Int32} {wt : Int32}
theorem bh_14 (hc : bh_Ch w m st)
    (H : ∀ c ba bb, c ≤ 36 → (∀ i, i < m → re (st i) ≠ 0 → bh_Br ba bb c (st i) (st i - bh_to re st i)) → post (nI (st m), wt, nI c, w, rf, h, hr, re, sk, ba, bb)) :
    ∀ d i fl c ba bb, i + d = m → bh_LB st re ba bb i fl c → (fl = 0 ∨ fl = 1) → wX_listBreaks_14 post (nI (st m)) wt (d + 1) (nI (st i - bh_to re st i)) fl (nI (st i)) (nI i) (nI c) w rf h hr re sk ba bb := by
  have hm := bh_ch_m hc
  have h72 := hc.2.1
  intro d
  induction d with
  | zero =>
    intro i fl c ba bb hd hI _
    have e : i = m := by omega
    subst e
    refine pk_le 37 i (fun z => absurd z (by omega)) (fun _ => pk_le (st i) (st i) (fun _ => H c ba bb (by have := hI.1; omega) hI.2.2.1) (fun z => absurd z (by omega)))
  | succ d ih =>
    intro i fl c ba bb hd hI hfl
    have s := bh_ch_sz hc (show i < m by omega)
    have hci := hI.1
    have t := bh_to_le (re := re) hc i (by omega)
    have ei : (nI (st i)).toNatClampNeg = st i := nI_clamp (by omega)
    have ez : w (nI (st i)).toNatClampNeg + 1 = nI (st (i + 1) - st i) := by
      rw [ei, s.2.2.2.2.2.2.1, nI_1]
      congr 1
      omega
    have ex : nI (st i) + nI (st (i + 1) - st i) = nI (st (i + 1)) := by
      rw [nI_add]
      congr 1
      omega
    refine pk_le 37 i (fun z => absurd z (by omega)) (fun _ => pk_le (st m) (st i) (fun z => absurd z (by omega)) (fun _ => ⟨pk_in (st i) 72 (by omega), nm_r ez ⟨pk_in (st i) 72 (by omega), br_c (fun g => ?_) (fun g => br_c (fun gf => ?_) (fun gf => ?_))⟩⟩))
    · rw [ei] at g
      have eg : nI (st i - bh_to re st i) + nI (st (i + 1) - st i) = nI (st (i + 1) - bh_to re st (i + 1)) := by
        rw [nI_add, bh_to_0 g]
        congr 1
        omega
      rcases bh_lb_gap hc (show i < m by omega) hI with k | k
      · exact nm_r eg (nm_r ex (nm_r (nI_1 i) (ih (i + 1) 1 c ba bb (by omega) k (Or.inr rfl))))
      · exact absurd g k
    · rw [ei] at g
      subst gf
      have eg : st (i + 1) - bh_to re st (i + 1) = st i - bh_to re st i := by
        rw [bh_to_1 g]
        omega
      have k := ih (i + 1) 0 c ba bb (by omega) (bh_lb_on hc (show i < m by omega) g hI) (Or.inl rfl)
      rw [eg] at k
      exact nm_r ex (nm_r (nI_1 i) k)
    · rw [ei] at g
      have eg : st (i + 1) - bh_to re st (i + 1) = st i - bh_to re st i := by
        rw [bh_to_1 g]
        omega
      have k := ih (i + 1) 0 (c + 1) _ _ (by omega) (bh_lb_new hc (show i < m by omega) g hI) (Or.inl rfl)
      rw [eg] at k
      refine ⟨pk_in c 40 (by omega), fun b7 e7 => ⟨pk_in c 40 (by omega), fun b8 e8 => nm_r (nI_1 c) (nm_r ex (nm_r (nI_1 i) ?_))⟩⟩
      rw [nI_clamp (by omega)] at e7 e8
      subst e7 e8
      exact k
theorem bh_list {b : Int32} {ba bb : Nat → Int32} (hc : bh_Ch w m st)
    (H : ∀ c ba bb, c ≤ 36 → (∀ i, i < m → re (st i) ≠ 0 → bh_Br ba bb c (st i) (st i - bh_to re st i)) → post (nI (st m), wt, nI c, w, rf, h, hr, re, sk, ba, bb)) :
    wpX_listBreaks post (nI (st m), wt, b, w, rf, h, hr, re, sk, ba, bb) := by
  have k := bh_14 (post := post) (rf := rf) (h := h) (hr := hr) (sk := sk) (wt := wt) hc H m 0 0 0 ba bb (by omega)
    ⟨Nat.le_refl 0, fun j hj => absurd hj (by omega), fun j hj => absurd hj (by omega), fun _ => ⟨fun _ => by rw [hc.1]; exact Nat.zero_sub _, fun z => absurd z (by omega)⟩⟩ (Or.inl rfl)
  rw [hc.1, Nat.zero_sub] at k
  exact ⟨m + 1, k⟩
end
/-! the search -/
section
variable {post : Int32 → Prop} {t wt b : Int32} {w rf h hr re sk ba bb : Nat → Int32}
theorem bh_57 {c' a g : Nat} (hc : c' ≤ 36) (ha : a < 72) (hg : g ≤ a) (k4 : c' = 0 → g = 0) (k5 : 0 < c' → bb (c' - 1) = nI g) (H : post (nI (a - g))) :
    wX_movedAddress_57 post (nI a) (nI c') t wt b w rf h hr re sk ba bb := by
  refine pk_eq c' 0 (fun z => ?_) (fun z => ?_)
  · rw [k4 z, Nat.sub_zero] at H
    exact H
  · have e : nI c' - 1 = nI (c' - 1) := by
      have := nI_pred (c' - 1)
      rw [show c' - 1 + 1 = c' by omega] at this
      exact this
    rw [e]
    refine ⟨pk_in (c' - 1) 40 (by omega), ?_⟩
    rw [nI_clamp (by omega), k5 (by omega), pk_sub hg]
    exact H
theorem bh_10 {c c' a g : Nat} (hc : c ≤ 36) (ha : a < 72) (hg : g ≤ a) (k1 : c' ≤ c) (k2 : ∀ j, j < c' → ∃ v, v ≤ a ∧ ba j = nI v) (k3 : ∀ j, c' ≤ j → j < c → ∃ v, a < v ∧ v < 72 ∧ ba j = nI v) (k4 : c' = 0 → g = 0) (k5 : 0 < c' → bb (c' - 1) = nI g) (H : post (nI (a - g))) :
    ∀ d lo hi, d ≤ 7 → lo ≤ c' → c' ≤ hi → hi ≤ c → hi - lo < 2 ^ d → wX_movedAddress_10 post (nI a) t wt b w rf h hr re sk ba bb (d + 1) (nI lo) (nI hi) (nI (7 - d)) := by
  intro d
  induction d with
  | zero =>
    intro lo hi _ h1 h2 h3 h4
    have e : lo = c' := by
      have : (2 : Nat) ^ 0 = 1 := rfl
      omega
    subst e
    exact pk_le 7 (7 - 0) (fun _ => bh_57 (by omega) ha hg k4 k5 H) (fun z => absurd z (by omega))
  | succ d ih =>
    intro lo hi hd h1 h2 h3 h4
    rw [Nat.pow_succ] at h4
    refine pk_le 7 (7 - (d + 1)) (fun z => absurd z (by omega)) (fun _ => pk_le hi lo (fun z => ?_) (fun z => ⟨by decide, ?_⟩))
    · have e : lo = c' := by omega
      subst e
      exact bh_57 (by omega) ha hg k4 k5 H
    · have em : (nI lo + nI hi) / 2 = nI ((lo + hi) / 2) := by
        rw [nI_add]
        exact pk_div (a := lo + hi) (d := 2) (by omega) (by decide) (by decide)
      have es : nI (7 - (d + 1)) + 1 = nI (7 - d) := by
        rw [nI_1]
        congr 1
        omega
      refine nm_r em ⟨pk_in ((lo + hi) / 2) 40 (by omega), ?_⟩
      rw [nI_clamp (by omega)]
      by_cases g0 : (lo + hi) / 2 < c'
      · obtain ⟨v, v1, v2⟩ := k2 _ g0
        rw [v2]
        exact pk_lt a v (fun z => absurd z (by omega)) (fun _ => nm_r (nI_1 _) (nm_r es (ih ((lo + hi) / 2 + 1) hi (by omega) (by omega) h2 h3 (by omega))))
      · obtain ⟨v, v1, v2, v3⟩ := k3 ((lo + hi) / 2) (by omega) (by omega)
        rw [v3]
        exact pk_lt a v (fun _ => nm_r es (ih lo ((lo + hi) / 2) (by omega) h1 (by omega) (by omega) (by omega))) (fun z => absurd z (by omega))
theorem bh_moved {c a g : Nat} (hc : c ≤ 36) (ha : a < 72) (hg : g ≤ a) (hB : bh_Br ba bb c a g) (H : post (nI (a - g))) :
    wpX_movedAddress post (t, wt, nI c, w, rf, h, hr, re, sk, ba, bb) (nI a) := by
  obtain ⟨c', k1, k2, k3, k4, k5⟩ := hB
  exact ⟨7 + 1, bh_10 hc ha hg k1 k2 k3 k4 k5 H 7 0 c (by omega) (by omega) k1 (by omega) (by omega)⟩
end
end
section
/-! ===== mending, sliding, the whole of squeeze ===== -/
def bh_mv (re : Nat → Int32) (st : Nat → Nat) (m : Nat) (v v' : Int32) : Prop :=
  ∃ i, i < m ∧ re (st i) ≠ 0 ∧ v = nI (st i) ∧ v' = nI (bh_to re st i)
def bh_MF (m : Nat) (st : Nat → Nat) (w rf re u : Nat → Int32) (p : Nat) : Prop :=
  (∀ j, p ≤ j → u j = w j) ∧ (∀ i, i < m → u (st i) = w (st i)) ∧
  (∀ i, i < m → re (st i) ≠ 0 → ∀ j, st i < j → j < st (i + 1) → j < p → (rf j = 0 → u j = w j) ∧ (rf j ≠ 0 → bh_mv re st m (w j) (u j)))
def bh_SD (st : Nat → Nat) (re u rf v vf : Nat → Int32) (i k : Nat) : Prop :=
  (∀ j, st i + k ≤ j → v j = u j ∧ vf j = rf j) ∧
  (∀ i', i' < i → re (st i') ≠ 0 → ∀ l, l < st (i' + 1) - st i' → v (bh_to re st i' + l) = u (st i' + l) ∧ vf (bh_to re st i' + l) = rf (st i' + l)) ∧
  (∀ l, l < k → v (bh_to re st i + l) = u (st i + l) ∧ vf (bh_to re st i + l) = rf (st i + l)) ∧ bh_B vf
section
variable {m : Nat} {st : Nat → Nat} {w rf re u v vf : Nat → Int32}
theorem bh_mf_skip {p : Nat} (h : bh_MF m st w rf re u p) (hp : ∀ i, i < m → re (st i) ≠ 0 → st i < p → p < st (i + 1) → rf p = 0) : bh_MF m st w rf re u (p + 1) := by
  obtain ⟨h1, h2, h3⟩ := h
  refine ⟨fun j hj => h1 j (by omega), h2, fun i hi r j j1 j2 j3 => ?_⟩
  by_cases e : j = p
  · subst e
    have z := hp i hi r j1 j2
    exact ⟨fun _ => h1 j (Nat.le_refl j), fun g => absurd z g⟩
  · exact h3 i hi r j j1 j2 (by omega)
theorem bh_mf_put {p i0 : Nat} {x : Int32} (hc : bh_Ch w m st) (h : bh_MF m st w rf re u p) (hi : i0 < m) (p1 : st i0 < p) (p2 : p < st (i0 + 1)) (p3 : rf p ≠ 0) (hx : bh_mv re st m (w p) x) : bh_MF m st w rf re (upd u p x) (p + 1) := by
  obtain ⟨h1, h2, h3⟩ := h
  refine ⟨fun j hj => ?_, fun i hi' => ?_, fun i hi' r j j1 j2 j3 => ?_⟩
  · rw [pk_un (by omega)]; exact h1 j (by omega)
  · rw [pk_un (fun z => ?_)]
    · exact h2 i hi'
    · have s := bh_ch_sz hc hi'
      have e := bh_ch_dis (p := p) hc hi hi' (by omega) p2 (by omega) (by omega)
      subst e
      omega
  · by_cases e : j = p
    · subst e
      rw [pk_us]
      exact ⟨fun g => absurd g p3, fun _ => hx⟩
    · rw [pk_un e]
      exact h3 i hi' r j j1 j2 (by omega)
theorem bh_sd_copy {i k : Nat} (hc : bh_Ch w m st) (hi : i < m) (hB : bh_B rf) (h : bh_SD st re u rf v vf i k) :
    bh_SD st re u rf (upd v (bh_to re st i + k) (v (st i + k))) (upd vf (bh_to re st i + k) (vp_nar .boolean (vf (st i + k)))) i (k + 1) := by
  have t := bh_to_le (re := re) hc i (by omega)
  obtain ⟨h1, h2, h3, h4⟩ := h
  obtain ⟨e1, e2⟩ := h1 (st i + k) (Nat.le_refl _)
  rw [e1, e2, bh_nar (hB _)]
  refine ⟨fun j hj => ?_, fun i' hi' r l hl => ?_, fun l hl => ?_, bh_B_upd h4 (hB _)⟩
  · rw [pk_un (by omega), pk_un (by omega)]; exact h1 j (by omega)
  · have := bh_to_lt r hi'
    rw [pk_un (by omega), pk_un (by omega)]; exact h2 i' hi' r l hl
  · by_cases e : l = k
    · subst e
      rw [pk_us, pk_us]
      exact ⟨rfl, rfl⟩
    · rw [pk_un (by omega), pk_un (by omega)]; exact h3 l (by omega)
theorem bh_sd_skip {i : Nat} (hc : bh_Ch w m st) (hi : i < m) (g : re (st i) = 0) (h : bh_SD st re u rf v vf i 0) : bh_SD st re u rf v vf (i + 1) 0 := by
  have s := bh_ch_sz hc hi
  obtain ⟨h1, h2, h3, h4⟩ := h
  exact ⟨fun j hj => h1 j (by omega), lt_s h2 (fun r => absurd g r), fun l hl => absurd hl (by omega), h4⟩
theorem bh_sd_next {i k : Nat} (hc : bh_Ch w m st) (hi : i < m) (hk : k = st (i + 1) - st i) (h : bh_SD st re u rf v vf i k) : bh_SD st re u rf v vf (i + 1) 0 := by
  have s := bh_ch_sz hc hi
  obtain ⟨h1, h2, h3, h4⟩ := h
  exact ⟨fun j hj => h1 j (by omega), lt_s h2 (fun _ l hl => h3 l (by omega)), fun l hl => absurd hl (by omega), h4⟩
end
/-! what comes out -/
def bh_st (w : Nat → Int32) : Nat → Nat
  | 0 => 0
  | i + 1 => bh_st w i + (w (bh_st w i)).toNatClampNeg + 1
theorem bh_sq_pure {m : Nat} {st : Nat → Nat} {w rf h hr re u v vf h' : Nat → Int32} (hw : bh_WF m st w rf h hr) (hre : ∀ i, i < m → (re (st i) ≠ 0 ↔ bh_Re w rf h hr (st i)))
    (hh : ∀ r, r < 6 → (hr r = 0 → h' r = h r) ∧ (hr r ≠ 0 → bh_mv re st m (h r) (h' r))) (hu : bh_MF m st w rf re u (st m)) (hv : bh_SD st re u rf v vf m 0) :
    ∃ m2 st2 Q, bh_WF m2 st2 v vf h' hr ∧ bh_Sim Q m2 st2 v vf h' hr m st w rf h hr ∧ st2 m2 = bh_to re st m := by
  have hc := hw.1
  obtain ⟨_, hb, _, hvB⟩ := hv
  obtain ⟨_, hu2, hu3⟩ := hu
  have HD : ∀ i, i < m → re (st i) ≠ 0 → v (bh_to re st i) = w (st i) := by
    intro i hi r
    have s := bh_ch_sz hc hi
    have := (hb i hi r 0 (by omega)).1
    rw [Nat.add_zero, Nat.add_zero] at this
    rw [this, hu2 i hi]
  have E : ∀ i, i ≤ m → bh_st v (bh_N re st i) = bh_to re st i := by
    intro i
    induction i with
    | zero => intro _; rfl
    | succ i ih =>
      intro hi
      have a := ih (by omega)
      have s := bh_ch_sz hc (show i < m by omega)
      by_cases e : re (st i) = 0
      · rw [bh_N_0 e, bh_to_0 e, a]
      · rw [bh_N_1 e, bh_to_1 e]
        show bh_st v (bh_N re st i) + (v (bh_st v (bh_N re st i))).toNatClampNeg + 1 = _
        rw [a, HD i (by omega) e, s.2.2.2.2.2.2.2]
        omega
  have FV : ∀ i, i < m → re (st i) ≠ 0 → ∀ j, 1 ≤ j → st i + j < st (i + 1) →
      vf (bh_to re st i + j) = rf (st i + j) ∧ (rf (st i + j) = 0 → v (bh_to re st i + j) = w (st i + j)) ∧ (rf (st i + j) ≠ 0 → bh_mv re st m (w (st i + j)) (v (bh_to re st i + j))) := by
    intro i hi r j j1 j2
    have s := bh_ch_sz hc hi
    obtain ⟨e1, e2⟩ := hb i hi r j (by omega)
    obtain ⟨k1, k2⟩ := hu3 i hi r (st i + j) (by omega) (by omega) (by omega)
    rw [e1]
    exact ⟨e2, k1, k2⟩
  have MV : ∀ x y, bh_mv re st m x y → ∃ l, l < bh_N re st m ∧ y = nI (bh_st v l) := by
    rintro x y ⟨i, hi, r, _, ey⟩
    exact ⟨bh_N re st i, bh_N_lt r hi, by rw [E i (by omega)]; exact ey⟩
  have QV : ∀ x y, bh_mv re st m x y → ∃ a b, y = nI a ∧ x = nI b ∧ ∃ i, i < m ∧ re (st i) ≠ 0 ∧ a = bh_to re st i ∧ b = st i := by
    rintro x y ⟨i, hi, r, ex, ey⟩
    exact ⟨_, _, ey, ex, i, hi, r, rfl, rfl⟩
  have N1 : ∀ i, i < m → re (st i) ≠ 0 → bh_st v (bh_N re st i + 1) = bh_to re st i + (st (i + 1) - st i) := by
    intro i hi r
    rw [← bh_N_1 r, E (i + 1) (by omega), bh_to_1 r]
  refine ⟨bh_N re st m, bh_st v, fun a' a => ∃ i, i < m ∧ re (st i) ≠ 0 ∧ a' = bh_to re st i ∧ a = st i, ⟨⟨rfl, ?_, ?_⟩, ?_, ?_, hvB, hw.2.2.2.2⟩, ⟨?_, ?_, ?_, ?_⟩, E m (Nat.le_refl m)⟩
  · rw [E m (Nat.le_refl m)]
    have a := bh_to_le (re := re) hc m (Nat.le_refl m)
    have b := hc.2.1
    omega
  · intro l hl
    obtain ⟨i, hi, r, e⟩ := bh_N_hit m l hl
    subst e
    have s := bh_ch_sz hc hi
    refine ⟨st (i + 1) - st i - 1, by omega, ?_, ?_⟩
    · rw [E i (by omega), HD i hi r]; exact s.2.2.2.2.2.2.1
    · rw [N1 i hi r, E i (by omega)]; omega
  · intro l hl j j1 j2 j3
    obtain ⟨i, hi, r, e⟩ := bh_N_hit m l hl
    subst e
    have s := bh_ch_sz hc hi
    rw [N1 i hi r] at j2
    rw [E i (by omega)] at j1
    obtain ⟨k1, k2, k3⟩ := FV i hi r (j - bh_to re st i) (by omega) (by omega)
    rw [show bh_to re st i + (j - bh_to re st i) = j by omega] at k1 k2 k3
    exact MV _ _ (k3 (by rw [← k1]; exact j3))
  · intro r hr6 r0
    exact MV _ _ ((hh r hr6).2 r0)
  · rintro a b ⟨i, hi, r, rfl, rfl⟩
    exact ⟨⟨bh_N re st i, bh_N_lt r hi, (E i (by omega)).symm⟩, ⟨i, hi, rfl⟩⟩
  · rintro a b c d ⟨i, hi, r, rfl, rfl⟩ ⟨i', hi', r', rfl, rfl⟩
    exact ⟨fun z => by rw [bh_to_inj hc hi hi' r r' z], fun z => by rw [bh_ch_inj hc hi hi' z]⟩
  · intro r hr6
    exact ⟨rfl, (hh r hr6).1, fun z => QV _ _ ((hh r hr6).2 z)⟩
  · rintro a b ⟨i, hi, r, rfl, rfl⟩
    have s := bh_ch_sz hc hi
    refine ⟨HD i hi r, fun j j1 j2 => ?_⟩
    rw [HD i hi r, s.2.2.2.2.2.2.2] at j2
    obtain ⟨k1, k2, k3⟩ := FV i hi r j j1 (by omega)
    exact ⟨k1, fun z => k2 (by rw [← k1]; exact z), fun z => QV _ _ (k3 (by rw [← k1]; exact z))⟩
/-! the walks -/
section
variable {m : Nat} {st : Nat → Nat} {w rf h hr re sk ba bb hd : Nat → Int32} {t wt : Int32} {c : Nat}
theorem bh_movst {P : Int32 → Prop} {u rg : Nat → Int32} {i : Nat} (hc : bh_Ch w m st) (hc36 : c ≤ 36) (hBr : ∀ i, i < m → re (st i) ≠ 0 → bh_Br ba bb c (st i) (st i - bh_to re st i)) (hi : i < m) (r : re (st i) ≠ 0) (H : P (nI (bh_to re st i))) :
    wpX_movedAddress P (t, wt, nI c, u, rf, hd, hr, rg, sk, ba, bb) (nI (st i)) := by
  have s := bh_ch_sz hc hi
  have a := bh_to_le (re := re) hc i (by omega)
  refine bh_moved hc36 (by omega) (by omega) (hBr i hi r) ?_
  rw [show st i - (st i - bh_to re st i) = bh_to re st i by omega]
  exact H
theorem bh_32 {post : St1 → Prop} {J : Int32 → Int32 → (Nat → Int32) → (Nat → Int32) → (Nat → Int32) → (Nat → Int32) → (Nat → Int32) → (Nat → Int32) → (Nat → Int32) → (Nat → Int32) → Prop} {s i0 : Nat}
    (hw : bh_WF m st w rf h hr) (hre : ∀ i, i < m → (re (st i) ≠ 0 ↔ bh_Re w rf h hr (st i))) (hc36 : c ≤ 36) (hBr : ∀ i, i < m → re (st i) ≠ 0 → bh_Br ba bb c (st i) (st i - bh_to re st i)) (hi : i0 < m)
    (H : ∀ u, bh_MF m st w rf re u (st (i0 + 1)) → J (nI (st (i0 + 1))) (nI (s + 1)) u rf hd hr re sk ba bb) :
    ∀ d p u, p + d = st (i0 + 1) → st i0 < p → bh_MF m st w rf re u p → wX_mendFields_32 post J (nI (st i0)) (nI s) (nI (st (i0 + 1) - st i0)) t wt (nI c) (d + 1) (nI p) u rf hd hr re sk ba bb := by
  have hc := hw.1
  have s0 := bh_ch_sz hc hi
  have ex : nI (st i0) + nI (st (i0 + 1) - st i0) = nI (st (i0 + 1)) := by
    rw [nI_add]
    congr 1
    omega
  have e0 : (nI (st i0)).toNatClampNeg = st i0 := nI_clamp (by omega)
  intro d
  induction d with
  | zero =>
    intro p u hp h1 hM
    have hp' : p = st (i0 + 1) := by omega
    subst hp'
    exact pk_le (st (i0 + 1)) (st (i0 + 1)) (fun _ => nm_r ex (nm_r (nI_1 s) (H u hM))) (fun z => absurd z (by omega)) ex
  | succ d ih =>
    intro p u hp h1 hM
    have ep : (nI p).toNatClampNeg = p := nI_clamp (by omega)
    refine pk_le (st (i0 + 1)) p (fun z => absurd z (by omega)) (fun _ => ⟨pk_in (st i0) 72 (by omega), br_c (fun g => ?_) (fun g => ⟨pk_in p 72 (by omega), br_c (fun gf => ?_) (fun gf => ⟨pk_in p 72 (by omega), ?_⟩)⟩)⟩) ex
    · rw [e0] at g
      refine nm_r (nI_1 p) (ih (p + 1) u (by omega) (by omega) (bh_mf_skip hM (fun i hi' r p1 p2 => ?_)))
      have e := bh_ch_dis (p := p) hc hi hi' (by omega) (by omega) (by omega) p2
      subst e
      exact absurd g r
    · rw [ep] at gf
      exact nm_r (nI_1 p) (ih (p + 1) u (by omega) (by omega) (bh_mf_skip hM (fun _ _ _ _ _ => gf)))
    · rw [e0] at g
      rw [ep] at gf
      obtain ⟨i', hi', e'⟩ := hw.2.1 i0 hi p h1 (by omega) gf
      have R' := bh_re_fld hc hi ((hre i0 hi).mp g) h1 (by omega) gf
      rw [bh_clamp_st hc hi' e'] at R'
      have r' := (hre i' hi').mpr R'
      have eu : u (nI p).toNatClampNeg = nI (st i') := by rw [ep, hM.1 p (Nat.le_refl p), e']
      rw [eu]
      refine bh_movst hc hc36 hBr hi' r' ⟨pk_in p 72 (by omega), fun u' e1 => nm_r (nI_1 p) ?_⟩
      rw [ep] at e1
      subst e1
      exact ih (p + 1) _ (by omega) (by omega) (bh_mf_put hc hM hi h1 (by omega) gf ⟨i', hi', r', e', rfl⟩)
theorem bh_m4 {post : St1 → Prop} (hw : bh_WF m st w rf h hr) (hre : ∀ i, i < m → (re (st i) ≠ 0 ↔ bh_Re w rf h hr (st i))) (hc36 : c ≤ 36) (hBr : ∀ i, i < m → re (st i) ≠ 0 → bh_Br ba bb c (st i) (st i - bh_to re st i))
    (H : ∀ u, bh_MF m st w rf re u (st m) → post (nI (st m), wt, nI c, u, rf, hd, hr, re, sk, ba, bb)) :
    ∀ d i u, i + d = m → bh_MF m st w rf re u (st i) → wX_mendFields_4 post (nI (st m)) wt (nI c) (d + 1) (nI (st i)) (nI i) u rf hd hr re sk ba bb := by
  have hc := hw.1
  have hm := bh_ch_m hc
  have h72 := hc.2.1
  intro d
  induction d with
  | zero =>
    intro i u hd' hM
    have e : i = m := by omega
    subst e
    exact pk_le 37 i (fun z => absurd z (by omega)) (fun _ => pk_le (st i) (st i) (fun _ => H u hM) (fun z => absurd z (by omega)))
  | succ d ih =>
    intro i u hd' hM
    have s := bh_ch_sz hc (show i < m by omega)
    have ez : u (nI (st i)).toNatClampNeg + 1 = nI (st (i + 1) - st i) := by
      rw [nI_clamp (by omega), hM.2.1 i (by omega), s.2.2.2.2.2.2.1, nI_1]
      congr 1
      omega
    refine pk_le 37 i (fun z => absurd z (by omega)) (fun _ => pk_le (st m) (st i) (fun z => absurd z (by omega)) (fun _ => ⟨pk_in (st i) 72 (by omega), nm_r ez (nm_r (nI_1 (st i)) ⟨st (i + 1) - (st i + 1) + 1, ?_⟩)⟩))
    refine bh_32 (s := i) hw hre hc36 hBr (show i < m by omega) (fun u' hM' => ih (i + 1) u' (by omega) hM') _ (st i + 1) u (by omega) (by omega) (bh_mf_skip hM (fun i' hi' r p1 p2 => ?_))
    have e := bh_ch_dis (p := st i) hc (show i < m by omega) hi' (by omega) (by omega) (by omega) p2
    subst e
    omega
theorem bh_mend {post : St1 → Prop} (hw : bh_WF m st w rf h hr) (hre : ∀ i, i < m → (re (st i) ≠ 0 ↔ bh_Re w rf h hr (st i))) (hc36 : c ≤ 36) (hBr : ∀ i, i < m → re (st i) ≠ 0 → bh_Br ba bb c (st i) (st i - bh_to re st i))
    (H : ∀ u, bh_MF m st w rf re u (st m) → post (nI (st m), wt, nI c, u, rf, hd, hr, re, sk, ba, bb)) :
    wpX_mendFields post (nI (st m), wt, nI c, w, rf, hd, hr, re, sk, ba, bb) := by
  have k := bh_m4 (post := post) (hd := hd) (sk := sk) (wt := wt) hw hre hc36 hBr H m 0 w (by omega) ⟨fun _ _ => rfl, fun _ _ => rfl, fun i hi r j j1 j2 j3 => absurd j3 (by have := hw.1.1; omega)⟩
  rw [hw.1.1] at k
  exact ⟨m + 1, k⟩
theorem bh_46 {post : St1 → Prop} {J : Int32 → Int32 → Int32 → (Nat → Int32) → (Nat → Int32) → (Nat → Int32) → (Nat → Int32) → (Nat → Int32) → (Nat → Int32) → (Nat → Int32) → (Nat → Int32) → Prop} {i : Nat} {u : Nat → Int32} {b : Int32}
    (hc : bh_Ch w m st) (hB : bh_B rf) (hi : i < m) (r : re (st i) ≠ 0)
    (H : ∀ v vf, bh_SD st re u rf v vf (i + 1) 0 → J (nI (bh_to re st (i + 1))) (nI (st (i + 1))) (nI (i + 1)) v vf hd hr re sk ba bb) :
    ∀ d k v vf, k + d = st (i + 1) - st i → bh_SD st re u rf v vf i k → wX_slideDown_46 post J (nI (bh_to re st i)) (nI (st i)) (nI (st m)) (nI i) (nI (st (i + 1) - st i)) t wt b (d + 1) (nI k) v vf hd hr re sk ba bb := by
  have s := bh_ch_sz hc hi
  have a := bh_to_le (re := re) hc i (by omega)
  have e1 : nI (bh_to re st i) + nI (st (i + 1) - st i) = nI (bh_to re st (i + 1)) := by rw [nI_add, bh_to_1 r]
  have e2 : nI (st i) + nI (st (i + 1) - st i) = nI (st (i + 1)) := by
    rw [nI_add]
    congr 1
    omega
  intro d
  induction d with
  | zero =>
    intro k v vf hk hS
    have e : k = st (i + 1) - st i := by omega
    exact pk_le (st (i + 1) - st i) k (fun _ => nm_r e1 (nm_r e2 (nm_r (nI_1 i) (H v vf (bh_sd_next hc hi e hS))))) (fun z => absurd z (by omega))
  | succ d ih =>
    intro k v vf hk hS
    have c1 : (nI (st i) + nI k).toNatClampNeg = st i + k := pk_cl (st i + k) (nI_add _ _)
    have c2 : (nI (bh_to re st i) + nI k).toNatClampNeg = bh_to re st i + k := pk_cl (bh_to re st i + k) (nI_add _ _)
    refine pk_le (st (i + 1) - st i) k (fun z => absurd z (by omega)) (fun _ => ⟨pk_in (st i + k) 72 (by omega) (nI_add _ _), pk_in (bh_to re st i + k) 72 (by omega) (nI_add _ _), fun v' ev => ⟨pk_in (st i + k) 72 (by omega) (nI_add _ _), pk_in (bh_to re st i + k) 72 (by omega) (nI_add _ _), fun vf' ef => nm_r (nI_1 k) ?_⟩⟩)
    rw [c1, c2] at ev ef
    subst ev ef
    exact ih (k + 1) _ _ (by omega) (bh_sd_copy hc hi hB hS)
theorem bh_12 {post : St1 → Prop} {u : Nat → Int32} {b : Int32} (hc : bh_Ch w m st) (hB : bh_B rf) (hu : ∀ i, i < m → u (st i) = w (st i))
    (H : ∀ v vf, bh_SD st re u rf v vf m 0 → post (nI (bh_to re st m), wt, b, v, vf, hd, hr, re, sk, ba, bb)) :
    ∀ d i v vf, i + d = m → bh_SD st re u rf v vf i 0 → wX_slideDown_12 post (nI (st m)) t wt b (d + 1) (nI (bh_to re st i)) (nI (st i)) (nI i) v vf hd hr re sk ba bb := by
  have hm := bh_ch_m hc
  have h72 := hc.2.1
  intro d
  induction d with
  | zero =>
    intro i v vf hd' hS
    have e : i = m := by omega
    subst e
    exact pk_le 37 i (fun z => absurd z (by omega)) (fun _ => pk_le (st i) (st i) (fun _ => H v vf hS) (fun z => absurd z (by omega)))
  | succ d ih =>
    intro i v vf hd' hS
    have hi : i < m := by omega
    have s := bh_ch_sz hc hi
    have e0 : (nI (st i)).toNatClampNeg = st i := nI_clamp (by omega)
    have ez : v (nI (st i)).toNatClampNeg + 1 = nI (st (i + 1) - st i) := by
      rw [e0, (hS.1 (st i) (by omega)).1, hu i hi, s.2.2.2.2.2.2.1, nI_1]
      congr 1
      omega
    have e2 : nI (st i) + nI (st (i + 1) - st i) = nI (st (i + 1)) := by
      rw [nI_add]
      congr 1
      omega
    refine pk_le 37 i (fun z => absurd z (by omega)) (fun _ => pk_le (st m) (st i) (fun z => absurd z (by omega)) (fun _ => ⟨pk_in (st i) 72 (by omega), nm_r ez ⟨pk_in (st i) 72 (by omega), br_c (fun g => ?_) (fun g => ⟨st (i + 1) - st i + 1, ?_⟩)⟩⟩))
    · rw [e0] at g
      have k := ih (i + 1) v vf (by omega) (bh_sd_skip hc hi g hS)
      rw [bh_to_0 g] at k
      exact nm_r e2 (nm_r (nI_1 i) k)
    · rw [e0] at g
      exact bh_46 hc hB hi g (fun v' vf' hS' => ih (i + 1) v' vf' (by omega) hS') (st (i + 1) - st i) 0 v vf (by omega) hS
theorem bh_slide {post : St1 → Prop} {u : Nat → Int32} {b : Int32} (hc : bh_Ch w m st) (hB : bh_B rf) (hu : ∀ i, i < m → u (st i) = w (st i))
    (H : ∀ v vf, bh_SD st re u rf v vf m 0 → post (nI (bh_to re st m), wt, b, v, vf, hd, hr, re, sk, ba, bb)) :
    wpX_slideDown post (nI (st m), wt, b, u, rf, hd, hr, re, sk, ba, bb) := by
  have k := bh_12 (post := post) (hd := hd) (hr := hr) (sk := sk) (ba := ba) (bb := bb) (t := nI (st m)) (wt := wt) (b := b) hc hB hu H m 0 u rf (by omega) ⟨fun _ _ => ⟨rfl, rfl⟩, fun i' hi' => absurd hi' (by omega), fun l hl => absurd hl (by omega), hB⟩
  rw [hc.1] at k
  exact ⟨m + 1, k⟩
theorem bh_q10 {post : St1 → Prop} (hw : bh_WF m st w rf h hr) (hre : ∀ i, i < m → (re (st i) ≠ 0 ↔ bh_Re w rf h hr (st i))) (hc36 : c ≤ 36) (hBr : ∀ i, i < m → re (st i) ≠ 0 → bh_Br ba bb c (st i) (st i - bh_to re st i))
    (H : ∀ h' u v vf, (∀ r, r < 6 → (hr r = 0 → h' r = h r) ∧ (hr r ≠ 0 → bh_mv re st m (h r) (h' r))) → bh_MF m st w rf re u (st m) → bh_SD st re u rf v vf m 0 → post (nI (bh_to re st m), wt, nI c, v, vf, h', hr, re, sk, ba, bb)) :
    ∀ d r h', r + d = 6 → (∀ r', r' < r → (hr r' = 0 → h' r' = h r') ∧ (hr r' ≠ 0 → bh_mv re st m (h r') (h' r'))) → (∀ r', r ≤ r' → h' r' = h r') →
      wX_squeeze_10 post (nI (st m)) wt (nI c) (d + 1) (nI r) w rf h' hr re sk ba bb := by
  have hc := hw.1
  intro d
  induction d with
  | zero =>
    intro r h' hd' hI hJ
    have e : r = 6 := by omega
    subst e
    refine pk_le 6 6 (fun _ => ?_) (fun z => absurd z (by omega))
    refine bh_mend hw hre hc36 hBr (fun u hu => ?_)
    refine bh_slide hc hw.2.2.2.1 hu.2.1 (fun v vf hS => ?_)
    exact H h' u v vf hI hu hS
  | succ d ih =>
    intro r h' hd' hI hJ
    have er : (nI r).toNatClampNeg = r := nI_clamp (by omega)
    refine pk_le 6 r (fun z => absurd z (by omega)) (fun _ => ⟨pk_in r 6 (by omega), br_c (fun g => ?_) (fun g => ⟨pk_in r 6 (by omega), ?_⟩)⟩)
    · rw [er] at g
      exact nm_r (nI_1 r) (ih (r + 1) h' (by omega) (lt_s hI ⟨fun _ => hJ r (Nat.le_refl r), fun z => absurd g z⟩) (fun r' hr' => hJ r' (by omega)))
    · rw [er] at g
      obtain ⟨i, hi, e⟩ := hw.2.2.1 r (by omega) g
      have R' : bh_Re w rf h hr (h r).toNatClampNeg := bh_re_root (by omega) g
      rw [bh_clamp_st hc hi e] at R'
      have r' := (hre i hi).mpr R'
      have eu : h' (nI r).toNatClampNeg = nI (st i) := by rw [er, hJ r (Nat.le_refl r), e]
      rw [eu]
      refine bh_movst hc hc36 hBr hi r' ⟨pk_in r 6 (by omega), fun h2 e1 => nm_r (nI_1 r) ?_⟩
      rw [er] at e1
      subst e1
      refine ih (r + 1) _ (by omega) (lt_s (fun r2 hr2 => ?_) ?_) (fun r2 hr2 => ?_)
      · rw [pk_un (by omega)]; exact hI r2 hr2
      · rw [pk_us]; exact ⟨fun z => absurd z g, fun _ => ⟨i, hi, r', e, rfl⟩⟩
      · rw [pk_un (by omega)]; exact hJ r2 (by omega)
end
theorem bh_squeeze {post : St1 → Prop} {m : Nat} {st : Nat → Nat} {w rf h hr re sk ba bb : Nat → Int32} {wt b : Int32} (hw : bh_WF m st w rf h hr)
    (H : ∀ m2 st2 Q w2 rf2 h2 wt2 b2 re2 sk2 ba2 bb2, bh_WF m2 st2 w2 rf2 h2 hr → bh_Sim Q m2 st2 w2 rf2 h2 hr m st w rf h hr → st2 m2 = bh_W m st w rf h hr → post (nI (st2 m2), wt2, b2, w2, rf2, h2, hr, re2, sk2, ba2, bb2)) :
    wpX_squeeze post (nI (st m), wt, b, w, rf, h, hr, re, sk, ba, bb) := by
  unfold wpX_squeeze
  refine bh_mark hw (fun re1 sk1 hre => ?_)
  refine bh_list hw.1 (fun c1 ba1 bb1 hc36 hBr => ?_)
  refine ⟨6 + 1, bh_q10 hw hre hc36 hBr (fun h' u v vf hh hu hS => ?_) 6 0 h (by omega) (fun r' hr' => absurd hr' (by omega)) (fun _ _ => rfl)⟩
  obtain ⟨m2, st2, Q, k1, k2, k3⟩ := bh_sq_pure hw hre hh hu hS
  have := H m2 st2 Q v vf h' (nI 0) (nI c1) re1 sk1 ba1 bb1 k1 k2 (k3.trans (bh_W_eq hre))
  rw [k3] at this
  exact this
end
section
/-! ===== what the calls do to the picture ===== -/
def bh_hf (w h hr : Nat → Int32) (b f : Nat) : Prop := hr b ≠ 0 ∧ f < (w (h b).toNatClampNeg).toNatClampNeg
def bh_Ap (T p k : Nat) (w rf w2 rf2 : Nat → Int32) : Prop :=
  (∀ j, j < T → w2 j = w j ∧ rf2 j = rf j) ∧ w2 T = nI k ∧ (∀ j, T < j → j < p → w2 j = 0 ∧ rf2 j = 0) ∧ bh_B rf2
def bh_sn (m : Nat) (st : Nat → Nat) (k : Nat) : Nat → Nat := fun i => if i ≤ m then st i else st m + k + 1
def bh_I (m : Nat) (st : Nat → Nat) (w rf h hr : Nat → Int32) (m' : Nat) (st' : Nat → Nat) (w' rf' h' hr' : Nat → Int32) : Prop :=
  bh_WF m st w rf h hr ∧ bh_WF m' st' w' rf' h' hr' ∧ ∃ R, bh_Sim R m st w rf h hr m' st' w' rf' h' hr'
section
variable {m : Nat} {st : Nat → Nat} {w rf h hr w2 rf2 : Nat → Int32}
theorem bh_wf_reg {r : Nat} {f v : Int32} (hw : bh_WF m st w rf h hr) (hf : f = 0 ∨ f = 1) (hv : f ≠ 0 → ∃ i, i < m ∧ v = nI (st i)) : bh_WF m st w rf (upd h r v) (upd hr r f) := by
  obtain ⟨h1, h2, h3, h4, h5⟩ := hw
  refine ⟨h1, h2, fun r' hr' g => ?_, h4, bh_B_upd h5 hf⟩
  by_cases e : r' = r
  · subst e
    rw [pk_us] at g
    rw [pk_us]
    exact hv g
  · rw [pk_un e] at g
    rw [pk_un e]
    exact h3 r' hr' g
theorem bh_wf_put {i p : Nat} {f v : Int32} (hw : bh_WF m st w rf h hr) (hi : i < m) (p1 : st i < p) (p2 : p < st (i + 1)) (hf : f = 0 ∨ f = 1) (hv : f ≠ 0 → ∃ i, i < m ∧ v = nI (st i)) : bh_WF m st (upd w p v) (upd rf p f) h hr := by
  obtain ⟨h1, h2, h3, h4, h5⟩ := hw
  refine ⟨bh_ch_keep h1 (fun i' hi' => pk_un (fun z => ?_)), fun i' hi' j j1 j2 g => ?_, h3, bh_B_upd h4 hf, h5⟩
  · have s := bh_ch_sz h1 hi'
    have e := bh_ch_dis (p := p) h1 hi hi' (by omega) p2 (by omega) (by omega)
    subst e
    omega
  · by_cases e : j = p
    · subst e
      rw [pk_us] at g
      rw [pk_us]
      exact hv g
    · rw [pk_un e] at g
      rw [pk_un e]
      exact h2 i' hi' j j1 j2 g
theorem bh_sn_le {k i : Nat} (h : i ≤ m) : bh_sn m st k i = st i := if_pos h
theorem bh_sn_gt {k : Nat} : bh_sn m st k (m + 1) = st m + k + 1 := if_neg (by omega)
theorem bh_wf_new {r k : Nat} (hw : bh_WF m st w rf h hr) (k1 : 1 ≤ k) (k2 : st m + k + 1 ≤ 72) (hA : bh_Ap (st m) (st m + k + 1) k w rf w2 rf2) :
    bh_WF (m + 1) (bh_sn m st k) w2 rf2 (upd h r (nI (st m))) (upd hr r 1) := by
  obtain ⟨h1, h2, h3, h4, h5⟩ := hw
  obtain ⟨a1, a2, a3, a4⟩ := hA
  refine ⟨⟨?_, ?_, fun i hi => ?_⟩, fun i hi j j1 j2 g => ?_, fun r' hr' g => ?_, a4, bh_B_upd h5 (Or.inr rfl)⟩
  · rw [bh_sn_le (by omega)]; exact h1.1
  · rw [bh_sn_gt]; exact k2
  · by_cases e : i = m
    · subst e
      rw [bh_sn_le (Nat.le_refl i), bh_sn_gt]
      exact ⟨k, k1, a2, rfl⟩
    · have s := bh_ch_sz h1 (show i < m by omega)
      rw [bh_sn_le (by omega), bh_sn_le (by omega), (a1 (st i) (by omega)).1]
      exact h1.2.2 i (by omega)
  · by_cases e : i = m
    · subst e
      rw [bh_sn_le (Nat.le_refl i)] at j1
      rw [bh_sn_gt] at j2
      exact absurd (a3 j j1 j2).2 g
    · have s := bh_ch_sz h1 (show i < m by omega)
      rw [bh_sn_le (by omega)] at j1 j2
      obtain ⟨e1, e2⟩ := a1 j (by omega)
      rw [e2] at g
      obtain ⟨i', hi', e'⟩ := h2 i (by omega) j j1 j2 g
      exact ⟨i', by omega, by rw [e1, e', bh_sn_le (by omega)]⟩
  · by_cases e : r' = r
    · subst e
      exact ⟨m, by omega, by rw [pk_us, bh_sn_le (Nat.le_refl m)]⟩
    · rw [pk_un e] at g
      rw [pk_un e]
      obtain ⟨i, hi, e'⟩ := h3 r' hr' g
      exact ⟨i, by omega, by rw [e', bh_sn_le (by omega)]⟩
theorem bh_sim_refl (hw : bh_WF m st w rf h hr) : bh_Sim (fun a b => a = b ∧ ∃ i, i < m ∧ a = st i) m st w rf h hr m st w rf h hr := by
  obtain ⟨h1, h2, h3, h4, h5⟩ := hw
  refine ⟨?_, ?_, fun r hr6 => ⟨rfl, fun _ => rfl, fun g => ?_⟩, ?_⟩
  · rintro a b ⟨rfl, k⟩
    exact ⟨k, k⟩
  · rintro a b c d ⟨rfl, _⟩ ⟨rfl, _⟩
    exact Iff.rfl
  · obtain ⟨i, hi, e⟩ := h3 r hr6 g
    exact ⟨st i, st i, e, e, rfl, i, hi, rfl⟩
  · rintro a b ⟨rfl, i, hi, rfl⟩
    have s := bh_ch_sz h1 hi
    refine ⟨rfl, fun j j1 j2 => ⟨rfl, fun _ => rfl, fun g => ?_⟩⟩
    rw [s.2.2.2.2.2.2.2] at j2
    obtain ⟨i', hi', e⟩ := h2 i hi (st i + j) (by omega) (by omega) g
    exact ⟨st i', st i', e, e, rfl, i', hi', rfl⟩
end
section
variable {R : Nat → Nat → Prop} {m m' : Nat} {st st' : Nat → Nat} {w rf h hr w' rf' h' hr' w2 rf2 w2' rf2' : Nat → Int32}
theorem bh_sim_reg {r : Nat} {f v f' v' : Int32} (hs : bh_Sim R m st w rf h hr m' st' w' rf' h' hr') (hv : bh_V R f v f' v') : bh_Sim R m st w rf (upd h r v) (upd hr r f) m' st' w' rf' (upd h' r v') (upd hr' r f') := by
  obtain ⟨h1, h2, h3, h4⟩ := hs
  refine ⟨h1, h2, fun r' hr' => ?_, h4⟩
  by_cases e : r' = r
  · subst e
    rw [pk_us, pk_us, pk_us, pk_us]
    exact hv
  · rw [pk_un e, pk_un e, pk_un e, pk_un e]
    exact h3 r' hr'
/-- a place in a record: no other record's -/
theorem bh_place (hc : bh_Ch w m st) {i i' j l : Nat} (hi : i < m) (hi' : i' < m) (j1 : 1 ≤ j) (j2 : j ≤ (w (st i)).toNatClampNeg) (l2 : l ≤ (w (st i')).toNatClampNeg) (e : st i' + l = st i + j) : i' = i ∧ l = j := by
  have s := bh_ch_sz hc hi
  have s' := bh_ch_sz hc hi'
  rw [s.2.2.2.2.2.2.2] at j2
  rw [s'.2.2.2.2.2.2.2] at l2
  have e' := bh_ch_dis (p := st i + j) hc hi' hi (by omega) (by omega) (by omega) (by omega)
  subst e'
  exact ⟨rfl, by omega⟩
theorem bh_sim_put {a b j : Nat} {f v f' v' : Int32} (hc : bh_Ch w m st) (hc' : bh_Ch w' m' st') (hs : bh_Sim R m st w rf h hr m' st' w' rf' h' hr') (g : R a b) (j1 : 1 ≤ j) (j2 : j ≤ (w a).toNatClampNeg) (hv : bh_V R f v f' v') :
    bh_Sim R m st (upd w (a + j) v) (upd rf (a + j) f) h hr m' st' (upd w' (b + j) v') (upd rf' (b + j) f') h' hr' := by
  obtain ⟨h1, h2, h3, h4⟩ := hs
  obtain ⟨⟨i, hi, ea⟩, ⟨i', hi', eb⟩⟩ := h1 a b g
  have e0 := (h4 a b g).1
  have D : ∀ c d l, R c d → l ≤ (w c).toNatClampNeg → ((c + l = a + j → c = a ∧ l = j) ∧ (d + l = b + j → d = b ∧ l = j)) := by
    intro c d l gc hl
    obtain ⟨⟨n, hn, ec⟩, ⟨n', hn', ed⟩⟩ := h1 c d gc
    have e1 := (h4 c d gc).1
    subst ea eb ec ed
    constructor
    · intro z
      obtain ⟨x, y⟩ := bh_place hc hi hn j1 j2 hl z
      exact ⟨by rw [x], y⟩
    · intro z
      obtain ⟨x, y⟩ := bh_place hc' hi' hn' j1 (by rw [← e0]; exact j2) (by rw [← e1]; exact hl) z
      exact ⟨by rw [x], y⟩
  have HX : ∀ c d, R c d → upd w (a + j) v c = w c ∧ upd w' (b + j) v' d = w' d := by
    intro c d gc
    have k := D c d 0 gc (Nat.zero_le _)
    exact ⟨pk_un (fun z => by have := (k.1 z).2; omega), pk_un (fun z => by have := (k.2 z).2; omega)⟩
  refine ⟨h1, h2, h3, fun c d gc => ?_⟩
  obtain ⟨x1, x2⟩ := HX c d gc
  rw [x1, x2]
  refine ⟨(h4 c d gc).1, fun l l1 l2 => ?_⟩
  have k := D c d l gc l2
  by_cases e : c + l = a + j
  · obtain ⟨y1, y2⟩ := k.1 e
    have y3 : d = b := (h2 c d a b gc g).mp y1
    subst y1 y2 y3
    rw [pk_us, pk_us, pk_us, pk_us]
    exact hv
  · have e' : ¬ d + l = b + j := by
      intro z
      obtain ⟨y1, y2⟩ := k.2 z
      have y3 : c = a := (h2 c d a b gc g).mpr y1
      exact e (by rw [y3, y2])
    rw [pk_un e, pk_un e, pk_un e', pk_un e']
    exact (h4 c d gc).2 l l1 l2
theorem bh_sim_new {r k : Nat} (hw : bh_WF m st w rf h hr) (hw' : bh_WF m' st' w' rf' h' hr') (hs : bh_Sim R m st w rf h hr m' st' w' rf' h' hr') (k2 : st m + k + 1 ≤ 72)
    (hA : bh_Ap (st m) (st m + k + 1) k w rf w2 rf2) (hA' : bh_Ap (st' m') (st' m' + k + 1) k w' rf' w2' rf2') :
    bh_Sim (fun a b => R a b ∨ (a = st m ∧ b = st' m')) (m + 1) (bh_sn m st k) w2 rf2 (upd h r (nI (st m))) (upd hr r 1) (m' + 1) (bh_sn m' st' k) w2' rf2' (upd h' r (nI (st' m'))) (upd hr' r 1) := by
  obtain ⟨hc, _, _, _, _⟩ := hw
  obtain ⟨hc', _, _, _, _⟩ := hw'
  obtain ⟨h1, h2, h3, h4⟩ := hs
  obtain ⟨a1, a2, a3, a4⟩ := hA
  obtain ⟨b1, b2, b3, b4⟩ := hA'
  have LT : ∀ a b, R a b → a < st m ∧ b < st' m' := by
    intro a b g
    obtain ⟨⟨i, hi, ea⟩, ⟨i', hi', eb⟩⟩ := h1 a b g
    have s := bh_ch_sz hc hi
    have s' := bh_ch_sz hc' hi'
    omega
  have VM : ∀ f v f' v', bh_V R f v f' v' → bh_V (fun a b => R a b ∨ (a = st m ∧ b = st' m')) f v f' v' := fun _ _ _ _ z => bh_V_mono (fun _ _ y => Or.inl y) z
  refine ⟨?_, ?_, fun r' hr' => ?_, ?_⟩
  · rintro a b (g | ⟨rfl, rfl⟩)
    · obtain ⟨⟨i, hi, ea⟩, ⟨i', hi', eb⟩⟩ := h1 a b g
      exact ⟨⟨i, by omega, by rw [bh_sn_le (by omega)]; exact ea⟩, ⟨i', by omega, by rw [bh_sn_le (by omega)]; exact eb⟩⟩
    · exact ⟨⟨m, by omega, (bh_sn_le (Nat.le_refl m)).symm⟩, ⟨m', by omega, (bh_sn_le (Nat.le_refl m')).symm⟩⟩
  · rintro a b c d (g | ⟨rfl, rfl⟩) (g' | ⟨rfl, rfl⟩)
    · exact h2 a b c d g g'
    · have := LT a b g
      exact ⟨fun z => by omega, fun z => by omega⟩
    · have := LT c d g'
      exact ⟨fun z => by omega, fun z => by omega⟩
    · exact ⟨fun _ => rfl, fun _ => rfl⟩
  · by_cases e : r' = r
    · subst e
      rw [pk_us, pk_us, pk_us, pk_us]
      exact ⟨rfl, fun z => absurd z bh_ne01, fun _ => ⟨_, _, rfl, rfl, Or.inr ⟨rfl, rfl⟩⟩⟩
    · rw [pk_un e, pk_un e, pk_un e, pk_un e]
      exact VM _ _ _ _ (h3 r' hr')
  · rintro a b (g | ⟨rfl, rfl⟩)
    · obtain ⟨⟨i, hi, ea⟩, ⟨i', hi', eb⟩⟩ := h1 a b g
      obtain ⟨k3, k4⟩ := h4 a b g
      have lt := LT a b g
      have s := bh_ch_sz hc hi
      have s' := bh_ch_sz hc' hi'
      rw [(a1 a lt.1).1, (b1 b lt.2).1]
      refine ⟨k3, fun j j1 j2 => ?_⟩
      have j3 : j ≤ (w' b).toNatClampNeg := by rw [← k3]; exact j2
      subst ea eb
      rw [s.2.2.2.2.2.2.2] at j2
      rw [s'.2.2.2.2.2.2.2] at j3
      rw [(a1 (st i + j) (by omega)).1, (a1 (st i + j) (by omega)).2, (b1 (st' i' + j) (by omega)).1, (b1 (st' i' + j) (by omega)).2]
      exact VM _ _ _ _ (k4 j j1 (by rw [s.2.2.2.2.2.2.2]; exact j2))
    · refine ⟨by rw [a2, b2], fun j j1 j2 => ?_⟩
      rw [a2, nI_clamp (by omega)] at j2
      rw [(a3 (st m + j) (by omega) (by omega)).1, (a3 (st m + j) (by omega) (by omega)).2, (b3 (st' m' + j) (by omega) (by omega)).1, (b3 (st' m' + j) (by omega) (by omega)).2]
      exact ⟨rfl, fun _ => rfl, fun z => absurd rfl z⟩
/-- a register of both: the same flag, the same word or records that say the same -/
theorem bh_sim_hf (hc : bh_Ch w m st) (hc' : bh_Ch w' m' st') (hs : bh_Sim R m st w rf h hr m' st' w' rf' h' hr') {b f : Nat} (hb : b < 6) (g : bh_hf w h hr b f) :
    bh_hf w' h' hr' b f ∧ ∃ a a', h b = nI a ∧ h' b = nI a' ∧ R a a' ∧ (h b).toNatClampNeg = a ∧ (h' b).toNatClampNeg = a' ∧ 1 ≤ 1 + f ∧ 1 + f ≤ (w a).toNatClampNeg ∧
      bh_V R (rf (a + (1 + f))) (w (a + (1 + f))) (rf' (a' + (1 + f))) (w' (a' + (1 + f))) := by
  have l1 : ∀ a b, R a b → a < 72 := fun a b g => bh_sim_l hc hs g
  have l2 : ∀ a b, R a b → b < 72 := fun a b g => bh_sim_r hc' hs g
  obtain ⟨h1, h2, h3, h4⟩ := hs
  obtain ⟨g0, g1⟩ := g
  obtain ⟨e, _, k⟩ := h3 b hb
  obtain ⟨a, a', x, y, ga⟩ := k g0
  have xa : (h b).toNatClampNeg = a := by rw [x, nI_clamp (by have := l1 a a' ga; omega)]
  have yb : (h' b).toNatClampNeg = a' := by rw [y, nI_clamp (by have := l2 a a' ga; omega)]
  obtain ⟨k3, k4⟩ := h4 a a' ga
  rw [xa] at g1
  refine ⟨⟨by rw [← e]; exact g0, ?_⟩, a, a', x, y, ga, xa, yb, by omega, by omega, k4 (1 + f) (by omega) (by omega)⟩
  rw [yb, ← k3]
  exact g1
end
end
section
/-! ===== the methods ===== -/
theorem bh_isR {post : Int32 → Prop} {a : Nat} (ha : a < 6) (H : post 1) : wpX_isRegister post () (nI a) :=
  br_f (nI_pos (by omega)) (pk_lt 5 a (fun z => absurd z (by omega)) (fun _ => H))
def bh_sm (h hr : Nat → Int32) (a b : Nat) : Int32 := if hr a = hr b then (if h a = h b then 1 else 0) else 0
def bh_fl (w h hr : Nat → Int32) (a : Nat) : Int32 := if hr a = 0 then 0 else w (h a).toNatClampNeg
def bh_va (h hr : Nat → Int32) (a : Nat) : Int32 := if hr a = 0 then h a else 0
section
variable {m : Nat} {st : Nat → Nat} {w rf h hr re sk ba bb : Nat → Int32} {t wt bk : Int32} {a b : Nat}
theorem bh_number {post : Int32 → St1 → Prop} {c : Int32} (ha : a < 6) (H : post 0 (t, wt, bk, w, rf, upd h a c, upd hr a 0, re, sk, ba, bb)) :
    wpX_number post (t, wt, bk, w, rf, h, hr, re, sk, ba, bb) (nI a) c := by
  unfold wpX_number
  refine bh_isR ha (br_f bh_ne01 ⟨pk_in a 6 ha, fun h2 e2 => ⟨pk_in a 6 ha, fun hr2 e3 => ?_⟩⟩)
  rw [nI_clamp (by omega)] at e2 e3
  subst e2 e3
  exact H
theorem bh_move {post : Int32 → St1 → Prop} (hB : bh_B hr) (ha : a < 6) (hb : b < 6) (H : post 0 (t, wt, bk, w, rf, upd h a (h b), upd hr a (hr b), re, sk, ba, bb)) :
    wpX_move post (t, wt, bk, w, rf, h, hr, re, sk, ba, bb) (nI a) (nI b) := by
  unfold wpX_move
  refine bh_isR ha (br_f bh_ne01 (bh_isR hb (br_f bh_ne01 ⟨pk_in b 6 hb, pk_in a 6 ha, fun h2 e2 => ⟨pk_in b 6 hb, pk_in a 6 ha, fun hr2 e3 => ?_⟩⟩)))
  rw [nI_clamp (show a < 2 ^ 31 by omega), nI_clamp (show b < 2 ^ 31 by omega)] at e2 e3
  rw [bh_nar (hB b)] at e3
  subst e2 e3
  exact H
theorem bh_hasF {post : Int32 → Prop} {f : Nat} (hw : bh_WF m st w rf h hr) (ha : a < 6) (hf : f < 2 ^ 31) (H1 : bh_hf w h hr a f → post 1) (H2 : ¬ bh_hf w h hr a f → post 0) :
    wpX_hasField post (t, wt, bk, w, rf, h, hr, re, sk, ba, bb) (nI a) (nI f) := by
  have ea : (nI a).toNatClampNeg = a := nI_clamp (by omega)
  unfold wpX_hasField
  dsimp only
  rw [ea]
  refine ⟨pk_in a 6 ha, br_c (fun g => H2 (fun z => z.1 g)) (fun g => br_f (nI_pos hf) ⟨pk_in a 6 ha, ?_⟩)⟩
  obtain ⟨i, hi, e⟩ := hw.2.2.1 a ha g
  have s := bh_ch_sz hw.1 hi
  have ec := bh_clamp_st hw.1 hi e
  have ez : w (h a).toNatClampNeg = nI (st (i + 1) - st i - 1) := by rw [ec]; exact s.2.2.2.2.2.2.1
  have ey : (w (h a).toNatClampNeg).toNatClampNeg = st (i + 1) - st i - 1 := by rw [ec]; exact s.2.2.2.2.2.2.2
  refine ⟨pk_in (st i) 72 (by omega) e, pk_le (st (i + 1) - st i - 1) f (fun z => H2 (fun y => ?_)) (fun z => H1 ⟨g, by rw [ey]; exact z⟩) ez⟩
  have := y.2
  rw [ey] at this
  omega
/-- where a field stands -/
theorem bh_fld (hw : bh_WF m st w rf h hr) {f : Nat} (ha : a < 6) (g : bh_hf w h hr a f) : ∃ i, i < m ∧ h a = nI (st i) ∧ (h a).toNatClampNeg = st i ∧ st i < st i + (1 + f) ∧ st i + (1 + f) < st (i + 1) ∧ st i + (1 + f) < 72 ∧ h a + 1 + nI f = nI (st i + (1 + f)) := by
  obtain ⟨i, hi, e⟩ := hw.2.2.1 a ha g.1
  have s := bh_ch_sz hw.1 hi
  have ec := bh_clamp_st hw.1 hi e
  have g2 := g.2
  rw [ec, s.2.2.2.2.2.2.2] at g2
  refine ⟨i, hi, e, ec, by omega, by omega, by omega, ?_⟩
  rw [e, nI_1, nI_add]
  congr 1
  omega
theorem bh_load {post : Int32 → St1 → Prop} {f : Nat} (hw : bh_WF m st w rf h hr) (ha : a < 6) (hb : b < 6) (hf : f < 2 ^ 31)
    (H1 : bh_hf w h hr b f → post 0 (t, wt, bk, w, rf, upd h a (w ((h b).toNatClampNeg + (1 + f))), upd hr a (rf ((h b).toNatClampNeg + (1 + f))), re, sk, ba, bb))
    (H2 : ¬ bh_hf w h hr b f → post (-3) (t, wt, bk, w, rf, h, hr, re, sk, ba, bb)) :
    wpX_load post (t, wt, bk, w, rf, h, hr, re, sk, ba, bb) (nI a) (nI b) (nI f) := by
  unfold wpX_load
  refine bh_isR ha (br_f bh_ne01 (bh_isR hb (br_f bh_ne01 (bh_hasF hw hb hf (fun g => ?_) (fun g => br_t rfl (H2 g))))))
  obtain ⟨i, hi, e, ec, q1, q2, q3, q4⟩ := bh_fld hw hb g
  have H := H1 g
  rw [ec] at H
  refine br_f bh_ne01 ⟨pk_in b 6 hb, fun x4 e4 => ?_⟩
  rw [nI_clamp (show b < 2 ^ 31 by omega), q4] at e4
  subst e4
  refine ⟨pk_in _ 72 q3, pk_in a 6 ha, fun h2 e2 => ⟨pk_in _ 72 q3, pk_in a 6 ha, fun hr2 e3 => ?_⟩⟩
  rw [nI_clamp (show a < 2 ^ 31 by omega), nI_clamp (show st i + (1 + f) < 2 ^ 31 by omega)] at e2 e3
  rw [bh_nar (hw.2.2.2.1 _)] at e3
  subst e2 e3
  exact H
theorem bh_store {post : Int32 → St1 → Prop} {f c : Nat} (hw : bh_WF m st w rf h hr) (ha : a < 6) (hc : c < 6) (hf : f < 2 ^ 31)
    (H1 : bh_hf w h hr a f → post 0 (t, wt, bk, upd w ((h a).toNatClampNeg + (1 + f)) (h c), upd rf ((h a).toNatClampNeg + (1 + f)) (hr c), h, hr, re, sk, ba, bb))
    (H2 : ¬ bh_hf w h hr a f → post (-3) (t, wt, bk, w, rf, h, hr, re, sk, ba, bb)) :
    wpX_store post (t, wt, bk, w, rf, h, hr, re, sk, ba, bb) (nI a) (nI f) (nI c) := by
  unfold wpX_store
  refine bh_isR ha (br_f bh_ne01 (bh_isR hc (br_f bh_ne01 (bh_hasF hw ha hf (fun g => ?_) (fun g => br_t rfl (H2 g))))))
  obtain ⟨i, hi, e, ec, q1, q2, q3, q4⟩ := bh_fld hw ha g
  have H := H1 g
  rw [ec] at H
  refine br_f bh_ne01 ⟨pk_in a 6 ha, fun x4 e4 => ?_⟩
  rw [nI_clamp (show a < 2 ^ 31 by omega), q4] at e4
  subst e4
  refine ⟨pk_in c 6 hc, pk_in _ 72 q3, fun h2 e2 => ⟨pk_in c 6 hc, pk_in _ 72 q3, fun hr2 e3 => ?_⟩⟩
  rw [nI_clamp (show c < 2 ^ 31 by omega), nI_clamp (show st i + (1 + f) < 2 ^ 31 by omega)] at e2 e3
  rw [bh_nar (hw.2.2.2.2 _)] at e3
  subst e2 e3
  exact H
theorem bh_same {post : Int32 → Prop} (ha : a < 6) (hb : b < 6) (H : post (bh_sm h hr a b)) :
    wpX_same post (t, wt, bk, w, rf, h, hr, re, sk, ba, bb) (nI a) (nI b) := by
  unfold wpX_same
  refine bh_isR ha (br_f bh_ne01 (bh_isR hb (br_f bh_ne01 ⟨pk_in a 6 ha, pk_in b 6 hb, ?_⟩)))
  rw [nI_clamp (show a < 2 ^ 31 by omega), nI_clamp (show b < 2 ^ 31 by omega)]
  unfold bh_sm at H
  refine br_c (fun g => ⟨pk_in a 6 ha, pk_in b 6 hb, br_c (fun g2 => ?_) (fun g2 => ?_)⟩) (fun g => ?_)
  · rw [if_pos g, if_pos g2] at H; exact H
  · rw [if_pos g, if_neg g2] at H; exact H
  · rw [if_neg g] at H; exact H
theorem bh_fields {post : Int32 → Prop} (hw : bh_WF m st w rf h hr) (ha : a < 6) (H : post (bh_fl w h hr a)) :
    wpX_fields post (t, wt, bk, w, rf, h, hr, re, sk, ba, bb) (nI a) := by
  unfold wpX_fields
  refine bh_isR ha (br_f bh_ne01 ⟨pk_in a 6 ha, ?_⟩)
  rw [nI_clamp (show a < 2 ^ 31 by omega)]
  unfold bh_fl at H
  refine br_c (fun g => ?_) (fun g => ?_)
  · rw [if_pos g] at H; exact H
  · rw [if_neg g] at H
    obtain ⟨i, hi, e⟩ := hw.2.2.1 a ha g
    have s := bh_ch_sz hw.1 hi
    exact ⟨pk_in a 6 ha, pk_in (st i) 72 (by omega) e, H⟩
theorem bh_value {post : Int32 → Prop} (ha : a < 6) (H : post (bh_va h hr a)) :
    wpX_value post (t, wt, bk, w, rf, h, hr, re, sk, ba, bb) (nI a) := by
  unfold wpX_value
  refine bh_isR ha (br_f bh_ne01 ⟨pk_in a 6 ha, ?_⟩)
  rw [nI_clamp (show a < 2 ^ 31 by omega)]
  unfold bh_va at H
  refine br_c (fun g => ?_) (fun g => ?_)
  · rw [if_pos g] at H; exact ⟨pk_in a 6 ha, H⟩
  · rw [if_neg g] at H; exact H
theorem bh_collect {post : Int32 → St1 → Prop} (hw : bh_WF m st w rf h hr)
    (H : ∀ m2 st2 Q w2 rf2 h2 wt2 b2 re2 sk2 ba2 bb2, bh_WF m2 st2 w2 rf2 h2 hr → bh_Sim Q m2 st2 w2 rf2 h2 hr m st w rf h hr → st2 m2 = bh_W m st w rf h hr → post (nI (st2 m2)) (nI (st2 m2), wt2, b2, w2, rf2, h2, hr, re2, sk2, ba2, bb2)) :
    wpX_collect post (nI (st m), wt, bk, w, rf, h, hr, re, sk, ba, bb) := by
  unfold wpX_collect
  exact bh_squeeze hw (fun m2 st2 Q w2 rf2 h2 wt2 b2 re2 sk2 ba2 bb2 k1 k2 k3 => H m2 st2 Q w2 rf2 h2 wt2 b2 re2 sk2 ba2 bb2 k1 k2 k3)
/-! make -/
theorem bh_77 {post : Int32 → St1 → Prop} {T k : Nat} (ha : a < 6) (hT : T + k + 1 ≤ 72) (w0 rf0 : Nat → Int32)
    (H : ∀ w2 rf2, bh_Ap T (T + k + 1) k w0 rf0 w2 rf2 → post 0 (nI (T + k + 1), wt, bk, w2, rf2, upd h a (nI T), upd hr a 1, re, sk, ba, bb)) :
    ∀ d p w2 rf2, p + d = T + k + 1 → T < p → bh_Ap T p k w0 rf0 w2 rf2 → wX_make_77 post (nI a) (nI k) (nI T) t wt bk (d + 1) (nI p) w2 rf2 h hr re sk ba bb := by
  have ex : nI T + nI k = nI (T + k) := nI_add T k
  intro d
  induction d with
  | zero =>
    intro p w2 rf2 hp h1 hA
    have e : p = T + k + 1 := by omega
    subst e
    have e2 : nI T + nI k + 1 = nI (T + k + 1) := by rw [nI_add, nI_1]
    refine pk_lt (T + k) (T + k + 1) (fun _ => nm_r e2 ⟨pk_in a 6 ha, fun h2 eh => ⟨pk_in a 6 ha, fun hr2 er => ?_⟩⟩) (fun z => absurd z (by omega)) ex
    rw [nI_clamp (by omega)] at eh er
    subst eh er
    exact H w2 rf2 hA
  | succ d ih =>
    intro p w2 rf2 hp h1 hA
    refine pk_lt (T + k) p (fun z => absurd z (by omega)) (fun _ => ⟨pk_in p 72 (by omega), fun w3 e3 => ⟨pk_in p 72 (by omega), fun rf3 e4 => nm_r (nI_1 p) ?_⟩⟩) ex
    rw [nI_clamp (by omega)] at e3 e4
    subst e3 e4
    obtain ⟨a1, a2, a3, a4⟩ := hA
    refine ih (p + 1) _ _ (by omega) (by omega) ⟨fun j hj => ?_, ?_, fun j j1 j2 => ?_, bh_B_upd a4 (Or.inl rfl)⟩
    · rw [pk_un (by omega), pk_un (by omega)]; exact a1 j hj
    · rw [pk_un (by omega)]; exact a2
    · by_cases e : j = p
      · rw [e, pk_us, pk_us]; exact ⟨rfl, rfl⟩
      · rw [pk_un e, pk_un e]; exact a3 j j1 (by omega)
theorem bh_37 {post : Int32 → St1 → Prop} {k : Nat} (hw : bh_WF m st w rf h hr) (ha : a < 6) (k2 : k ≤ 6)
    (H1 : st m + k + 1 ≤ 72 → ∀ w2 rf2, bh_Ap (st m) (st m + k + 1) k w rf w2 rf2 → post 0 (nI (st m + k + 1), wt, bk, w2, rf2, upd h a (nI (st m)), upd hr a 1, re, sk, ba, bb))
    (H2 : 72 < st m + k + 1 → post (-2) (nI (st m), wt, bk, w, rf, h, hr, re, sk, ba, bb)) :
    wX_make_37 post (nI a) (nI k) (nI (st m)) wt bk w rf h hr re sk ba bb := by
  have h72 := hw.1.2.1
  have ey : (72 : Int32) - nI (st m) = nI (72 - st m) := pk_sub (a := 72) h72
  unfold wX_make_37
  refine pk_le (k + 1) (72 - st m) (fun z => ⟨pk_in (st m) 72 (by omega), fun w3 e3 => ⟨pk_in (st m) 72 (by omega), fun rf3 e4 => nm_r (nI_1 (st m)) ⟨k + 1, ?_⟩⟩⟩) (fun z => H2 (by omega)) (nI_1 k) ey
  rw [nI_clamp (by omega)] at e3 e4
  subst e3 e4
  refine bh_77 ha (by omega) w rf (fun w2 rf2 hA => H1 (by omega) w2 rf2 hA) k (st m + 1) _ _ (by omega) (by omega) ⟨fun j hj => ?_, pk_us, fun j j1 j2 => absurd j2 (by omega), bh_B_upd hw.2.2.2.1 (Or.inl rfl)⟩
  rw [pk_un (by omega), pk_un (by omega)]
  exact ⟨rfl, rfl⟩
theorem bh_make0 {post : Int32 → St1 → Prop} (ha : a < 6) (H : post (-1) (t, wt, bk, w, rf, h, hr, re, sk, ba, bb)) :
    wpX_make post (t, wt, bk, w, rf, h, hr, re, sk, ba, bb) (nI a) (nI 0) := by
  unfold wpX_make
  exact bh_isR ha (br_f bh_ne01 (pk_lt 0 1 (fun _ => H) (fun z => absurd z (by omega))))
theorem bh_make {post : Int32 → St1 → Prop} {k : Nat} (hw : bh_WF m st w rf h hr) (ha : a < 6) (k1 : 1 ≤ k) (k2 : k ≤ 6)
    (H1 : bh_W m st w rf h hr + k + 1 ≤ 72 → ∀ m1 st1 Q w1 rf1 h1 w2 rf2 wt2 bk2 re2 sk2 ba2 bb2, bh_WF m1 st1 w1 rf1 h1 hr → bh_Sim Q m1 st1 w1 rf1 h1 hr m st w rf h hr → st1 m1 + k + 1 ≤ 72 → bh_Ap (st1 m1) (st1 m1 + k + 1) k w1 rf1 w2 rf2 → post 0 (nI (st1 m1 + k + 1), wt2, bk2, w2, rf2, upd h1 a (nI (st1 m1)), upd hr a 1, re2, sk2, ba2, bb2))
    (H2 : 72 < bh_W m st w rf h hr + k + 1 → ∀ m1 st1 Q w1 rf1 h1 wt2 bk2 re2 sk2 ba2 bb2, bh_WF m1 st1 w1 rf1 h1 hr → bh_Sim Q m1 st1 w1 rf1 h1 hr m st w rf h hr → post (-2) (nI (st1 m1), wt2, bk2, w1, rf1, h1, hr, re2, sk2, ba2, bb2)) :
    wpX_make post (nI (st m), wt, bk, w, rf, h, hr, re, sk, ba, bb) (nI a) (nI k) := by
  have h72 := hw.1.2.1
  have ey : (72 : Int32) - nI (st m) = nI (72 - st m) := pk_sub (a := 72) h72
  have hW := bh_W_le (rf := rf) (h := h) (hr := hr) hw.1
  unfold wpX_make
  refine bh_isR ha (br_f bh_ne01 (pk_lt k 1 (fun z => absurd z (by omega)) (fun _ => pk_le k 6 (fun _ => ?_) (fun z => absurd z (by omega)))))
  refine pk_le (k + 1) (72 - st m) (fun z => ?_) (fun z => ?_) (nI_1 k) ey
  · exact bh_37 hw ha k2 (fun y w2 rf2 hA => H1 (by omega) m st _ w rf h w2 rf2 wt bk re sk ba bb hw (bh_sim_refl hw) y hA) (fun y => absurd y (by omega))
  · refine bh_squeeze hw (fun m2 st2 Q w2 rf2 h2 wt2 b2 re2 sk2 ba2 bb2 k3 k4 k5 => ?_)
    exact bh_37 k3 ha k2 (fun y w3 rf3 hA => H1 (by omega) m2 st2 Q w2 rf2 h2 w3 rf3 wt2 b2 re2 sk2 ba2 bb2 k3 k4 y hA) (fun y => H2 (by omega) m2 st2 Q w2 rf2 h2 wt2 b2 re2 sk2 ba2 bb2 k3 k4)
end
end
section
/-! ===== both heaps: alike, a call of each ===== -/
section
variable {R : Nat → Nat → Prop} {m m' : Nat} {st st' : Nat → Nat} {w rf h hr w' rf' h' hr' re sk ba bb re' sk' ba' bb' : Nat → Int32} {t wt bk t' wt' bk' : Int32}
theorem bh_sim_sm (hc : bh_Ch w m st) (hc' : bh_Ch w' m' st') (hs : bh_Sim R m st w rf h hr m' st' w' rf' h' hr') {a b : Nat} (ha : a < 6) (hb : b < 6) : bh_sm h hr a b = bh_sm h' hr' a b := by
  have l1 : ∀ a b, R a b → a < 72 := fun a b g => bh_sim_l hc hs g
  have l2 : ∀ a b, R a b → b < 72 := fun a b g => bh_sim_r hc' hs g
  obtain ⟨h1, h2, h3, h4⟩ := hs
  obtain ⟨e, e0, e1⟩ := h3 a ha
  obtain ⟨f, f0, f1⟩ := h3 b hb
  unfold bh_sm
  rw [← e, ← f]
  by_cases g : hr a = hr b
  · rw [if_pos g, if_pos g]
    by_cases z : hr a = 0
    · rw [e0 z, f0 (g.symm.trans z)]
    · obtain ⟨p, p', x, y, k⟩ := e1 z
      obtain ⟨q, q', x', y', k'⟩ := f1 (fun y => z (g.trans y))
      rw [x, y, x', y']
      have i1 := h2 p p' q q' k k'
      by_cases j : p = q
      · rw [if_pos (by rw [j]), if_pos (by rw [i1.mp j])]
      · rw [if_neg (fun n => j (bh_nI_inj (l1 _ _ k) (l1 _ _ k') n)), if_neg (fun n => j (i1.mpr (bh_nI_inj (l2 _ _ k) (l2 _ _ k') n)))]
  · rw [if_neg g, if_neg g]
theorem bh_sim_fl (hc : bh_Ch w m st) (hc' : bh_Ch w' m' st') (hs : bh_Sim R m st w rf h hr m' st' w' rf' h' hr') {a : Nat} (ha : a < 6) : bh_fl w h hr a = bh_fl w' h' hr' a := by
  have l1 : ∀ a b, R a b → a < 72 := fun a b g => bh_sim_l hc hs g
  have l2 : ∀ a b, R a b → b < 72 := fun a b g => bh_sim_r hc' hs g
  obtain ⟨h1, h2, h3, h4⟩ := hs
  obtain ⟨e, e0, e1⟩ := h3 a ha
  unfold bh_fl
  rw [← e]
  by_cases z : hr a = 0
  · rw [if_pos z, if_pos z]
  · rw [if_neg z, if_neg z]
    obtain ⟨p, p', x, y, k⟩ := e1 z
    rw [x, y, nI_clamp (by have := l1 _ _ k; omega), nI_clamp (by have := l2 _ _ k; omega)]
    exact (h4 p p' k).1
theorem bh_sim_va (hs : bh_Sim R m st w rf h hr m' st' w' rf' h' hr') {a : Nat} (ha : a < 6) : bh_va h hr a = bh_va h' hr' a := by
  obtain ⟨h1, h2, h3, h4⟩ := hs
  obtain ⟨e, e0, e1⟩ := h3 a ha
  unfold bh_va
  rw [← e]
  by_cases z : hr a = 0
  · rw [if_pos z, if_pos z]; exact e0 z
  · rw [if_neg z, if_neg z]
theorem bh_al2 {post : Int32 → Prop} (hI : bh_I m st w rf h hr m' st' w' rf' h' hr') (H : post 1) :
    ∀ d i, i + d = 36 → wL_alike_2 post t wt bk w rf h hr re sk ba bb t' wt' bk' w' rf' h' hr' re' sk' ba' bb' (d + 1) (nI i) := by
  obtain ⟨hw, hw', R, hs⟩ := hI
  intro d
  induction d with
  | zero =>
    intro i hi
    exact pk_le 36 i (fun _ => H) (fun z => absurd z (by omega))
  | succ d ih =>
    intro i hi
    have e1 : nI i / 6 = nI (i / 6) := pk_div (a := i) (d := 6) (by omega) (by decide) (by decide)
    have e2 : nI i - nI i / 6 * 6 = nI (i % 6) := pk_rem (a := i) (d := 6) (by omega) (by decide) (by decide)
    have q1 : i / 6 < 6 := by omega
    have q2 : i % 6 < 6 := by omega
    refine pk_le 36 i (fun z => absurd z (by omega)) (fun _ => ⟨by decide, nm_r e1 ⟨by decide, nm_r e2 ?_⟩⟩)
    refine bh_same q1 q2 (bh_same q1 q2 (br_t (bh_sim_sm hw.1 hw'.1 hs q1 q2) ?_))
    refine bh_fields hw q1 (bh_fields hw' q1 (br_t (bh_sim_fl hw.1 hw'.1 hs q1) ?_))
    refine bh_value q1 (bh_value q1 (br_t (bh_sim_va hs q1) ?_))
    exact nm_r (nI_1 i) (ih (i + 1) (by omega))
theorem bh_alike {post : Int32 → Prop} (hI : bh_I m st w rf h hr m' st' w' rf' h' hr') (H : post 1) :
    wpL_alike post (t, wt, bk, w, rf, h, hr, re, sk, ba, bb, t', wt', bk', w', rf', h', hr', re', sk', ba', bb') :=
  ⟨36 + 1, bh_al2 hI H 36 0 (by omega)⟩
/-! both load -/
theorem bh_ld_I {a b f : Nat} (hI : bh_I m st w rf h hr m' st' w' rf' h' hr') (hb : b < 6) (g : bh_hf w h hr b f) :
    bh_hf w' h' hr' b f ∧ bh_I m st w rf (upd h a (w ((h b).toNatClampNeg + (1 + f)))) (upd hr a (rf ((h b).toNatClampNeg + (1 + f)))) m' st' w' rf' (upd h' a (w' ((h' b).toNatClampNeg + (1 + f)))) (upd hr' a (rf' ((h' b).toNatClampNeg + (1 + f)))) := by
  obtain ⟨hw, hw', R, hs⟩ := hI
  obtain ⟨g', p, p', _, _, _, x, y, _, _, hv⟩ := bh_sim_hf hw.1 hw'.1 hs hb g
  obtain ⟨i, hi, _, c1, i1, i2, _, _⟩ := bh_fld hw hb g
  obtain ⟨i', hi', _, c2, j1, j2, _, _⟩ := bh_fld hw' hb g'
  refine ⟨g', bh_wf_reg hw (hw.2.2.2.1 _) (fun z => ?_), bh_wf_reg hw' (hw'.2.2.2.1 _) (fun z => ?_), R, bh_sim_reg hs ?_⟩
  · rw [c1] at z
    rw [c1]
    exact hw.2.1 i hi _ i1 i2 z
  · rw [c2] at z
    rw [c2]
    exact hw'.2.1 i' hi' _ j1 j2 z
  · rw [x, y]; exact hv
theorem bh_hf_r {b f : Nat} (hI : bh_I m st w rf h hr m' st' w' rf' h' hr') (hb : b < 6) (g : bh_hf w' h' hr' b f) : bh_hf w h hr b f := by
  obtain ⟨hw, hw', R, hs⟩ := hI
  exact (bh_sim_hf hw'.1 hw.1 (bh_sim_symm hs) hb g).1
theorem bh_load2 {a b f : Nat} {p1 : Int32 → St1 → Prop} (hI : bh_I m st w rf h hr m' st' w' rf' h' hr') (ha : a < 6) (hb : b < 6) (hf : f < 2 ^ 31)
    (H : ∀ r h2 hr2, (∀ p2 : Int32 → St1 → Prop, (∀ h2' hr2', bh_I m st w rf h2 hr2 m' st' w' rf' h2' hr2' → p2 r (nI (st' m'), wt', bk', w', rf', h2', hr2', re', sk', ba', bb')) →
        wpX_load p2 (nI (st' m'), wt', bk', w', rf', h', hr', re', sk', ba', bb') (nI a) (nI b) (nI f)) → p1 r (nI (st m), wt, bk, w, rf, h2, hr2, re, sk, ba, bb)) :
    wpX_load p1 (nI (st m), wt, bk, w, rf, h, hr, re, sk, ba, bb) (nI a) (nI b) (nI f) := by
  refine bh_load hI.1 ha hb hf (fun g => H 0 _ _ (fun p2 hp => ?_)) (fun g => H (-3) _ _ (fun p2 hp => ?_))
  · obtain ⟨g', hI'⟩ := bh_ld_I (a := a) hI hb g
    exact bh_load hI.2.1 ha hb hf (fun _ => hp _ _ hI') (fun z => absurd g' z)
  · exact bh_load hI.2.1 ha hb hf (fun z => absurd (bh_hf_r hI hb z) g) (fun _ => hp _ _ hI)
end
/-! one call -/
section
variable {m : Nat} {st : Nat → Nat} {w rf h hr re sk ba bb : Nat → Int32} {t wt bk c : Int32} {a b k : Nat} {post : Int32 → St1 → Prop}
theorem bh_c5 (ha : a < 6) (H : post 0 (t, wt, bk, w, rf, upd h a c, upd hr a 0, re, sk, ba, bb)) :
    wpL_call post (t, wt, bk, w, rf, h, hr, re, sk, ba, bb) (nI 5) (nI a) (nI b) c := by
  unfold wpL_call
  exact pk_lt 4 5 (fun _ => pk_eq 5 5 (fun _ => bh_number ha H) (fun z => absurd rfl z)) (fun z => absurd z (by omega))
theorem bh_c6 (hB : bh_B hr) (ha : a < 6) (hb : b < 6) (H : post 0 (t, wt, bk, w, rf, upd h a (h b), upd hr a (hr b), re, sk, ba, bb)) :
    wpL_call post (t, wt, bk, w, rf, h, hr, re, sk, ba, bb) (nI 6) (nI a) (nI b) c := by
  unfold wpL_call
  exact pk_lt 4 6 (fun _ => pk_eq 6 5 (fun z => absurd z (by omega)) (fun _ => pk_eq 6 6 (fun _ => bh_move hB ha hb H) (fun z => absurd rfl z))) (fun z => absurd z (by omega))
theorem bh_c11 {f : Nat} (k1 : 10 < k) (k2 : k < 16) (hw : bh_WF m st w rf h hr) (ha : a < 6) (hb : b < 6) (hf : f < 2 ^ 31) (ef : c &&& 7 = nI f)
    (H1 : bh_hf w h hr b f → post 0 (t, wt, bk, w, rf, upd h a (w ((h b).toNatClampNeg + (1 + f))), upd hr a (rf ((h b).toNatClampNeg + (1 + f))), re, sk, ba, bb))
    (H2 : ¬ bh_hf w h hr b f → post (-3) (t, wt, bk, w, rf, h, hr, re, sk, ba, bb)) :
    wpL_call post (t, wt, bk, w, rf, h, hr, re, sk, ba, bb) (nI k) (nI a) (nI b) c := by
  unfold wpL_call
  refine pk_lt 4 k (fun _ => pk_eq k 5 (fun z => absurd z (by omega)) (fun _ => pk_eq k 6 (fun z => absurd z (by omega)) (fun _ => pk_lt 10 k (fun _ => ?_) (fun z => absurd z (by omega))))) (fun z => absurd z (by omega))
  rw [ef]
  exact bh_load hw ha hb hf (fun g => H1 g) (fun g => H2 g)
theorem bh_c7 {s : Nat} (k1 : 7 ≤ k) (k2 : k ≤ 10) (hw : bh_WF m st w rf h hr) (ha : a < 6) (hb : b < 6) (hs : s < 6) (es : (c &&& 255) - (c &&& 255) / 6 * 6 = nI s)
    (H1 : bh_hf w h hr a b → post 0 (t, wt, bk, upd w ((h a).toNatClampNeg + (1 + b)) (h s), upd rf ((h a).toNatClampNeg + (1 + b)) (hr s), h, hr, re, sk, ba, bb))
    (H2 : ¬ bh_hf w h hr a b → post (-3) (t, wt, bk, w, rf, h, hr, re, sk, ba, bb)) :
    wpL_call post (t, wt, bk, w, rf, h, hr, re, sk, ba, bb) (nI k) (nI a) (nI b) c := by
  unfold wpL_call
  refine pk_lt 4 k (fun _ => pk_eq k 5 (fun z => absurd z (by omega)) (fun _ => pk_eq k 6 (fun z => absurd z (by omega)) (fun _ => pk_lt 10 k (fun z => absurd z (by omega)) (fun _ => ⟨by decide, ?_⟩)))) (fun z => absurd z (by omega))
  rw [es]
  exact bh_store hw ha hs (by omega) (fun g => H1 g) (fun g => H2 g)
theorem bh_c4z (k1 : k ≤ 4) (ha : a < 6) (H : post (-1) (t, wt, bk, w, rf, h, hr, re, sk, ba, bb)) :
    wpL_call post (t, wt, bk, w, rf, h, hr, re, sk, ba, bb) (nI k) (nI a) (nI 0) c := by
  unfold wpL_call
  exact pk_lt 4 k (fun z => absurd z (by omega)) (fun _ => bh_make0 ha H)
theorem bh_c4 (k0 : k ≤ 4) (hw : bh_WF m st w rf h hr) (ha : a < 6) (k1 : 1 ≤ b) (k2 : b ≤ 6)
    (H1 : bh_W m st w rf h hr + b + 1 ≤ 72 → ∀ m1 st1 Q w1 rf1 h1 w2 rf2 wt2 bk2 re2 sk2 ba2 bb2, bh_WF m1 st1 w1 rf1 h1 hr → bh_Sim Q m1 st1 w1 rf1 h1 hr m st w rf h hr → st1 m1 + b + 1 ≤ 72 → bh_Ap (st1 m1) (st1 m1 + b + 1) b w1 rf1 w2 rf2 → post 0 (nI (st1 m1 + b + 1), wt2, bk2, w2, rf2, upd h1 a (nI (st1 m1)), upd hr a 1, re2, sk2, ba2, bb2))
    (H2 : 72 < bh_W m st w rf h hr + b + 1 → ∀ m1 st1 Q w1 rf1 h1 wt2 bk2 re2 sk2 ba2 bb2, bh_WF m1 st1 w1 rf1 h1 hr → bh_Sim Q m1 st1 w1 rf1 h1 hr m st w rf h hr → post (-2) (nI (st1 m1), wt2, bk2, w1, rf1, h1, hr, re2, sk2, ba2, bb2)) :
    wpL_call post (nI (st m), wt, bk, w, rf, h, hr, re, sk, ba, bb) (nI k) (nI a) (nI b) c := by
  unfold wpL_call
  refine pk_lt 4 k (fun z => absurd z (by omega)) (fun _ => bh_make hw ha k1 k2 (fun z m1 st1 Q w1 rf1 h1 w2 rf2 wt2 bk2 re2 sk2 ba2 bb2 x1 x2 x3 x4 => ?_) (fun z m1 st1 Q w1 rf1 h1 wt2 bk2 re2 sk2 ba2 bb2 x1 x2 => ?_))
  · exact H1 z m1 st1 Q w1 rf1 h1 w2 rf2 wt2 bk2 re2 sk2 ba2 bb2 x1 x2 x3 x4
  · exact H2 z m1 st1 Q w1 rf1 h1 wt2 bk2 re2 sk2 ba2 bb2 x1 x2
end
/-! the same call of both -/
section
variable {m m' : Nat} {st st' : Nat → Nat} {w rf h hr w' rf' h' hr' re sk ba bb re' sk' ba' bb' : Nat → Int32} {wt bk wt' bk' c : Int32} {a b k : Nat} {p1 : Int32 → St1 → Prop}
theorem bh_st_I {s : Nat} (hI : bh_I m st w rf h hr m' st' w' rf' h' hr') (ha : a < 6) (hs6 : s < 6) (g : bh_hf w h hr a b) :
    bh_hf w' h' hr' a b ∧ bh_I m st (upd w ((h a).toNatClampNeg + (1 + b)) (h s)) (upd rf ((h a).toNatClampNeg + (1 + b)) (hr s)) h hr m' st' (upd w' ((h' a).toNatClampNeg + (1 + b)) (h' s)) (upd rf' ((h' a).toNatClampNeg + (1 + b)) (hr' s)) h' hr' := by
  obtain ⟨hw, hw', R, hs⟩ := hI
  obtain ⟨g', p, p', _, _, gR, x, y, l1, l2, _⟩ := bh_sim_hf hw.1 hw'.1 hs ha g
  obtain ⟨i, hi, _, c1, i1, i2, _, _⟩ := bh_fld hw ha g
  obtain ⟨i', hi', _, c2, j1, j2, _, _⟩ := bh_fld hw' ha g'
  refine ⟨g', bh_wf_put hw hi (by rw [c1]; exact i1) (by rw [c1]; exact i2) (hw.2.2.2.2 s) (fun z => hw.2.2.1 s hs6 z), bh_wf_put hw' hi' (by rw [c2]; exact j1) (by rw [c2]; exact j2) (hw'.2.2.2.2 s) (fun z => hw'.2.2.1 s hs6 z), R, ?_⟩
  rw [x, y]
  exact bh_sim_put hw.1 hw'.1 hs gR l1 l2 (hs.2.2.1 s hs6)
theorem bh_call2 (hI : bh_I m st w rf h hr m' st' w' rf' h' hr') (hk : k ≤ 12) (ha : a < 6) (hb : b < 6)
    (H : ∀ r m2 st2 w2 rf2 h2 hr2 e1 e2 e3 e4 e5 e6, (∀ p2 : Int32 → St1 → Prop, (∀ m2' st2' w2' rf2' h2' hr2' d1 d2 d3 d4 d5 d6, bh_I m2 st2 w2 rf2 h2 hr2 m2' st2' w2' rf2' h2' hr2' → p2 r (nI (st2' m2'), d1, d2, w2', rf2', h2', hr2', d3, d4, d5, d6)) →
        wpL_call p2 (nI (st' m'), wt', bk', w', rf', h', hr', re', sk', ba', bb') (nI k) (nI a) (nI b) c) → p1 r (nI (st2 m2), e1, e2, w2, rf2, h2, hr2, e3, e4, e5, e6)) :
    wpL_call p1 (nI (st m), wt, bk, w, rf, h, hr, re, sk, ba, bb) (nI k) (nI a) (nI b) c := by
  have hI0 := hI
  obtain ⟨hw, hw', R, hs⟩ := hI
  by_cases k5 : k = 5
  · subst k5
    refine bh_c5 ha (H 0 m st w rf _ _ wt bk re sk ba bb (fun p2 hp => bh_c5 ha (hp m' st' w' rf' _ _ wt' bk' re' sk' ba' bb' ?_)))
    exact ⟨bh_wf_reg hw (Or.inl rfl) (fun z => absurd rfl z), bh_wf_reg hw' (Or.inl rfl) (fun z => absurd rfl z), R, bh_sim_reg hs ⟨rfl, fun _ => rfl, fun z => absurd rfl z⟩⟩
  by_cases k6 : k = 6
  · subst k6
    refine bh_c6 hw.2.2.2.2 ha hb (H 0 m st w rf _ _ wt bk re sk ba bb (fun p2 hp => bh_c6 hw'.2.2.2.2 ha hb (hp m' st' w' rf' _ _ wt' bk' re' sk' ba' bb' ?_)))
    exact ⟨bh_wf_reg hw (hw.2.2.2.2 b) (fun z => hw.2.2.1 b hb z), bh_wf_reg hw' (hw'.2.2.2.2 b) (fun z => hw'.2.2.1 b hb z), R, bh_sim_reg hs (hs.2.2.1 b hb)⟩
  by_cases k11 : 10 < k
  · obtain ⟨f, hf, ef⟩ := pk_andE c (m := 7) 3 (by decide)
    have hf' : f < 2 ^ 31 := by omega
    refine bh_c11 k11 (by omega) hw ha hb hf' ef (fun g => H 0 m st w rf _ _ wt bk re sk ba bb (fun p2 hp => ?_)) (fun g => H (-3) m st w rf _ _ wt bk re sk ba bb (fun p2 hp => ?_))
    · obtain ⟨g', hI'⟩ := bh_ld_I (a := a) hI0 hb g
      exact bh_c11 k11 (by omega) hw' ha hb hf' ef (fun _ => hp m' st' w' rf' _ _ wt' bk' re' sk' ba' bb' hI') (fun z => absurd g' z)
    · exact bh_c11 k11 (by omega) hw' ha hb hf' ef (fun z => absurd (bh_hf_r hI0 hb z) g) (fun _ => hp m' st' w' rf' _ _ wt' bk' re' sk' ba' bb' hI0)
  by_cases k7 : 7 ≤ k
  · obtain ⟨f, hf, ef⟩ := pk_andE c (m := 255) 8 (by decide)
    have es : (c &&& 255) - (c &&& 255) / 6 * 6 = nI (f % 6) := by
      rw [ef]
      exact pk_rem (a := f) (d := 6) (by omega) (by decide) (by decide)
    have hs6 : f % 6 < 6 := by omega
    refine bh_c7 k7 (by omega) hw ha hb hs6 es (fun g => H 0 m st _ _ h hr wt bk re sk ba bb (fun p2 hp => ?_)) (fun g => H (-3) m st w rf _ _ wt bk re sk ba bb (fun p2 hp => ?_))
    · obtain ⟨g', hI'⟩ := bh_st_I hI0 ha hs6 g
      exact bh_c7 k7 (by omega) hw' ha hb hs6 es (fun _ => hp m' st' _ _ h' hr' wt' bk' re' sk' ba' bb' hI') (fun z => absurd g' z)
    · exact bh_c7 k7 (by omega) hw' ha hb hs6 es (fun z => absurd (bh_hf_r hI0 ha z) g) (fun _ => hp m' st' w' rf' _ _ wt' bk' re' sk' ba' bb' hI0)
  have k4 : k ≤ 4 := by omega
  by_cases b0 : b = 0
  · subst b0
    exact bh_c4z k4 ha (H (-1) m st w rf h hr wt bk re sk ba bb (fun p2 hp => bh_c4z k4 ha (hp m' st' w' rf' h' hr' wt' bk' re' sk' ba' bb' hI0)))
  have eW := bh_sim_W hw.1 hw'.1 hs
  refine bh_c4 k4 hw ha (by omega) (by omega) (fun z m1 st1 Q w1 rf1 h1 w2 rf2 wt2 bk2 re2 sk2 ba2 bb2 x1 x2 x3 x4 => ?_) (fun z m1 st1 Q w1 rf1 h1 wt2 bk2 re2 sk2 ba2 bb2 x1 x2 => ?_)
  · have eT : st1 m1 + b + 1 = bh_sn m1 st1 b (m1 + 1) := bh_sn_gt.symm
    rw [eT]
    refine H 0 (m1 + 1) (bh_sn m1 st1 b) w2 rf2 _ _ wt2 bk2 re2 sk2 ba2 bb2 (fun p2 hp => ?_)
    refine bh_c4 k4 hw' ha (by omega) (by omega) (fun z' n1 su1 S v1 vf1 g1 v2 vf2 xt2 xk2 ye2 yk2 ya2 yb2 y1 y2 y3 y4 => ?_) (fun z' => absurd z' (by omega))
    have eT' : su1 n1 + b + 1 = bh_sn n1 su1 b (n1 + 1) := bh_sn_gt.symm
    rw [eT']
    refine hp (n1 + 1) (bh_sn n1 su1 b) v2 vf2 _ _ xt2 xk2 ye2 yk2 ya2 yb2 ⟨bh_wf_new x1 (by omega) x3 x4, bh_wf_new y1 (by omega) y3 y4, _, bh_sim_new x1 y1 (bh_sim_trans hw'.1 (bh_sim_trans hw.1 x2 hs) (bh_sim_symm y2)) x3 x4 y4⟩
  · refine H (-2) m1 st1 w1 rf1 h1 hr wt2 bk2 re2 sk2 ba2 bb2 (fun p2 hp => ?_)
    refine bh_c4 k4 hw' ha (by omega) (by omega) (fun z' => absurd z' (by omega)) (fun z' n1 su1 S v1 vf1 g1 xt2 xk2 ye2 yk2 ya2 yb2 y1 y2 => ?_)
    exact hp n1 su1 v1 vf1 g1 hr' xt2 xk2 ye2 yk2 ya2 yb2 ⟨x1, y1, _, bh_sim_trans hw'.1 (bh_sim_trans hw.1 x2 hs) (bh_sim_symm y2)⟩
end
end
section
/-! ===== the law ===== -/
theorem bh_used {post : Int32 → Prop} {t wt bk : Int32} {w rf h hr re sk ba bb : Nat → Int32} (H : post t) : wpX_used post (t, wt, bk, w, rf, h, hr, re, sk, ba, bb) := H
theorem bh_e7 : (6 : Int32) + 1 = nI 7 := by decide
section
variable {m m' : Nat} {st st' : Nat → Nat} {w rf w' rf' re sk ba bb re' sk' ba' bb' : Nat → Int32} {wt bk wt' bk' : Int32} {a b : Nat}
theorem bh_50 {post : Int32 → St3 → Prop} (ha : a < 6) (hb : b < 6)
    (H : ∀ m2 st2 w2 rf2 h2 hr2 e1 e2 e3 e4 e5 e6 m2' st2' w2' rf2' h2' hr2' d1 d2 d3 d4 d5 d6, bh_I m2 st2 w2 rf2 h2 hr2 m2' st2' w2' rf2' h2' hr2' →
      post 1 (nI (st2 m2), e1, e2, w2, rf2, h2, hr2, e3, e4, e5, e6, nI (st2' m2'), d1, d2, w2', rf2', h2', hr2', d3, d4, d5, d6)) :
    ∀ d f h hr h' hr', 6 ≤ f + d → f ≤ 7 → bh_I m st w rf h hr m' st' w' rf' h' hr' →
      wL_collected_50 post (nI a) (nI b) (d + 1) (nI f) (nI (st m)) wt bk w rf h hr re sk ba bb (nI (st' m')) wt' bk' w' rf' h' hr' re' sk' ba' bb' := by
  have X : ∀ h hr h' hr', bh_I m st w rf h hr m' st' w' rf' h' hr' → ∀ n f, 6 ≤ f → f ≤ 7 → wL_collected_50 post (nI a) (nI b) (n + 1) (nI f) (nI (st m)) wt bk w rf h hr re sk ba bb (nI (st' m')) wt' bk' w' rf' h' hr' re' sk' ba' bb' := by
    rintro h hr h' hr' ⟨hw, hw', R, hs⟩ n f f1 f2
    refine pk_le 6 f (fun _ => ?_) (fun z => absurd z (by omega))
    refine bh_collect hw (fun m2 st2 Q w2 rf2 h2 wt2 b2 re2 sk2 ba2 bb2 k1 k2 k3 => ?_)
    refine bh_collect hw' (fun n2 su2 S v2 vf2 g2 xt2 c2 ye2 yk2 ya2 yb2 j1 j2 j3 => br_t ?_ ?_)
    · rw [k3, j3, bh_sim_W hw.1 hw'.1 hs]
    · exact H m2 st2 w2 rf2 h2 hr wt2 b2 re2 sk2 ba2 bb2 n2 su2 v2 vf2 g2 hr' xt2 c2 ye2 yk2 ya2 yb2 ⟨k1, j1, _, bh_sim_trans hw'.1 (bh_sim_trans hw.1 k2 hs) (bh_sim_symm j2)⟩
  intro d
  induction d with
  | zero =>
    intro f h hr h' hr' f1 f2 hI
    exact X h hr h' hr' hI 0 f (by omega) f2
  | succ d ih =>
    intro f h hr h' hr' f1 f2 hI
    by_cases g : 6 ≤ f
    · exact X h hr h' hr' hI (d + 1) f g f2
    · refine pk_le 6 f (fun z => absurd z g) (fun _ => ?_)
      refine bh_load2 (wt' := wt') (bk' := bk') (re' := re') (sk' := sk') (ba' := ba') (bb' := bb') hI hb ha (by omega) (fun r h2 hr2 hY => ?_)
      refine hY _ (fun h2' hr2' hI' => br_t rfl (bh_alike hI' (br_f bh_ne01 ?_)))
      have n1 := ih (f + 1) h2 hr2 h2' hr2' (by omega) (by omega) hI'
      exact br_c (fun _ => br_c (fun _ => nm_r bh_e7 (ih 7 h2 hr2 h2' hr2' (by omega) (by omega) hI')) (fun _ => nm_r (nI_1 f) n1)) (fun _ => nm_r (nI_1 f) n1)
theorem bh_collected {post : Int32 → St3 → Prop} {h hr h' hr' : Nat → Int32} (ha : a < 6) (hb : b < 6) (hI : bh_I m st w rf h hr m' st' w' rf' h' hr')
    (H : ∀ m2 st2 w2 rf2 h2 hr2 e1 e2 e3 e4 e5 e6 m2' st2' w2' rf2' h2' hr2' d1 d2 d3 d4 d5 d6, bh_I m2 st2 w2 rf2 h2 hr2 m2' st2' w2' rf2' h2' hr2' →
      post 1 (nI (st2 m2), e1, e2, w2, rf2, h2, hr2, e3, e4, e5, e6, nI (st2' m2'), d1, d2, w2', rf2', h2', hr2', d3, d4, d5, d6)) :
    wpL_collected post (nI (st m), wt, bk, w, rf, h, hr, re, sk, ba, bb, nI (st' m'), wt', bk', w', rf', h', hr', re', sk', ba', bb') (nI a) (nI b) := by
  obtain ⟨hw, hw', R, hs⟩ := hI
  have hW := bh_W_le (rf := rf') (h := h') (hr := hr') hw'.1
  have h72 := hw'.1.2.1
  unfold wpL_collected
  refine bh_used (bh_collect hw' (fun m2 st2 Q w2 rf2 h2 wt2 b2 re2 sk2 ba2 bb2 k1 k2 k3 => ?_))
  refine pk_lt (st' m') (st2 m2) (fun z => absurd z (by omega)) (fun _ => bh_used (br_t rfl ?_))
  refine bh_collect k1 (fun m3 st3 S w3 rf3 h3 wt3 b3 re3 sk3 ba3 bb3 j1 j2 j3 => br_t ?_ ?_)
  · rw [j3, k3, bh_sim_W k1.1 hw'.1 k2]
  · have hI' : bh_I m st w rf h hr m3 st3 w3 rf3 h3 hr' := ⟨hw, j1, _, bh_sim_trans hw'.1 hs (bh_sim_symm (bh_sim_trans k1.1 j2 k2))⟩
    exact bh_alike hI' (br_f bh_ne01 ⟨6 + 1, bh_50 ha hb H 6 0 h hr h3 hr' (by omega) (by omega) hI'⟩)
theorem bh_W0 {h hr : Nat → Int32} (hz : ∀ r, r < 6 → hr r = 0) : bh_W m st w rf h hr = 0 := by
  refine bh_to_none m (fun i _ => bh_rc_0 (fun z => ?_))
  exact z (fun _ => False) (fun r hr6 g => g (hz r hr6)) (fun _ _ f _ _ _ => f)
theorem bh_127 {L kc ks : Nat} {xs : Nat → Int32} : ∀ d r h hr, r + d = 6 → bh_WF m st w rf h hr → (∀ r', r' < r → hr r' = 0) →
    wL_law_127 (fun r => r = 1) L xs kc ks (d + 1) (nI r) (nI (st m)) wt bk w rf h hr re sk ba bb := by
  intro d
  induction d with
  | zero =>
    intro r h hr hd hw hz
    have e : r = 6 := by omega
    subst e
    refine pk_le 6 6 (fun _ => ?_) (fun z => absurd z (by omega))
    refine bh_collect hw (fun m2 st2 Q w2 rf2 h2 wt2 b2 re2 sk2 ba2 bb2 k1 k2 k3 => ?_)
    rw [bh_W0 hz] at k3
    rw [k3]
    exact br_t rfl (bh_used (br_t rfl rfl))
  | succ d ih =>
    intro r h hr hd hw hz
    refine pk_le 6 r (fun z => absurd z (by omega)) (fun _ => bh_number (by omega) (nm_r (nI_1 r) (ih (r + 1) _ _ (by omega) (bh_wf_reg hw (Or.inl rfl) (fun z => absurd rfl z)) ?_)))
    intro r' hr'
    by_cases e : r' = r
    · rw [e, pk_us]
    · rw [pk_un e]; exact hz r' (by omega)
end
theorem bh_18 {L kc ks : Nat} {xs : Nat → Int32} (hL : L ≤ 260) : ∀ d i m st w rf h hr e1 e2 e3 e4 e5 e6 m' st' w' rf' h' hr' d1 d2 d3 d4 d5 d6, i ≤ L → L < i + 4 * d + 4 → bh_I m st w rf h hr m' st' w' rf' h' hr' →
    wL_law_18 (fun r => r = 1) L xs kc ks (d + 1) (nI i) (nI (st m)) e1 e2 w rf h hr e3 e4 e5 e6 (nI (st' m')) d1 d2 w' rf' h' hr' d3 d4 d5 d6 := by
  intro d
  induction d with
  | zero =>
    intro i m st w rf h hr e1 e2 e3 e4 e5 e6 m' st' w' rf' h' hr' d1 d2 d3 d4 d5 d6 hi hd hI
    exact pk_lt L (i + 4) (fun _ => ⟨6 + 1, bh_127 6 0 h hr (by omega) hI.1 (fun r' hr' => absurd hr' (by omega))⟩) (fun z => absurd z (by omega)) rfl (nI_add i 4)
  | succ d ih =>
    intro i m st w rf h hr e1 e2 e3 e4 e5 e6 m' st' w' rf' h' hr' d1 d2 d3 d4 d5 d6 hi hd hI
    refine pk_lt L (i + 4) (fun _ => ⟨6 + 1, bh_127 6 0 h hr (by omega) hI.1 (fun r' hr' => absurd hr' (by omega))⟩) (fun z => ?_) rfl (nI_add i 4)
    obtain ⟨k, hk, ek⟩ := pk_andE (xs (nI i).toNatClampNeg) (m := 15) 4 (by decide)
    obtain ⟨p, hp, ep⟩ := pk_andE (xs (nI i + 1).toNatClampNeg) (m := 255) 8 (by decide)
    obtain ⟨q, hq, eq⟩ := pk_andE (xs (nI i + 2).toNatClampNeg) (m := 255) 8 (by decide)
    have ep' : (xs (nI i + 1).toNatClampNeg &&& 255) - (xs (nI i + 1).toNatClampNeg &&& 255) / 6 * 6 = nI (p % 6) := by
      rw [ep]
      exact pk_rem (a := p) (d := 6) (by omega) (by decide) (by decide)
    have eq' : (xs (nI i + 2).toNatClampNeg &&& 255) - (xs (nI i + 2).toNatClampNeg &&& 255) / 6 * 6 = nI (q % 6) := by
      rw [eq]
      exact pk_rem (a := q) (d := 6) (by omega) (by decide) (by decide)
    have p6 : p % 6 < 6 := by omega
    have q6 : q % 6 < 6 := by omega
    refine ⟨pk_in i L (by omega), nm_r ek ⟨pk_in (i + 1) L (by omega) (nI_1 i), by decide, nm_r ep' ⟨pk_in (i + 2) L (by omega) (nI_add i 2), by decide, nm_r eq' ⟨pk_in (i + 3) L (by omega) (nI_add i 3), fun c _ => ?_⟩⟩⟩⟩
    refine pk_lt 12 k (fun z => ?_) (fun z => ?_)
    · refine bh_collected p6 q6 hI (fun m2 st2 w2 rf2 h2 hr2 f1 f2 f3 f4 f5 f6 m2' st2' w2' rf2' h2' hr2' g1 g2 g3 g4 g5 g6 hI' => br_f bh_ne01 (nm_r (nI_add i 4) ?_))
      exact ih (i + 4) m2 st2 w2 rf2 h2 hr2 f1 f2 f3 f4 f5 f6 m2' st2' w2' rf2' h2' hr2' g1 g2 g3 g4 g5 g6 (by omega) (by omega) hI'
    · refine bh_call2 (wt' := d1) (bk' := d2) (re' := d3) (sk' := d4) (ba' := d5) (bb' := d6) hI z p6 q6 (fun r m2 st2 w2 rf2 h2 hr2 f1 f2 f3 f4 f5 f6 hY => ?_)
      refine hY _ (fun m2' st2' w2' rf2' h2' hr2' g1 g2 g3 g4 g5 g6 hI' => br_t rfl (nm_r (nI_add i 4) ?_))
      exact ih (i + 4) m2 st2 w2 rf2 h2 hr2 f1 f2 f3 f4 f5 f6 m2' st2' w2' rf2' h2' hr2' g1 g2 g3 g4 g5 g6 (by omega) (by omega) hI'
theorem bh_wf0 : bh_WF 0 (fun _ => 0) (fun _ => 0) (fun _ => 0) (fun _ => 0) (fun _ => 0) :=
  ⟨⟨rfl, Nat.zero_le _, fun i hi => absurd hi (by omega)⟩, fun i hi => absurd hi (by omega), fun r _ g => absurd rfl g, fun _ => Or.inl rfl, fun _ => Or.inl rfl⟩
theorem i_vc (xs : Nat → Int32) (L : Nat) (hL : L ≤ 260) : wpL_law (fun r => r = 1) L xs := by
  have k := bh_18 (L := L) (xs := xs) (kc := 1 + 8 + 1 + 8) (ks := 11 + 348 + 11 + 348) hL 65 0 0 (fun _ => 0) (fun _ => 0) (fun _ => 0) (fun _ => 0) (fun _ => 0) 0 0 (fun _ => 0) (fun _ => 0) (fun _ => 0) (fun _ => 0)
    0 (fun _ => 0) (fun _ => 0) (fun _ => 0) (fun _ => 0) (fun _ => 0) 0 0 (fun _ => 0) (fun _ => 0) (fun _ => 0) (fun _ => 0) (by omega) (by omega) ⟨bh_wf0, bh_wf0, _, bh_sim_refl bh_wf0⟩
  rw [nI_0] at k
  exact ⟨8, 348, by decide, by decide, by decide, by decide, by decide, by decide, by decide, by decide, by decide, by decide, by decide, by decide, by decide, by decide, by decide, by decide, by decide, by decide,
    by decide, by decide, 8, 348, by decide, by decide, by decide, by decide, by decide, by decide, by decide, by decide, by decide, by decide, by decide, by decide, by decide, by decide, by decide, by decide, by decide, by decide, 65 + 1, k⟩
end
