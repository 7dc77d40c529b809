section
/-! ===== pure rows: tables of naturals, counting, the path network ===== -/
def cl_up (f : Nat → Nat) (k x : Nat) : Nat → Nat := fun j => if j = k then x else f j
theorem cl_us {f : Nat → Nat} {k x : Nat} : cl_up f k x k = x := if_pos rfl
theorem cl_un {f : Nat → Nat} {k x j : Nat} (h : j ≠ k) : cl_up f k x j = f j := if_neg h
/-- how many of the first n are not 0 -/
def cl_cnt (f : Nat → Nat) : Nat → Nat
  | 0 => 0
  | n + 1 => cl_cnt f n + (if f n = 0 then 0 else 1)
theorem cl_cnt_s (f : Nat → Nat) (n : Nat) : cl_cnt f (n + 1) = cl_cnt f n + (if f n = 0 then 0 else 1) := rfl
theorem cl_cnt_0 (n : Nat) : cl_cnt (fun _ => 0) n = 0 := by
  induction n with
  | zero => rfl
  | succ n ih =>
    rw [cl_cnt_s, ih]
    rfl
theorem cl_cnt_le (f : Nat → Nat) (n : Nat) : cl_cnt f n ≤ n := by
  induction n with
  | zero => exact Nat.le_refl 0
  | succ n ih =>
    rw [cl_cnt_s]
    split <;> omega
theorem cl_cnt_lt {f : Nat → Nat} {v : Nat} (hv : f v = 0) : ∀ n, v < n → cl_cnt f n < n := by
  intro n
  induction n with
  | zero => intro h; omega
  | succ n ih =>
    intro h
    have hl := cl_cnt_le f n
    rw [cl_cnt_s]
    by_cases e : f n = 0
    · rw [if_pos e]; omega
    · rw [if_neg e]
      have hn : v < n := by
        rcases Nat.lt_or_ge v n with z | z
        · exact z
        · have z' : n = v := by omega
          rw [z'] at e
          exact absurd hv e
      have := ih hn
      omega
theorem cl_cnt_out {f : Nat → Nat} {v w : Nat} : ∀ n, n ≤ v → cl_cnt (cl_up f v w) n = cl_cnt f n := by
  intro n
  induction n with
  | zero => intro _; rfl
  | succ n ih =>
    intro h
    rw [cl_cnt_s, cl_cnt_s, ih (by omega), cl_un (show n ≠ v by omega)]
theorem cl_cnt_up {f : Nat → Nat} {v w : Nat} (hv : f v = 0) (hw : w ≠ 0) : ∀ n, v < n → cl_cnt (cl_up f v w) n = cl_cnt f n + 1 := by
  intro n
  induction n with
  | zero => intro h; omega
  | succ n ih =>
    intro h
    rw [cl_cnt_s, cl_cnt_s]
    by_cases e : n = v
    · subst e
      rw [cl_cnt_out n (Nat.le_refl n), cl_us]
      split <;> omega
    · rw [ih (by omega), cl_un e]
      omega
/-- the path network: room a on 9 -> p, b on p -> 10, c on p -> 9, d on 10 -> p -/
def cl_R (p a b c d k : Nat) : Nat := if k = 99 + p then a else if k = 11 * p + 10 then b else if k = 11 * p + 9 then c else if k = 110 + p then d else 0
theorem cl_R_a {p a b c d k : Nat} (h : k = 99 + p) : cl_R p a b c d k = a := if_pos h
theorem cl_R_b {p a b c d k : Nat} (hp : p ≤ 8) (h : k = 11 * p + 10) : cl_R p a b c d k = b := by
  unfold cl_R
  rw [if_neg (by omega), if_pos h]
theorem cl_R_c {p a b c d k : Nat} (hp : p ≤ 8) (h : k = 11 * p + 9) : cl_R p a b c d k = c := by
  unfold cl_R
  rw [if_neg (by omega), if_neg (by omega), if_pos h]
theorem cl_R_d {p a b c d k : Nat} (hp : p ≤ 8) (h : k = 110 + p) : cl_R p a b c d k = d := by
  unfold cl_R
  rw [if_neg (by omega), if_neg (by omega), if_neg (by omega), if_pos h]
theorem cl_R_n {p a b c d k : Nat} (h1 : k ≠ 99 + p) (h2 : k ≠ 11 * p + 10) (h3 : k ≠ 11 * p + 9) (h4 : k ≠ 110 + p) : cl_R p a b c d k = 0 := by
  unfold cl_R
  rw [if_neg h1, if_neg h2, if_neg h3, if_neg h4]
theorem cl_R_0 (p a b k : Nat) : cl_R p a b 0 0 k = if k = 99 + p then a else if k = 11 * p + 10 then b else 0 := by
  simp only [cl_R, ite_self]
theorem cl_R_le {p a b c d N : Nat} (ha : a ≤ N) (hb : b ≤ N) (hc : c ≤ N) (hd : d ≤ N) (k : Nat) : cl_R p a b c d k ≤ N := by
  unfold cl_R
  split
  · exact ha
  · split
    · exact hb
    · split
      · exact hc
      · split
        · exact hd
        · exact Nat.zero_le N
theorem cl_R_inv {p a b c d u v : Nat} (hp : p ≤ 8) (hu : u < 11) (hv : v < 11) (h : 0 < cl_R p a b c d (11 * u + v)) : (u = 9 ∧ v = p ∧ 0 < a) ∨ (u = p ∧ v = 10 ∧ 0 < b) ∨ (u = p ∧ v = 9 ∧ 0 < c) ∨ (u = 10 ∧ v = p ∧ 0 < d) := by
  by_cases e1 : 11 * u + v = 99 + p
  · rw [cl_R_a e1] at h
    exact Or.inl ⟨by omega, by omega, h⟩
  · by_cases e2 : 11 * u + v = 11 * p + 10
    · rw [cl_R_b hp e2] at h
      exact Or.inr (Or.inl ⟨by omega, by omega, h⟩)
    · by_cases e3 : 11 * u + v = 11 * p + 9
      · rw [cl_R_c hp e3] at h
        exact Or.inr (Or.inr (Or.inl ⟨by omega, by omega, h⟩))
      · by_cases e4 : 11 * u + v = 110 + p
        · rw [cl_R_d hp e4] at h
          exact Or.inr (Or.inr (Or.inr ⟨by omega, by omega, h⟩))
        · rw [cl_R_n e1 e2 e3 e4] at h
          exact absurd h (Nat.lt_irrefl 0)
/-- what a search from st over the rooms M leaves (par v = 0: not reached, u + 1: reached from u) -/
def cl_P (M : Nat → Nat) (st : Nat) (par : Nat → Nat) : Prop :=
  par st = st + 1 ∧
  (∀ v, v < 11 → par v ≠ 0 → par v ≤ 11 ∧ (v = st ∨ 0 < M (11 * (par v - 1) + v))) ∧
  (∀ u v, u < 11 → v < 11 → par u ≠ 0 → 0 < M (11 * u + v) → par v ≠ 0) ∧
  (∀ S : Nat → Prop, S st → (∀ u v, u < 11 → v < 11 → S u → 0 < M (11 * u + v) → S v) → ∀ v, v < 11 → par v ≠ 0 → S v)
theorem cl_P9_in {p a b c d : Nat} {par : Nat → Nat} (hp : p ≤ 8) (h : cl_P (cl_R p a b c d) 9 par) (hz : a = 0 ∨ b = 0) {v : Nat} (hv : v < 11) (hr : par v ≠ 0) : v = 9 ∨ (v = p ∧ 0 < a) := by
  refine h.2.2.2 (fun v => v = 9 ∨ (v = p ∧ 0 < a)) (Or.inl rfl) ?_ v hv hr
  intro u w hu hw hS hM
  have hS' : u = 9 ∨ (u = p ∧ 0 < a) := hS
  show w = 9 ∨ (w = p ∧ 0 < a)
  rcases cl_R_inv hp hu hw hM with g | g | g | g <;> omega
theorem cl_P9_no {p a b c d : Nat} {par : Nat → Nat} (hp : p ≤ 8) (h : cl_P (cl_R p a b c d) 9 par) (hz : a = 0 ∨ b = 0) : par 10 = 0 := by
  rcases Nat.eq_zero_or_pos (par 10) with z | z
  · exact z
  · have := cl_P9_in hp h hz (show 10 < 11 by omega) (by omega)
    omega
theorem cl_P9_p {p a b c d : Nat} {par : Nat → Nat} (hp : p ≤ 8) (h : cl_P (cl_R p a b c d) 9 par) (ha : 0 < a) : par p ≠ 0 :=
  h.2.2.1 9 p (by omega) (by omega) (by rw [h.1]; omega) (by rw [cl_R_a (by omega)]; exact ha)
theorem cl_P9_yes {p a b : Nat} {par : Nat → Nat} (hp : p ≤ 8) (h : cl_P (cl_R p a b 0 0) 9 par) (ha : 0 < a) (hb : 0 < b) : par 10 = p + 1 ∧ par p = 10 := by
  have h1 : par p ≠ 0 := cl_P9_p hp h ha
  have h2 : par 10 ≠ 0 := h.2.2.1 p 10 (by omega) (by omega) h1 (by rw [cl_R_b hp rfl]; exact hb)
  have g1 := h.2.1 p (by omega) h1
  have g2 := h.2.1 10 (by omega) h2
  have r1 : par p = 10 := by
    rcases g1.2 with z | z
    · omega
    · rcases cl_R_inv hp (by omega) (by omega) z with g | g | g | g <;> omega
  have r2 : par 10 = p + 1 := by
    rcases g2.2 with z | z
    · omega
    · rcases cl_R_inv hp (by omega) (by omega) z with g | g | g | g <;> omega
  exact ⟨r2, r1⟩
theorem cl_Ps {p a b c d s : Nat} {par : Nat → Nat} (hp : p ≤ 8) (hs : s ≤ 8) (h : cl_P (cl_R p a b c d) s par) : par 10 ≠ 0 ↔ (s = p ∧ 0 < b) := by
  constructor
  · intro hr
    have k : 10 = s ∨ (s = p ∧ (10 = 9 ∨ 0 < b)) := by
      refine h.2.2.2 (fun v => v = s ∨ (s = p ∧ (v = 9 ∨ 0 < b))) (Or.inl rfl) ?_ 10 (by omega) hr
      intro u w hu hw hS hM
      have hS' : u = s ∨ (s = p ∧ (u = 9 ∨ 0 < b)) := hS
      show w = s ∨ (s = p ∧ (w = 9 ∨ 0 < b))
      rcases cl_R_inv hp hu hw hM with g | g | g | g <;> omega
    omega
  · rintro ⟨e, hb⟩
    have h1 : par p ≠ 0 := by
      have := h.1
      rw [e] at this
      omega
    exact h.2.2.1 p 10 (by omega) (by omega) h1 (by rw [cl_R_b hp rfl]; exact hb)
/-- the int that stands in reachedFrom -/
def cl_e (n : Nat) : Int32 := if n = 0 then -1 else nI (n - 1)
theorem cl_e_0 {n : Nat} (h : n = 0) : cl_e n < 0 ∧ ¬ 0 ≤ cl_e n := by
  rw [h]
  exact ⟨by decide, by decide⟩
theorem cl_e_s {n : Nat} (h : n ≠ 0) (hn : n ≤ 11) : ¬ cl_e n < 0 ∧ 0 ≤ cl_e n := by
  unfold cl_e
  rw [if_neg h]
  exact ⟨nI_pos (by omega), nI_pos' (by omega)⟩
theorem cl_e_u (u : Nat) : cl_e (u + 1) = nI u := rfl
theorem cl_ix (u v : Nat) : (11 : Int32) * nI u + nI v = nI (11 * u + v) := by
  show nI 11 * nI u + nI v = nI (11 * u + v)
  rw [pk_mul, nI_add]
end
section
/-! ===== build ===== -/
def cl_bm (a1 a2 : Nat → Int32) (i k : Nat) : Int32 := if 99 ≤ k ∧ k < 99 + i then a2 (k - 99) else if k % 11 = 10 ∧ k / 11 < i then a1 (k / 11) else 0
theorem cl_bm_s {a1 a2 s : Nat → Int32} {i : Nat} (hi : i < 9) (h : ∀ k, k < 121 → s k = cl_bm a1 a2 i k) : ∀ k, k < 121 → upd (upd s (99 + i) (a2 i)) (11 * i + 10) (a1 i) k = cl_bm a1 a2 (i + 1) k := by
  intro k hk
  by_cases e1 : k = 11 * i + 10
  · rw [e1, pk_us]
    unfold cl_bm
    rw [if_neg (by omega), if_pos (by omega), show (11 * i + 10) / 11 = i by omega]
  · rw [pk_un e1]
    by_cases e2 : k = 99 + i
    · rw [e2, pk_us]
      unfold cl_bm
      rw [if_pos (by omega), show 99 + i - 99 = i by omega]
    · rw [pk_un e2, h k hk]
      unfold cl_bm
      by_cases c1 : 99 ≤ k ∧ k < 99 + i
      · rw [if_pos c1, if_pos (by omega)]
      · rw [if_neg c1, if_neg (show ¬ (99 ≤ k ∧ k < 99 + (i + 1)) by omega)]
        by_cases c2 : k % 11 = 10 ∧ k / 11 < i
        · rw [if_pos c2, if_pos (by omega)]
        · rw [if_neg c2, if_neg (by omega)]
theorem cl_b70 {post : St2 → Prop} {f : Int32} {a1 a2 a3 a4 a5 a6 a7 a8 a9 a10 : Nat → Int32} (h3 : ∀ t, t < 16 → a3 t = 0) (H : post (f, a1, a2, a3, a4, a5, a6, a7, a8, a9, a10)) : ∃ n, wX_build_70 post f n 0 a1 a2 a3 a4 a5 a6 a7 a8 a9 a10 :=
  pk_loop (σ := Unit) (fun n i _ => wX_build_70 post f n (nI i) a1 a2 a3 a4 a5 a6 a7 a8 a9 a10) (fun _ _ => True) 16 0 () (by omega) trivial
    (fun n _ _ => pk_le 16 16 (fun _ => H) (fun z => absurd z (by omega)))
    (fun n i _ hi _ hw => pk_le 16 i (fun z => absurd z (by omega)) (fun _ => ⟨pk_in i 16 hi, br_t (by rw [nI_clamp (by omega)]; exact h3 i hi) (nm_r (nI_1 i) (hw () trivial))⟩))
theorem cl_b23 {post : St2 → Prop} {f : Int32} {a1 a2 a3 a4 a5 a6 a7 a8 a9 a10 : Nat → Int32} (h3 : ∀ t, t < 16 → a3 t = 0) (h8 : ∀ k, k < 121 → a8 k = 0) (H : ∀ s, (∀ k, k < 121 → s k = cl_bm a1 a2 9 k) → post (f, a1, a2, a3, a4, a5, a6, a7, s, a9, a10)) : ∃ n, wX_build_23 post f n 0 a1 a2 a3 a4 a5 a6 a7 a8 a9 a10 := by
  refine pk_loop (fun n i s => wX_build_23 post f n (nI i) a1 a2 a3 a4 a5 a6 a7 s a9 a10) (fun i s => ∀ k, k < 121 → s k = cl_bm a1 a2 i k) 9 0 a8 (by omega) ?_ ?_ ?_
  · intro k hk
    rw [h8 k hk]
    unfold cl_bm
    rw [if_neg (by omega), if_neg (by omega)]
  · intro n s hI
    exact pk_le 9 9 (fun _ => cl_b70 h3 (H s hI)) (fun z => absurd z (by omega))
  · intro n i s hi hI hw
    have e1 : (99 : Int32) + nI i = nI (99 + i) := nI_add 99 i
    have e2 : (11 : Int32) * nI i + 10 = nI (11 * i + 10) := cl_ix i 10
    refine pk_le 9 i (fun z => absurd z (by omega)) (fun _ => ⟨pk_in i 9 hi, pk_in (99 + i) 121 (by omega) e1, fun b eb => ⟨pk_in i 9 hi, pk_in (11 * i + 10) 121 (by omega) e2, fun b' eb' => nm_r (nI_1 i) (hw b' ?_)⟩⟩)
    rw [eb', eb, pk_cl (99 + i) e1, pk_cl (11 * i + 10) e2, nI_clamp (show i < 2 ^ 31 by omega)]
    exact cl_bm_s hi hI
theorem cl_build {post : St2 → Prop} {f : Int32} {a1 a2 a3 a4 a5 a6 a7 a8 a9 a10 : Nat → Int32} (h3 : ∀ t, t < 16 → a3 t = 0) (H : ∀ s, (∀ k, k < 121 → s k = cl_bm a1 a2 9 k) → post (f, a1, a2, a3, a4, a5, a6, a7, s, a9, a10)) : wpX_build post (f, a1, a2, a3, a4, a5, a6, a7, a8, a9, a10) := by
  have main : ∃ n, wX_build_2 post f n 0 a1 a2 a3 a4 a5 a6 a7 a8 a9 a10 := by
    refine pk_loop (fun n i s => wX_build_2 post f n (nI i) a1 a2 a3 a4 a5 a6 a7 s a9 a10) (fun i s => ∀ k, k < i → s k = 0) 121 0 a8 (by omega) (fun k hk => absurd hk (by omega)) ?_ ?_
    · intro n s hI
      exact pk_le 121 121 (fun _ => cl_b23 h3 hI H) (fun z => absurd z (by omega))
    · intro n i s hi hI hw
      refine pk_le 121 i (fun z => absurd z (by omega)) (fun _ => ⟨pk_in i 121 hi, fun b eb => nm_r (nI_1 i) (hw b ?_)⟩)
      intro k hk
      rw [eb, nI_clamp (show i < 2 ^ 31 by omega)]
      by_cases e : k = i
      · rw [e, pk_us]
      · rw [pk_un e]
        exact hI k (by omega)
  exact main
/-- the object's picture: costs x (label 0) and y (label 1) at place p, none elsewhere, no tie -/
def cl_K (p x y : Nat) (a1 a2 a3 : Nat → Int32) : Prop := p ≤ 8 ∧ x ≤ 100 ∧ y ≤ 100 ∧ (∀ j, j < 9 → a1 j = if j = p then nI x else 0) ∧ (∀ j, j < 9 → a2 j = if j = p then nI y else 0) ∧ (∀ j, j < 16 → a3 j = 0)
theorem cl_bm_K {p x y k : Nat} {a1 a2 a3 : Nat → Int32} (K : cl_K p x y a1 a2 a3) (hk : k < 121) : cl_bm a1 a2 9 k = nI (cl_R p y x 0 0 k) := by
  obtain ⟨hp, _, _, k1, k2, _⟩ := K
  rw [cl_R_0]
  unfold cl_bm
  by_cases c1 : 99 ≤ k ∧ k < 99 + 9
  · rw [if_pos c1, k2 (k - 99) (by omega)]
    by_cases e : k = 99 + p
    · rw [if_pos e, if_pos (show k - 99 = p by omega)]
    · rw [if_neg e, if_neg (show ¬ k - 99 = p by omega), if_neg (show ¬ k = 11 * p + 10 by omega), nI_0]
  · rw [if_neg c1, if_neg (show ¬ k = 99 + p by omega)]
    by_cases c2 : k % 11 = 10 ∧ k / 11 < 9
    · rw [if_pos c2, k1 (k / 11) (by omega)]
      by_cases e : k = 11 * p + 10
      · rw [if_pos e, if_pos (show k / 11 = p by omega)]
      · rw [if_neg e, if_neg (show ¬ k / 11 = p by omega), nI_0]
    · rw [if_neg c2, if_neg (show ¬ k = 11 * p + 10 by omega), nI_0]
theorem cl_buildK {post : St2 → Prop} {f : Int32} {a1 a2 a3 a4 a5 a6 a7 a8 a9 a10 : Nat → Int32} {p x y : Nat} (K : cl_K p x y a1 a2 a3) (H : ∀ s, (∀ k, k < 121 → s k = nI (cl_R p y x 0 0 k)) → post (f, a1, a2, a3, a4, a5, a6, a7, s, a9, a10)) : wpX_build post (f, a1, a2, a3, a4, a5, a6, a7, a8, a9, a10) :=
  cl_build K.2.2.2.2.2 (fun s hs => H s (fun k hk => (hs k hk).trans (cl_bm_K K hk)))
end
section
/-! ===== search, over any table of rooms ===== -/
def cl_I (M : Nat → Nat) (st qe : Nat) (par q : Nat → Nat) : Prop :=
  par st = st + 1 ∧
  (∀ v, v < 11 → par v ≠ 0 → par v ≤ 11 ∧ (v = st ∨ 0 < M (11 * (par v - 1) + v))) ∧
  (∀ i, i < qe → q i < 11 ∧ par (q i) ≠ 0) ∧
  (∀ v, v < 11 → par v ≠ 0 → ∃ i, i < qe ∧ q i = v) ∧
  cl_cnt par 11 = qe ∧
  (∀ S : Nat → Prop, S st → (∀ u v, u < 11 → v < 11 → S u → 0 < M (11 * u + v) → S v) → ∀ v, v < 11 → par v ≠ 0 → S v)
theorem cl_I_add {M : Nat → Nat} {st qe u p : Nat} {par q : Nat → Nat} (h : cl_I M st qe par q) (hu : u < 11) (hpu : par u ≠ 0) (hp : p < 11) (hpp : par p = 0) (hM : 0 < M (11 * u + p)) : cl_I M st (qe + 1) (cl_up par p (u + 1)) (cl_up q qe p) := by
  obtain ⟨h1, h2, h3, h4, h5, h6⟩ := h
  have nst : st ≠ p := by
    intro e
    rw [e, hpp] at h1
    omega
  refine ⟨?_, ?_, ?_, ?_, ?_, ?_⟩
  · rw [cl_un nst]
    exact h1
  · intro v hv hr
    by_cases e : v = p
    · rw [e, cl_us]
      exact ⟨by omega, Or.inr (by rw [Nat.add_sub_cancel]; exact hM)⟩
    · rw [cl_un e] at hr
      rw [cl_un e]
      exact h2 v hv hr
  · intro i hi
    by_cases e : i = qe
    · rw [e, cl_us]
      refine ⟨hp, ?_⟩
      rw [cl_us]
      omega
    · rw [cl_un e]
      obtain ⟨g1, g2⟩ := h3 i (by omega)
      have g3 : q i ≠ p := fun z => g2 (by rw [z]; exact hpp)
      refine ⟨g1, ?_⟩
      rw [cl_un g3]
      exact g2
  · intro v hv hr
    by_cases e : v = p
    · exact ⟨qe, by omega, by rw [cl_us]; exact e.symm⟩
    · rw [cl_un e] at hr
      obtain ⟨i, hi, hq⟩ := h4 v hv hr
      exact ⟨i, by omega, by rw [cl_un (show i ≠ qe by omega)]; exact hq⟩
  · rw [cl_cnt_up hpp (by omega) 11 hp, h5]
  · intro S hS hc v hv hr
    by_cases e : v = p
    · rw [e]
      exact hc u p hu hp (h6 S hS hc u hu hpu) hM
    · rw [cl_un e] at hr
      exact h6 S hS hc v hv hr
theorem cl_I_0 (M : Nat → Nat) {st : Nat} (hs : st < 11) : cl_I M st 1 (cl_up (fun _ => 0) st (st + 1)) (fun _ => st) := by
  refine ⟨cl_us, ?_, ?_, ?_, ?_, ?_⟩
  · intro v hv hr
    by_cases e : v = st
    · rw [e, cl_us]
      exact ⟨by omega, Or.inl rfl⟩
    · rw [cl_un e] at hr
      exact (hr rfl).elim
  · intro i hi
    refine ⟨hs, ?_⟩
    show cl_up (fun _ => 0) st (st + 1) st ≠ 0
    rw [cl_us]
    omega
  · intro v hv hr
    by_cases e : v = st
    · exact ⟨0, by omega, e.symm⟩
    · rw [cl_un e] at hr
      exact (hr rfl).elim
  · rw [cl_cnt_up (f := fun _ => 0) (v := st) (w := st + 1) rfl (by omega) 11 hs, cl_cnt_0]
  · intro S hS hc v hv hr
    by_cases e : v = st
    · rw [e]
      exact hS
    · rw [cl_un e] at hr
      exact (hr rfl).elim
theorem cl_I_end {M : Nat → Nat} {st qe : Nat} {par q : Nat → Nat} (h : cl_I M st qe par q) (hF : ∀ i, i < qe → ∀ v, v < 11 → 0 < M (11 * q i + v) → par v ≠ 0) : cl_P M st par := by
  refine ⟨h.1, h.2.1, ?_, h.2.2.2.2.2⟩
  intro u v hu hv hr hM
  obtain ⟨i, hi, hq⟩ := h.2.2.2.1 u hu hr
  exact hF i hi v hv (by rw [hq]; exact hM)
theorem cl_I_qe {M : Nat → Nat} {st qe : Nat} {par q : Nat → Nat} (h : cl_I M st qe par q) : qe ≤ 11 := by
  have := cl_cnt_le par 11
  rw [h.2.2.2.2.1] at this
  exact this
/-- the state's own arrays against the pictures -/
def cl_S (qe : Nat) (par q : Nat → Nat) (f : Int32) (a9 a10 : Nat → Int32) : Prop := f = nI qe ∧ (∀ v, v < 11 → a9 v = cl_e (par v)) ∧ (∀ i, i < qe → a10 i = nI (q i))
theorem cl_S_add {qe p u : Nat} {par q : Nat → Nat} {f : Int32} {a9 a10 : Nat → Int32} (h : cl_S qe par q f a9 a10) : cl_S (qe + 1) (cl_up par p (u + 1)) (cl_up q qe p) (f + 1) (upd a9 p (nI u)) (upd a10 qe (nI p)) := by
  obtain ⟨h1, h2, h3⟩ := h
  refine ⟨?_, ?_, ?_⟩
  · rw [h1, nI_1]
  · intro v hv
    by_cases e : v = p
    · rw [e, pk_us, cl_us, cl_e_u]
    · rw [pk_un e, cl_un e]
      exact h2 v hv
  · intro i hi
    by_cases e : i = qe
    · rw [e, pk_us, cl_us]
    · rw [pk_un e, cl_un e]
      exact h3 i (by omega)
/-- ahead of place p of the scan of the queue's place k -/
def cl_N (M : Nat → Nat) (st k p : Nat) (f : Int32) (a9 a10 : Nat → Int32) : Prop := ∃ (qe : Nat) (par q : Nat → Nat), k < qe ∧ cl_S qe par q f a9 a10 ∧ cl_I M st qe par q ∧ (∀ i, i < k → ∀ v, v < 11 → 0 < M (11 * q i + v) → par v ≠ 0) ∧ (∀ v, v < p → 0 < M (11 * q k + v) → par v ≠ 0)
/-- ahead of the queue's place k -/
def cl_O (M : Nat → Nat) (st k : Nat) (f : Int32) (a9 a10 : Nat → Int32) : Prop := ∃ (qe : Nat) (par q : Nat → Nat), k ≤ qe ∧ cl_S qe par q f a9 a10 ∧ cl_I M st qe par q ∧ (∀ i, i < k → ∀ v, v < 11 → 0 < M (11 * q i + v) → par v ≠ 0)
theorem cl_N_O {M : Nat → Nat} {st k : Nat} {f : Int32} {a9 a10 : Nat → Int32} (h : cl_N M st k 11 f a9 a10) : cl_O M st (k + 1) f a9 a10 := by
  obtain ⟨qe, par, q, hk, hS, hI, hF1, hF2⟩ := h
  refine ⟨qe, par, q, hk, hS, hI, ?_⟩
  intro i hi
  by_cases e : i = k
  · rw [e]
    exact hF2
  · exact hF1 i (by omega)
/-- the three next states of the scan -/
theorem cl_N_skip {M : Nat → Nat} {st k p qe : Nat} {par q : Nat → Nat} {f : Int32} {a9 a10 : Nat → Int32} (hk : k < qe) (hS : cl_S qe par q f a9 a10) (hI : cl_I M st qe par q) (hF1 : ∀ i, i < k → ∀ v, v < 11 → 0 < M (11 * q i + v) → par v ≠ 0) (hF2 : ∀ v, v < p → 0 < M (11 * q k + v) → par v ≠ 0) (h : 0 < M (11 * q k + p) → par p ≠ 0) : cl_N M st k (p + 1) f a9 a10 := by
  refine ⟨qe, par, q, hk, hS, hI, hF1, ?_⟩
  intro v hv
  by_cases e : v = p
  · rw [e]
    exact h
  · exact hF2 v (by omega)
theorem cl_N_add {M : Nat → Nat} {st k p qe : Nat} {par q : Nat → Nat} {f : Int32} {a9 a10 : Nat → Int32} (hp : p < 11) (hk : k < qe) (hS : cl_S qe par q f a9 a10) (hI : cl_I M st qe par q) (hF1 : ∀ i, i < k → ∀ v, v < 11 → 0 < M (11 * q i + v) → par v ≠ 0) (hF2 : ∀ v, v < p → 0 < M (11 * q k + v) → par v ≠ 0) (hpp : par p = 0) (hM : 0 < M (11 * q k + p)) : cl_N M st k (p + 1) (f + 1) (upd a9 p (nI (q k))) (upd a10 qe (nI p)) := by
  obtain ⟨hqk, hpk⟩ := hI.2.2.1 k hk
  have mono : ∀ v, par v ≠ 0 → cl_up par p (q k + 1) v ≠ 0 := by
    intro v hv
    by_cases e : v = p
    · rw [e, cl_us]
      omega
    · rw [cl_un e]
      exact hv
  have qo : ∀ i, i < qe → cl_up q qe p i = q i := fun i hi => cl_un (by omega)
  refine ⟨qe + 1, cl_up par p (q k + 1), cl_up q qe p, by omega, cl_S_add hS, cl_I_add hI hqk hpk hp hpp hM, ?_, ?_⟩
  · intro i hi v hv hm
    rw [qo i (by omega)] at hm
    exact mono v (hF1 i hi v hv hm)
  · intro v hv hm
    rw [qo k hk] at hm
    by_cases e : v = p
    · rw [e, cl_us]
      omega
    · exact mono v (hF2 v (by omega) hm)
theorem cl_s58 {post : St2 → Prop} {J : Int32 → Int32 → (Nat → Int32) → (Nat → Int32) → (Nat → Int32) → (Nat → Int32) → (Nat → Int32) → (Nat → Int32) → (Nat → Int32) → (Nat → Int32) → (Nat → Int32) → (Nat → Int32) → Prop} {M : Nat → Nat} {st k : Nat} {f : Int32} {a1 a2 a3 a4 a5 a6 a7 a8 a9 a10 : Nat → Int32}
    (h8 : ∀ j, j < 121 → a8 j = nI (M j)) (hB : ∀ j, M j < 2 ^ 31) (h : cl_N M st k 0 f a9 a10)
    (H : ∀ f a9 a10, cl_N M st k 11 f a9 a10 → J (nI (k + 1)) f a1 a2 a3 a4 a5 a6 a7 a8 a9 a10) : ∃ n, wX_search_58 post J (nI k) n 0 f a1 a2 a3 a4 a5 a6 a7 a8 a9 a10 := by
  refine pk_loop (σ := Int32 × (Nat → Int32) × (Nat → Int32)) (fun n i s => wX_search_58 post J (nI k) n (nI i) s.1 a1 a2 a3 a4 a5 a6 a7 a8 s.2.1 s.2.2) (fun i s => cl_N M st k i s.1 s.2.1 s.2.2) 11 0 (f, a9, a10) (by omega) h ?_ ?_
  · intro n s hI
    exact pk_le 11 11 (fun _ => nm_r (nI_1 k) (H _ _ _ hI)) (fun z => absurd z (by omega))
  · intro n i s hi hN hw
    obtain ⟨f, a9, a10⟩ := s
    obtain ⟨qe, par, q, hk, hS, hI, hF1, hF2⟩ := hN
    have hS' : cl_S qe par q f a9 a10 := hS
    have e1 : f = nI qe := hS'.1
    have e2 : ∀ v, v < 11 → a9 v = cl_e (par v) := hS'.2.1
    have e3 : ∀ i, i < qe → a10 i = nI (q i) := hS'.2.2
    have hqe := cl_I_qe hI
    obtain ⟨hqk, hpk⟩ := hI.2.2.1 k hk
    have hci : (nI i).toNatClampNeg = i := nI_clamp (by omega)
    have hck : (nI k).toNatClampNeg = k := nI_clamp (by omega)
    show wX_search_58 post J (nI k) (n + 1) (nI i) f a1 a2 a3 a4 a5 a6 a7 a8 a9 a10
    refine pk_le 11 i (fun z => absurd z (by omega)) (fun _ => ⟨pk_in i 11 hi, ?_⟩)
    by_cases e : par i = 0
    · have hq11 : qe < 11 := by
        have := cl_cnt_lt e 11 hi
        rw [hI.2.2.2.2.1] at this
        exact this
      refine br_f (by rw [hci, e2 i hi]; exact (cl_e_0 e).2) ⟨pk_in k 11 (by omega), ?_⟩
      have e4 : (11 : Int32) * a10 (nI k).toNatClampNeg + nI i = nI (11 * q k + i) := by
        rw [hck, e3 k hk]
        exact cl_ix (q k) i
      refine ⟨pk_in (11 * q k + i) 121 (by omega) e4, ?_⟩
      have e5 : a8 ((11 : Int32) * a10 (nI k).toNatClampNeg + nI i).toNatClampNeg = nI (M (11 * q k + i)) := by
        rw [pk_cl (11 * q k + i) e4]
        exact h8 _ (by omega)
      refine pk_le (M (11 * q k + i)) 0 (fun z => ?_) (fun z => ?_) e5 rfl (hB _)
      · exact nm_r (nI_1 i) (hw (f, a9, a10) (cl_N_skip hk hS' hI hF1 hF2 (fun y => absurd y (by omega))))
      · refine ⟨pk_in k 11 (by omega), pk_in i 11 hi, fun b9 eb9 => ⟨pk_in qe 11 hq11 e1, fun b10 eb10 g eg => nm_r (nI_1 i) ?_⟩⟩
        have c9 : b9 = upd a9 i (nI (q k)) := by rw [eb9, hci, hck, e3 k hk]
        have c10 : b10 = upd a10 qe (nI i) := by rw [eb10, pk_cl qe e1]
        rw [c9, c10, eg]
        exact hw (f + 1, upd a9 i (nI (q k)), upd a10 qe (nI i)) (cl_N_add hi hk hS' hI hF1 hF2 e z)
    · refine br_t (by rw [hci, e2 i hi]; exact (cl_e_s e (hI.2.1 i hi e).1).2) ?_
      exact nm_r (nI_1 i) (hw (f, a9, a10) (cl_N_skip hk hS' hI hF1 hF2 (fun _ => e)))
theorem cl_s42 {post : St2 → Prop} {M : Nat → Nat} {st : Nat} {f : Int32} {a1 a2 a3 a4 a5 a6 a7 a8 a9 a10 : Nat → Int32}
    (h8 : ∀ j, j < 121 → a8 j = nI (M j)) (hB : ∀ j, M j < 2 ^ 31) (h : cl_O M st 0 f a9 a10)
    (H : ∀ f a9 a10 par, (∀ v, v < 11 → a9 v = cl_e (par v)) → cl_P M st par → post (f, a1, a2, a3, a4, a5, a6, a7, a8, a9, a10)) : ∃ n, wX_search_42 post n 0 f a1 a2 a3 a4 a5 a6 a7 a8 a9 a10 := by
  refine pk_loop (σ := Int32 × (Nat → Int32) × (Nat → Int32)) (fun n k s => wX_search_42 post n (nI k) s.1 a1 a2 a3 a4 a5 a6 a7 a8 s.2.1 s.2.2) (fun k s => cl_O M st k s.1 s.2.1 s.2.2) 11 0 (f, a9, a10) (by omega) h ?_ ?_
  · intro n s hO
    obtain ⟨f, a9, a10⟩ := s
    obtain ⟨qe, par, q, hk, hS, hI, hF⟩ := hO
    have hqe := cl_I_qe hI
    exact pk_le qe 11 (fun _ => H _ _ _ par hS.2.1 (cl_I_end hI (fun i hi => hF i (by omega)))) (fun z => absurd z (by omega)) hS.1
  · intro n k s hk11 hO hw
    obtain ⟨f, a9, a10⟩ := s
    obtain ⟨qe, par, q, hk, hS, hI, hF⟩ := hO
    have hqe := cl_I_qe hI
    refine pk_le qe k (fun z => H _ _ _ par hS.2.1 (cl_I_end hI (fun i hi => hF i (by omega)))) (fun z => pk_le 11 k (fun y => absurd y (by omega)) (fun _ => ?_)) hS.1
    exact cl_s58 h8 hB ⟨qe, par, q, z, hS, hI, hF, fun v hv => absurd hv (by omega)⟩ (fun f' b9 b10 hN => hw (f', b9, b10) (cl_N_O hN))
theorem cl_search {post : St2 → Prop} {M : Nat → Nat} {st : Nat} {x f : Int32} {a1 a2 a3 a4 a5 a6 a7 a8 a9 a10 : Nat → Int32} (hs : st < 11)
    (h8 : ∀ j, j < 121 → a8 j = nI (M j)) (hB : ∀ j, M j < 2 ^ 31)
    (H : ∀ f a9 a10 par, (∀ v, v < 11 → a9 v = cl_e (par v)) → cl_P M st par → post (f, a1, a2, a3, a4, a5, a6, a7, a8, a9, a10)) (hx : x = nI st) : wpX_search post (f, a1, a2, a3, a4, a5, a6, a7, a8, a9, a10) x := by
  have main : ∃ n, wX_search_2 post x f n 0 a1 a2 a3 a4 a5 a6 a7 a8 a9 a10 := by
    refine pk_loop (fun n i s => wX_search_2 post x f n (nI i) a1 a2 a3 a4 a5 a6 a7 a8 s a10) (fun i s => ∀ v, v < i → s v = -1) 11 0 a9 (by omega) (fun v hv => absurd hv (by omega)) ?_ ?_
    · intro n s hI
      refine pk_le 11 11 (fun _ => ⟨pk_in st 11 hs hx, fun b9 eb9 b10 eb10 => ?_⟩) (fun z => absurd z (by omega))
      refine cl_s42 h8 hB ⟨1, cl_up (fun _ => 0) st (st + 1), fun _ => st, by omega, ⟨rfl, ?_, ?_⟩, cl_I_0 M hs, fun i hi => absurd hi (by omega)⟩ H
      · intro v hv
        rw [eb9, pk_cl st hx]
        by_cases e : v = st
        · rw [e, pk_us, cl_us, cl_e_u, hx]
        · rw [pk_un e, cl_un e, hI v hv]
          rfl
      · intro i hi
        rw [eb10, show i = 0 by omega, pk_us, hx]
    · intro n i s hi hI hw
      refine pk_le 11 i (fun z => absurd z (by omega)) (fun _ => ⟨pk_in i 11 hi, fun b9 eb9 => nm_r (nI_1 i) (hw b9 ?_)⟩)
      intro v hv
      rw [eb9, nI_clamp (show i < 2 ^ 31 by omega)]
      by_cases e : v = i
      · rw [e, pk_us]
      · rw [pk_un e]
        exact hI v (by omega)
  exact main
end
section
/-! ===== narrowest, the way back, fill ===== -/
theorem cl_nar1 {post : Int32 → Prop} {f : Int32} {a1 a2 a3 a4 a5 a6 a7 a8 a9 a10 : Nat → Int32} {n t s l r u : Nat} (h9 : a9 t = nI u) (hu : u < 11) (ht : t < 11) (hn : t ≠ 9) (hs : s < 11) (h8 : a8 (11 * u + t) = nI r) (hl : l < 2 ^ 31) (hr : r < 2 ^ 31)
    (H : wX_narrowest_8 post f a1 a2 a3 a4 a5 a6 a7 a8 a9 a10 n (nI (min l r)) (nI u) (nI (s + 1))) : wX_narrowest_8 post f a1 a2 a3 a4 a5 a6 a7 a8 a9 a10 (n + 1) (nI l) (nI t) (nI s) := by
  have ht' : (nI t).toNatClampNeg = t := nI_clamp (by omega)
  have e4 : (11 : Int32) * a9 (nI t).toNatClampNeg + nI t = nI (11 * u + t) := by
    rw [ht', h9]
    exact cl_ix u t
  have e5 : a8 ((11 : Int32) * a9 (nI t).toNatClampNeg + nI t).toNatClampNeg = nI r := by
    rw [pk_cl (11 * u + t) e4]
    exact h8
  have e6 : a9 (nI t).toNatClampNeg = nI u := by rw [ht', h9]
  refine pk_le 11 s (fun z => absurd z (by omega)) (fun _ => pk_eq t 9 (fun z => absurd z hn) (fun _ => ⟨pk_in t 11 ht, pk_in (11 * u + t) 121 (by omega) e4, nm_r e5 (pk_le l r (fun z => ?_) (fun z => ?_))⟩))
  · rw [show min l r = l by omega] at H
    exact ⟨pk_in t 11 ht, nm_r e6 (nm_r (nI_1 s) H)⟩
  · rw [show min l r = r by omega] at H
    exact ⟨pk_in t 11 ht, nm_r e6 (nm_r (nI_1 s) H)⟩
theorem cl_nar {post : Int32 → Prop} {f : Int32} {a1 a2 a3 a4 a5 a6 a7 a8 a9 a10 : Nat → Int32} {p a b : Nat} (hp : p ≤ 8) (ha : a ≤ 1000000) (hb : b ≤ 1000000) (h8 : ∀ k, k < 121 → a8 k = nI (cl_R p a b 0 0 k)) (h10 : a9 10 = nI p) (h9 : a9 p = nI 9) (H : post (nI (min a b))) : wpX_narrowest post (f, a1, a2, a3, a4, a5, a6, a7, a8, a9, a10) := by
  have g2 : wX_narrowest_8 post f a1 a2 a3 a4 a5 a6 a7 a8 a9 a10 (0 + 1) (nI (min (min 1000000 b) a)) (nI 9) (nI (0 + 1 + 1)) := by
    rw [show min (min 1000000 b) a = min a b by omega]
    exact pk_le 11 (0 + 1 + 1) (fun z => absurd z (by omega)) (fun _ => pk_eq 9 9 (fun _ => H) (fun z => absurd rfl z))
  have g1 : wX_narrowest_8 post f a1 a2 a3 a4 a5 a6 a7 a8 a9 a10 (0 + 1 + 1) (nI (min 1000000 b)) (nI p) (nI (0 + 1)) :=
    cl_nar1 h9 (by omega) (by omega) (by omega) (by omega) (by rw [h8 _ (by omega), cl_R_a (by omega)]) (by omega) (by omega) g2
  have g0 : wX_narrowest_8 post f a1 a2 a3 a4 a5 a6 a7 a8 a9 a10 (0 + 1 + 1 + 1) (nI 1000000) (nI 10) (nI 0) :=
    cl_nar1 h10 (by omega) (by omega) (by omega) (by omega) (by rw [h8 _ (by omega), cl_R_b hp rfl]) (by omega) (by omega) g1
  exact ⟨0 + 1 + 1 + 1, g0⟩
theorem cl_f39 {post : Int32 → St2 → Prop} {J : Int32 → Int32 → Int32 → (Nat → Int32) → (Nat → Int32) → (Nat → Int32) → (Nat → Int32) → (Nat → Int32) → (Nat → Int32) → (Nat → Int32) → (Nat → Int32) → (Nat → Int32) → (Nat → Int32) → Prop} {x1 x2 x3 f : Int32} {a1 a2 a3 a4 a5 a6 a7 a8 a9 a10 : Nat → Int32} {n t s u : Nat} (h9 : a9 t = nI u) (hu : u < 11) (ht : t < 11) (hn : t ≠ 9) (hs : s < 11)
    (H : ∀ b8 b8', b8 = upd a8 (11 * u + t) (a8 (11 * u + t) - x3) → b8' = upd b8 (11 * t + u) (b8 (11 * t + u) + x3) → wX_fill_39 post J x1 x2 x3 f n (nI u) (nI (s + 1)) a1 a2 a3 a4 a5 a6 a7 b8' a9 a10) : wX_fill_39 post J x1 x2 x3 f (n + 1) (nI t) (nI s) a1 a2 a3 a4 a5 a6 a7 a8 a9 a10 := by
  have e6 : a9 (nI t).toNatClampNeg = nI u := by rw [nI_clamp (by omega), h9]
  have e1 : (11 : Int32) * nI u + nI t = nI (11 * u + t) := cl_ix u t
  have e2 : (11 : Int32) * nI t + nI u = nI (11 * t + u) := cl_ix t u
  refine pk_le 11 s (fun z => absurd z (by omega)) (fun _ => pk_eq t 9 (fun z => absurd z hn) (fun _ => ⟨pk_in t 11 ht, nm_r e6 ⟨pk_in (11 * u + t) 121 (by omega) e1, pk_in (11 * u + t) 121 (by omega) e1, fun b8 eb => ⟨pk_in (11 * t + u) 121 (by omega) e2, pk_in (11 * t + u) 121 (by omega) e2, fun b8' eb' => nm_r (nI_1 s) (H b8 b8' ?_ ?_)⟩⟩⟩))
  · rw [eb, pk_cl (11 * u + t) e1]
  · rw [eb', pk_cl (11 * t + u) e2]
/-- the rooms behind one way of flow m -/
theorem cl_aug {a8 b1 b2 b3 b4 : Nat → Int32} {p a b m : Nat} (hp : p ≤ 8) (hma : m ≤ a) (hmb : m ≤ b) (h8 : ∀ k, k < 121 → a8 k = nI (cl_R p a b 0 0 k))
    (e1 : b1 = upd a8 (11 * p + 10) (a8 (11 * p + 10) - nI m)) (e2 : b2 = upd b1 (11 * 10 + p) (b1 (11 * 10 + p) + nI m)) (e3 : b3 = upd b2 (11 * 9 + p) (b2 (11 * 9 + p) - nI m)) (e4 : b4 = upd b3 (11 * p + 9) (b3 (11 * p + 9) + nI m)) :
    ∀ k, k < 121 → b4 k = nI (cl_R p (a - m) (b - m) m m k) := by
  have v1 : a8 (11 * p + 10) = nI b := by rw [h8 _ (by omega), cl_R_b hp rfl]
  have v2 : b1 (11 * 10 + p) = nI 0 := by rw [e1, pk_un (by omega), h8 _ (by omega), cl_R_d hp (by omega)]
  have v3 : b2 (11 * 9 + p) = nI a := by rw [e2, pk_un (by omega), e1, pk_un (by omega), h8 _ (by omega), cl_R_a (by omega)]
  have v4 : b3 (11 * p + 9) = nI 0 := by rw [e3, pk_un (by omega), e2, pk_un (by omega), e1, pk_un (by omega), h8 _ (by omega), cl_R_c hp rfl]
  rw [v1, pk_sub hmb] at e1
  rw [v2, nI_add, Nat.zero_add] at e2
  rw [v3, pk_sub hma] at e3
  rw [v4, nI_add, Nat.zero_add] at e4
  intro k hk
  by_cases c4 : k = 11 * p + 9
  · rw [cl_R_c hp c4, e4, c4, pk_us]
  · rw [e4, pk_un c4]
    by_cases c3 : k = 11 * 9 + p
    · rw [cl_R_a (by omega), e3, c3, pk_us]
    · rw [e3, pk_un c3]
      by_cases c2 : k = 11 * 10 + p
      · rw [cl_R_d hp (by omega), e2, c2, pk_us]
      · rw [e2, pk_un c2]
        by_cases c1 : k = 11 * p + 10
        · rw [cl_R_b hp c1, e1, c1, pk_us]
        · rw [e1, pk_un c1, h8 k hk, cl_R_n (by omega) c1 c4 (by omega), cl_R_n (by omega) c1 c4 (by omega)]
theorem cl_fill {post : Int32 → St2 → Prop} {f : Int32} {a1 a2 a3 a4 a5 a6 a7 a8 a9 a10 : Nat → Int32} {p a b : Nat} (hp : p ≤ 8) (ha : a ≤ 1000000) (hb : b ≤ 1000000) (h8 : ∀ k, k < 121 → a8 k = nI (cl_R p a b 0 0 k))
    (H : ∀ f b8 b9 b10, (∀ k, k < 121 → b8 k = nI (cl_R p (a - min a b) (b - min a b) (min a b) (min a b) k)) → post (nI (min a b)) (f, a1, a2, a3, a4, a5, a6, a7, b8, b9, b10)) : wpX_fill post (f, a1, a2, a3, a4, a5, a6, a7, a8, a9, a10) := by
  unfold wpX_fill
  refine cl_search (M := cl_R p a b 0 0) (st := 9) (by omega) h8 (fun j => Nat.lt_of_le_of_lt (cl_R_le ha hb (Nat.zero_le _) (Nat.zero_le _) j) (by omega)) (fun f b9 b10 par e9 hP => ?_) rfl
  show ∃ n, wX_fill_10 post n 0 0 f a1 a2 a3 a4 a5 a6 a7 a8 b9 b10
  by_cases hz : a = 0 ∨ b = 0
  · have h0 : b9 10 < 0 := by
      rw [e9 10 (by omega)]
      exact (cl_e_0 (cl_P9_no hp hP hz)).1
    have hm : min a b = 0 := by omega
    have H' := H f a8 b9 b10 (by rw [hm]; exact h8)
    rw [hm] at H'
    exact ⟨0 + 1, pk_le 1000 0 (fun z => absurd z (by omega)) (fun _ => br_t h0 H')⟩
  · obtain ⟨y10, yp⟩ := cl_P9_yes hp hP (by omega) (by omega)
    have h10 : b9 10 = nI p := by rw [e9 10 (by omega), y10, cl_e_u]
    have h9 : b9 p = nI 9 := by rw [e9 p (by omega), yp, cl_e_u]
    have hm1 : min a b ≤ a := by omega
    have hm2 : min a b ≤ b := by omega
    have hm3 : a - min a b = 0 ∨ b - min a b = 0 := by omega
    have hm4 : min a b ≤ 1000000 := by omega
    have hN : ¬ b9 10 < 0 := by
      rw [h10]
      exact nI_pos (by omega)
    generalize hm : min a b = m at H hm1 hm2 hm3 hm4
    refine ⟨0 + 1 + 1, pk_le 1000 0 (fun z => absurd z (by omega)) (fun _ => br_f hN (cl_nar hp ha hb h8 h10 h9 ?_))⟩
    rw [hm]
    refine ⟨0 + 1 + 1 + 1, cl_f39 (t := 10) (s := 0) h10 (by omega) (by omega) (by omega) (by omega) (fun c1 c2 e1 e2 => cl_f39 h9 (by omega) (by omega) (by omega) (by omega) (fun c3 c4 e3 e4 => ?_))⟩
    have h8' := cl_aug hp hm1 hm2 h8 e1 e2 e3 e4
    refine pk_le 11 (0 + 1 + 1) (fun z => absurd z (by omega)) (fun _ => pk_eq 9 9 (fun _ => ?_) (fun z => absurd rfl z))
    refine nm_r (Int32.zero_add (nI m)) ?_
    refine cl_search (M := cl_R p (a - m) (b - m) m m) (st := 9) (by omega) h8' (fun j => Nat.lt_of_le_of_lt (cl_R_le (N := 1000000) (by omega) (by omega) hm4 hm4 j) (by omega)) (fun f' d9 d10 par' e9' hP' => ?_) rfl
    refine nm_r (nI_1 0) ?_
    have h0 : d9 10 < 0 := by
      rw [e9' 10 (by omega)]
      exact (cl_e_0 (cl_P9_no hp hP' hm3)).1
    exact pk_le 1000 (0 + 1) (fun z => absurd z (by omega)) (fun _ => br_t h0 (H f' c4 d9 d10 h8'))
end
section
/-! ===== the calls of the law ===== -/
theorem cl_isP_f {post : Int32 → Prop} {x : Int32} (h : x < 0 ∨ 8 < x) (H : post 0) : wpX_isPlace post () x := by
  by_cases z : x < 0
  · exact br_t z H
  · exact br_f z (br_t (h.resolve_left z) H)
theorem cl_isP_t {post : Int32 → Prop} {x : Int32} (h : ¬ (x < 0 ∨ 8 < x)) (H : post 1) : wpX_isPlace post () x :=
  br_f (fun z => h (Or.inl z)) (br_f (fun z => h (Or.inr z)) H)
theorem cl_isC_f {post : Int32 → Prop} {x : Int32} (h : x < 0 ∨ 100 < x) (H : post 0) : wpX_isCost post () x := by
  by_cases z : x < 0
  · exact br_t z H
  · exact br_f z (br_t (h.resolve_left z) H)
theorem cl_isC_t {post : Int32 → Prop} {x : Int32} (h : ¬ (x < 0 ∨ 100 < x)) (H : post 1) : wpX_isCost post () x :=
  br_f (fun z => h (Or.inl z)) (br_f (fun z => h (Or.inr z)) H)
theorem cl_10 : ¬ (1 : Int32) = 0 := by decide
theorem cl_cost_f {post : Int32 → St2 → Prop} {f : Int32} {a1 a2 a3 a4 a5 a6 a7 a8 a9 a10 : Nat → Int32} {x0 x1 x2 : Int32} (h : (x0 < 0 ∨ 8 < x0) ∨ (x1 < 0 ∨ 100 < x1) ∨ (x2 < 0 ∨ 100 < x2)) (H : post (-1) (f, a1, a2, a3, a4, a5, a6, a7, a8, a9, a10)) : wpX_cost post (f, a1, a2, a3, a4, a5, a6, a7, a8, a9, a10) x0 x1 x2 := by
  unfold wpX_cost
  by_cases h0 : x0 < 0 ∨ 8 < x0
  · exact cl_isP_f h0 (br_t rfl H)
  · refine cl_isP_t h0 (br_f cl_10 ?_)
    by_cases h1 : x1 < 0 ∨ 100 < x1
    · exact cl_isC_f h1 (br_t rfl H)
    · refine cl_isC_t h1 (br_f cl_10 ?_)
      exact cl_isC_f ((h.resolve_left h0).resolve_left h1) (br_t rfl H)
theorem cl_cost_t {post : Int32 → St2 → Prop} {f : Int32} {a1 a2 a3 a4 a5 a6 a7 a8 a9 a10 : Nat → Int32} {p : Nat} {x0 x1 x2 : Int32} (hp : p ≤ 8) (e0 : x0 = nI p) (h0 : ¬ (x0 < 0 ∨ 8 < x0)) (h1 : ¬ (x1 < 0 ∨ 100 < x1)) (h2 : ¬ (x2 < 0 ∨ 100 < x2)) (H : post 0 (f, upd a1 p x1, upd a2 p x2, a3, a4, a5, a6, a7, a8, a9, a10)) : wpX_cost post (f, a1, a2, a3, a4, a5, a6, a7, a8, a9, a10) x0 x1 x2 := by
  unfold wpX_cost
  have ec : x0.toNatClampNeg = p := pk_cl p e0
  refine cl_isP_t h0 (br_f cl_10 (cl_isC_t h1 (br_f cl_10 (cl_isC_t h2 (br_f cl_10 ⟨pk_in p 9 (by omega) e0, nm_r (e' := upd a1 p x1) (by rw [ec]) ⟨pk_in p 9 (by omega) e0, nm_r (e' := upd a2 p x2) (by rw [ec]) H⟩⟩)))))
/-! energy -/
theorem cl_sh : ∀ l, l < 32 → ((1 : Int32) <<< (nI l &&& 31)).toBitVec = BitVec.twoPow 32 l := by decide +kernel
theorem cl_sl : ∀ l, l < 32 → (((nI l).toUInt32 &&& Int32.toUInt32 31).toBitVec % 32).toNat = l := by decide +kernel
theorem cl_tp : ∀ l, l < 32 → BitVec.twoPow 32 l ≠ 0#32 := by decide +kernel
theorem cl_bit (m : Int32) (l : Nat) (hl : l < 32) : ((m.toUInt32 >>> ((nI l).toUInt32 &&& Int32.toUInt32 31)).toInt32 &&& 1) = 0 ↔ (m &&& ((1 : Int32) <<< (nI l &&& 31))) = 0 := by
  have e : ((m.toUInt32 >>> ((nI l).toUInt32 &&& Int32.toUInt32 31)).toInt32).toBitVec = m.toBitVec >>> l := by
    show m.toBitVec >>> (((nI l).toUInt32 &&& Int32.toUInt32 31).toBitVec % 32) = m.toBitVec >>> l
    rw [BitVec.ushiftRight_eq', cl_sl l hl]
  rw [← Int32.toBitVec_inj, ← Int32.toBitVec_inj, Int32.toBitVec_and, Int32.toBitVec_and, cl_sh l hl, e, BitVec.and_twoPow]
  show (m.toBitVec >>> l &&& 1#32) = 0#32 ↔ _ = 0#32
  rw [BitVec.and_one_eq_setWidth_ofBool_getLsbD, BitVec.getLsbD_ushiftRight, Nat.add_zero]
  cases hb : m.toBitVec.getLsbD l
  · exact ⟨fun _ => by simp, fun _ => by decide⟩
  · exact ⟨fun z => absurd z (by decide), fun z => absurd ((if_pos rfl).symm.trans z) (cl_tp l hl)⟩
/-- the bit of place p -/
def cl_B (p : Nat) : Int32 := (1 : Int32) <<< (nI p &&& 31)
theorem cl_e44 {post : Int32 → Prop} {w f v : Int32} {a1 a2 a3 a4 a5 a6 a7 a8 a9 a10 : Nat → Int32} (h3 : ∀ t, t < 16 → a3 t = 0) (H : post v) : ∃ n, wX_energy_44 post w f a1 a2 a3 a4 a5 a6 a7 a8 a9 a10 n v 0 := by
  refine pk_loop (σ := Unit) (fun n i _ => wX_energy_44 post w f a1 a2 a3 a4 a5 a6 a7 a8 a9 a10 n v (nI i)) (fun _ _ => True) 16 0 () (by omega) trivial ?_ ?_
  · intro n _ _
    exact pk_le 16 16 (fun _ => H) (fun z => absurd z (by omega))
  · intro n i _ hi _ hw
    have e3 : a3 (nI i).toNatClampNeg = 0 := by
      rw [nI_clamp (by omega)]
      exact h3 i hi
    refine pk_le 16 i (fun z => absurd z (by omega)) (fun _ => ⟨pk_in i 16 hi, nm_e ⟨pk_in i 16 hi, nm_e ⟨pk_in i 16 hi, br_t e3 ?_⟩⟩⟩)
    unfold wX_energy_100 wX_energy_101
    exact nm_r (Int32.add_zero v) ⟨pk_in i 16 hi, br_t e3 (nm_r (Int32.add_zero v) (nm_r (nI_1 i) (hw () trivial)))⟩
theorem cl_energy {post : Int32 → Prop} {w f : Int32} {a1 a2 a3 a4 a5 a6 a7 a8 a9 a10 : Nat → Int32} {p x y : Nat} (K : cl_K p x y a1 a2 a3) (H : post (if w &&& cl_B p = 0 then nI x else nI y)) : wpX_energy post (f, a1, a2, a3, a4, a5, a6, a7, a8, a9, a10) w := by
  obtain ⟨hp, hx, hy, k1, k2, k3⟩ := K
  have main : ∃ n, wX_energy_4 post w f a1 a2 a3 a4 a5 a6 a7 a8 a9 a10 n 0 0 := by
    refine pk_loop (fun n i s => wX_energy_4 post w f a1 a2 a3 a4 a5 a6 a7 a8 a9 a10 n s (nI i)) (fun i s => s = if p < i then (if w &&& cl_B p = 0 then nI x else nI y) else 0) 9 0 0 (by omega) ?_ ?_ ?_
    · rw [if_neg (by omega)]
    · intro n s hI
      rw [if_pos (by omega)] at hI
      rw [← hI] at H
      exact pk_le 9 9 (fun _ => cl_e44 k3 H) (fun z => absurd z (by omega))
    · intro n i s hi hI hw
      have hc : (nI i).toNatClampNeg = i := nI_clamp (by omega)
      refine pk_le 9 i (fun z => absurd z (by omega)) (fun _ => ek_if (cl_bit w i (by omega)) (fun d => ⟨pk_in i 9 hi, fun s' es => nm_r (nI_1 i) (hw s' ?_)⟩) (fun d => ⟨pk_in i 9 hi, fun s' es => nm_r (nI_1 i) (hw s' ?_)⟩))
      · rw [es, hc, k1 i hi, hI]
        by_cases e : i = p
        · subst e
          rw [if_neg (Nat.lt_irrefl i), if_pos rfl, if_pos (Nat.lt_succ_self i), if_pos (show w &&& cl_B i = 0 from d), Int32.zero_add]
        · rw [if_neg e, Int32.add_zero]
          by_cases e' : p < i
          · rw [if_pos e', if_pos (show p < i + 1 by omega)]
          · rw [if_neg e', if_neg (show ¬ p < i + 1 by omega)]
      · rw [es, hc, k2 i hi, hI]
        by_cases e : i = p
        · subst e
          rw [if_neg (Nat.lt_irrefl i), if_pos rfl, if_pos (Nat.lt_succ_self i), if_neg (show ¬ w &&& cl_B i = 0 from d), Int32.zero_add]
        · rw [if_neg e, Int32.add_zero]
          by_cases e' : p < i
          · rw [if_pos e', if_pos (show p < i + 1 by omega)]
          · rw [if_neg e', if_neg (show ¬ p < i + 1 by omega)]
  exact main
/-! least, lower, upper, with -/
theorem cl_least {post : Int32 → St2 → Prop} {f : Int32} {a1 a2 a3 a4 a5 a6 a7 a8 a9 a10 : Nat → Int32} {p x y : Nat} (K : cl_K p x y a1 a2 a3) (H : ∀ f b8 b9 b10, post (nI (min y x)) (f, a1, a2, a3, a4, a5, a6, a7, b8, b9, b10)) : wpX_least post (f, a1, a2, a3, a4, a5, a6, a7, a8, a9, a10) := by
  have hx := K.2.1
  have hy := K.2.2.1
  unfold wpX_least
  refine cl_buildK K (fun s hs => ?_)
  exact cl_fill (p := p) (a := y) (b := x) K.1 (by omega) (by omega) hs (fun f b8 b9 b10 _ => H f b8 b9 b10)
def cl_lo (p b i : Nat) : Int32 := if p < i ∧ 0 < b then cl_B p else 0
theorem cl_l13 {post : Int32 → St2 → Prop} {f : Int32} {a1 a2 a3 a4 a5 a6 a7 a8 a9 a10 : Nat → Int32} {p a b c d : Nat} (hp : p ≤ 8) (ha : a ≤ 1000000) (hb : b ≤ 1000000) (hc : c ≤ 1000000) (hd : d ≤ 1000000) (h8 : ∀ k, k < 121 → a8 k = nI (cl_R p a b c d k))
    (H : ∀ f b9 b10, post (cl_lo p b 9) (f, a1, a2, a3, a4, a5, a6, a7, a8, b9, b10)) : ∃ n, wX_lower_13 post n 0 0 f a1 a2 a3 a4 a5 a6 a7 a8 a9 a10 := by
  refine pk_loop (σ := Int32 × Int32 × (Nat → Int32) × (Nat → Int32)) (fun n i s => wX_lower_13 post n s.1 (nI i) s.2.1 a1 a2 a3 a4 a5 a6 a7 a8 s.2.2.1 s.2.2.2) (fun i s => s.1 = cl_lo p b i) 9 0 (0, f, a9, a10) (by omega) ?_ ?_ ?_
  · show (0 : Int32) = cl_lo p b 0
    unfold cl_lo
    rw [if_neg (by omega)]
  · intro n s hI
    obtain ⟨v, f, a9, a10⟩ := s
    have hv : v = cl_lo p b 9 := hI
    have H' := H f a9 a10
    rw [← hv] at H'
    exact pk_le 9 9 (fun _ => H') (fun z => absurd z (by omega))
  · intro n i s hi hI hw
    obtain ⟨v, f, a9, a10⟩ := s
    have hv : v = cl_lo p b i := hI
    refine pk_le 9 i (fun z => absurd z (by omega)) (fun _ => ?_)
    refine cl_search (M := cl_R p a b c d) (st := i) (by omega) h8 (fun j => Nat.lt_of_le_of_lt (cl_R_le ha hb hc hd j) (by omega)) (fun f b9 b10 par e9 hP => ?_) rfl
    have hiff := cl_Ps hp (by omega) hP
    by_cases e : par 10 = 0
    · have h0 : b9 10 < 0 := by
        rw [e9 10 (by omega)]
        exact (cl_e_0 e).1
      refine br_t h0 (nm_r Int32.or_zero (nm_r (nI_1 i) (hw (v, f, b9, b10) ?_)))
      show v = cl_lo p b (i + 1)
      have hn : ¬ (i = p ∧ 0 < b) := fun z => hiff.mpr z e
      rw [hv]
      unfold cl_lo
      by_cases c : p < i ∧ 0 < b
      · rw [if_pos c, if_pos (by omega)]
      · rw [if_neg c, if_neg (by omega)]
    · have h0 : ¬ b9 10 < 0 := by
        rw [e9 10 (by omega)]
        exact (cl_e_s e (hP.2.1 10 (by omega) e).1).1
      obtain ⟨ei, hb0⟩ := hiff.mp e
      have hv0 : v = 0 := by
        rw [hv]
        unfold cl_lo
        rw [if_neg (by omega)]
      refine br_f h0 (nm_r (e' := cl_B p) ?_ (nm_r (nI_1 i) (hw (cl_B p, f, b9, b10) ?_)))
      · rw [hv0, ei, Int32.zero_or]
        rfl
      · show cl_B p = cl_lo p b (i + 1)
        unfold cl_lo
        rw [if_pos (by omega)]
theorem cl_lower {post : Int32 → St2 → Prop} {f : Int32} {a1 a2 a3 a4 a5 a6 a7 a8 a9 a10 : Nat → Int32} {p x y : Nat} (K : cl_K p x y a1 a2 a3) (H : ∀ f b8 b9 b10, post (cl_lo p (x - min y x) 9) (f, a1, a2, a3, a4, a5, a6, a7, b8, b9, b10)) : wpX_lower post (f, a1, a2, a3, a4, a5, a6, a7, a8, a9, a10) := by
  have hx := K.2.1
  have hy := K.2.2.1
  unfold wpX_lower
  refine cl_buildK K (fun s hs => ?_)
  refine cl_fill (p := p) (a := y) (b := x) K.1 (by omega) (by omega) hs (fun f b8 b9 b10 h8 => ?_)
  exact cl_l13 K.1 (by omega) (by omega) (by omega) (by omega) h8 (fun f b9 b10 => H f b8 b9 b10)
def cl_uv (p : Nat) (t : Bool) (i : Nat) : Int32 := nI (2 ^ i - 1 - (if (decide (p < i) && t) = true then 2 ^ p else 0))
theorem cl_uv_t : ∀ i, i < 9 → cl_uv i true i ||| 0 = cl_uv i true (i + 1) := by decide +kernel
theorem cl_uv_f : ∀ i, i < 9 → ∀ p, p < 9 → ∀ t : Bool, (decide (i = p) && t) = false → cl_uv p t i ||| ((1 : Int32) <<< (nI i &&& 31)) = cl_uv p t (i + 1) := by decide +kernel
theorem cl_uv_e : ∀ p, p < 9 → cl_uv p true 9 = 511 &&& (cl_B p ^^^ (-1)) ∧ cl_uv p false 9 = 511 := by decide +kernel
theorem cl_u19 {post : Int32 → St2 → Prop} {f : Int32} {a1 a2 a3 a4 a5 a6 a7 a8 a9 a10 : Nat → Int32} {p a b c d : Nat} {par : Nat → Nat} (hp : p ≤ 8) (hz : a = 0 ∨ b = 0) (e9 : ∀ v, v < 11 → a9 v = cl_e (par v)) (hP : cl_P (cl_R p a b c d) 9 par)
    (H : post (cl_uv p (decide (0 < a)) 9) (f, a1, a2, a3, a4, a5, a6, a7, a8, a9, a10)) : ∃ n, wX_upper_19 post f a1 a2 a3 a4 a5 a6 a7 a8 a9 a10 n 0 0 := by
  refine pk_loop (fun n i s => wX_upper_19 post f a1 a2 a3 a4 a5 a6 a7 a8 a9 a10 n s (nI i)) (fun i s => s = cl_uv p (decide (0 < a)) i) 9 0 0 (by omega) ?_ ?_ ?_
  · show (0 : Int32) = cl_uv p (decide (0 < a)) 0
    unfold cl_uv
    rw [show 2 ^ 0 - 1 = 0 from rfl, Nat.zero_sub, nI_0]
  · intro n s hI
    have hv : s = cl_uv p (decide (0 < a)) 9 := hI
    rw [← hv] at H
    exact pk_le 9 9 (fun _ => H) (fun z => absurd z (by omega))
  · intro n i s hi hI hw
    have hv : s = cl_uv p (decide (0 < a)) i := hI
    have hc : (nI i).toNatClampNeg = i := nI_clamp (by omega)
    refine pk_le 9 i (fun z => absurd z (by omega)) (fun _ => ⟨pk_in i 11 (by omega), ?_⟩)
    by_cases e : par i = 0
    · have h0 : ¬ 0 ≤ a9 (nI i).toNatClampNeg := by
        rw [hc, e9 i (by omega)]
        exact (cl_e_0 e).2
      have hn : (decide (i = p) && decide (0 < a)) = false := by
        by_cases z : i = p
        · by_cases z' : 0 < a
          · rw [z] at e
            exact absurd e (cl_P9_p hp hP z')
          · rw [decide_eq_false z', Bool.and_false]
        · rw [decide_eq_false z, Bool.false_and]
      refine br_f h0 (nm_r (e' := cl_uv p (decide (0 < a)) (i + 1)) ?_ (nm_r (nI_1 i) (hw _ rfl)))
      rw [hv]
      exact cl_uv_f i hi p (by omega) _ hn
    · have h0 : 0 ≤ a9 (nI i).toNatClampNeg := by
        rw [hc, e9 i (by omega)]
        exact (cl_e_s e (hP.2.1 i (by omega) e).1).2
      have hin := cl_P9_in hp hP hz (show i < 11 by omega) e
      have hip : i = p := by omega
      have ha : 0 < a := by omega
      refine br_t h0 (nm_r (e' := cl_uv p (decide (0 < a)) (i + 1)) ?_ (nm_r (nI_1 i) (hw _ rfl)))
      rw [hv, decide_eq_true ha, ← hip]
      exact cl_uv_t i hi
theorem cl_upper {post : Int32 → St2 → Prop} {f : Int32} {a1 a2 a3 a4 a5 a6 a7 a8 a9 a10 : Nat → Int32} {p x y : Nat} (K : cl_K p x y a1 a2 a3) (H : ∀ f b8 b9 b10, post (cl_uv p (decide (0 < y - min y x)) 9) (f, a1, a2, a3, a4, a5, a6, a7, b8, b9, b10)) : wpX_upper post (f, a1, a2, a3, a4, a5, a6, a7, a8, a9, a10) := by
  have hx := K.2.1
  have hy := K.2.2.1
  unfold wpX_upper
  refine cl_buildK K (fun s hs => ?_)
  refine cl_fill (p := p) (a := y) (b := x) K.1 (by omega) (by omega) hs (fun f b8 b9 b10 h8 => ?_)
  refine cl_search (M := cl_R p (y - min y x) (x - min y x) (min y x) (min y x)) (st := 9) (by omega) h8 (fun j => Nat.lt_of_le_of_lt (cl_R_le (N := 1000000) (by omega) (by omega) (by omega) (by omega) j) (by omega)) (fun f b9 b10 par e9 hP => ?_) rfl
  exact cl_u19 K.1 (by omega) e9 hP (H f b8 b9 b10)
theorem cl_with_f {post : Int32 → St2 → Prop} {f : Int32} {a1 a2 a3 a4 a5 a6 a7 a8 a9 a10 : Nat → Int32} {x0 w : Int32} (h : x0 < 0 ∨ 8 < x0) (H : post (-1) (f, a1, a2, a3, a4, a5, a6, a7, a8, a9, a10)) : wpX_with post (f, a1, a2, a3, a4, a5, a6, a7, a8, a9, a10) x0 w := by
  unfold wpX_with
  exact cl_isP_f h (br_t rfl H)
theorem cl_R_upA {s : Nat → Int32} {p a b N : Nat} (hs : ∀ k, k < 121 → s k = nI (cl_R p a b 0 0 k)) : ∀ k, k < 121 → upd s (99 + p) (nI N) k = nI (cl_R p N b 0 0 k) := by
  intro k hk
  rw [cl_R_0]
  by_cases e : k = 99 + p
  · rw [if_pos e, e, pk_us]
  · rw [if_neg e, pk_un e, hs k hk, cl_R_0, if_neg e]
theorem cl_R_upB {s : Nat → Int32} {p a b N : Nat} (hp : p ≤ 8) (hs : ∀ k, k < 121 → s k = nI (cl_R p a b 0 0 k)) : ∀ k, k < 121 → upd s (11 * p + 10) (nI N) k = nI (cl_R p a N 0 0 k) := by
  intro k hk
  by_cases e : k = 11 * p + 10
  · rw [cl_R_b hp e, e, pk_us]
  · rw [pk_un e, hs k hk, cl_R_0, cl_R_0, if_neg e, if_neg e]
theorem cl_with_t {post : Int32 → St2 → Prop} {f : Int32} {a1 a2 a3 a4 a5 a6 a7 a8 a9 a10 : Nat → Int32} {p x y : Nat} {x0 w : Int32} (K : cl_K p x y a1 a2 a3) (e0 : x0 = nI p) (h0 : ¬ (x0 < 0 ∨ 8 < x0)) (H : ∀ f b8 b9 b10, post (if w &&& 1 = 0 then nI x else nI y) (f, a1, a2, a3, a4, a5, a6, a7, b8, b9, b10)) : wpX_with post (f, a1, a2, a3, a4, a5, a6, a7, a8, a9, a10) x0 w := by
  have hp := K.1
  have hx := K.2.1
  have hy := K.2.2.1
  have e1 : (99 : Int32) + x0 = nI (99 + p) := by
    rw [e0]
    exact nI_add 99 p
  have e2 : (11 : Int32) * x0 + 10 = nI (11 * p + 10) := by
    rw [e0]
    exact cl_ix p 10
  unfold wpX_with
  refine cl_isP_t h0 (br_f cl_10 (cl_buildK K (fun s hs => ?_)))
  by_cases hw : w &&& 1 = 0
  · rw [if_pos hw] at H
    refine br_t hw ⟨pk_in (99 + p) 121 (by omega) e1, nm_r (e' := upd s (99 + p) (nI 1000000)) (by rw [pk_cl (99 + p) e1]; rfl) ?_⟩
    refine cl_fill (p := p) (a := 1000000) (b := x) hp (by omega) (by omega) (cl_R_upA hs) (fun f b8 b9 b10 _ => ?_)
    rw [show min 1000000 x = x by omega]
    exact H f b8 b9 b10
  · rw [if_neg hw] at H
    refine br_f hw ⟨pk_in (11 * p + 10) 121 (by omega) e2, nm_r (e' := upd s (11 * p + 10) (nI 1000000)) (by rw [pk_cl (11 * p + 10) e2]; rfl) ?_⟩
    refine cl_fill (p := p) (a := y) (b := 1000000) hp (by omega) (by omega) (cl_R_upB hp hs) (fun f b8 b9 b10 _ => ?_)
    rw [show min y 1000000 = y by omega]
    exact H f b8 b9 b10
end
section
/-! ===== the law, from its end to its start ===== -/
theorem cl_B_ne : ∀ p, p < 9 → ¬ cl_B p = 0 := by decide +kernel
/-- the bit the law takes: that of a real place p, or 0 where the place is none (and then there are no costs) -/
def cl_Q (p x y : Nat) (x0 B : Int32) : Prop := (x0 = nI p ∧ ¬ (x0 < 0 ∨ 8 < x0) ∧ B = cl_B p) ∨ ((x0 < 0 ∨ 8 < x0) ∧ B = 0 ∧ x = 0 ∧ y = 0)
theorem cl_206 {post : Int32 → St0 → Prop} {mc ms kc ks p x y : Nat} {x0 w B z z' f : Int32} {a1 a2 a3 a4 a5 a6 a7 a8 a9 a10 : Nat → Int32} (K : cl_K p x y a1 a2 a3) (Q : cl_Q p x y x0 B) (e : z' = z) (H : post 1 ()) : wL_lawOf_206 post mc ms x0 w (nI x) (nI y) B z z' kc ks f a1 a2 a3 a4 a5 a6 a7 a8 a9 a10 := by
  have hp := K.1
  unfold wL_lawOf_206
  refine br_t e ?_
  rcases Q with ⟨e0, h0, eB⟩ | ⟨h0, eB, ex, ey⟩
  · refine cl_with_t K e0 h0 (fun f b8 b9 b10 => br_f (by rw [eB]; exact cl_B_ne p (by omega)) (br_c (fun h => ?_) (fun h => ?_)))
    · rw [if_pos h]
      exact br_t rfl H
    · rw [if_neg h]
      exact br_t rfl H
  · exact cl_with_f h0 (br_t eB (br_t rfl H))
theorem cl_177 {post : Int32 → St0 → Prop} {mc ms kc ks p x y : Nat} {x0 w B z z' f : Int32} {a1 a2 a3 a4 a5 a6 a7 a8 a9 a10 : Nat → Int32} (K : cl_K p x y a1 a2 a3) (Q : cl_Q p x y x0 B) (e : z' = z) (H : post 1 ()) : wL_lawOf_177 post mc ms x0 w (nI x) (nI y) B z z' kc ks f a1 a2 a3 a4 a5 a6 a7 a8 a9 a10 := by
  have hp := K.1
  have hx := K.2.1
  have hy := K.2.2.1
  unfold wL_lawOf_177
  refine br_t e (cl_upper K (fun f b8 b9 b10 => pk_le y x (fun h => ?_) (fun h => ?_)))
  · refine cl_206 K Q ?_ H
    rw [decide_eq_false (show ¬ 0 < y - min y x by omega)]
    exact (cl_uv_e p (by omega)).2
  · refine cl_206 K Q ?_ H
    rw [decide_eq_true (show 0 < y - min y x by omega)]
    rcases Q with ⟨_, _, eB⟩ | ⟨_, _, ex, ey⟩
    · rw [eB]
      exact (cl_uv_e p (by omega)).1
    · omega
theorem cl_156 {post : Int32 → St0 → Prop} {mc ms kc ks p x y : Nat} {x0 w B z z' f : Int32} {a1 a2 a3 a4 a5 a6 a7 a8 a9 a10 : Nat → Int32} (K : cl_K p x y a1 a2 a3) (Q : cl_Q p x y x0 B) (e : z' = z) (H : post 1 ()) : wL_lawOf_156 post mc ms x0 w (nI x) (nI y) B z z' kc ks f a1 a2 a3 a4 a5 a6 a7 a8 a9 a10 := by
  have hp := K.1
  have hx := K.2.1
  have hy := K.2.2.1
  unfold wL_lawOf_156
  refine br_t e (cl_lower K (fun f b8 b9 b10 => pk_le x y (fun h => ?_) (fun h => ?_)))
  · refine cl_177 K Q ?_ H
    unfold cl_lo
    rw [if_neg (by omega)]
  · refine cl_177 K Q ?_ H
    unfold cl_lo
    rw [if_pos (by omega)]
    rcases Q with ⟨_, _, eB⟩ | ⟨_, _, ex, ey⟩
    · exact eB.symm
    · omega
theorem cl_132 {post : Int32 → St0 → Prop} {mc ms kc ks p x y : Nat} {x0 w B z z' f : Int32} {a1 a2 a3 a4 a5 a6 a7 a8 a9 a10 : Nat → Int32} (K : cl_K p x y a1 a2 a3) (Q : cl_Q p x y x0 B) (e : z' = z) (H : post 1 ()) : wL_lawOf_132 post mc ms x0 w (nI x) (nI y) B z z' kc ks f a1 a2 a3 a4 a5 a6 a7 a8 a9 a10 := by
  have hx := K.2.1
  have hy := K.2.2.1
  unfold wL_lawOf_132
  refine br_t e (cl_least K (fun f b8 b9 b10 => pk_le y x (fun h => ?_) (fun h => ?_)))
  · exact cl_156 K Q (by rw [show min y x = y by omega]) H
  · exact cl_156 K Q (by rw [show min y x = x by omega]) H
theorem cl_110 {post : Int32 → St0 → Prop} {mc ms kc ks p x y : Nat} {x0 w B f : Int32} {a1 a2 a3 a4 a5 a6 a7 a8 a9 a10 : Nat → Int32} (K : cl_K p x y a1 a2 a3) (Q : cl_Q p x y x0 B) (H : post 1 ()) : wL_lawOf_110 post mc ms x0 w (nI x) (nI y) B kc ks f a1 a2 a3 a4 a5 a6 a7 a8 a9 a10 := by
  unfold wL_lawOf_110
  refine cl_energy K (br_c (fun h => ?_) (fun h => ?_))
  · refine cl_132 K Q ?_ H
    rcases Q with ⟨_, _, eB⟩ | ⟨_, _, ex, ey⟩
    · rw [← eB, if_pos h]
    · rw [ex, ey, ite_self]
  · refine cl_132 K Q ?_ H
    rcases Q with ⟨_, _, eB⟩ | ⟨_, _, ex, ey⟩
    · rw [← eB, if_neg h]
    · rw [ex, ey, ite_self]
theorem cl_91 {post : Int32 → St0 → Prop} {mc ms kc ks p x y : Nat} {x0 w f : Int32} {a1 a2 a3 a4 a5 a6 a7 a8 a9 a10 : Nat → Int32} (K : cl_K p x y a1 a2 a3) (Q : (x0 = nI p ∧ ¬ (x0 < 0 ∨ 8 < x0)) ∨ ((x0 < 0 ∨ 8 < x0) ∧ x = 0 ∧ y = 0)) (H : post 1 ()) : wL_lawOf_91 post mc ms x0 w (nI x) (nI y) kc ks f a1 a2 a3 a4 a5 a6 a7 a8 a9 a10 := by
  unfold wL_lawOf_91 wL_lawOf_109
  rcases Q with ⟨e0, h0⟩ | ⟨h0, ex, ey⟩
  · refine br_f (fun z => h0 (Or.inl z)) (br_f (fun z => h0 (Or.inr z)) (cl_110 K (Or.inl ⟨e0, h0, ?_⟩) H))
    rw [e0]
    rfl
  · by_cases z : x0 < 0
    · exact br_t z (cl_110 K (Or.inr ⟨h0, rfl, ex, ey⟩) H)
    · exact br_f z (br_t (h0.resolve_left z) (cl_110 K (Or.inr ⟨h0, rfl, ex, ey⟩) H))
/-- a number from 0 to m -/
theorem cl_of {x : Int32} (m : Int32) (n : Nat) (hm : m.toInt = n) (h : ¬ (x < 0 ∨ m < x)) : ∃ j, j ≤ n ∧ x = nI j :=
  nI_of2 hm (fun z => h (Or.inl z)) (Int32.not_lt.mp (fun z => h (Or.inr z)))
theorem cl_44_f {post : Int32 → St0 → Prop} {mc ms kc ks : Nat} {x0 x1 x2 w f : Int32} {a4 a5 a6 a7 a8 a9 a10 : Nat → Int32} (h : (x0 < 0 ∨ 8 < x0) ∨ (x1 < 0 ∨ 100 < x1) ∨ (x2 < 0 ∨ 100 < x2)) (H : post 1 ()) : wL_lawOf_43 post mc ms x0 x1 x2 w kc ks f (fun _ => 0) (fun _ => 0) (fun _ => 0) a4 a5 a6 a7 a8 a9 a10 := by
  unfold wL_lawOf_43 wL_lawOf_44
  refine cl_cost_f h (br_t rfl ?_)
  unfold wL_lawOf_64
  refine br_t rfl (br_t rfl ?_)
  unfold wL_lawOf_79
  refine br_t rfl ?_
  have K0 : ∀ p, p ≤ 8 → cl_K p 0 0 (fun _ => (0 : Int32)) (fun _ => (0 : Int32)) (fun _ => (0 : Int32)) := fun p hp => ⟨hp, by omega, by omega, fun j _ => by rw [nI_0, ite_self], fun j _ => by rw [nI_0, ite_self], fun j _ => rfl⟩
  by_cases h0 : x0 < 0 ∨ 8 < x0
  · exact cl_91 (x := 0) (y := 0) (K0 0 (by omega)) (Or.inr ⟨h0, rfl, rfl⟩) H
  · obtain ⟨p, hp, e⟩ := cl_of 8 8 (by decide) h0
    exact cl_91 (x := 0) (y := 0) (K0 p hp) (Or.inl ⟨e, h0⟩) H
theorem cl_44_t {post : Int32 → St0 → Prop} {mc ms kc ks : Nat} {x0 x1 x2 w f : Int32} {a4 a5 a6 a7 a8 a9 a10 : Nat → Int32} (h0 : ¬ (x0 < 0 ∨ 8 < x0)) (h1 : ¬ (x1 < 0 ∨ 100 < x1)) (h2 : ¬ (x2 < 0 ∨ 100 < x2)) (H : post 1 ()) : wL_lawOf_44 post mc ms x0 x1 x2 w 1 kc ks f (fun _ => 0) (fun _ => 0) (fun _ => 0) a4 a5 a6 a7 a8 a9 a10 := by
  obtain ⟨p, hp, e0⟩ := cl_of 8 8 (by decide) h0
  obtain ⟨x, hx, e1⟩ := cl_of 100 100 (by decide) h1
  obtain ⟨y, hy, e2⟩ := cl_of 100 100 (by decide) h2
  unfold wL_lawOf_44
  refine cl_cost_t hp e0 h0 h1 h2 (br_f cl_10 ?_)
  unfold wL_lawOf_64
  refine br_t rfl (br_f cl_10 ?_)
  unfold wL_lawOf_79
  refine br_f cl_10 ?_
  rw [e1, e2]
  exact cl_91 (x := x) (y := y) ⟨hp, hx, hy, fun j _ => rfl, fun j _ => rfl, fun j _ => rfl⟩ (Or.inl ⟨e0, h0⟩) H
theorem cl_lawOf {post : Int32 → St0 → Prop} {x0 x1 x2 w : Int32} (H : post 1 ()) : wpL_lawOf post 144 2304 () x0 x1 x2 w := by
  unfold wpL_lawOf
  refine ⟨by omega, by omega, 100, 2000, by omega, by omega, ?_⟩
  unfold wpX_init
  refine ⟨by omega, by omega, by omega, by omega, by omega, by omega, by omega, by omega, by omega, by omega, by omega, by omega, by omega, by omega, by omega, by omega, by omega, by omega, by omega, by omega, ?_⟩
  refine br_c (fun g => cl_44_f (Or.inl (Or.inl g)) H) (fun g1 => br_c (fun g => cl_44_f (Or.inl (Or.inr g)) H) (fun g2 => br_c (fun g => cl_44_f (Or.inr (Or.inl (Or.inl g))) H) (fun g3 => br_c (fun g => cl_44_f (Or.inr (Or.inl (Or.inr g))) H) (fun g4 => br_c (fun g => cl_44_f (Or.inr (Or.inr (Or.inl g))) H) (fun g5 => br_c (fun g => cl_44_f (Or.inr (Or.inr (Or.inr g))) H) (fun g6 => ?_))))))
  exact cl_44_t (fun z => z.elim g1 g2) (fun z => z.elim g3 g4) (fun z => z.elim g5 g6) H
theorem cl_cell {post : Int32 → Prop} {L k : Nat} {xs : Nat → Int32} {x : Int32} (hL : L ≤ 4) (hx : x = nI k) (hk : k ≤ 4) (H : ∀ r, post r) : wpL_cellAt post L xs () x :=
  pk_le L k (fun _ => H 0) (fun z => ⟨pk_in k L z hx, H _⟩) rfl hx
/-! ===== WHAT IS OWED for CutLabelsLaw: one statement: the law answers true on every script of L ints xs ===== -/
theorem i_vc (xs : Nat → Int32) (L : Nat) (hL : L ≤ 4) : wpL_law (fun r => r = 1) L xs := by
  unfold wpL_law
  refine cl_cell (k := 0) hL rfl (by omega) (fun r1 => cl_cell (k := 1) hL rfl (by omega) (fun r2 => cl_cell (k := 2) hL rfl (by omega) (fun r3 => cl_cell (k := 3) hL rfl (by omega) (fun r4 => ⟨144, 2304, by omega, by omega, ?_⟩))))
  exact cl_lawOf rfl
end
