section
/-! part 01: plain facts: numbers, pigeons, the packed form -/
theorem cs_fi (f i : Nat) : nI f * 16 + nI i = nI (f * 16 + i) := by
  rw [show (16 : Int32) = nI 16 from rfl, pk_mul, nI_add]
theorem cs_f16 (f : Nat) : nI f * 16 = nI (f * 16) := by
  rw [show (16 : Int32) = nI 16 from rfl, pk_mul]
theorem cs_fc {f i : Nat} (h : f * 16 + i < 2 ^ 31) : (nI f * 16 + nI i).toNatClampNeg = f * 16 + i := by
  rw [cs_fi, nI_clamp h]
theorem cs_g2 (g : Nat) : nI g * 2 = nI (2 * g) := by
  rw [show (2 : Int32) = nI 2 from rfl, pk_mul, Nat.mul_comm]
theorem cs_g21 (g : Nat) : nI g * 2 + 1 = nI (2 * g + 1) := by
  rw [cs_g2, nI_1]
theorem cs_m1 : (-1 : Int32) < 0 := by decide
theorem cs_inj {a b : Nat} (ha : a < 2 ^ 31) (hb : b < 2 ^ 31) (h : nI a = nI b) : a = b := (nI_eq ha hb).mp h
theorem cs_us {f : Nat → Int32} {k j : Nat} {x : Int32} (h : j = k) : upd f k x j = x := by
  rw [h, pk_us]
/-- pigeons -/
theorem cs_pig : ∀ (n : Nat) (f : Nat → Nat), (∀ i, i ≤ n → f i < n) → ∃ i j, i < j ∧ j ≤ n ∧ f i = f j := by
  intro n
  induction n with
  | zero =>
    intro f h
    exact absurd (h 0 (Nat.le_refl 0)) (by omega)
  | succ n ih =>
    intro f h
    by_cases hc : ∃ i, i ≤ n ∧ f i = f (n + 1)
    · obtain ⟨i, hi, e⟩ := hc
      exact ⟨i, n + 1, by omega, by omega, e⟩
    · have hn : ∀ i, i ≤ n → f i ≠ f (n + 1) := fun i hi e => hc ⟨i, hi, e⟩
      obtain ⟨i, j, hij, hj, e⟩ := ih (fun i => if f i = n then f (n + 1) else f i) (fun i hi => by
        have h1 := h i (by omega)
        have h2 := h (n + 1) (by omega)
        have h3 := hn i hi
        show (if f i = n then f (n + 1) else f i) < n
        by_cases g : f i = n
        · rw [if_pos g]
          omega
        · rw [if_neg g]
          omega)
      refine ⟨i, j, hij, by omega, ?_⟩
      have e' : (if f i = n then f (n + 1) else f i) = (if f j = n then f (n + 1) else f j) := e
      have hi' := hn i (by omega)
      have hj' := hn j hj
      by_cases g1 : f i = n
      · by_cases g2 : f j = n
        · omega
        · rw [if_pos g1, if_neg g2] at e'
          omega
      · by_cases g2 : f j = n
        · rw [if_neg g1, if_pos g2] at e'
          omega
        · rw [if_neg g1, if_neg g2] at e'
          exact e'
/-! the packed form: a token at place j of the stream a takes the page c from i to i' -/
def cs_tok (a c : Nat → Int32) (i j i' j' : Nat) : Prop :=
  (∃ m, m < 16 ∧ i' = i + m + 1 ∧ j' = j + m + 2 ∧ a j = nI m ∧ ∀ k, k ≤ m → a (j + 1 + k) = c (i + k)) ∨
  (∃ n b, 2 ≤ n ∧ n ≤ 15 ∧ 1 ≤ b ∧ b ≤ 15 ∧ b ≤ i ∧ i' = i + n ∧ j' = j + 1 ∧ a j = nI (16 + (n - 2) * 15 + (b - 1)) ∧ ∀ k, i ≤ k → k < i + n → c k = c (k - b))
def cs_fw (a c : Nat → Int32) (N : Nat) : Nat → Nat → Nat → Prop
  | 0 => fun i j => i = 16 ∧ j = N
  | f + 1 => fun i j => ∃ i' j', cs_tok a c i j i' j' ∧ cs_fw a c N f i' j'
def cs_bw (a c : Nat → Int32) : Nat → Nat → Nat → Prop
  | 0 => fun i j => i = 0 ∧ j = 0
  | f + 1 => fun i j => ∃ i' j', cs_tok a c i' j' i j ∧ cs_bw a c f i' j'
def cs_dec (a c : Nat → Int32) (N : Nat) : Prop := ∃ f, cs_fw a c N f 0 0
theorem cs_tok_lt {a c : Nat → Int32} {i j i' j' : Nat} (h : cs_tok a c i j i' j') : i < i' ∧ j < j' := by
  rcases h with ⟨m, _, h1, h2, _⟩ | ⟨n, b, _, _, _, _, _, h1, h2, _⟩
  · omega
  · omega
theorem cs_tok_congr {a c a' c' : Nat → Int32} {i j i' j' : Nat} (h : cs_tok a c i j i' j') (ha : ∀ x, x < j' → a x = a' x) (hc : ∀ x, x < i' → c x = c' x) : cs_tok a' c' i j i' j' := by
  have hl := cs_tok_lt h
  rcases h with ⟨m, hm, h1, h2, h3, h4⟩ | ⟨n, b, b1, b2, b3, b4, b5, h1, h2, h3, h4⟩
  · refine Or.inl ⟨m, hm, h1, h2, ?_, fun k hk => ?_⟩
    · rw [← ha j hl.2]
      exact h3
    · rw [← ha (j + 1 + k) (by omega), ← hc (i + k) (by omega)]
      exact h4 k hk
  · refine Or.inr ⟨n, b, b1, b2, b3, b4, b5, h1, h2, ?_, fun k hk hk2 => ?_⟩
    · rw [← ha j hl.2]
      exact h3
    · rw [← hc k (by omega), ← hc (k - b) (by omega)]
      exact h4 k hk hk2
theorem cs_fw_le {a c : Nat → Int32} {N : Nat} : ∀ (f i j : Nat), cs_fw a c N f i j → i + f ≤ 16 ∧ j + f ≤ N := by
  intro f
  induction f with
  | zero =>
    intro i j h
    obtain ⟨h1, h2⟩ := h
    omega
  | succ f ih =>
    intro i j h
    obtain ⟨i', j', h1, h2⟩ := h
    have h3 := ih i' j' h2
    have h4 := cs_tok_lt h1
    omega
theorem cs_fw_congr {a c a' c' : Nat → Int32} {N : Nat} (ha : ∀ x, x < N → a x = a' x) (hc : ∀ x, x < 16 → c x = c' x) : ∀ (f i j : Nat), cs_fw a c N f i j → cs_fw a' c' N f i j := by
  intro f
  induction f with
  | zero => exact fun i j h => h
  | succ f ih =>
    intro i j h
    obtain ⟨i', j', h1, h2⟩ := h
    have h3 := cs_fw_le f i' j' h2
    exact ⟨i', j', cs_tok_congr h1 (fun x hx => ha x (by omega)) (fun x hx => hc x (by omega)), ih i' j' h2⟩
theorem cs_dec_congr {a c a' c' : Nat → Int32} {N : Nat} (h : cs_dec a c N) (ha : ∀ x, x < N → a x = a' x) (hc : ∀ x, x < 16 → c x = c' x) : cs_dec a' c' N := by
  obtain ⟨f, hf⟩ := h
  exact ⟨f, cs_fw_congr ha hc f 0 0 hf⟩
theorem cs_bw_congr {a c a' : Nat → Int32} : ∀ (f i j : Nat), cs_bw a c f i j → (∀ x, x < j → a x = a' x) → cs_bw a' c f i j := by
  intro f
  induction f with
  | zero => exact fun i j h _ => h
  | succ f ih =>
    intro i j h ha
    obtain ⟨i', j', h1, h2⟩ := h
    have h4 := cs_tok_lt h1
    exact ⟨i', j', cs_tok_congr h1 ha (fun x _ => rfl), ih i' j' h2 (fun x hx => ha x (by omega))⟩
theorem cs_bw_fw {a c : Nat → Int32} {N : Nat} : ∀ (f g i j : Nat), cs_bw a c f i j → cs_fw a c N g i j → cs_dec a c N := by
  intro f
  induction f with
  | zero =>
    intro g i j h h2
    obtain ⟨h3, h4⟩ := h
    subst h3 h4
    exact ⟨g, h2⟩
  | succ f ih =>
    intro g i j h h2
    obtain ⟨i', j', h3, h4⟩ := h
    exact ih (g + 1) i' j' h4 ⟨i, j, h3, h2⟩
theorem cs_bw_dec {a c : Nat → Int32} {N f : Nat} (h : cs_bw a c f 16 N) : cs_dec a c N := cs_bw_fw f 0 16 N h ⟨rfl, rfl⟩
end
section
/-! part 02: the picture and its changes -/
def cs_nz (c : Nat → Int32) : Prop := ∃ i, i < 16 ∧ ¬ c i = 0
/-- where the packed bytes of a pool entry begin -/
def cs_ba (e N : Nat) : Nat := if e % 2 = 1 then e / 2 * 16 + 16 - N else e / 2 * 16
/-- page q holds c -/
def cs_at (q : Nat) (c k pl fr fp po pp ps sl sp : Nat → Int32) : Prop :=
  (k q = 0 ∧ ∀ i, i < 16 → c i = 0) ∨
  (k q = 1 ∧ ∃ f, f < 3 ∧ pl q = nI f ∧ fp f = nI q ∧ ∀ i, i < 16 → fr (f * 16 + i) = c i) ∨
  (k q = 2 ∧ ∃ e, e < 8 ∧ pl q = nI e ∧ pp e = nI q ∧ cs_nz c ∧ ∃ N, N ≤ 15 ∧ ps e = nI N ∧ cs_dec (fun j => po (cs_ba e N + j)) c N) ∨
  (k q = 3 ∧ ∃ s, s < 12 ∧ pl q = nI s ∧ sp s = nI q ∧ cs_nz c ∧ ∀ i, i < 16 → sl (s * 16 + i) = c i)
/-- every entry of an owner's table is free or points to a page that points back -/
def cs_ow (t m : Nat) (K : Int32) (k pl own : Nat → Int32) : Prop := ∀ f, f < m → own f < 0 ∨ ∃ q, q < 12 ∧ q ≠ t ∧ own f = nI q ∧ k q = K ∧ pl q = nI f
/-- two packed pages fit one pool frame -/
def cs_ge (pp ps : Nat → Int32) : Prop := ∀ g, g < 4 → ¬ pp (2 * g) < 0 → ¬ pp (2 * g + 1) < 0 → ∃ M N, ps (2 * g) = nI M ∧ ps (2 * g + 1) = nI N ∧ M + N ≤ 16
def cs_I (t : Nat) (C : Nat → Nat → Int32) (k pl fr fp po pp ps sl sp : Nat → Int32) : Prop :=
  (∀ q, q < 12 → q ≠ t → cs_at q (C q) k pl fr fp po pp ps sl sp) ∧ cs_ow t 3 1 k pl fp ∧ cs_ow t 8 2 k pl pp ∧ cs_ow t 12 3 k pl sp ∧ cs_ge pp ps
/-! owners -/
theorem cs_own {m f p : Nat} {K : Int32} {k pl own : Nat → Int32} {t : Nat} (h : cs_ow t m K k pl own) (hm : m ≤ 12) (hf : f < m) (h0 : ¬ own f < 0) : ∃ q, q < 12 ∧ q ≠ t ∧ own f = nI q ∧ k q = K ∧ pl q = nI f := by
  rcases h f hf with z | z
  · exact absurd z h0
  · exact z
theorem cs_ow_put {p m f : Nat} {K : Int32} {k pl own : Nat → Int32} (h : cs_ow p m K k pl own) (hp : p < 12) : cs_ow 12 m K (upd k p K) (upd pl p (nI f)) (upd own f (nI p)) := by
  intro g hg
  by_cases e : g = f
  · refine Or.inr ⟨p, hp, by omega, ?_, pk_us, ?_⟩
    · rw [e, pk_us]
    · rw [e, pk_us]
  · rw [pk_un e]
    rcases h g hg with z | ⟨q, h1, h2, h3, h4, h5⟩
    · exact Or.inl z
    · refine Or.inr ⟨q, h1, by omega, h3, ?_, ?_⟩
      · rw [pk_un h2, h4]
      · rw [pk_un h2, h5]
theorem cs_ow_other {p m : Nat} {K : Int32} {k pl own k' pl' : Nat → Int32} (h : cs_ow p m K k pl own) (hk : ∀ q, q ≠ p → k' q = k q) (hl : ∀ q, q ≠ p → pl' q = pl q) : cs_ow 12 m K k' pl' own := by
  intro g hg
  rcases h g hg with z | ⟨q, h1, h2, h3, h4, h5⟩
  · exact Or.inl z
  · refine Or.inr ⟨q, h1, by omega, h3, ?_, ?_⟩
    · rw [hk q h2, h4]
    · rw [hl q h2, h5]
theorem cs_ow_take {p m f : Nat} {K : Int32} {k pl own : Nat → Int32} (h : cs_ow 12 m K k pl own) (hm : m ≤ 12) (hf : f < m) (hl : pl p = nI f) : cs_ow p m K k pl (upd own f (-1)) := by
  intro g hg
  by_cases e : g = f
  · refine Or.inl ?_
    rw [e, pk_us]
    exact cs_m1
  · rw [pk_un e]
    rcases h g hg with z | ⟨q, h1, h2, h3, h4, h5⟩
    · exact Or.inl z
    · refine Or.inr ⟨q, h1, fun z => ?_, h3, h4, h5⟩
      rw [z, hl] at h5
      exact e (cs_inj (by omega) (by omega) h5).symm
theorem cs_ow_takeO {p m : Nat} {K : Int32} {k pl own : Nat → Int32} (h : cs_ow 12 m K k pl own) (hk : ¬ k p = K) : cs_ow p m K k pl own := by
  intro g hg
  rcases h g hg with z | ⟨q, h1, h2, h3, h4, h5⟩
  · exact Or.inl z
  · refine Or.inr ⟨q, h1, fun z => ?_, h3, h4, h5⟩
    rw [z] at h4
    exact hk h4
/-- a page's place is kept -/
theorem cs_at_mono {q : Nat} {c k pl fr fp po pp ps sl sp k' pl' fr' fp' po' pp' ps' sl' sp' : Nat → Int32} (h : cs_at q c k pl fr fp po pp ps sl sp) (hk : k' q = k q) (hl : pl' q = pl q)
    (hF : ∀ f, f < 3 → fp f = nI q → k q = 1 → pl q = nI f → fp' f = nI q ∧ ∀ i, i < 16 → fr' (f * 16 + i) = fr (f * 16 + i))
    (hP : ∀ e N, e < 8 → pp e = nI q → k q = 2 → pl q = nI e → ps e = nI N → N ≤ 15 → pp' e = nI q ∧ ps' e = nI N ∧ ∀ j, j < N → po' (cs_ba e N + j) = po (cs_ba e N + j))
    (hS : ∀ s, s < 12 → sp s = nI q → k q = 3 → pl q = nI s → sp' s = nI q ∧ ∀ i, i < 16 → sl' (s * 16 + i) = sl (s * 16 + i)) : cs_at q c k' pl' fr' fp' po' pp' ps' sl' sp' := by
  unfold cs_at
  rw [hk, hl]
  rcases h with h | ⟨h1, f, h2, h3, h4, h5⟩ | ⟨h1, e, h2, h3, h4, h5, N, h6, h7, h8⟩ | ⟨h1, s, h2, h3, h4, h5, h6⟩
  · exact Or.inl h
  · obtain ⟨z1, z2⟩ := hF f h2 h4 h1 h3
    exact Or.inr (Or.inl ⟨h1, f, h2, h3, z1, fun i hi => by rw [z2 i hi, h5 i hi]⟩)
  · obtain ⟨z1, z2, z3⟩ := hP e N h2 h4 h1 h3 h7 h6
    exact Or.inr (Or.inr (Or.inl ⟨h1, e, h2, h3, z1, h5, N, h6, z2, cs_dec_congr h8 (fun x hx => (z3 x hx).symm) (fun x _ => rfl)⟩))
  · obtain ⟨z1, z2⟩ := hS s h2 h4 h1 h3
    exact Or.inr (Or.inr (Or.inr ⟨h1, s, h2, h3, z1, h5, fun i hi => by rw [z2 i hi, h6 i hi]⟩))
/-! a page in a known place -/
theorem cs_at1 {q : Nat} {c k pl fr fp po pp ps sl sp : Nat → Int32} (h : cs_at q c k pl fr fp po pp ps sl sp) (hk : k q = 1) : ∃ f, f < 3 ∧ pl q = nI f ∧ fp f = nI q ∧ ∀ i, i < 16 → fr (f * 16 + i) = c i := by
  rcases h with ⟨h, _⟩ | ⟨h, z⟩ | ⟨h, _⟩ | ⟨h, _⟩
  · rw [hk] at h
    exact absurd h (by decide)
  · exact z
  · rw [hk] at h
    exact absurd h (by decide)
  · rw [hk] at h
    exact absurd h (by decide)
theorem cs_at2 {q : Nat} {c k pl fr fp po pp ps sl sp : Nat → Int32} (h : cs_at q c k pl fr fp po pp ps sl sp) (hk : k q = 2) : ∃ e, e < 8 ∧ pl q = nI e ∧ pp e = nI q ∧ cs_nz c ∧ ∃ N, N ≤ 15 ∧ ps e = nI N ∧ cs_dec (fun j => po (cs_ba e N + j)) c N := by
  rcases h with ⟨h, _⟩ | ⟨h, _⟩ | ⟨h, z⟩ | ⟨h, _⟩
  · rw [hk] at h
    exact absurd h (by decide)
  · rw [hk] at h
    exact absurd h (by decide)
  · exact z
  · rw [hk] at h
    exact absurd h (by decide)
theorem cs_at3 {q : Nat} {c k pl fr fp po pp ps sl sp : Nat → Int32} (h : cs_at q c k pl fr fp po pp ps sl sp) (hk : k q = 3) : ∃ s, s < 12 ∧ pl q = nI s ∧ sp s = nI q ∧ cs_nz c ∧ ∀ i, i < 16 → sl (s * 16 + i) = c i := by
  rcases h with ⟨h, _⟩ | ⟨h, _⟩ | ⟨h, _⟩ | ⟨h, z⟩
  · rw [hk] at h
    exact absurd h (by decide)
  · rw [hk] at h
    exact absurd h (by decide)
  · rw [hk] at h
    exact absurd h (by decide)
  · exact z
theorem cs_at0 {q : Nat} {c k pl fr fp po pp ps sl sp : Nat → Int32} (h : cs_at q c k pl fr fp po pp ps sl sp) (h1 : ¬ k q = 1) (h2 : ¬ k q = 2) (h3 : ¬ k q = 3) : k q = 0 ∧ ∀ i, i < 16 → c i = 0 := by
  rcases h with z | ⟨h, _⟩ | ⟨h, _⟩ | ⟨h, _⟩
  · exact z
  · exact absurd h h1
  · exact absurd h h2
  · exact absurd h h3
section
variable {C C' : Nat → Nat → Int32} {k pl fr fp po pp ps sl sp k' pl' fr' po' sl' : Nat → Int32} {p f e s N : Nat}
/-! taking a page out of its place -/
theorem cs_takeF (h : cs_I 12 C k pl fr fp po pp ps sl sp) (hp : p < 12) (hk : k p = 1) (hl : pl p = nI f) (hf : f < 3) : cs_I p C k pl fr (upd fp f (-1)) po pp ps sl sp := by
  obtain ⟨h1, h2, h3, h4, h5⟩ := h
  refine ⟨fun q hq hqp => ?_, cs_ow_take h2 (by omega) hf hl, cs_ow_takeO h3 (by rw [hk]; decide), cs_ow_takeO h4 (by rw [hk]; decide), h5⟩
  refine cs_at_mono (h1 q hq (by omega)) rfl rfl (fun g hg a b c => ⟨?_, fun _ _ => rfl⟩) (fun g n hg a b c d d2 => ⟨a, d, fun _ _ => rfl⟩) (fun g hg a b c => ⟨a, fun _ _ => rfl⟩)
  obtain ⟨f', z1, z2, z3, _⟩ := cs_at1 (h1 p hp (by omega)) hk
  have e1 : f = f' := cs_inj (by omega) (by omega) (by rw [← hl, z2])
  rw [pk_un]
  · exact a
  · intro eg
    rw [eg, e1, z3] at a
    exact hqp (cs_inj (by omega) (by omega) a).symm
theorem cs_takeP (h : cs_I 12 C k pl fr fp po pp ps sl sp) (hp : p < 12) (hk : k p = 2) (hl : pl p = nI e) (he : e < 8) : cs_I p C k pl fr fp po (upd pp e (-1)) ps sl sp := by
  obtain ⟨h1, h2, h3, h4, h5⟩ := h
  refine ⟨fun q hq hqp => ?_, cs_ow_takeO h2 (by rw [hk]; decide), cs_ow_take h3 (by omega) he hl, cs_ow_takeO h4 (by rw [hk]; decide), ?_⟩
  · refine cs_at_mono (h1 q hq (by omega)) rfl rfl (fun g hg a b c => ⟨a, fun _ _ => rfl⟩) (fun g n hg a b c d d2 => ⟨?_, d, fun _ _ => rfl⟩) (fun g hg a b c => ⟨a, fun _ _ => rfl⟩)
    obtain ⟨f', z1, z2, z3, _⟩ := cs_at2 (h1 p hp (by omega)) hk
    have e1 : e = f' := cs_inj (by omega) (by omega) (by rw [← hl, z2])
    rw [pk_un]
    · exact a
    · intro eg
      rw [eg, e1, z3] at a
      exact hqp (cs_inj (by omega) (by omega) a).symm
  · intro g hg a b
    have n0 : 2 * g ≠ e := fun z => a (by rw [cs_us z]; exact cs_m1)
    have n1 : 2 * g + 1 ≠ e := fun z => b (by rw [cs_us z]; exact cs_m1)
    rw [pk_un n0] at a
    rw [pk_un n1] at b
    exact h5 g hg a b
theorem cs_takeS (h : cs_I 12 C k pl fr fp po pp ps sl sp) (hp : p < 12) (hk : k p = 3) (hl : pl p = nI s) (hs : s < 12) : cs_I p C k pl fr fp po pp ps sl (upd sp s (-1)) := by
  obtain ⟨h1, h2, h3, h4, h5⟩ := h
  refine ⟨fun q hq hqp => ?_, cs_ow_takeO h2 (by rw [hk]; decide), cs_ow_takeO h3 (by rw [hk]; decide), cs_ow_take h4 (by omega) hs hl, h5⟩
  refine cs_at_mono (h1 q hq (by omega)) rfl rfl (fun g hg a b c => ⟨a, fun _ _ => rfl⟩) (fun g n hg a b c d d2 => ⟨a, d, fun _ _ => rfl⟩) (fun g hg a b c => ⟨?_, fun _ _ => rfl⟩)
  obtain ⟨f', z1, z2, z3, _⟩ := cs_at3 (h1 p hp (by omega)) hk
  have e1 : s = f' := cs_inj (by omega) (by omega) (by rw [← hl, z2])
  rw [pk_un]
  · exact a
  · intro eg
    rw [eg, e1, z3] at a
    exact hqp (cs_inj (by omega) (by omega) a).symm
theorem cs_takeB (h : cs_I 12 C k pl fr fp po pp ps sl sp) (hk : k p = 0) : cs_I p C k pl fr fp po pp ps sl sp := by
  obtain ⟨h1, h2, h3, h4, h5⟩ := h
  exact ⟨fun q hq _ => h1 q hq (by omega), cs_ow_takeO h2 (by rw [hk]; decide), cs_ow_takeO h3 (by rw [hk]; decide), cs_ow_takeO h4 (by rw [hk]; decide), h5⟩
/-! putting a page in transit into a place -/
theorem cs_putB (h : cs_I p C k pl fr fp po pp ps sl sp) (hC : ∀ q, q ≠ p → C' q = C q) (h0 : ∀ i, i < 16 → C' p i = 0) : cs_I 12 C' (upd k p 0) pl fr fp po pp ps sl sp := by
  obtain ⟨h1, h2, h3, h4, h5⟩ := h
  have hu : ∀ q, q ≠ p → upd k p 0 q = k q := fun q hq => pk_un hq
  refine ⟨fun q hq _ => ?_, cs_ow_other h2 hu (fun _ _ => rfl), cs_ow_other h3 hu (fun _ _ => rfl), cs_ow_other h4 hu (fun _ _ => rfl), h5⟩
  by_cases eq : q = p
  · rw [eq]
    exact Or.inl ⟨pk_us, h0⟩
  · rw [hC q eq]
    exact cs_at_mono (h1 q hq eq) (hu q eq) rfl (fun g hg a b c => ⟨a, fun _ _ => rfl⟩) (fun g n hg a b c d d2 => ⟨a, d, fun _ _ => rfl⟩) (fun g hg a b c => ⟨a, fun _ _ => rfl⟩)
theorem cs_putF (h : cs_I p C k pl fr fp po pp ps sl sp) (hp : p < 12) (hf : f < 3) (h0 : fp f < 0) (hC : ∀ q, q ≠ p → C' q = C q)
    (hfr : ∀ x, x < f * 16 ∨ f * 16 + 16 ≤ x → fr' x = fr x) (hc : ∀ i, i < 16 → fr' (f * 16 + i) = C' p i) : cs_I 12 C' (upd k p 1) (upd pl p (nI f)) fr' (upd fp f (nI p)) po pp ps sl sp := by
  obtain ⟨h1, h2, h3, h4, h5⟩ := h
  have hu : ∀ q, q ≠ p → upd k p 1 q = k q := fun q hq => pk_un hq
  have hl : ∀ q, q ≠ p → upd pl p (nI f) q = pl q := fun q hq => pk_un hq
  refine ⟨fun q hq _ => ?_, cs_ow_put h2 hp, cs_ow_other h3 hu hl, cs_ow_other h4 hu hl, h5⟩
  by_cases eq : q = p
  · rw [eq]
    exact Or.inr (Or.inl ⟨pk_us, f, hf, pk_us, pk_us, hc⟩)
  · rw [hC q eq]
    refine cs_at_mono (h1 q hq eq) (hu q eq) (hl q eq) (fun g hg a b c => ?_) (fun g n hg a b c d d2 => ⟨a, d, fun _ _ => rfl⟩) (fun g hg a b c => ⟨a, fun _ _ => rfl⟩)
    have n0 : g ≠ f := by
      intro z
      rw [z] at a
      rw [a] at h0
      exact nI_pos (by omega) h0
    exact ⟨by rw [pk_un n0]; exact a, fun i hi => hfr _ (by omega)⟩
theorem cs_putS (h : cs_I p C k pl fr fp po pp ps sl sp) (hp : p < 12) (hs : s < 12) (h0 : sp s < 0) (hC : ∀ q, q ≠ p → C' q = C q) (hz : cs_nz (C' p))
    (hsl : ∀ x, x < s * 16 ∨ s * 16 + 16 ≤ x → sl' x = sl x) (hc : ∀ i, i < 16 → sl' (s * 16 + i) = C' p i) : cs_I 12 C' (upd k p 3) (upd pl p (nI s)) fr fp po pp ps sl' (upd sp s (nI p)) := by
  obtain ⟨h1, h2, h3, h4, h5⟩ := h
  have hu : ∀ q, q ≠ p → upd k p 3 q = k q := fun q hq => pk_un hq
  have hl : ∀ q, q ≠ p → upd pl p (nI s) q = pl q := fun q hq => pk_un hq
  refine ⟨fun q hq _ => ?_, cs_ow_other h2 hu hl, cs_ow_other h3 hu hl, cs_ow_put h4 hp, h5⟩
  by_cases eq : q = p
  · rw [eq]
    exact Or.inr (Or.inr (Or.inr ⟨pk_us, s, hs, pk_us, pk_us, hz, hc⟩))
  · rw [hC q eq]
    refine cs_at_mono (h1 q hq eq) (hu q eq) (hl q eq) (fun g hg a b c => ⟨a, fun _ _ => rfl⟩) (fun g n hg a b c d d2 => ⟨a, d, fun _ _ => rfl⟩) (fun g hg a b c => ?_)
    have n0 : g ≠ s := by
      intro z
      rw [z] at a
      rw [a] at h0
      exact nI_pos (by omega) h0
    exact ⟨by rw [pk_un n0]; exact a, fun i hi => hsl _ (by omega)⟩
/-- the other end of the pool frame -/
def cs_mate (e : Nat) : Nat := if e % 2 = 1 then e - 1 else e + 1
theorem cs_putP (h : cs_I p C k pl fr fp po pp ps sl sp) (hp : p < 12) (he : e < 8) (h0 : pp e < 0) (hC : ∀ q, q ≠ p → C' q = C q) (hz : cs_nz (C' p)) (hN : N ≤ 15)
    (hm : ¬ pp (cs_mate e) < 0 → ∃ M, ps (cs_mate e) = nI M ∧ M ≤ 15 ∧ M + N ≤ 16)
    (hpo : ∀ x, x < cs_ba e N ∨ cs_ba e N + N ≤ x → po' x = po x) (hc : cs_dec (fun j => po' (cs_ba e N + j)) (C' p) N) : cs_I 12 C' (upd k p 2) (upd pl p (nI e)) fr fp po' (upd pp e (nI p)) (upd ps e (nI N)) sl sp := by
  obtain ⟨h1, h2, h3, h4, h5⟩ := h
  have hu : ∀ q, q ≠ p → upd k p 2 q = k q := fun q hq => pk_un hq
  have hl : ∀ q, q ≠ p → upd pl p (nI e) q = pl q := fun q hq => pk_un hq
  refine ⟨fun q hq _ => ?_, cs_ow_other h2 hu hl, cs_ow_put h3 hp, cs_ow_other h4 hu hl, ?_⟩
  · by_cases eq : q = p
    · rw [eq]
      exact Or.inr (Or.inr (Or.inl ⟨pk_us, e, he, pk_us, pk_us, hz, N, hN, pk_us, hc⟩))
    · rw [hC q eq]
      refine cs_at_mono (h1 q hq eq) (hu q eq) (hl q eq) (fun g hg a b c => ⟨a, fun _ _ => rfl⟩) (fun g n hg a b c d d2 => ?_) (fun g hg a b c => ⟨a, fun _ _ => rfl⟩)
      have n0 : g ≠ e := by
        intro z
        rw [z] at a
        rw [a] at h0
        exact nI_pos (by omega) h0
      refine ⟨by rw [pk_un n0]; exact a, by rw [pk_un n0]; exact d, fun j hj => hpo _ ?_⟩
      by_cases em : g = cs_mate e
      · obtain ⟨M, m1, m2, m3⟩ := hm (by rw [← em, a]; exact nI_pos (by omega))
        rw [← em, d] at m1
        have mn : n = M := cs_inj (by omega) (by omega) m1
        unfold cs_mate at em
        unfold cs_ba
        by_cases od : e % 2 = 1
        · rw [if_pos od] at em
          rw [if_pos od, if_neg (show ¬ g % 2 = 1 by omega)]
          omega
        · rw [if_neg od] at em
          rw [if_neg od, if_pos (show g % 2 = 1 by omega)]
          omega
      · have ef : g / 2 ≠ e / 2 := by
          intro z
          apply em
          unfold cs_mate
          by_cases od : e % 2 = 1
          · rw [if_pos od]
            omega
          · rw [if_neg od]
            omega
        unfold cs_ba
        by_cases od : e % 2 = 1
        · rw [if_pos od]
          by_cases og : g % 2 = 1
          · rw [if_pos og]
            omega
          · rw [if_neg og]
            omega
        · rw [if_neg od]
          by_cases og : g % 2 = 1
          · rw [if_pos og]
            omega
          · rw [if_neg og]
            omega
  · intro g hg a b
    by_cases e0 : 2 * g = e
    · have n1 : 2 * g + 1 ≠ e := by omega
      rw [pk_un n1] at b
      have em : cs_mate e = 2 * g + 1 := by
        unfold cs_mate
        rw [if_neg (by omega)]
        omega
      rw [em] at hm
      obtain ⟨M, m1, m2, m3⟩ := hm b
      refine ⟨N, M, ?_, ?_, by omega⟩
      · rw [cs_us e0]
      · rw [pk_un n1, m1]
    · by_cases e1 : 2 * g + 1 = e
      · rw [pk_un e0] at a
        have em : cs_mate e = 2 * g := by
          unfold cs_mate
          rw [if_pos (by omega)]
          omega
        rw [em] at hm
        obtain ⟨M, m1, m2, m3⟩ := hm a
        refine ⟨M, N, ?_, ?_, by omega⟩
        · rw [pk_un e0, m1]
        · rw [cs_us e1]
      · rw [pk_un e0] at a
        rw [pk_un e1] at b
        rw [pk_un e0, pk_un e1]
        exact h5 g hg a b
/-- a page in transit: its own kind and place don't matter -/
theorem cs_tr (h : cs_I p C k pl fr fp po pp ps sl sp) (hk : ∀ q, q ≠ p → k' q = k q) (hl : ∀ q, q ≠ p → pl' q = pl q) (hC : ∀ q, q ≠ p → C' q = C q) : cs_I p C' k' pl' fr fp po pp ps sl sp := by
  obtain ⟨h1, h2, h3, h4, h5⟩ := h
  have ho : ∀ {m : Nat} {K : Int32} {own : Nat → Int32}, cs_ow p m K k pl own → cs_ow p m K k' pl' own := by
    intro m K own h g hg
    rcases h g hg with z | ⟨q, z1, z2, z3, z4, z5⟩
    · exact Or.inl z
    · exact Or.inr ⟨q, z1, z2, z3, by rw [hk q z2, z4], by rw [hl q z2, z5]⟩
  refine ⟨fun q hq hqp => ?_, ho h2, ho h3, ho h4, h5⟩
  rw [hC q hqp]
  exact cs_at_mono (h1 q hq hqp) (hk q hqp) (hl q hqp) (fun g hg a b c => ⟨a, fun _ _ => rfl⟩) (fun g n hg a b c d d2 => ⟨a, d, fun _ _ => rfl⟩) (fun g hg a b c => ⟨a, fun _ _ => rfl⟩)
/-- the bytes of a page in a frame change -/
theorem cs_chg (h : cs_I 12 C k pl fr fp po pp ps sl sp) (hp : p < 12) (hf : f < 3) (hk : k p = 1) (hl : pl p = nI f) (hC : ∀ q, q ≠ p → C' q = C q)
    (hfr : ∀ x, x < f * 16 ∨ f * 16 + 16 ≤ x → fr' x = fr x) (hc : ∀ i, i < 16 → fr' (f * 16 + i) = C' p i) : cs_I 12 C' k pl fr' fp po pp ps sl sp := by
  obtain ⟨h1, h2, h3, h4, h5⟩ := h
  refine ⟨fun q hq hq2 => ?_, h2, h3, h4, h5⟩
  obtain ⟨f', z1, z2, z3, _⟩ := cs_at1 (h1 p hp (by omega)) hk
  have e1 : f = f' := cs_inj (by omega) (by omega) (by rw [← hl, z2])
  subst e1
  by_cases eq : q = p
  · rw [eq]
    exact Or.inr (Or.inl ⟨hk, f, hf, hl, z3, hc⟩)
  · rw [hC q eq]
    refine cs_at_mono (h1 q hq hq2) rfl rfl (fun g hg a b c => ⟨a, fun i hi => hfr _ ?_⟩) (fun g n hg a b c d d2 => ⟨a, d, fun _ _ => rfl⟩) (fun g hg a b c => ⟨a, fun _ _ => rfl⟩)
    have n0 : g ≠ f := by
      intro z
      rw [z, z3] at a
      exact eq (cs_inj (by omega) (by omega) a).symm
    omega
/-- there is a free slot for a page in transit -/
theorem cs_slot (h : cs_I p C k pl fr fp po pp ps sl sp) (hp : p < 12) : ∃ s, s < 12 ∧ sp s < 0 := by
  obtain ⟨_, _, _, h4, _⟩ := h
  by_cases hn : ∃ s, s < 12 ∧ sp s < 0
  · exact hn
  · exfalso
    have ha : ∀ s, s < 12 → ∃ q, q < 12 ∧ q ≠ p ∧ sp s = nI q ∧ k q = 3 ∧ pl q = nI s := fun s hs => cs_own (p := p) h4 (by omega) hs (fun z => hn ⟨s, hs, z⟩)
    obtain ⟨i, j, hij, hj, e⟩ := cs_pig 12 (fun s => if s < 12 then (sp s).toNatClampNeg else p) (fun i hi => by
      show (if i < 12 then (sp i).toNatClampNeg else p) < 12
      by_cases hi2 : i < 12
      · rw [if_pos hi2]
        obtain ⟨q, q1, q2, q3, _⟩ := ha i hi2
        rw [q3, nI_clamp (by omega)]
        exact q1
      · rw [if_neg hi2]
        exact hp)
    have e' : (if i < 12 then (sp i).toNatClampNeg else p) = (if j < 12 then (sp j).toNatClampNeg else p) := e
    obtain ⟨q, q1, q2, q3, q4, q5⟩ := ha i (by omega)
    rw [if_pos (by omega), q3, nI_clamp (by omega)] at e'
    by_cases hj2 : j < 12
    · obtain ⟨r, r1, r2, r3, r4, r5⟩ := ha j hj2
      rw [if_pos hj2, r3, nI_clamp (by omega)] at e'
      rw [e', r5] at q5
      have := cs_inj (by omega) (by omega) q5
      omega
    · rw [if_neg hj2] at e'
      exact q2 e'
end
end
section
/-! part 03: two pages change places -/
def cs_sw (p q x : Nat) : Nat := if x = p then q else if x = q then p else x
theorem cs_sw_l (p q : Nat) : cs_sw p q p = q := if_pos rfl
theorem cs_sw_r (p q : Nat) : cs_sw p q q = p := by
  unfold cs_sw
  by_cases e : q = p
  · rw [if_pos e, e]
  · rw [if_neg e, if_pos rfl]
theorem cs_sw_n {p q x : Nat} (h1 : x ≠ p) (h2 : x ≠ q) : cs_sw p q x = x := by
  unfold cs_sw
  rw [if_neg h1, if_neg h2]
theorem cs_sw_sw (p q x : Nat) : cs_sw p q (cs_sw p q x) = x := by
  by_cases h1 : x = p
  · rw [h1, cs_sw_l, cs_sw_r]
  · by_cases h2 : x = q
    · rw [h2, cs_sw_r, cs_sw_l]
    · rw [cs_sw_n h1 h2, cs_sw_n h1 h2]
theorem cs_sw_lt {p q x : Nat} (hp : p < 12) (hq : q < 12) (hx : x < 12) : cs_sw p q x < 12 := by
  by_cases h1 : x = p
  · rw [h1, cs_sw_l]
    exact hq
  · by_cases h2 : x = q
    · rw [h2, cs_sw_r]
      exact hp
    · rw [cs_sw_n h1 h2]
      exact hx
theorem cs_sw_u (a : Nat → Int32) (p q x : Nat) : upd (upd a p (a q)) q (a p) x = a (cs_sw p q x) := by
  by_cases h2 : x = q
  · rw [cs_us h2, h2, cs_sw_r]
  · rw [pk_un h2]
    by_cases h1 : x = p
    · rw [cs_us h1, h1, cs_sw_l]
    · rw [pk_un h1, cs_sw_n h1 h2]
/-- what 'claim' does to one owner's table -/
def cs_cl (K : Int32) (k pl own : Nat → Int32) (p : Nat) : Nat → Int32 := if k p = K then upd own (pl p).toNatClampNeg (nI p) else own
theorem cs_cl_t {K : Int32} {k pl own : Nat → Int32} {p : Nat} (h : k p = K) : cs_cl K k pl own p = upd own (pl p).toNatClampNeg (nI p) := if_pos h
theorem cs_cl_f {K : Int32} {k pl own : Nat → Int32} {p : Nat} (h : ¬ k p = K) : cs_cl K k pl own p = own := if_neg h
theorem cs_ex_own {m p q : Nat} {K : Int32} {k pl own k' pl' : Nat → Int32} (h : cs_ow 12 m K k pl own) (hm : m ≤ 12) (hp : p < 12) (hq : q < 12)
    (hA : ∀ x, x < 12 → k x = K → ∃ f, f < m ∧ pl x = nI f ∧ own f = nI x) (k1 : k' p = k q) (k2 : k' q = k p) (l1 : pl' p = pl q) (l2 : pl' q = pl p) :
    ∀ f, f < m → (own f < 0 → cs_cl K k' pl' (cs_cl K k' pl' own p) q f < 0) ∧ (∀ x, x < 12 → own f = nI x → cs_cl K k' pl' (cs_cl K k' pl' own p) q f = nI (cs_sw p q x)) := by
  intro f hf
  have B : (k p = K ∧ pl p = nI f) ∨ ¬ (k p = K ∧ pl p = nI f) := Classical.em _
  have A : (k q = K ∧ pl q = nI f) ∨ ¬ (k q = K ∧ pl q = nI f) := Classical.em _
  have r1 : ¬ (k p = K ∧ pl p = nI f) → cs_cl K k' pl' (cs_cl K k' pl' own p) q f = cs_cl K k' pl' own p f := by
    intro nb
    by_cases c : k' q = K
    · rw [cs_cl_t c, pk_un]
      intro z
      rw [k2] at c
      obtain ⟨g, g1, g2, g3⟩ := hA p hp c
      rw [l2, g2, nI_clamp (by omega)] at z
      exact nb ⟨c, by rw [g2, z]⟩
    · rw [cs_cl_f c]
  have r2 : ¬ (k q = K ∧ pl q = nI f) → cs_cl K k' pl' own p f = own f := by
    intro nb
    by_cases c : k' p = K
    · rw [cs_cl_t c, pk_un]
      intro z
      rw [k1] at c
      obtain ⟨g, g1, g2, g3⟩ := hA q hq c
      rw [l1, g2, nI_clamp (by omega)] at z
      exact nb ⟨c, by rw [g2, z]⟩
    · rw [cs_cl_f c]
  rcases B with ⟨b1, b2⟩ | nb
  · have v : cs_cl K k' pl' (cs_cl K k' pl' own p) q f = nI q := by
      rw [cs_cl_t (by rw [k2, b1]), l2, b2, nI_clamp (by omega), pk_us]
    obtain ⟨g, g1, g2, g3⟩ := hA p hp b1
    have e1 : f = g := cs_inj (by omega) (by omega) (by rw [← b2, g2])
    rw [← e1] at g3
    rw [v, g3]
    refine ⟨fun z => absurd z (nI_pos (by omega)), fun x hx e => ?_⟩
    rw [← cs_inj (by omega) (by omega) e, cs_sw_l]
  · rw [r1 nb]
    rcases A with ⟨a1, a2⟩ | na
    · have v : cs_cl K k' pl' own p f = nI p := by
        rw [cs_cl_t (by rw [k1, a1]), l1, a2, nI_clamp (by omega), pk_us]
      obtain ⟨g, g1, g2, g3⟩ := hA q hq a1
      have e1 : f = g := cs_inj (by omega) (by omega) (by rw [← a2, g2])
      rw [← e1] at g3
      rw [v, g3]
      refine ⟨fun z => absurd z (nI_pos (by omega)), fun x hx e => ?_⟩
      rw [← cs_inj (by omega) (by omega) e, cs_sw_r]
    · rw [r2 na]
      refine ⟨fun z => z, fun x hx e => ?_⟩
      rcases h f hf with z | ⟨y, y1, y2, y3, y4, y5⟩
      · rw [e] at z
        exact absurd z (nI_pos (by omega))
      · have exy : x = y := cs_inj (by omega) (by omega) (by rw [← e, y3])
        rw [← exy] at y4 y5
        rw [e, cs_sw_n]
        · intro z
          rw [z] at y4 y5
          exact nb ⟨y4, y5⟩
        · intro z
          rw [z] at y4 y5
          exact na ⟨y4, y5⟩
theorem cs_ex_ow {m p q : Nat} {K : Int32} {k pl own k' pl' own' : Nat → Int32} (h : cs_ow 12 m K k pl own) (hp : p < 12) (hq : q < 12) (hk : ∀ x, k' x = k (cs_sw p q x)) (hl : ∀ x, pl' x = pl (cs_sw p q x))
    (ho : ∀ f, f < m → (own f < 0 → own' f < 0) ∧ (∀ x, x < 12 → own f = nI x → own' f = nI (cs_sw p q x))) : cs_ow 12 m K k' pl' own' := by
  intro f hf
  obtain ⟨o1, o2⟩ := ho f hf
  rcases h f hf with z | ⟨x, x1, x2, x3, x4, x5⟩
  · exact Or.inl (o1 z)
  · have hx := cs_sw_lt hp hq x1
    refine Or.inr ⟨cs_sw p q x, hx, by omega, o2 x x1 x3, ?_, ?_⟩
    · rw [hk, cs_sw_sw, x4]
    · rw [hl, cs_sw_sw, x5]
theorem cs_exI {C : Nat → Nat → Int32} {k pl fr fp po pp ps sl sp k' pl' : Nat → Int32} {p q : Nat} (h : cs_I 12 C k pl fr fp po pp ps sl sp) (hp : p < 12) (hq : q < 12) (hk : ∀ x, k' x = k (cs_sw p q x)) (hl : ∀ x, pl' x = pl (cs_sw p q x)) :
    cs_I 12 (fun x => C (cs_sw p q x)) k' pl' fr (cs_cl 1 k' pl' (cs_cl 1 k' pl' fp p) q) po (cs_cl 2 k' pl' (cs_cl 2 k' pl' pp p) q) ps sl (cs_cl 3 k' pl' (cs_cl 3 k' pl' sp p) q) := by
  obtain ⟨h1, h2, h3, h4, h5⟩ := h
  have kp : k' p = k q := by rw [hk, cs_sw_l]
  have kq : k' q = k p := by rw [hk, cs_sw_r]
  have lp : pl' p = pl q := by rw [hl, cs_sw_l]
  have lq : pl' q = pl p := by rw [hl, cs_sw_r]
  have oF := cs_ex_own h2 (by omega) hp hq (fun x hx e => by
    obtain ⟨f, f1, f2, f3, _⟩ := cs_at1 (h1 x hx (by omega)) e
    exact ⟨f, f1, f2, f3⟩) kp kq lp lq
  have oP := cs_ex_own h3 (by omega) hp hq (fun x hx e => by
    obtain ⟨f, f1, f2, f3, _⟩ := cs_at2 (h1 x hx (by omega)) e
    exact ⟨f, f1, f2, f3⟩) kp kq lp lq
  have oS := cs_ex_own h4 (by omega) hp hq (fun x hx e => by
    obtain ⟨f, f1, f2, f3, _⟩ := cs_at3 (h1 x hx (by omega)) e
    exact ⟨f, f1, f2, f3⟩) kp kq lp lq
  refine ⟨fun x hx _ => ?_, cs_ex_ow h2 hp hq hk hl oF, cs_ex_ow h3 hp hq hk hl oP, cs_ex_ow h4 hp hq hk hl oS, fun g hg a b => ?_⟩
  · have hy := cs_sw_lt hp hq hx
    show cs_at x (C (cs_sw p q x)) _ _ _ _ _ _ _ _ _
    unfold cs_at
    rw [hk, hl]
    rcases h1 _ hy (by omega) with z | ⟨z1, f, z2, z3, z4, z5⟩ | ⟨z1, e, z2, z3, z4, z5⟩ | ⟨z1, s, z2, z3, z4, z5⟩
    · exact Or.inl z
    · refine Or.inr (Or.inl ⟨z1, f, z2, z3, ?_, z5⟩)
      rw [(oF f z2).2 _ hy z4, cs_sw_sw]
    · refine Or.inr (Or.inr (Or.inl ⟨z1, e, z2, z3, ?_, z5⟩))
      rw [(oP e z2).2 _ hy z4, cs_sw_sw]
    · refine Or.inr (Or.inr (Or.inr ⟨z1, s, z2, z3, ?_, z5⟩))
      rw [(oS s z2).2 _ hy z4, cs_sw_sw]
  · exact h5 g hg (fun z => a ((oP (2 * g) (by omega)).1 z)) (fun z => b ((oP (2 * g + 1) (by omega)).1 z))
end
section
/-! part 04: packing a frame's page -/
theorem cs_fill {f s : Nat → Int32} {i : Nat} {x : Int32} (h : ∀ j, j < i → s j = f j) (hx : x = f i) : ∀ j, j < i + 1 → upd s i x j = f j := by
  intro j hj
  by_cases e : j = i
  · rw [e, pk_us, hx]
  · rw [pk_un e]
    exact h j (by omega)
/-- the stream so far: closed behind a repeat (or at the start), or in an announced run that began at n0 -/
def cs_pkI (c a : Nat → Int32) (ann : Int32) (i N : Nat) : Prop :=
  (ann = -1 ∧ N ≤ i ∧ ∃ T, cs_bw a c T i N) ∨
  (∃ i0 n0 m T, ann = nI n0 ∧ cs_bw a c T i0 n0 ∧ i = i0 + m + 1 ∧ N = n0 + m + 2 ∧ N ≤ i + 1 ∧ a n0 = nI m ∧ ∀ k, k ≤ m → a (n0 + 1 + k) = c (i0 + k))
theorem cs_pk0 (c a : Nat → Int32) : cs_pkI c a (-1) 0 0 := Or.inl ⟨rfl, Nat.le_refl 0, 0, rfl, rfl⟩
theorem cs_pkN {c a : Nat → Int32} {ann : Int32} {i N : Nat} (h : cs_pkI c a ann i N) : N ≤ i + 1 := by
  rcases h with ⟨_, h, _⟩ | ⟨_, _, _, _, _, _, _, _, h, _⟩
  · omega
  · exact h
theorem cs_pkC {c a : Nat → Int32} {ann : Int32} {i N : Nat} (h : cs_pkI c a ann i N) (hi : i ≤ 16) : ∃ T, cs_bw a c T i N := by
  rcases h with ⟨_, _, h⟩ | ⟨i0, n0, m, T, h1, h2, h3, h4, h5, h6, h7⟩
  · exact h
  · exact ⟨T + 1, i0, n0, Or.inl ⟨m, by omega, h3, h4, h6, h7⟩, h2⟩
theorem cs_pkR {c a : Nat → Int32} {ann : Int32} {i N n b : Nat} (h : cs_pkI c a ann i N) (h2 : 2 ≤ n) (hi : i + n ≤ 16) (b1 : 1 ≤ b) (b2 : b ≤ i) (hc : ∀ k, i ≤ k → k < i + n → c k = c (k - b)) :
    cs_pkI c (upd a N (nI (16 + (n - 2) * 15 + (b - 1)))) (-1) (i + n) (N + 1) := by
  have hN := cs_pkN h
  obtain ⟨T, hT⟩ := cs_pkC h (by omega)
  refine Or.inl ⟨rfl, by omega, T + 1, i, N, Or.inr ⟨n, b, h2, by omega, b1, by omega, b2, rfl, rfl, pk_us, hc⟩, ?_⟩
  exact cs_bw_congr T i N hT (fun x hx => (pk_un (by omega)).symm)
theorem cs_pkO {c a : Nat → Int32} {i N n0 : Nat} (h : cs_pkI c a (nI n0) i N) (hn : n0 < 2 ^ 31) (hi : i < 16) : n0 < N ∧ cs_pkI c (upd (upd a n0 (a n0 + 1)) N (c i)) (nI n0) (i + 1) (N + 1) := by
  have hN := cs_pkN h
  rcases h with ⟨h, _⟩ | ⟨i0, n1, m, T, h1, h2, h3, h4, h5, h6, h7⟩
  · exfalso
    have z := nI_pos (n := n0) hn
    rw [h] at z
    exact z cs_m1
  · have e : n0 = n1 := cs_inj hn (by omega) h1
    rw [← e] at h2 h4 h6 h7
    refine ⟨by omega, Or.inr ⟨i0, n0, m + 1, T, rfl, ?_, by omega, by omega, by omega, ?_, fun k hk => ?_⟩⟩
    · exact cs_bw_congr T i0 n0 h2 (fun x hx => by rw [pk_un (by omega), pk_un (by omega)])
    · rw [pk_un (by omega), pk_us, h6, nI_1]
    · by_cases ek : k = m + 1
      · rw [cs_us (by omega)]
        rw [show i0 + k = i by omega]
      · rw [pk_un (by omega), pk_un (by omega)]
        exact h7 k (by omega)
theorem cs_pkL {c a : Nat → Int32} {ann : Int32} {i N : Nat} (h : cs_pkI c a ann i N) (ha : ¬ 0 ≤ ann) (hi : i < 16) : cs_pkI c (upd (upd (upd a N (-1)) N (upd a N (-1) N + 1)) (N + 1) (c i)) (nI N) (i + 1) (N + 1 + 1) := by
  rcases h with ⟨h, h2, T, hT⟩ | ⟨i0, n1, m, T, h1, h2, h3, h4, h5, h6, h7⟩
  · refine Or.inr ⟨i, N, 0, T, rfl, ?_, by omega, by omega, by omega, ?_, fun k hk => ?_⟩
    · exact cs_bw_congr T i N hT (fun x hx => by rw [pk_un (by omega), pk_un (by omega), pk_un (by omega)])
    · rw [pk_un (by omega), pk_us, pk_us]
      rfl
    · rw [cs_us (by omega)]
      rw [show i + k = i by omega]
  · rw [h1] at ha
    exact absurd (nI_pos' (by omega)) ha
theorem cs_encv {n b : Nat} (hn : 2 ≤ n) (hb : 1 ≤ b) : 16 + (nI n - 2) * 15 + nI b - 1 = nI (16 + (n - 2) * 15 + (b - 1)) := by
  rw [show (2 : Int32) = nI 2 from rfl, pk_sub hn, show (15 : Int32) = nI 15 from rfl, pk_mul, show (16 : Int32) = nI 16 from rfl, nI_add, nI_add, show (1 : Int32) = nI 1 from rfl, pk_sub (by omega)]
  rw [show 16 + (n - 2) * 15 + b - 1 = 16 + (n - 2) * 15 + (b - 1) by omega]
section
variable {cl z : Int32} {a1 a2 a3 a4 a5 a6 a7 a8 a9 a10 a11 a12 a13 a14 : Nat → Int32}
theorem cs_append {post : St1 → Prop} {N : Nat} {x : Int32} (hN : N < 24) (H : post (cl, nI (N + 1), a1, a2, a3, a4, a5, a6, a7, a8, a9, a10, a11, upd a12 N x, a13, a14)) : wpX_append post (cl, nI N, a1, a2, a3, a4, a5, a6, a7, a8, a9, a10, a11, a12, a13, a14) x :=
  ⟨pk_in N 24 hN, nm_r (show upd a12 (nI N).toNatClampNeg x = upd a12 N x by rw [nI_clamp (by omega)]) (nm_r (nI_1 N) H)⟩
theorem cs_repeatAt {post : Int32 → Prop} {f i b : Nat} (hf : f < 3) (hb : 1 ≤ b) (hbi : b ≤ i) (hi : i < 16)
    (H : ∀ n, i + n ≤ 16 → (∀ k, i ≤ k → k < i + n → a3 (f * 16 + k) = a3 (f * 16 + (k - b))) → post (nI n)) : wpX_repeatAt post (cl, z, a1, a2, a3, a4, a5, a6, a7, a8, a9, a10, a11, a12, a13, a14) (nI (f * 16)) (nI i) (nI b) := by
  have key : ∀ n m, i + m ≤ 16 → 16 - (i + m) < n → (∀ k, i ≤ k → k < i + m → a3 (f * 16 + k) = a3 (f * 16 + (k - b))) → wX_repeatAt_6 post (nI (f * 16)) (nI b) cl z a1 a2 a3 a4 a5 a6 a7 a8 a9 a10 a11 a12 a13 a14 n (nI m) (nI (i + m)) := by
    intro n
    induction n with
    | zero => intro m _ h; omega
    | succ n ih =>
      intro m hm hn hI
      refine pk_le 16 (i + m) (fun w => H m hm hI) (fun w => ⟨pk_in (f * 16 + (i + m)) 48 (by omega) (nI_add _ _), pk_in (f * 16 + (i + m) - b) 48 (by omega) (by rw [nI_add, pk_sub (by omega)]), ?_⟩)
      refine br_c (fun e => nm_r (nI_1 m) (nm_r (nI_1 (i + m)) ?_)) (fun e => H m hm hI)
      refine ih (m + 1) (by omega) (by omega) (fun k h1 h2 => ?_)
      by_cases ek : k = i + m
      · rw [nI_add, nI_clamp (by omega), pk_sub (by omega), nI_clamp (by omega)] at e
        rw [ek, e, show f * 16 + (i + m) - b = f * 16 + (i + m - b) by omega]
      · exact hI k h1 (by omega)
  exact ⟨17, key 17 0 (by omega) (by omega) (fun k h1 h2 => absurd h2 (by omega))⟩
theorem cs_p131 {post : St1 → Prop} {J : Int32 → Int32 → Int32 → Int32 → Int32 → (Nat → Int32) → (Nat → Int32) → (Nat → Int32) → (Nat → Int32) → (Nat → Int32) → (Nat → Int32) → (Nat → Int32) → (Nat → Int32) → (Nat → Int32) → (Nat → Int32) → (Nat → Int32) → (Nat → Int32) → (Nat → Int32) → (Nat → Int32) → Prop} {f i n0 N rd : Nat} (hf : f < 3) (hi : i < 16) (h0 : n0 < 24) (hN : N < 24)
    (H : J (nI n0) (nI (i + 1)) (nI (rd + 1)) cl (nI (N + 1)) a1 a2 a3 a4 a5 a6 a7 a8 a9 a10 a11 (upd (upd a12 n0 (a12 n0 + 1)) N (a3 (f * 16 + i))) a13 a14) : wX_pack_131 post J (nI (f * 16)) (nI n0) (nI i) (nI rd) cl (nI N) a1 a2 a3 a4 a5 a6 a7 a8 a9 a10 a11 a12 a13 a14 := by
  refine ⟨pk_in n0 24 h0, pk_in n0 24 h0, nm_r (show upd a12 (nI n0).toNatClampNeg (a12 (nI n0).toNatClampNeg + 1) = upd a12 n0 (a12 n0 + 1) by rw [nI_clamp (by omega)]) ⟨pk_in (f * 16 + i) 48 (by omega) (nI_add _ _), ?_⟩⟩
  rw [nI_add, nI_clamp (by omega)]
  exact cs_append hN (nm_r (nI_1 i) (nm_r (nI_1 rd) H))
theorem cs_pack41 {post : St1 → Prop} {J : Int32 → Int32 → Int32 → Int32 → Int32 → (Nat → Int32) → (Nat → Int32) → (Nat → Int32) → (Nat → Int32) → (Nat → Int32) → (Nat → Int32) → (Nat → Int32) → (Nat → Int32) → (Nat → Int32) → (Nat → Int32) → (Nat → Int32) → (Nat → Int32) → (Nat → Int32) → (Nat → Int32) → Prop} {ann : Int32} {f i N rd : Nat} (hf : f < 3) (hi : i < 16) (hI : cs_pkI (fun j => a3 (f * 16 + j)) a12 ann i N)
    (H : ∀ ann' i' N' s, cs_pkI (fun j => a3 (f * 16 + j)) s ann' i' N' → i < i' → i' ≤ 16 → J ann' (nI i') (nI (rd + 1)) cl (nI N') a1 a2 a3 a4 a5 a6 a7 a8 a9 a10 a11 s a13 a14) : ∃ fu, wX_pack_41 post J (nI (f * 16)) ann (nI i) (nI rd) cl (nI N) a1 a2 a3 a4 a5 a6 a7 a8 a9 a10 a11 a12 a13 a14 fu 0 0 1 := by
  have hN := cs_pkN hI
  have key : ∀ m n b back, 1 ≤ back → back ≤ i + 1 → i + 1 - back < m → (n = 0 ∨ (1 ≤ b ∧ b ≤ i ∧ i + n ≤ 16 ∧ ∀ k, i ≤ k → k < i + n → a3 (f * 16 + k) = a3 (f * 16 + (k - b)))) → n ≤ 16 → b ≤ 16 → wX_pack_41 post J (nI (f * 16)) ann (nI i) (nI rd) cl (nI N) a1 a2 a3 a4 a5 a6 a7 a8 a9 a10 a11 a12 a13 a14 m (nI n) (nI b) (nI back) := by
    intro m
    induction m with
    | zero => intro n b back _ _ h; omega
    | succ m ih =>
      intro n b back b1 b2 hm hn n16 b16
      refine pk_lt i back (fun w => ?_) (fun w => ?_)
      · refine pk_lt n 2 (fun w2 => ?_) (fun w2 => ?_)
        · refine br_c (fun hz => ?_) (fun hz => ?_)
          · obtain ⟨n0, h0, e0⟩ := nI_of (show ¬ ann < 0 from fun q => absurd hz (Int32.not_le.mpr q))
            rw [e0] at hI ⊢
            obtain ⟨z1, z2⟩ := cs_pkO hI h0 hi
            exact cs_p131 hf hi (by omega) (by omega) (H _ _ _ _ z2 (by omega) (by omega))
          · have z2 := cs_pkL hI hz hi
            exact cs_append (by omega) (cs_p131 hf hi (by omega) (by omega) (H _ _ _ _ z2 (by omega) (by omega)))
        · have hn' : 1 ≤ b ∧ b ≤ i ∧ i + n ≤ 16 ∧ ∀ k, i ≤ k → k < i + n → a3 (f * 16 + k) = a3 (f * 16 + (k - b)) := by
            rcases hn with q | q
            · omega
            · exact q
          obtain ⟨q1, q2, q3, q4⟩ := hn'
          rw [cs_encv w2 q1]
          exact cs_append (by omega) (nm_r (nI_add i n) (nm_r (nI_1 rd) (H _ _ _ _ (cs_pkR hI w2 q3 q1 q2 q4) (by omega) q3)))
      · refine cs_repeatAt hf b1 (by omega) hi (fun r r1 r2 => ?_)
        refine pk_le r n (fun q => nm_r (nI_1 back) ?_) (fun q => nm_r (nI_1 back) ?_)
        · exact ih n b (back + 1) (by omega) (by omega) (by omega) hn n16 b16
        · exact ih r back (back + 1) (by omega) (by omega) (by omega) (Or.inr ⟨b1, by omega, r1, r2⟩) (by omega) (by omega)
  exact ⟨i + 1, key (i + 1) 0 0 1 (by omega) (by omega) (by omega) (Or.inl rfl) (by omega) (by omega)⟩
theorem cs_pack {post : St1 → Prop} {f : Nat} (hf : f < 3) (H : ∀ s N, N ≤ 17 → cs_dec s (fun j => a3 (f * 16 + j)) N → post (cl, nI N, a1, a2, a3, a4, a5, a6, a7, a8, a9, a10, a11, s, a13, a14)) : wpX_pack post (cl, z, a1, a2, a3, a4, a5, a6, a7, a8, a9, a10, a11, a12, a13, a14) (nI f) := by
  have key : ∀ n rd i N ann s, cs_pkI (fun j => a3 (f * 16 + j)) s ann i N → rd ≤ i → i ≤ 16 → 16 - i < n → wX_pack_18 post (nI (f * 16)) n ann (nI i) (nI rd) cl (nI N) a1 a2 a3 a4 a5 a6 a7 a8 a9 a10 a11 s a13 a14 := by
    intro n
    induction n with
    | zero => intro rd i N ann s _ _ _ h; omega
    | succ n ih =>
      intro rd i N ann s hI h1 h2 h3
      have hN := cs_pkN hI
      have fin : i = 16 → post (cl, nI N, a1, a2, a3, a4, a5, a6, a7, a8, a9, a10, a11, s, a13, a14) := by
        intro e
        obtain ⟨T, hT⟩ := cs_pkC hI h2
        rw [e] at hT
        exact H s N (by omega) (cs_bw_dec hT)
      refine pk_le 16 rd (fun w => fin (by omega)) (fun w => pk_le 16 i (fun w2 => fin (by omega)) (fun w2 => ?_))
      exact cs_pack41 hf w2 hI (fun ann' i' N' s' g1 g2 g3 => ih (rd + 1) i' N' ann' s' g1 (by omega) g3 (by omega))
  exact nm_r (cs_f16 f) ⟨17, key 17 0 0 0 (-1) a12 (cs_pk0 _ _) (by omega) (by omega) (by omega)⟩
end
end
section
/-! part 05: unpacking a pool entry -/
theorem cs_decv {n b : Nat} (hn : 2 ≤ n) (hn2 : n ≤ 15) (hb : 1 ≤ b) (hb2 : b ≤ 15) : (nI (16 + (n - 2) * 15 + (b - 1)) - 16) / 15 + 2 = nI n ∧ (nI (16 + (n - 2) * 15 + (b - 1)) - 16) - (nI (16 + (n - 2) * 15 + (b - 1)) - 16) / 15 * 15 + 1 = nI b := by
  have e1 : nI (16 + (n - 2) * 15 + (b - 1)) - 16 = nI ((n - 2) * 15 + (b - 1)) := by
    rw [show (16 : Int32) = nI 16 from rfl, pk_sub (by omega)]
    rw [show 16 + (n - 2) * 15 + (b - 1) - 16 = (n - 2) * 15 + (b - 1) by omega]
  rw [e1, show (15 : Int32) = nI 15 from rfl, pk_rem (by omega) (by omega) (by omega), pk_div (by omega) (by omega) (by omega), show (2 : Int32) = nI 2 from rfl, nI_add, nI_1]
  rw [show ((n - 2) * 15 + (b - 1)) / 15 + 2 = n by omega, show ((n - 2) * 15 + (b - 1)) % 15 + 1 = b by omega]
  exact ⟨rfl, rfl⟩
section
variable {cl z : Int32} {a1 a2 a3 a4 a5 a6 a7 a8 a9 a10 a11 a12 a13 a14 : Nat → Int32}
theorem cs_repeat {post : St1 → Prop} {c : Nat → Int32} {i n b : Nat} (hb : 1 ≤ b) (hbi : b ≤ i) (hn : i + n ≤ 16) (h0 : ∀ x, x < i → a13 x = c x) (hc : ∀ k, i ≤ k → k < i + n → c k = c (k - b))
    (H : ∀ s, (∀ x, x < i + n → s x = c x) → post (cl, z, a1, a2, a3, a4, a5, a6, a7, a8, a9, a10, a11, a12, s, a14)) : wpX_repeat post (cl, z, a1, a2, a3, a4, a5, a6, a7, a8, a9, a10, a11, a12, a13, a14) (nI i) (nI n) (nI b) := by
  refine pk_loop (fun m x s => wX_repeat_3 post (nI i) (nI n) (nI b) cl z m (nI x) a1 a2 a3 a4 a5 a6 a7 a8 a9 a10 a11 a12 s a14) (fun x s => i ≤ x ∧ ∀ y, y < x → s y = c y) (i + n) i a13 (by omega) ⟨Nat.le_refl _, h0⟩ ?_ ?_
  · intro m s h
    exact pk_le (i + n) (i + n) (fun _ => H s h.2) (fun w => absurd w (by omega)) (nI_add i n)
  · intro m x s hx h hw
    obtain ⟨h1, h2⟩ := h
    refine pk_le (i + n) x (fun w => absurd w (by omega)) (fun _ => pk_le 16 x (fun w => absurd w (by omega)) (fun _ => pk_lt x b (fun w => absurd w (by omega)) (fun _ => ⟨pk_in (x - b) 16 (by omega) (pk_sub (by omega)), pk_in x 16 (by omega), ?_⟩))) (nI_add i n)
    refine nm_r (show upd s (nI x).toNatClampNeg (s (nI x - nI b).toNatClampNeg) = upd s x (s (x - b)) by rw [nI_clamp (by omega), pk_sub (by omega), nI_clamp (by omega)]) (nm_r (nI_1 x) (hw _ ⟨by omega, cs_fill h2 ?_⟩))
    rw [h2 (x - b) (by omega), hc x h1 hx]
theorem cs_u57 {post : St1 → Prop} {J : Int32 → Int32 → Int32 → Int32 → Int32 → (Nat → Int32) → (Nat → Int32) → (Nat → Int32) → (Nat → Int32) → (Nat → Int32) → (Nat → Int32) → (Nat → Int32) → (Nat → Int32) → (Nat → Int32) → (Nat → Int32) → (Nat → Int32) → (Nat → Int32) → (Nat → Int32) → (Nat → Int32) → Prop} {c : Nat → Int32} {B i j m rd : Nat} (hm : m < 16) (hi : i + m + 1 ≤ 16) (hB : B + j + m < 64) (h0 : ∀ x, x < i → a13 x = c x) (hc : ∀ k, k ≤ m → a6 (B + (j + k)) = c (i + k))
    (H : ∀ s, (∀ x, x < i + m + 1 → s x = c x) → J (nI (j + m + 1)) (nI (i + m + 1)) (nI (rd + 1)) cl z a1 a2 a3 a4 a5 a6 a7 a8 a9 a10 a11 a12 s a14) : ∃ fu, wX_unpack_57 post J (nI B) (nI rd) (nI m) cl z fu (nI j) (nI i) 0 a1 a2 a3 a4 a5 a6 a7 a8 a9 a10 a11 a12 a13 a14 := by
  refine pk_loop (fun n k s => wX_unpack_57 post J (nI B) (nI rd) (nI m) cl z n (nI (j + k)) (nI (i + k)) (nI k) a1 a2 a3 a4 a5 a6 a7 a8 a9 a10 a11 a12 s a14) (fun k s => ∀ x, x < i + k → s x = c x) (m + 1) 0 a13 (by omega) h0 ?_ ?_
  · intro n s h
    exact pk_lt m (m + 1) (fun _ => nm_r (nI_1 rd) (H s h)) (fun w => absurd w (by omega))
  · intro n k s hk h hw
    refine pk_lt m k (fun w => absurd w (by omega)) (fun _ => pk_le 16 (i + k) (fun w => absurd w (by omega)) (fun _ => ⟨pk_in (B + (j + k)) 64 (by omega) (nI_add _ _), pk_in (i + k) 16 (by omega), ?_⟩))
    refine nm_r (show upd s (nI (i + k)).toNatClampNeg (a6 (nI B + nI (j + k)).toNatClampNeg) = upd s (i + k) (a6 (B + (j + k))) by rw [nI_clamp (by omega), nI_add, nI_clamp (by omega)]) (nm_r (nI_1 (j + k)) (nm_r (nI_1 (i + k)) (nm_r (nI_1 k) (hw _ ?_))))
    exact cs_fill h (hc k (by omega))
theorem cs_baseOf {post : Int32 → Prop} {e N : Nat} (he : e < 8) (hN : N ≤ 16) (hs : a8 e = nI N) (H : post (nI (cs_ba e N))) : wpX_baseOf post (cl, z, a1, a2, a3, a4, a5, a6, a7, a8, a9, a10, a11, a12, a13, a14) (nI e) := by
  have e1 : (nI e >>> ((1 : Int32) &&& 31)) * 16 = nI (e / 2 * 16) := by
    rw [pk_shrN (by omega) ((1 : Int32) &&& 31) 1 (by decide), cs_f16]
  have e2 : nI e &&& 1 = nI (e % 2) := by
    rw [pk_andN (by omega) 1 (by decide)]
  refine nm_r e1 ?_
  rw [e2]
  refine pk_eq (e % 2) 1 (fun w => ⟨pk_in e 8 he, nm_r (e' := nI (cs_ba e N)) ?_ H⟩) (fun w => ?_)
  · rw [nI_clamp (by omega), hs, show (16 : Int32) = nI 16 from rfl, nI_add, pk_sub (by omega)]
    unfold cs_ba
    rw [if_pos w]
  · unfold cs_ba at H
    rw [if_neg w] at H
    exact H
theorem cs_unpack {post : St1 → Prop} {c : Nat → Int32} {e N : Nat} (he : e < 8) (hN : N ≤ 15) (hs : a8 e = nI N) (hd : cs_dec (fun j => a6 (cs_ba e N + j)) c N)
    (H : ∀ s, (∀ x, x < 16 → s x = c x) → post (cl, z, a1, a2, a3, a4, a5, a6, a7, a8, a9, a10, a11, a12, s, a14)) : wpX_unpack post (cl, z, a1, a2, a3, a4, a5, a6, a7, a8, a9, a10, a11, a12, a13, a14) (nI e) := by
  unfold wpX_unpack
  dsimp only
  refine cs_baseOf he (by omega) hs ?_
  have hB : cs_ba e N + N ≤ 64 := by
    unfold cs_ba
    by_cases o : e % 2 = 1
    · rw [if_pos o]
      omega
    · rw [if_neg o]
      omega
  generalize cs_ba e N = B at hd hB
  have key : ∀ g n rd i j s, cs_fw (fun j => a6 (B + j)) c N g i j → rd ≤ i → (∀ x, x < i → s x = c x) → g < n → wX_unpack_14 post (nI B) n (nI j) (nI i) (nI rd) cl z a1 a2 a3 a4 a5 a6 a7 a8 a9 a10 a11 a12 s a14 := by
    intro g
    induction g with
    | zero =>
      intro n rd i j s hg h1 h2 h3
      obtain ⟨g1, g2⟩ := hg
      obtain ⟨n, rfl⟩ : ∃ n', n = n' + 1 := ⟨n - 1, by omega⟩
      rw [g1] at h2
      refine pk_le 16 rd (fun w => H s h2) (fun w => pk_le 16 i (fun w2 => H s h2) (fun w2 => absurd w2 (by omega)))
    | succ g ih =>
      intro n rd i j s hg h1 h2 h3
      obtain ⟨n, rfl⟩ : ∃ n', n = n' + 1 := ⟨n - 1, by omega⟩
      have hl := cs_fw_le _ _ _ hg
      obtain ⟨i', j', ht, hf⟩ := hg
      have hl2 := cs_fw_le _ _ _ hf
      refine pk_le 16 rd (fun w => absurd w (by omega)) (fun w => pk_le 16 i (fun w2 => absurd w2 (by omega)) (fun w2 => pk_le 16 j (fun w3 => absurd w3 (by omega)) (fun w3 => ⟨pk_in (B + j) 64 (by omega) (nI_add _ _), ?_⟩)))
      rw [nI_add, nI_clamp (by omega)]
      rcases ht with ⟨m, t1, t2, t3, t4, t5⟩ | ⟨m, b, t1, t2, t3, t4, t5, t6, t7, t8, t9⟩
      · have t4' : a6 (B + j) = nI m := t4
        refine nm_r t4' (nm_r (nI_1 j) (br_f (nI_ge (b := 16) t1 (by decide)) ?_))
        refine cs_u57 (c := c) t1 (by omega) (by omega) h2 (fun k hk => ?_) (fun s' hs' => ?_)
        · have t5' : a6 (B + (j + 1 + k)) = c (i + k) := t5 k hk
          exact t5'
        · have r := ih n (rd + 1) i' j' s' hf (by omega) (fun x hx => hs' x (by omega)) (by omega)
          rw [t2, t3] at r
          rw [show j + 1 + m + 1 = j + m + 2 by omega]
          exact r
      · have t8' : a6 (B + j) = nI (16 + (m - 2) * 15 + (b - 1)) := t8
        obtain ⟨v1, v2⟩ := cs_decv t1 t2 t3 t4
        refine nm_r t8' (nm_r (nI_1 j) (br_t (nI_le (a := 16) (by omega) (by omega)) ⟨by decide, nm_r v1 ⟨by decide, nm_r v2 ?_⟩⟩))
        refine cs_repeat (c := c) t3 t5 (by omega) h2 t9 (fun s' hs' => ?_)
        refine nm_r (nI_add i m) (nm_r (nI_1 rd) ?_)
        have r := ih n (rd + 1) i' j' s' hf (by omega) (fun x hx => hs' x (by omega)) (by omega)
        rw [t6, t7] at r
        exact r
  obtain ⟨g, hg⟩ := hd
  exact ⟨g + 1, key g (g + 1) 0 0 0 a13 hg (by omega) (fun x hx => absurd hx (by omega)) (by omega)⟩
end
end
section
/-! part 06: the pool's tables, free slots, stores -/
/-- how many packed pages a pool frame has -/
def cs_hn (pp : Nat → Int32) (g : Nat) : Nat := (if pp (2 * g) < 0 then 0 else 1) + (if pp (2 * g + 1) < 0 then 0 else 1)
/-- the room in a pool frame -/
def cs_rm (pp ps : Nat → Int32) (g : Nat) : Nat := 16 - (if pp (2 * g) < 0 then 0 else (ps (2 * g)).toNatClampNeg) - (if pp (2 * g + 1) < 0 then 0 else (ps (2 * g + 1)).toNatClampNeg)
def cs_sz (pp ps : Nat → Int32) : Prop := (∀ e, e < 8 → ¬ pp e < 0 → ∃ N, N ≤ 15 ∧ ps e = nI N) ∧ cs_ge pp ps
theorem cs_szI {t : Nat} {C : Nat → Nat → Int32} {k pl fr fp po pp ps sl sp : Nat → Int32} (h : cs_I t C k pl fr fp po pp ps sl sp) : cs_sz pp ps := by
  obtain ⟨h1, h2, h3, h4, h5⟩ := h
  refine ⟨fun e he h0 => ?_, h5⟩
  obtain ⟨q, q1, q2, q3, q4, q5⟩ := cs_own (p := t) h3 (by omega) he h0
  obtain ⟨e', z1, z2, z3, z4, N, z5, z6, _⟩ := cs_at2 (h1 q q1 q2) q4
  have ee : e = e' := cs_inj (by omega) (by omega) (by rw [← q5, z2])
  exact ⟨N, z5, by rw [ee]; exact z6⟩
theorem cs_hn_ff {pp : Nat → Int32} {g : Nat} (h0 : pp (2 * g) < 0) (h1 : pp (2 * g + 1) < 0) : cs_hn pp g = 0 := by
  unfold cs_hn
  rw [if_pos h0, if_pos h1]
theorem cs_hn_ft {pp : Nat → Int32} {g : Nat} (h0 : pp (2 * g) < 0) (h1 : ¬ pp (2 * g + 1) < 0) : cs_hn pp g = 1 := by
  unfold cs_hn
  rw [if_pos h0, if_neg h1]
theorem cs_hn_tf {pp : Nat → Int32} {g : Nat} (h0 : ¬ pp (2 * g) < 0) (h1 : pp (2 * g + 1) < 0) : cs_hn pp g = 1 := by
  unfold cs_hn
  rw [if_neg h0, if_pos h1]
theorem cs_hn_tt {pp : Nat → Int32} {g : Nat} (h0 : ¬ pp (2 * g) < 0) (h1 : ¬ pp (2 * g + 1) < 0) : cs_hn pp g = 2 := by
  unfold cs_hn
  rw [if_neg h0, if_neg h1]
/-- a block of n places from B on is filled with c up to i, the rest as in a -/
def cs_bk (B n i : Nat) (c a t : Nat → Int32) : Prop := (∀ j, j < i → t (B + j) = c j) ∧ ∀ x, x < B ∨ B + n ≤ x → t x = a x
theorem cs_bk0 {B n : Nat} {c a : Nat → Int32} : cs_bk B n 0 c a a := ⟨fun j hj => absurd hj (by omega), fun _ _ => rfl⟩
theorem cs_bkS {B n i : Nat} {c a t : Nat → Int32} {v : Int32} (h : cs_bk B n i c a t) (hi : i < n) (hv : v = c i) : cs_bk B n (i + 1) c a (upd t (B + i) v) := by
  refine ⟨fun j hj => ?_, fun x hx => ?_⟩
  · by_cases e : j = i
    · rw [e, pk_us, hv]
    · rw [pk_un (by omega)]
      exact h.1 j (by omega)
  · rw [pk_un (by omega)]
    exact h.2 x hx
theorem cs_vin {x : Int32} {m : Nat} (hm : m < 2 ^ 31) (h0 : ¬ x < 0) (h1 : ¬ nI m ≤ x) : ∃ j : Nat, j < m ∧ x = nI j := by
  rcases pk_ix x hm with z | z | z
  · exact absurd z h0
  · exact absurd z h1
  · exact z
theorem cs_q3 : ∀ p, p < 12 → ¬ (nI p + 1 < nI p - 1) ∧ ¬ (nI p + 1 < nI p - 1 + 1) ∧ ¬ (nI p + 1 < nI p - 1 + 1 + 1) ∧ (nI p + 1 < nI p - 1 + 1 + 1 + 1) := by decide +kernel
section
variable {cl z : Int32} {a1 a2 a3 a4 a5 a6 a7 a8 a9 a10 a11 a12 a13 a14 : Nat → Int32}
theorem cs_held {post : Int32 → Prop} {g : Nat} (hg : g < 4) (H : post (nI (cs_hn a7 g))) : wpX_held post (cl, z, a1, a2, a3, a4, a5, a6, a7, a8, a9, a10, a11, a12, a13, a14) (nI g) := by
  refine ⟨pk_in (2 * g) 8 (by omega) (cs_g2 g), ?_⟩
  rw [cs_g2, nI_clamp (by omega)]
  refine br_c (fun h0 => ⟨pk_in (2 * g + 1) 8 (by omega) (cs_g21 g), ?_⟩) (fun h0 => ⟨pk_in (2 * g + 1) 8 (by omega) (cs_g21 g), ?_⟩)
  · rw [cs_g21, nI_clamp (by omega)]
    refine br_c (fun h1 => ?_) (fun h1 => ?_)
    · rw [cs_hn_ff h0 h1] at H
      exact H
    · rw [cs_hn_ft h0 h1] at H
      exact H
  · rw [cs_g21, nI_clamp (by omega)]
    refine br_c (fun h1 => ?_) (fun h1 => ?_)
    · rw [cs_hn_tf h0 h1] at H
      exact H
    · rw [cs_hn_tt h0 h1] at H
      exact H
theorem cs_roomIn {post : Int32 → Prop} {g : Nat} (hg : g < 4) (hs : cs_sz a7 a8) (H : post (nI (cs_rm a7 a8 g))) : wpX_roomIn post (cl, z, a1, a2, a3, a4, a5, a6, a7, a8, a9, a10, a11, a12, a13, a14) (nI g) := by
  refine ⟨pk_in (2 * g) 8 (by omega) (cs_g2 g), ?_⟩
  rw [cs_g2, nI_clamp (by omega)]
  unfold cs_rm at H
  refine br_c (fun h0 => ⟨pk_in (2 * g + 1) 8 (by omega) (cs_g21 g), ?_⟩) (fun h0 => ⟨pk_in (2 * g) 8 (by omega), ?_⟩)
  · rw [cs_g21, nI_clamp (by omega)]
    rw [if_pos h0] at H
    refine br_c (fun h1 => ?_) (fun h1 => ⟨pk_in (2 * g + 1) 8 (by omega), ?_⟩)
    · rw [if_pos h1] at H
      exact H
    · obtain ⟨N, n1, n2⟩ := hs.1 (2 * g + 1) (by omega) h1
      rw [if_neg h1, n2, nI_clamp (by omega)] at H
      rw [n2]
      exact nm_r (pk_sub (a := 16) (by omega)) H
  · obtain ⟨M, m1, m2⟩ := hs.1 (2 * g) (by omega) h0
    rw [if_neg h0, m2, nI_clamp (by omega)] at H
    rw [m2]
    refine nm_r (pk_sub (a := 16) (by omega)) ⟨pk_in (2 * g + 1) 8 (by omega) (cs_g21 g), ?_⟩
    rw [cs_g21, nI_clamp (by omega)]
    refine br_c (fun h1 => ?_) (fun h1 => ⟨pk_in (2 * g + 1) 8 (by omega), ?_⟩)
    · rw [if_pos h1] at H
      exact H
    · obtain ⟨N, n1, n2⟩ := hs.1 (2 * g + 1) (by omega) h1
      obtain ⟨M', N', e1, e2, e3⟩ := hs.2 g hg h0 h1
      have mm : M = M' := cs_inj (by omega) (by omega) (by rw [← m2, e1])
      have nn : N = N' := cs_inj (by omega) (by omega) (by rw [← n2, e2])
      rw [if_neg h1, n2, nI_clamp (by omega)] at H
      rw [n2]
      exact nm_r (pk_sub (show N ≤ 16 - M by omega)) H
theorem cs_pf63 {post : Int32 → Prop} {x3 : Int32} (hx : ∀ g, g < 4 → cs_hn a7 g = 0 → x3 = 100 → post (nI g)) : ∀ (m : Nat) (x2 : Int32), m ≤ 4 →
    ((∀ g, m ≤ g → g < 4 → x3 = 100 → cs_hn a7 g ≠ 0) → (∀ g, g < m → cs_hn a7 g ≠ 0 ∨ ¬ x3 = 100) → post x2) → ((∃ g, g < 4 ∧ cs_hn a7 g = 0 ∧ x2 = nI g ∧ x3 = 100) ∨ ∀ g, m ≤ g → g < 4 → x3 = 100 → cs_hn a7 g ≠ 0) → wX_poolFrame_63 post x3 cl z a1 a2 a3 a4 a5 a6 a7 a8 a9 a10 a11 a12 a13 a14 (m + 1) x2 (nI m + (-1)) := by
  intro m
  induction m with
  | zero =>
    intro x2 _ H hI
    refine br_t (by decide) ?_
    rcases hI with ⟨g, g1, g2, g3, g4⟩ | h
    · rw [g3]
      exact hx g g1 g2 g4
    · exact H h (fun g hg => absurd hg (by omega))
  | succ m ih =>
    intro x2 hm H hI
    rw [pk_m1]
    refine pk_lt m 0 (fun w => absurd w (by omega)) (fun _ => cs_held (by omega) ?_)
    refine pk_eq (cs_hn a7 m) 0 (fun e => br_c (fun h => nm_e ?_) (fun h => nm_e ?_)) (fun e => nm_e ?_) rfl rfl (by unfold cs_hn; split <;> split <;> omega)
    · exact ih (nI m) (by omega) (fun _ _ => hx m (by omega) e h) (Or.inl ⟨m, by omega, e, rfl, h⟩)
    · refine ih x2 (by omega) (fun _ _ => H (fun g _ _ q => absurd q h) (fun g _ => Or.inr h)) (Or.inr (fun g _ _ q => absurd q h))
    · refine ih x2 (by omega) (fun h1 h2 => H (fun g q1 q2 => h1 g (by omega) q2) (fun g hg => ?_)) ?_
      · by_cases eg : g = m
        · rw [eg]
          exact Or.inl e
        · exact h2 g (by omega)
      · rcases hI with q | q
        · exact Or.inl q
        · refine Or.inr (fun g q1 q2 q3 => ?_)
          by_cases eg : g = m
          · rw [eg]
            exact e
          · exact q g (by omega) q2 q3
theorem cs_poolFrame {post : Int32 → Prop} {N : Nat} (hN : N ≤ 16) (hs : cs_sz a7 a8) (H0 : (∀ g, g < 4 → cs_hn a7 g ≠ 0) → post (-1)) (H1 : ∀ g, g < 4 → (cs_hn a7 g = 0 ∨ (cs_hn a7 g = 1 ∧ N ≤ cs_rm a7 a8 g)) → post (nI g)) : wpX_poolFrame post (cl, z, a1, a2, a3, a4, a5, a6, a7, a8, a9, a10, a11, a12, a13, a14) (nI N) := by
  have key : ∀ n x x2 x3, x ≤ 4 → 4 - x < n → ((x2 = -1 ∧ x3 = 100) ∨ (∃ g r, g < 4 ∧ r ≤ 16 ∧ x2 = nI g ∧ x3 = nI r ∧ cs_hn a7 g = 1 ∧ N ≤ cs_rm a7 a8 g)) → wX_poolFrame_8 post (nI N) cl z a1 a2 a3 a4 a5 a6 a7 a8 a9 a10 a11 a12 a13 a14 n x2 x3 (nI x) := by
    intro n
    induction n with
    | zero => intro x x2 x3 _ h; omega
    | succ n ih =>
      intro x x2 x3 hx hn hI
      refine pk_le 4 x (fun w => ?_) (fun w => ?_)
      · refine ⟨5, cs_pf63 (fun g hg e _ => H1 g hg (Or.inl e)) 4 x2 (by omega) (fun h1 h2 => ?_) (Or.inr (fun g g1 g2 => absurd g1 (by omega)))⟩
        rcases hI with ⟨e1, e2⟩ | ⟨g, r, g1, g2, g3, g4, g5, g6⟩
        · rw [e1]
          refine H0 (fun g hg => ?_)
          rcases h2 g hg with q | q
          · exact q
          · exact absurd e2 q
        · rw [g3]
          exact H1 g g1 (Or.inr ⟨g5, g6⟩)
      · refine cs_held w (cs_roomIn w hs ?_)
        have hr : cs_rm a7 a8 x ≤ 16 := by
          unfold cs_rm
          omega
        have hh : cs_hn a7 x ≤ 2 := by
          unfold cs_hn
          split <;> split <;> omega
        refine pk_eq (cs_hn a7 x) 1 (fun e => pk_lt (cs_rm a7 a8 x) N (fun q => nm_r (nI_1 x) (ih (x + 1) x2 x3 (by omega) (by omega) hI)) (fun q => br_c (fun _ => nm_r (nI_1 x) (ih (x + 1) x2 x3 (by omega) (by omega) hI)) (fun _ => nm_r (nI_1 x) (ih (x + 1) _ _ (by omega) (by omega) (Or.inr ⟨x, _, w, hr, rfl, rfl, e, q⟩))))) (fun e => nm_r (nI_1 x) (ih (x + 1) x2 x3 (by omega) (by omega) hI))
  exact ⟨5, key 5 0 (-1) 100 (by omega) (by omega) (Or.inl ⟨rfl, rfl⟩)⟩
theorem cs_oldest {post : Int32 → Prop} (H0 : (∀ g, g < 4 → cs_hn a7 g = 0) → post (-1)) (H1 : ∀ g, g < 4 → post (nI g)) : wpX_oldestPoolFrame post (cl, z, a1, a2, a3, a4, a5, a6, a7, a8, a9, a10, a11, a12, a13, a14) := by
  have key : ∀ n x x1, x ≤ 4 → 4 - x < n → ((x1 = -1 ∧ ∀ g, g < x → cs_hn a7 g = 0) ∨ (∃ g, g < 4 ∧ x1 = nI g)) → wX_oldestPoolFrame_4 post cl z a1 a2 a3 a4 a5 a6 a7 a8 a9 a10 a11 a12 a13 a14 n x1 (nI x) := by
    intro n
    induction n with
    | zero => intro x x1 _ h; omega
    | succ n ih =>
      intro x x1 hx hn hI
      refine pk_le 4 x (fun w => ?_) (fun w => ?_)
      · rcases hI with ⟨e1, e2⟩ | ⟨g, g1, g2⟩
        · rw [e1]
          exact H0 (fun g hg => e2 g (by omega))
        · rw [g2]
          exact H1 g g1
      · have hh : cs_hn a7 x ≤ 2 := by
          unfold cs_hn
          split <;> split <;> omega
        refine cs_held w (pk_le (cs_hn a7 x) 0 (fun e => nm_r (nI_1 x) (ih (x + 1) x1 (by omega) (by omega) ?_)) (fun e => br_c (fun q => nm_r (nI_1 x) (ih (x + 1) _ (by omega) (by omega) (Or.inr ⟨x, w, rfl⟩))) (fun q => ?_)))
        · rcases hI with ⟨e1, e2⟩ | q
          · refine Or.inl ⟨e1, fun g hg => ?_⟩
            by_cases eg : g = x
            · rw [eg]
              omega
            · exact e2 g (by omega)
          · exact Or.inr q
        · rcases hI with ⟨e1, e2⟩ | ⟨g, g1, g2⟩
          · rw [e1] at q
            exact absurd cs_m1 q
          · refine ⟨pk_in x 4 w, pk_in g 4 g1 g2, br_c (fun _ => nm_r (nI_1 x) (ih (x + 1) _ (by omega) (by omega) (Or.inr ⟨g, g1, g2⟩))) (fun _ => nm_r (nI_1 x) (ih (x + 1) _ (by omega) (by omega) (Or.inr ⟨x, w, rfl⟩)))⟩
  exact ⟨5, key 5 0 (-1) (by omega) (by omega) (Or.inl ⟨rfl, fun g hg => absurd hg (by omega)⟩)⟩
theorem cs_fs30 {post : Int32 → Prop} {x1 x2 x3 : Int32} {n : Nat} (h1 : ¬ x1 + 1 < x3) (h2 : ∃ s, s < 12 ∧ x2 = nI s ∧ a11 s < 0) (H : ∀ y, (∃ s, s < 12 ∧ y = nI s ∧ a11 s < 0) → wX_freeSlot_30 post x1 cl z a1 a2 a3 a4 a5 a6 a7 a8 a9 a10 a11 a12 a13 a14 n y (x3 + 1)) : wX_freeSlot_30 post x1 cl z a1 a2 a3 a4 a5 a6 a7 a8 a9 a10 a11 a12 a13 a14 (n + 1) x2 x3 := by
  refine br_f h1 (br_c (fun _ => nm_e (H _ h2)) (fun q0 => br_c (fun _ => nm_e (H _ h2)) (fun q1 => ?_)))
  obtain ⟨j, j1, j2⟩ := cs_vin (m := 12) (by decide) q0 q1
  refine ⟨pk_in j 12 j1 j2, br_c (fun _ => ⟨pk_in j 12 j1 j2, nm_e (br_c (fun _ => nm_e (H _ h2)) (fun q2 => br_c (fun _ => nm_e (H _ h2)) (fun q3 => ?_)))⟩) (fun _ => nm_e (H _ h2))⟩
  obtain ⟨s, s1, s2⟩ := cs_vin (m := 12) (by decide) q2 q3
  refine ⟨pk_in s 12 s1 s2, br_c (fun _ => nm_e (H _ h2)) (fun q4 => nm_e (H _ ⟨s, s1, s2, ?_⟩))⟩
  rw [s2, nI_clamp (by omega)] at q4
  exact Int32.not_le.mp q4
theorem cs_freeSlot {post : Int32 → Prop} {p : Nat} (hp : p < 12) (hf : ∃ s, s < 12 ∧ a11 s < 0) (H : ∀ s, s < 12 → a11 s < 0 → post (nI s)) : wpX_freeSlot post (cl, z, a1, a2, a3, a4, a5, a6, a7, a8, a9, a10, a11, a12, a13, a14) (nI p) := by
  have fin : ∀ y, (∃ s, s < 12 ∧ y = nI s ∧ a11 s < 0) → ∃ n, wX_freeSlot_30 post (nI p) cl z a1 a2 a3 a4 a5 a6 a7 a8 a9 a10 a11 a12 a13 a14 n y (nI p - 1) := by
    intro y hy
    obtain ⟨c1, c2, c3, c4⟩ := cs_q3 p hp
    refine ⟨4, cs_fs30 c1 hy (fun y1 h1 => cs_fs30 c2 h1 (fun y2 h2 => cs_fs30 c3 h2 (fun y3 h3 => br_t c4 ?_)))⟩
    obtain ⟨s, s1, s2, s3⟩ := h3
    rw [s2]
    exact H s s1 s3
  have key : ∀ m x2, m ≤ 12 → ((∃ s, s < 12 ∧ x2 = nI s ∧ a11 s < 0) ∨ ∀ s, m ≤ s → s < 12 → ¬ a11 s < 0) → wX_freeSlot_5 post (nI p) cl z a1 a2 a3 a4 a5 a6 a7 a8 a9 a10 a11 a12 a13 a14 (m + 1) x2 (nI m + (-1)) := by
    intro m
    induction m with
    | zero =>
      intro x2 _ hI
      refine br_t (by decide) (nm_e (fin x2 ?_))
      rcases hI with q | q
      · exact q
      · obtain ⟨s, s1, s2⟩ := hf
        exact absurd s2 (q s (by omega) s1)
    | succ m ih =>
      intro x2 hm hI
      rw [pk_m1]
      refine pk_lt m 0 (fun w => absurd w (by omega)) (fun _ => ⟨pk_in m 12 (by omega), ?_⟩)
      rw [nI_clamp (by omega)]
      refine br_c (fun q => nm_e (ih x2 (by omega) ?_)) (fun q => nm_e (ih (nI m) (by omega) (Or.inl ⟨m, by omega, rfl, Int32.not_le.mp q⟩)))
      rcases hI with w | w
      · exact Or.inl w
      · refine Or.inr (fun s s1 s2 => ?_)
        by_cases es : s = m
        · rw [es]
          exact fun w2 => absurd q (Int32.not_le.mpr w2)
        · exact w s (by omega) s2
  exact ⟨13, key 12 (-1) (by omega) (Or.inr (fun s s1 s2 => absurd s1 (by omega)))⟩
theorem cs_storeSlot {post : St1 → Prop} {s p : Nat} (hs : s < 12) (hp : p < 12) (H : ∀ t, cs_bk (s * 16) 16 16 a13 a10 t → post (cl, z, upd a1 p 3, upd a2 p (nI s), a3, a4, a5, a6, a7, a8, a9, t, upd a11 s (nI p), a12, a13, a14)) : wpX_storeSlot post (cl, z, a1, a2, a3, a4, a5, a6, a7, a8, a9, a10, a11, a12, a13, a14) (nI s) (nI p) := by
  refine br_t (nI_pos' (by omega)) ?_
  refine pk_loop (fun n i t => wX_storeSlot_7 post (nI s) (nI p) cl z n (nI i) a1 a2 a3 a4 a5 a6 a7 a8 a9 t a11 a12 a13 a14) (fun i t => cs_bk (s * 16) 16 i a13 a10 t) 16 0 a10 (by omega) cs_bk0 ?_ ?_
  · intro n t h
    refine pk_le 16 16 (fun _ => ⟨pk_in s 12 hs, nm_r (show upd a11 (nI s).toNatClampNeg (nI p) = upd a11 s (nI p) by rw [nI_clamp (by omega)]) ⟨pk_in p 12 hp, nm_r (show upd a1 (nI p).toNatClampNeg 3 = upd a1 p 3 by rw [nI_clamp (by omega)]) ⟨pk_in p 12 hp, nm_r (show upd a2 (nI p).toNatClampNeg (nI s) = upd a2 p (nI s) by rw [nI_clamp (by omega)]) (H t h)⟩⟩⟩) (fun w => absurd w (by omega))
  · intro n i t hi h hw
    refine pk_le 16 i (fun w => absurd w (by omega)) (fun _ => ⟨pk_in i 16 hi, pk_in (s * 16 + i) 192 (by omega) (cs_fi s i), ?_⟩)
    refine nm_r (show upd t (nI s * 16 + nI i).toNatClampNeg (a13 (nI i).toNatClampNeg) = upd t (s * 16 + i) (a13 i) by rw [cs_fc (by omega), nI_clamp (by omega)]) (nm_r (nI_1 i) (hw _ (cs_bkS h hi rfl)))
theorem cs_sp16 {post : St1 → Prop} {g p e N : Nat} (hg : g < 4) (hp : p < 12) (he : e < 8) (hN : N ≤ 15) (H : ∀ t c' s9, cs_bk (cs_ba e N) N N a12 a6 t → post (c', nI N, upd a1 p 2, upd a2 p (nI e), a3, a4, a5, t, upd a7 e (nI p), upd a8 e (nI N), s9, a10, a11, a12, a13, a14)) : wX_storePacked_16 post (nI g) (nI p) (nI e) cl (nI N) a1 a2 a3 a4 a5 a6 a7 a8 a9 a10 a11 a12 a13 a14 := by
  refine ⟨pk_in e 8 he, nm_r (show upd a7 (nI e).toNatClampNeg (nI p) = upd a7 e (nI p) by rw [nI_clamp (by omega)]) ⟨pk_in e 8 he, nm_r (show upd a8 (nI e).toNatClampNeg (nI N) = upd a8 e (nI N) by rw [nI_clamp (by omega)]) (cs_baseOf he (by omega) pk_us ?_)⟩⟩
  have hB : cs_ba e N + N ≤ 64 := by
    unfold cs_ba
    by_cases o : e % 2 = 1
    · rw [if_pos o]
      omega
    · rw [if_neg o]
      omega
  generalize cs_ba e N = B at H hB
  refine pk_loop (fun n i t => wX_storePacked_43 post (nI g) (nI p) (nI e) (nI B) cl (nI N) n (nI i) a1 a2 a3 a4 a5 t (upd a7 e (nI p)) (upd a8 e (nI N)) a9 a10 a11 a12 a13 a14) (fun i t => cs_bk B N i a12 a6 t) N 0 a6 (by omega) cs_bk0 ?_ ?_
  · intro n t h
    refine pk_le N N (fun _ => nm_e ⟨pk_in g 4 hg, nm_e ⟨pk_in p 12 hp, nm_r (show upd a1 (nI p).toNatClampNeg 2 = upd a1 p 2 by rw [nI_clamp (by omega)]) ⟨pk_in p 12 hp, nm_r (show upd a2 (nI p).toNatClampNeg (nI e) = upd a2 p (nI e) by rw [nI_clamp (by omega)]) (H t _ _ h)⟩⟩⟩) (fun w => absurd w (by omega))
  · intro n i t hi h hw
    refine pk_le N i (fun w => absurd w (by omega)) (fun _ => ⟨pk_in i 24 (by omega), pk_in (B + i) 64 (by omega) (nI_add B i), ?_⟩)
    refine nm_r (show upd t (nI B + nI i).toNatClampNeg (a12 (nI i).toNatClampNeg) = upd t (B + i) (a12 i) by rw [nI_add, nI_clamp (by omega), nI_clamp (by omega)]) (nm_r (nI_1 i) (hw _ (cs_bkS h hi rfl)))
theorem cs_storePacked {post : St1 → Prop} {C C' : Nat → Nat → Int32} {g p N : Nat} (hg : g < 4) (hp : p < 12) (hN : N ≤ 15) (hI : cs_I p C a1 a2 a3 a4 a6 a7 a8 a10 a11) (hC : ∀ q, q ≠ p → C' q = C q) (hz : cs_nz (C' p)) (hd : cs_dec a12 (C' p) N) (hr : cs_hn a7 g = 0 ∨ (cs_hn a7 g = 1 ∧ N ≤ cs_rm a7 a8 g))
    (H : ∀ c' b1 b2 b6 b7 b8 b9, cs_I 12 C' b1 b2 a3 a4 b6 b7 b8 a10 a11 → (∀ q, q ≠ p → b1 q = a1 q) → b1 p = 2 → post (c', nI N, b1, b2, a3, a4, a5, b6, b7, b8, b9, a10, a11, a12, a13, a14)) : wpX_storePacked post (cl, nI N, a1, a2, a3, a4, a5, a6, a7, a8, a9, a10, a11, a12, a13, a14) (nI g) (nI p) := by
  have hs := cs_szI hI
  have main : ∀ e, e < 8 → a7 e < 0 → (¬ a7 (cs_mate e) < 0 → ∃ M, a8 (cs_mate e) = nI M ∧ M ≤ 15 ∧ M + N ≤ 16) → wX_storePacked_16 post (nI g) (nI p) (nI e) cl (nI N) a1 a2 a3 a4 a5 a6 a7 a8 a9 a10 a11 a12 a13 a14 := by
    intro e he h0 hm
    refine cs_sp16 hg hp he hN (fun t c' s9 ht => H c' _ _ _ _ _ _ (cs_putP hI hp he h0 hC hz hN hm ht.2 ?_) (fun q hq => pk_un hq) pk_us)
    exact cs_dec_congr hd (fun x hx => (ht.1 x hx).symm) (fun x _ => rfl)
  refine nm_r (cs_g2 g) ⟨pk_in (2 * g) 8 (by omega), ?_⟩
  rw [nI_clamp (by omega)]
  refine br_c (fun h0 => main (2 * g) (by omega) h0 ?_) (fun h0 => nm_r (nI_1 (2 * g)) (main (2 * g + 1) (by omega) ?_ ?_))
  · have em : cs_mate (2 * g) = 2 * g + 1 := by
      unfold cs_mate
      rw [if_neg (by omega)]
    rw [em]
    intro h1
    obtain ⟨M, m1, m2⟩ := hs.1 (2 * g + 1) (by omega) h1
    refine ⟨M, m2, m1, ?_⟩
    rcases hr with q | ⟨_, q⟩
    · rw [cs_hn_ft h0 h1] at q
      exact absurd q (by omega)
    · unfold cs_rm at q
      rw [if_pos h0, if_neg h1, m2, nI_clamp (by omega)] at q
      omega
  · by_cases h1 : a7 (2 * g + 1) < 0
    · exact h1
    · exfalso
      have t := cs_hn_tt h0 h1
      omega
  · have em : cs_mate (2 * g + 1) = 2 * g := by
      unfold cs_mate
      rw [if_pos (by omega)]
      omega
    rw [em]
    intro _
    obtain ⟨M, m1, m2⟩ := hs.1 (2 * g) (by omega) h0
    refine ⟨M, m2, m1, ?_⟩
    rcases hr with q | ⟨q1, q⟩
    · unfold cs_hn at q
      rw [if_neg h0] at q
      omega
    · have h1 : a7 (2 * g + 1) < 0 := by
        by_cases h1 : a7 (2 * g + 1) < 0
        · exact h1
        · exfalso
          have t := cs_hn_tt h0 h1
          omega
      unfold cs_rm at q
      rw [if_neg h0, if_pos h1, m2, nI_clamp (by omega)] at q
      omega
end
end
section
/-! part 07: writing back, evicting -/
section
variable {cl z : Int32} {a1 a2 a3 a4 a5 a6 a7 a8 a9 a10 a11 a12 a13 a14 : Nat → Int32}
variable {C : Nat → Nat → Int32}
theorem cs_blankFrame {post : Int32 → Prop} {f : Nat} (hf : f < 3) (H1 : (∀ i, i < 16 → a3 (f * 16 + i) = 0) → post 1) (H0 : (∃ i, i < 16 ∧ ¬ a3 (f * 16 + i) = 0) → post 0) : wpX_blankFrame post (cl, z, a1, a2, a3, a4, a5, a6, a7, a8, a9, a10, a11, a12, a13, a14) (nI f) := by
  have key : ∀ n i x2, i ≤ 16 → 16 - i < n → ((x2 = 1 ∧ ∀ j, j < i → a3 (f * 16 + j) = 0) ∨ (x2 = 0 ∧ ∃ j, j < 16 ∧ ¬ a3 (f * 16 + j) = 0)) → wX_blankFrame_4 post (nI f) cl z a1 a2 a3 a4 a5 a6 a7 a8 a9 a10 a11 a12 a13 a14 n x2 (nI i) := by
    intro n
    induction n with
    | zero => intro i x2 _ h; omega
    | succ n ih =>
      intro i x2 hi hn hI
      rcases hI with ⟨e, h⟩ | ⟨e, h⟩
      · subst e
        refine pk_le 16 i (fun w => ⟨rfl, H1 (fun j hj => h j (by omega))⟩) (fun w => br_f (by decide) ⟨pk_in (f * 16 + i) 48 (by omega) (cs_fi f i), ?_⟩)
        rw [cs_fc (by omega)]
        refine br_c (fun q => nm_r (nI_1 i) (ih (i + 1) 1 (by omega) (by omega) (Or.inl ⟨rfl, fun j hj => ?_⟩))) (fun q => nm_r (nI_1 i) (ih (i + 1) 0 (by omega) (by omega) (Or.inr ⟨rfl, i, w, q⟩)))
        by_cases ej : j = i
        · rw [ej]
          exact q
        · exact h j (by omega)
      · subst e
        exact pk_le 16 i (fun w => ⟨rfl, H0 h⟩) (fun w => br_t rfl (nm_r (nI_1 i) (ih (i + 1) 0 (by omega) (by omega) (Or.inr ⟨rfl, h⟩))))
  exact ⟨17, key 17 0 1 (by omega) (by omega) (Or.inl ⟨rfl, fun j hj => absurd hj (by omega)⟩)⟩
theorem cs_wbs {post : St1 → Prop} {g e n : Nat} (hg : g < 4) (he : e = 2 * g ∨ e = 2 * g + 1) (hI : cs_I 12 C a1 a2 a3 a4 a6 a7 a8 a10 a11)
    (H : ∀ b1 b2 b7 b10 b11 b13, cs_I 12 C b1 b2 a3 a4 a6 b7 a8 b10 b11 → (∀ q, b1 q = a1 q ∨ (a1 q = 2 ∧ b1 q = 3)) → b7 e < 0 → (∀ x, x ≠ e → b7 x = a7 x) → wX_writeBack_4 post (nI g) n (nI (e + 1)) cl z b1 b2 a3 a4 a5 a6 b7 a8 a9 b10 b11 a12 b13 a14) : wX_writeBack_4 post (nI g) (n + 1) (nI e) cl z a1 a2 a3 a4 a5 a6 a7 a8 a9 a10 a11 a12 a13 a14 := by
  have he8 : e < 8 := by omega
  refine pk_lt (2 * g + 1) e (fun w => absurd w (by omega)) (fun _ => ⟨pk_in e 8 he8, ?_⟩) (cs_g21 g)
  rw [nI_clamp (by omega)]
  refine br_c (fun h0 => nm_r (nI_1 e) (H a1 a2 a7 a10 a11 a13 hI (fun q => Or.inl rfl) h0 (fun _ _ => rfl))) (fun h0 => ?_)
  obtain ⟨q, q1, q2, q3, q4, q5⟩ := cs_own (p := 12) hI.2.2.1 (by omega) he8 h0
  obtain ⟨e', z1, z2, z3, z4, N, z5, z6, z7⟩ := cs_at2 (hI.1 q q1 q2) q4
  have ee : e' = e := cs_inj (by omega) (by omega) (by rw [← q5, z2])
  subst ee
  refine cs_unpack he8 z5 z6 z7 (fun s hs => ⟨pk_in e' 8 he8, nm_r q3 ⟨pk_in e' 8 he8, nm_e ?_⟩⟩)
  have hT := cs_takeP hI q1 q4 q5 he8
  refine cs_freeSlot q1 (cs_slot hT q1) (fun d d1 d2 => cs_storeSlot d1 q1 (fun t ht => nm_r (nI_1 e') (H _ _ _ _ _ _ (cs_putS hT q1 d1 d2 (fun _ _ => rfl) z4 ht.2 (fun i hi => ?_)) (fun x => ?_) ?_ (fun x hx => pk_un hx))))
  · rw [ht.1 i hi, hs i hi]
  · by_cases ex : x = q
    · rw [ex]
      exact Or.inr ⟨q4, pk_us⟩
    · exact Or.inl (pk_un ex)
  · rw [pk_us]
    exact cs_m1
theorem cs_writeBack {post : St1 → Prop} {g : Nat} (hg : g < 4) (hI : cs_I 12 C a1 a2 a3 a4 a6 a7 a8 a10 a11)
    (H : ∀ b1 b2 b7 b10 b11 b13, cs_I 12 C b1 b2 a3 a4 a6 b7 a8 b10 b11 → (∀ q, b1 q = a1 q ∨ (a1 q = 2 ∧ b1 q = 3)) → b7 (2 * g) < 0 → b7 (2 * g + 1) < 0 → post (cl, z, b1, b2, a3, a4, a5, a6, b7, a8, a9, b10, b11, a12, b13, a14)) : wpX_writeBack post (cl, z, a1, a2, a3, a4, a5, a6, a7, a8, a9, a10, a11, a12, a13, a14) (nI g) := by
  refine nm_r (cs_g2 g) ⟨3, cs_wbs hg (Or.inl rfl) hI (fun b1 b2 b7 b10 b11 b13 h1 h2 h3 h4 => cs_wbs hg (Or.inr rfl) h1 (fun c1 c2 c7 c10 c11 c13 g1 g2 g3 g4 => ?_))⟩
  refine pk_lt (2 * g + 1) (2 * g + 1 + 1) (fun _ => H c1 c2 c7 c10 c11 c13 g1 (fun q => ?_) ?_ g3) (fun w => absurd w (by omega)) (cs_g21 g)
  · rcases h2 q with w | ⟨w1, w2⟩
    · rw [← w]
      exact g2 q
    · rcases g2 q with v | ⟨v1, _⟩
      · exact Or.inr ⟨w1, by rw [v, w2]⟩
      · rw [w2] at v1
        exact absurd v1 (by decide)
  · rw [g4 _ (by omega)]
    exact h3
theorem cs_e137 {post : St1 → Prop} {C' : Nat → Nat → Int32} {g p N : Nat} (hg : g < 4) (hp : p < 12) (hN : N ≤ 15) (hI : cs_I p C a1 a2 a3 a4 a6 a7 a8 a10 a11) (hC : ∀ q, q ≠ p → C' q = C q) (hz : cs_nz (C' p)) (hd : cs_dec a12 (C' p) N) (hr : cs_hn a7 g = 0 ∨ (cs_hn a7 g = 1 ∧ N ≤ cs_rm a7 a8 g))
    (H : ∀ c' b1 b2 b6 b7 b8 b9, cs_I 12 C' b1 b2 a3 a4 b6 b7 b8 a10 a11 → (∀ q, q ≠ p → b1 q = a1 q) → b1 p = 2 → post (c', nI N, b1, b2, a3, a4, a5, b6, b7, b8, b9, a10, a11, a12, a13, a14)) : wX_evict_137 post (nI p) (nI g) cl (nI N) a1 a2 a3 a4 a5 a6 a7 a8 a9 a10 a11 a12 a13 a14 := by
  unfold wX_evict_137
  exact cs_storePacked hg hp hN hI hC hz hd hr H
theorem cs_evict {post : St1 → Prop} {f p : Nat} (hf : f < 3) (hp : p < 12) (hI : cs_I 12 C a1 a2 a3 a4 a6 a7 a8 a10 a11) (ho : a4 f = nI p)
    (H : ∀ c' z' b1 b2 b4 b6 b7 b8 b9 b10 b11 b12 b13, cs_I 12 C b1 b2 a3 b4 b6 b7 b8 b10 b11 → (∀ q, ¬ a1 q = 1 → ¬ b1 q = 1) → b4 f < 0 → post (c', z', b1, b2, a3, b4, a5, b6, b7, b8, b9, b10, b11, b12, b13, a14)) : wpX_evict post (cl, z, a1, a2, a3, a4, a5, a6, a7, a8, a9, a10, a11, a12, a13, a14) (nI f) := by
  have hkl : a1 p = 1 ∧ a2 p = nI f := by
    obtain ⟨q, q1, q2, q3, q4, q5⟩ := cs_own (p := 12) hI.2.1 (by omega) hf (by rw [ho]; exact nI_pos (by omega))
    have e : p = q := cs_inj (by omega) (by omega) (by rw [← ho, q3])
    rw [e]
    exact ⟨q4, q5⟩
  obtain ⟨hk, hl⟩ := hkl
  have hT := cs_takeF hI hp hk hl hf
  have hc : ∀ i, i < 16 → a3 (f * 16 + i) = C p i := by
    obtain ⟨f', z1, z2, z3, z4⟩ := cs_at1 (hI.1 p hp (by omega)) hk
    have e : f = f' := cs_inj (by omega) (by omega) (by rw [← hl, z2])
    rw [e]
    exact z4
  have h4 : upd a4 f (-1) f < 0 := by
    rw [pk_us]
    exact cs_m1
  have hu0 : upd a1 (nI p).toNatClampNeg 0 = upd a1 p 0 := by
    rw [nI_clamp (by omega)]
  refine ⟨pk_in f 3 hf, nm_r (show a4 (nI f).toNatClampNeg = nI p by rw [nI_clamp (by omega), ho]) ⟨pk_in f 3 hf, nm_r (show upd a4 (nI f).toNatClampNeg (-1) = upd a4 f (-1) by rw [nI_clamp (by omega)]) (cs_blankFrame hf (fun hz => ?_) (fun hnz => ?_))⟩⟩
  · refine br_f (by decide) ⟨pk_in p 12 hp, nm_r hu0 (H _ _ _ _ _ _ _ _ _ _ _ _ _ (cs_putB hT (fun _ _ => rfl) (fun i hi => ?_)) (fun q hq => ?_) h4)⟩
    · rw [← hc i hi]
      exact hz i hi
    · by_cases eq : q = p
      · rw [cs_us eq]
        decide
      · rw [pk_un eq]
        exact hq
  · have hnz' : cs_nz (C p) := by
      obtain ⟨i, i1, i2⟩ := hnz
      exact ⟨i, i1, by rw [← hc i i1]; exact i2⟩
    refine br_t rfl (cs_pack hf (fun s N hN hd => ?_))
    refine pk_lt N 16 (fun w => ⟨pk_in p 12 hp, nm_r hu0 ?_⟩) (fun w => ?_)
    · have hI0 : cs_I 12 (fun q => if q = p then fun _ => 0 else C q) (upd a1 p 0) a2 a3 (upd a4 f (-1)) a6 a7 a8 a10 a11 := cs_putB hT (fun q hq => if_neg hq) (fun i hi => by show (if p = p then fun _ => 0 else C p) i = 0; rw [if_pos rfl])
      have hd' : cs_dec s (C p) N := cs_dec_congr hd (fun _ _ => rfl) hc
      have hC0 : ∀ q, q ≠ p → C q = (fun q => if q = p then fun _ => 0 else C q) q := fun q hq => by
        show C q = if q = p then fun _ => 0 else C q
        rw [if_neg hq]
      refine cs_poolFrame (by omega) (cs_szI hI0) (fun hall => ?_) (fun g hg hr => ?_)
      · refine br_f (by decide) (cs_oldest (fun hz => absurd (hz 0 (by omega)) (hall 0 (by omega))) (fun g hg => cs_writeBack hg hI0 (fun b1 b2 b7 b10 b11 b13 h1 h2 h3 h5 => ?_)))
        have hb : b1 p = 0 := by
          rcases h2 p with v | ⟨v, _⟩
          · rw [v, pk_us]
          · rw [pk_us] at v
            exact absurd v (by decide)
        refine cs_e137 hg hp (by omega) (cs_takeB h1 hb) hC0 hnz' hd' (Or.inl (cs_hn_ff h3 h5)) (fun c' d1 d2 d6 d7 d8 d9 g1 g2 g3 => H _ _ _ _ _ _ _ _ _ _ _ _ _ g1 (fun q hq => ?_) h4)
        by_cases eq : q = p
        · rw [eq, g3]
          decide
        · rw [g2 q eq]
          rcases h2 q with v | ⟨_, v⟩
          · rw [v, pk_un eq]
            exact hq
          · rw [v]
            decide
      · refine br_t (nI_pos' (by omega)) (cs_e137 hg hp (by omega) (cs_takeB hI0 pk_us) hC0 hnz' hd' hr (fun c' d1 d2 d6 d7 d8 d9 g1 g2 g3 => H _ _ _ _ _ _ _ _ _ _ _ _ _ g1 (fun q hq => ?_) h4))
        by_cases eq : q = p
        · rw [eq, g3]
          decide
        · rw [g2 q eq, pk_un eq]
          exact hq
    · refine pk_loop (fun n i t => wX_evict_49 post (nI f) (nI p) cl (nI N) n (nI i) a1 a2 a3 (upd a4 f (-1)) a5 a6 a7 a8 a9 a10 a11 s t a14) (fun i t => ∀ j, j < i → t j = a3 (f * 16 + j)) 16 0 a13 (by omega) (fun j hj => absurd hj (by omega)) ?_ ?_
      · intro n t ht
        refine pk_le 16 16 (fun _ => ⟨pk_in p 12 hp, nm_r hu0 ?_⟩) (fun v => absurd v (by omega))
        have hT' : cs_I p C (upd a1 p 0) a2 a3 (upd a4 f (-1)) a6 a7 a8 a10 a11 := cs_tr hT (fun q hq => pk_un hq) (fun _ _ => rfl) (fun _ _ => rfl)
        refine cs_freeSlot hp (cs_slot hT' hp) (fun d d1 d2 => cs_storeSlot d1 hp (fun t' ht' => H _ _ _ _ _ _ _ _ _ _ _ _ _ (cs_putS hT' hp d1 d2 (fun _ _ => rfl) hnz' ht'.2 (fun i hi => ?_)) (fun q hq => ?_) h4))
        · rw [ht'.1 i hi, ht i hi, hc i hi]
        · by_cases eq : q = p
          · rw [cs_us eq]
            decide
          · rw [pk_un eq, pk_un eq]
            exact hq
      · intro n i t hi h hw
        refine pk_le 16 i (fun v => absurd v (by omega)) (fun _ => ⟨pk_in (f * 16 + i) 48 (by omega) (cs_fi f i), pk_in i 16 hi, ?_⟩)
        exact nm_r (show upd t (nI i).toNatClampNeg (a3 (nI f * 16 + nI i).toNatClampNeg) = upd t i (a3 (f * 16 + i)) by rw [nI_clamp (by omega), cs_fc (by omega)]) (nm_r (nI_1 i) (hw _ (cs_fill (f := fun j => a3 (f * 16 + j)) h rfl)))
theorem cs_freeFrame {post : Int32 → St1 → Prop} (hI : cs_I 12 C a1 a2 a3 a4 a6 a7 a8 a10 a11)
    (H : ∀ f c' z' b1 b2 b4 b6 b7 b8 b9 b10 b11 b12 b13, f < 3 → cs_I 12 C b1 b2 a3 b4 b6 b7 b8 b10 b11 → (∀ q, ¬ a1 q = 1 → ¬ b1 q = 1) → b4 f < 0 → post (nI f) (c', z', b1, b2, a3, b4, a5, b6, b7, b8, b9, b10, b11, b12, b13, a14)) : wpX_freeFrame post (cl, z, a1, a2, a3, a4, a5, a6, a7, a8, a9, a10, a11, a12, a13, a14) := by
  have key : ∀ n x o, x ≤ 3 → 3 - x < n → o < 3 → (∀ g, g < x → ¬ a4 g < 0) → wX_freeFrame_4 post cl z a1 a2 a3 a4 a5 a6 a7 a8 a9 a10 a11 a12 a13 a14 n (nI o) (nI x) := by
    intro n
    induction n with
    | zero => intro x o _ h; omega
    | succ n ih =>
      intro x o hx hn ho hA
      refine pk_le 3 x (fun w => ?_) (fun w => ⟨pk_in x 3 w, ?_⟩)
      · obtain ⟨q, q1, q2, q3, q4, q5⟩ := cs_own (p := 12) hI.2.1 (by omega) ho (hA o (by omega))
        exact cs_evict ho q1 hI q3 (fun c' z' b1 b2 b4 b6 b7 b8 b9 b10 b11 b12 b13 h1 h2 h3 => H o c' z' b1 b2 b4 b6 b7 b8 b9 b10 b11 b12 b13 ho h1 h2 h3)
      · rw [nI_clamp (show x < 2 ^ 31 by omega)]
        refine br_c (fun q => ⟨pk_in x 3 w, pk_in o 3 ho, br_c (fun _ => nm_r (nI_1 x) (ih (x + 1) o (by omega) (by omega) ho ?_)) (fun _ => nm_r (nI_1 x) (ih (x + 1) x (by omega) (by omega) w ?_))⟩) (fun q => H x _ _ _ _ _ _ _ _ _ _ _ _ _ w hI (fun _ h => h) (Int32.not_le.mp q))
        · intro g hg
          by_cases eg : g = x
          · rw [eg]
            exact fun v => absurd q (Int32.not_le.mpr v)
          · exact hA g (by omega)
        · intro g hg
          by_cases eg : g = x
          · rw [eg]
            exact fun v => absurd q (Int32.not_le.mpr v)
          · exact hA g (by omega)
  exact ⟨4, key 4 0 0 (by omega) (by omega) (by omega) (fun g hg => absurd hg (by omega))⟩
end
end
section
/-! part 08: bringing a page into a frame -/
section
variable {cl z : Int32} {a1 a2 a3 a4 a5 a6 a7 a8 a9 a10 a11 a12 a13 a14 : Nat → Int32}
variable {C : Nat → Nat → Int32}
theorem cs_release {post : St1 → Prop} {p : Nat} (hp : p < 12) (hI : cs_I 12 C a1 a2 a3 a4 a6 a7 a8 a10 a11)
    (H : ∀ b4 b7 b11, cs_I p C (upd a1 p 0) a2 a3 b4 a6 b7 a8 a10 b11 → (∀ f, a4 f < 0 → b4 f < 0) → post (cl, z, upd a1 p 0, a2, a3, b4, a5, a6, b7, a8, a9, a10, b11, a12, a13, a14)) : wpX_release post (cl, z, a1, a2, a3, a4, a5, a6, a7, a8, a9, a10, a11, a12, a13, a14) (nI p) := by
  have hA := hI.1 p hp (by omega)
  have ec : (nI p).toNatClampNeg = p := nI_clamp (by omega)
  have hv : vp_in (nI p) 12 := pk_in p 12 hp
  have hu : ∀ q, q ≠ p → upd a1 p 0 q = a1 q := fun q hq => pk_un hq
  refine ⟨hv, ?_⟩
  rw [ec]
  refine br_c (fun h1 => ⟨hv, ?_⟩) (fun h1 => ⟨hv, br_c (fun h2 => ⟨hv, ?_⟩) (fun h2 => ⟨hv, br_c (fun h3 => ⟨hv, ?_⟩) (fun h3 => ⟨hv, nm_e ?_⟩)⟩)⟩)
  · obtain ⟨f, f1, f2, f3, _⟩ := cs_at1 hA h1
    rw [f2, nI_clamp (by omega)]
    refine ⟨pk_in f 3 f1, nm_e ⟨hv, nm_e (H _ _ _ (cs_tr (cs_takeF hI hp h1 f2 f1) hu (fun _ _ => rfl) (fun _ _ => rfl)) (fun g hg => ?_))⟩⟩
    by_cases eg : g = f
    · rw [cs_us eg]
      exact cs_m1
    · rw [pk_un eg]
      exact hg
  · obtain ⟨e, e1, e2, e3, _⟩ := cs_at2 hA h2
    rw [e2, nI_clamp (by omega)]
    exact ⟨pk_in e 8 e1, nm_e ⟨hv, nm_e (H _ _ _ (cs_tr (cs_takeP hI hp h2 e2 e1) hu (fun _ _ => rfl) (fun _ _ => rfl)) (fun _ h => h))⟩⟩
  · obtain ⟨s, s1, s2, s3, _⟩ := cs_at3 hA h3
    rw [s2, nI_clamp (by omega)]
    exact ⟨pk_in s 12 s1, nm_e ⟨hv, nm_e (H _ _ _ (cs_tr (cs_takeS hI hp h3 s2 s1) hu (fun _ _ => rfl) (fun _ _ => rfl)) (fun _ h => h))⟩⟩
  · exact H _ _ _ (cs_tr (cs_takeB hI (cs_at0 hA h1 h2 h3).1) hu (fun _ _ => rfl) (fun _ _ => rfl)) (fun _ h => h)
theorem cs_b140 {post : Int32 → St1 → Prop} {f p : Nat} (hf : f < 3) (hp : p < 12) (hI : cs_I 12 C a1 a2 a3 a4 a6 a7 a8 a10 a11) (h0 : a4 f < 0) (hs : ∀ i, i < 16 → a13 i = C p i)
    (H : ∀ c' b1 b2 b3 b4 b5 b7 b11, cs_I 12 C b1 b2 b3 b4 a6 b7 a8 a10 b11 → b1 p = 1 → b2 p = nI f → post (nI (f * 16)) (c', z, b1, b2, b3, b4, b5, a6, b7, a8, a9, a10, b11, a12, a13, a14)) : wX_bring_140 post (nI p) (nI f) cl z a1 a2 a3 a4 a5 a6 a7 a8 a9 a10 a11 a12 a13 a14 := by
  unfold wX_bring_140
  refine cs_release hp hI (fun b4 b7 b11 h1 h2 => ?_)
  refine pk_loop (fun n i t => wX_bring_147 post (nI p) (nI f) cl z n (nI i) (upd a1 p 0) a2 t b4 a5 a6 b7 a8 a9 a10 b11 a12 a13 a14) (fun i t => cs_bk (f * 16) 16 i a13 a3 t) 16 0 a3 (by omega) cs_bk0 ?_ ?_
  · intro n t ht
    refine pk_le 16 16 (fun _ => ⟨pk_in f 3 hf, nm_r (show upd b4 (nI f).toNatClampNeg (nI p) = upd b4 f (nI p) by rw [nI_clamp (by omega)]) (nm_e ⟨pk_in f 3 hf, nm_e ⟨pk_in p 12 hp, nm_r (show upd (upd a1 p 0) (nI p).toNatClampNeg 1 = upd (upd a1 p 0) p 1 by rw [nI_clamp (by omega)]) ⟨pk_in p 12 hp, nm_r (show upd a2 (nI p).toNatClampNeg (nI f) = upd a2 p (nI f) by rw [nI_clamp (by omega)]) ?_⟩⟩⟩)⟩) (fun w => absurd w (by omega))
    rw [cs_f16]
    exact H _ _ _ _ _ _ _ _ (cs_putF h1 hp hf (h2 f h0) (fun _ _ => rfl) ht.2 (fun i hi => by rw [ht.1 i hi, hs i hi])) pk_us pk_us
  · intro n i t hi h hw
    refine pk_le 16 i (fun w => absurd w (by omega)) (fun _ => ⟨pk_in i 16 hi, pk_in (f * 16 + i) 48 (by omega) (cs_fi f i), ?_⟩)
    exact nm_r (show upd t (nI f * 16 + nI i).toNatClampNeg (a13 (nI i).toNatClampNeg) = upd t (f * 16 + i) (a13 i) by rw [cs_fc (by omega), nI_clamp (by omega)]) (nm_r (nI_1 i) (hw _ (cs_bkS h hi rfl)))
theorem cs_b52 {post : Int32 → St1 → Prop} {f p : Nat} (hf : f < 3) (hp : p < 12) (hI : cs_I 12 C a1 a2 a3 a4 a6 a7 a8 a10 a11) (h0 : a4 f < 0) (hk : ¬ a1 p = 1)
    (H : ∀ c' b1 b2 b3 b4 b5 b7 b11 b13, cs_I 12 C b1 b2 b3 b4 a6 b7 a8 a10 b11 → b1 p = 1 → b2 p = nI f → post (nI (f * 16)) (c', z, b1, b2, b3, b4, b5, a6, b7, a8, a9, a10, b11, a12, b13, a14)) : ∃ n, wX_bring_52 post (nI p) (nI f) cl z n 0 a1 a2 a3 a4 a5 a6 a7 a8 a9 a10 a11 a12 a13 a14 := by
  have hA := hI.1 p hp (by omega)
  have ec : (nI p).toNatClampNeg = p := nI_clamp (by omega)
  have hv : vp_in (nI p) 12 := pk_in p 12 hp
  refine pk_loop (fun n i t => wX_bring_52 post (nI p) (nI f) cl z n (nI i) a1 a2 a3 a4 a5 a6 a7 a8 a9 a10 a11 a12 t a14) (fun i t => ∀ j, j < i → t j = 0) 16 0 a13 (by omega) (fun j hj => absurd hj (by omega)) ?_ ?_
  · intro n t ht
    refine pk_le 16 16 (fun _ => ⟨hv, ?_⟩) (fun w => absurd w (by omega))
    rw [ec]
    refine br_c (fun h2 => ⟨hv, ?_⟩) (fun h2 => ⟨hv, br_c (fun h3 => ?_) (fun h3 => ?_)⟩)
    · obtain ⟨e, e1, e2, e3, e4, N, e5, e6, e7⟩ := cs_at2 hA h2
      rw [e2]
      exact cs_unpack e1 e5 e6 e7 (fun s hs => cs_b140 hf hp hI h0 hs (fun c' b1 b2 b3 b4 b5 b7 b11 => H c' b1 b2 b3 b4 b5 b7 b11 s))
    · obtain ⟨s, s1, s2, s3, s4, s5⟩ := cs_at3 hA h3
      refine pk_loop (fun n i t => wX_bring_106 post (nI p) (nI f) cl z n (nI i) a1 a2 a3 a4 a5 a6 a7 a8 a9 a10 a11 a12 t a14) (fun i t => ∀ j, j < i → t j = C p j) 16 0 t (by omega) (fun j hj => absurd hj (by omega)) ?_ ?_
      · intro n t ht
        exact pk_le 16 16 (fun _ => cs_b140 hf hp hI h0 ht (fun c' b1 b2 b3 b4 b5 b7 b11 => H c' b1 b2 b3 b4 b5 b7 b11 t)) (fun w => absurd w (by omega))
      · intro n i t hi h hw
        refine pk_le 16 i (fun w => absurd w (by omega)) (fun _ => ⟨hv, ?_⟩)
        rw [ec, s2]
        refine ⟨pk_in (s * 16 + i) 192 (by omega) (cs_fi s i), pk_in i 16 hi, ?_⟩
        exact nm_r (show upd t (nI i).toNatClampNeg (a10 (nI s * 16 + nI i).toNatClampNeg) = upd t i (a10 (s * 16 + i)) by rw [cs_fc (by omega), nI_clamp (by omega)]) (nm_r (nI_1 i) (hw _ (cs_fill (f := C p) h (s5 i hi))))
    · have hz := (cs_at0 hA hk h2 h3).2
      exact cs_b140 hf hp hI h0 (fun i hi => by rw [ht i hi, hz i hi]) (fun c' b1 b2 b3 b4 b5 b7 b11 => H c' b1 b2 b3 b4 b5 b7 b11 t)
  · intro n i t hi h hw
    refine pk_le 16 i (fun w => absurd w (by omega)) (fun _ => ⟨pk_in i 16 hi, ?_⟩)
    exact nm_r (show upd t (nI i).toNatClampNeg 0 = upd t i 0 by rw [nI_clamp (by omega)]) (nm_r (nI_1 i) (hw _ (cs_fill (f := fun _ => 0) h rfl)))
theorem cs_bring {post : Int32 → St1 → Prop} {p : Nat} (hp : p < 12) (hI : cs_I 12 C a1 a2 a3 a4 a6 a7 a8 a10 a11)
    (H : ∀ f clb zb b1 b2 b3 b4 b5 b6 b7 b8 b9 b10 b11 b12 b13, f < 3 → cs_I 12 C b1 b2 b3 b4 b6 b7 b8 b10 b11 → b1 p = 1 → b2 p = nI f → post (nI (f * 16)) (clb, zb, b1, b2, b3, b4, b5, b6, b7, b8, b9, b10, b11, b12, b13, a14)) : wpX_bring post (cl, z, a1, a2, a3, a4, a5, a6, a7, a8, a9, a10, a11, a12, a13, a14) (nI p) := by
  have hA := hI.1 p hp (by omega)
  have ec : (nI p).toNatClampNeg = p := nI_clamp (by omega)
  have hv : vp_in (nI p) 12 := pk_in p 12 hp
  refine nm_e ⟨hv, ?_⟩
  rw [ec]
  refine br_c (fun h1 => ⟨hv, ?_⟩) (fun h1 => ?_)
  · obtain ⟨f, f1, f2, f3, _⟩ := cs_at1 hA h1
    rw [f2]
    refine ⟨pk_in f 3 f1, nm_e ⟨hv, ?_⟩⟩
    rw [cs_f16]
    exact H f _ _ _ _ _ _ _ _ _ _ _ _ _ _ _ f1 hI h1 f2
  · refine cs_freeFrame hI (fun f c' z' b1 b2 b4 b6 b7 b8 b9 b10 b11 b12 b13 g1 g2 g3 g4 => ?_)
    exact cs_b52 g1 hp g2 g4 (g3 p h1) (fun c'' d1 d2 d3 d4 d5 d7 d11 d13 k1 k2 k3 => H f _ _ _ _ _ _ _ _ _ _ _ _ _ _ _ g1 k1 k2 k3)
theorem cs_bytes {p f : Nat} (hI : cs_I 12 C a1 a2 a3 a4 a6 a7 a8 a10 a11) (hp : p < 12) (hk : a1 p = 1) (hl : a2 p = nI f) (hf : f < 3) : ∀ i, i < 16 → a3 (f * 16 + i) = C p i := by
  obtain ⟨f', z1, z2, z3, z4⟩ := cs_at1 (hI.1 p hp (by omega)) hk
  have e : f = f' := cs_inj (by omega) (by omega) (by rw [← hl, z2])
  rw [e]
  exact z4
theorem cs_hold {post : St1 → Prop} {p : Nat} (hp : p < 12) (hI : cs_I 12 C a1 a2 a3 a4 a6 a7 a8 a10 a11)
    (H : ∀ clb zb b1 b2 b3 b4 b5 b6 b7 b8 b9 b10 b11 b12 b13 b14, cs_I 12 C b1 b2 b3 b4 b6 b7 b8 b10 b11 → (∀ i, i < 16 → b14 i = C p i) → post (clb, zb, b1, b2, b3, b4, b5, b6, b7, b8, b9, b10, b11, b12, b13, b14)) : wpX_hold post (cl, z, a1, a2, a3, a4, a5, a6, a7, a8, a9, a10, a11, a12, a13, a14) (nI p) := by
  unfold wpX_hold
  dsimp only
  refine cs_bring hp hI (fun f clb zb b1 b2 b3 b4 b5 b6 b7 b8 b9 b10 b11 b12 b13 g1 g2 g3 g4 => ?_)
  have hb := cs_bytes g2 hp g3 g4 g1
  refine pk_loop (fun n i t => wX_hold_8 post (nI (f * 16)) clb zb n (nI i) b1 b2 b3 b4 b5 b6 b7 b8 b9 b10 b11 b12 b13 t) (fun i t => ∀ j, j < i → t j = C p j) 16 0 a14 (by omega) (fun j hj => absurd hj (by omega)) ?_ ?_
  · intro n t ht
    exact pk_le 16 16 (fun _ => H _ _ _ _ _ _ _ _ _ _ _ _ _ _ _ _ g2 ht) (fun w => absurd w (by omega))
  · intro n i t hi h hw
    refine pk_le 16 i (fun w => absurd w (by omega)) (fun _ => ⟨pk_in (f * 16 + i) 48 (by omega) (nI_add _ _), pk_in i 16 hi, ?_⟩)
    exact nm_r (show upd t (nI i).toNatClampNeg (b3 (nI (f * 16) + nI i).toNatClampNeg) = upd t i (b3 (f * 16 + i)) by rw [nI_add, nI_clamp (by omega), nI_clamp (by omega)]) (nm_r (nI_1 i) (hw _ (cs_fill (f := C p) h (hb i hi))))
end
end
section
/-! part 09: the public calls -/
def cs_J (C : Nat → Nat → Int32) (u : St1) : Prop := match u with
  | (cl, z, a1, a2, a3, a4, a5, a6, a7, a8, a9, a10, a11, a12, a13, a14) => cs_I 12 C a1 a2 a3 a4 a6 a7 a8 a10 a11
/-- one byte is set -/
def cs_set (C : Nat → Nat → Int32) (p i : Nat) (b : Int32) : Nat → Nat → Int32 := fun q j => if q = p ∧ j = i then b else C q j
theorem cs_set_o {C : Nat → Nat → Int32} {p i q : Nat} {b : Int32} (h : q ≠ p) : cs_set C p i b q = C q := by
  funext j
  exact if_neg (fun z => h z.1)
theorem cs_set_s {C : Nat → Nat → Int32} {p i : Nat} {b : Int32} : cs_set C p i b p i = b := if_pos ⟨rfl, rfl⟩
theorem cs_set_n {C : Nat → Nat → Int32} {p i q j : Nat} {b : Int32} (h : ¬ (q = p ∧ j = i)) : cs_set C p i b q j = C q j := if_neg h
theorem cs_setI {C : Nat → Nat → Int32} {k pl fr fp po pp ps sl sp : Nat → Int32} {p f i : Nat} {b : Int32} (h : cs_I 12 C k pl fr fp po pp ps sl sp) (hp : p < 12) (hf : f < 3) (hi : i < 16) (hk : k p = 1) (hl : pl p = nI f) : cs_I 12 (cs_set C p i b) k pl (upd fr (f * 16 + i) b) fp po pp ps sl sp := by
  have hb := cs_bytes h hp hk hl hf
  refine cs_chg h hp hf hk hl (fun q hq => cs_set_o hq) (fun x hx => pk_un (by omega)) (fun j hj => ?_)
  by_cases e : j = i
  · rw [e, pk_us, cs_set_s]
  · rw [pk_un (by omega), cs_set_n (fun z => e z.2)]
    exact hb j hj
/-! answers, as functions of the bytes -/
def cs_fl (C : Nat → Nat → Int32) (p a : Nat) (b : Int32) : Nat → Nat → Nat → Int32
  | 0 => C
  | m + 1 => cs_set (cs_fl C p a b m) p (a + m) b
def cs_cp (C : Nat → Nat → Int32) (p : Nat) (Q : Nat → Int32) : Nat → Nat → Nat → Int32
  | 0 => C
  | m + 1 => cs_set (cs_cp C p Q m) p m (Q m)
def cs_cn (C : Nat → Nat → Int32) (p : Nat) (Q : Nat → Int32) : Nat → Int32
  | 0 => 0
  | m + 1 => if cs_cp C p Q m p m = Q m then cs_cn C p Q m else cs_cn C p Q m + 1
def cs_mv (C : Nat → Nat → Int32) (p a b : Nat) : Nat → Nat → Nat → Int32
  | 0 => C
  | m + 1 => cs_set (cs_mv C p a b m) p (b + m) (cs_mv C p a b m p (a + m))
def cs_mx (C : Nat → Nat → Int32) (p : Nat) (Q : Nat → Int32) : Nat → Nat → Nat → Int32
  | 0 => C
  | m + 1 => cs_set (cs_mx C p Q m) p m (cs_mx C p Q m p m ^^^ Q m)
def cs_sm (c : Nat → Int32) : Nat → Int32
  | 0 => 0
  | m + 1 => cs_sm c m + (nI m + 1) * c m
def cs_fd (c d : Nat → Int32) : Nat → Nat → Int32
  | 0 => fun _ => -4
  | n + 1 => fun i => if c i = d i then cs_fd c d n (i + 1) else nI i
def cs_fn (c : Nat → Int32) (b : Int32) : Nat → Nat → Int32
  | 0 => fun _ => -4
  | n + 1 => fun i => if c i = b then nI i else cs_fn c b n (i + 1)
def cs_tw (C : Nat → Nat → Int32) (p : Nat) : Nat → Nat → Int32
  | 0 => fun _ => -4
  | n + 1 => fun q => if q = p then cs_tw C p n (q + 1) else if cs_fd (C q) (C p) 16 0 = -4 then nI q else cs_tw C p n (q + 1)
def cs_bl (C : Nat → Nat → Int32) : Nat → Int32
  | 0 => 0
  | m + 1 => if ∀ i, i < 16 → C m i = 0 then cs_bl C m + 1 else cs_bl C m
theorem cs_bp {post : Int32 → Prop} {u : St1} {p : Nat} (hp : p < 12) (H : post 0) : wpX_badPage post u (nI p) := by
  obtain ⟨cl, z, a1, a2, a3, a4, a5, a6, a7, a8, a9, a10, a11, a12, a13, a14⟩ := u
  exact pk_lt p 0 (fun w => absurd w (by omega)) (fun _ => pk_lt p 12 (fun _ => H) (fun w => absurd w (by omega)))
theorem cs_bi {post : Int32 → Prop} {u : St1} {p : Nat} (hp : p < 16) (H : post 0) : wpX_badPlace post u (nI p) := by
  obtain ⟨cl, z, a1, a2, a3, a4, a5, a6, a7, a8, a9, a10, a11, a12, a13, a14⟩ := u
  exact pk_lt p 0 (fun w => absurd w (by omega)) (fun _ => pk_lt p 16 (fun _ => H) (fun w => absurd w (by omega)))
theorem cs_bb {post : Int32 → Prop} {u : St1} {p : Nat} (hp : p < 256) (H : post 0) : wpX_badByte post u (nI p) := by
  obtain ⟨cl, z, a1, a2, a3, a4, a5, a6, a7, a8, a9, a10, a11, a12, a13, a14⟩ := u
  exact pk_lt p 0 (fun w => absurd w (by omega)) (fun _ => pk_le p 255 (fun _ => H) (fun w => absurd w (by omega)))
section
variable {C : Nat → Nat → Int32} {u : St1} {post : Int32 → St1 → Prop} {p q i j b : Nat}
theorem cs_write (hp : p < 12) (hi : i < 16) (hb : b < 256) (hJ : cs_J C u) (H : ∀ u', cs_J (cs_set C p i (nI b)) u' → post (C p i) u') : wpX_write post u (nI p) (nI i) (nI b) := by
  obtain ⟨cl, z, a1, a2, a3, a4, a5, a6, a7, a8, a9, a10, a11, a12, a13, a14⟩ := u
  unfold wpX_write
  dsimp only
  refine cs_bp hp (br_t rfl (cs_bi hi (br_t rfl (cs_bb hb (br_t rfl (cs_bring hp hJ (fun f clb zb b1 b2 b3 b4 b5 b6 b7 b8 b9 b10 b11 b12 b13 g1 g2 g3 g4 => ?_)))))))
  have hv : vp_in (nI (f * 16) + nI i) 48 := pk_in (f * 16 + i) 48 (by omega) (nI_add _ _)
  refine ⟨hv, nm_r (show b3 (nI (f * 16) + nI i).toNatClampNeg = C p i by rw [nI_add, nI_clamp (by omega)]; exact cs_bytes g2 hp g3 g4 g1 i hi) ⟨hv, nm_r (show upd b3 (nI (f * 16) + nI i).toNatClampNeg (nI b) = upd b3 (f * 16 + i) (nI b) by rw [nI_add, nI_clamp (by omega)]) ?_⟩⟩
  exact H _ (cs_setI g2 hp g1 hi g3 g4)
theorem cs_read (hp : p < 12) (hi : i < 16) (hJ : cs_J C u) (H : ∀ u', cs_J C u' → post (C p i) u') : wpX_read post u (nI p) (nI i) := by
  obtain ⟨cl, z, a1, a2, a3, a4, a5, a6, a7, a8, a9, a10, a11, a12, a13, a14⟩ := u
  unfold wpX_read
  dsimp only
  refine cs_bp hp (br_t rfl (cs_bi hi (br_t rfl (cs_bring hp hJ (fun f clb zb b1 b2 b3 b4 b5 b6 b7 b8 b9 b10 b11 b12 b13 g1 g2 g3 g4 => ?_)))))
  refine ⟨pk_in (f * 16 + i) 48 (by omega) (nI_add _ _), ?_⟩
  dsimp only
  rw [nI_add, nI_clamp (by omega), cs_bytes g2 hp g3 g4 g1 i hi]
  exact H _ g2
theorem cs_fill1 (hp : p < 12) (hi : i < 16) (hj : j < 16) (hb : b < 256) (hJ : cs_J C u) (H : ∀ u', cs_J (cs_fl C p i (nI b) (j + 1 - i)) u' → post (if i ≤ j then nI (j - i + 1) else 0) u') : wpX_fill post u (nI p) (nI i) (nI j) (nI b) := by
  obtain ⟨cl, z, a1, a2, a3, a4, a5, a6, a7, a8, a9, a10, a11, a12, a13, a14⟩ := u
  unfold wpX_fill
  dsimp only
  refine cs_bp hp (br_t rfl (cs_bi hi (br_t rfl (cs_bi hj (br_t rfl (cs_bb hb (br_t rfl (cs_bring hp hJ (fun f clb zb b1 b2 b3 b4 b5 b6 b7 b8 b9 b10 b11 b12 b13 g1 g2 g3 g4 => ?_)))))))))
  refine pk_loop (fun n m t => wX_fill_45 post (nI i) (nI j) (nI b) (nI (f * 16)) clb zb n (nI (i + m)) b1 b2 t b4 b5 b6 b7 b8 b9 b10 b11 b12 b13 a14) (fun m t => cs_I 12 (cs_fl C p i (nI b) m) b1 b2 t b4 b6 b7 b8 b10 b11) (j + 1 - i) 0 b3 (by omega) g2 ?_ ?_
  · intro n t ht
    refine pk_lt j (i + (j + 1 - i)) (fun _ => pk_le i j (fun w => ?_) (fun w => ?_)) (fun w => absurd w (by omega))
    · rw [if_pos w] at H
      rw [pk_sub w, nI_1]
      exact H _ ht
    · rw [if_neg (by omega)] at H
      exact H _ ht
  · intro n m t hm h hw
    refine pk_lt j (i + m) (fun w => absurd w (by omega)) (fun _ => ⟨pk_in (f * 16 + (i + m)) 48 (by omega) (nI_add _ _), ?_⟩)
    exact nm_r (show upd t (nI (f * 16) + nI (i + m)).toNatClampNeg (nI b) = upd t (f * 16 + (i + m)) (nI b) by rw [nI_add, nI_clamp (by omega)]) (nm_r (nI_1 (i + m)) (hw _ (cs_setI h hp g1 (by omega) g3 g4)))
theorem cs_copy (hp : p < 12) (hq : q < 12) (hJ : cs_J C u) (H : ∀ u', cs_J (cs_cp C p (C q) 16) u' → post (cs_cn C p (C q) 16) u') : wpX_copy post u (nI p) (nI q) := by
  obtain ⟨cl, z, a1, a2, a3, a4, a5, a6, a7, a8, a9, a10, a11, a12, a13, a14⟩ := u
  unfold wpX_copy
  dsimp only
  refine cs_bp hp (br_t rfl (cs_bp hq (br_t rfl (cs_hold hq hJ (fun clc zc c1 c2 c3 c4 c5 c6 c7 c8 c9 c10 c11 c12 c13 c14 e1 e2 => cs_bring hp e1 (fun f clb zb b1 b2 b3 b4 b5 b6 b7 b8 b9 b10 b11 b12 b13 g1 g2 g3 g4 => ?_))))))
  refine pk_loop (fun n m t => wX_copy_35 post (nI (f * 16)) clb zb n (cs_cn C p (C q) m) (nI m) b1 b2 t b4 b5 b6 b7 b8 b9 b10 b11 b12 b13 c14) (fun m t => cs_I 12 (cs_cp C p (C q) m) b1 b2 t b4 b6 b7 b8 b10 b11) 16 0 b3 (by omega) g2 ?_ ?_
  · intro n t ht
    exact pk_le 16 16 (fun _ => H _ ht) (fun w => absurd w (by omega))
  · intro n m t hm h hw
    have hv : vp_in (nI (f * 16) + nI m) 48 := pk_in (f * 16 + m) 48 (by omega) (nI_add _ _)
    have ec : (nI (f * 16) + nI m).toNatClampNeg = f * 16 + m := by rw [nI_add, nI_clamp (by omega)]
    have hh := hw _ (cs_setI (i := m) (b := C q m) h hp g1 hm g3 g4)
    have fin : ∀ x, x = cs_cn C p (C q) (m + 1) → wX_copy_64 post (wX_copy_35 post (nI (f * 16)) clb zb n) (nI (f * 16)) x (nI m) clb zb b1 b2 t b4 b5 b6 b7 b8 b9 b10 b11 b12 b13 c14 := by
      intro x ex
      refine ⟨pk_in m 16 hm, hv, nm_r (show upd t (nI (f * 16) + nI m).toNatClampNeg (c14 (nI m).toNatClampNeg) = upd t (f * 16 + m) (C q m) by rw [ec, nI_clamp (by omega), e2 m hm]) (nm_r (nI_1 m) ?_)⟩
      rw [ex]
      exact hh
    refine pk_le 16 m (fun w => absurd w (by omega)) (fun _ => ⟨hv, pk_in m 16 hm, ?_⟩)
    rw [ec, nI_clamp (show m < 2 ^ 31 by omega), e2 m hm, cs_bytes h hp g3 g4 g1 m hm]
    refine br_c (fun w => fin _ ?_) (fun w => nm_e (fin _ ?_))
    · exact (if_pos w).symm
    · exact (if_neg w).symm
theorem cs_mix (hp : p < 12) (hq : q < 12) (hJ : cs_J C u) (H : ∀ u', cs_J (cs_mx C p (C q) 16) u' → post 0 u') : wpX_mix post u (nI p) (nI q) := by
  obtain ⟨cl, z, a1, a2, a3, a4, a5, a6, a7, a8, a9, a10, a11, a12, a13, a14⟩ := u
  unfold wpX_mix
  dsimp only
  refine cs_bp hp (br_t rfl (cs_bp hq (br_t rfl (cs_hold hq hJ (fun clc zc c1 c2 c3 c4 c5 c6 c7 c8 c9 c10 c11 c12 c13 c14 e1 e2 => cs_bring hp e1 (fun f clb zb b1 b2 b3 b4 b5 b6 b7 b8 b9 b10 b11 b12 b13 g1 g2 g3 g4 => ?_))))))
  refine pk_loop (fun n m t => wX_mix_32 post (nI (f * 16)) clb zb n (nI m) b1 b2 t b4 b5 b6 b7 b8 b9 b10 b11 b12 b13 c14) (fun m t => cs_I 12 (cs_mx C p (C q) m) b1 b2 t b4 b6 b7 b8 b10 b11) 16 0 b3 (by omega) g2 ?_ ?_
  · intro n t ht
    exact pk_le 16 16 (fun _ => H _ ht) (fun w => absurd w (by omega))
  · intro n m t hm h hw
    have hv : vp_in (nI (f * 16) + nI m) 48 := pk_in (f * 16 + m) 48 (by omega) (nI_add _ _)
    refine pk_le 16 m (fun w => absurd w (by omega)) (fun _ => ⟨hv, pk_in m 16 hm, hv, nm_r (show upd t (nI (f * 16) + nI m).toNatClampNeg (t (nI (f * 16) + nI m).toNatClampNeg ^^^ c14 (nI m).toNatClampNeg) = upd t (f * 16 + m) (cs_mx C p (C q) m p m ^^^ C q m) by rw [nI_add, nI_clamp (by omega), nI_clamp (by omega), e2 m hm, cs_bytes h hp g3 g4 g1 m hm]) (nm_r (nI_1 m) (hw _ (cs_setI h hp g1 hm g3 g4)))⟩)
theorem cs_move {n : Nat} (hp : p < 12) (hi : i < 16) (hj : j < 16) (hn : n < 16) (hJ : cs_J C u) (H0 : ¬ (i + n ≤ 16 ∧ j + n ≤ 16) → ∀ u', cs_J C u' → post (-1) u') (H : i + n ≤ 16 ∧ j + n ≤ 16 → ∀ u', cs_J (cs_mv C p i j n) u' → post 0 u') : wpX_move post u (nI p) (nI i) (nI j) (nI n) := by
  obtain ⟨cl, z, a1, a2, a3, a4, a5, a6, a7, a8, a9, a10, a11, a12, a13, a14⟩ := u
  unfold wpX_move
  dsimp only
  refine cs_bp hp (br_t rfl (cs_bi hi (br_t rfl (cs_bi hj (br_t rfl (pk_lt n 0 (fun w => absurd w (by omega)) (fun _ => pk_lt 16 n (fun w => absurd w (by omega)) (fun _ => pk_lt 16 (i + n) (fun w => H0 (by omega) _ hJ) (fun w => pk_le (j + n) 16 (fun w2 => cs_bring hp hJ (fun f clb zb b1 b2 b3 b4 b5 b6 b7 b8 b9 b10 b11 b12 b13 g1 g2 g3 g4 => ?_)) (fun w2 => H0 (by omega) _ hJ) (nI_add j n)) rfl (nI_add i n)))))))))
  refine pk_loop (fun x m t => wX_move_68 post (nI i) (nI j) (nI n) (nI (f * 16)) clb zb x (nI m) b1 b2 t b4 b5 b6 b7 b8 b9 b10 b11 b12 b13 a14) (fun m t => cs_I 12 (cs_mv C p i j m) b1 b2 t b4 b6 b7 b8 b10 b11) n 0 b3 (by omega) g2 ?_ ?_
  · intro x t ht
    exact pk_le n n (fun _ => H ⟨w, w2⟩ _ ht) (fun w => absurd w (by omega))
  · intro x m t hm h hw
    have v1 : nI (f * 16) + nI i + nI m = nI (f * 16 + (i + m)) := by rw [nI_add, nI_add, Nat.add_assoc]
    have v2 : nI (f * 16) + nI j + nI m = nI (f * 16 + (j + m)) := by rw [nI_add, nI_add, Nat.add_assoc]
    refine pk_le n m (fun w => absurd w (by omega)) (fun _ => ⟨pk_in (f * 16 + (i + m)) 48 (by omega) v1, pk_in (f * 16 + (j + m)) 48 (by omega) v2, nm_r (show upd t (nI (f * 16) + nI j + nI m).toNatClampNeg (t (nI (f * 16) + nI i + nI m).toNatClampNeg) = upd t (f * 16 + (j + m)) (cs_mv C p i j m p (i + m)) by rw [v1, v2, nI_clamp (by omega), nI_clamp (by omega), cs_bytes h hp g3 g4 g1 (i + m) (by omega)]) (nm_r (nI_1 m) (hw _ (cs_setI h hp g1 (by omega) g3 g4)))⟩)
theorem cs_uu (a : Nat → Int32) (k : Nat) (x y : Int32) : upd (upd a k x) k y = upd a k y := by
  funext j
  by_cases e : j = k
  · rw [cs_us e, cs_us e]
  · rw [pk_un e, pk_un e, pk_un e]
theorem cs_drop (hp : p < 12) (hJ : cs_J C u) (H : ∀ u', cs_J (fun x => if x = p then fun _ => 0 else C x) u' → post 0 u') : wpX_drop post u (nI p) := by
  obtain ⟨cl, z, a1, a2, a3, a4, a5, a6, a7, a8, a9, a10, a11, a12, a13, a14⟩ := u
  unfold wpX_drop
  dsimp only
  refine cs_bp hp (br_t rfl (cs_release hp hJ (fun b4 b7 b11 h1 h2 => ?_)))
  have h3 := cs_putB (C' := fun x => if x = p then fun _ => 0 else C x) h1 (fun x hx => if_neg hx) (fun i hi => by show (if p = p then fun _ => 0 else C p) i = 0; rw [if_pos rfl])
  rw [cs_uu] at h3
  exact H _ h3
theorem cs_away (hp : p < 12) (hJ : cs_J C u) (H : ∀ u', cs_J C u' → post 0 u') : wpX_away post u (nI p) := by
  obtain ⟨cl, z, a1, a2, a3, a4, a5, a6, a7, a8, a9, a10, a11, a12, a13, a14⟩ := u
  have hI : cs_I 12 C a1 a2 a3 a4 a6 a7 a8 a10 a11 := hJ
  have hv : vp_in (nI p) 12 := pk_in p 12 hp
  unfold wpX_away
  dsimp only
  refine cs_bp hp (br_t rfl ⟨hv, ?_⟩)
  rw [nI_clamp (by omega)]
  refine br_c (fun h1 => ⟨hv, ?_⟩) (fun _ => H _ hJ)
  obtain ⟨f, f1, f2, f3, _⟩ := cs_at1 (hI.1 p hp (by omega)) h1
  rw [f2]
  exact cs_evict f1 hp hI f3 (fun c' z' b1 b2 b4 b6 b7 b8 b9 b10 b11 b12 b13 g1 g2 g3 => H _ g1)
theorem cs_sum (hp : p < 12) (hJ : cs_J C u) (H : ∀ u', cs_J C u' → post (cs_sm (C p) 16) u') : wpX_sum post u (nI p) := by
  obtain ⟨cl, z, a1, a2, a3, a4, a5, a6, a7, a8, a9, a10, a11, a12, a13, a14⟩ := u
  unfold wpX_sum
  dsimp only
  refine cs_bp hp (br_t rfl (cs_bring hp hJ (fun f clb zb b1 b2 b3 b4 b5 b6 b7 b8 b9 b10 b11 b12 b13 g1 g2 g3 g4 => ?_)))
  refine pk_loop (σ := Unit) (fun n m _ => wX_sum_21 post (nI (f * 16)) clb zb b1 b2 b3 b4 b5 b6 b7 b8 b9 b10 b11 b12 b13 a14 n (cs_sm (C p) m) (nI m)) (fun _ _ => True) 16 0 () (by omega) trivial ?_ ?_
  · intro n _ _
    exact pk_le 16 16 (fun _ => H _ g2) (fun w => absurd w (by omega))
  · intro n m _ hm _ hw
    refine pk_le 16 m (fun w => absurd w (by omega)) (fun _ => ⟨pk_in (f * 16 + m) 48 (by omega) (nI_add _ _), nm_r (e' := cs_sm (C p) (m + 1)) ?_ (nm_r (nI_1 m) (hw () trivial))⟩)
    rw [nI_add, nI_clamp (by omega), cs_bytes g2 hp g3 g4 g1 m hm]
    rfl
theorem cs_find (hp : p < 12) (hi : i < 16) (hb : b < 256) (hJ : cs_J C u) (H : ∀ u', cs_J C u' → post (cs_fn (C p) (nI b) (16 - i) i) u') : wpX_find post u (nI p) (nI i) (nI b) := by
  obtain ⟨cl, z, a1, a2, a3, a4, a5, a6, a7, a8, a9, a10, a11, a12, a13, a14⟩ := u
  unfold wpX_find
  dsimp only
  refine cs_bp hp (br_t rfl (cs_bi hi (br_t rfl (cs_bb hb (br_t rfl (cs_bring hp hJ (fun f clb zb b1 b2 b3 b4 b5 b6 b7 b8 b9 b10 b11 b12 b13 g1 g2 g3 g4 => ?_)))))))
  have key : ∀ n x, x + n = 16 → post (cs_fn (C p) (nI b) n x) (clb, zb, b1, b2, b3, b4, b5, b6, b7, b8, b9, b10, b11, b12, b13, a14) → wX_find_36 post (nI b) (nI (f * 16)) clb zb b1 b2 b3 b4 b5 b6 b7 b8 b9 b10 b11 b12 b13 a14 (n + 1) (nI x) := by
    intro n
    induction n with
    | zero =>
      intro x hx h
      exact pk_le 16 x (fun _ => h) (fun w => absurd w (by omega))
    | succ n ih =>
      intro x hx h
      refine pk_le 16 x (fun w => absurd w (by omega)) (fun w => ⟨pk_in (f * 16 + x) 48 (by omega) (nI_add _ _), ?_⟩)
      rw [nI_add, nI_clamp (by omega), cs_bytes g2 hp g3 g4 g1 x w]
      refine br_c (fun e => ?_) (fun e => nm_r (nI_1 x) (ih (x + 1) (by omega) ?_))
      · have h' : post (if C p x = nI b then nI x else cs_fn (C p) (nI b) n (x + 1)) (clb, zb, b1, b2, b3, b4, b5, b6, b7, b8, b9, b10, b11, b12, b13, a14) := h
        rw [if_pos e] at h'
        exact h'
      · have h' : post (if C p x = nI b then nI x else cs_fn (C p) (nI b) n (x + 1)) (clb, zb, b1, b2, b3, b4, b5, b6, b7, b8, b9, b10, b11, b12, b13, a14) := h
        rw [if_neg e] at h'
        exact h'
  exact ⟨16 - i + 1, key (16 - i) i (by omega) (H _ g2)⟩
end
end
section
/-! part 10: the public calls, second half -/
section
variable {cl z : Int32} {a1 a2 a3 a4 a5 a6 a7 a8 a9 a10 a11 a12 a13 a14 : Nat → Int32}
variable {C : Nat → Nat → Int32}
theorem cs_claim {post : St1 → Prop} {p : Nat} (hp : p < 12) (h1 : a1 p = 1 → ∃ f, f < 3 ∧ a2 p = nI f) (h2 : a1 p = 2 → ∃ f, f < 8 ∧ a2 p = nI f) (h3 : a1 p = 3 → ∃ f, f < 12 ∧ a2 p = nI f)
    (H : post (cl, z, a1, a2, a3, cs_cl 1 a1 a2 a4 p, a5, a6, cs_cl 2 a1 a2 a7 p, a8, a9, a10, cs_cl 3 a1 a2 a11 p, a12, a13, a14)) : wpX_claim post (cl, z, a1, a2, a3, a4, a5, a6, a7, a8, a9, a10, a11, a12, a13, a14) (nI p) := by
  have hv : vp_in (nI p) 12 := pk_in p 12 hp
  refine ⟨hv, ?_⟩
  rw [nI_clamp (by omega)]
  refine br_c (fun e => ⟨hv, ?_⟩) (fun e1 => ⟨hv, br_c (fun e => ⟨hv, ?_⟩) (fun e2 => ⟨hv, br_c (fun e => ⟨hv, ?_⟩) (fun e3 => ?_)⟩)⟩)
  · obtain ⟨f, f1, f2⟩ := h1 e
    rw [cs_cl_t e, cs_cl_f (show ¬ a1 p = 2 by rw [e]; decide), cs_cl_f (show ¬ a1 p = 3 by rw [e]; decide)] at H
    exact ⟨pk_in f 3 f1 f2, nm_e H⟩
  · obtain ⟨f, f1, f2⟩ := h2 e
    rw [cs_cl_f e1, cs_cl_t e, cs_cl_f (show ¬ a1 p = 3 by rw [e]; decide)] at H
    exact ⟨pk_in f 8 f1 f2, nm_e H⟩
  · obtain ⟨f, f1, f2⟩ := h3 e
    rw [cs_cl_f e1, cs_cl_f e2, cs_cl_t e] at H
    exact ⟨pk_in f 12 f1 f2, nm_e H⟩
  · rw [cs_cl_f e1, cs_cl_f e2, cs_cl_f e3] at H
    exact H
theorem cs_firstDiff {post : Int32 → St1 → Prop} {p q : Nat} (hq : q < 12) (hI : cs_I 12 C a1 a2 a3 a4 a6 a7 a8 a10 a11) (hh : ∀ i, i < 16 → a14 i = C p i)
    (H : ∀ clb zb b1 b2 b3 b4 b5 b6 b7 b8 b9 b10 b11 b12 b13, cs_I 12 C b1 b2 b3 b4 b6 b7 b8 b10 b11 → post (cs_fd (C q) (C p) 16 0) (clb, zb, b1, b2, b3, b4, b5, b6, b7, b8, b9, b10, b11, b12, b13, a14)) : wpX_firstDifference post (cl, z, a1, a2, a3, a4, a5, a6, a7, a8, a9, a10, a11, a12, a13, a14) (nI q) := by
  unfold wpX_firstDifference
  dsimp only
  refine cs_bring hq hI (fun f clb zb b1 b2 b3 b4 b5 b6 b7 b8 b9 b10 b11 b12 b13 g1 g2 g3 g4 => ?_)
  have key : ∀ n x, x + n = 16 → post (cs_fd (C q) (C p) n x) (clb, zb, b1, b2, b3, b4, b5, b6, b7, b8, b9, b10, b11, b12, b13, a14) → wX_firstDifference_8 post (nI (f * 16)) clb zb b1 b2 b3 b4 b5 b6 b7 b8 b9 b10 b11 b12 b13 a14 (n + 1) (nI x) := by
    intro n
    induction n with
    | zero =>
      intro x hx h
      exact pk_le 16 x (fun _ => h) (fun w => absurd w (by omega))
    | succ n ih =>
      intro x hx h
      refine pk_le 16 x (fun w => absurd w (by omega)) (fun w => ⟨pk_in (f * 16 + x) 48 (by omega) (nI_add _ _), pk_in x 16 w, ?_⟩)
      rw [nI_add, nI_clamp (by omega), nI_clamp (show x < 2 ^ 31 by omega), cs_bytes g2 hq g3 g4 g1 x w, hh x w]
      have h' : post (if C q x = C p x then cs_fd (C q) (C p) n (x + 1) else nI x) (clb, zb, b1, b2, b3, b4, b5, b6, b7, b8, b9, b10, b11, b12, b13, a14) := h
      refine br_c (fun e => nm_r (nI_1 x) (ih (x + 1) (by omega) ?_)) (fun e => ?_)
      · rw [if_pos e] at h'
        exact h'
      · rw [if_neg e] at h'
        exact h'
  exact ⟨17, key 16 0 rfl (H _ _ _ _ _ _ _ _ _ _ _ _ _ _ _ g2)⟩
end
section
variable {C : Nat → Nat → Int32} {u : St1} {post : Int32 → St1 → Prop} {p q i j b : Nat}
theorem cs_exchange (hp : p < 12) (hq : q < 12) (hJ : cs_J C u) (H : ∀ u', cs_J (fun x => C (cs_sw p q x)) u' → post 0 u') : wpX_exchange post u (nI p) (nI q) := by
  obtain ⟨cl, z, a1, a2, a3, a4, a5, a6, a7, a8, a9, a10, a11, a12, a13, a14⟩ := u
  have hI : cs_I 12 C a1 a2 a3 a4 a6 a7 a8 a10 a11 := hJ
  have vp : vp_in (nI p) 12 := pk_in p 12 hp
  have vq : vp_in (nI q) 12 := pk_in q 12 hq
  unfold wpX_exchange
  dsimp only
  refine cs_bp hp (br_t rfl (cs_bp hq (br_t rfl ?_)))
  rw [nI_clamp (show p < 2 ^ 31 by omega), nI_clamp (show q < 2 ^ 31 by omega)]
  refine ⟨vp, nm_e ⟨vp, nm_e ⟨vq, vp, nm_e ⟨vq, vp, nm_e ⟨vq, nm_e ⟨vq, nm_e ?_⟩⟩⟩⟩⟩⟩
  have hk : ∀ x, upd (upd a1 p (a1 q)) q (a1 p) x = a1 (cs_sw p q x) := cs_sw_u a1 p q
  have hl : ∀ x, upd (upd a2 p (a2 q)) q (a2 p) x = a2 (cs_sw p q x) := cs_sw_u a2 p q
  generalize upd (upd a1 p (a1 q)) q (a1 p) = k' at hk
  generalize upd (upd a2 p (a2 q)) q (a2 p) = pl' at hl
  have hx := cs_exI hI hp hq hk hl
  have w1 : ∀ x, x < 12 → k' x = 1 → ∃ f, f < 3 ∧ pl' x = nI f := by
    intro x hx e
    rw [hk] at e
    obtain ⟨f, f1, f2, _⟩ := cs_at1 (hI.1 _ (cs_sw_lt hp hq hx) (by have := cs_sw_lt hp hq hx; omega)) e
    exact ⟨f, f1, by rw [hl, f2]⟩
  have w2 : ∀ x, x < 12 → k' x = 2 → ∃ f, f < 8 ∧ pl' x = nI f := by
    intro x hx e
    rw [hk] at e
    obtain ⟨f, f1, f2, _⟩ := cs_at2 (hI.1 _ (cs_sw_lt hp hq hx) (by have := cs_sw_lt hp hq hx; omega)) e
    exact ⟨f, f1, by rw [hl, f2]⟩
  have w3 : ∀ x, x < 12 → k' x = 3 → ∃ f, f < 12 ∧ pl' x = nI f := by
    intro x hx e
    rw [hk] at e
    obtain ⟨f, f1, f2, _⟩ := cs_at3 (hI.1 _ (cs_sw_lt hp hq hx) (by have := cs_sw_lt hp hq hx; omega)) e
    exact ⟨f, f1, by rw [hl, f2]⟩
  refine cs_claim hp (w1 p hp) (w2 p hp) (w3 p hp) (cs_claim hq (w1 q hq) (w2 q hq) (w3 q hq) (H _ hx))
theorem cs_differ (hp : p < 12) (hq : q < 12) (hJ : cs_J C u) (H : ∀ u', cs_J C u' → post (cs_fd (C q) (C p) 16 0) u') : wpX_differ post u (nI p) (nI q) := by
  obtain ⟨cl, z, a1, a2, a3, a4, a5, a6, a7, a8, a9, a10, a11, a12, a13, a14⟩ := u
  unfold wpX_differ
  dsimp only
  refine cs_bp hp (br_t rfl (cs_bp hq (br_t rfl (cs_hold hp hJ (fun clc zc c1 c2 c3 c4 c5 c6 c7 c8 c9 c10 c11 c12 c13 c14 e1 e2 => cs_firstDiff hq e1 e2 (fun clb zb b1 b2 b3 b4 b5 b6 b7 b8 b9 b10 b11 b12 b13 g => H _ g))))))
theorem cs_twin (hp : p < 12) (hJ : cs_J C u) (H : ∀ u', cs_J C u' → post (cs_tw C p 12 0) u') : wpX_twin post u (nI p) := by
  obtain ⟨cl, z, a1, a2, a3, a4, a5, a6, a7, a8, a9, a10, a11, a12, a13, a14⟩ := u
  unfold wpX_twin
  dsimp only
  refine cs_bp hp (br_t rfl (cs_hold hp hJ (fun clc zc c1 c2 c3 c4 c5 c6 c7 c8 c9 c10 c11 c12 c13 c14 e1 e2 => ?_)))
  have key : ∀ n x clb zb b1 b2 b3 b4 b5 b6 b7 b8 b9 b10 b11 b12 b13, x + n = 12 → cs_I 12 C b1 b2 b3 b4 b6 b7 b8 b10 b11 → (∀ u', cs_J C u' → post (cs_tw C p n x) u') → wX_twin_17 post (nI p) (n + 1) (nI x) clb zb b1 b2 b3 b4 b5 b6 b7 b8 b9 b10 b11 b12 b13 c14 := by
    intro n
    induction n with
    | zero =>
      intro x clb zb b1 b2 b3 b4 b5 b6 b7 b8 b9 b10 b11 b12 b13 hx h K
      exact pk_le 12 x (fun _ => K _ h) (fun w => absurd w (by omega))
    | succ n ih =>
      intro x clb zb b1 b2 b3 b4 b5 b6 b7 b8 b9 b10 b11 b12 b13 hx h K
      have K' : ∀ u', cs_J C u' → post (if x = p then cs_tw C p n (x + 1) else if cs_fd (C x) (C p) 16 0 = -4 then nI x else cs_tw C p n (x + 1)) u' := K
      refine pk_le 12 x (fun w => absurd w (by omega)) (fun w => pk_eq x p (fun e => nm_r (nI_1 x) (ih (x + 1) _ _ _ _ _ _ _ _ _ _ _ _ _ _ _ (by omega) h ?_)) (fun e => cs_firstDiff w h e2 (fun cld zd d1 d2 d3 d4 d5 d6 d7 d8 d9 d10 d11 d12 d13 g => br_c (fun ee => ?_) (fun ee => nm_r (nI_1 x) (ih (x + 1) _ _ _ _ _ _ _ _ _ _ _ _ _ _ _ (by omega) g ?_)))))
      · rw [if_pos e] at K'
        exact K'
      · rw [if_neg e, if_pos ee] at K'
        exact K' _ g
      · rw [if_neg e, if_neg ee] at K'
        exact K'
  exact ⟨13, key 12 0 _ _ _ _ _ _ _ _ _ _ _ _ _ _ _ rfl e1 H⟩
theorem cs_blank {post : Int32 → Prop} (hJ : cs_J C u) (H : post (cs_bl C 12)) : wpX_blank post u := by
  obtain ⟨cl, z, a1, a2, a3, a4, a5, a6, a7, a8, a9, a10, a11, a12, a13, a14⟩ := u
  have hI : cs_I 12 C a1 a2 a3 a4 a6 a7 a8 a10 a11 := hJ
  refine pk_loop (σ := Unit) (fun n m _ => wX_blank_4 post cl z a1 a2 a3 a4 a5 a6 a7 a8 a9 a10 a11 a12 a13 a14 n (cs_bl C m) (nI m)) (fun _ _ => True) 12 0 () (by omega) trivial ?_ ?_
  · intro n _ _
    exact pk_le 12 12 (fun _ => H) (fun w => absurd w (by omega))
  · intro n m _ hm _ hw
    have hv : vp_in (nI m) 12 := pk_in m 12 hm
    have K := hw () trivial
    have K' : wX_blank_4 post cl z a1 a2 a3 a4 a5 a6 a7 a8 a9 a10 a11 a12 a13 a14 n (if ∀ i, i < 16 → C m i = 0 then cs_bl C m + 1 else cs_bl C m) (nI (m + 1)) := K
    have y1 : (∀ i, i < 16 → C m i = 0) → wX_blank_46 post (wX_blank_4 post cl z a1 a2 a3 a4 a5 a6 a7 a8 a9 a10 a11 a12 a13 a14 n) (cs_bl C m) (nI m) 1 cl z a1 a2 a3 a4 a5 a6 a7 a8 a9 a10 a11 a12 a13 a14 := by
      intro h
      rw [if_pos h] at K'
      exact br_f (by decide) (nm_e (nm_r (nI_1 m) K'))
    have y0 : (¬ ∀ i, i < 16 → C m i = 0) → wX_blank_46 post (wX_blank_4 post cl z a1 a2 a3 a4 a5 a6 a7 a8 a9 a10 a11 a12 a13 a14 n) (cs_bl C m) (nI m) 0 cl z a1 a2 a3 a4 a5 a6 a7 a8 a9 a10 a11 a12 a13 a14 := by
      intro h
      rw [if_neg h] at K'
      exact br_t rfl (nm_r (nI_1 m) K')
    have hA := hI.1 m hm (by omega)
    refine pk_le 12 m (fun w => absurd w (by omega)) (fun _ => ⟨hv, ?_⟩)
    rw [nI_clamp (by omega)]
    refine br_c (fun e => ⟨hv, ?_⟩) (fun e => ⟨hv, ?_⟩)
    · rw [nI_clamp (by omega)]
      refine br_f (by rw [e]; decide) (y1 ?_)
      exact (cs_at0 hA (by rw [e]; decide) (by rw [e]; decide) (by rw [e]; decide)).2
    · rw [nI_clamp (by omega)]
      refine br_c (fun e1 => ⟨hv, ?_⟩) (fun e1 => y0 ?_)
      · obtain ⟨f, f1, f2, f3, f4⟩ := cs_at1 hA e1
        rw [f2]
        refine cs_blankFrame f1 (fun h => y1 (fun i hi => ?_)) (fun h => y0 (fun h2 => ?_))
        · rw [← f4 i hi]
          exact h i hi
        · obtain ⟨i, i1, i2⟩ := h
          exact i2 (by rw [f4 i i1, h2 i i1])
      · intro h2
        rcases hA with ⟨z, _⟩ | ⟨z, _⟩ | ⟨_, _, _, _, _, ⟨i, i1, i2⟩, _⟩ | ⟨_, _, _, _, _, ⟨i, i1, i2⟩, _⟩
        · exact e z
        · exact e1 z
        · exact i2 (h2 i i1)
        · exact i2 (h2 i i1)
theorem cs_flush {post : St1 → Prop} {m : Nat} (hm : m < 16) (hJ : cs_J C u) (H : ∀ u', cs_J C u' → post u') : wpX_flush post u (nI m) := by
  obtain ⟨cl, z, a1, a2, a3, a4, a5, a6, a7, a8, a9, a10, a11, a12, a13, a14⟩ := u
  have key : ∀ n x cl z a1 a2 a3 a4 a5 a6 a7 a8 a9 a10 a11 a12 a13 a14, x ≤ 4 → 4 - x < n → cs_I 12 C a1 a2 a3 a4 a6 a7 a8 a10 a11 → wX_flush_2 post (nI m) n (nI x) cl z a1 a2 a3 a4 a5 a6 a7 a8 a9 a10 a11 a12 a13 a14 := by
    intro n
    induction n with
    | zero => intro x cl z a1 a2 a3 a4 a5 a6 a7 a8 a9 a10 a11 a12 a13 a14 _ h; omega
    | succ n ih =>
      intro x cl z a1 a2 a3 a4 a5 a6 a7 a8 a9 a10 a11 a12 a13 a14 hx hn hI
      refine pk_le m x (fun _ => H _ hI) (fun w => pk_le 4 x (fun _ => H _ hI) (fun w2 => cs_oldest (fun _ => br_t cs_m1 (nm_r (nI_1 x) (ih (x + 1) _ _ _ _ _ _ _ _ _ _ _ _ _ _ _ _ (by omega) (by omega) hI))) (fun g hg => br_f (nI_pos (by omega)) (cs_writeBack hg hI (fun b1 b2 b7 b10 b11 b13 h1 h2 h3 h5 => nm_r (nI_1 x) (ih (x + 1) _ _ _ _ _ _ _ _ _ _ _ _ _ _ _ _ (by omega) (by omega) h1))))))
  exact ⟨5, key 5 0 _ _ _ _ _ _ _ _ _ _ _ _ _ _ _ _ (by omega) (by omega) hJ⟩
theorem cs_rest {post : St1 → Prop} {m : Nat} (hm : m < 16) (hJ : cs_J C u) (H : ∀ u', cs_J C u' → post u') : wpX_rest post u (nI m) := by
  obtain ⟨cl, z, a1, a2, a3, a4, a5, a6, a7, a8, a9, a10, a11, a12, a13, a14⟩ := u
  have key : ∀ n x cl z a1 a2 a3 a4 a5 a6 a7 a8 a9 a10 a11 a12 a13 a14, x ≤ 12 → 12 - x < n → cs_I 12 C a1 a2 a3 a4 a6 a7 a8 a10 a11 → wX_rest_2 post (nI m) n (nI x) cl z a1 a2 a3 a4 a5 a6 a7 a8 a9 a10 a11 a12 a13 a14 := by
    intro n
    induction n with
    | zero => intro x cl z a1 a2 a3 a4 a5 a6 a7 a8 a9 a10 a11 a12 a13 a14 _ h; omega
    | succ n ih =>
      intro x cl z a1 a2 a3 a4 a5 a6 a7 a8 a9 a10 a11 a12 a13 a14 hx hn hI
      refine pk_le m x (fun _ => H _ hI) (fun w => pk_le 12 x (fun _ => H _ hI) (fun w2 => cs_bring w2 hI (fun f clb zb b1 b2 b3 b4 b5 b6 b7 b8 b9 b10 b11 b12 b13 g1 g2 g3 g4 => nm_r (nI_1 x) (ih (x + 1) _ _ _ _ _ _ _ _ _ _ _ _ _ _ _ _ (by omega) (by omega) g2))))
  exact ⟨13, key 13 0 _ _ _ _ _ _ _ _ _ _ _ _ _ _ _ _ (by omega) (by omega) hJ⟩
end
end
section
/-! part 11: making an object, one turn of the law -/
theorem cs_init {post : St1 → Prop} (H : ∀ u', cs_J (fun _ _ => 0) u' → post u') : wpX_init post 14 422 (0, 0) := by
  refine ⟨by decide, by decide, by decide, by decide, by decide, by decide, by decide, by decide, by decide, by decide, by decide, by decide, by decide, by decide, by decide, by decide, by decide, by decide, by decide, by decide, by decide, by decide, by decide, by decide, by decide, by decide, by decide, by decide, ?_⟩
  have step : ∀ (t : Nat → Int32) (i : Nat), i < 2 ^ 31 → (∀ j, j < i → t j < 0) → ∀ j, j < i + 1 → upd t (nI i).toNatClampNeg (-1) j < 0 := by
    intro t i hi h j hj
    rw [nI_clamp hi]
    by_cases e : j = i
    · rw [cs_us e]
      exact cs_m1
    · rw [pk_un e]
      exact h j (by omega)
  refine pk_loop (fun n i t => wX_init_116 post 14 422 14 422 0 0 n (nI i) (fun _ => 0) (fun _ => 0) (fun _ => 0) t (fun _ => 0) (fun _ => 0) (fun _ => 0) (fun _ => 0) (fun _ => 0) (fun _ => 0) (fun _ => 0) (fun _ => 0) (fun _ => 0) (fun _ => 0)) (fun i t => ∀ j, j < i → t j < 0) 3 0 (fun _ => 0) (by omega) (fun j hj => absurd hj (by omega)) ?_ ?_
  · intro n t4 h4
    refine pk_le 3 3 (fun _ => ?_) (fun w => absurd w (by omega))
    refine pk_loop (fun n i t => wX_init_136 post 14 422 14 422 0 0 n (nI i) (fun _ => 0) (fun _ => 0) (fun _ => 0) t4 (fun _ => 0) (fun _ => 0) t (fun _ => 0) (fun _ => 0) (fun _ => 0) (fun _ => 0) (fun _ => 0) (fun _ => 0) (fun _ => 0)) (fun i t => ∀ j, j < i → t j < 0) 8 0 (fun _ => 0) (by omega) (fun j hj => absurd hj (by omega)) ?_ ?_
    · intro n t7 h7
      refine pk_le 8 8 (fun _ => ?_) (fun w => absurd w (by omega))
      refine pk_loop (fun n i t => wX_init_157 post 14 422 14 422 0 0 n (nI i) (fun _ => 0) (fun _ => 0) (fun _ => 0) t4 (fun _ => 0) (fun _ => 0) t7 (fun _ => 0) (fun _ => 0) (fun _ => 0) t (fun _ => 0) (fun _ => 0) (fun _ => 0)) (fun i t => ∀ j, j < i → t j < 0) 12 0 (fun _ => 0) (by omega) (fun j hj => absurd hj (by omega)) ?_ ?_
      · intro n t11 h11
        refine pk_le 12 12 (fun _ => H _ ?_) (fun w => absurd w (by omega))
        exact ⟨fun q _ _ => Or.inl ⟨rfl, fun _ _ => rfl⟩, fun f hf => Or.inl (h4 f hf), fun f hf => Or.inl (h7 f hf), fun f hf => Or.inl (h11 f hf), fun g hg a _ => absurd (h7 (2 * g) (by omega)) a⟩
      · intro n i t hi h hw
        exact pk_le 12 i (fun w => absurd w (by omega)) (fun _ => ⟨pk_in i 12 hi, nm_e (nm_r (nI_1 i) (hw _ (step t i (by omega) h)))⟩)
    · intro n i t hi h hw
      exact pk_le 8 i (fun w => absurd w (by omega)) (fun _ => ⟨pk_in i 8 hi, nm_e (nm_r (nI_1 i) (hw _ (step t i (by omega) h)))⟩)
  · intro n i t hi h hw
    exact pk_le 3 i (fun w => absurd w (by omega)) (fun _ => ⟨pk_in i 3 hi, nm_e (nm_r (nI_1 i) (hw _ (step t i (by omega) h)))⟩)
theorem cs_and15 (y : Int32) : ∃ i, i < 16 ∧ y &&& 15 = nI i := pk_andE y 4 (by decide)
theorem cs_and255 (y : Int32) : ∃ i, i < 256 ∧ y &&& 255 = nI i := pk_andE y 8 (by decide)
theorem cs_and7 (y : Int32) : ∃ i, i < 8 ∧ y &&& 7 = nI i := pk_andE y 3 (by decide)
theorem cs_and3 (y : Int32) : ∃ i, i < 4 ∧ y &&& 3 = nI i := pk_andE y 2 (by decide)
theorem cs_rem12 (y : Int32) : ∃ p, p < 12 ∧ (y &&& 15) - (y &&& 15) / 12 * 12 = nI p := by
  obtain ⟨j, hj, e⟩ := cs_and15 y
  rw [e]
  exact ⟨j % 12, by omega, pk_rem (a := j) (d := 12) (by omega) (by omega) (by omega)⟩
theorem cs_turn (op x : Int32) (C : Nat → Nat → Int32) : ∃ (r : Int32) (C' : Nat → Nat → Int32), ∀ (u : St1) (post : Int32 → St1 → Prop), cs_J C u → (∀ u', cs_J C' u' → post r u') → wpL_turn post u op x := by
  obtain ⟨o, ho, eo⟩ := cs_and15 op
  obtain ⟨p, hp, ep⟩ := cs_rem12 x
  obtain ⟨q, hq, eq⟩ := cs_rem12 (x >>> ((4 : Int32) &&& 31))
  obtain ⟨n, hn, en⟩ := cs_and15 (x >>> ((4 : Int32) &&& 31))
  obtain ⟨i, hi, ei⟩ := cs_and15 (x >>> ((8 : Int32) &&& 31))
  obtain ⟨j, hj, ej⟩ := cs_and15 (x >>> ((12 : Int32) &&& 31))
  obtain ⟨b, hb, eb⟩ := cs_and255 (x >>> ((16 : Int32) &&& 31))
  obtain ⟨k, hk, ek⟩ := cs_and3 (nI b)
  obtain ⟨m, hm, em⟩ := cs_and7 (nI i)
  by_cases c5 : o < 5
  · refine ⟨C p i, cs_set C p i (nI b), fun u post hJ H => ?_⟩
    obtain ⟨cl, z, a1, a2, a3, a4, a5, a6, a7, a8, a9, a10, a11, a12, a13, a14⟩ := u
    refine nm_r eo ⟨by decide, nm_r ep ⟨by decide, nm_r eq (nm_r ei (nm_r ej (nm_r eb ?_)))⟩⟩
    exact pk_le 5 o (fun w => absurd w (by omega)) (fun _ => cs_write hp hi hb hJ (fun u' h => by obtain ⟨cld, zd, d1, d2, d3, d4, d5, d6, d7, d8, d9, d10, d11, d12, d13, d14⟩ := u'; exact H _ h))
  by_cases c7 : o < 7
  · refine ⟨if i ≤ j then nI (j - i + 1) else 0, cs_fl C p i (nI k) (j + 1 - i), fun u post hJ H => ?_⟩
    obtain ⟨cl, z, a1, a2, a3, a4, a5, a6, a7, a8, a9, a10, a11, a12, a13, a14⟩ := u
    refine nm_r eo ⟨by decide, nm_r ep ⟨by decide, nm_r eq (nm_r ei (nm_r ej (nm_r eb ?_)))⟩⟩
    rw [ek]
    exact pk_le 5 o (fun _ => pk_le 7 o (fun w => absurd w (by omega)) (fun _ => cs_fill1 hp hi hj (by omega) hJ (fun u' h => by obtain ⟨cld, zd, d1, d2, d3, d4, d5, d6, d7, d8, d9, d10, d11, d12, d13, d14⟩ := u'; exact H _ h))) (fun w => absurd w (by omega))
  by_cases e7 : o = 7
  · refine ⟨cs_cn C p (C q) 16, cs_cp C p (C q) 16, fun u post hJ H => ?_⟩
    obtain ⟨cl, z, a1, a2, a3, a4, a5, a6, a7, a8, a9, a10, a11, a12, a13, a14⟩ := u
    refine nm_r eo ⟨by decide, nm_r ep ⟨by decide, nm_r eq (nm_r ei (nm_r ej (nm_r eb ?_)))⟩⟩
    exact pk_le 5 o (fun _ => pk_le 7 o (fun _ => pk_eq o 7 (fun _ => cs_copy hp hq hJ (fun u' h => by obtain ⟨cld, zd, d1, d2, d3, d4, d5, d6, d7, d8, d9, d10, d11, d12, d13, d14⟩ := u'; exact H _ h)) (fun w => absurd e7 w)) (fun w => absurd w (by omega))) (fun w => absurd w (by omega))
  by_cases e8 : o = 8
  · refine ⟨0, fun x => C (cs_sw p q x), fun u post hJ H => ?_⟩
    obtain ⟨cl, z, a1, a2, a3, a4, a5, a6, a7, a8, a9, a10, a11, a12, a13, a14⟩ := u
    refine nm_r eo ⟨by decide, nm_r ep ⟨by decide, nm_r eq (nm_r ei (nm_r ej (nm_r eb ?_)))⟩⟩
    exact pk_le 5 o (fun _ => pk_le 7 o (fun _ => pk_eq o 7 (fun w => absurd w e7) (fun _ => pk_eq o 8 (fun _ => cs_exchange hp hq hJ (fun u' h => by obtain ⟨cld, zd, d1, d2, d3, d4, d5, d6, d7, d8, d9, d10, d11, d12, d13, d14⟩ := u'; exact H _ h)) (fun w => absurd e8 w))) (fun w => absurd w (by omega))) (fun w => absurd w (by omega))
  by_cases c11 : o < 11
  · by_cases cm : i + n ≤ 16 ∧ j + n ≤ 16
    · refine ⟨0, cs_mv C p i j n, fun u post hJ H => ?_⟩
      obtain ⟨cl, z, a1, a2, a3, a4, a5, a6, a7, a8, a9, a10, a11, a12, a13, a14⟩ := u
      refine nm_r eo ⟨by decide, nm_r ep ⟨by decide, nm_r eq (nm_r ei (nm_r ej (nm_r eb ?_)))⟩⟩
      rw [en]
      exact pk_le 5 o (fun _ => pk_le 7 o (fun _ => pk_eq o 7 (fun w => absurd w e7) (fun _ => pk_eq o 8 (fun w => absurd w e8) (fun _ => pk_le 11 o (fun w => absurd w (by omega)) (fun _ => cs_move hp hi hj hn hJ (fun w => absurd cm w) (fun _ u' h => by obtain ⟨cld, zd, d1, d2, d3, d4, d5, d6, d7, d8, d9, d10, d11, d12, d13, d14⟩ := u'; exact H _ h))))) (fun w => absurd w (by omega))) (fun w => absurd w (by omega))
    · refine ⟨-1, C, fun u post hJ H => ?_⟩
      obtain ⟨cl, z, a1, a2, a3, a4, a5, a6, a7, a8, a9, a10, a11, a12, a13, a14⟩ := u
      refine nm_r eo ⟨by decide, nm_r ep ⟨by decide, nm_r eq (nm_r ei (nm_r ej (nm_r eb ?_)))⟩⟩
      rw [en]
      exact pk_le 5 o (fun _ => pk_le 7 o (fun _ => pk_eq o 7 (fun w => absurd w e7) (fun _ => pk_eq o 8 (fun w => absurd w e8) (fun _ => pk_le 11 o (fun w => absurd w (by omega)) (fun _ => cs_move hp hi hj hn hJ (fun _ u' h => by obtain ⟨cld, zd, d1, d2, d3, d4, d5, d6, d7, d8, d9, d10, d11, d12, d13, d14⟩ := u'; exact H _ h) (fun w => absurd w cm))))) (fun w => absurd w (by omega))) (fun w => absurd w (by omega))
  by_cases e11 : o = 11
  · refine ⟨0, cs_mx C p (C q) 16, fun u post hJ H => ?_⟩
    obtain ⟨cl, z, a1, a2, a3, a4, a5, a6, a7, a8, a9, a10, a11, a12, a13, a14⟩ := u
    refine nm_r eo ⟨by decide, nm_r ep ⟨by decide, nm_r eq (nm_r ei (nm_r ej (nm_r eb ?_)))⟩⟩
    refine pk_le 5 o (fun _ => pk_le 7 o (fun _ => pk_eq o 7 (fun w => absurd w e7) (fun _ => pk_eq o 8 (fun w => absurd w e8) (fun _ => pk_le 11 o (fun _ => ?_) (fun w => absurd w (by omega))))) (fun w => absurd w (by omega))) (fun w => absurd w (by omega))
    exact pk_eq o 11 (fun _ => cs_mix hp hq hJ (fun u' h => by obtain ⟨cld, zd, d1, d2, d3, d4, d5, d6, d7, d8, d9, d10, d11, d12, d13, d14⟩ := u'; exact H _ h)) (fun w => absurd e11 w)
  by_cases e12 : o = 12
  · refine ⟨0, fun x => if x = p then fun _ => 0 else C x, fun u post hJ H => ?_⟩
    obtain ⟨cl, z, a1, a2, a3, a4, a5, a6, a7, a8, a9, a10, a11, a12, a13, a14⟩ := u
    refine nm_r eo ⟨by decide, nm_r ep ⟨by decide, nm_r eq (nm_r ei (nm_r ej (nm_r eb ?_)))⟩⟩
    refine pk_le 5 o (fun _ => pk_le 7 o (fun _ => pk_eq o 7 (fun w => absurd w e7) (fun _ => pk_eq o 8 (fun w => absurd w e8) (fun _ => pk_le 11 o (fun _ => ?_) (fun w => absurd w (by omega))))) (fun w => absurd w (by omega))) (fun w => absurd w (by omega))
    exact pk_eq o 11 (fun w => absurd w e11) (fun _ => pk_eq o 12 (fun _ => cs_drop hp hJ (fun u' h => by obtain ⟨cld, zd, d1, d2, d3, d4, d5, d6, d7, d8, d9, d10, d11, d12, d13, d14⟩ := u'; exact H _ h)) (fun w => absurd e12 w))
  by_cases e13 : o = 13
  · refine ⟨0, C, fun u post hJ H => ?_⟩
    obtain ⟨cl, z, a1, a2, a3, a4, a5, a6, a7, a8, a9, a10, a11, a12, a13, a14⟩ := u
    refine nm_r eo ⟨by decide, nm_r ep ⟨by decide, nm_r eq (nm_r ei (nm_r ej (nm_r eb ?_)))⟩⟩
    refine pk_le 5 o (fun _ => pk_le 7 o (fun _ => pk_eq o 7 (fun w => absurd w e7) (fun _ => pk_eq o 8 (fun w => absurd w e8) (fun _ => pk_le 11 o (fun _ => ?_) (fun w => absurd w (by omega))))) (fun w => absurd w (by omega))) (fun w => absurd w (by omega))
    exact pk_eq o 11 (fun w => absurd w e11) (fun _ => pk_eq o 12 (fun w => absurd w e12) (fun _ => pk_eq o 13 (fun _ => cs_away hp hJ (fun u' h => by obtain ⟨cld, zd, d1, d2, d3, d4, d5, d6, d7, d8, d9, d10, d11, d12, d13, d14⟩ := u'; exact H _ h)) (fun w => absurd e13 w)))
  refine ⟨0, C, fun u post hJ H => ?_⟩
  obtain ⟨cl, z, a1, a2, a3, a4, a5, a6, a7, a8, a9, a10, a11, a12, a13, a14⟩ := u
  refine nm_r eo ⟨by decide, nm_r ep ⟨by decide, nm_r eq (nm_r ei (nm_r ej (nm_r eb ?_)))⟩⟩
  refine pk_le 5 o (fun _ => pk_le 7 o (fun _ => pk_eq o 7 (fun w => absurd w e7) (fun _ => pk_eq o 8 (fun w => absurd w e8) (fun _ => pk_le 11 o (fun _ => ?_) (fun w => absurd w (by omega))))) (fun w => absurd w (by omega))) (fun w => absurd w (by omega))
  rw [em]
  exact pk_eq o 11 (fun w => absurd w e11) (fun _ => pk_eq o 12 (fun w => absurd w e12) (fun _ => pk_eq o 13 (fun w => absurd w e13) (fun _ => pk_eq o 14 (fun _ => cs_flush (by omega) hJ (fun u' h => by obtain ⟨cld, zd, d1, d2, d3, d4, d5, d6, d7, d8, d9, d10, d11, d12, d13, d14⟩ := u'; exact H _ h)) (fun _ => cs_rest hi hJ (fun u' h => by obtain ⟨cld, zd, d1, d2, d3, d4, d5, d6, d7, d8, d9, d10, d11, d12, d13, d14⟩ := u'; exact H _ h)))))
end
section
/-! part 12: the law's loops -/
section
variable {C : Nat → Nat → Int32}
theorem cs_eq71 {post : Int32 → St2 → Prop} (H : ∀ cl z a1 a2 a3 a4 a5 a6 a7 a8 a9 a10 a11 a12 a13 a14 cld zd d1 d2 d3 d4 d5 d6 d7 d8 d9 d10 d11 d12 d13 d14, cs_J C (cl, z, a1, a2, a3, a4, a5, a6, a7, a8, a9, a10, a11, a12, a13, a14) → cs_J C (cld, zd, d1, d2, d3, d4, d5, d6, d7, d8, d9, d10, d11, d12, d13, d14) → post 1 (cl, z, a1, a2, a3, a4, a5, a6, a7, a8, a9, a10, a11, a12, a13, a14, cld, zd, d1, d2, d3, d4, d5, d6, d7, d8, d9, d10, d11, d12, d13, d14)) : ∀ (n x : Nat) (cl z : Int32) (a1 a2 a3 a4 a5 a6 a7 a8 a9 a10 a11 a12 a13 a14 : Nat → Int32) (cld zd : Int32) (d1 d2 d3 d4 d5 d6 d7 d8 d9 d10 d11 d12 d13 d14 : Nat → Int32), x ≤ 12 → 12 - x < n → cs_J C (cl, z, a1, a2, a3, a4, a5, a6, a7, a8, a9, a10, a11, a12, a13, a14) → cs_J C (cld, zd, d1, d2, d3, d4, d5, d6, d7, d8, d9, d10, d11, d12, d13, d14) → wL_equal_71 post n (nI x) cl z a1 a2 a3 a4 a5 a6 a7 a8 a9 a10 a11 a12 a13 a14 cld zd d1 d2 d3 d4 d5 d6 d7 d8 d9 d10 d11 d12 d13 d14 := by
  intro n
  induction n with
  | zero => intro x cl z a1 a2 a3 a4 a5 a6 a7 a8 a9 a10 a11 a12 a13 a14 cld zd d1 d2 d3 d4 d5 d6 d7 d8 d9 d10 d11 d12 d13 d14 _ h; omega
  | succ n ih =>
    intro x cl z a1 a2 a3 a4 a5 a6 a7 a8 a9 a10 a11 a12 a13 a14 cld zd d1 d2 d3 d4 d5 d6 d7 d8 d9 d10 d11 d12 d13 d14 hx hn ha hd
    refine pk_le 12 x (fun w => cs_blank ha (cs_blank hd (br_t rfl (H _ _ _ _ _ _ _ _ _ _ _ _ _ _ _ _ _ _ _ _ _ _ _ _ _ _ _ _ _ _ _ _ ha hd)))) (fun w => ?_)
    refine cs_sum w ha (fun u1 h1 => ?_)
    obtain ⟨cle, ze, e1, e2, e3, e4, e5, e6, e7, e8, e9, e10, e11, e12, e13, e14⟩ := u1
    refine cs_sum w hd (fun u2 h2 => ?_)
    obtain ⟨clf, zf, f1, f2, f3, f4, f5, f6, f7, f8, f9, f10, f11, f12, f13, f14⟩ := u2
    refine br_t rfl ?_
    refine cs_twin w h1 (fun u3 h3 => ?_)
    obtain ⟨clg, zg, g1, g2, g3, g4, g5, g6, g7, g8, g9, g10, g11, g12, g13, g14⟩ := u3
    refine cs_twin w h2 (fun u4 h4 => ?_)
    obtain ⟨clw, zw, w1, w2, w3, w4, w5, w6, w7, w8, w9, w10, w11, w12, w13, w14⟩ := u4
    refine br_t rfl (nm_r (nI_1 x) ?_)
    exact ih (x + 1) _ _ _ _ _ _ _ _ _ _ _ _ _ _ _ _ _ _ _ _ _ _ _ _ _ _ _ _ _ _ _ _ (by omega) (by omega) h3 h4
theorem cs_eq2 {post : Int32 → St2 → Prop} {b : Nat} (hb : b < 256) (H : ∀ cl z a1 a2 a3 a4 a5 a6 a7 a8 a9 a10 a11 a12 a13 a14 cld zd d1 d2 d3 d4 d5 d6 d7 d8 d9 d10 d11 d12 d13 d14, cs_J C (cl, z, a1, a2, a3, a4, a5, a6, a7, a8, a9, a10, a11, a12, a13, a14) → cs_J C (cld, zd, d1, d2, d3, d4, d5, d6, d7, d8, d9, d10, d11, d12, d13, d14) → post 1 (cl, z, a1, a2, a3, a4, a5, a6, a7, a8, a9, a10, a11, a12, a13, a14, cld, zd, d1, d2, d3, d4, d5, d6, d7, d8, d9, d10, d11, d12, d13, d14)) : ∀ (n x : Nat) (cl z : Int32) (a1 a2 a3 a4 a5 a6 a7 a8 a9 a10 a11 a12 a13 a14 : Nat → Int32) (cld zd : Int32) (d1 d2 d3 d4 d5 d6 d7 d8 d9 d10 d11 d12 d13 d14 : Nat → Int32), x ≤ 144 → 144 - x < n → cs_J C (cl, z, a1, a2, a3, a4, a5, a6, a7, a8, a9, a10, a11, a12, a13, a14) → cs_J C (cld, zd, d1, d2, d3, d4, d5, d6, d7, d8, d9, d10, d11, d12, d13, d14) → wL_equal_2 post (nI b) n (nI x) cl z a1 a2 a3 a4 a5 a6 a7 a8 a9 a10 a11 a12 a13 a14 cld zd d1 d2 d3 d4 d5 d6 d7 d8 d9 d10 d11 d12 d13 d14 := by
  intro n
  induction n with
  | zero => intro x cl z a1 a2 a3 a4 a5 a6 a7 a8 a9 a10 a11 a12 a13 a14 cld zd d1 d2 d3 d4 d5 d6 d7 d8 d9 d10 d11 d12 d13 d14 _ h; omega
  | succ n ih =>
    intro x cl z a1 a2 a3 a4 a5 a6 a7 a8 a9 a10 a11 a12 a13 a14 cld zd d1 d2 d3 d4 d5 d6 d7 d8 d9 d10 d11 d12 d13 d14 hx hn ha hd
    refine pk_le 144 x (fun w => ⟨13, cs_eq71 H 13 0 _ _ _ _ _ _ _ _ _ _ _ _ _ _ _ _ _ _ _ _ _ _ _ _ _ _ _ _ _ _ _ _ (by omega) (by omega) ha hd⟩) (fun w => ⟨by decide, nm_r (pk_div (a := x) (d := 12) (by omega) (by omega) (by omega)) ⟨by decide, nm_r (pk_rem (a := x) (d := 12) (by omega) (by omega) (by omega)) ?_⟩⟩)
    have hp : x / 12 < 12 := by omega
    have hq : x % 12 < 12 := by omega
    refine cs_differ hp hq ha (fun u1 h1 => ?_)
    obtain ⟨cle, ze, e1, e2, e3, e4, e5, e6, e7, e8, e9, e10, e11, e12, e13, e14⟩ := u1
    refine cs_differ hp hq hd (fun u2 h2 => ?_)
    obtain ⟨clf, zf, f1, f2, f3, f4, f5, f6, f7, f8, f9, f10, f11, f12, f13, f14⟩ := u2
    refine br_t rfl ?_
    refine cs_find hp (by omega) hb h1 (fun u3 h3 => ?_)
    obtain ⟨clg, zg, g1, g2, g3, g4, g5, g6, g7, g8, g9, g10, g11, g12, g13, g14⟩ := u3
    refine cs_find hp (by omega) hb h2 (fun u4 h4 => ?_)
    obtain ⟨clw, zw, w1, w2, w3, w4, w5, w6, w7, w8, w9, w10, w11, w12, w13, w14⟩ := u4
    refine br_t rfl (nm_r (nI_1 x) ?_)
    exact ih (x + 1) _ _ _ _ _ _ _ _ _ _ _ _ _ _ _ _ _ _ _ _ _ _ _ _ _ _ _ _ _ _ _ _ (by omega) (by omega) h3 h4
theorem cs_192 {post : Int32 → Prop} {L : Nat} {xs : Nat → Int32} {p i b kc ks : Nat} (hp : p < 12) (hi : i < 16) (H : post 1) : ∀ (n x : Nat) (cl z : Int32) (a1 a2 a3 a4 a5 a6 a7 a8 a9 a10 a11 a12 a13 a14 : Nat → Int32) (cld zd : Int32) (d1 d2 d3 d4 d5 d6 d7 d8 d9 d10 d11 d12 d13 d14 : Nat → Int32), x ≤ 192 → 192 - x < n → cs_J C (cl, z, a1, a2, a3, a4, a5, a6, a7, a8, a9, a10, a11, a12, a13, a14) → cs_J (cs_set C p i (nI b)) (cld, zd, d1, d2, d3, d4, d5, d6, d7, d8, d9, d10, d11, d12, d13, d14) → wL_law_192 post L xs (nI p) (nI i) (nI b) (C p i) kc ks n (nI x) cl z a1 a2 a3 a4 a5 a6 a7 a8 a9 a10 a11 a12 a13 a14 cld zd d1 d2 d3 d4 d5 d6 d7 d8 d9 d10 d11 d12 d13 d14 := by
  intro n
  induction n with
  | zero => intro x cl z a1 a2 a3 a4 a5 a6 a7 a8 a9 a10 a11 a12 a13 a14 cld zd d1 d2 d3 d4 d5 d6 d7 d8 d9 d10 d11 d12 d13 d14 _ h; omega
  | succ n ih =>
    intro x cl z a1 a2 a3 a4 a5 a6 a7 a8 a9 a10 a11 a12 a13 a14 cld zd d1 d2 d3 d4 d5 d6 d7 d8 d9 d10 d11 d12 d13 d14 hx hn ha hd
    refine pk_le 192 x (fun w => H) (fun w => ?_)
    have s1 : nI x >>> ((4 : Int32) &&& 31) = nI (x / 16) := pk_shrN (by omega) ((4 : Int32) &&& 31) 4 (by decide)
    have s2 : nI x &&& 15 = nI (x % 16) := pk_andN (by omega) 4 (by decide)
    have s3 : 16 * nI p + nI i = nI (16 * p + i) := by
      rw [show (16 : Int32) = nI 16 from rfl, pk_mul, nI_add]
    have hp' : x / 16 < 12 := by omega
    have hi' : x % 16 < 16 := by omega
    rw [s1, s2]
    refine cs_read hp' hi' ha (fun u1 h1 => ?_)
    obtain ⟨cle, ze, e1, e2, e3, e4, e5, e6, e7, e8, e9, e10, e11, e12, e13, e14⟩ := u1
    have fin : ∀ due, cs_set C p i (nI b) (x / 16) (x % 16) = due → (x = 16 * p + i → C p i = C (x / 16) (x % 16)) → wL_law_235 post L xs (wL_law_192 post L xs (nI p) (nI i) (nI b) (C p i) kc ks n) (nI p) (nI i) (nI b) (C p i) (nI x) (C (x / 16) (x % 16)) due kc ks cle ze e1 e2 e3 e4 e5 e6 e7 e8 e9 e10 e11 e12 e13 e14 cld zd d1 d2 d3 d4 d5 d6 d7 d8 d9 d10 d11 d12 d13 d14 := by
      intro due hdue ho
      unfold wL_law_235
      rw [s1, s2]
      refine cs_read hp' hi' hd (fun u2 h2 => ?_)
      obtain ⟨clf, zf, f1, f2, f3, f4, f5, f6, f7, f8, f9, f10, f11, f12, f13, f14⟩ := u2
      refine br_t hdue (pk_eq x (16 * p + i) (fun e => br_t (ho e) (nm_r (nI_1 x) ?_)) (fun e => nm_r (nI_1 x) ?_) rfl s3)
      · exact ih (x + 1) _ _ _ _ _ _ _ _ _ _ _ _ _ _ _ _ _ _ _ _ _ _ _ _ _ _ _ _ _ _ _ _ (by omega) (by omega) h1 h2
      · exact ih (x + 1) _ _ _ _ _ _ _ _ _ _ _ _ _ _ _ _ _ _ _ _ _ _ _ _ _ _ _ _ _ _ _ _ (by omega) (by omega) h1 h2
    refine pk_eq x (16 * p + i) (fun e => fin (nI b) ?_ (fun _ => ?_)) (fun e => fin _ ?_ (fun e2 => absurd e2 e)) rfl s3
    · rw [show x / 16 = p by omega, show x % 16 = i by omega, cs_set_s]
    · rw [show x / 16 = p by omega, show x % 16 = i by omega]
    · exact cs_set_n (fun z => e (by omega))
theorem cs_59 {post : Int32 → Prop} {L : Nat} {xs : Nat → Int32} {p i b kc ks : Nat} (hL : L ≤ 260) (hp : p < 12) (hi : i < 16) (hb : b < 256) (H : post 1) : ∀ (n x : Nat) (C : Nat → Nat → Int32) (cl z : Int32) (a1 a2 a3 a4 a5 a6 a7 a8 a9 a10 a11 a12 a13 a14 : Nat → Int32) (cld zd : Int32) (d1 d2 d3 d4 d5 d6 d7 d8 d9 d10 d11 d12 d13 d14 : Nat → Int32), x ≤ L + 1 → L + 1 - x < n → cs_J C (cl, z, a1, a2, a3, a4, a5, a6, a7, a8, a9, a10, a11, a12, a13, a14) → cs_J C (cld, zd, d1, d2, d3, d4, d5, d6, d7, d8, d9, d10, d11, d12, d13, d14) → wL_law_59 post L xs (nI p) (nI i) (nI b) kc ks n (nI x) cl z a1 a2 a3 a4 a5 a6 a7 a8 a9 a10 a11 a12 a13 a14 cld zd d1 d2 d3 d4 d5 d6 d7 d8 d9 d10 d11 d12 d13 d14 := by
  intro n
  induction n with
  | zero => intro x C cl z a1 a2 a3 a4 a5 a6 a7 a8 a9 a10 a11 a12 a13 a14 cld zd d1 d2 d3 d4 d5 d6 d7 d8 d9 d10 d11 d12 d13 d14 _ h; omega
  | succ n ih =>
    intro x C cl z a1 a2 a3 a4 a5 a6 a7 a8 a9 a10 a11 a12 a13 a14 cld zd d1 d2 d3 d4 d5 d6 d7 d8 d9 d10 d11 d12 d13 d14 hx hn ha hd
    refine pk_le L (x + 1) (fun w => ?_) (fun w => ?_) rfl (nI_1 x)
    · refine ⟨145, cs_eq2 hb (fun cle ze e1 e2 e3 e4 e5 e6 e7 e8 e9 e10 e11 e12 e13 e14 clf zf f1 f2 f3 f4 f5 f6 f7 f8 f9 f10 f11 f12 f13 f14 h1 h2 => ?_) 145 0 _ _ _ _ _ _ _ _ _ _ _ _ _ _ _ _ _ _ _ _ _ _ _ _ _ _ _ _ _ _ _ _ (by omega) (by omega) ha hd⟩
      refine br_f (by decide) ?_
      refine cs_write hp hi hb h2 (fun u3 h3 => ?_)
      obtain ⟨clg, zg, g1, g2, g3, g4, g5, g6, g7, g8, g9, g10, g11, g12, g13, g14⟩ := u3
      refine cs_away hp h3 (fun u4 h4 => ?_)
      obtain ⟨clw, zw, w1, w2, w3, w4, w5, w6, w7, w8, w9, w10, w11, w12, w13, w14⟩ := u4
      refine cs_flush (m := 4) (by omega) h4 (fun u5 h5 => ?_)
      obtain ⟨clk, zk, k1, k2, k3, k4, k5, k6, k7, k8, k9, k10, k11, k12, k13, k14⟩ := u5
      exact ⟨193, cs_192 hp hi H 193 0 _ _ _ _ _ _ _ _ _ _ _ _ _ _ _ _ _ _ _ _ _ _ _ _ _ _ _ _ _ _ _ _ (by omega) (by omega) h1 h5⟩
    · have v1 : vp_in (nI x + 1) L := pk_in (x + 1) L w (nI_1 x)
      have v2 : vp_in (nI x) L := pk_in x L (by omega)
      obtain ⟨r, C', ht⟩ := cs_turn (xs (nI x).toNatClampNeg) (xs (nI x + 1).toNatClampNeg) C
      refine ⟨v1, nm_e ⟨v2, ht _ _ ha (fun u1 h1 => ?_)⟩⟩
      obtain ⟨cle, ze, e1, e2, e3, e4, e5, e6, e7, e8, e9, e10, e11, e12, e13, e14⟩ := u1
      refine ⟨v2, ht _ _ hd (fun u2 h2 => ?_)⟩
      obtain ⟨clf, zf, f1, f2, f3, f4, f5, f6, f7, f8, f9, f10, f11, f12, f13, f14⟩ := u2
      refine br_t rfl ⟨by decide, ?_⟩
      obtain ⟨p', hp', ep'⟩ := cs_rem12 (xs (nI x + 1).toNatClampNeg >>> ((3 : Int32) &&& 31))
      obtain ⟨m7, hm7, em7⟩ := cs_and7 (xs (nI x + 1).toNatClampNeg >>> ((7 : Int32) &&& 31))
      obtain ⟨m3, hm3, em3⟩ := cs_and3 (xs (nI x + 1).toNatClampNeg >>> ((10 : Int32) &&& 31))
      rw [ep', em7, em3]
      refine cs_away hp' h2 (fun u3 h3 => ?_)
      obtain ⟨clg, zg, g1, g2, g3, g4, g5, g6, g7, g8, g9, g10, g11, g12, g13, g14⟩ := u3
      refine cs_flush (by omega) h3 (fun u4 h4 => ?_)
      obtain ⟨clw, zw, w1, w2, w3, w4, w5, w6, w7, w8, w9, w10, w11, w12, w13, w14⟩ := u4
      refine cs_rest (by omega) h4 (fun u5 h5 => ?_)
      obtain ⟨clk, zk, k1, k2, k3, k4, k5, k6, k7, k8, k9, k10, k11, k12, k13, k14⟩ := u5
      refine nm_r (show nI x + 2 = nI (x + 2) from nI_add x 2) ?_
      exact ih (x + 2) C' _ _ _ _ _ _ _ _ _ _ _ _ _ _ _ _ _ _ _ _ _ _ _ _ _ _ _ _ _ _ _ _ (by omega) (by omega) h1 h5
theorem cs_28 {post : Int32 → Prop} {L : Nat} {xs : Nat → Int32} {kc ks : Nat} {cl z : Int32} {a1 a2 a3 a4 a5 a6 a7 a8 a9 a10 a11 a12 a13 a14 : Nat → Int32} {cld zd : Int32} {d1 d2 d3 d4 d5 d6 d7 d8 d9 d10 d11 d12 d13 d14 : Nat → Int32} (hL : L ≤ 260) (H : post 1) (y : Int32) (ha : cs_J C (cl, z, a1, a2, a3, a4, a5, a6, a7, a8, a9, a10, a11, a12, a13, a14)) (hd : cs_J C (cld, zd, d1, d2, d3, d4, d5, d6, d7, d8, d9, d10, d11, d12, d13, d14)) : wL_law_28 post L xs y kc ks cl z a1 a2 a3 a4 a5 a6 a7 a8 a9 a10 a11 a12 a13 a14 cld zd d1 d2 d3 d4 d5 d6 d7 d8 d9 d10 d11 d12 d13 d14 := by
  obtain ⟨p, hp, ep⟩ := cs_rem12 y
  obtain ⟨i, hi, ei⟩ := cs_and15 (y >>> ((4 : Int32) &&& 31))
  obtain ⟨b, hb, eb⟩ := cs_and255 (y >>> ((8 : Int32) &&& 31))
  exact ⟨by decide, nm_r ep (nm_r ei (nm_r eb ⟨L + 1, cs_59 hL hp hi hb H (L + 1) 1 C _ _ _ _ _ _ _ _ _ _ _ _ _ _ _ _ _ _ _ _ _ _ _ _ _ _ _ _ _ _ _ _ (by omega) (by omega) ha hd⟩))⟩
end
theorem i_vc (xs : Nat → Int32) (L : Nat) (hL : L ≤ 260) : wpL_law (fun r => r = 1) L xs := by
  refine ⟨14, 422, by decide, by decide, cs_init (fun u1 h1 => ?_)⟩
  obtain ⟨cl, z, a1, a2, a3, a4, a5, a6, a7, a8, a9, a10, a11, a12, a13, a14⟩ := u1
  refine ⟨by decide, by decide, 14, 422, by decide, by decide, cs_init (fun u2 h2 => ?_)⟩
  obtain ⟨cld, zd, d1, d2, d3, d4, d5, d6, d7, d8, d9, d10, d11, d12, d13, d14⟩ := u2
  exact pk_le L 0 (fun _ => cs_28 (post := fun r => r = 1) hL rfl _ h1 h2) (fun w => ⟨pk_in 0 L w, cs_28 (post := fun r => r = 1) hL rfl _ h1 h2⟩)
end
