section
/-! words of a text, read backwards; the states' words; the automaton's invariant -/
/-- the l letters ahead of place e, the last one first -/
def sa_rw (t : Nat → Nat) : Nat → Nat → List Nat
  | 0, _ => []
  | l + 1, e => t (e - 1) :: sa_rw t l (e - 1)
theorem sa_len (t : Nat → Nat) : ∀ (l e : Nat), (sa_rw t l e).length = l
  | 0, _ => rfl
  | l + 1, e => by
    show (sa_rw t l (e - 1)).length + 1 = l + 1
    rw [sa_len t l (e - 1)]
theorem sa_rw_s (t : Nat → Nat) (l e : Nat) : sa_rw t (l + 1) (e + 1) = t e :: sa_rw t l e := rfl
theorem sa_mono {t : Nat → Nat} : ∀ {l' l e e' : Nat}, l' ≤ l → sa_rw t l e = sa_rw t l e' → sa_rw t l' e = sa_rw t l' e'
  | 0, _, _, _, _, _ => rfl
  | l' + 1, 0, _, _, h, _ => absurd h (by omega)
  | l' + 1, l + 1, e, e', h, h2 => by
    have h3 : t (e - 1) :: sa_rw t l (e - 1) = t (e' - 1) :: sa_rw t l (e' - 1) := h2
    injection h3 with h4 h5
    show t (e - 1) :: sa_rw t l' (e - 1) = t (e' - 1) :: sa_rw t l' (e' - 1)
    rw [h4, sa_mono (by omega : l' ≤ l) h5]
/-- u is a word of the state s -/
def sa_wd (t lk ln fe : Nat → Nat) (s : Nat) (u : List Nat) : Prop :=
  u.length ≤ ln s ∧ u = sa_rw t u.length (fe s) ∧ (s ≠ 0 → ln (lk s) < u.length)
/-- the longest word of s ends the text of p letters -/
def sa_suf (t ln fe : Nat → Nat) (p s : Nat) : Prop := sa_rw t (ln s) p = sa_rw t (ln s) (fe s)
/-- the automaton of the states S is one of the text t of p letters -/
def sa_inv (t : Nat → Nat) (p : Nat) (S : Nat → Prop) (nx lk ln fe : Nat → Nat) : Prop :=
  S 0 ∧ ln 0 = 0 ∧
  (∀ s, S s → ln s ≤ fe s ∧ fe s ≤ p) ∧
  (∀ s, S s → s ≠ 0 → S (lk s) ∧ ln (lk s) < ln s ∧ sa_rw t (ln (lk s)) (fe (lk s)) = sa_rw t (ln (lk s)) (fe s)) ∧
  (∀ s d, S s → d < 4 → nx (4 * s + d) ≠ 0 → S (nx (4 * s + d)) ∧ ∀ u, sa_wd t lk ln fe s u → sa_wd t lk ln fe (nx (4 * s + d)) (d :: u)) ∧
  (∀ s d u, S s → sa_wd t lk ln fe s (d :: u) → d < 4 ∧ ∃ r, S r ∧ sa_wd t lk ln fe r u ∧ nx (4 * r + d) = s) ∧
  (∀ i, i ≤ p → ∃ s, S s ∧ ln s = i ∧ fe s = i)
section
variable {t : Nat → Nat} {p : Nat} {S : Nat → Prop} {nx lk ln fe : Nat → Nat}
theorem sa_uniq (h : sa_inv t p S nx lk ln fe) : ∀ (u : List Nat) (s s' : Nat), S s → S s' → sa_wd t lk ln fe s u → sa_wd t lk ln fe s' u → s = s' := by
  obtain ⟨_, _, _, _, _, hR, _⟩ := h
  intro u
  induction u with
  | nil =>
    intro s s' hs hs' w w'
    have z : s = 0 := Classical.byContradiction (fun g => absurd (w.2.2 g) (Nat.not_lt_zero _))
    have z' : s' = 0 := Classical.byContradiction (fun g => absurd (w'.2.2 g) (Nat.not_lt_zero _))
    rw [z, z']
  | cons d u ih =>
    intro s s' hs hs' w w'
    obtain ⟨_, r, hr, wr, e⟩ := hR s d u hs w
    obtain ⟨_, r', hr', wr', e'⟩ := hR s' d u hs' w'
    have := ih r r' hr hr' wr wr'
    rw [← e, ← e', this]
theorem sa_top (h : sa_inv t p S nx lk ln fe) {s : Nat} (hs : S s) : sa_wd t lk ln fe s (sa_rw t (ln s) (fe s)) := by
  obtain ⟨_, _, _, hlk, _, _, _⟩ := h
  refine ⟨?_, ?_, ?_⟩
  · rw [sa_len]; exact Nat.le_refl _
  · rw [sa_len]
  · intro z
    rw [sa_len]
    exact (hlk s hs z).2.1
/-- a suffix of a state's longest word is a word of a state further along the links -/
theorem sa_find (h : sa_inv t p S nx lk ln fe) : ∀ (n s l : Nat), ln s ≤ n → S s → l ≤ ln s → ∃ r, S r ∧ sa_wd t lk ln fe r (sa_rw t l (fe s)) ∧ ln r ≤ ln s ∧ sa_rw t (ln r) (fe r) = sa_rw t (ln r) (fe s) := by
  have h' := h
  obtain ⟨_, _, _, hlk, _, _, _⟩ := h'
  intro n
  induction n with
  | zero =>
    intro s l hn hs hl
    have z : s = 0 := Classical.byContradiction (fun g => absurd (hlk s hs g).2.1 (by omega))
    refine ⟨s, hs, ⟨?_, ?_, fun g => absurd z g⟩, Nat.le_refl _, rfl⟩
    · rw [sa_len]; exact hl
    · rw [sa_len]
  | succ n ih =>
    intro s l hn hs hl
    by_cases z : s = 0
    · refine ⟨s, hs, ⟨?_, ?_, fun g => absurd z g⟩, Nat.le_refl _, rfl⟩
      · rw [sa_len]; exact hl
      · rw [sa_len]
    · obtain ⟨k1, k2, k3⟩ := hlk s hs z
      by_cases g : ln (lk s) < l
      · refine ⟨s, hs, ⟨?_, ?_, fun _ => ?_⟩, Nat.le_refl _, rfl⟩
        · rw [sa_len]; exact hl
        · rw [sa_len]
        · rw [sa_len]; exact g
      · obtain ⟨r, r1, r2, r3, r4⟩ := ih (lk s) l (by omega) k1 (by omega)
        refine ⟨r, r1, ?_, by omega, ?_⟩
        · rw [← sa_mono (by omega : l ≤ ln (lk s)) k3]; exact r2
        · rw [r4]; exact sa_mono r3 k3
theorem sa_zero (h : sa_inv t p S nx lk ln fe) {s : Nat} (hs : S s) (z : ln s = 0) : s = 0 := by
  obtain ⟨_, _, _, hlk, _, _, _⟩ := h
  exact Classical.byContradiction (fun g => absurd (hlk s hs g).2.1 (by omega))
/-- the text's suffixes -/
theorem sa_suffix (h : sa_inv t p S nx lk ln fe) {la l : Nat} (hla : S la) (h1 : ln la = p) (h2 : fe la = p) (hl : l ≤ p) : ∃ r, S r ∧ sa_wd t lk ln fe r (sa_rw t l p) ∧ sa_suf t ln fe p r := by
  obtain ⟨r, r1, r2, r3, r4⟩ := sa_find h (ln la) la l (Nat.le_refl _) hla (by omega)
  rw [h2] at r2 r4
  exact ⟨r, r1, r2, r4.symm⟩
theorem sa_suf_top (h : sa_inv t p S nx lk ln fe) {s : Nat} (hs : S s) (g : sa_suf t ln fe p s) : sa_wd t lk ln fe s (sa_rw t (ln s) p) := by
  have := sa_top h hs
  rw [← (show sa_rw t (ln s) p = sa_rw t (ln s) (fe s) from g)] at this
  exact this
/-- of two states whose longest words end the text, the longer one's words are all longer -/
theorem sa_longer (h : sa_inv t p S nx lk ln fe) {s x : Nat} (hs : S s) (hx : S x) (g : sa_suf t ln fe p s) (gx : sa_suf t ln fe p x) (hl : ln x < ln s) (_h0 : s ≠ 0) : ln x ≤ ln (lk s) := by
  rcases Nat.lt_or_ge (ln (lk s)) (ln x) with z | z
  · exfalso
    have w : sa_wd t lk ln fe s (sa_rw t (ln x) p) := by
      refine ⟨?_, ?_, fun _ => ?_⟩
      · rw [sa_len]; omega
      · rw [sa_len]; exact sa_mono (by omega) g
      · rw [sa_len]; exact z
    have := sa_uniq h _ s x hs hx w (sa_suf_top h hx gx)
    rw [this] at hl
    omega
  · exact z
theorem sa_suf_lk (h : sa_inv t p S nx lk ln fe) {x : Nat} (hx : S x) (gx : sa_suf t ln fe p x) (h0 : x ≠ 0) : sa_suf t ln fe p (lk x) := by
  obtain ⟨_, _, _, hlk, _, _, _⟩ := h
  obtain ⟨k1, k2, k3⟩ := hlk x hx h0
  show sa_rw t (ln (lk x)) p = sa_rw t (ln (lk x)) (fe (lk x))
  rw [k3]
  exact sa_mono (by omega) gx
/-- two states whose longest words end the text: the same length, the same state -/
theorem sa_suf_eq (h : sa_inv t p S nx lk ln fe) {s x : Nat} (hs : S s) (hx : S x) (g : sa_suf t ln fe p s) (gx : sa_suf t ln fe p x) (hl : ln s = ln x) : s = x := by
  have w := sa_suf_top h hs g
  rw [hl] at w
  exact sa_uniq h _ s x hs hx w (sa_suf_top h hx gx)
/-- none lies between a state and its link -/
theorem sa_gap (h : sa_inv t p S nx lk ln fe) {s x : Nat} (hs : S s) (hx : S x) (g : sa_suf t ln fe p s) (gx : sa_suf t ln fe p x) (h0 : x ≠ 0) (h1 : ln (lk x) < ln s) (h2 : ln s ≤ ln x) : s = x := by
  rcases Nat.lt_or_ge (ln s) (ln x) with z | z
  · have := sa_longer h hx hs gx g z h0
    omega
  · exact sa_suf_eq h hs hx g gx (by omega)
theorem sa_wd_len {s : Nat} {u : List Nat} (w : sa_wd t lk ln fe s u) : u.length ≤ ln s := w.1
theorem sa_wd_s {s d : Nat} {u : List Nat} (w : sa_wd t lk ln fe s (d :: u)) : d = t (fe s - 1) ∧ u = sa_rw t u.length (fe s - 1) := by
  have e : d :: u = t (fe s - 1) :: sa_rw t u.length (fe s - 1) := w.2.1
  injection e with e1 e2
  exact ⟨e1, e2⟩
end
end
section
/-! the two ways the automaton grows: a fresh state for a letter more, a state split in two -/
/-- a state's words depend on its own rows and its link's length alone -/
theorem sa_wd_c {t lk ln fe lk' ln' fe' : Nat → Nat} {s : Nat} {u : List Nat} (h1 : ln' s = ln s) (h2 : fe' s = fe s) (h3 : s ≠ 0 → ln' (lk' s) = ln (lk s)) : sa_wd t lk' ln' fe' s u ↔ sa_wd t lk ln fe s u := by
  unfold sa_wd
  rw [h1, h2]
  constructor
  · intro ⟨a, b, c⟩
    exact ⟨a, b, fun z => by rw [← h3 z]; exact c z⟩
  · intro ⟨a, b, c⟩
    exact ⟨a, b, fun z => by rw [h3 z]; exact c z⟩
section
variable {t : Nat → Nat} {p : Nat} {S : Nat → Prop} {nx lk ln fe nx' lk' ln' fe' : Nat → Nat}
theorem sa_ext {la f q lo : Nat} (h : sa_inv t p S nx lk ln fe) (hla : S la) (hla1 : ln la = p) (hla2 : fe la = p) (hf : ¬ S f) (hc : t p < 4)
    (hq : S q) (hq1 : ln q = lo) (hlo : lo ≤ p) (hq2 : sa_rw t lo (fe q) = sa_rw t lo (p + 1))
    (h0 : ∀ s, S s → sa_suf t ln fe p s → lo ≤ ln s → nx (4 * s + t p) = 0)
    (hw : ∀ s, S s → sa_suf t ln fe p s → lo ≤ ln s → s ≠ 0 → lo ≤ ln (lk s) + 1)
    (g1 : ∀ s, S s → lk' s = lk s) (g2 : ∀ s, S s → ln' s = ln s) (g3 : ∀ s, S s → fe' s = fe s)
    (g4 : lk' f = q) (g5 : ln' f = p + 1) (g6 : fe' f = p + 1)
    (g7 : ∀ s, S s → sa_suf t ln fe p s → lo ≤ ln s → nx' (4 * s + t p) = f)
    (g8 : ∀ s d, S s → d < 4 → ¬ (d = t p ∧ sa_suf t ln fe p s ∧ lo ≤ ln s) → nx' (4 * s + d) = nx (4 * s + d))
    (g9 : ∀ d, d < 4 → nx' (4 * f + d) = 0) :
    sa_inv t (p + 1) (fun s => S s ∨ s = f) nx' lk' ln' fe' := by
  have hh := h
  obtain ⟨hS0, hl0, hfe, hlk, hE, hR, hP⟩ := hh
  have hf0 : f ≠ 0 := fun z => hf (by rw [z]; exact hS0)
  have W : ∀ s u, S s → (sa_wd t lk' ln' fe' s u ↔ sa_wd t lk ln fe s u) := fun s u hs =>
    sa_wd_c (g2 s hs) (g3 s hs) (fun z => by rw [g1 s hs, g2 (lk s) (hlk s hs z).1])
  have Wf : ∀ u, sa_wd t lk' ln' fe' f u ↔ (u.length ≤ p + 1 ∧ u = sa_rw t u.length (p + 1) ∧ lo < u.length) := by
    intro u
    unfold sa_wd
    rw [g5, g6, g4, g2 q hq, hq1]
    exact ⟨fun ⟨a, b, c⟩ => ⟨a, b, c hf0⟩, fun ⟨a, b, c⟩ => ⟨a, b, fun _ => c⟩⟩
  refine ⟨Or.inl hS0, by rw [g2 0 hS0, hl0], ?_, ?_, ?_, ?_, ?_⟩
  · intro s hs
    rcases hs with hs | hs
    · rw [g2 s hs, g3 s hs]
      have := hfe s hs
      omega
    · rw [hs, g5, g6]
      omega
  · intro s hs z
    rcases hs with hs | hs
    · obtain ⟨k1, k2, k3⟩ := hlk s hs z
      rw [g1 s hs, g2 s hs, g3 s hs, g2 _ k1, g3 _ k1]
      exact ⟨Or.inl k1, k2, k3⟩
    · subst hs
      rw [g4, g5, g6, g2 q hq, g3 q hq, hq1]
      exact ⟨Or.inl hq, by omega, hq2⟩
  · intro s d hs hd hn
    rcases hs with hs | hs
    · by_cases c : d = t p ∧ sa_suf t ln fe p s ∧ lo ≤ ln s
      · obtain ⟨c1, c2, c3⟩ := c
        subst c1
        rw [g7 s hs c2 c3]
        refine ⟨Or.inr rfl, fun u wu => ?_⟩
        rw [W s u hs] at wu
        rw [Wf]
        obtain ⟨u1, u2, u3⟩ := wu
        have hsp := hfe s hs
        refine ⟨?_, ?_, ?_⟩
        · show u.length + 1 ≤ p + 1
          omega
        · show t p :: u = t p :: sa_rw t u.length p
          rw [sa_mono u1 c2, ← u2]
        · show lo < u.length + 1
          by_cases z : s = 0
          · rw [z, hl0] at c3
            omega
          · have := hw s hs c2 c3 z
            have := u3 z
            omega
      · rw [g8 s d hs hd c] at hn ⊢
        obtain ⟨e1, e2⟩ := hE s d hs hd hn
        exact ⟨Or.inl e1, fun u wu => (W _ _ e1).mpr (e2 u ((W s u hs).mp wu))⟩
    · subst hs
      exact absurd (g9 d hd) hn
  · intro s d u hs wu
    rcases hs with hs | hs
    · rw [W s _ hs] at wu
      obtain ⟨hd, r, r1, r2, r3⟩ := hR s d u hs wu
      refine ⟨hd, r, Or.inl r1, (W r u r1).mpr r2, ?_⟩
      rw [g8 r d r1 hd, r3]
      intro ⟨c1, c2, c3⟩
      have hz := h0 r r1 c2 c3
      rw [← c1, r3] at hz
      rw [hz] at wu
      have := wu.1
      rw [hl0] at this
      exact absurd this (by simp)
    · subst hs
      rw [Wf] at wu
      obtain ⟨u1, u2, u3⟩ := wu
      have u4 : d :: u = t p :: sa_rw t u.length p := u2
      injection u4 with e1 e2
      have u1' : u.length + 1 ≤ p + 1 := u1
      have u3' : lo < u.length + 1 := u3
      obtain ⟨r, r1, r2, r3⟩ := sa_suffix h hla hla1 hla2 (by omega : u.length ≤ p)
      rw [← e2] at r2
      have := r2.1
      rw [e1]
      exact ⟨hc, r, Or.inl r1, (W r u r1).mpr r2, g7 r r1 r3 (by omega)⟩
  · intro i hi
    by_cases z : i = p + 1
    · exact ⟨f, Or.inr rfl, by rw [g5, z], by rw [g6, z]⟩
    · obtain ⟨s, s1, s2, s3⟩ := hP i (by omega)
      exact ⟨s, Or.inl s1, by rw [g2 s s1, s2], by rw [g3 s s1, s3]⟩
/-- what leads by c to a state q that also x leads to by c -/
theorem sa_into (h : sa_inv t p S nx lk ln fe) {q x c s d : Nat} (hq0 : q ≠ 0) (hx : S x) (hc : c < 4) (hxq : nx (4 * x + c) = q) (hs : S s) (hd : d < 4) (hsq : nx (4 * s + d) = q) :
    d = c ∧ (∀ l, l ≤ ln s → l ≤ ln x → sa_rw t l (fe s) = sa_rw t l (fe x)) ∧ (∀ u, sa_wd t lk ln fe s u → u.length ≤ ln x → ln s ≤ ln x) := by
  have hh := h
  obtain ⟨_, _, _, _, hE, _, _⟩ := hh
  have ex := (hE x c hx hc (by rw [hxq]; exact hq0)).2 _ (sa_top h hx)
  have es := (hE s d hs hd (by rw [hsq]; exact hq0)).2 _ (sa_top h hs)
  rw [hxq] at ex
  rw [hsq] at es
  obtain ⟨x1, x2⟩ := sa_wd_s ex
  obtain ⟨s1, s2⟩ := sa_wd_s es
  rw [sa_len] at x2 s2
  have key : ∀ l, l ≤ ln s → l ≤ ln x → sa_rw t l (fe s) = sa_rw t l (fe x) := by
    intro l h1 h2
    rw [sa_mono h1 s2, sa_mono h2 x2]
  refine ⟨by rw [s1, x1], key, ?_⟩
  intro u wu hu
  rcases Nat.lt_or_ge (ln x) (ln s) with z | z
  · exfalso
    have w : sa_wd t lk ln fe s (sa_rw t (ln x) (fe x)) := by
      refine ⟨?_, ?_, fun g => ?_⟩
      · rw [sa_len]; omega
      · rw [sa_len]; exact (key (ln x) (by omega) (Nat.le_refl _)).symm
      · rw [sa_len]
        have := wu.2.2 g
        omega
    have := sa_uniq h _ s x hs hx w (sa_top h hx)
    rw [this] at z
    omega
  · exact z
theorem sa_split {q k x c : Nat} (h : sa_inv t p S nx lk ln fe) (hk : ¬ S k) (hq : S q) (hq0 : q ≠ 0) (hx : S x) (hc : c < 4) (hxq : nx (4 * x + c) = q) (hl : ln x + 1 < ln q)
    (g1 : ∀ s, S s → s ≠ q → lk' s = lk s) (g1q : lk' q = k) (g1k : lk' k = lk q)
    (g2 : ∀ s, S s → ln' s = ln s) (g2k : ln' k = ln x + 1) (g3 : ∀ s, S s → fe' s = fe s) (g3k : fe' k = fe q)
    (g4 : ∀ s d, S s → d < 4 → nx (4 * s + d) = q → ln s ≤ ln x → nx' (4 * s + d) = k)
    (g5 : ∀ s d, S s → d < 4 → ¬ (nx (4 * s + d) = q ∧ ln s ≤ ln x) → nx' (4 * s + d) = nx (4 * s + d))
    (g6 : ∀ d, d < 4 → nx' (4 * k + d) = nx (4 * q + d)) :
    sa_inv t p (fun s => S s ∨ s = k) nx' lk' ln' fe' := by
  have hh := h
  obtain ⟨hS0, hl0, hfe, hlk, hE, hR, hP⟩ := hh
  have hk0 : k ≠ 0 := fun z => hk (by rw [z]; exact hS0)
  obtain ⟨q1, q2, q3⟩ := hlk q hq hq0
  have ex := (hE x c hx hc (by rw [hxq]; exact hq0)).2 _ (sa_top h hx)
  rw [hxq] at ex
  have hlq : ln (lk q) < ln x + 1 := by
    have := ex.2.2 hq0
    rw [show (c :: sa_rw t (ln x) (fe x)).length = ln x + 1 by rw [List.length_cons, sa_len]] at this
    exact this
  have W : ∀ s u, S s → s ≠ q → (sa_wd t lk' ln' fe' s u ↔ sa_wd t lk ln fe s u) := fun s u hs hsq =>
    sa_wd_c (g2 s hs) (g3 s hs) (fun z => by rw [g1 s hs hsq, g2 (lk s) (hlk s hs z).1])
  have Wq : ∀ u, sa_wd t lk' ln' fe' q u ↔ (sa_wd t lk ln fe q u ∧ ln x + 1 < u.length) := by
    intro u
    unfold sa_wd
    rw [g2 q hq, g3 q hq, g1q, g2k]
    exact ⟨fun ⟨a, b, c⟩ => ⟨⟨a, b, fun _ => by have := c hq0; omega⟩, c hq0⟩, fun ⟨⟨a, b, _⟩, c⟩ => ⟨a, b, fun _ => c⟩⟩
  have Wk : ∀ u, sa_wd t lk' ln' fe' k u ↔ (sa_wd t lk ln fe q u ∧ u.length ≤ ln x + 1) := by
    intro u
    unfold sa_wd
    rw [g2k, g3k, g1k, g2 _ q1]
    exact ⟨fun ⟨a, b, c⟩ => ⟨⟨by omega, b, fun _ => c hk0⟩, a⟩, fun ⟨⟨_, b, c⟩, a⟩ => ⟨a, b, fun _ => c hq0⟩⟩
  have nq : ∀ d, d < 4 → nx (4 * q + d) ≠ q := by
    intro d hd z
    have := (hE q d hq hd (by rw [z]; exact hq0)).2 _ (sa_top h hq)
    rw [z] at this
    have := this.1
    rw [List.length_cons, sa_len] at this
    omega
  refine ⟨Or.inl hS0, by rw [g2 0 hS0, hl0], ?_, ?_, ?_, ?_, ?_⟩
  · intro s hs
    rcases hs with hs | hs
    · rw [g2 s hs, g3 s hs]
      exact hfe s hs
    · rw [hs, g2k, g3k]
      have := hfe q hq
      omega
  · intro s hs z
    rcases hs with hs | hs
    · by_cases e : s = q
      · subst e
        rw [g1q, g2k, g3k, g2 s hs, g3 s hs]
        exact ⟨Or.inr rfl, hl, rfl⟩
      · obtain ⟨k1, k2, k3⟩ := hlk s hs z
        rw [g1 s hs e, g2 s hs, g3 s hs, g2 _ k1, g3 _ k1]
        exact ⟨Or.inl k1, k2, k3⟩
    · subst hs
      rw [g1k, g2k, g3k, g2 _ q1, g3 _ q1]
      exact ⟨Or.inl q1, hlq, q3⟩
  · intro s d hs hd hn
    rcases hs with hs | hs
    · by_cases c1 : nx (4 * s + d) = q
      · have hsq : s ≠ q := fun z => nq d hd (by rw [z] at c1; exact c1)
        obtain ⟨_, _, i3⟩ := sa_into h hq0 hx hc hxq hs hd c1
        have hE1 := (hE s d hs hd (by rw [c1]; exact hq0)).2
        rw [c1] at hE1
        by_cases c2 : ln s ≤ ln x
        · rw [g4 s d hs hd c1 c2]
          refine ⟨Or.inr rfl, fun u wu => ?_⟩
          rw [W s u hs hsq] at wu
          rw [Wk]
          refine ⟨hE1 u wu, ?_⟩
          have := wu.1
          show u.length + 1 ≤ ln x + 1
          omega
        · rw [g5 s d hs hd (fun z => c2 z.2), c1]
          refine ⟨Or.inl hq, fun u wu => ?_⟩
          rw [W s u hs hsq] at wu
          rw [Wq]
          refine ⟨hE1 u wu, ?_⟩
          show ln x + 1 < u.length + 1
          rcases Nat.lt_or_ge (ln x) u.length with z | z
          · omega
          · exact absurd (i3 u wu z) c2
      · have hn' : nx (4 * s + d) ≠ 0 := by
          rw [g5 s d hs hd (fun z => c1 z.1)] at hn
          exact hn
        rw [g5 s d hs hd (fun z => c1 z.1)]
        obtain ⟨e1, e2⟩ := hE s d hs hd hn'
        refine ⟨Or.inl e1, fun u wu => (W _ _ e1 c1).mpr (e2 u ?_)⟩
        by_cases e : s = q
        · subst e
          exact ((Wq u).mp wu).1
        · exact (W s u hs e).mp wu
    · subst hs
      rw [g6 d hd] at hn ⊢
      obtain ⟨e1, e2⟩ := hE q d hq hd hn
      exact ⟨Or.inl e1, fun u wu => (W _ _ e1 (nq d hd)).mpr (e2 u ((Wk u).mp wu).1)⟩
  · intro s d u hs wu
    have fromq : sa_wd t lk ln fe q (d :: u) → d < 4 ∧ ∃ r, S r ∧ r ≠ q ∧ sa_wd t lk ln fe r u ∧ nx (4 * r + d) = q := by
      intro w
      obtain ⟨hd, r, r1, r2, r3⟩ := hR q d u hq w
      exact ⟨hd, r, r1, fun z => nq d hd (by rw [z] at r3; exact r3), r2, r3⟩
    rcases hs with hs | hs
    · by_cases e : s = q
      · subst e
        obtain ⟨w1, w2⟩ := (Wq _).mp wu
        obtain ⟨hd, r, r1, rq, r2, r3⟩ := fromq w1
        refine ⟨hd, r, Or.inl r1, (W r u r1 rq).mpr r2, ?_⟩
        have w2' : ln x + 1 < u.length + 1 := w2
        have := r2.1
        rw [g5 r d r1 hd (fun z => by have := z.2; omega), r3]
      · rw [W s _ hs e] at wu
        obtain ⟨hd, r, r1, r2, r3⟩ := hR s d u hs wu
        refine ⟨hd, ?_⟩
        by_cases er : r = q
        · subst er
          by_cases g : u.length ≤ ln x + 1
          · exact ⟨k, Or.inr rfl, (Wk u).mpr ⟨r2, g⟩, by rw [g6 d hd, r3]⟩
          · exact ⟨r, Or.inl r1, (Wq u).mpr ⟨r2, by omega⟩, by rw [g5 r d r1 hd (fun z => nq d hd z.1), r3]⟩
        · exact ⟨r, Or.inl r1, (W r u r1 er).mpr r2, by rw [g5 r d r1 hd (fun z => e (by rw [← r3]; exact z.1)), r3]⟩
    · subst hs
      obtain ⟨w1, w2⟩ := (Wk _).mp wu
      obtain ⟨hd, r, r1, rq, r2, r3⟩ := fromq w1
      have w2' : u.length + 1 ≤ ln x + 1 := w2
      exact ⟨hd, r, Or.inl r1, (W r u r1 rq).mpr r2, g4 r d r1 hd r3 ((sa_into h hq0 hx hc hxq r1 hd r3).2.2 u r2 (by omega))⟩
  · intro i hi
    obtain ⟨s, s1, s2, s3⟩ := hP i hi
    exact ⟨s, Or.inl s1, by rw [g2 s s1, s2], by rw [g3 s s1, s3]⟩
/-- the states by whose letter c one comes to q, as x does, end the text as x does, if they are no longer -/
theorem sa_into_suf (h : sa_inv t p S nx lk ln fe) {q x c s : Nat} (hq0 : q ≠ 0) (hx : S x) (gx : sa_suf t ln fe p x) (hc : c < 4) (hxq : nx (4 * x + c) = q) (hs : S s) (hsq : nx (4 * s + c) = q) (hl : ln s ≤ ln x) : sa_suf t ln fe p s := by
  obtain ⟨_, i2, _⟩ := sa_into h hq0 hx hc hxq hs hc hsq
  show sa_rw t (ln s) p = sa_rw t (ln s) (fe s)
  rw [i2 (ln s) (Nat.le_refl _) hl]
  exact sa_mono hl gx
/-- and they lie together -/
theorem sa_into_mid (h : sa_inv t p S nx lk ln fe) {q x c s y : Nat} (hq0 : q ≠ 0) (hx : S x) (gx : sa_suf t ln fe p x) (hc : c < 4) (hxq : nx (4 * x + c) = q) (hs : S s) (hsq : nx (4 * s + c) = q)
    (hy : S y) (gy : sa_suf t ln fe p y) (h1 : ln s ≤ ln y) (h2 : ln y ≤ ln x) : nx (4 * y + c) = q := by
  have hh := h
  obtain ⟨_, _, _, _, hE, hR, _⟩ := hh
  have ex := (hE x c hx hc (by rw [hxq]; exact hq0)).2 _ (sa_top h hx)
  have es := (hE s c hs hc (by rw [hsq]; exact hq0)).2 _ (sa_top h hs)
  have hSq := (hE x c hx hc (by rw [hxq]; exact hq0)).1
  rw [hxq] at ex hSq
  rw [hsq] at es
  obtain ⟨x1, x2⟩ := sa_wd_s ex
  rw [sa_len] at x2
  have w : sa_wd t lk ln fe q (c :: sa_rw t (ln y) p) := by
    have ex1 := ex.1
    have es3 := es.2.2 hq0
    rw [List.length_cons, sa_len] at ex1 es3
    refine ⟨?_, ?_, fun _ => ?_⟩
    · rw [List.length_cons, sa_len]; omega
    · rw [List.length_cons, sa_len]
      show c :: sa_rw t (ln y) p = t (fe q - 1) :: sa_rw t (ln y) (fe q - 1)
      rw [← x1, sa_mono h2 (show sa_rw t (ln x) p = sa_rw t (ln x) (fe x) from gx), sa_mono h2 x2]
    · rw [List.length_cons, sa_len]; omega
  obtain ⟨_, r, r1, r2, r3⟩ := hR q c _ hSq w
  have := sa_uniq h _ r y r1 hy r2 (sa_suf_top h hy gy)
  rw [← this]
  exact r3
end
end
section
/-! the words that lead on from a state, in their order -/
def en_ok (nx : Nat → Nat) : Nat → List Nat → Prop
  | _, [] => True
  | s, d :: v => d < 4 ∧ nx (4 * s + d) ≠ 0 ∧ en_ok nx (nx (4 * s + d)) v
def en_go (nx : Nat → Nat) : Nat → List Nat → Nat
  | s, [] => s
  | s, d :: v => en_go nx (nx (4 * s + d)) v
/-- the words that begin with d -/
def en_bl (nx : Nat → Nat) (E : Nat → List (List Nat)) (s d : Nat) : List (List Nat) :=
  if nx (4 * s + d) = 0 then [] else [d] :: (E (nx (4 * s + d))).map (fun v => d :: v)
/-- the words that begin with one of the last j letters -/
def en_tl (nx : Nat → Nat) (E : Nat → List (List Nat)) (s : Nat) : Nat → List (List Nat)
  | 0 => []
  | j + 1 => en_bl nx E s (3 - j) ++ en_tl nx E s j
def en_E (nx : Nat → Nat) : Nat → Nat → List (List Nat)
  | 0, _ => []
  | k + 1, s => en_tl nx (en_E nx k) s 4
/-- how many words begin with a letter below d -/
def en_sk (nx : Nat → Nat) (E : Nat → List (List Nat)) (s : Nat) : Nat → Nat
  | 0 => 0
  | d + 1 => en_sk nx E s d + (en_bl nx E s d).length
def en_ord : List Nat → List Nat → Int32
  | [], [] => 0
  | [], _ :: _ => -1
  | _ :: _, [] => 1
  | a :: u, b :: v => if a = b then en_ord u v else if a < b then -1 else 1
theorem en_ord_refl : ∀ u : List Nat, en_ord u u = 0
  | [] => rfl
  | a :: u => by
    show (if a = a then en_ord u u else _) = 0
    rw [if_pos rfl]
    exact en_ord_refl u
theorem en_ord_0 : ∀ u v : List Nat, en_ord u v = 0 → u = v
  | [], [], _ => rfl
  | [], _ :: _, h => absurd h (by show ¬ ((-1 : Int32) = 0); decide)
  | _ :: _, [], h => absurd h (by show ¬ ((1 : Int32) = 0); decide)
  | a :: u, b :: v, h => by
    have h' : (if a = b then en_ord u v else if a < b then (-1 : Int32) else 1) = 0 := h
    by_cases e : a = b
    · rw [if_pos e] at h'
      rw [e, en_ord_0 u v h']
    · rw [if_neg e] at h'
      by_cases g : a < b
      · rw [if_pos g] at h'
        exact absurd h' (by decide)
      · rw [if_neg g] at h'
        exact absurd h' (by decide)
section
variable {nx : Nat → Nat} {E : Nat → List (List Nat)} {s : Nat}
theorem en_bl_0 {d : Nat} (h : nx (4 * s + d) = 0) : en_bl nx E s d = [] := by
  unfold en_bl
  rw [if_pos h]
theorem en_bl_1 {d : Nat} (h : nx (4 * s + d) ≠ 0) : en_bl nx E s d = [d] :: (E (nx (4 * s + d))).map (fun v => d :: v) := by
  unfold en_bl
  rw [if_neg h]
theorem en_bl_len {d : Nat} (h : nx (4 * s + d) ≠ 0) : (en_bl nx E s d).length = 1 + (E (nx (4 * s + d))).length := by
  rw [en_bl_1 h, List.length_cons, List.length_map]
  omega
theorem en_bl_len0 {d : Nat} (h : nx (4 * s + d) = 0) : (en_bl nx E s d).length = 0 := by
  rw [en_bl_0 h]
  rfl
theorem en_tl_len : (en_tl nx E s 4).length = en_sk nx E s 4 := by
  show (en_bl nx E s 0 ++ (en_bl nx E s 1 ++ (en_bl nx E s 2 ++ (en_bl nx E s 3 ++ [])))).length = 0 + (en_bl nx E s 0).length + (en_bl nx E s 1).length + (en_bl nx E s 2).length + (en_bl nx E s 3).length
  rw [List.length_append, List.length_append, List.length_append, List.length_append, List.length_nil]
  omega
theorem en_sk_mono {d : Nat} : ∀ {d' : Nat}, d ≤ d' → en_sk nx E s d ≤ en_sk nx E s d'
  | 0, h => by
    have : d = 0 := by omega
    rw [this]
    exact Nat.le_refl _
  | d' + 1, h => by
    by_cases e : d = d' + 1
    · rw [e]
      exact Nat.le_refl _
    · have := en_sk_mono (d' := d') (by omega : d ≤ d')
      show en_sk nx E s d ≤ en_sk nx E s d' + _
      omega
theorem en_bl_get {d r : Nat} {w : List Nat} (h : (en_bl nx E s d)[r]? = some w) : nx (4 * s + d) ≠ 0 ∧ ∃ v, w = d :: v ∧ ((v = [] ∧ r = 0) ∨ ∃ r', r = 1 + r' ∧ (E (nx (4 * s + d)))[r']? = some v) := by
  by_cases z : nx (4 * s + d) = 0
  · rw [en_bl_0 z] at h
    exact absurd h (by simp)
  · refine ⟨z, ?_⟩
    rw [en_bl_1 z] at h
    cases r with
    | zero =>
      rw [List.getElem?_cons_zero] at h
      injection h with h
      exact ⟨[], h.symm, Or.inl ⟨rfl, rfl⟩⟩
    | succ r =>
      rw [List.getElem?_cons_succ, List.getElem?_map] at h
      cases g : (E (nx (4 * s + d)))[r]? with
      | none =>
        rw [g] at h
        exact absurd h (by simp)
      | some v =>
        rw [g] at h
        have h' : some (d :: v) = some w := h
        injection h' with h'
        exact ⟨v, h'.symm, Or.inr ⟨r, by omega, g⟩⟩
/-- the word with number r among those of the last j letters -/
theorem en_tl_get : ∀ (j r : Nat) (w : List Nat), j ≤ 4 → (en_tl nx E s j)[r]? = some w →
    ∃ d v, w = d :: v ∧ 4 - j ≤ d ∧ d < 4 ∧ nx (4 * s + d) ≠ 0 ∧ ((v = [] ∧ r + en_sk nx E s (4 - j) = en_sk nx E s d) ∨ ∃ r', r + en_sk nx E s (4 - j) = en_sk nx E s d + 1 + r' ∧ (E (nx (4 * s + d)))[r']? = some v)
  | 0, r, w, _, h => by
    have h' : ([] : List (List Nat))[r]? = some w := h
    exact absurd h' (by simp)
  | j + 1, r, w, hj, h => by
    have h' : (en_bl nx E s (3 - j) ++ en_tl nx E s j)[r]? = some w := h
    have e3 : 4 - (j + 1) = 3 - j := by omega
    rw [e3]
    rcases Nat.lt_or_ge r (en_bl nx E s (3 - j)).length with z | z
    · rw [List.getElem?_append_left z] at h'
      obtain ⟨h1, v, h2, h3⟩ := en_bl_get h'
      refine ⟨3 - j, v, h2, Nat.le_refl _, by omega, h1, ?_⟩
      rcases h3 with ⟨a, b⟩ | ⟨r', a, b⟩
      · exact Or.inl ⟨a, by omega⟩
      · exact Or.inr ⟨r', by omega, b⟩
    · rw [List.getElem?_append_right z] at h'
      have e4 : en_sk nx E s (4 - j) = en_sk nx E s (3 - j) + (en_bl nx E s (3 - j)).length := by
        have e5 : 4 - j = (3 - j) + 1 := by omega
        rw [e5]
        rfl
      obtain ⟨d, v, h1, h2, h3, h4, h5⟩ := en_tl_get j _ w (by omega) h'
      refine ⟨d, v, h1, by omega, h3, h4, ?_⟩
      rcases h5 with ⟨a, b⟩ | ⟨r', a, b⟩
      · exact Or.inl ⟨a, by omega⟩
      · exact Or.inr ⟨r', by omega, b⟩
theorem en_bl_mem {d : Nat} {w : List Nat} : w ∈ en_bl nx E s d ↔ nx (4 * s + d) ≠ 0 ∧ ∃ v, w = d :: v ∧ (v = [] ∨ v ∈ E (nx (4 * s + d))) := by
  by_cases z : nx (4 * s + d) = 0
  · rw [en_bl_0 z]
    exact ⟨fun h => absurd h (by simp), fun h => absurd z h.1⟩
  · rw [en_bl_1 z, List.mem_cons, List.mem_map]
    constructor
    · rintro (h | ⟨v, h1, h2⟩)
      · exact ⟨z, [], h, Or.inl rfl⟩
      · exact ⟨z, v, h2.symm, Or.inr h1⟩
    · rintro ⟨_, v, h1, h2⟩
      rcases h2 with h2 | h2
      · left
        rw [h1, h2]
      · right
        exact ⟨v, h2, h1.symm⟩
theorem en_tl_mem {w : List Nat} : ∀ (j : Nat), j ≤ 4 → (w ∈ en_tl nx E s j ↔ ∃ d, 4 - j ≤ d ∧ d < 4 ∧ w ∈ en_bl nx E s d)
  | 0, _ => ⟨fun h => absurd (show w ∈ [] from h) (by simp), fun ⟨d, h1, h2, _⟩ => absurd h1 (by omega)⟩
  | j + 1, hj => by
    show w ∈ en_bl nx E s (3 - j) ++ en_tl nx E s j ↔ _
    rw [List.mem_append, en_tl_mem j (by omega)]
    constructor
    · rintro (h | ⟨d, h1, h2, h3⟩)
      · exact ⟨3 - j, by omega, by omega, h⟩
      · exact ⟨d, by omega, h2, h3⟩
    · rintro ⟨d, h1, h2, h3⟩
      by_cases e : d = 3 - j
      · left
        rw [← e]
        exact h3
      · right
        exact ⟨d, by omega, h2, h3⟩
end
theorem en_E_mem {nx : Nat → Nat} : ∀ (k s : Nat) (w : List Nat), w ∈ en_E nx k s ↔ w ≠ [] ∧ w.length ≤ k ∧ en_ok nx s w
  | 0, s, w => by
    constructor
    · intro h
      exact absurd (show w ∈ [] from h) (by simp)
    · intro ⟨h1, h2, _⟩
      exact absurd (List.length_eq_zero_iff.mp (by omega : w.length = 0)) h1
  | k + 1, s, w => by
    show w ∈ en_tl nx (en_E nx k) s 4 ↔ _
    rw [en_tl_mem 4 (by omega)]
    constructor
    · rintro ⟨d, _, hd, h⟩
      rw [en_bl_mem] at h
      obtain ⟨h1, v, h2, h3⟩ := h
      subst h2
      refine ⟨List.cons_ne_nil _ _, ?_, hd, h1, ?_⟩
      · rcases h3 with h3 | h3
        · rw [h3]
          show 0 + 1 ≤ k + 1
          omega
        · have := ((en_E_mem k _ v).mp h3).2.1
          rw [List.length_cons]
          omega
      · rcases h3 with h3 | h3
        · rw [h3]
          trivial
        · exact ((en_E_mem k _ v).mp h3).2.2
    · rintro ⟨h1, h2, h3⟩
      cases w with
      | nil => exact absurd rfl h1
      | cons d v =>
        obtain ⟨hd, hn, hv⟩ := h3
        refine ⟨d, by omega, hd, ?_⟩
        rw [en_bl_mem]
        refine ⟨hn, v, rfl, ?_⟩
        by_cases e : v = []
        · exact Or.inl e
        · refine Or.inr ((en_E_mem k _ v).mpr ⟨e, ?_, hv⟩)
          rw [List.length_cons] at h2
          omega
theorem en_ord_c (d : Nat) (u v : List Nat) : en_ord (d :: u) (d :: v) = en_ord u v := by
  show (if d = d then en_ord u v else _) = _
  rw [if_pos rfl]
theorem en_ord_lt {d d' : Nat} (h : d < d') (u v : List Nat) : en_ord (d :: u) (d' :: v) = -1 := by
  show (if d = d' then en_ord u v else if d < d' then (-1 : Int32) else 1) = -1
  rw [if_neg (by omega), if_pos h]
theorem en_bl_sort {nx : Nat → Nat} {E : Nat → List (List Nat)} {s d : Nat} (h1 : ∀ r, ([] : List Nat) ∉ E r) (h2 : ∀ r, (E r).Pairwise (fun u v => en_ord u v = -1)) : (en_bl nx E s d).Pairwise (fun u v => en_ord u v = -1) := by
  by_cases z : nx (4 * s + d) = 0
  · rw [en_bl_0 z]
    exact List.Pairwise.nil
  · rw [en_bl_1 z, List.pairwise_cons]
    refine ⟨?_, ?_⟩
    · intro w hw
      rw [List.mem_map] at hw
      obtain ⟨v, hv, e⟩ := hw
      subst e
      rw [en_ord_c]
      cases v with
      | nil => exact absurd hv (h1 _)
      | cons a v => rfl
    · rw [List.pairwise_map]
      exact (h2 _).imp (fun {a b} hab => by rw [en_ord_c]; exact hab)
theorem en_tl_sort {nx : Nat → Nat} {E : Nat → List (List Nat)} {s : Nat} (h1 : ∀ r, ([] : List Nat) ∉ E r) (h2 : ∀ r, (E r).Pairwise (fun u v => en_ord u v = -1)) : ∀ j, j ≤ 4 → (en_tl nx E s j).Pairwise (fun u v => en_ord u v = -1)
  | 0, _ => List.Pairwise.nil
  | j + 1, hj => by
    show (en_bl nx E s (3 - j) ++ en_tl nx E s j).Pairwise _
    rw [List.pairwise_append]
    refine ⟨en_bl_sort h1 h2, en_tl_sort h1 h2 j (by omega), ?_⟩
    intro u hu v hv
    rw [en_bl_mem] at hu
    rw [en_tl_mem j (by omega)] at hv
    obtain ⟨_, u', eu, _⟩ := hu
    obtain ⟨d, hd, _, hv⟩ := hv
    rw [en_bl_mem] at hv
    obtain ⟨_, v', ev, _⟩ := hv
    rw [eu, ev]
    exact en_ord_lt (by omega) _ _
theorem en_E_sort {nx : Nat → Nat} : ∀ k s, (en_E nx k s).Pairwise (fun u v => en_ord u v = -1)
  | 0, _ => List.Pairwise.nil
  | k + 1, s => en_tl_sort (fun r h => ((en_E_mem k r []).mp h).1 rfl) (fun r => en_E_sort k r) 4 (by omega)
theorem en_E_nodup {nx : Nat → Nat} (k s : Nat) : (en_E nx k s).Nodup :=
  (en_E_sort k s).imp (fun {a b} h e => by
    rw [e, en_ord_refl] at h
    exact absurd h (by decide))
/-- forward words -/
def en_fw (t : Nat → Nat) : Nat → Nat → List Nat
  | 0, _ => []
  | n + 1, a => t a :: en_fw t n (a + 1)
theorem en_fw_len (t : Nat → Nat) : ∀ n a, (en_fw t n a).length = n
  | 0, _ => rfl
  | n + 1, a => by
    show (en_fw t n (a + 1)).length + 1 = n + 1
    rw [en_fw_len t n (a + 1)]
theorem en_fw_snoc (t : Nat → Nat) : ∀ n a, en_fw t (n + 1) a = en_fw t n a ++ [t (a + n)]
  | 0, _ => rfl
  | n + 1, a => by
    show t a :: en_fw t (n + 1) (a + 1) = t a :: (en_fw t n (a + 1) ++ [t (a + (n + 1))])
    rw [en_fw_snoc t n (a + 1), show a + 1 + n = a + (n + 1) by omega]
theorem en_fw_rev (t : Nat → Nat) : ∀ n a, (sa_rw t n (a + n)).reverse = en_fw t n a
  | 0, _ => rfl
  | n + 1, a => by
    rw [en_fw_snoc]
    show (t (a + n) :: sa_rw t n (a + n)).reverse = _
    rw [List.reverse_cons, en_fw_rev t n a]
theorem en_fw_get (t : Nat → Nat) : ∀ n a j, j < n → (en_fw t n a)[j]? = some (t (a + j))
  | 0, _, _, h => absurd h (by omega)
  | n + 1, a, 0, _ => rfl
  | n + 1, a, j + 1, h => by
    show (en_fw t n (a + 1))[j]? = _
    rw [en_fw_get t n (a + 1) j (by omega), show a + 1 + j = a + (j + 1) by omega]
theorem en_ok_app {nx : Nat → Nat} : ∀ (u v : List Nat) (s : Nat), en_ok nx s (u ++ v) ↔ en_ok nx s u ∧ en_ok nx (en_go nx s u) v
  | [], v, s => ⟨fun h => ⟨trivial, h⟩, fun h => h.2⟩
  | d :: u, v, s => by
    show (d < 4 ∧ nx (4 * s + d) ≠ 0 ∧ en_ok nx (nx (4 * s + d)) (u ++ v)) ↔ (d < 4 ∧ nx (4 * s + d) ≠ 0 ∧ en_ok nx (nx (4 * s + d)) u) ∧ en_ok nx (en_go nx (nx (4 * s + d)) u) v
    rw [en_ok_app u v]
    exact ⟨fun ⟨a, b, c, d⟩ => ⟨⟨a, b, c⟩, d⟩, fun ⟨⟨a, b, c⟩, d⟩ => ⟨a, b, c, d⟩⟩
theorem en_go_app {nx : Nat → Nat} : ∀ (u v : List Nat) (s : Nat), en_go nx s (u ++ v) = en_go nx (en_go nx s u) v
  | [], _, _ => rfl
  | d :: u, v, s => en_go_app u v (nx (4 * s + d))
end
section
/-! the words that lead on from a state are the text's; how many they are -/
theorem sa_app {t : Nat → Nat} : ∀ (u1 u2 : List Nat) (e : Nat), u1 ++ u2 = sa_rw t (u1 ++ u2).length e → u1 = sa_rw t u1.length e
  | [], _, _, _ => rfl
  | d :: u1, u2, e, h => by
    have h' : d :: (u1 ++ u2) = t (e - 1) :: sa_rw t (u1 ++ u2).length (e - 1) := h
    injection h' with h1 h2
    show d :: u1 = t (e - 1) :: sa_rw t u1.length (e - 1)
    rw [h1, ← sa_app u1 u2 (e - 1) h2]
theorem en_tl_c {nx : Nat → Nat} {E E' : Nat → List (List Nat)} {s : Nat} (h : ∀ d, d < 4 → en_bl nx E s d = en_bl nx E' s d) : ∀ j, j ≤ 4 → en_tl nx E s j = en_tl nx E' s j
  | 0, _ => rfl
  | j + 1, hj => by
    show en_bl nx E s (3 - j) ++ en_tl nx E s j = en_bl nx E' s (3 - j) ++ en_tl nx E' s j
    rw [h (3 - j) (by omega), en_tl_c h j (by omega)]
def en_N (nx : Nat → Nat) (s : Nat) : Nat := (en_E nx 24 s).length
/-- the word of number i (place i / 24, i % 24 + 1 letters) has no earlier place -/
def en_fr (t : Nat → Nat) (len i : Nat) : Bool :=
  decide (i / 24 + (i % 24 + 1) ≤ len ∧ ∀ q, q < i / 24 → en_fw t (i % 24 + 1) q ≠ en_fw t (i % 24 + 1) (i / 24))
theorem en_fr_iff {t : Nat → Nat} {len i : Nat} : en_fr t len i = true ↔ (i / 24 + (i % 24 + 1) ≤ len ∧ ∀ q, q < i / 24 → en_fw t (i % 24 + 1) q ≠ en_fw t (i % 24 + 1) (i / 24)) := by
  unfold en_fr
  exact decide_eq_true_iff
section
variable {t : Nat → Nat} {p : Nat} {S : Nat → Prop} {nx lk ln fe : Nat → Nat}
theorem en_sound (h : sa_inv t p S nx lk ln fe) : ∀ (v : List Nat) (s : Nat) (u : List Nat), S s → sa_wd t lk ln fe s u → en_ok nx s v → S (en_go nx s v) ∧ sa_wd t lk ln fe (en_go nx s v) (v.reverse ++ u) := by
  obtain ⟨_, _, _, _, hE, _, _⟩ := h
  intro v
  induction v with
  | nil => exact fun s u hs hu _ => ⟨hs, hu⟩
  | cons d v ih =>
    intro s u hs hu ⟨hd, hn, hv⟩
    obtain ⟨e1, e2⟩ := hE s d hs hd hn
    have := ih _ (d :: u) e1 (e2 u hu) hv
    rw [List.reverse_cons, List.append_assoc]
    exact this
theorem en_comp (h : sa_inv t p S nx lk ln fe) : ∀ (u : List Nat) (s : Nat), S s → sa_wd t lk ln fe s u → en_ok nx 0 u.reverse ∧ en_go nx 0 u.reverse = s := by
  obtain ⟨_, hl0, _, _, _, hR, _⟩ := h
  intro u
  induction u with
  | nil =>
    intro s hs w
    have z : s = 0 := Classical.byContradiction (fun g => absurd (w.2.2 g) (Nat.not_lt_zero _))
    exact ⟨trivial, z.symm⟩
  | cons d u ih =>
    intro s hs w
    obtain ⟨hd, r, r1, r2, r3⟩ := hR s d u hs w
    obtain ⟨i1, i2⟩ := ih r r1 r2
    rw [List.reverse_cons, en_ok_app, en_go_app, i2]
    refine ⟨⟨i1, hd, ?_, trivial⟩, r3⟩
    rw [r3]
    intro z
    have := w.1
    rw [z, hl0, List.length_cons] at this
    omega
theorem en_edge (h : sa_inv t p S nx lk ln fe) {s d : Nat} (hs : S s) (hd : d < 4) (hn : nx (4 * s + d) ≠ 0) : S (nx (4 * s + d)) ∧ ln s + 1 ≤ ln (nx (4 * s + d)) ∧ fe (nx (4 * s + d)) ≤ p ∧ ln (nx (4 * s + d)) ≤ fe (nx (4 * s + d)) := by
  have hh := h
  obtain ⟨_, _, hfe, _, hE, _, _⟩ := hh
  obtain ⟨e1, e2⟩ := hE s d hs hd hn
  have := (e2 _ (sa_top h hs)).1
  rw [List.length_cons, sa_len] at this
  exact ⟨e1, this, (hfe _ e1).2, (hfe _ e1).1⟩
theorem en_factor (h : sa_inv t p S nx lk ln fe) {s : Nat} (hs : S s) {v : List Nat} (hv : en_ok nx s v) :
    S (en_go nx s v) ∧ v.length + ln s ≤ ln (en_go nx s v) ∧ ln (en_go nx s v) ≤ fe (en_go nx s v) ∧ fe (en_go nx s v) ≤ p ∧ v = en_fw t v.length (fe (en_go nx s v) - v.length) := by
  obtain ⟨h1, h2⟩ := en_sound h v s _ hs (sa_top h hs) hv
  have hh := h
  obtain ⟨_, _, hfe, _, _, _, _⟩ := hh
  obtain ⟨f1, f2⟩ := hfe _ h1
  have l1 := h2.1
  rw [List.length_append, List.length_reverse, sa_len] at l1
  refine ⟨h1, l1, f1, f2, ?_⟩
  have e := sa_app v.reverse _ _ h2.2.1
  rw [List.length_reverse] at e
  have e2 := en_fw_rev t v.length (fe (en_go nx s v) - v.length)
  rw [show fe (en_go nx s v) - v.length + v.length = fe (en_go nx s v) by omega, ← e, List.reverse_reverse] at e2
  exact e2
theorem en_has (h : sa_inv t p S nx lk ln fe) {a n : Nat} (ha : a + n ≤ p) : en_ok nx 0 (en_fw t n a) := by
  have hh := h
  obtain ⟨_, _, _, _, _, _, hP⟩ := hh
  obtain ⟨s, s1, s2, s3⟩ := hP (a + n) ha
  obtain ⟨r, r1, r2, _, _⟩ := sa_find h (ln s) s n (Nat.le_refl _) s1 (by omega)
  have := (en_comp h _ r r1 r2).1
  rw [s3, en_fw_rev] at this
  exact this
theorem en_stable (h : sa_inv t p S nx lk ln fe) : ∀ k s, S s → p ≤ k + ln s → en_E nx (k + 1) s = en_E nx k s := by
  intro k
  induction k with
  | zero =>
    intro s hs hp
    show en_tl nx (en_E nx 0) s 4 = []
    have z : ∀ d, d < 4 → en_bl nx (en_E nx 0) s d = [] := fun d hd => by
      refine en_bl_0 (Classical.byContradiction (fun g => ?_))
      have := en_edge h hs hd g
      omega
    show en_bl nx (en_E nx 0) s 0 ++ (en_bl nx (en_E nx 0) s 1 ++ (en_bl nx (en_E nx 0) s 2 ++ (en_bl nx (en_E nx 0) s 3 ++ []))) = []
    rw [z 0 (by omega), z 1 (by omega), z 2 (by omega), z 3 (by omega)]
    rfl
  | succ k ih =>
    intro s hs hp
    show en_tl nx (en_E nx (k + 1)) s 4 = en_tl nx (en_E nx k) s 4
    refine en_tl_c (fun d hd => ?_) 4 (by omega)
    by_cases z : nx (4 * s + d) = 0
    · rw [en_bl_0 z, en_bl_0 z]
    · obtain ⟨e1, e2, _⟩ := en_edge h hs hd z
      rw [en_bl_1 z, en_bl_1 z, ih _ e1 (by omega)]
theorem en_unf (h : sa_inv t p S nx lk ln fe) (hp : p ≤ 24) {s : Nat} (hs : S s) : en_E nx 24 s = en_tl nx (en_E nx 24) s 4 :=
  (en_stable h 24 s hs (by omega)).symm
theorem en_N_sk (h : sa_inv t p S nx lk ln fe) (hp : p ≤ 24) {s : Nat} (hs : S s) : en_N nx s = en_sk nx (en_E nx 24) s 4 := by
  unfold en_N
  rw [en_unf h hp hs, en_tl_len]
theorem en_get (h : sa_inv t p S nx lk ln fe) (hp : p ≤ 24) {s r : Nat} {w : List Nat} (hs : S s) (hw : (en_E nx 24 s)[r]? = some w) :
    ∃ d v, w = d :: v ∧ d < 4 ∧ nx (4 * s + d) ≠ 0 ∧ ((v = [] ∧ r = en_sk nx (en_E nx 24) s d) ∨ ∃ r', r = en_sk nx (en_E nx 24) s d + 1 + r' ∧ (en_E nx 24 (nx (4 * s + d)))[r']? = some v) := by
  rw [en_unf h hp hs] at hw
  obtain ⟨d, v, h1, _, h3, h4, h5⟩ := en_tl_get 4 r w (by omega) hw
  exact ⟨d, v, h1, h3, h4, h5⟩
theorem en_N_le (h : sa_inv t p S nx lk ln fe) (hp : p ≤ 24) {s : Nat} (hs : S s) : en_N nx s ≤ 576 := by
  have := List.Nodup.length_le_of_subset (l₁ := en_E nx 24 s) (l₂ := (List.range 576).map (fun i => en_fw t (i % 24 + 1) (i / 24))) (en_E_nodup 24 s) (by
    intro w hw
    obtain ⟨w1, w2, w3⟩ := (en_E_mem 24 s w).mp hw
    obtain ⟨f1, f2, f3, f4, f5⟩ := en_factor h hs w3
    have w4 : w.length ≠ 0 := fun z => w1 (List.length_eq_zero_iff.mp z)
    rw [List.mem_map]
    refine ⟨24 * (fe (en_go nx s w) - w.length) + (w.length - 1), ?_, ?_⟩
    · rw [List.mem_range]
      omega
    · rw [show (24 * (fe (en_go nx s w) - w.length) + (w.length - 1)) % 24 + 1 = w.length by omega, show (24 * (fe (en_go nx s w) - w.length) + (w.length - 1)) / 24 = fe (en_go nx s w) - w.length by omega]
      exact f5.symm)
  rw [List.length_map, List.length_range] at this
  exact this
theorem en_diff (h : sa_inv t p S nx lk ln fe) (hp : p ≤ 24) : ((List.range 576).filter (en_fr t p)).length = en_N nx 0 := by
  have hS0 := h.1
  have e : ((List.range 576).filter (en_fr t p)).length = (((List.range 576).filter (en_fr t p)).map (fun i => en_fw t (i % 24 + 1) (i / 24))).length := by
    rw [List.length_map]
  rw [e]
  refine Nat.le_antisymm ?_ ?_
  · refine List.Nodup.length_le_of_subset ?_ ?_
    · show List.Pairwise (fun a b => a ≠ b) _
      rw [List.pairwise_map]
      have hp1 : ((List.range 576).filter (en_fr t p)).Pairwise (fun i j => i < j) := List.Pairwise.filter _ List.pairwise_lt_range
      refine List.Pairwise.imp_of_mem ?_ hp1
      intro i j hi hj hij z
      rw [List.mem_filter] at hi hj
      obtain ⟨i1, i2⟩ := en_fr_iff.mp hi.2
      obtain ⟨j1, j2⟩ := en_fr_iff.mp hj.2
      have zl : i % 24 + 1 = j % 24 + 1 := by
        have := congrArg List.length z
        rw [en_fw_len, en_fw_len] at this
        exact this
      rcases Nat.lt_trichotomy (i / 24) (j / 24) with g | g | g
      · exact j2 _ g (by rw [zl] at z; exact z)
      · omega
      · exact i2 _ g (by rw [← zl] at z; exact z.symm)
    · intro w hw
      rw [List.mem_map] at hw
      obtain ⟨i, hi, e⟩ := hw
      rw [List.mem_filter] at hi
      obtain ⟨i1, i2⟩ := en_fr_iff.mp hi.2
      subst e
      refine (en_E_mem 24 0 _).mpr ⟨List.cons_ne_nil _ _, ?_, en_has h i1⟩
      rw [en_fw_len]
      omega
  · refine List.Nodup.length_le_of_subset (en_E_nodup 24 0) ?_
    intro w hw
    obtain ⟨w1, w2, w3⟩ := (en_E_mem 24 0 w).mp hw
    obtain ⟨f1, f2, f3, f4, f5⟩ := en_factor h hS0 w3
    have w4 : w.length ≠ 0 := fun z => w1 (List.length_eq_zero_iff.mp z)
    obtain ⟨a, a1, a2⟩ := pk_least (fun a => w = en_fw t w.length a) ⟨_, f5⟩
    have a3 : a ≤ fe (en_go nx 0 w) - w.length := by
      rcases Nat.lt_or_ge (fe (en_go nx 0 w) - w.length) a with g | g
      · exact absurd f5 (a2 _ g)
      · exact g
    rw [List.mem_map]
    have m1 : (24 * a + (w.length - 1)) % 24 + 1 = w.length := by omega
    have m2 : (24 * a + (w.length - 1)) / 24 = a := by omega
    refine ⟨24 * a + (w.length - 1), ?_, ?_⟩
    · rw [List.mem_filter, List.mem_range, en_fr_iff, m1, m2]
      refine ⟨by omega, by omega, fun q hq z => a2 q hq ?_⟩
      show w = en_fw t w.length q
      rw [z]
      exact a1
    · rw [m1, m2]
      exact a1.symm
end
end
section
/-! the law's text: two bits a letter in a long -/
theorem tb_c : ∀ k, k < 64 → ((nI k).toInt64 &&& 63) = lN k := by decide +kernel
theorem tb_sm : ∀ k, k < 64 → ((lN k).toBitVec.smod 64).toNat = k := by decide +kernel
def tb_T (w : Int64) (p : Nat) : Nat := (w.toBitVec.getLsbD (2 * p)).toNat + 2 * (w.toBitVec.getLsbD (2 * p + 1)).toNat
theorem tb_lt (w : Int64) (p : Nat) : tb_T w p < 4 := by
  unfold tb_T
  have h1 := Bool.toNat_lt (w.toBitVec.getLsbD (2 * p))
  have h2 := Bool.toNat_lt (w.toBitVec.getLsbD (2 * p + 1))
  omega
theorem tb_mod4 (n : Nat) : n % 4 = (n.testBit 0).toNat + 2 * (n.testBit 1).toNat := by
  rw [Nat.testBit_zero, show (1 : Nat) = 0 + 1 from rfl, Nat.testBit_add_one, Nat.testBit_zero]
  by_cases a : n % 2 = 1
  · by_cases b : n / 2 % 2 = 1
    · simp only [a, b, decide_true, Bool.toNat_true]
      omega
    · simp only [a, b, decide_true, decide_false, Bool.toNat_true, Bool.toNat_false]
      omega
  · by_cases b : n / 2 % 2 = 1
    · simp only [a, b, decide_true, decide_false, Bool.toNat_true, Bool.toNat_false]
      omega
    · simp only [a, b, decide_false, Bool.toNat_false]
      omega
theorem tb_shr (w : Int64) (k i : Nat) (hk : k < 64) (hi : k + i < 64) : (w >>> ((nI k).toInt64 &&& 63)).toBitVec.getLsbD i = w.toBitVec.getLsbD (k + i) := by
  rw [tb_c k hk, Int64.toBitVec_shiftRight]
  show (w.toBitVec.sshiftRight ((lN k).toBitVec.smod 64).toNat).getLsbD i = _
  rw [tb_sm k hk, BitVec.getLsbD_sshiftRight]
  simp only [hi, if_true]
  rw [show decide (64 ≤ i) = false from decide_eq_false (by omega)]
  rfl
theorem tb_shl (w : Int64) (k i : Nat) (hk : k < 64) (hi : i < 64) : (w <<< ((nI k).toInt64 &&& 63)).toBitVec.getLsbD i = (decide (k ≤ i) && w.toBitVec.getLsbD (i - k)) := by
  rw [tb_c k hk, Int64.toBitVec_shiftLeft]
  show (w.toBitVec <<< ((lN k).toBitVec.smod 64).toNat).getLsbD i = _
  rw [tb_sm k hk, BitVec.getLsbD_shiftLeft]
  by_cases g : k ≤ i
  · simp [hi, g, show ¬ i < k by omega]
  · simp [hi, g, show i < k by omega]
theorem tb_at (w : Int64) {p : Nat} (hp : p < 31) : ((w >>> ((2 * nI p).toInt64 &&& 63)).toInt32) &&& 3 = nI (tb_T w p) := by
  rw [show (2 : Int32) * nI p = nI (2 * p) from pk_mul 2 p]
  rw [pk_and _ 2 (m := 3) (by decide)]
  congr 1
  show _ % 4 = _
  rw [tb_mod4]
  unfold tb_T
  have key : ∀ i, i < 2 → ((w >>> ((nI (2 * p)).toInt64 &&& 63)).toInt32.toBitVec.toNat.testBit i) = w.toBitVec.getLsbD (2 * p + i) := by
    intro i hi
    rw [BitVec.testBit_toNat]
    show ((w >>> ((nI (2 * p)).toInt64 &&& 63)).toBitVec.signExtend 32).getLsbD i = _
    rw [BitVec.getLsbD_signExtend]
    simp only [show i < 32 by omega, show i < 64 by omega, decide_true, Bool.true_and, if_true]
    exact tb_shr w (2 * p) i (by omega) (by omega)
  rw [key 0 (by omega), key 1 (by omega)]
  rfl
theorem tb_shift (w : Int64) {p : Nat} (hp : p < 30) : tb_T (w >>> ((2 : Int32).toInt64 &&& 63)) p = tb_T w (p + 1) := by
  unfold tb_T
  rw [show (2 : Int32) = nI 2 from rfl, tb_shr w 2 (2 * p) (by omega) (by omega), tb_shr w 2 (2 * p + 1) (by omega) (by omega)]
  rw [show 2 + 2 * p = 2 * (p + 1) by omega, show 2 + (2 * p + 1) = 2 * (p + 1) + 1 by omega]
theorem tb_3 (i : Nat) : (3 : Int64).toBitVec.getLsbD i = decide (i < 2) := by
  by_cases h : i < 64
  · have : ∀ i, i < 64 → (3 : Int64).toBitVec.getLsbD i = decide (i < 2) := by decide +kernel
    exact this i h
  · rw [BitVec.getLsbD_of_ge _ _ (by omega)]
    exact (decide_eq_false (by omega)).symm
theorem tb_m1 : ∀ i, i < 64 → (-1 : Int64).toBitVec.getLsbD i = true := by decide +kernel
theorem tb_cb : ∀ c, c < 4 → ∀ i, i < 64 → 2 ≤ i → (nI c).toInt64.toBitVec.getLsbD i = false := by decide +kernel
theorem tb_cv : ∀ c, c < 4 → ((nI c).toInt64.toBitVec.getLsbD 0).toNat + 2 * ((nI c).toInt64.toBitVec.getLsbD 1).toNat = c := by decide +kernel
theorem tb_bit (w : Int64) {l c i : Nat} (hl : l < 24) (hc : c < 4) (hi : i < 64) :
    ((w &&& (((3 : Int64) <<< ((2 * nI l).toInt64 &&& 63)) ^^^ (-1))) ||| ((nI c).toInt64 <<< ((2 * nI l).toInt64 &&& 63))).toBitVec.getLsbD i
      = ((w.toBitVec.getLsbD i && ((decide (2 * l ≤ i) && decide (i - 2 * l < 2)) ^^ true)) || (decide (2 * l ≤ i) && (nI c).toInt64.toBitVec.getLsbD (i - 2 * l))) := by
  rw [show (2 : Int32) * nI l = nI (2 * l) from pk_mul 2 l]
  rw [Int64.toBitVec_or, Int64.toBitVec_and, Int64.toBitVec_xor, BitVec.getLsbD_or, BitVec.getLsbD_and, BitVec.getLsbD_xor]
  rw [tb_shl 3 (2 * l) i (by omega) hi, tb_shl _ (2 * l) i (by omega) hi, tb_3, tb_m1 i hi]
theorem tb_put_o (w : Int64) {l c p : Nat} (hl : l < 24) (hc : c < 4) (hp : p < 31) (h : p ≠ l) :
    tb_T ((w &&& (((3 : Int64) <<< ((2 * nI l).toInt64 &&& 63)) ^^^ (-1))) ||| ((nI c).toInt64 <<< ((2 * nI l).toInt64 &&& 63))) p = tb_T w p := by
  have key : ∀ i, i < 64 → (i < 2 * l ∨ 2 * l + 2 ≤ i) → ((w &&& (((3 : Int64) <<< ((2 * nI l).toInt64 &&& 63)) ^^^ (-1))) ||| ((nI c).toInt64 <<< ((2 * nI l).toInt64 &&& 63))).toBitVec.getLsbD i = w.toBitVec.getLsbD i := by
    intro i hi g
    rw [tb_bit w hl hc hi]
    rcases g with g | g
    · simp [show ¬ 2 * l ≤ i by omega]
    · rw [tb_cb c hc (i - 2 * l) (by omega) (by omega)]
      simp [show ¬ i - 2 * l < 2 by omega]
  unfold tb_T
  rw [key (2 * p) (by omega) (by omega), key (2 * p + 1) (by omega) (by omega)]
theorem tb_put_s (w : Int64) {l c : Nat} (hl : l < 24) (hc : c < 4) :
    tb_T ((w &&& (((3 : Int64) <<< ((2 * nI l).toInt64 &&& 63)) ^^^ (-1))) ||| ((nI c).toInt64 <<< ((2 * nI l).toInt64 &&& 63))) l = c := by
  have key : ∀ j, j < 2 → ((w &&& (((3 : Int64) <<< ((2 * nI l).toInt64 &&& 63)) ^^^ (-1))) ||| ((nI c).toInt64 <<< ((2 * nI l).toInt64 &&& 63))).toBitVec.getLsbD (2 * l + j) = (nI c).toInt64.toBitVec.getLsbD j := by
    intro j hj
    rw [tb_bit w hl hc (by omega)]
    rw [show 2 * l + j - 2 * l = j by omega]
    simp [hj]
  unfold tb_T
  have k0 := key 0 (by omega)
  rw [show 2 * l + 0 = 2 * l from rfl] at k0
  rw [k0, key 1 (by omega)]
  exact tb_cv c hc
/-- small numbers stored in a byte or a short -/
theorem tb_byte : ∀ n, n < 128 → (nI n).toInt8.toInt32 = nI n := by decide +kernel
theorem tb_m1b : ((-1 : Int32)).toInt8.toInt32 = -1 := by decide +kernel
theorem tb_nb {n : Nat} (h : n < 128) : vp_nar .byte (nI n) = nI n := by
  rw [vp_nar_byte, tb_byte n h]
theorem tb_nm1 : vp_nar .byte (-1) = -1 := by
  rw [vp_nar_byte, tb_m1b]
theorem tb_short : ∀ n, n < 1024 → (nI n).toInt16.toInt32 = nI n := by decide +kernel
end
section
/-! newState, split -/
def rf_rd (a : Nat → Int32) (j : Nat) : Nat := (a j).toNatClampNeg
def rf_fe (a : Nat → Int32) (j : Nat) : Nat := (a j + 1).toNatClampNeg
theorem rf_rd_e {a : Nat → Int32} {j v : Nat} (h : a j = nI v) (hv : v < 2 ^ 31) : rf_rd a j = v := by
  unfold rf_rd
  rw [h, nI_clamp hv]
theorem rf_fe_e {a : Nat → Int32} {j v : Nat} (h : a j + 1 = nI v) (hv : v < 2 ^ 31) : rf_fe a j = v := by
  unfold rf_fe
  rw [h, nI_clamp hv]
theorem rf_rd_c {a b : Nat → Int32} {j : Nat} (h : a j = b j) : rf_rd a j = rf_rd b j := by
  unfold rf_rd
  rw [h]
theorem rf_fe_c {a b : Nat → Int32} {j : Nat} (h : a j = b j) : rf_fe a j = rf_fe b j := by
  unfold rf_fe
  rw [h]
theorem rf_ix (m i : Nat) : (4 : Int32) * nI m + nI i = nI (4 * m + i) := by
  rw [show (4 : Int32) * nI m = nI (4 * m) from pk_mul 4 m, nI_add]
theorem rf_ixc {m i : Nat} (h : 4 * m + i < 2 ^ 31) : ((4 : Int32) * nI m + nI i).toNatClampNeg = 4 * m + i := by
  rw [rf_ix, nI_clamp h]
theorem rf_m1 : (-1 : Int32) < 0 := by decide
section
variable {tl pl bu ls ra p0 p1 : Int32} {a1 a2 a3 a4 a5 a6 a7 a8 a9 : Nat → Int32}
theorem rf_new {post : Int32 → St1 → Prop} {m : Nat} (hm : m < 50)
    (H : ∀ b : Nat → Int32, (∀ d, d < 4 → b (4 * m + d) = 0) → (∀ j, (j < 4 * m ∨ 4 * m + 4 ≤ j) → b j = a3 j) →
      post (nI m) (tl, pl, bu, nI (m + 1), ls, ra, a1, a2, b, upd a4 m (-1), upd a5 m p0.toInt8.toInt32, upd a6 m 0, upd a7 m p1.toInt8.toInt32, a8, a9)) :
    wpX_newState post (tl, pl, bu, nI m, ls, ra, a1, a2, a3, a4, a5, a6, a7, a8, a9) p0 p1 := by
  unfold wpX_newState
  dsimp only
  rw [nI_clamp (show m < 2 ^ 31 by omega)]
  refine nm_r (nI_1 m) ⟨pk_in m 50 hm, nm_e ⟨pk_in m 50 hm, nm_e ⟨pk_in m 50 hm, nm_e ⟨pk_in m 50 hm, nm_e ?_⟩⟩⟩⟩
  refine pk_loop (fun n i s => wX_newState_48 post (nI m) tl pl bu (nI (m + 1)) ls ra n (nI i) a1 a2 s (upd a4 m (-1)) (upd a5 m p0.toInt8.toInt32) (upd a6 m 0) (upd a7 m p1.toInt8.toInt32) a8 a9)
    (fun i s => (∀ d, d < i → s (4 * m + d) = 0) ∧ (∀ j, (j < 4 * m ∨ 4 * m + 4 ≤ j) → s j = a3 j)) 4 0 a3 (by omega) ⟨fun d hd => absurd hd (by omega), fun j _ => rfl⟩ ?_ ?_
  · intro n s h
    exact pk_le 4 4 (fun _ => H s h.1 h.2) (fun z => absurd z (by omega))
  · intro n i s hi h hw
    refine pk_le 4 i (fun z => absurd z (by omega)) (fun _ => ⟨pk_in (4 * m + i) 200 (by omega) (rf_ix m i), nm_r (by rw [rf_ixc (by omega)]) (nm_r (nI_1 i) (hw (upd s (4 * m + i) 0) ⟨?_, ?_⟩))⟩)
    · intro d hd
      by_cases e : d = i
      · rw [e, pk_us]
      · rw [pk_un (by omega)]
        exact h.1 d (by omega)
    · intro j hj
      rw [pk_un (by omega)]
      exact h.2 j hj
theorem rf_split {post : Int32 → St1 → Prop} {q k : Nat} (hq : q < 50) (hk : k < 50) (hqk : q ≠ k) (hr : ∀ d, d < 4 → ∃ v, v < 128 ∧ a3 (4 * q + d) = nI v)
    (H : ∀ b : Nat → Int32, (∀ d, d < 4 → b (4 * k + d) = a3 (4 * q + d)) → (∀ j, (j < 4 * k ∨ 4 * k + 4 ≤ j) → b j = a3 j) →
      post (nI k) (tl, pl, bu, nI (k + 1), ls, ra, a1, a2, b, upd (upd (upd a4 k (-1)) k (vp_nar .byte (a4 q))) q (nI k), upd a5 k p1.toInt8.toInt32, upd a6 k 0, upd a7 k (a7 q).toInt8.toInt32, a8, a9)) :
    wpX_split post (tl, pl, bu, nI k, ls, ra, a1, a2, a3, a4, a5, a6, a7, a8, a9) (nI q) p1 := by
  unfold wpX_split
  dsimp only
  refine ⟨pk_in q 50 hq, ?_⟩
  rw [nI_clamp (show q < 2 ^ 31 by omega)]
  refine rf_new hk (fun b h1 h2 => ?_)
  dsimp only
  refine pk_loop (fun n i s => wX_split_15 post (nI q) (nI k) tl pl bu (nI (k + 1)) ls ra n (nI i) a1 a2 s (upd a4 k (-1)) (upd a5 k p1.toInt8.toInt32) (upd a6 k 0) (upd a7 k (a7 q).toInt8.toInt32) a8 a9)
    (fun i s => (∀ d, d < i → s (4 * k + d) = a3 (4 * q + d)) ∧ (∀ j, (j < 4 * k ∨ 4 * k + 4 ≤ j) → s j = a3 j)) 4 0 b (by omega) ⟨fun d hd => absurd hd (by omega), h2⟩ ?_ ?_
  · intro n s h
    refine pk_le 4 4 (fun _ => ⟨pk_in q 50 hq, pk_in k 50 hk, nm_r (e' := upd (upd a4 k (-1)) k (vp_nar .byte (a4 q))) ?_ ⟨pk_in q 50 hq, nm_r (e' := upd (upd (upd a4 k (-1)) k (vp_nar .byte (a4 q))) q (nI k)) ?_ (H s h.1 h.2)⟩⟩) (fun z => absurd z (by omega))
    · rw [nI_clamp (show q < 2 ^ 31 by omega), nI_clamp (show k < 2 ^ 31 by omega), pk_un (f := a4) hqk]
    · rw [nI_clamp (show q < 2 ^ 31 by omega), tb_byte k (by omega)]
  · intro n i s hi h hw
    obtain ⟨v, hv, ev⟩ := hr i hi
    refine pk_le 4 i (fun z => absurd z (by omega)) (fun _ => ⟨pk_in (4 * q + i) 200 (by omega) (rf_ix q i), pk_in (4 * k + i) 200 (by omega) (rf_ix k i), nm_r (e' := upd s (4 * k + i) (nI v)) ?_ (nm_r (nI_1 i) (hw _ ⟨?_, ?_⟩))⟩)
    · rw [rf_ixc (by omega), rf_ixc (by omega), h.2 (4 * q + i) (by omega), ev, tb_nb hv]
    · intro d hd
      by_cases e : d = i
      · rw [e, pk_us, ev]
      · rw [pk_un (by omega)]
        exact h.1 d (by omega)
    · intro j hj
      rw [pk_un (by omega)]
      exact h.2 j hj
end
end
section
/-! the three ends of extend, without arrays -/
theorem sa_inv_c {t : Nat → Nat} {p : Nat} {S S' : Nat → Prop} {nx lk ln fe : Nat → Nat} (h : sa_inv t p S nx lk ln fe) (e : ∀ s, S s ↔ S' s) : sa_inv t p S' nx lk ln fe := by
  have : S = S' := funext (fun s => propext (e s))
  rw [← this]
  exact h
theorem sa_suf_c {t ln fe ln' fe' : Nat → Nat} {p s : Nat} (h1 : ln' s = ln s) (h2 : fe' s = fe s) : sa_suf t ln' fe' p s ↔ sa_suf t ln fe p s := by
  unfold sa_suf
  rw [h1, h2]
section
variable {t : Nat → Nat} {p : Nat} {S : Nat → Prop} {nx lk ln fe nx' lk' ln' fe' : Nat → Nat}
/-- q's words begin with x's, a letter added -/
theorem sa_xq (h : sa_inv t p S nx lk ln fe) {q x c : Nat} (hq0 : q ≠ 0) (hx : S x) (gx : sa_suf t ln fe p x) (hc : c < 4) (hcp : c = t p) (hxq : nx (4 * x + c) = q) :
    S q ∧ ln x + 1 ≤ ln q ∧ ln (lk q) < ln x + 1 ∧ sa_rw t (ln x + 1) (fe q) = sa_rw t (ln x + 1) (p + 1) ∧ ln x + 1 ≤ p := by
  have hh := h
  obtain ⟨_, _, hfe, _, hE, _, _⟩ := hh
  obtain ⟨e1, e2⟩ := hE x c hx hc (by rw [hxq]; exact hq0)
  have ex := e2 _ (sa_suf_top h hx gx)
  rw [hxq] at e1 ex
  obtain ⟨x1, x2, x3⟩ := ex
  rw [List.length_cons, sa_len] at x1 x2 x3
  have := hfe q e1
  refine ⟨e1, x1, x3 hq0, ?_, by omega⟩
  rw [← x2, sa_rw_s, hcp]
theorem sa_caseA {la f : Nat} (h : sa_inv t p S nx lk ln fe) (hla : S la) (hla1 : ln la = p) (hla2 : fe la = p) (hf : ¬ S f) (hc : t p < 4)
    (h0 : ∀ s, S s → sa_suf t ln fe p s → nx (4 * s + t p) = 0)
    (g1 : ∀ s, S s → lk' s = lk s) (g2 : ∀ s, S s → ln' s = ln s) (g3 : ∀ s, S s → fe' s = fe s)
    (g4 : lk' f = 0) (g5 : ln' f = p + 1) (g6 : fe' f = p + 1)
    (g7 : ∀ s, S s → sa_suf t ln fe p s → nx' (4 * s + t p) = f)
    (g8 : ∀ s d, S s → d < 4 → ¬ (d = t p ∧ sa_suf t ln fe p s) → nx' (4 * s + d) = nx (4 * s + d))
    (g9 : ∀ d, d < 4 → nx' (4 * f + d) = 0) :
    sa_inv t (p + 1) (fun s => S s ∨ s = f) nx' lk' ln' fe' :=
  sa_ext (lo := 0) (q := 0) h hla hla1 hla2 hf hc h.1 h.2.1 (by omega) rfl (fun s hs g _ => h0 s hs g) (fun s _ _ _ _ => by omega) g1 g2 g3 g4 g5 g6
    (fun s hs g _ => g7 s hs g) (fun s d hs hd g => g8 s d hs hd (fun z => g ⟨z.1, z.2, by omega⟩)) g9
theorem sa_caseB {la f q x : Nat} (h : sa_inv t p S nx lk ln fe) (hla : S la) (hla1 : ln la = p) (hla2 : fe la = p) (hf : ¬ S f) (hc : t p < 4)
    (hx : S x) (gx : sa_suf t ln fe p x) (hxq : nx (4 * x + t p) = q) (hq0 : q ≠ 0) (hl : ln q = ln x + 1)
    (h0 : ∀ s, S s → sa_suf t ln fe p s → ln x + 1 ≤ ln s → nx (4 * s + t p) = 0)
    (g1 : ∀ s, S s → lk' s = lk s) (g2 : ∀ s, S s → ln' s = ln s) (g3 : ∀ s, S s → fe' s = fe s)
    (g4 : lk' f = q) (g5 : ln' f = p + 1) (g6 : fe' f = p + 1)
    (g7 : ∀ s, S s → sa_suf t ln fe p s → ln x + 1 ≤ ln s → nx' (4 * s + t p) = f)
    (g8 : ∀ s d, S s → d < 4 → ¬ (d = t p ∧ sa_suf t ln fe p s ∧ ln x + 1 ≤ ln s) → nx' (4 * s + d) = nx (4 * s + d))
    (g9 : ∀ d, d < 4 → nx' (4 * f + d) = 0) :
    sa_inv t (p + 1) (fun s => S s ∨ s = f) nx' lk' ln' fe' := by
  obtain ⟨q1, q2, q3, q4, q5⟩ := sa_xq h hq0 hx gx hc rfl hxq
  refine sa_ext (lo := ln x + 1) (q := q) h hla hla1 hla2 hf hc q1 hl q5 q4 h0 ?_ g1 g2 g3 g4 g5 g6 g7 g8 g9
  intro s hs g hl2 hs0
  have := sa_longer h hs hx g gx (by omega) hs0
  omega
theorem sa_sufk {la q x : Nat} (h : sa_inv t p S nx lk ln fe) (hla : S la) (hla1 : ln la = p) (hla2 : fe la = p) (hc : t p < 4)
    (hx : S x) (gx : sa_suf t ln fe p x) (hxq : nx (4 * x + t p) = q) (hq0 : q ≠ 0) (g : sa_rw t (ln x + 1) p = sa_rw t (ln x + 1) (fe q)) : sa_suf t ln fe p q := by
  obtain ⟨q1, q2, q3, q4, q5⟩ := sa_xq h hq0 hx gx hc rfl hxq
  obtain ⟨r, r1, r2, r3⟩ := sa_suffix h hla hla1 hla2 q5
  have w : sa_wd t lk ln fe q (sa_rw t (ln x + 1) p) := by
    refine ⟨?_, ?_, fun _ => ?_⟩
    · rw [sa_len]; exact q2
    · rw [sa_len]; exact g
    · rw [sa_len]; exact q3
  have := sa_uniq h _ r q r1 q1 r2 w
  rw [← this]
  exact r3
theorem sa_caseC {la f k q x : Nat} (h : sa_inv t p S nx lk ln fe) (hla : S la) (hla1 : ln la = p) (hla2 : fe la = p) (hf : ¬ S f) (hk : ¬ S k) (hfk : f ≠ k) (hc : t p < 4)
    (hx : S x) (gx : sa_suf t ln fe p x) (hxq : nx (4 * x + t p) = q) (hq0 : q ≠ 0) (hl : ln x + 1 < ln q)
    (h0 : ∀ s, S s → sa_suf t ln fe p s → ln x + 1 ≤ ln s → nx (4 * s + t p) = 0)
    (g1 : ∀ s, S s → s ≠ q → lk' s = lk s) (g1q : lk' q = k) (g1k : lk' k = lk q) (g1f : lk' f = k)
    (g2 : ∀ s, S s → ln' s = ln s) (g2k : ln' k = ln x + 1) (g2f : ln' f = p + 1)
    (g3 : ∀ s, S s → fe' s = fe s) (g3k : fe' k = fe q) (g3f : fe' f = p + 1)
    (g4 : ∀ s, S s → sa_suf t ln fe p s → ln x + 1 ≤ ln s → nx' (4 * s + t p) = f)
    (g5 : ∀ s d, S s → d < 4 → nx (4 * s + d) = q → ln s ≤ ln x → nx' (4 * s + d) = k)
    (g6 : ∀ s d, S s → d < 4 → ¬ (d = t p ∧ sa_suf t ln fe p s ∧ ln x + 1 ≤ ln s) → ¬ (nx (4 * s + d) = q ∧ ln s ≤ ln x) → nx' (4 * s + d) = nx (4 * s + d))
    (g7 : sa_suf t ln fe p q → nx' (4 * k + t p) = f)
    (g8 : ∀ d, d < 4 → ¬ (d = t p ∧ sa_suf t ln fe p q) → nx' (4 * k + d) = nx (4 * q + d))
    (g9 : ∀ d, d < 4 → nx' (4 * f + d) = 0) :
    sa_inv t (p + 1) (fun s => (S s ∨ s = k) ∨ s = f) nx' lk' ln' fe' := by
  obtain ⟨q1, q2, q3, q4, q5⟩ := sa_xq h hq0 hx gx hc rfl hxq
  have hh := h
  obtain ⟨hS0, hl0, hfe, hlk, hE, hR, hP⟩ := hh
  have nk : ∀ s, S s → s ≠ k := fun s hs z => hk (by rw [← z]; exact hs)
  obtain ⟨nx2, n2e⟩ : ∃ f2 : Nat → Nat, ∀ j, f2 j = if j / 4 = k then nx (4 * q + j % 4) else if nx j = 0 then 0 else nx' j := ⟨_, fun _ => rfl⟩
  have n2k : ∀ d, d < 4 → nx2 (4 * k + d) = nx (4 * q + d) := by
    intro d hd
    rw [n2e, if_pos (by omega), show (4 * k + d) % 4 = d by omega]
  have n20 : ∀ s d, S s → d < 4 → nx (4 * s + d) = 0 → nx2 (4 * s + d) = 0 := by
    intro s d hs hd z
    rw [n2e, if_neg (by have := nk s hs; omega), if_pos z]
  have n21 : ∀ s d, S s → d < 4 → nx (4 * s + d) ≠ 0 → nx2 (4 * s + d) = nx' (4 * s + d) := by
    intro s d hs hd z
    rw [n2e, if_neg (by have := nk s hs; omega), if_neg z]
  have h2 : sa_inv t p (fun s => S s ∨ s = k) nx2 lk' ln' fe' := by
    refine sa_split (x := x) (c := t p) h hk q1 hq0 hx hc hxq hl g1 g1q g1k g2 g2k g3 g3k ?_ ?_ n2k
    · intro s d hs hd e1 e2
      rw [n21 s d hs hd (by rw [e1]; exact hq0)]
      exact g5 s d hs hd e1 e2
    · intro s d hs hd e
      by_cases z : nx (4 * s + d) = 0
      · rw [n20 s d hs hd z, z]
      · rw [n21 s d hs hd z]
        refine g6 s d hs hd (fun w => z ?_) e
        rw [w.1]
        exact h0 s hs w.2.1 w.2.2
  have sS : ∀ s, S s → (sa_suf t ln' fe' p s ↔ sa_suf t ln fe p s) := fun s hs => sa_suf_c (g2 s hs) (g3 s hs)
  have sk : sa_suf t ln' fe' p k ↔ sa_suf t ln fe p q := by
    unfold sa_suf
    rw [g2k, g3k]
    constructor
    · exact fun g => sa_sufk h hla hla1 hla2 hc hx gx hxq hq0 g
    · exact fun g => sa_mono (by omega) g
  refine sa_ext (la := la) (lo := ln x + 1) (q := k) h2 (Or.inl hla) (by rw [g2 la hla, hla1]) (by rw [g3 la hla, hla2]) ?_ hc (Or.inr rfl) g2k q5 (by rw [g3k]; exact q4) ?_ ?_ (fun _ _ => rfl) (fun _ _ => rfl) (fun _ _ => rfl) g1f g2f g3f ?_ ?_ g9
  · rintro (z | z)
    · exact hf z
    · exact hfk z
  · rintro s (hs | hs) gs ls
    · rw [sS s hs] at gs
      rw [g2 s hs] at ls
      exact n20 s (t p) hs hc (h0 s hs gs ls)
    · subst hs
      rw [sk] at gs
      rw [n2k (t p) hc]
      exact h0 q q1 gs (by omega)
  · rintro s (hs | hs) gs ls s0
    · rw [sS s hs] at gs
      rw [g2 s hs] at ls
      by_cases e : s = q
      · rw [e, g1q, g2k]
        omega
      · rw [g1 s hs e, g2 _ (hlk s hs s0).1]
        have := sa_longer h hs hx gs gx (by omega) s0
        omega
    · subst hs
      rw [sk] at gs
      rw [g1k, g2 _ (hlk q q1 hq0).1]
      have := sa_longer h q1 hx gs gx (by omega) hq0
      omega
  · rintro s (hs | hs) gs ls
    · rw [sS s hs] at gs
      rw [g2 s hs] at ls
      exact g4 s hs gs ls
    · subst hs
      rw [sk] at gs
      exact g7 gs
  · rintro s d (hs | hs) hd e
    · rw [sS s hs, g2 s hs] at e
      by_cases z : nx (4 * s + d) = 0
      · rw [n20 s d hs hd z, g6 s d hs hd e (fun w => hq0 (by rw [← w.1]; exact z)), z]
      · exact (n21 s d hs hd z).symm
    · subst hs
      rw [n2k d hd]
      refine g8 d hd (fun w => e ⟨w.1, sk.mpr w.2, ?_⟩)
      rw [g2k]
      exact Nat.le_refl _
end
end
section
/-! extend -/
/-- the automaton in the arrays, while it is built: p letters, m states -/
def rf_au (t : Nat → Nat) (p m : Nat) (ls : Int32) (a3 a4 a5 a6 a7 : Nat → Int32) : Prop :=
  sa_inv t p (fun s => s < m) (rf_rd a3) (rf_rd a4) (rf_rd a5) (rf_fe a7) ∧
  (∃ la, la < m ∧ ls = nI la ∧ rf_rd a5 la = p ∧ rf_fe a7 la = p) ∧
  m ≤ 2 * p + 1 ∧
  (∀ s d, s < m → d < 4 → ∃ v, v < m ∧ a3 (4 * s + d) = nI v) ∧
  a4 0 = -1 ∧ (∀ s, 0 < s → s < m → ∃ v, v < m ∧ a4 s = nI v) ∧
  (∀ s, s < m → ∃ v, v ≤ p ∧ a5 s = nI v) ∧ (∀ s, s < m → ∃ v, v ≤ p ∧ a7 s + 1 = nI v) ∧
  (∀ s, s < m → a6 s = 0 ∨ a6 s = 1) ∧ (∀ s, 0 < s → s < m → a6 s = 1 ∨ ∃ r, 0 < r ∧ r < m ∧ rf_rd a4 r = s)
/-- where a walk along the links stands: at a state that ends the text, or behind the last; lo: the shortest length behind it -/
def rf_cur (t ln fe : Nat → Nat) (p m : Nat) (x4 : Int32) (lo : Nat) : Prop :=
  (x4 = -1 ∧ lo = 0) ∨ ∃ x, x < m ∧ sa_suf t ln fe p x ∧ x4 = nI x ∧ lo = ln x + 1
def rf_i27 (t nx ln fe : Nat → Nat) (p m c f : Nat) (a3 b : Nat → Int32) (lo : Nat) : Prop :=
  (∀ s, s < m → sa_suf t ln fe p s → lo ≤ ln s → nx (4 * s + c) = 0 ∧ b (4 * s + c) = nI f) ∧
  (∀ s d, s < m → d < 4 → ¬ (d = c ∧ sa_suf t ln fe p s ∧ lo ≤ ln s) → b (4 * s + d) = a3 (4 * s + d)) ∧
  (∀ d, d < 4 → b (4 * m + d) = 0)
def rf_i143 (t nx ln fe : Nat → Nat) (p m c q k x : Nat) (b0 b : Nat → Int32) (lo : Nat) : Prop :=
  (∀ s, s < m → sa_suf t ln fe p s → lo ≤ ln s → ln s ≤ ln x → nx (4 * s + c) = q ∧ b (4 * s + c) = nI k) ∧
  (∀ s d, s < m + 2 → d < 4 → ¬ (s < m ∧ d = c ∧ sa_suf t ln fe p s ∧ lo ≤ ln s ∧ ln s ≤ ln x) → b (4 * s + d) = b0 (4 * s + d))
section
variable {post : St1 → Prop} {tl pl bu sc ls ra : Int32} {a1 a2 a3 a4 a5 a6 a7 a8 a9 : Nat → Int32} {t nx lk ln fe : Nat → Nat} {p m c f : Nat}
/-- the walk's next step -/
theorem rf_next {A4 : Nat → Int32} (h : sa_inv t p (fun s => s < m) nx lk ln fe) (h4z : A4 0 = -1) {x : Nat} (h4 : 0 < x → A4 x = nI (lk x)) (hx : x < m) (gx : sa_suf t ln fe p x) :
    ∃ lo', lo' ≤ ln x ∧ rf_cur t ln fe p m (A4 x) lo' ∧ ∀ s, s < m → sa_suf t ln fe p s → (lo' ≤ ln s ↔ ln x + 1 ≤ ln s ∨ s = x) := by
  have hh := h
  obtain ⟨_, hl0, _, hlk, _, _, _⟩ := hh
  by_cases z : x = 0
  · refine ⟨0, by omega, Or.inl ⟨by rw [z, h4z], rfl⟩, ?_⟩
    intro s hs gs
    refine ⟨fun _ => ?_, fun _ => by omega⟩
    rcases Nat.lt_or_ge (ln x) (ln s) with g | g
    · exact Or.inl g
    · right
      rw [z, hl0] at g
      rw [z]
      exact sa_zero h hs (by omega)
  · obtain ⟨k1, k2, k3⟩ := hlk x hx z
    refine ⟨ln (lk x) + 1, k2, Or.inr ⟨lk x, k1, sa_suf_lk h hx gx z, h4 (by omega), rfl⟩, ?_⟩
    intro s hs gs
    constructor
    · intro g
      rcases Nat.lt_or_ge (ln x) (ln s) with g2 | g2
      · exact Or.inl g2
      · exact Or.inr (sa_gap h hs hx gs gx z g g2)
    · rintro (g | g)
      · omega
      · rw [g]
        exact k2
theorem rf_l27 {A4 : Nat → Int32} (h : sa_inv t p (fun s => s < m) nx lk ln fe) (hm : m < 50) (hc : c < 4) (hf : f < 128) (h4z : A4 0 = -1) (h4 : ∀ s, 0 < s → s < m → A4 s = nI (lk s))
    (h3 : ∀ s d, s < m → d < 4 → a3 (4 * s + d) = nI (nx (4 * s + d)) ∧ nx (4 * s + d) < 50)
    (H : ∀ x4 b lo, rf_cur t ln fe p m x4 lo → rf_i27 t nx ln fe p m c f a3 b lo → (∀ x, x < m → x4 = nI x → nx (4 * x + c) ≠ 0) → wX_extend_71 post (nI c) (nI f) x4 tl pl bu sc ls ra a1 a2 b A4 a5 a6 a7 a8 a9) :
    ∀ k lo x4 b, lo ≤ k → rf_cur t ln fe p m x4 lo → rf_i27 t nx ln fe p m c f a3 b lo → ∃ n, wX_extend_27 post (nI c) (nI f) tl pl bu sc ls ra n x4 a1 a2 b A4 a5 a6 a7 a8 a9 := by
  have hend : ∀ b lo, rf_i27 t nx ln fe p m c f a3 b lo → lo = 0 → ∃ n, wX_extend_27 post (nI c) (nI f) tl pl bu sc ls ra n (-1) a1 a2 b A4 a5 a6 a7 a8 a9 := by
    intro b lo hi e
    refine ⟨1, br_t rf_m1 (H (-1) b lo (Or.inl ⟨rfl, e⟩) hi (fun x hx z => ?_))⟩
    exfalso
    have h1 := rf_m1
    rw [z] at h1
    exact nI_pos (by omega) h1
  intro k
  induction k with
  | zero =>
    intro lo x4 b hk hcur hi
    rcases hcur with ⟨e1, e2⟩ | ⟨x, _, _, _, e⟩
    · rw [e1]
      exact hend b lo hi e2
    · omega
  | succ k ih =>
    intro lo x4 b hk hcur hi
    rcases hcur with ⟨e1, e2⟩ | ⟨x, hx, gx, e1, e2⟩
    · rw [e1]
      exact hend b lo hi e2
    · have hbx : b (4 * x + c) = nI (nx (4 * x + c)) := by
        rw [hi.2.1 x c hx hc (fun z => by have := z.2.2; omega)]
        exact (h3 x c hx hc).1
      have hnx := (h3 x c hx hc).2
      by_cases z : nx (4 * x + c) = 0
      · obtain ⟨lo', l1, l2, l3⟩ := rf_next h h4z (fun z => h4 x z hx) hx gx
        obtain ⟨n, hn⟩ := ih lo' (A4 x) (upd b (4 * x + c) (nI f)) (by omega) l2 (by
          refine ⟨?_, ?_, ?_⟩
          · intro s hs gs ls'
            rcases (l3 s hs gs).mp ls' with g | g
            · rw [pk_un (by intro e; have : s = x := by omega
                            rw [this] at g; omega)]
              exact hi.1 s hs gs (by omega)
            · rw [g, pk_us]
              exact ⟨z, rfl⟩
          · intro s d hs hd g
            have ne : 4 * s + d ≠ 4 * x + c := by
              intro e
              have e1 : s = x := by omega
              have e2 : d = c := by omega
              exact g ⟨e2, by rw [e1]; exact gx, by rw [e1]; exact l1⟩
            rw [pk_un ne]
            exact hi.2.1 s d hs hd (fun w => g ⟨w.1, w.2.1, (l3 s hs w.2.1).mpr (Or.inl (by omega))⟩)
          · intro d hd
            rw [pk_un (by omega)]
            exact hi.2.2 d hd)
        rw [e1]
        refine ⟨n + 1, br_f (nI_pos (by omega)) ⟨pk_in (4 * x + c) 200 (by omega) (rf_ix x c), br_t ?_ ⟨pk_in (4 * x + c) 200 (by omega) (rf_ix x c), nm_r (e' := upd b (4 * x + c) (nI f)) ?_ ⟨pk_in x 50 (by omega), nm_r (e' := A4 x) ?_ hn⟩⟩⟩⟩
        · rw [rf_ixc (by omega), hbx, z]
          rfl
        · rw [rf_ixc (by omega), tb_byte f hf]
        · rw [nI_clamp (by omega)]
      · rw [e1]
        refine ⟨1, br_f (nI_pos (by omega)) ⟨pk_in (4 * x + c) 200 (by omega) (rf_ix x c), br_f ?_ (H (nI x) b lo (Or.inr ⟨x, hx, gx, rfl, e2⟩) hi ?_)⟩⟩
        · rw [rf_ixc (by omega), hbx]
          exact nI_ne0 (by omega) (by omega)
        · intro y hy ey
          rw [nI_eq (by omega) (by omega)] at ey
          rw [← ey]
          exact z
theorem rf_l143 {A4 b0 : Nat → Int32} {q k x : Nat} (h : sa_inv t p (fun s => s < m) nx lk ln fe) (hm : m < 50) (hc : c < 4) (hf : f < 50) (hk : k < 50) (hq : q < 50) (h4z : A4 0 = -1) (h4 : ∀ s, 0 < s → s < m → ln s ≤ ln x → A4 s = nI (lk s))
    (h3 : ∀ s, s < m → ln s ≤ ln x → b0 (4 * s + c) = nI (nx (4 * s + c)) ∧ nx (4 * s + c) < 50)
    (H : ∀ x4 b lo, rf_cur t ln fe p m x4 lo → lo ≤ ln x + 1 → rf_i143 t nx ln fe p m c q k x b0 b lo → (∀ y, y < m → x4 = nI y → nx (4 * y + c) ≠ q) → post (tl, pl, bu, sc, ls, ra, a1, a2, b, upd A4 f (nI k), a5, a6, a7, a8, a9)) :
    ∀ j lo x4 b, lo ≤ j → lo ≤ ln x + 1 → rf_cur t ln fe p m x4 lo → rf_i143 t nx ln fe p m c q k x b0 b lo → ∃ n, wX_extend_143 post (nI c) (nI f) (nI q) (nI k) tl pl bu sc ls ra n x4 a1 a2 b A4 a5 a6 a7 a8 a9 := by
  have hup : upd A4 (nI f).toNatClampNeg (nI k).toInt8.toInt32 = upd A4 f (nI k) := by
    rw [nI_clamp (by omega), tb_byte k (by omega)]
  have hend : ∀ b lo, rf_i143 t nx ln fe p m c q k x b0 b lo → lo = 0 → ∃ n, wX_extend_143 post (nI c) (nI f) (nI q) (nI k) tl pl bu sc ls ra n (-1) a1 a2 b A4 a5 a6 a7 a8 a9 := by
    intro b lo hi e
    refine ⟨1, br_t rf_m1 ⟨pk_in f 50 hf, nm_r hup (H (-1) b lo (Or.inl ⟨rfl, e⟩) (by omega) hi (fun x hx z => ?_))⟩⟩
    exfalso
    have h1 := rf_m1
    rw [z] at h1
    exact nI_pos (by omega) h1
  intro j
  induction j with
  | zero =>
    intro lo x4 b hj hlx hcur hi
    rcases hcur with ⟨e1, e2⟩ | ⟨x, _, _, _, e⟩
    · rw [e1]
      exact hend b lo hi e2
    · omega
  | succ j ih =>
    intro lo x4 b hj hlx hcur hi
    rcases hcur with ⟨e1, e2⟩ | ⟨y, hy, gy, e1, e2⟩
    · rw [e1]
      exact hend b lo hi e2
    · obtain ⟨h3a, h3b⟩ := h3 y hy (by omega)
      have hby : b (4 * y + c) = nI (nx (4 * y + c)) := by
        rw [hi.2 y c (by omega) hc (fun z => by have := z.2.2.2.1; omega)]
        exact h3a
      by_cases z : nx (4 * y + c) = q
      · obtain ⟨lo', l1, l2, l3⟩ := rf_next h h4z (fun z => h4 y z hy (by omega)) hy gy
        obtain ⟨n, hn⟩ := ih lo' (A4 y) (upd b (4 * y + c) (nI k)) (by omega) (by omega) l2 (by
          refine ⟨?_, ?_⟩
          · intro s hs gs ls' lx
            rcases (l3 s hs gs).mp ls' with g | g
            · rw [pk_un (by intro e; have : s = y := by omega
                            rw [this] at g; omega)]
              exact hi.1 s hs gs (by omega) lx
            · rw [g, pk_us]
              exact ⟨z, rfl⟩
          · intro s d hs hd g
            have ne : 4 * s + d ≠ 4 * y + c := by
              intro e
              have e1 : s = y := by omega
              have e3 : d = c := by omega
              exact g ⟨by omega, e3, by rw [e1]; exact gy, by rw [e1]; exact l1, by rw [e1]; omega⟩
            rw [pk_un ne]
            exact hi.2 s d hs hd (fun w => g ⟨w.1, w.2.1, w.2.2.1, (l3 s w.1 w.2.2.1).mpr (Or.inl (by have := w.2.2.2.1; omega)), w.2.2.2.2⟩))
        rw [e1]
        refine ⟨n + 1, br_f (nI_pos (by omega)) ⟨pk_in (4 * y + c) 200 (by omega) (rf_ix y c), br_t ?_ ⟨pk_in (4 * y + c) 200 (by omega) (rf_ix y c), nm_r (e' := upd b (4 * y + c) (nI k)) ?_ ⟨pk_in y 50 (by omega), nm_r (e' := A4 y) ?_ hn⟩⟩⟩⟩
        · rw [rf_ixc (by omega), hby, z]
        · rw [rf_ixc (by omega), tb_byte k (by omega)]
        · rw [nI_clamp (by omega)]
      · rw [e1]
        refine ⟨1, br_f (nI_pos (by omega)) ⟨pk_in (4 * y + c) 200 (by omega) (rf_ix y c), br_f ?_ ⟨pk_in f 50 hf, nm_r hup (H (nI y) b lo (Or.inr ⟨y, hy, gy, rfl, e2⟩) hlx hi ?_)⟩⟩⟩
        · rw [rf_ixc (by omega), hby, nI_eq (by omega) (by omega)]
          exact z
        · intro y' hy' ey
          rw [nI_eq (by omega) (by omega)] at ey
          rw [← ey]
          exact z
end
end
section
/-! the arrays at extend's ends -/
section
variable {ls : Int32} {a3 a4 a5 a6 a7 b3 b4 b5 b6 b7 : Nat → Int32} {t : Nat → Nat} {p m : Nat}
theorem rf_au3 (h : rf_au t p m ls a3 a4 a5 a6 a7) (hp : p ≤ 24) {s d : Nat} (hs : s < m) (hd : d < 4) : a3 (4 * s + d) = nI (rf_rd a3 (4 * s + d)) ∧ rf_rd a3 (4 * s + d) < m := by
  obtain ⟨_, _, hm, h3, _⟩ := h
  obtain ⟨v, hv, e⟩ := h3 s d hs hd
  rw [rf_rd_e e (by omega)]
  exact ⟨e, hv⟩
theorem rf_au4 (h : rf_au t p m ls a3 a4 a5 a6 a7) (hp : p ≤ 24) {s : Nat} (h0 : 0 < s) (hs : s < m) : a4 s = nI (rf_rd a4 s) ∧ rf_rd a4 s < m := by
  obtain ⟨_, _, hm, _, _, h4, _⟩ := h
  obtain ⟨v, hv, e⟩ := h4 s h0 hs
  rw [rf_rd_e e (by omega)]
  exact ⟨e, hv⟩
theorem rf_au5 (h : rf_au t p m ls a3 a4 a5 a6 a7) (hp : p ≤ 24) {s : Nat} (hs : s < m) : a5 s = nI (rf_rd a5 s) ∧ rf_rd a5 s ≤ p := by
  obtain ⟨_, _, hm, _, _, _, h5, _⟩ := h
  obtain ⟨v, hv, e⟩ := h5 s hs
  rw [rf_rd_e e (by omega)]
  exact ⟨e, hv⟩
theorem rf_au7 (h : rf_au t p m ls a3 a4 a5 a6 a7) (hp : p ≤ 24) {s : Nat} (hs : s < m) : a7 s + 1 = nI (rf_fe a7 s) ∧ rf_fe a7 s ≤ p := by
  obtain ⟨_, _, hm, _, _, _, _, h7, _⟩ := h
  obtain ⟨v, hv, e⟩ := h7 s hs
  rw [rf_fe_e e (by omega)]
  exact ⟨e, hv⟩
theorem rf_fin1 {q : Nat} (hA : rf_au t p m ls a3 a4 a5 a6 a7) (hp : p < 24) (hq : q < m)
    (hI : sa_inv t (p + 1) (fun s => s < m ∨ s = m) (rf_rd b3) (rf_rd b4) (rf_rd b5) (rf_fe b7))
    (k3 : ∀ s d, s < m → d < 4 → b3 (4 * s + d) = a3 (4 * s + d) ∨ b3 (4 * s + d) = nI m) (k3m : ∀ d, d < 4 → b3 (4 * m + d) = 0)
    (k4 : ∀ s, s < m → b4 s = a4 s) (k4m : b4 m = nI q) (k5 : ∀ s, s < m → b5 s = a5 s) (k5m : b5 m = nI (p + 1))
    (k6 : ∀ s, s < m → b6 s = a6 s) (k6m : b6 m = 1) (k7 : ∀ s, s < m → b7 s = a7 s) (k7m : b7 m = nI p) :
    rf_au t (p + 1) (m + 1) (nI m) b3 b4 b5 b6 b7 := by
  have hS0 : 0 < m := hA.1.1
  obtain ⟨_, _, hm, h3, h40, h4, h5, h7, h6, h6c⟩ := hA
  have cs : ∀ s, s < m + 1 → s < m ∨ s = m := fun s hs => by omega
  refine ⟨sa_inv_c hI (fun s => by constructor <;> intro <;> omega), ⟨m, by omega, rfl, rf_rd_e k5m (by omega), rf_fe_e (by rw [k7m, nI_1]) (by omega)⟩, by omega, ?_, by rw [k4 0 hS0, h40], ?_, ?_, ?_, ?_, ?_⟩
  · intro s d hs hd
    rcases cs s hs with g | g
    · rcases k3 s d g hd with e | e
      · obtain ⟨v, hv, e'⟩ := h3 s d g hd
        exact ⟨v, by omega, by rw [e, e']⟩
      · exact ⟨m, by omega, e⟩
    · rw [g]
      exact ⟨0, by omega, k3m d hd⟩
  · intro s h0 hs
    rcases cs s hs with g | g
    · obtain ⟨v, hv, e⟩ := h4 s h0 g
      exact ⟨v, by omega, by rw [k4 s g, e]⟩
    · rw [g]
      exact ⟨q, by omega, k4m⟩
  · intro s hs
    rcases cs s hs with g | g
    · obtain ⟨v, hv, e⟩ := h5 s g
      exact ⟨v, by omega, by rw [k5 s g, e]⟩
    · rw [g]
      exact ⟨p + 1, by omega, k5m⟩
  · intro s hs
    rcases cs s hs with g | g
    · obtain ⟨v, hv, e⟩ := h7 s g
      exact ⟨v, by omega, by rw [k7 s g, e]⟩
    · rw [g]
      exact ⟨p + 1, by omega, by rw [k7m, nI_1]⟩
  · intro s hs
    rcases cs s hs with g | g
    · rw [k6 s g]
      exact h6 s g
    · rw [g]
      exact Or.inr k6m
  · intro s h0 hs
    rcases cs s hs with g | g
    · rcases h6c s h0 g with e | ⟨r, r1, r2, r3⟩
      · left
        rw [k6 s g, e]
      · right
        exact ⟨r, r1, by omega, by rw [rf_rd_c (k4 r r2), r3]⟩
    · left
      rw [g, k6m]
theorem rf_finA (hA : rf_au t p m ls a3 a4 a5 a6 a7) (hp : p < 24) (hc : t p < 4)
    (hi : rf_i27 t (rf_rd a3) (rf_rd a5) (rf_fe a7) p m (t p) m a3 b3 0)
    (k4 : ∀ s, s < m → b4 s = a4 s) (k4m : b4 m = nI 0) (k5 : ∀ s, s < m → b5 s = a5 s) (k5m : b5 m = nI (p + 1))
    (k6 : ∀ s, s < m → b6 s = a6 s) (k6m : b6 m = 1) (k7 : ∀ s, s < m → b7 s = a7 s) (k7m : b7 m = nI p) :
    rf_au t (p + 1) (m + 1) (nI m) b3 b4 b5 b6 b7 := by
  have hm : m ≤ 2 * p + 1 := hA.2.2.1
  obtain ⟨la, l1, l2, l3, l4⟩ := hA.2.1
  refine rf_fin1 hA hp hA.1.1 ?_ ?_ hi.2.2 k4 k4m k5 k5m k6 k6m k7 k7m
  · refine sa_caseA (la := la) hA.1 l1 l3 l4 (by omega) hc (fun s hs g => (hi.1 s hs g (by omega)).1) (fun s hs => rf_rd_c (k4 s hs)) (fun s hs => rf_rd_c (k5 s hs)) (fun s hs => rf_fe_c (k7 s hs))
      (rf_rd_e k4m (by omega)) (rf_rd_e k5m (by omega)) (rf_fe_e (by rw [k7m, nI_1]) (by omega)) (fun s hs g => rf_rd_e (hi.1 s hs g (by omega)).2 (by omega)) ?_ (fun d hd => rf_rd_e (v := 0) (hi.2.2 d hd) (by omega))
    intro s d hs hd g
    exact rf_rd_c (hi.2.1 s d hs hd (fun w => g ⟨w.1, w.2.1⟩))
  · intro s d hs hd
    by_cases g : d = t p ∧ sa_suf t (rf_rd a5) (rf_fe a7) p s ∧ 0 ≤ rf_rd a5 s
    · right
      rw [g.1]
      exact (hi.1 s hs g.2.1 (by omega)).2
    · exact Or.inl (hi.2.1 s d hs hd g)
theorem rf_finB {q x : Nat} (hA : rf_au t p m ls a3 a4 a5 a6 a7) (hp : p < 24) (hc : t p < 4) (hx : x < m) (gx : sa_suf t (rf_rd a5) (rf_fe a7) p x) (hxq : rf_rd a3 (4 * x + t p) = q) (hq0 : q ≠ 0) (hl : rf_rd a5 q = rf_rd a5 x + 1)
    (hi : rf_i27 t (rf_rd a3) (rf_rd a5) (rf_fe a7) p m (t p) m a3 b3 (rf_rd a5 x + 1))
    (k4 : ∀ s, s < m → b4 s = a4 s) (k4m : b4 m = nI q) (k5 : ∀ s, s < m → b5 s = a5 s) (k5m : b5 m = nI (p + 1))
    (k6 : ∀ s, s < m → b6 s = a6 s) (k6m : b6 m = 1) (k7 : ∀ s, s < m → b7 s = a7 s) (k7m : b7 m = nI p) :
    rf_au t (p + 1) (m + 1) (nI m) b3 b4 b5 b6 b7 := by
  have hm : m ≤ 2 * p + 1 := hA.2.2.1
  obtain ⟨la, l1, l2, l3, l4⟩ := hA.2.1
  have hq : q < m := by
    rw [← hxq]
    exact (rf_au3 hA (by omega) hx hc).2
  refine rf_fin1 hA hp hq ?_ ?_ hi.2.2 k4 k4m k5 k5m k6 k6m k7 k7m
  · refine sa_caseB (la := la) (x := x) (q := q) hA.1 l1 l3 l4 (by omega) hc hx gx hxq hq0 hl (fun s hs g g2 => (hi.1 s hs g g2).1) (fun s hs => rf_rd_c (k4 s hs)) (fun s hs => rf_rd_c (k5 s hs)) (fun s hs => rf_fe_c (k7 s hs))
      (rf_rd_e k4m (by omega)) (rf_rd_e k5m (by omega)) (rf_fe_e (by rw [k7m, nI_1]) (by omega)) (fun s hs g g2 => rf_rd_e (hi.1 s hs g g2).2 (by omega)) ?_ (fun d hd => rf_rd_e (v := 0) (hi.2.2 d hd) (by omega))
    intro s d hs hd g
    exact rf_rd_c (hi.2.1 s d hs hd g)
  · intro s d hs hd
    by_cases g : d = t p ∧ sa_suf t (rf_rd a5) (rf_fe a7) p s ∧ rf_rd a5 x + 1 ≤ rf_rd a5 s
    · right
      rw [g.1]
      exact (hi.1 s hs g.2.1 g.2.2).2
    · exact Or.inl (hi.2.1 s d hs hd g)
theorem rf_finC {q x : Nat} (hA : rf_au t p m ls a3 a4 a5 a6 a7) (hp : p < 24) (hc : t p < 4) (hx : x < m) (gx : sa_suf t (rf_rd a5) (rf_fe a7) p x) (hxq : rf_rd a3 (4 * x + t p) = q) (hq0 : q ≠ 0) (hl : rf_rd a5 x + 1 < rf_rd a5 q)
    (k30 : ∀ s, s < m → sa_suf t (rf_rd a5) (rf_fe a7) p s → rf_rd a5 x + 1 ≤ rf_rd a5 s → rf_rd a3 (4 * s + t p) = 0)
    (k3a : ∀ s, s < m → sa_suf t (rf_rd a5) (rf_fe a7) p s → rf_rd a5 x + 1 ≤ rf_rd a5 s → b3 (4 * s + t p) = nI m)
    (k3b : ∀ s, s < m → rf_rd a3 (4 * s + t p) = q → rf_rd a5 s ≤ rf_rd a5 x → b3 (4 * s + t p) = nI (m + 1))
    (k3c : ∀ s d, s < m → d < 4 → ¬ (d = t p ∧ sa_suf t (rf_rd a5) (rf_fe a7) p s ∧ rf_rd a5 x + 1 ≤ rf_rd a5 s) → ¬ (d = t p ∧ rf_rd a3 (4 * s + d) = q ∧ rf_rd a5 s ≤ rf_rd a5 x) → b3 (4 * s + d) = a3 (4 * s + d))
    (k3d : sa_suf t (rf_rd a5) (rf_fe a7) p q → b3 (4 * (m + 1) + t p) = nI m)
    (k3e : ∀ d, d < 4 → ¬ (d = t p ∧ sa_suf t (rf_rd a5) (rf_fe a7) p q) → b3 (4 * (m + 1) + d) = a3 (4 * q + d))
    (k3f : ∀ d, d < 4 → b3 (4 * m + d) = 0)
    (k4 : ∀ s, s < m → s ≠ q → b4 s = a4 s) (k4q : b4 q = nI (m + 1)) (k4k : b4 (m + 1) = a4 q) (k4m : b4 m = nI (m + 1))
    (k5 : ∀ s, s < m → b5 s = a5 s) (k5k : b5 (m + 1) = nI (rf_rd a5 x + 1)) (k5m : b5 m = nI (p + 1))
    (k6 : ∀ s, s < m → b6 s = a6 s) (k6k : b6 (m + 1) = 0) (k6m : b6 m = 1)
    (k7 : ∀ s, s < m → b7 s = a7 s) (k7k : b7 (m + 1) = a7 q) (k7m : b7 m = nI p) :
    rf_au t (p + 1) (m + 2) (nI m) b3 b4 b5 b6 b7 := by
  have hm : m ≤ 2 * p + 1 := hA.2.2.1
  have hS0 : 0 < m := hA.1.1
  obtain ⟨la, l1, l2, l3, l4⟩ := hA.2.1
  have hq : q < m := by
    rw [← hxq]
    exact (rf_au3 hA (by omega) hx hc).2
  have hlx := (rf_au5 hA (by omega) hx).2
  have hlq := (rf_au5 hA (by omega) hq).2
  have into : ∀ s d, s < m → d < 4 → rf_rd a3 (4 * s + d) = q → d = t p := fun s d hs hd e => (sa_into hA.1 hq0 hx hc hxq hs hd e).1
  have cs : ∀ s, s < m + 2 → s < m ∨ s = m ∨ s = m + 1 := fun s hs => by omega
  have hI : sa_inv t (p + 1) (fun s => (s < m ∨ s = m + 1) ∨ s = m) (rf_rd b3) (rf_rd b4) (rf_rd b5) (rf_fe b7) := by
    refine sa_caseC (la := la) (x := x) (q := q) (f := m) (k := m + 1) hA.1 l1 l3 l4 (by omega) (by omega) (by omega) hc hx gx hxq hq0 hl k30 (fun s hs g => rf_rd_c (k4 s hs g)) (rf_rd_e k4q (by omega)) ?_ (rf_rd_e k4m (by omega))
      (fun s hs => rf_rd_c (k5 s hs)) (rf_rd_e k5k (by omega)) (rf_rd_e k5m (by omega)) (fun s hs => rf_fe_c (k7 s hs)) ?_ (rf_fe_e (by rw [k7m, nI_1]) (by omega))
      (fun s hs g g2 => rf_rd_e (k3a s hs g g2) (by omega)) ?_ ?_ (fun g => rf_rd_e (k3d g) (by omega)) ?_ (fun d hd => rf_rd_e (v := 0) (k3f d hd) (by omega))
    · unfold rf_rd
      rw [k4k]
    · unfold rf_fe
      rw [k7k]
    · intro s d hs hd e1 e2
      have e3 := into s d hs hd e1
      rw [e3] at e1 ⊢
      exact rf_rd_e (k3b s hs e1 e2) (by omega)
    · intro s d hs hd g1 g2
      exact rf_rd_c (k3c s d hs hd g1 (fun w => g2 w.2))
    · intro d hd g
      have := k3e d hd g
      unfold rf_rd
      rw [this]
  obtain ⟨_, _, _, h3, h40, h4, h5, h7, h6, h6c⟩ := hA
  refine ⟨sa_inv_c hI (fun s => by constructor <;> intro <;> omega), ⟨m, by omega, rfl, rf_rd_e k5m (by omega), rf_fe_e (by rw [k7m, nI_1]) (by omega)⟩, by omega, ?_, by rw [k4 0 hS0 (fun z => hq0 z.symm), h40], ?_, ?_, ?_, ?_, ?_⟩
  · intro s d hs hd
    rcases cs s hs with g | g | g
    · by_cases w1 : d = t p ∧ sa_suf t (rf_rd a5) (rf_fe a7) p s ∧ rf_rd a5 x + 1 ≤ rf_rd a5 s
      · rw [w1.1]
        exact ⟨m, by omega, k3a s g w1.2.1 w1.2.2⟩
      · by_cases w2 : d = t p ∧ rf_rd a3 (4 * s + d) = q ∧ rf_rd a5 s ≤ rf_rd a5 x
        · obtain ⟨u1, u2, u3⟩ := w2
          rw [u1] at u2 ⊢
          exact ⟨m + 1, by omega, k3b s g u2 u3⟩
        · obtain ⟨v, hv, e'⟩ := h3 s d g hd
          exact ⟨v, by omega, by rw [k3c s d g hd w1 w2, e']⟩
    · rw [g]
      exact ⟨0, by omega, k3f d hd⟩
    · rw [g]
      by_cases w : d = t p ∧ sa_suf t (rf_rd a5) (rf_fe a7) p q
      · rw [w.1]
        exact ⟨m, by omega, k3d w.2⟩
      · obtain ⟨v, hv, e'⟩ := h3 q d hq hd
        exact ⟨v, by omega, by rw [k3e d hd w, e']⟩
  · intro s h0 hs
    rcases cs s hs with g | g | g
    · by_cases e : s = q
      · rw [e]
        exact ⟨m + 1, by omega, k4q⟩
      · obtain ⟨v, hv, e'⟩ := h4 s h0 g
        exact ⟨v, by omega, by rw [k4 s g e, e']⟩
    · rw [g]
      exact ⟨m + 1, by omega, k4m⟩
    · rw [g]
      obtain ⟨v, hv, e'⟩ := h4 q (by omega) hq
      exact ⟨v, by omega, by rw [k4k, e']⟩
  · intro s hs
    rcases cs s hs with g | g | g
    · obtain ⟨v, hv, e⟩ := h5 s g
      exact ⟨v, by omega, by rw [k5 s g, e]⟩
    · rw [g]
      exact ⟨p + 1, by omega, k5m⟩
    · rw [g]
      exact ⟨rf_rd a5 x + 1, by omega, k5k⟩
  · intro s hs
    rcases cs s hs with g | g | g
    · obtain ⟨v, hv, e⟩ := h7 s g
      exact ⟨v, by omega, by rw [k7 s g, e]⟩
    · rw [g]
      exact ⟨p + 1, by omega, by rw [k7m, nI_1]⟩
    · rw [g]
      obtain ⟨v, hv, e⟩ := h7 q hq
      exact ⟨v, by omega, by rw [k7k, e]⟩
  · intro s hs
    rcases cs s hs with g | g | g
    · rw [k6 s g]
      exact h6 s g
    · rw [g]
      exact Or.inr k6m
    · rw [g]
      exact Or.inl k6k
  · intro s h0 hs
    rcases cs s hs with g | g | g
    · rcases h6c s h0 g with e | ⟨r, r1, r2, r3⟩
      · left
        rw [k6 s g, e]
      · right
        by_cases e : r = q
        · refine ⟨m + 1, by omega, by omega, ?_⟩
          rw [← r3, e]
          unfold rf_rd
          rw [k4k]
        · exact ⟨r, r1, by omega, by rw [rf_rd_c (k4 r r2 e), r3]⟩
    · left
      rw [g, k6m]
    · right
      rw [g]
      exact ⟨q, by omega, by omega, rf_rd_e k4q (by omega)⟩
end
end
section
/-! extend as a whole -/
section
variable {post : St1 → Prop} {tl pl bu ra ls : Int32} {a1 a2 a3 a4 a5 a6 a7 a8 a9 : Nat → Int32} {t : Nat → Nat} {p m : Nat}
theorem rf_up {a : Nat → Int32} {k j : Nat} {v : Int32} (h : j < k) : upd a k v j = a j := pk_un (by omega)
theorem rf_71 {b : Nat → Int32} {x4 : Int32} {lo : Nat} (hA : rf_au t p m ls a3 a4 a5 a6 a7) (hp : p < 24) (hc : t p < 4)
    (H : ∀ m' ls' b3 b4 b5 b6 b7, rf_au t (p + 1) m' ls' b3 b4 b5 b6 b7 → post (tl, pl, bu, nI m', ls', ra, a1, a2, b3, b4, b5, b6, b7, a8, a9))
    (hcur : rf_cur t (rf_rd a5) (rf_fe a7) p m x4 lo) (hi : rf_i27 t (rf_rd a3) (rf_rd a5) (rf_fe a7) p m (t p) m a3 b lo) (hx4 : ∀ x, x < m → x4 = nI x → rf_rd a3 (4 * x + t p) ≠ 0) :
    wX_extend_71 post (nI (t p)) (nI m) x4 tl pl bu (nI (m + 1)) (nI m) ra a1 a2 b (upd a4 m (-1)) (upd a5 m (nI (p + 1))) (upd (upd a6 m 0) m 1) (upd a7 m (nI p)) a8 a9 := by
  have hm : m ≤ 2 * p + 1 := hA.2.2.1
  have h6 : ∀ s, s < m → upd (upd a6 m 0) m 1 s = a6 s := fun s hs => by rw [rf_up hs, rf_up hs]
  unfold wX_extend_71
  rcases hcur with ⟨e1, e2⟩ | ⟨x, hx, gx, e1, e2⟩
  · subst e2
    rw [e1]
    refine br_f (by decide) ⟨pk_in m 50 (by omega), nm_r (e' := upd (upd a4 m (-1)) m (nI 0)) (by rw [nI_clamp (by omega)]; rfl) (H (m + 1) (nI m) _ _ _ _ _ ?_)⟩
    exact rf_finA hA hp hc hi (fun s hs => by rw [rf_up hs, rf_up hs]) pk_us (fun s hs => rf_up hs) pk_us h6 pk_us (fun s hs => rf_up hs) pk_us
  · have hq0 := hx4 x hx e1
    obtain ⟨q, hxq⟩ : ∃ q, rf_rd a3 (4 * x + t p) = q := ⟨_, rfl⟩
    rw [hxq] at hq0
    obtain ⟨k31, k32⟩ := rf_au3 hA (by omega) hx hc
    rw [hxq] at k31 k32
    obtain ⟨k5x, k5xl⟩ := rf_au5 hA (by omega) hx
    obtain ⟨k5q, k5ql⟩ := rf_au5 hA (by omega) k32
    subst e2
    rw [e1]
    have hbx : b (4 * x + t p) = nI q := by
      rw [hi.2.1 x (t p) hx hc (fun z => by have := z.2.2; omega), k31]
    have e5x : upd a5 m (nI (p + 1)) (nI x).toNatClampNeg + 1 = nI (rf_rd a5 x + 1) := by
      rw [nI_clamp (by omega), rf_up hx, k5x, nI_1]
    have e5q : upd a5 m (nI (p + 1)) (nI q).toNatClampNeg = nI (rf_rd a5 q) := by
      rw [nI_clamp (by omega), rf_up k32, k5q]
    have hge := (sa_xq hA.1 hq0 hx gx hc rfl hxq).2.1
    refine br_t (nI_pos' (by omega)) ⟨pk_in (4 * x + t p) 200 (by omega) (rf_ix x (t p)), nm_r (e' := nI q) (by rw [rf_ixc (by omega), hbx]) ⟨pk_in q 50 (by omega), pk_in x 50 (by omega), ?_⟩⟩
    rw [e5x, e5q]
    refine pk_eq (rf_rd a5 q) (rf_rd a5 x + 1) (fun hl => ⟨pk_in m 50 (by omega), nm_r (e' := upd (upd a4 m (-1)) m (nI q)) (by rw [nI_clamp (by omega), tb_byte q (by omega)]) (H (m + 1) (nI m) _ _ _ _ _ ?_)⟩) (fun hl => ⟨pk_in x 50 (by omega), ?_⟩)
    · exact rf_finB hA hp hc hx gx hxq hq0 hl hi (fun s hs => by rw [rf_up hs, rf_up hs]) pk_us (fun s hs => rf_up hs) pk_us h6 pk_us (fun s hs => rf_up hs) pk_us
    · have hl2 : rf_rd a5 x + 1 < rf_rd a5 q := by omega
      have hbq : ∀ d, d < 4 → ∃ v, v < 128 ∧ b (4 * q + d) = nI v := by
        intro d hd
        by_cases g : d = t p ∧ sa_suf t (rf_rd a5) (rf_fe a7) p q ∧ rf_rd a5 x + 1 ≤ rf_rd a5 q
        · refine ⟨m, by omega, ?_⟩
          rw [g.1]
          exact (hi.1 q k32 g.2.1 g.2.2).2
        · rw [hi.2.1 q d k32 hd g]
          obtain ⟨u1, u2⟩ := rf_au3 hA (by omega) k32 hd
          exact ⟨_, by omega, u1⟩
      refine rf_split (by omega) (by omega) (by omega) hbq (fun b2 hr hb2 => ?_)
      dsimp only
      obtain ⟨k41, k42⟩ := rf_au4 hA (by omega) (by omega : 0 < q) k32
      have c5 : (nI (rf_rd a5 x + 1)).toInt8.toInt32 = nI (rf_rd a5 x + 1) := tb_byte _ (by omega)
      have c7 : (a7 q).toInt8.toInt32 = a7 q := by
        obtain ⟨u1, u2⟩ := rf_au7 hA (by omega) k32
        have u3 : 0 < rf_fe a7 q := by
          have := (hA.1.2.2.1 q k32).1
          omega
        obtain ⟨v, hv⟩ : ∃ v, rf_fe a7 q = v + 1 := ⟨rf_fe a7 q - 1, by omega⟩
        rw [hv, ← nI_1] at u1
        have u4 : a7 q = nI v := by
          have := congrArg (fun z => z - 1) u1
          simpa using this
        rw [u4]
        exact tb_byte v (by omega)
      refine rf_l143 (t := t) (nx := rf_rd a3) (lk := rf_rd a4) (ln := rf_rd a5) (fe := rf_fe a7) (p := p) (m := m) (x := x) (b0 := b2) hA.1 (by omega) hc (by omega) (by omega) (by omega) ?_ ?_ ?_ ?_ (rf_rd a5 x + 1) (rf_rd a5 x + 1) (nI x) b2 (by omega) (by omega) (Or.inr ⟨x, hx, gx, rfl, rfl⟩) ⟨fun s hs _ g1 g2 => absurd g1 (by omega), fun s d _ _ _ => rfl⟩
      · rw [pk_un (by omega), pk_un (by omega), pk_un (by omega), rf_up hA.1.1]
        exact hA.2.2.2.2.1
      · intro s h0 hs hls
        rw [pk_un (by intro z; rw [z] at hls; omega), pk_un (by omega), pk_un (by omega), rf_up hs]
        exact (rf_au4 hA (by omega) h0 hs).1
      · intro s hs hls
        obtain ⟨u1, u2⟩ := rf_au3 hA (by omega) hs hc
        rw [hb2 _ (by omega), hi.2.1 s (t p) hs hc (fun w => by have := w.2.2; omega)]
        exact ⟨u1, by omega⟩
      · intro x4' b3 lo' hcur' hlo' hi' hend
        have hdone : ∀ s, s < m → rf_rd a3 (4 * s + t p) = q → rf_rd a5 s ≤ rf_rd a5 x → sa_suf t (rf_rd a5) (rf_fe a7) p s ∧ lo' ≤ rf_rd a5 s := by
          intro s hs e3 hls
          have gs := sa_into_suf hA.1 hq0 hx gx hc hxq hs e3 hls
          refine ⟨gs, ?_⟩
          rcases hcur' with ⟨f1, f2⟩ | ⟨y, hy, gy, f1, f2⟩
          · omega
          · rcases Nat.lt_or_ge (rf_rd a5 s) lo' with w | w
            · exact absurd (sa_into_mid hA.1 hq0 hx gx hc hxq hs e3 hy gy (by omega) (by omega)) (hend y hy f1)
            · exact w
        refine H (m + 2) (nI m) _ _ _ _ _ ?_
        have far : ∀ s d, s < m → d < 4 → 4 * s + d < 4 * (m + 1) ∨ 4 * (m + 1) + 4 ≤ 4 * s + d := fun s d hs hd => by omega
        refine rf_finC (q := q) (x := x) hA hp hc hx gx hxq hq0 hl2 (fun s hs g g2 => (hi.1 s hs g g2).1) ?_ ?_ ?_ ?_ ?_ ?_ ?_ ?_ ?_ ?_ ?_ ?_ ?_ ?_ ?_ ?_ ?_ ?_ ?_
        · intro s hs g g2
          rw [hi'.2 s (t p) (by omega) hc (fun w => by have := w.2.2.2.2; omega), hb2 _ (far s _ hs hc)]
          exact (hi.1 s hs g g2).2
        · intro s hs e3 hls
          obtain ⟨u1, u2⟩ := hdone s hs e3 hls
          exact (hi'.1 s hs u1 u2 hls).2
        · intro s d hs hd g g2
          rw [hi'.2 s d (by omega) hd (fun w => g2 ⟨w.2.1, by rw [w.2.1]; exact (hi'.1 s hs w.2.2.1 w.2.2.2.1 w.2.2.2.2).1, w.2.2.2.2⟩), hb2 _ (far s d hs hd)]
          exact hi.2.1 s d hs hd g
        · intro g
          rw [hi'.2 (m + 1) (t p) (by omega) hc (fun w => by have := w.1; omega), hr (t p) hc]
          exact (hi.1 q k32 g (by omega)).2
        · intro d hd g
          rw [hi'.2 (m + 1) d (by omega) hd (fun w => by have := w.1; omega), hr d hd]
          exact hi.2.1 q d k32 hd (fun w => g ⟨w.1, w.2.1⟩)
        · intro d hd
          rw [hi'.2 m d (by omega) hd (fun w => by have := w.1; omega), hb2 _ (by omega)]
          exact hi.2.2 d hd
        · intro s hs hsq
          rw [rf_up hs, pk_un hsq, rf_up (by omega), rf_up (by omega), rf_up hs]
        · rw [rf_up k32, pk_us]
        · rw [pk_un (by omega), pk_un (by omega), pk_us, rf_up k32, k41, tb_nb (by omega)]
        · rw [pk_us]
        · intro s hs
          rw [rf_up (by omega), rf_up hs]
        · rw [pk_us, c5]
        · rw [rf_up (by omega), pk_us]
        · intro s hs
          rw [rf_up (by omega), h6 s hs]
        · rw [pk_us]
        · rw [rf_up (by omega), pk_us]
        · intro s hs
          rw [rf_up (by omega), rf_up hs]
        · rw [pk_us, rf_up k32, c7]
        · rw [rf_up (by omega), pk_us]
theorem rf_extend (hA : rf_au t p m ls a3 a4 a5 a6 a7) (hp : p < 24) (hc : t p < 4)
    (H : ∀ m' ls' b3 b4 b5 b6 b7, rf_au t (p + 1) m' ls' b3 b4 b5 b6 b7 → post (tl, pl, bu, nI m', ls', ra, a1, a2, b3, b4, b5, b6, b7, a8, a9)) :
    wpX_extend post (tl, pl, bu, nI m, ls, ra, a1, a2, a3, a4, a5, a6, a7, a8, a9) (nI (t p)) (nI p) := by
  have hm : m ≤ 2 * p + 1 := hA.2.2.1
  obtain ⟨la, l1, l2, l3, l4⟩ := hA.2.1
  unfold wpX_extend
  dsimp only
  rw [nI_1 p]
  refine rf_new (by omega) (fun b hb0 hb => ?_)
  dsimp only
  refine ⟨pk_in m 50 (by omega), nm_r (e' := upd (upd a6 m 0) m 1) (by rw [nI_clamp (by omega)]) ?_⟩
  rw [tb_byte (p + 1) (by omega), tb_byte p (by omega), l2]
  refine rf_l27 (t := t) (nx := rf_rd a3) (lk := rf_rd a4) (ln := rf_rd a5) (fe := rf_fe a7) (p := p) (m := m) (a3 := a3) hA.1 (by omega) hc (by omega) ?_ ?_ ?_ ?_ (p + 1) (p + 1) (nI la) b (by omega) (Or.inr ⟨la, l1, by unfold sa_suf; rw [l4], rfl, by rw [l3]⟩) ⟨?_, ?_, ?_⟩
  · rw [rf_up hA.1.1]
    exact hA.2.2.2.2.1
  · intro s h0 hs
    rw [rf_up hs]
    exact (rf_au4 hA (by omega) h0 hs).1
  · intro s d hs hd
    obtain ⟨u1, u2⟩ := rf_au3 hA (by omega) hs hd
    exact ⟨u1, by omega⟩
  · intro x4 b' lo hcur hi hx4
    exact rf_71 hA hp hc H hcur hi hx4
  · intro s hs g g2
    have := (rf_au5 hA (by omega) hs).2
    omega
  · intro s d hs hd _
    exact hb _ (by omega)
  · exact hb0
end
end
section
/-! orderByLength: an insertion sort of the states by length -/
def rf_pm (i : Nat) (ln : Nat → Nat) (b : Nat → Int32) : Prop :=
  (∀ j, j < i → ∃ v, v < i ∧ b j = nI v) ∧ (∀ j j', j < i → j' < i → b j = b j' → j = j') ∧ (∀ s, s < i → ∃ j, j < i ∧ b j = nI s) ∧
  (∀ j j', j < j' → j' < i → ln (rf_rd b j) ≤ ln (rf_rd b j'))
theorem rf_rd_c2 {a b : Nat → Int32} {j k : Nat} (h : a j = b k) : rf_rd a j = rf_rd b k := by
  unfold rf_rd
  rw [h]
def rf_ins (ln : Nat → Nat) (i k : Nat) (b0 b : Nat → Int32) : Prop :=
  k ≤ i ∧ (∀ j, j < k → b j = b0 j) ∧ b k = nI i ∧ (∀ j, k < j → j ≤ i → b j = b0 (j - 1)) ∧
  (∀ j, j < k → ln (rf_rd b0 j) ≤ ln i) ∧ (∀ j, k ≤ j → j < i → ln i < ln (rf_rd b0 j))
theorem rf_pm_s {ln : Nat → Nat} {i k : Nat} {b0 b : Nat → Int32} (hi : i < 50) (h : rf_pm i ln b0) (g : rf_ins ln i k b0 b) : rf_pm (i + 1) ln b := by
  obtain ⟨h1, h2, h3, h4⟩ := h
  obtain ⟨g1, g2, g3, g4, g5, g6⟩ := g
  have cs : ∀ j, j < i + 1 → j = k ∨ ∃ j0, j0 < i ∧ b j = b0 j0 ∧ ((j < k ∧ j0 = j) ∨ (k < j ∧ j = j0 + 1)) := by
    intro j hj
    rcases Nat.lt_trichotomy j k with e | e | e
    · exact Or.inr ⟨j, by omega, g2 j e, Or.inl ⟨e, rfl⟩⟩
    · exact Or.inl e
    · exact Or.inr ⟨j - 1, by omega, g4 j e (by omega), Or.inr ⟨e, by omega⟩⟩
  have ne : ∀ j0, j0 < i → b0 j0 ≠ nI i := by
    intro j0 hj0 z
    obtain ⟨v, hv, e⟩ := h1 j0 hj0
    rw [e, nI_eq (by omega) (by omega)] at z
    omega
  refine ⟨?_, ?_, ?_, ?_⟩
  · intro j hj
    rcases cs j hj with e | ⟨j0, e1, e2, _⟩
    · exact ⟨i, by omega, by rw [e, g3]⟩
    · obtain ⟨v, hv, e⟩ := h1 j0 e1
      exact ⟨v, by omega, by rw [e2, e]⟩
  · intro j j' hj hj' e
    rcases cs j hj with c | ⟨j0, c1, c2, c3⟩
    · rcases cs j' hj' with c' | ⟨j0', c1', c2', c3'⟩
      · omega
      · rw [c, g3, c2'] at e
        exact absurd e.symm (ne j0' c1')
    · rcases cs j' hj' with c' | ⟨j0', c1', c2', c3'⟩
      · rw [c', g3, c2] at e
        exact absurd e (ne j0 c1)
      · rw [c2, c2'] at e
        have := h2 j0 j0' c1 c1' e
        omega
  · intro s hs
    by_cases e : s = i
    · exact ⟨k, by omega, by rw [g3, e]⟩
    · obtain ⟨j, hj, e'⟩ := h3 s (by omega)
      rcases Nat.lt_or_ge j k with z | z
      · exact ⟨j, by omega, by rw [g2 j z, e']⟩
      · exact ⟨j + 1, by omega, by rw [g4 (j + 1) (by omega) (by omega), Nat.add_sub_cancel, e']⟩
  · intro j j' hjj hj'
    rcases cs j (by omega) with c | ⟨j0, c1, c2, c3⟩
    · rcases cs j' hj' with c' | ⟨j0', c1', c2', c3'⟩
      · omega
      · rw [c, rf_rd_e g3 (by omega), rf_rd_c2 c2']
        exact Nat.le_of_lt (g6 j0' (by omega) c1')
    · rcases cs j' hj' with c' | ⟨j0', c1', c2', c3'⟩
      · rw [c', rf_rd_e g3 (by omega), rf_rd_c2 c2]
        exact g5 j0 (by omega)
      · rw [rf_rd_c2 c2, rf_rd_c2 c2']
        exact h4 j0 j0' (by omega) c1'
section
variable {post : St1 → Prop} {tl pl bu ls ra : Int32} {a1 a2 a3 a4 a5 a6 a7 a8 a9 : Nat → Int32} {m : Nat}
theorem rf_o12 {J2 : Int32 → (Nat → Int32) → (Nat → Int32) → (Nat → Int32) → (Nat → Int32) → (Nat → Int32) → (Nat → Int32) → (Nat → Int32) → (Nat → Int32) → (Nat → Int32) → Prop} {i : Nat} {b0 : Nat → Int32}
    (hm : m ≤ 49) (hi : i < m) (h5 : ∀ s, s < m → a5 s = nI (rf_rd a5 s) ∧ rf_rd a5 s ≤ 24) (h : rf_pm i (rf_rd a5) b0)
    (H : ∀ k b, rf_ins (rf_rd a5) i k b0 b → J2 (nI (i + 1)) a1 a2 a3 a4 a5 a6 a7 a8 b) :
    ∀ k b, k ≤ i → (∀ j, j < k → b j = b0 j) → (∀ j, k < j → j ≤ i → b j = b0 (j - 1)) → (∀ j, k ≤ j → j < i → rf_rd a5 i < rf_rd a5 (rf_rd b0 j)) →
      ∃ n, wX_orderByLength_12 post J2 (nI i) tl pl bu (nI m) ls ra n (nI k) a1 a2 a3 a4 a5 a6 a7 a8 b := by
  have hout : ∀ k b, k ≤ i → (∀ j, j < k → b j = b0 j) → (∀ j, k < j → j ≤ i → b j = b0 (j - 1)) → (∀ j, k ≤ j → j < i → rf_rd a5 i < rf_rd a5 (rf_rd b0 j)) →
      (∀ j, j < k → rf_rd a5 (rf_rd b0 j) ≤ rf_rd a5 i) → wX_orderByLength_58 post J2 (nI i) (nI k) tl pl bu (nI m) ls ra a1 a2 a3 a4 a5 a6 a7 a8 b := by
    intro k b hk g1 g2 g3 g4
    refine ⟨pk_in k 50 (by omega), nm_r (e' := upd b k (nI i)) (by rw [nI_clamp (by omega), tb_byte i (by omega)]) (nm_r (nI_1 i) (H k _ ⟨hk, ?_, pk_us, ?_, g4, g3⟩))⟩
    · intro j hj
      rw [pk_un (by omega)]
      exact g1 j hj
    · intro j hj hj2
      rw [pk_un (by omega)]
      exact g2 j hj hj2
  intro k
  induction k with
  | zero =>
    intro b hk g1 g2 g3
    exact ⟨1, pk_le 0 0 (fun _ => hout 0 b hk g1 g2 g3 (fun j hj => absurd hj (by omega))) (fun z => absurd z (by omega))⟩
  | succ k ih =>
    intro b hk g1 g2 g3
    obtain ⟨v, hv, ev⟩ := h.1 k (by omega)
    have ebk : b k = nI v := by rw [g1 k (by omega), ev]
    obtain ⟨lv, lv2⟩ := h5 v (by omega)
    obtain ⟨li, li2⟩ := h5 i hi
    have ek : nI (k + 1) - 1 = nI k := nI_pred k
    have hcmp : ∀ A B : Prop, (rf_rd a5 v ≤ rf_rd a5 i → A) → (rf_rd a5 i < rf_rd a5 v → B) → (a5 (b (nI (k + 1) - 1).toNatClampNeg).toNatClampNeg ≤ a5 (nI i).toNatClampNeg → A) ∧ (¬ a5 (b (nI (k + 1) - 1).toNatClampNeg).toNatClampNeg ≤ a5 (nI i).toNatClampNeg → B) := by
      intro A B f g
      refine pk_le (rf_rd a5 v) (rf_rd a5 i) f g ?_ ?_
      · rw [ek, nI_clamp (by omega), ebk, nI_clamp (by omega), lv]
      · rw [nI_clamp (by omega), li]
    by_cases z : rf_rd a5 v ≤ rf_rd a5 i
    · refine ⟨1, pk_le (k + 1) 0 (fun z => absurd z (by omega)) (fun _ => ⟨pk_in k 50 (by omega) ek, pk_in v 50 (by omega) (by rw [ek, nI_clamp (by omega), ebk]), pk_in i 50 (by omega), hcmp _ _ (fun _ => hout (k + 1) b hk g1 g2 g3 ?_) (fun w => absurd w (by omega))⟩)⟩
      intro j hj
      have : rf_rd b0 k = v := rf_rd_e ev (by omega)
      by_cases e : j = k
      · rw [e, this]
        exact z
      · have h9 := h.2.2.2 j k (by omega) (by omega)
        rw [this] at h9
        omega
    · obtain ⟨n, hn⟩ := ih (upd b (k + 1) (nI v)) (by omega) (by
        intro j hj
        rw [pk_un (by omega)]
        exact g1 j (by omega)) (by
        intro j hj hj2
        by_cases e : j = k + 1
        · rw [e, pk_us, Nat.add_sub_cancel, ev]
        · rw [pk_un (by omega)]
          exact g2 j (by omega) hj2) (by
        intro j hj hj2
        by_cases e : j = k
        · rw [e, rf_rd_e ev (by omega)]
          omega
        · exact g3 j (by omega) hj2)
      refine ⟨n + 1, pk_le (k + 1) 0 (fun z => absurd z (by omega)) (fun _ => ⟨pk_in k 50 (by omega) ek, pk_in v 50 (by omega) (by rw [ek, nI_clamp (by omega), ebk]), pk_in i 50 (by omega), hcmp _ _ (fun w => absurd w z) (fun _ => ⟨pk_in k 50 (by omega) ek, pk_in (k + 1) 50 (by omega), nm_r (e' := upd b (k + 1) (nI v)) ?_ (nm_r (pk_m1 k) hn)⟩)⟩)⟩
      rw [ek, nI_clamp (show k < 2 ^ 31 by omega), nI_clamp (show k + 1 < 2 ^ 31 by omega), ebk, tb_nb (by omega)]
theorem rf_order (hm : m ≤ 49) (h5 : ∀ s, s < m → a5 s = nI (rf_rd a5 s) ∧ rf_rd a5 s ≤ 24)
    (H : ∀ b, rf_pm m (rf_rd a5) b → post (tl, pl, bu, nI m, ls, ra, a1, a2, a3, a4, a5, a6, a7, a8, b)) :
    wpX_orderByLength post (tl, pl, bu, nI m, ls, ra, a1, a2, a3, a4, a5, a6, a7, a8, a9) := by
  unfold wpX_orderByLength
  dsimp only
  refine pk_loop (fun n i s => wX_orderByLength_2 post tl pl bu (nI m) ls ra n (nI i) a1 a2 a3 a4 a5 a6 a7 a8 s) (fun i s => rf_pm i (rf_rd a5) s) m 0 a9 (by omega)
    ⟨fun j hj => absurd hj (by omega), fun j j' hj => absurd hj (by omega), fun s hs => absurd hs (by omega), fun j j' hj hj' => absurd hj' (by omega)⟩ ?_ ?_
  · intro n s h
    exact pk_le m m (fun _ => H s h) (fun z => absurd z (by omega))
  · intro n i s hi h hw
    refine pk_le m i (fun z => absurd z (by omega)) (fun _ => ?_)
    exact rf_o12 hm hi h5 h (fun k b g => hw b (rf_pm_s (by omega) h g)) i s (by omega) (fun j _ => rfl) (fun j hj hj2 => absurd hj2 (by omega)) (fun j hj hj2 => absurd hj2 (by omega))
end
end
section
/-! countTimes and countWords -/
def rf_sm (f : Nat → Nat) : Nat → Nat
  | 0 => 0
  | n + 1 => rf_sm f n + f n
theorem rf_sm_le {f : Nat → Nat} : ∀ {n j : Nat}, j < n → f j ≤ rf_sm f n
  | 0, _, h => absurd h (by omega)
  | n + 1, j, h => by
    show f j ≤ rf_sm f n + f n
    by_cases e : j = n
    · rw [e]
      omega
    · have := rf_sm_le (f := f) (n := n) (j := j) (by omega)
      omega
theorem rf_sm_1 {f : Nat → Nat} : ∀ {n : Nat}, (∀ j, j < n → f j ≤ 1) → rf_sm f n ≤ n
  | 0, _ => Nat.le_refl _
  | n + 1, h => by
    show rf_sm f n + f n ≤ n + 1
    have := rf_sm_1 (f := f) (n := n) (fun j hj => h j (by omega))
    have := h n (by omega)
    omega
theorem rf_sm_c {f g : Nat → Nat} : ∀ {n : Nat}, (∀ j, j < n → g j = f j) → rf_sm g n = rf_sm f n
  | 0, _ => rfl
  | n + 1, h => by
    show rf_sm g n + g n = rf_sm f n + f n
    rw [rf_sm_c (f := f) (g := g) (n := n) (fun j hj => h j (by omega)), h n (by omega)]
theorem rf_sm_u {f g : Nat → Nat} {v j0 : Nat} : ∀ {n : Nat}, j0 < n → (∀ j, j < n → j ≠ j0 → g j = f j) → g j0 = f j0 + v → rf_sm g n = rf_sm f n + v
  | 0, h, _, _ => absurd h (by omega)
  | n + 1, h, h1, h2 => by
    show rf_sm g n + g n = rf_sm f n + f n + v
    by_cases e : j0 = n
    · subst e
      rw [rf_sm_c (f := f) (g := g) (fun j hj => h1 j (by omega) (by omega)), h2]
      omega
    · rw [rf_sm_u (f := f) (g := g) (v := v) (n := n) (by omega) (fun j hj => h1 j (by omega)) h2, h1 n (by omega) (by omega)]
      omega
section
variable {post : St1 → Prop} {tl pl bu ls ls0 ra : Int32} {a1 a2 a3 a4 a5 a6 a7 a8 a9 c6 : Nat → Int32} {t : Nat → Nat} {p m : Nat}
/-- what a sorted row of states gives -/
theorem rf_pm_get {ln : Nat → Nat} (hm : m ≤ 49) (h : rf_pm m ln a9) {j : Nat} (hj : j < m) : a9 j = nI (rf_rd a9 j) ∧ rf_rd a9 j < m := by
  obtain ⟨v, hv, e⟩ := h.1 j hj
  rw [rf_rd_e e (by omega)]
  exact ⟨e, hv⟩
theorem rf_pm_pos {ln : Nat → Nat} (hm : m ≤ 49) (h : rf_pm m ln a9) {s : Nat} (hs : s < m) : ∃ j, j < m ∧ rf_rd a9 j = s := by
  obtain ⟨j, hj, e⟩ := h.2.2.1 s hs
  exact ⟨j, hj, rf_rd_e e (by omega)⟩
theorem rf_pm_inj {ln : Nat → Nat} (hm : m ≤ 49) (h : rf_pm m ln a9) {j j' : Nat} (hj : j < m) (hj' : j' < m) (e : rf_rd a9 j = rf_rd a9 j') : j = j' := by
  refine h.2.1 j j' hj hj' ?_
  rw [(rf_pm_get hm h hj).1, (rf_pm_get hm h hj').1, e]
theorem rf_pm_lt {ln : Nat → Nat} (h : rf_pm m ln a9) {j j' : Nat} (hj : j < m) (_hj' : j' < m) (e : ln (rf_rd a9 j) < ln (rf_rd a9 j')) : j < j' := by
  rcases Nat.lt_trichotomy j j' with z | z | z
  · exact z
  · rw [z] at e
    omega
  · have := h.2.2.2 j' j z hj
    omega
theorem rf_times (hA : rf_au t p m ls0 a3 a4 a5 a6 a7) (hp : p ≤ 24) (h9 : rf_pm m (rf_rd a5) a9)
    (H : ∀ b, (∀ s, 0 < s → s < m → ∃ v, 1 ≤ v ∧ v ≤ 49 ∧ b s = nI v) → post (tl, pl, bu, nI m, ls, ra, a1, a2, a3, a4, a5, b, a7, a8, a9)) :
    wpX_countTimes post (tl, pl, bu, nI m, ls, ra, a1, a2, a3, a4, a5, a6, a7, a8, a9) := by
  have hm : m ≤ 49 := by
    have := hA.2.2.1
    omega
  have hm0 : 0 < m := hA.1.1
  have hinv := hA.1
  have hinv2 := hA.1
  obtain ⟨_, hl0, _, hlk, _, _, _⟩ := hinv2
  obtain ⟨_, _, _, _, _, _, _, _, h6, h6c⟩ := id hA
  have h01 : ∀ s, s < m → rf_rd a6 s ≤ 1 := by
    intro s hs
    rcases h6 s hs with e | e
    · rw [rf_rd_e (v := 0) e (by omega)]
      omega
    · rw [rf_rd_e (v := 1) e (by omega)]
      omega
  unfold wpX_countTimes
  dsimp only
  refine nm_r (e' := nI (m - 1)) (by rw [show (1 : Int32) = nI 1 from rfl, pk_sub hm0]) ⟨m - 1 + 1, ?_⟩
  refine pk_loopD (fun n i s => wX_countTimes_7 post tl pl bu (nI m) ls ra n (nI i) a1 a2 a3 a4 a5 s a7 a8 a9)
    (fun i s => i < m ∧ (∀ r, r < m → ∃ v, v ≤ 49 ∧ s r = nI v) ∧ rf_sm (fun j => rf_rd s (rf_rd a9 j)) (i + 1) ≤ m ∧ (∀ r, r < m → a6 r = 1 → 1 ≤ rf_rd s r) ∧ (∀ j, i < j → j < m → 1 ≤ rf_rd s (rf_rd a9 j) ∧ 1 ≤ rf_rd s (rf_rd a4 (rf_rd a9 j)))) ?_ ?_ (m - 1) a6 ⟨by omega, ?_, ?_, ?_, ?_⟩
  · intro n s ⟨_, i1, _, _, i4⟩
    refine pk_le 0 0 (fun _ => H s ?_) (fun z => absurd z (by omega))
    intro r h0 hr
    obtain ⟨v, hv, ev⟩ := i1 r hr
    obtain ⟨j, hj, ej⟩ := rf_pm_pos hm h9 hr
    have hj0 : 0 < j := by
      rcases Nat.eq_zero_or_pos j with z | z
      · exfalso
        obtain ⟨j2, hj2, ej2⟩ := rf_pm_pos hm h9 hm0
        have hr0 := (hlk r hr (by omega)).2.1
        have := rf_pm_lt h9 hj2 hj (by rw [ej2, ej, hl0]; omega)
        omega
      · exact z
    have := (i4 j hj0 hj).1
    rw [ej, rf_rd_e ev (by omega)] at this
    exact ⟨v, this, hv, ev⟩
  · intro n i s ⟨i0, i1, i2, i3, i4⟩ hw
    obtain ⟨e9, l9⟩ := rf_pm_get hm h9 i0
    obtain ⟨q, hq⟩ : ∃ q, rf_rd a9 (i + 1) = q := ⟨_, rfl⟩
    rw [hq] at e9 l9
    have hq0 : q ≠ 0 := by
      intro z
      obtain ⟨j2, hj2, ej2⟩ : ∃ j2, j2 < m ∧ j2 = 0 := ⟨0, hm0, rfl⟩
      obtain ⟨e90, l90⟩ := rf_pm_get hm h9 hm0
      have hle := h9.2.2.2 0 (i + 1) (by omega) i0
      rw [hq, z, hl0] at hle
      have z0 := sa_zero hinv l90 (by omega)
      have := rf_pm_inj hm h9 hm0 i0 (by rw [z0, hq, z])
      omega
    obtain ⟨e4, l4⟩ := rf_au4 hA hp (by omega : 0 < q) l9
    obtain ⟨k1, k2, k3⟩ := hlk q l9 hq0
    obtain ⟨r, hr⟩ : ∃ r, rf_rd a4 q = r := ⟨_, rfl⟩
    rw [hr] at e4 l4 k2
    obtain ⟨vq, hvq, evq⟩ := i1 q l9
    obtain ⟨vr, hvr, evr⟩ := i1 r l4
    obtain ⟨j0, hj0, ej0⟩ := rf_pm_pos hm h9 l4
    have hj0i : j0 < i + 1 := rf_pm_lt h9 hj0 i0 (by rw [ej0, hq]; exact k2)
    have hrq : r ≠ q := by
      intro z
      rw [z] at k2
      omega
    have hq1 : 1 ≤ vq := by
      rcases h6c q (by omega) l9 with z | ⟨c, c1, c2, c3⟩
      · have := i3 q l9 z
        rw [rf_rd_e evq (by omega)] at this
        exact this
      · obtain ⟨jc, hjc, ejc⟩ := rf_pm_pos hm h9 c2
        have hc2 := (hlk c c2 (by omega)).2.1
        have hlt := rf_pm_lt h9 i0 hjc (by rw [hq, ejc, ← c3]; exact hc2)
        have := (i4 jc hlt hjc).2
        rw [ejc, c3, rf_rd_e evq (by omega)] at this
        exact this
    have hsum : vr + vq ≤ m := by
      have s1 : rf_sm (fun j => rf_rd s (rf_rd a9 j)) (i + 1) + rf_rd s (rf_rd a9 (i + 1)) ≤ m := i2
      have s2 := rf_sm_le (f := fun j => rf_rd s (rf_rd a9 j)) hj0i
      have s3 : rf_rd s (rf_rd a9 j0) ≤ rf_sm (fun j => rf_rd s (rf_rd a9 j)) (i + 1) := s2
      rw [ej0, rf_rd_e evr (by omega)] at s3
      rw [hq, rf_rd_e evq (by omega)] at s1
      omega
    refine pk_le (i + 1) 0 (fun z => absurd z (by omega)) (fun _ => ⟨pk_in (i + 1) 50 (by omega), nm_r (e' := nI q) (by rw [nI_clamp (by omega), e9]) ⟨pk_in q 50 (by omega), pk_in r 50 (by omega) (by rw [nI_clamp (by omega), e4]), pk_in q 50 (by omega), pk_in r 50 (by omega) (by rw [nI_clamp (by omega), e4]), nm_r (e' := upd s r (nI (vr + vq))) ?_ (nm_r (pk_m1 i) (hw _ ?_))⟩⟩)
    · rw [nI_clamp (show q < 2 ^ 31 by omega), e4, nI_clamp (show r < 2 ^ 31 by omega), evr, evq, nI_add, tb_byte (vr + vq) (by omega)]
    · have urd : ∀ x, x ≠ r → rf_rd (upd s r (nI (vr + vq))) x = rf_rd s x := fun x hx => by
        unfold rf_rd
        rw [pk_un hx]
      have urr : rf_rd (upd s r (nI (vr + vq))) r = vr + vq := rf_rd_e pk_us (by omega)
      have umono : ∀ x, x < m → rf_rd s x ≤ rf_rd (upd s r (nI (vr + vq))) x := by
        intro x hx
        by_cases e : x = r
        · rw [e, urr, rf_rd_e evr (by omega)]
          omega
        · rw [urd x e]
          exact Nat.le_refl _
      refine ⟨by omega, ?_, ?_, ?_, ?_⟩
      · intro x hx
        by_cases e : x = r
        · exact ⟨vr + vq, by omega, by rw [e, pk_us]⟩
        · rw [pk_un e]
          exact i1 x hx
      · rw [rf_sm_u (f := fun j => rf_rd s (rf_rd a9 j)) (v := vq) hj0i (fun j hj hne => by
            show rf_rd _ (rf_rd a9 j) = _
            refine urd _ (fun z => hne ?_)
            exact rf_pm_inj hm h9 (by omega) hj0 (by rw [z, ej0])) (by
            show rf_rd _ (rf_rd a9 j0) = rf_rd s (rf_rd a9 j0) + vq
            rw [ej0, urr, rf_rd_e evr (by omega)])]
        have s1 : rf_sm (fun j => rf_rd s (rf_rd a9 j)) (i + 1) + rf_rd s (rf_rd a9 (i + 1)) ≤ m := i2
        rw [hq, rf_rd_e evq (by omega)] at s1
        exact s1
      · intro x hx e
        exact Nat.le_trans (i3 x hx e) (umono x hx)
      · intro j hj hj2
        obtain ⟨ej, lj⟩ := rf_pm_get hm h9 hj2
        by_cases e : j = i + 1
        · rw [e, hq, hr, urr, urd q (fun z => hrq z.symm), rf_rd_e evq (by omega)]
          exact ⟨hq1, by omega⟩
        · obtain ⟨u1, u2⟩ := i4 j (by omega) hj2
          have hjq : rf_rd a9 j ≠ 0 := by
            intro z
            have hle := h9.2.2.2 (i + 1) j (by omega) hj2
            rw [hq, z, hl0] at hle
            omega
          exact ⟨Nat.le_trans u1 (umono _ lj), Nat.le_trans u2 (umono _ (rf_au4 hA hp (by omega) lj).2)⟩
  · intro x hx
    rcases h6 x hx with e | e
    · exact ⟨0, by omega, e⟩
    · exact ⟨1, by omega, e⟩
  · rw [show m - 1 + 1 = m by omega]
    refine rf_sm_1 (fun j hj => ?_)
    exact h01 _ (rf_pm_get hm h9 hj).2
  · intro x hx e
    rw [rf_rd_e (v := 1) e (by omega)]
    exact Nat.le_refl _
  · intro j hj hj2
    omega
theorem rf_words (hA : rf_au t p m ls0 a3 a4 a5 c6 a7) (hp : p ≤ 24) (h9 : rf_pm m (rf_rd a5) a9)
    (H : ∀ b, (∀ s, s < m → b s = nI (en_N (rf_rd a3) s)) → post (tl, pl, bu, nI m, ls, ra, a1, a2, a3, a4, a5, a6, a7, b, a9)) :
    wpX_countWords post (tl, pl, bu, nI m, ls, ra, a1, a2, a3, a4, a5, a6, a7, a8, a9) := by
  have hm : m ≤ 49 := by
    have := hA.2.2.1
    omega
  have hm0 : 0 < m := hA.1.1
  unfold wpX_countWords
  dsimp only
  refine nm_e ⟨m + 1, ?_⟩
  refine pk_loopD (fun n i s => wX_countWords_7 post tl pl bu (nI m) ls ra n (nI i - 1) a1 a2 a3 a4 a5 a6 a7 s a9)
    (fun i s => i ≤ m ∧ (∀ j, i ≤ j → j < m → s (rf_rd a9 j) = nI (en_N (rf_rd a3) (rf_rd a9 j)))) ?_ ?_ m a8 ⟨by omega, fun j hj hj2 => absurd hj2 (by omega)⟩
  · intro n s ⟨_, i1⟩
    refine br_t (by decide) (H s (fun r hr => ?_))
    obtain ⟨j, hj, ej⟩ := rf_pm_pos hm h9 hr
    have := i1 j (by omega) hj
    rw [ej] at this
    exact this
  · intro n i s ⟨i0, i1⟩ hw
    obtain ⟨e9, l9⟩ := rf_pm_get hm h9 (show i < m by omega)
    obtain ⟨q, hq⟩ : ∃ q, rf_rd a9 i = q := ⟨_, rfl⟩
    rw [hq] at e9 l9
    show wX_countWords_7 post tl pl bu (nI m) ls ra (n + 1) (nI (i + 1) - 1) a1 a2 a3 a4 a5 a6 a7 s a9
    rw [nI_pred]
    refine pk_lt i 0 (fun z => absurd z (by omega)) (fun _ => ⟨pk_in i 50 (by omega), nm_r (e' := nI q) (by rw [nI_clamp (by omega), e9]) ?_⟩)
    have bound : ∀ d, d ≤ 4 → en_sk (rf_rd a3) (en_E (rf_rd a3) 24) q d ≤ 576 := by
      intro d hd
      have b1 := en_sk_mono (nx := rf_rd a3) (E := en_E (rf_rd a3) 24) (s := q) hd
      rw [← en_N_sk hA.1 hp l9] at b1
      have b2 := en_N_le hA.1 hp l9
      omega
    refine pk_loop (σ := Unit) (fun n' d _ => wX_countWords_23 post (wX_countWords_7 post tl pl bu (nI m) ls ra n) (nI i) (nI q) tl pl bu (nI m) ls ra a1 a2 a3 a4 a5 a6 a7 s a9 n' (nI (en_sk (rf_rd a3) (en_E (rf_rd a3) 24) q d)) (nI d)) (fun _ _ => True) 4 0 () (by omega) trivial ?_ ?_
    · intro n' _ _
      refine pk_le 4 4 (fun _ => ⟨pk_in q 50 (by omega), nm_r (e' := upd s q (nI (en_N (rf_rd a3) q))) ?_ (nm_r (e' := nI i - 1) ?_ (hw _ ⟨by omega, ?_⟩))⟩) (fun z => absurd z (by omega))
      · rw [nI_clamp (by omega), ← en_N_sk hA.1 hp l9, tb_short _ (by have := en_N_le hA.1 hp l9; omega)]
      · exact (Int32.sub_eq_add_neg (nI i) 1).symm
      · intro j hj hj2
        by_cases e : j = i
        · rw [e, hq, pk_us]
        · rw [pk_un (fun z => e (rf_pm_inj hm h9 hj2 (by omega) (by rw [z, hq])))]
          exact i1 j (by omega) hj2
    · intro n' d _ hd _ hw2
      obtain ⟨e3, l3⟩ := rf_au3 hA hp l9 hd
      have hsd : en_sk (rf_rd a3) (en_E (rf_rd a3) 24) q (d + 1) = en_sk (rf_rd a3) (en_E (rf_rd a3) 24) q d + (en_bl (rf_rd a3) (en_E (rf_rd a3) 24) q d).length := rfl
      have hw3 := hw2 () trivial
      rw [hsd] at hw3
      refine pk_le 4 d (fun z => absurd z (by omega)) (fun _ => ⟨pk_in (4 * q + d) 200 (by omega) (rf_ix q d), nm_r (e' := nI (rf_rd a3 (4 * q + d))) (by rw [rf_ixc (by omega)]; exact e3) ?_⟩)
      refine pk_eq (rf_rd a3 (4 * q + d)) 0 (fun z => nm_r (nI_1 d) ?_) (fun z => ⟨pk_in (rf_rd a3 (4 * q + d)) 50 (by omega), nm_r (e' := nI (en_sk (rf_rd a3) (en_E (rf_rd a3) 24) q d + (en_bl (rf_rd a3) (en_E (rf_rd a3) 24) q d).length)) ?_ (nm_r (nI_1 d) hw3)⟩)
      · rw [en_bl_len0 z] at hw3
        exact hw3
      · obtain ⟨_, u2, _⟩ := en_edge hA.1 l9 hd z
        obtain ⟨j, hj, ej⟩ := rf_pm_pos hm h9 l3
        have hlt := rf_pm_lt h9 (show i < m by omega) hj (by rw [hq, ej]; omega)
        have := i1 j (by omega) hj
        rw [ej] at this
        rw [nI_clamp (by omega), this, en_bl_len z, show (1 : Int32) = nI 1 from rfl, nI_add, nI_add]
        rfl
end
end
section
/-! build -/
/-- a built state: the automaton, how often, how many words -/
def rf_bt (t : Nat → Nat) (p : Nat) (sc : Int32) (a3 a5 a6 a7 a8 : Nat → Int32) : Prop :=
  ∃ (m : Nat) (lk : Nat → Nat), m ≤ 49 ∧ sc = nI m ∧ sa_inv t p (fun s => s < m) (rf_rd a3) lk (rf_rd a5) (rf_fe a7) ∧
    (∀ s d, s < m → d < 4 → a3 (4 * s + d) = nI (rf_rd a3 (4 * s + d)) ∧ rf_rd a3 (4 * s + d) < m) ∧
    (∀ s, s < m → a5 s = nI (rf_rd a5 s) ∧ rf_rd a5 s ≤ p) ∧ (∀ s, s < m → a7 s + 1 = nI (rf_fe a7 s) ∧ rf_fe a7 s ≤ p) ∧
    (∀ s, s < m → a8 s = nI (en_N (rf_rd a3) s)) ∧ (∀ s, 0 < s → s < m → ∃ v, 1 ≤ v ∧ v ≤ 49 ∧ a6 s = nI v)
theorem sa_inv0 {t nx lk ln fe : Nat → Nat} (h1 : ln 0 = 0) (h2 : fe 0 = 0) (h3 : ∀ d, d < 4 → nx (4 * 0 + d) = 0) : sa_inv t 0 (fun s => s < 1) nx lk ln fe := by
  have z : ∀ s, s < 1 → s = 0 := fun s hs => by omega
  refine ⟨by omega, h1, ?_, ?_, ?_, ?_, ?_⟩
  · intro s hs
    rw [z s hs, h1, h2]
    omega
  · intro s hs h0
    exact absurd (z s hs) h0
  · intro s d hs hd hn
    rw [z s hs] at hn
    exact absurd (h3 d hd) hn
  · intro s d u hs w
    have := w.1
    rw [z s hs, h1, List.length_cons] at this
    omega
  · intro i hi
    exact ⟨0, by omega, by omega, by omega⟩
theorem rf_au0 {t : Nat → Nat} {a3 a4 a5 a6 a7 : Nat → Int32} (h3 : ∀ d, d < 4 → a3 (4 * 0 + d) = 0) (h4 : a4 0 = -1) (h5 : a5 0 = 0) (h6 : a6 0 = 0) (h7 : a7 0 = -1) : rf_au t 0 1 (nI 0) a3 a4 a5 a6 a7 := by
  have z : ∀ s, s < 1 → s = 0 := fun s hs => by omega
  have e5 : rf_rd a5 0 = 0 := rf_rd_e (v := 0) h5 (by omega)
  have e7 : rf_fe a7 0 = 0 := rf_fe_e (v := 0) (by rw [h7]; decide) (by omega)
  refine ⟨sa_inv0 e5 e7 (fun d hd => rf_rd_e (v := 0) (h3 d hd) (by omega)), ⟨0, by omega, rfl, e5, e7⟩, by omega, ?_, h4, ?_, ?_, ?_, ?_, ?_⟩
  · intro s d hs hd
    rw [z s hs]
    exact ⟨0, by omega, h3 d hd⟩
  · intro s h0 hs
    omega
  · intro s hs
    rw [z s hs]
    exact ⟨0, by omega, h5⟩
  · intro s hs
    rw [z s hs]
    exact ⟨0, by omega, by rw [h7]; decide⟩
  · intro s hs
    rw [z s hs]
    exact Or.inl h6
  · intro s h0 hs
    omega
section
variable {post : St1 → Prop} {pl bu ra : Int32} {a1 a2 a8 a9 : Nat → Int32} {t : Nat → Nat} {p : Nat}
theorem rf_b30 (htx : ∀ i, i < p → a1 i = nI (t i) ∧ t i < 4) (hp : p ≤ 24)
    (H : ∀ sc ls b3 b4 b5 b6 b7 b8 b9, rf_bt t p sc b3 b5 b6 b7 b8 → post (nI p, pl, bu, sc, ls, ra, a1, a2, b3, b4, b5, b6, b7, b8, b9)) :
    ∀ k i m ls a3 a4 a5 a6 a7, i + k = p → rf_au t i m ls a3 a4 a5 a6 a7 → wX_build_30 post (k + 1) (nI i) (nI p) pl bu (nI m) ls ra a1 a2 a3 a4 a5 a6 a7 a8 a9 := by
  intro k
  induction k with
  | zero =>
    intro i m ls a3 a4 a5 a6 a7 e hA
    have e' : i = p := by omega
    subst e'
    have hm := hA.2.2.1
    refine pk_le i i (fun _ => ?_) (fun z => absurd z (by omega))
    refine rf_order (by omega) (fun s hs => ?_) (fun b9 h9 => ?_)
    · obtain ⟨u1, u2⟩ := rf_au5 hA hp hs
      exact ⟨u1, by omega⟩
    · dsimp only
      refine rf_times hA hp h9 (fun b6 hb6 => ?_)
      dsimp only
      refine rf_words hA hp h9 (fun b8 hb8 => ?_)
      dsimp only
      exact H _ _ _ _ _ _ _ _ _ ⟨m, rf_rd a4, by omega, rfl, hA.1, fun s d hs hd => rf_au3 hA hp hs hd, fun s hs => rf_au5 hA hp hs, fun s hs => rf_au7 hA hp hs, hb8, hb6⟩
  | succ k ih =>
    intro i m ls a3 a4 a5 a6 a7 e hA
    obtain ⟨t1, t2⟩ := htx i (by omega)
    refine pk_le p i (fun z => absurd z (by omega)) (fun _ => ⟨pk_in i 24 (by omega), ?_⟩)
    rw [nI_clamp (by omega), t1]
    refine rf_extend hA (by omega) t2 (fun m' ls' b3 b4 b5 b6 b7 hA' => ?_)
    dsimp only
    exact nm_r (nI_1 i) (ih (i + 1) m' ls' b3 b4 b5 b6 b7 (by omega) hA')
theorem rf_build {sc ls : Int32} {a3 a4 a5 a6 a7 : Nat → Int32} (htx : ∀ i, i < p → a1 i = nI (t i) ∧ t i < 4) (hp : p ≤ 24) (hb : bu = 0 ∨ (bu = 1 ∧ rf_bt t p sc a3 a5 a6 a7 a8))
    (H : ∀ sc ls b3 b4 b5 b6 b7 b8 b9, rf_bt t p sc b3 b5 b6 b7 b8 → post (nI p, pl, 1, sc, ls, ra, a1, a2, b3, b4, b5, b6, b7, b8, b9)) :
    wpX_build post (nI p, pl, bu, sc, ls, ra, a1, a2, a3, a4, a5, a6, a7, a8, a9) := by
  unfold wpX_build
  dsimp only
  rcases hb with z | ⟨z, hb⟩
  · refine br_t z ?_
    refine rf_new (m := 0) (by omega) (fun b h1 h2 => ?_)
    dsimp only
    refine ⟨p + 1, ?_⟩
    exact rf_b30 htx hp H p 0 1 (nI 0) b _ _ _ _ (by omega) (rf_au0 h1 pk_us (by rw [pk_us]; decide) pk_us (by rw [pk_us]; decide))
  · refine br_f (by rw [z]; decide) ?_
    rw [z]
    exact H _ _ _ _ _ _ _ _ _ hb
end
end
section
/-! words(), word(k) -/
theorem rf_r25 {x : Int32} {f n : Nat} (h : x + 1 = nI f) (hn : n ≤ f) : (25 : Int32) * ((x - nI n) + 1) + nI n = nI (25 * (f - n) + n) := by
  have e : x - nI n + 1 = nI (f - n) := by
    rw [← pk_sub hn, ← h]
    grind
  rw [e, show (25 : Int32) * nI (f - n) = nI (25 * (f - n)) from pk_mul 25 (f - n), nI_add]
section
variable {post : Int32 → St1 → Prop} {tl pl bu ls sc ra : Int32} {a1 a2 a3 a4 a5 a6 a7 a8 a9 : Nat → Int32} {t lk : Nat → Nat} {p m : Nat}
theorem rf_step {s d r r1 : Nat} (hm : m ≤ 49) (hr : r < 1024) (h3 : ∀ s d, s < m → d < 4 → a3 (4 * s + d) = nI (rf_rd a3 (4 * s + d)) ∧ rf_rd a3 (4 * s + d) < m) (h8 : ∀ s, s < m → a8 s = nI (en_N (rf_rd a3) s)) (hN : ∀ s, s < m → en_N (rf_rd a3) s ≤ 576)
    (hs : s < m) (hd : d < 4) (hn : rf_rd a3 (4 * s + d) ≠ 0) (e : r = en_sk (rf_rd a3) (en_E (rf_rd a3) 24) s d + r1) (h1 : r1 < 1 + en_N (rf_rd a3) (rf_rd a3 (4 * s + d)))
    (H : post (nI (rf_rd a3 (4 * s + d))) (tl, pl, bu, sc, ls, nI r1 - 1, a1, a2, a3, a4, a5, a6, a7, a8, a9)) :
    wpX_stepTowards post (tl, pl, bu, sc, ls, ra, a1, a2, a3, a4, a5, a6, a7, a8, a9) (nI s) (nI r) := by
  unfold wpX_stepTowards
  dsimp only
  have here : ∀ i, i < 4 → rf_rd a3 (4 * s + i) ≠ 0 → 1 + a8 (nI (rf_rd a3 (4 * s + i))).toNatClampNeg = nI (1 + en_N (rf_rd a3) (rf_rd a3 (4 * s + i))) := by
    intro i hi _
    have := (h3 s i hs hi).2
    rw [nI_clamp (by omega), h8 _ this, show (1 : Int32) = nI 1 from rfl, nI_add]
  refine pk_loop (σ := Unit) (fun n i _ => wX_stepTowards_5 post (nI s) tl pl bu sc ls ra a1 a2 a3 a4 a5 a6 a7 a8 a9 n (nI (r - en_sk (rf_rd a3) (en_E (rf_rd a3) 24) s i)) (nI i)) (fun _ _ => True) d 0 () (by omega) trivial ?_ ?_
  · intro n _ _
    obtain ⟨e3, l3⟩ := h3 s d hs hd
    have hNd := hN _ l3
    refine pk_le 4 d (fun z => absurd z (by omega)) (fun _ => ⟨pk_in (4 * s + d) 200 (by omega) (rf_ix s d), nm_r (e' := nI (rf_rd a3 (4 * s + d))) (by rw [rf_ixc (by omega)]; exact e3) ?_⟩)
    refine pk_eq (rf_rd a3 (4 * s + d)) 0 (fun z => absurd z hn) (fun _ => ⟨pk_in (rf_rd a3 (4 * s + d)) 50 (by omega), nm_r (here d hd hn) ?_⟩)
    refine pk_le (1 + en_N (rf_rd a3) (rf_rd a3 (4 * s + d))) (r - en_sk (rf_rd a3) (en_E (rf_rd a3) 24) s d) (fun z => absurd z (by omega)) (fun _ => nm_r (e' := nI r1 - 1) ?_ H)
    rw [show r - en_sk (rf_rd a3) (en_E (rf_rd a3) 24) s d = r1 by omega]
  · intro n i _ hi _ hw
    have hw2 := hw () trivial
    obtain ⟨e3, l3⟩ := h3 s i hs (by omega)
    have hNi := hN _ l3
    have hmono := en_sk_mono (nx := rf_rd a3) (E := en_E (rf_rd a3) 24) (s := s) (d := i + 1) (d' := d) hi
    have hsd : en_sk (rf_rd a3) (en_E (rf_rd a3) 24) s (i + 1) = en_sk (rf_rd a3) (en_E (rf_rd a3) 24) s i + (en_bl (rf_rd a3) (en_E (rf_rd a3) 24) s i).length := rfl
    refine pk_le 4 i (fun z => absurd z (by omega)) (fun _ => ⟨pk_in (4 * s + i) 200 (by omega) (rf_ix s i), nm_r (e' := nI (rf_rd a3 (4 * s + i))) (by rw [rf_ixc (by omega)]; exact e3) ?_⟩)
    refine pk_eq (rf_rd a3 (4 * s + i)) 0 (fun z => nm_r (nI_1 i) ?_) (fun z => ⟨pk_in (rf_rd a3 (4 * s + i)) 50 (by omega), nm_r (here i (by omega) z) ?_⟩)
    · rw [en_bl_len0 z, Nat.add_zero] at hsd
      rw [hsd] at hw2
      exact hw2
    · have hl := en_bl_len (nx := rf_rd a3) (E := en_E (rf_rd a3) 24) (s := s) (d := i) z
      have hl' : (en_bl (rf_rd a3) (en_E (rf_rd a3) 24) s i).length = 1 + en_N (rf_rd a3) (rf_rd a3 (4 * s + i)) := hl
      refine pk_le (1 + en_N (rf_rd a3) (rf_rd a3 (4 * s + i))) (r - en_sk (rf_rd a3) (en_E (rf_rd a3) 24) s i) (fun _ => nm_r (e' := nI (r - en_sk (rf_rd a3) (en_E (rf_rd a3) 24) s (i + 1))) ?_ (nm_r (nI_1 i) hw2)) (fun z => absurd z (by omega))
      rw [pk_sub (by omega)]
      congr 1
      omega
theorem rf_w28 (hp : p ≤ 24) (hm : m ≤ 49) (hI : sa_inv t p (fun s => s < m) (rf_rd a3) lk (rf_rd a5) (rf_fe a7)) (h3 : ∀ s d, s < m → d < 4 → a3 (4 * s + d) = nI (rf_rd a3 (4 * s + d)) ∧ rf_rd a3 (4 * s + d) < m)
    (h8 : ∀ s, s < m → a8 s = nI (en_N (rf_rd a3) s)) :
    ∀ (v : List Nat) (s r l : Nat) (ra : Int32), s < m → (en_E (rf_rd a3) 24 s)[r]? = some v →
      (∀ ra', post (25 * ((a7 (en_go (rf_rd a3) s v) - nI (l + v.length)) + 1) + nI (l + v.length)) (tl, pl, bu, sc, ls, ra', a1, a2, a3, a4, a5, a6, a7, a8, a9)) →
      wX_word_28 post (v.length + 1) (nI r) (nI s) (nI l) tl pl bu sc ls ra a1 a2 a3 a4 a5 a6 a7 a8 a9 := by
  have hN : ∀ s, s < m → en_N (rf_rd a3) s ≤ 576 := fun s hs => en_N_le hI hp hs
  intro v
  induction v with
  | nil =>
    intro s r l ra hs hv H
    obtain ⟨d, v, e, _⟩ := en_get hI hp hs hv
    exact absurd e (by simp)
  | cons d v ih =>
    intro s r l ra hs hv H
    have hrN : r < en_N (rf_rd a3) s := (List.getElem?_eq_some_iff.mp hv).1
    have hN1 := hN s hs
    obtain ⟨d', v', e, hd, hn, hc⟩ := en_get hI hp hs hv
    injection e with e1 e2
    subst e1
    subst e2
    obtain ⟨e3, l3⟩ := h3 s d hs hd
    have H' : ∀ ra', post (25 * ((a7 (en_go (rf_rd a3) (rf_rd a3 (4 * s + d)) v) - nI (l + 1 + v.length)) + 1) + nI (l + 1 + v.length)) (tl, pl, bu, sc, ls, ra', a1, a2, a3, a4, a5, a6, a7, a8, a9) := by
      intro ra'
      have := H ra'
      rw [List.length_cons, show l + (v.length + 1) = l + 1 + v.length by omega] at this
      exact this
    rcases hc with ⟨hv0, hr⟩ | ⟨r', hr, hv'⟩
    · refine br_f (nI_pos (by omega)) ?_
      refine rf_step (r1 := 0) hm (by omega) h3 h8 hN hs hd hn (by omega) (by omega) ?_
      dsimp only
      refine nm_r (nI_1 l) ?_
      subst hv0
      exact br_t (by decide) ⟨pk_in (rf_rd a3 (4 * s + d)) 50 (by omega), by
        rw [nI_clamp (by omega)]
        exact H' _⟩
    · have hr'N : r' < en_N (rf_rd a3) (rf_rd a3 (4 * s + d)) := (List.getElem?_eq_some_iff.mp hv').1
      refine br_f (nI_pos (by omega)) ?_
      refine rf_step (r1 := r' + 1) hm (by omega) h3 h8 hN hs hd hn (by omega) (by omega) ?_
      dsimp only
      refine nm_r (nI_1 l) ?_
      rw [nI_pred]
      exact ih _ r' (l + 1) _ l3 hv' H'
end
section
variable {post : Int32 → St1 → Prop} {pl bu ls sc ra : Int32} {a1 a2 a3 a4 a5 a6 a7 a8 a9 : Nat → Int32} {t : Nat → Nat} {p : Nat}
theorem rf_wordsm (htx : ∀ i, i < p → a1 i = nI (t i) ∧ t i < 4) (hp : p ≤ 24) (hb : bu = 0 ∨ (bu = 1 ∧ rf_bt t p sc a3 a5 a6 a7 a8))
    (H : ∀ sc ls b3 b4 b5 b6 b7 b8 b9, rf_bt t p sc b3 b5 b6 b7 b8 → post (nI (en_N (rf_rd b3) 0)) (nI p, pl, 1, sc, ls, ra, a1, a2, b3, b4, b5, b6, b7, b8, b9)) :
    wpX_words post (nI p, pl, bu, sc, ls, ra, a1, a2, a3, a4, a5, a6, a7, a8, a9) := by
  unfold wpX_words
  dsimp only
  refine rf_build htx hp hb (fun sc ls b3 b4 b5 b6 b7 b8 b9 hb' => ?_)
  dsimp only
  have hb2 := hb'
  obtain ⟨m, lk, _, _, hI, _, _, _, h8, _⟩ := hb2
  rw [h8 0 hI.1]
  exact H _ _ _ _ _ _ _ _ _ hb'
/-- the word with number k -/
theorem rf_word {k : Nat} {v : List Nat} (hp : p ≤ 24) (hb : rf_bt t p sc a3 a5 a6 a7 a8) (hv : (en_E (rf_rd a3) 24 0)[k]? = some v)
    (H : ∀ ra' a, a + v.length ≤ p → 1 ≤ v.length → v = en_fw t v.length a → en_ok (rf_rd a3) 0 v → a + v.length = rf_fe a7 (en_go (rf_rd a3) 0 v) → post (nI (25 * a + v.length)) (nI p, pl, 1, sc, ls, ra', a1, a2, a3, a4, a5, a6, a7, a8, a9)) :
    wpX_word post (nI p, pl, 1, sc, ls, ra, a1, a2, a3, a4, a5, a6, a7, a8, a9) (nI k) := by
  obtain ⟨m, lk, hm, _, hI, h3, h5, h7, h8, _⟩ := hb
  have hkN : k < en_N (rf_rd a3) 0 := (List.getElem?_eq_some_iff.mp hv).1
  have hN := en_N_le hI hp hI.1
  have hmem := (en_E_mem 24 0 v).mp (List.mem_of_getElem? hv)
  obtain ⟨v1, v2, v3⟩ := hmem
  obtain ⟨f1, f2, f3, f4, f5⟩ := en_factor hI hI.1 v3
  have v4 : v.length ≠ 0 := fun z => v1 (List.length_eq_zero_iff.mp z)
  unfold wpX_word
  dsimp only
  unfold wpX_build
  dsimp only
  refine br_f (by decide) ?_
  refine br_f (nI_pos (by omega)) ?_
  rw [h8 0 hI.1]
  refine pk_lt k (en_N (rf_rd a3) 0) (fun _ => ⟨v.length + 1, ?_⟩) (fun z => absurd z (by omega))
  refine rf_w28 hp hm hI h3 h8 v 0 k 0 ra hI.1 hv (fun ra' => ?_)
  rw [Nat.zero_add, rf_r25 (h7 _ f1).1 (by omega)]
  exact H ra' _ (by omega) (by omega) f5 v3 (by omega)
/-- no word has such a number -/
theorem rf_word_no {k : Int32} (hb : rf_bt t p sc a3 a5 a6 a7 a8) (hk : k < 0 ∨ ¬ k < nI (en_N (rf_rd a3) 0))
    (H : post (-3) (nI p, pl, 1, sc, ls, ra, a1, a2, a3, a4, a5, a6, a7, a8, a9)) :
    wpX_word post (nI p, pl, 1, sc, ls, ra, a1, a2, a3, a4, a5, a6, a7, a8, a9) k := by
  obtain ⟨m, lk, hm, _, hI, h3, h5, h7, h8, _⟩ := hb
  unfold wpX_word
  dsimp only
  unfold wpX_build
  dsimp only
  refine br_f (by decide) ?_
  refine br_c (fun _ => H) (fun z => ?_)
  rw [h8 0 hI.1]
  rcases hk with hk | hk
  · exact absurd hk z
  · exact br_f hk H
end
end
section
/-! the law's order, different, walks -/
theorem rl_at {post : Int32 → Prop} {w : Int64} {x : Int32} {q : Nat} (hx : x = nI q) (hq : q < 31) (h : post (nI (tb_T w q))) : wpL_at post () w x := by
  unfold wpL_at
  rw [hx, tb_at w hq]
  exact h
theorem rl_order {post : Int32 → Prop} {w : Int64} {a n b m : Nat} (h1 : a + n ≤ 24) (h2 : b + m ≤ 24) (H : post (en_ord (en_fw (tb_T w) n a) (en_fw (tb_T w) m b))) :
    wpL_order post () w (nI a) (nI n) (nI b) (nI m) := by
  have key : ∀ j k, n - k ≤ j → k ≤ n → k ≤ m → post (en_ord (en_fw (tb_T w) (n - k) (a + k)) (en_fw (tb_T w) (m - k) (b + k))) → ∃ f, wL_order_3 post w (nI a) (nI n) (nI b) (nI m) f (nI k) := by
    intro j
    induction j with
    | zero =>
      intro k hj hn hm hp
      have e : n = k := by omega
      subst e
      refine ⟨1, pk_le n n (fun _ => ?_) (fun z => absurd z (by omega))⟩
      unfold wL_order_68
      rw [Nat.sub_self] at hp
      refine pk_eq n m (fun z => ?_) (fun z => pk_le m n (fun z2 => absurd z2 (by omega)) (fun _ => ?_))
      · rw [← z, Nat.sub_self] at hp
        exact hp
      · obtain ⟨c, hc⟩ : ∃ c, m - n = c + 1 := ⟨m - n - 1, by omega⟩
        rw [hc] at hp
        exact hp
    | succ j ih =>
      intro k hj hn hm hp
      by_cases e : k = n
      · exact ih k (by omega) hn hm hp
      · by_cases e2 : k = m
        · subst e2
          refine ⟨1, pk_le n k (fun z => absurd z (by omega)) (fun _ => pk_le k k (fun _ => ?_) (fun z => absurd z (by omega)))⟩
          unfold wL_order_68
          rw [Nat.sub_self] at hp
          obtain ⟨c, hc⟩ : ∃ c, n - k = c + 1 := ⟨n - k - 1, by omega⟩
          rw [hc] at hp
          exact pk_eq n k (fun z => absurd z (by omega)) (fun z => pk_le k n (fun _ => hp) (fun z2 => absurd z2 (by omega)))
        · have ea : nI a + nI k = nI (a + k) := nI_add a k
          have eb : nI b + nI k = nI (b + k) := nI_add b k
          have hp' : post (if tb_T w (a + k) = tb_T w (b + k) then en_ord (en_fw (tb_T w) (n - (k + 1)) (a + (k + 1))) (en_fw (tb_T w) (m - (k + 1)) (b + (k + 1))) else if tb_T w (a + k) < tb_T w (b + k) then -1 else 1) := by
            rw [show n - k = (n - (k + 1)) + 1 by omega, show m - k = (m - (k + 1)) + 1 by omega] at hp
            exact hp
          have la := tb_lt w (a + k)
          have lb := tb_lt w (b + k)
          by_cases g : tb_T w (a + k) = tb_T w (b + k)
          · rw [if_pos g] at hp'
            obtain ⟨f, hf⟩ := ih (k + 1) (by omega) (by omega) (by omega) hp'
            refine ⟨f + 1, pk_le n k (fun z => absurd z (by omega)) (fun _ => pk_le m k (fun z => absurd z (by omega)) (fun _ => rl_at ea (by omega) (rl_at eb (by omega) ?_)))⟩
            exact br_t (by rw [g]) (nm_r (nI_1 k) hf)
          · rw [if_neg g] at hp'
            refine ⟨1, pk_le n k (fun z => absurd z (by omega)) (fun _ => pk_le m k (fun z => absurd z (by omega)) (fun _ => rl_at ea (by omega) (rl_at eb (by omega) ?_)))⟩
            refine pk_eq (tb_T w (a + k)) (tb_T w (b + k)) (fun z => absurd z g) (fun _ => rl_at ea (by omega) (rl_at eb (by omega) ?_))
            refine pk_le (tb_T w (b + k)) (tb_T w (a + k)) (fun z => ?_) (fun z => ?_)
            · rw [if_neg (by omega)] at hp'
              exact hp'
            · rw [if_pos (by omega)] at hp'
              exact hp'
  exact key n 0 (by omega) (by omega) (by omega) H
def rl_cnt (t : Nat → Nat) (len i : Nat) : Nat := ((List.range i).filter (en_fr t len)).length
theorem rl_cnt_s (t : Nat → Nat) (len i : Nat) : rl_cnt t len (i + 1) = rl_cnt t len i + if en_fr t len i = true then 1 else 0 := by
  unfold rl_cnt
  rw [List.range_succ, List.filter_append, List.length_append]
  congr 1
  by_cases g : en_fr t len i = true
  · rw [if_pos g, List.filter_cons_of_pos g]
    rfl
  · rw [if_neg g, List.filter_cons_of_neg g]
    rfl
theorem rl_cnt_le (t : Nat → Nat) (len i : Nat) : rl_cnt t len i ≤ i := by
  unfold rl_cnt
  have := List.length_filter_le (en_fr t len) (List.range i)
  rw [List.length_range] at this
  exact this
theorem rl_d48_0 {post : Int32 → Prop} {J5 : Int32 → Int32 → Prop} {w : Int64} {x2 x3 : Int32} {i p n : Nat} (hp : p < 24) (H : J5 x3 (nI (i + 1))) : ∀ j q, q + j = p → wL_different_48 post J5 w x2 x3 (nI i) (nI p) (nI n) (j + 1) 0 (nI q) := by
  intro j
  induction j with
  | zero =>
    intro q e
    exact pk_le p q (fun _ => br_t rfl (nm_r (nI_1 i) H)) (fun z => absurd z (by omega))
  | succ j ih =>
    intro q e
    exact pk_le p q (fun z => absurd z (by omega)) (fun _ => br_t rfl (nm_r (nI_1 q) (ih (q + 1) (by omega))))
theorem rl_d48_1 {post : Int32 → Prop} {J5 : Int32 → Int32 → Prop} {w : Int64} {x2 x3 : Int32} {i p n : Nat} (hpn : p + n ≤ 24) (hn : 1 ≤ n) : ∀ j q, q + j = p →
    ((∃ r, q ≤ r ∧ r < p ∧ en_fw (tb_T w) n r = en_fw (tb_T w) n p) → J5 x3 (nI (i + 1))) → ((∀ r, q ≤ r → r < p → en_fw (tb_T w) n r ≠ en_fw (tb_T w) n p) → J5 (x3 + 1) (nI (i + 1))) →
    wL_different_48 post J5 w x2 x3 (nI i) (nI p) (nI n) (j + 1) 1 (nI q) := by
  intro j
  induction j with
  | zero =>
    intro q e H0 H1
    exact pk_le p q (fun _ => br_f (by decide) (nm_e (nm_r (nI_1 i) (H1 (fun r h1 h2 => absurd h2 (by omega)))))) (fun z => absurd z (by omega))
  | succ j ih =>
    intro q e H0 H1
    refine pk_le p q (fun z => absurd z (by omega)) (fun _ => br_f (by decide) (rl_order (by omega) (by omega) ?_))
    refine br_c (fun z => ?_) (fun z => ?_)
    · exact nm_r (nI_1 q) (rl_d48_0 (by omega) (H0 ⟨q, by omega, by omega, (en_ord_0 _ _ z).symm⟩) j (q + 1) (by omega))
    · refine nm_r (nI_1 q) (ih (q + 1) (by omega) (fun ⟨r, r1, r2, r3⟩ => H0 ⟨r, by omega, r2, r3⟩) (fun h => H1 (fun r r1 r2 => ?_)))
      by_cases g : r = q
      · intro z2
        rw [g] at z2
        rw [z2, en_ord_refl] at z
        exact z rfl
      · exact h r (by omega) r2
theorem rl_different {post : Int32 → Prop} {w : Int64} {len : Nat} (hl : len ≤ 24) (H : post (nI (rl_cnt (tb_T w) len 576))) : wpL_different post () w (nI len) := by
  unfold wpL_different
  refine pk_loop (σ := Unit) (fun n i _ => wL_different_5 post w (nI len) n (nI (rl_cnt (tb_T w) len i)) (nI i)) (fun _ _ => True) 576 0 () (by omega) trivial ?_ ?_
  · intro n _ _
    exact pk_le 576 576 (fun _ => H) (fun z => absurd z (by omega))
  · intro n i _ hi _ hw
    have hw2 := hw () trivial
    rw [rl_cnt_s] at hw2
    have hc := rl_cnt_le (tb_T w) len i
    refine pk_le 576 i (fun z => absurd z (by omega)) (fun _ => ⟨by decide, nm_r (e' := nI (i / 24)) ?_ ⟨by decide, nm_r (e' := nI (i % 24 + 1)) ?_ ?_⟩⟩)
    · exact pk_div (d := 24) (by omega) (by omega) (by omega)
    · rw [show nI i - nI i / 24 * 24 = nI (i % 24) from pk_rem (d := 24) (by omega) (by omega) (by omega), nI_1]
    · have no : ¬ en_fr (tb_T w) len i = true → wL_different_5 post w (nI len) n (nI (rl_cnt (tb_T w) len i)) (nI (i + 1)) := by
        intro g
        rw [if_neg g] at hw2
        exact hw2
      refine pk_lt len (i / 24 + (i % 24 + 1)) (fun z => ?_) (fun z => ?_) rfl (nI_add _ _)
      · exact ⟨i / 24 + 1, rl_d48_0 (by omega) (no (fun g => by have := (en_fr_iff.mp g).1; omega)) (i / 24) 0 (by omega)⟩
      · refine ⟨i / 24 + 1, rl_d48_1 (by omega) (by omega) (i / 24) 0 (by omega) (fun ⟨r, _, r2, r3⟩ => ?_) (fun h => ?_)⟩
        · exact no (fun g => (en_fr_iff.mp g).2 r r2 r3)
        · rw [if_pos (en_fr_iff.mpr ⟨z, fun q hq => h q (by omega) hq⟩)] at hw2
          rw [nI_1]
          exact hw2
section
variable {post : Int32 → St1 → Prop} {pl bu ls sc ra : Int32} {a1 a2 a3 a4 a5 a6 a7 a8 a9 : Nat → Int32} {w : Int64} {p : Nat}
theorem rl_w15 (hp : p ≤ 24) (hb : rf_bt (tb_T w) p sc a3 a5 a6 a7 a8)
    (H : ∀ ra', post 1 (nI p, pl, 1, sc, ls, ra', a1, a2, a3, a4, a5, a6, a7, a8, a9)) :
    ∀ j k x5 x6 ra, k + j = en_N (rf_rd a3) 0 → (0 < k → ∃ v a, (en_E (rf_rd a3) 24 0)[k - 1]? = some v ∧ x5 = nI a ∧ x6 = nI v.length ∧ v = en_fw (tb_T w) v.length a ∧ a + v.length ≤ 24) →
      wL_walks_15 post w (nI p) (nI (en_N (rf_rd a3) 0)) (j + 1) x5 x6 (nI k) (nI p) pl 1 sc ls ra a1 a2 a3 a4 a5 a6 a7 a8 a9 := by
  have hb2 := hb
  obtain ⟨m, lk, hm, _, hI, h3, h5, h7, h8, _⟩ := hb2
  have hN := en_N_le hI hp hI.1
  intro j
  induction j with
  | zero =>
    intro k x5 x6 ra e hk
    have e' : k = en_N (rf_rd a3) 0 := by omega
    refine pk_le (en_N (rf_rd a3) 0) k (fun _ => ?_) (fun z => absurd z (by omega))
    refine rf_word_no hb (Or.inr (nI_nlt (Nat.le_refl _) (by omega))) ?_
    dsimp only
    refine br_t rfl (rf_word_no hb (Or.inl (by decide)) ?_)
    dsimp only
    refine br_t rfl (rl_different hp ?_)
    refine br_t ?_ (H ra)
    unfold rl_cnt
    rw [en_diff hI hp]
  | succ j ih =>
    intro k x5 x6 ra e hk
    obtain ⟨v, hv⟩ : ∃ v, (en_E (rf_rd a3) 24 0)[k]? = some v := ⟨_, List.getElem?_eq_getElem (show k < (en_E (rf_rd a3) 24 0).length by show k < en_N (rf_rd a3) 0; omega)⟩
    refine pk_le (en_N (rf_rd a3) 0) k (fun z => absurd z (by omega)) (fun _ => ?_)
    refine rf_word hp hb hv (fun ra' a ha hv1 hva _ _ => ?_)
    dsimp only
    refine ⟨by decide, nm_r (e' := nI a) ?_ ⟨by decide, nm_r (e' := nI v.length) ?_ ?_⟩⟩
    · rw [show nI (25 * a + v.length) / 25 = nI ((25 * a + v.length) / 25) from pk_div (d := 25) (by omega) (by omega) (by omega)]
      congr 1
      omega
    · rw [show nI (25 * a + v.length) - nI (25 * a + v.length) / 25 * 25 = nI ((25 * a + v.length) % 25) from pk_rem (d := 25) (by omega) (by omega) (by omega)]
      congr 1
      omega
    · refine pk_lt (25 * a + v.length) 1 (fun z => absurd z (by omega)) (fun _ => ?_)
      refine pk_lt v.length 1 (fun z => absurd z (by omega)) (fun _ => ?_)
      refine pk_lt p (a + v.length) (fun z => absurd z (by omega)) (fun _ => ?_) rfl (nI_add _ _)
      have next : wL_walks_15 post w (nI p) (nI (en_N (rf_rd a3) 0)) (j + 1) (nI a) (nI v.length) (nI (k + 1)) (nI p) pl 1 sc ls ra' a1 a2 a3 a4 a5 a6 a7 a8 a9 :=
        ih (k + 1) (nI a) (nI v.length) ra' (by omega) (fun _ => ⟨v, a, by rw [Nat.add_sub_cancel]; exact hv, rfl, rfl, hva, by omega⟩)
      refine pk_le k 0 (fun _ => nm_r (nI_1 k) next) (fun z => ?_)
      obtain ⟨v0, a0, g1, g2, g3, g4, g5⟩ := hk z
      rw [g2, g3]
      refine rl_order g5 (by omega) ?_
      have srt := List.pairwise_iff_getElem.mp (en_E_sort (nx := rf_rd a3) 24 0) (k - 1) k (List.getElem?_eq_some_iff.mp g1).1 (List.getElem?_eq_some_iff.mp hv).1 (by omega)
      rw [(List.getElem?_eq_some_iff.mp g1).2, (List.getElem?_eq_some_iff.mp hv).2] at srt
      rw [← g4, ← hva, srt]
      exact br_t (by decide) (nm_r (nI_1 k) next)
theorem rl_walks (htx : ∀ i, i < p → a1 i = nI (tb_T w i) ∧ tb_T w i < 4) (hp : p ≤ 24) (hb : bu = 0 ∨ (bu = 1 ∧ rf_bt (tb_T w) p sc a3 a5 a6 a7 a8))
    (H : ∀ sc ls ra b3 b4 b5 b6 b7 b8 b9, rf_bt (tb_T w) p sc b3 b5 b6 b7 b8 → post 1 (nI p, pl, 1, sc, ls, ra, a1, a2, b3, b4, b5, b6, b7, b8, b9)) :
    wpL_walks post (nI p, pl, bu, sc, ls, ra, a1, a2, a3, a4, a5, a6, a7, a8, a9) w (nI p) := by
  unfold wpL_walks
  dsimp only
  refine rf_wordsm htx hp hb (fun sc ls b3 b4 b5 b6 b7 b8 b9 hb' => ?_)
  dsimp only
  exact ⟨_, rl_w15 hp hb' (fun ra' => H _ _ _ _ _ _ _ _ _ _ hb') (en_N (rf_rd b3) 0) 0 0 0 ra (by omega) (fun z => absurd z (by omega))⟩
end
end
section
/-! the probe's answers, ranked -/
def rf_pr (a2 : Nat → Int32) : Nat → List Nat → Prop
  | _, [] => True
  | i, d :: v => a2 i = nI d ∧ rf_pr a2 (i + 1) v
theorem rf_pr_fw {a2 : Nat → Int32} {t : Nat → Nat} {a : Nat} : ∀ n i, (∀ j, i ≤ j → j < i + n → a2 j = nI (t (a + j))) → rf_pr a2 i (en_fw t n (a + i))
  | 0, _, _ => trivial
  | n + 1, i, h => ⟨h i (by omega) (by omega), rf_pr_fw n (i + 1) (fun j h1 h2 => h j (by omega) (by omega))⟩
section
variable {post : Int32 → St1 → Prop} {tl bu ls sc ra pl : Int32} {a1 a2 a3 a4 a5 a6 a7 a8 a9 : Nat → Int32} {t lk : Nat → Nat} {p m n : Nat}
theorem rf_ask {j c : Nat} (hj : j < 12) (hc : c < 4) (H : post (nI (j + 1)) (tl, nI (j + 1), bu, sc, ls, ra, a1, upd a2 j (nI c), a3, a4, a5, a6, a7, a8, a9)) :
    wpX_ask post (tl, nI j, bu, sc, ls, ra, a1, a2, a3, a4, a5, a6, a7, a8, a9) (nI c) := by
  unfold wpX_ask
  dsimp only
  refine pk_lt j 12 (fun _ => br_f (nI_pos (by omega)) (pk_lt c 4 (fun _ => ⟨pk_in j 12 hj, nm_r (e' := upd a2 j (nI c)) ?_ (nm_r (nI_1 j) H)⟩) (fun z => absurd z (by omega)))) (fun z => absurd z (by omega))
  rw [nI_clamp (by omega), tb_byte c (by omega)]
theorem rf_r38 {J20 : Int32 → Int32 → Int32 → Prop} {B s d i : Nat} (hm : m ≤ 49) (h3 : ∀ s d, s < m → d < 4 → a3 (4 * s + d) = nI (rf_rd a3 (4 * s + d)) ∧ rf_rd a3 (4 * s + d) < m) (h8 : ∀ s, s < m → a8 s = nI (en_N (rf_rd a3) s))
    (hs : s < m) (hd : d < 4) (hi : i < 12) (hpr : a2 i = nI d) (hn : rf_rd a3 (4 * s + d) ≠ 0)
    (J : J20 (nI (B + en_sk (rf_rd a3) (en_E (rf_rd a3) 24) s d)) (nI (rf_rd a3 (4 * s + d))) (nI (i + 1))) :
    ∃ f, wX_rank_38 post J20 (nI s) (nI i) tl pl bu sc ls ra a1 a2 a3 a4 a5 a6 a7 a8 a9 f (nI B) 0 := by
  have e2 : a2 (nI i).toNatClampNeg = nI d := by rw [nI_clamp (by omega), hpr]
  refine pk_loop (σ := Unit) (fun f e _ => wX_rank_38 post J20 (nI s) (nI i) tl pl bu sc ls ra a1 a2 a3 a4 a5 a6 a7 a8 a9 f (nI (B + en_sk (rf_rd a3) (en_E (rf_rd a3) 24) s e)) (nI e)) (fun _ _ => True) d 0 () (by omega) trivial ?_ ?_
  · intro f _ _
    obtain ⟨e3, l3⟩ := h3 s d hs hd
    refine ⟨pk_in i 12 hi, pk_le d d (fun _ => ⟨pk_in i 12 hi, pk_in (4 * s + d) 200 (by omega) (by rw [e2, rf_ix]), nm_r (e' := nI (rf_rd a3 (4 * s + d))) ?_ ?_⟩) (fun z => absurd z (by omega)) e2⟩
    · rw [e2, rf_ixc (by omega)]
      exact e3
    · exact br_f (nI_ne0 (by omega) (by omega)) (nm_r (nI_1 i) J)
  · intro f e _ he _ hw
    have hw2 := hw () trivial
    obtain ⟨e3, l3⟩ := h3 s e hs (by omega)
    have hsd : en_sk (rf_rd a3) (en_E (rf_rd a3) 24) s (e + 1) = en_sk (rf_rd a3) (en_E (rf_rd a3) 24) s e + (en_bl (rf_rd a3) (en_E (rf_rd a3) 24) s e).length := rfl
    refine ⟨pk_in i 12 hi, pk_le d e (fun z => absurd z (by omega)) (fun _ => ⟨pk_in (4 * s + e) 200 (by omega) (rf_ix s e), nm_r (e' := nI (rf_rd a3 (4 * s + e))) (by rw [rf_ixc (by omega)]; exact e3) ?_⟩) e2⟩
    refine pk_eq (rf_rd a3 (4 * s + e)) 0 (fun z => nm_r (nI_1 e) ?_) (fun z => ⟨pk_in (rf_rd a3 (4 * s + e)) 50 (by omega), nm_r (e' := nI (B + en_sk (rf_rd a3) (en_E (rf_rd a3) 24) s (e + 1))) ?_ (nm_r (nI_1 e) hw2)⟩)
    · rw [hsd, en_bl_len0 z, Nat.add_zero] at hw2
      exact hw2
    · rw [nI_clamp (by omega), h8 _ l3, show (1 : Int32) = nI 1 from rfl, nI_add, nI_add, hsd, en_bl_len z]
      congr 1
      unfold en_N
      omega
theorem rf_r20 {k : Nat} (hp : p ≤ 24) (hm : m ≤ 49) (hn12 : n ≤ 12) (hI : sa_inv t p (fun s => s < m) (rf_rd a3) lk (rf_rd a5) (rf_fe a7)) (h3 : ∀ s d, s < m → d < 4 → a3 (4 * s + d) = nI (rf_rd a3 (4 * s + d)) ∧ rf_rd a3 (4 * s + d) < m)
    (h8 : ∀ s, s < m → a8 s = nI (en_N (rf_rd a3) s)) (H : post (nI k) (tl, nI n, bu, sc, ls, ra, a1, a2, a3, a4, a5, a6, a7, a8, a9)) :
    ∀ (v : List Nat) (s r i B : Nat), s < m → (en_E (rf_rd a3) 24 s)[r]? = some v → i + v.length = n → rf_pr a2 i v → B + (if i = 0 then 0 else 1) + r = k →
      wX_rank_20 post tl (nI n) bu sc ls ra a1 a2 a3 a4 a5 a6 a7 a8 a9 (v.length + 1) (nI B) (nI s) (nI i) := by
  intro v
  induction v with
  | nil =>
    intro s r i B hs hv _ _ _
    obtain ⟨d, v, e, _⟩ := en_get hI hp hs hv
    exact absurd e (by simp)
  | cons d v ih =>
    intro s r i B hs hv hin hpr hk
    obtain ⟨d', v', e, hd, hn, hc⟩ := en_get hI hp hs hv
    injection e with e1 e2
    subst e1
    subst e2
    rw [List.length_cons] at hin
    obtain ⟨e3, l3⟩ := h3 s d hs hd
    have J : ∀ B', B' + r = k → wX_rank_20 post tl (nI n) bu sc ls ra a1 a2 a3 a4 a5 a6 a7 a8 a9 (v.length + 1) (nI (B' + en_sk (rf_rd a3) (en_E (rf_rd a3) 24) s d)) (nI (rf_rd a3 (4 * s + d))) (nI (i + 1)) := by
      intro B' hB
      rcases hc with ⟨hv0, hr⟩ | ⟨r', hr, hv'⟩
      · subst hv0
        have hin' : i + 1 = n := hin
        refine pk_le n (i + 1) (fun _ => ?_) (fun z => absurd z (by omega))
        rw [show B' + en_sk (rf_rd a3) (en_E (rf_rd a3) 24) s d = k by omega]
        exact H
      · exact ih _ r' (i + 1) _ l3 hv' (by omega) hpr.2 (by rw [if_neg (by omega)]; omega)
    refine pk_le n i (fun z => absurd z (by omega)) (fun _ => pk_le i 0 (fun z => ?_) (fun z => nm_r (nI_1 B) ?_))
    · rw [if_pos (by omega)] at hk
      exact rf_r38 hm h3 h8 hs hd (by omega) hpr.1 hn (J B (by omega))
    · rw [if_neg (by omega)] at hk
      exact rf_r38 hm h3 h8 hs hd (by omega) hpr.1 hn (J (B + 1) (by omega))
theorem rf_s8 (hm : m ≤ 49) (hn12 : n ≤ 12) (h3 : ∀ s d, s < m → d < 4 → a3 (4 * s + d) = nI (rf_rd a3 (4 * s + d)) ∧ rf_rd a3 (4 * s + d) < m) :
    ∀ (v : List Nat) (s i : Nat), s < m → en_ok (rf_rd a3) s v → i + v.length = n → rf_pr a2 i v → post (nI (en_go (rf_rd a3) s v)) (tl, nI n, bu, sc, ls, ra, a1, a2, a3, a4, a5, a6, a7, a8, a9) →
      wX_stateOfProbe_8 post tl (nI n) bu sc ls ra a1 a2 a3 a4 a5 a6 a7 a8 a9 (v.length + 1) (nI s) (nI i) := by
  intro v
  induction v with
  | nil =>
    intro s i hs _ hin _ H
    have hin' : i = n := hin
    exact pk_le n i (fun _ => H) (fun z => absurd z (by omega))
  | cons d v ih =>
    intro s i hs hok hin hpr H
    rw [List.length_cons] at hin
    obtain ⟨hd, hn, hok'⟩ := hok
    obtain ⟨e3, l3⟩ := h3 s d hs hd
    have e2 : a2 (nI i).toNatClampNeg = nI d := by rw [nI_clamp (by omega), hpr.1]
    refine pk_le n i (fun z => absurd z (by omega)) (fun _ => ⟨pk_in i 12 (by omega), pk_in (4 * s + d) 200 (by omega) (by rw [e2, rf_ix]), nm_r (e' := nI (rf_rd a3 (4 * s + d))) ?_ (br_f (nI_ne0 (by omega) (by omega)) (nm_r (nI_1 i) (ih _ (i + 1) l3 hok' (by omega) hpr.2 H)))⟩)
    rw [e2, rf_ixc (by omega)]
    exact e3
theorem rf_c13 (hm : m ≤ 49) (hn12 : n ≤ 12) (h3 : ∀ s d, s < m → d < 4 → a3 (4 * s + d) = nI (rf_rd a3 (4 * s + d)) ∧ rf_rd a3 (4 * s + d) < m)
    (H : post (nI n) (tl, nI n, bu, sc, ls, ra, a1, a2, a3, a4, a5, a6, a7, a8, a9)) :
    ∀ (v : List Nat) (s i : Nat), s < m → en_ok (rf_rd a3) s v → i + v.length = n → rf_pr a2 i v →
      wX_common_13 post tl (nI n) bu sc ls ra a1 a2 a3 a4 a5 a6 a7 a8 a9 (v.length + 1) (nI i) (nI s) (nI i) (nI i) := by
  intro v
  induction v with
  | nil =>
    intro s i hs _ hin _
    have hin' : i = n := hin
    subst hin'
    exact pk_le i i (fun _ => H) (fun z => absurd z (by omega))
  | cons d v ih =>
    intro s i hs hok hin hpr
    rw [List.length_cons] at hin
    obtain ⟨hd, hn, hok'⟩ := hok
    obtain ⟨e3, l3⟩ := h3 s d hs hd
    have e2 : a2 (nI i).toNatClampNeg = nI d := by rw [nI_clamp (by omega), hpr.1]
    have e32 : a3 (4 * nI s + a2 (nI i).toNatClampNeg).toNatClampNeg = nI (rf_rd a3 (4 * s + d)) := by
      rw [e2, rf_ixc (by omega)]
      exact e3
    have h62 : wX_common_62 post (wX_common_13 post tl (nI n) bu sc ls ra a1 a2 a3 a4 a5 a6 a7 a8 a9 (v.length + 1)) (nI i) (nI s) (nI i) (nI i) tl (nI n) bu sc ls ra a1 a2 a3 a4 a5 a6 a7 a8 a9 := by
      refine ⟨pk_in i 12 (by omega), pk_in (4 * s + d) 200 (by omega) (by rw [e2, rf_ix]), nm_r e32 (br_f (nI_ne0 (by omega) (by omega)) (nm_r (nI_1 i) (pk_le (i + 1) i (fun z => absurd z (by omega)) (fun _ => nm_r (nI_1 i) (ih _ (i + 1) l3 hok' (by omega) hpr.2)))))⟩
    refine pk_le n i (fun z => absurd z (by omega)) (fun _ => ⟨1, br_c (fun _ => h62) (fun _ => ⟨pk_in i 12 (by omega), pk_in (4 * s + d) 200 (by omega) (by rw [e2, rf_ix]), br_f ?_ h62⟩)⟩)
    rw [e32]
    exact nI_ne0 (by omega) (by omega)
end
section
variable {post : Int32 → St1 → Prop} {ls sc ra pl : Int32} {a1 a2 a3 a4 a5 a6 a7 a8 a9 : Nat → Int32} {w : Int64} {p : Nat}
/-- the four answers for the word with number k -/
theorem rl_four {k a : Nat} {v : List Nat} (hp : p ≤ 24) (hb : rf_bt (tb_T w) p sc a3 a5 a6 a7 a8) (hv : (en_E (rf_rd a3) 24 0)[k]? = some v) (h12 : v.length ≤ 12) (h1 : 1 ≤ v.length)
    (hok : en_ok (rf_rd a3) 0 v) (ha : a + v.length = rf_fe a7 (en_go (rf_rd a3) 0 v)) (hpr : rf_pr a2 0 v) {R : Int32 → Int32 → Int32 → Int32 → Prop}
    (H : ∀ c, 1 ≤ c → c ≤ 49 → R (nI k) (nI a) (nI c) (nI v.length)) :
    (∀ P : Int32 → St1 → Prop, (P (nI k) (nI p, nI v.length, 1, sc, ls, ra, a1, a2, a3, a4, a5, a6, a7, a8, a9)) → wpX_rank P (nI p, nI v.length, 1, sc, ls, ra, a1, a2, a3, a4, a5, a6, a7, a8, a9)) ∧
    (∀ P : Int32 → St1 → Prop, (P (nI a) (nI p, nI v.length, 1, sc, ls, ra, a1, a2, a3, a4, a5, a6, a7, a8, a9)) → wpX_place P (nI p, nI v.length, 1, sc, ls, ra, a1, a2, a3, a4, a5, a6, a7, a8, a9)) ∧
    (∀ P : Int32 → St1 → Prop, (∀ c, 1 ≤ c → c ≤ 49 → P (nI c) (nI p, nI v.length, 1, sc, ls, ra, a1, a2, a3, a4, a5, a6, a7, a8, a9)) → wpX_count P (nI p, nI v.length, 1, sc, ls, ra, a1, a2, a3, a4, a5, a6, a7, a8, a9)) ∧
    (∀ P : Int32 → St1 → Prop, (P (nI v.length) (nI p, nI v.length, 1, sc, ls, ra, a1, a2, a3, a4, a5, a6, a7, a8, a9)) → wpX_common P (nI p, nI v.length, 1, sc, ls, ra, a1, a2, a3, a4, a5, a6, a7, a8, a9)) := by
  obtain ⟨m, lk, hm, _, hI, h3, h5, h7, h8, h6⟩ := hb
  obtain ⟨f1, f2, f3, f4, f5⟩ := en_factor hI hI.1 hok
  have hgo : en_go (rf_rd a3) 0 v ≠ 0 := by
    intro z
    rw [z, hI.2.1] at f2
    omega
  have hgl : en_go (rf_rd a3) 0 v < m := f1
  have sp : ∀ P : Int32 → St1 → Prop, P (nI (en_go (rf_rd a3) 0 v)) (nI p, nI v.length, 1, sc, ls, ra, a1, a2, a3, a4, a5, a6, a7, a8, a9) → wpX_stateOfProbe P (nI p, nI v.length, 1, sc, ls, ra, a1, a2, a3, a4, a5, a6, a7, a8, a9) := by
    intro P hP
    unfold wpX_stateOfProbe
    dsimp only
    unfold wpX_build
    dsimp only
    exact br_f (by decide) ⟨v.length + 1, rf_s8 hm h12 h3 v 0 0 hI.1 hok (by omega) hpr hP⟩
  refine ⟨?_, ?_, ?_, ?_⟩
  · intro P hP
    unfold wpX_rank
    dsimp only
    unfold wpX_build
    dsimp only
    exact br_f (nI_ne0 (by omega) (by omega)) (br_f (by decide) ⟨v.length + 1, rf_r20 (k := k) hp hm h12 hI h3 h8 hP v 0 k 0 0 hI.1 hv (by omega) hpr (by rw [if_pos rfl]; omega)⟩)
  · intro P hP
    unfold wpX_place
    dsimp only
    refine br_f (nI_ne0 (by omega) (by omega)) (sp _ ?_)
    dsimp only
    refine br_f (nI_ne0 (by omega) (by omega)) ⟨pk_in (en_go (rf_rd a3) 0 v) 50 (by omega), ?_⟩
    have e : a7 (nI (en_go (rf_rd a3) 0 v)).toNatClampNeg - nI v.length + 1 = nI a := by
      rw [nI_clamp (by omega), show a = rf_fe a7 (en_go (rf_rd a3) 0 v) - v.length by omega, ← pk_sub (by omega), ← (h7 _ hgl).1]
      grind
    rw [e]
    exact hP
  · intro P hP
    unfold wpX_count
    dsimp only
    refine br_f (nI_ne0 (by omega) (by omega)) (sp _ ?_)
    dsimp only
    refine br_f (nI_ne0 (by omega) (by omega)) ⟨pk_in (en_go (rf_rd a3) 0 v) 50 (by omega), ?_⟩
    obtain ⟨c, c1, c2, c3⟩ := h6 _ (by omega) hgl
    rw [nI_clamp (by omega), c3]
    exact hP c c1 c2
  · intro P hP
    unfold wpX_common
    dsimp only
    unfold wpX_build
    dsimp only
    exact br_f (by decide) ⟨v.length + 1, rf_c13 hm h12 h3 hP v 0 0 hI.1 hok (by omega) hpr⟩
theorem rl_ranked {k : Nat} (hp : p ≤ 24) (hb : rf_bt (tb_T w) p sc a3 a5 a6 a7 a8) (hk : k < en_N (rf_rd a3) 0)
    (H : ∀ pl' ra' b2, post 1 (nI p, pl', 1, sc, ls, ra', a1, b2, a3, a4, a5, a6, a7, a8, a9)) :
    wpL_ranked post (nI p, pl, 1, sc, ls, ra, a1, a2, a3, a4, a5, a6, a7, a8, a9) w (nI k) := by
  obtain ⟨v, hv⟩ : ∃ v, (en_E (rf_rd a3) 24 0)[k]? = some v := ⟨_, List.getElem?_eq_getElem (show k < (en_E (rf_rd a3) 24 0).length from hk)⟩
  unfold wpL_ranked
  dsimp only
  refine rf_word hp hb hv (fun ra' a ha hv1 hva hok hfe => ?_)
  dsimp only
  have ediv : nI (25 * a + v.length) / 25 = nI a := by
    rw [show nI (25 * a + v.length) / 25 = nI ((25 * a + v.length) / 25) from pk_div (d := 25) (by omega) (by omega) (by omega)]
    congr 1
    omega
  have erem : nI (25 * a + v.length) - nI (25 * a + v.length) / 25 * 25 = nI v.length := by
    rw [show nI (25 * a + v.length) - nI (25 * a + v.length) / 25 * 25 = nI ((25 * a + v.length) % 25) from pk_rem (d := 25) (by omega) (by omega) (by omega)]
    congr 1
    omega
  refine br_f (nI_pos (by omega)) ⟨by decide, pk_le v.length 12 (fun h12 => ?_) (fun _ => H _ _ _) erem⟩
  unfold wpX_wipe
  dsimp only
  have key : ∀ c j (b2 : Nat → Int32), j + c = v.length → (∀ i, i < j → b2 i = nI (tb_T w (a + i))) → wL_ranked_32 post w (nI k) (nI (25 * a + v.length)) (c + 1) (nI j) (nI p) (nI j) 1 sc ls ra' a1 b2 a3 a4 a5 a6 a7 a8 a9 := by
    intro c
    induction c with
    | zero =>
      intro j b2 e hb2
      have e' : j = v.length := by omega
      rw [e'] at hb2 ⊢
      have hpr : rf_pr b2 0 v := by
        rw [hva]
        exact rf_pr_fw (a := a) v.length 0 (fun i _ hi => hb2 i (by omega))
      obtain ⟨q1, q2, q3, q4⟩ := rl_four (a1 := a1) (a2 := b2) (a4 := a4) (a9 := a9) (ls := ls) (ra := ra') (R := fun _ _ _ _ => True) hp hb hv h12 hv1 hok hfe hpr (fun _ _ _ => trivial)
      refine ⟨by decide, pk_le v.length v.length (fun _ => ?_) (fun z => absurd z (by omega)) erem⟩
      refine q1 _ ?_
      dsimp only
      refine br_t rfl (q2 _ ?_)
      dsimp only
      refine ⟨by decide, br_t ediv.symm (q3 _ (fun c c1 c2 => ?_))⟩
      dsimp only
      refine pk_lt c 1 (fun z => absurd z (by omega)) (fun _ => q4 _ ?_)
      dsimp only
      exact ⟨by decide, br_t erem.symm (H _ _ _)⟩
    | succ c ih =>
      intro j b2 e hb2
      refine ⟨by decide, pk_le v.length j (fun z => absurd z (by omega)) (fun _ => ⟨by decide, rl_at (q := a + j) (by rw [ediv, nI_add]) (by omega) ?_⟩) erem⟩
      refine rf_ask (by omega) (tb_lt w (a + j)) ?_
      dsimp only
      refine br_t (nI_1 j).symm (nm_r (nI_1 j) (ih (j + 1) _ (by omega) ?_))
      intro i hi
      by_cases g : i = j
      · rw [g, pk_us]
      · rw [pk_un g]
        exact hb2 i (by omega)
  exact ⟨v.length + 1, key v.length 0 a2 (by omega) (fun i hi => absurd hi (by omega))⟩
end
end
section
/-! longest, type, shift -/
def rl_lg (tm ln : Nat → Nat) (t : Nat) : Nat → Nat
  | 0 => 0
  | n + 1 => if n = 0 then 0 else if t ≤ tm n ∧ rl_lg tm ln t n < ln n then ln n else rl_lg tm ln t n
theorem rl_lg_s {tm ln : Nat → Nat} {t n : Nat} (h : n ≠ 0) : rl_lg tm ln t (n + 1) = if t ≤ tm n ∧ rl_lg tm ln t n < ln n then ln n else rl_lg tm ln t n := by
  show (if n = 0 then 0 else _) = _
  rw [if_neg h]
theorem rl_lg_le {tm ln : Nat → Nat} {t M : Nat} : ∀ n, (∀ s, s < n → ln s ≤ M) → rl_lg tm ln t n ≤ M
  | 0, _ => Nat.zero_le _
  | n + 1, h => by
    by_cases z : n = 0
    · rw [z]
      exact Nat.zero_le _
    · rw [rl_lg_s z]
      have := rl_lg_le (tm := tm) (ln := ln) (t := t) (M := M) n (fun s hs => h s (by omega))
      have := h n (by omega)
      split <;> omega
theorem rl_lg_anti {tm ln : Nat → Nat} {t t' : Nat} (ht : t ≤ t') : ∀ n, rl_lg tm ln t' n ≤ rl_lg tm ln t n
  | 0 => Nat.le_refl _
  | n + 1 => by
    by_cases z : n = 0
    · rw [z]
      exact Nat.le_refl _
    · rw [rl_lg_s z, rl_lg_s z]
      have := rl_lg_anti (tm := tm) (ln := ln) ht n
      split <;> split <;> omega
theorem rl_lg_ge {tm ln : Nat → Nat} {t s : Nat} (h0 : s ≠ 0) (h1 : t ≤ tm s) : ∀ n, s < n → ln s ≤ rl_lg tm ln t n
  | 0, h => absurd h (by omega)
  | n + 1, h => by
    rw [rl_lg_s (by omega)]
    by_cases e : s = n
    · subst e
      split <;> omega
    · have := rl_lg_ge (tm := tm) (ln := ln) h0 h1 n (by omega)
      split <;> omega
section
variable {ls sc : Int32} {a3 a5 a6 a7 a8 : Nat → Int32} {t : Nat → Nat} {p : Nat}
theorem rl_long (hp : p ≤ 24) (hb : rf_bt t p sc a3 a5 a6 a7 a8) :
    ∃ L : Nat → Nat, (∀ x, L x ≤ 24) ∧ (∀ x, L (x + 1) ≤ L x) ∧ (0 < p → 0 < L 1) ∧
      ∀ (x : Nat) (P : Int32 → St1 → Prop) (pl ls ra : Int32) (a1 a2 a4 a9 : Nat → Int32), 1 ≤ x → x ≤ 24 → P (nI (L x)) (nI p, pl, 1, sc, ls, ra, a1, a2, a3, a4, a5, a6, a7, a8, a9) →
        wpX_longest P (nI p, pl, 1, sc, ls, ra, a1, a2, a3, a4, a5, a6, a7, a8, a9) (nI x) := by
  obtain ⟨m, lk, hm, hsc, hI, h3, h5, h7, h8, h6⟩ := hb
  have hI2 := hI
  obtain ⟨hS0, hl0, _, _, _, _, hP⟩ := hI2
  have hm0 : 0 < m := hS0
  have hle : ∀ x n, n ≤ m → rl_lg (rf_rd a6) (rf_rd a5) x n ≤ 24 := fun x n hn => rl_lg_le n (fun s hs => by have := (h5 s (by omega)).2; omega)
  refine ⟨fun x => rl_lg (rf_rd a6) (rf_rd a5) x m, fun x => hle x m (by omega), fun x => rl_lg_anti (by omega) m, ?_, ?_⟩
  · intro h0
    obtain ⟨s, s1, s2, s3⟩ := hP p (by omega)
    have s0 : s ≠ 0 := by
      intro z
      rw [z, hl0] at s2
      omega
    obtain ⟨v, v1, v2, v3⟩ := h6 s (by omega) s1
    have := rl_lg_ge (tm := rf_rd a6) (ln := rf_rd a5) (t := 1) s0 (by rw [rf_rd_e v3 (by omega)]; exact v1) m s1
    show 0 < rl_lg (rf_rd a6) (rf_rd a5) 1 m
    omega
  · intro x P pl ls ra a1 a2 a4 a9 hx1 hx2 hP
    subst hsc
    unfold wpX_longest
    dsimp only
    unfold wpX_build
    dsimp only
    refine pk_lt x 1 (fun z => absurd z (by omega)) (fun _ => pk_le x 24 (fun _ => br_f (by decide) ?_) (fun z => absurd z (by omega)))
    refine pk_loop (σ := Unit) (fun n s _ => wX_longest_22 P (nI x) (nI p) pl 1 (nI m) ls ra a1 a2 a3 a4 a5 a6 a7 a8 a9 n (nI (rl_lg (rf_rd a6) (rf_rd a5) x s)) (nI s)) (fun s _ => 1 ≤ s) m 1 () (by omega) (by omega) ?_ ?_
    · intro n _ _
      exact pk_le m m (fun _ => hP) (fun z => absurd z (by omega))
    · intro n s _ hs hs1 hw
      have hw2 := hw () (by omega)
      rw [rl_lg_s (by omega)] at hw2
      obtain ⟨v, v1, v2, v3⟩ := h6 s (by omega) hs
      obtain ⟨u1, u2⟩ := h5 s hs
      have hg := hle x s (by omega)
      have e6 : a6 (nI s).toNatClampNeg = nI v := by rw [nI_clamp (by omega), v3]
      have e5 : a5 (nI s).toNatClampNeg = nI (rf_rd a5 s) := by rw [nI_clamp (by omega)]; exact u1
      rw [rf_rd_e v3 (by omega)] at hw2
      refine pk_le m s (fun z => absurd z (by omega)) (fun _ => ⟨pk_in s 50 (by omega), pk_lt v x (fun z => nm_r (nI_1 s) ?_) (fun z => ⟨pk_in s 50 (by omega), pk_le (rf_rd a5 s) (rl_lg (rf_rd a6) (rf_rd a5) x s) (fun z2 => nm_r (nI_1 s) ?_) (fun z2 => ⟨pk_in s 50 (by omega), nm_r e5 (nm_r (nI_1 s) ?_)⟩) e5⟩) e6⟩)
      · rw [if_neg (fun g => by omega)] at hw2
        exact hw2
      · rw [if_neg (fun g => by omega)] at hw2
        exact hw2
      · rw [if_pos ⟨z, z2⟩] at hw2
        exact hw2
end
section
variable {post : Int32 → St1 → Prop} {pl bu ls sc ra : Int32} {a1 a2 a3 a4 a5 a6 a7 a8 a9 : Nat → Int32}
theorem rf_type {l c : Nat} (hl : l < 24) (hc : c < 4) (H : post (nI (l + 1)) (nI (l + 1), pl, 0, sc, ls, ra, upd a1 l (nI c), a2, a3, a4, a5, a6, a7, a8, a9)) :
    wpX_type post (nI l, pl, bu, sc, ls, ra, a1, a2, a3, a4, a5, a6, a7, a8, a9) (nI c) := by
  unfold wpX_type
  dsimp only
  refine pk_lt l 24 (fun _ => br_f (nI_pos (by omega)) (pk_lt c 4 (fun _ => ⟨pk_in l 24 hl, nm_r (e' := upd a1 l (nI c)) ?_ (nm_r (nI_1 l) H)⟩) (fun z => absurd z (by omega)))) (fun z => absurd z (by omega))
  rw [nI_clamp (by omega), tb_byte c (by omega)]
theorem rf_type_full {x : Int32} (H : post (-1) (nI 24, pl, bu, sc, ls, ra, a1, a2, a3, a4, a5, a6, a7, a8, a9)) :
    wpX_type post (nI 24, pl, bu, sc, ls, ra, a1, a2, a3, a4, a5, a6, a7, a8, a9) x := by
  unfold wpX_type
  dsimp only
  exact br_f (by decide) H
theorem rf_shift_0 (H : post (-2) (nI 0, pl, bu, sc, ls, ra, a1, a2, a3, a4, a5, a6, a7, a8, a9)) :
    wpX_shift post (nI 0, pl, bu, sc, ls, ra, a1, a2, a3, a4, a5, a6, a7, a8, a9) := by
  unfold wpX_shift
  dsimp only
  exact br_t rfl H
theorem rf_shift {l : Nat} (hl : l < 24) (h1 : ∀ j, j < l + 1 → ∃ v, v < 4 ∧ a1 j = nI v) (H : ∀ b, (∀ j, j < l → b j = a1 (j + 1)) → post (nI l) (nI l, pl, 0, sc, ls, ra, b, a2, a3, a4, a5, a6, a7, a8, a9)) :
    wpX_shift post (nI (l + 1), pl, bu, sc, ls, ra, a1, a2, a3, a4, a5, a6, a7, a8, a9) := by
  unfold wpX_shift
  dsimp only
  refine br_f (nI_ne0 (by omega) (by omega)) (nm_r (nI_pred l) ?_)
  refine pk_loop (fun n i s => wX_shift_22 post (nI l) pl bu sc ls ra n (nI i) s a2 a3 a4 a5 a6 a7 a8 a9) (fun i s => (∀ j, j < i → s j = a1 (j + 1)) ∧ (∀ j, i ≤ j → s j = a1 j)) l 0 a1 (by omega) ⟨fun j hj => absurd hj (by omega), fun j _ => rfl⟩ ?_ ?_
  · intro n s h
    exact pk_le l l (fun _ => H s h.1) (fun z => absurd z (by omega))
  · intro n i s hi h hw
    obtain ⟨v, hv, ev⟩ := h1 (i + 1) (by omega)
    refine pk_le l i (fun z => absurd z (by omega)) (fun _ => ⟨pk_in (i + 1) 24 (by omega) (nI_1 i), pk_in i 24 (by omega), nm_r (e' := upd s i (nI v)) ?_ (nm_r (nI_1 i) (hw _ ⟨?_, ?_⟩))⟩)
    · rw [nI_1, nI_clamp (show i < 2 ^ 31 by omega), nI_clamp (show i + 1 < 2 ^ 31 by omega), h.2 (i + 1) (by omega), ev, tb_nb (by omega)]
    · intro j hj
      by_cases e : j = i
      · rw [e, pk_us, ev]
      · rw [pk_un e]
        exact h.1 j (by omega)
    · intro j hj
      rw [pk_un (by omega)]
      exact h.2 j (by omega)
end
end
section
/-! the law -/
/-- a state that matches the law's text w of len letters -/
def rl_st (w : Int64) (len : Nat) (bu sc : Int32) (a1 a3 a5 a6 a7 a8 : Nat → Int32) : Prop :=
  len ≤ 24 ∧ (∀ i, i < len → a1 i = nI (tb_T w i) ∧ tb_T w i < 4) ∧ (bu = 0 ∨ (bu = 1 ∧ rf_bt (tb_T w) len sc a3 a5 a6 a7 a8))
section
variable {post : Int32 → Prop} {L : Nat} {xs : Nat → Int32} {J16 : Int64 → Int32 → Int32 → Int32 → Int32 → Int32 → Int32 → Int32 → Int32 → (Nat → Int32) → (Nat → Int32) → (Nat → Int32) → (Nat → Int32) → (Nat → Int32) → (Nat → Int32) → (Nat → Int32) → (Nat → Int32) → (Nat → Int32) → Prop}
  {w : Int64} {len i kc ks : Nat} {x6 pl bu sc ls ra : Int32} {a1 a2 a3 a4 a5 a6 a7 a8 a9 : Nat → Int32}
theorem rl_297 (hJ : ∀ pl bu sc ls ra a2 a3 a4 a5 a6 a7 a8 a9, rl_st w len bu sc a1 a3 a5 a6 a7 a8 → J16 w (nI len) (nI (i + 1)) (nI len) pl bu sc ls ra a1 a2 a3 a4 a5 a6 a7 a8 a9) (hst : rl_st w len bu sc a1 a3 a5 a6 a7 a8) :
    wL_law_297 post L xs J16 w (nI len) (nI i) 1 kc ks (nI len) pl bu sc ls ra a1 a2 a3 a4 a5 a6 a7 a8 a9 := by
  unfold wL_law_297 wL_law_302
  exact br_f (by decide) (br_f (by decide) (nm_r (nI_1 i) (hJ _ _ _ _ _ _ _ _ _ _ _ _ _ hst)))
theorem rl_270 (hJ : ∀ pl bu sc ls ra a2 a3 a4 a5 a6 a7 a8 a9, rl_st w len bu sc a1 a3 a5 a6 a7 a8 → J16 w (nI len) (nI (i + 1)) (nI len) pl bu sc ls ra a1 a2 a3 a4 a5 a6 a7 a8 a9) (hst : rl_st w len bu sc a1 a3 a5 a6 a7 a8) :
    wL_law_270 post L xs J16 w (nI len) (nI i) kc ks (nI len) pl bu sc ls ra a1 a2 a3 a4 a5 a6 a7 a8 a9 := by
  unfold wL_law_270 wL_law_275
  refine br_c (fun _ => ?_) (fun _ => rl_297 hJ hst)
  refine rl_walks hst.2.1 hst.1 hst.2.2 (fun sc ls ra b3 b4 b5 b6 b7 b8 b9 hb => ?_)
  dsimp only
  exact br_f (by decide) (rl_297 hJ ⟨hst.1, hst.2.1, Or.inr ⟨rfl, hb⟩⟩)
theorem rl_178 (hJ : ∀ pl bu sc ls ra a2 a3 a4 a5 a6 a7 a8 a9, rl_st w len bu sc a1 a3 a5 a6 a7 a8 → J16 w (nI len) (nI (i + 1)) (nI len) pl bu sc ls ra a1 a2 a3 a4 a5 a6 a7 a8 a9) (hst : rl_st w len bu sc a1 a3 a5 a6 a7 a8) :
    wL_law_178 post L xs J16 w (nI len) (nI i) x6 kc ks (nI len) pl bu sc ls ra a1 a2 a3 a4 a5 a6 a7 a8 a9 := by
  unfold wL_law_178
  refine rf_wordsm hst.2.1 hst.1 hst.2.2 (fun sc ls b3 b4 b5 b6 b7 b8 b9 hb => ?_)
  dsimp only
  have hlen := hst.1
  have hb2 := hb
  obtain ⟨m, lk, _, _, hI, _⟩ := hb2
  have hN := en_N_le hI hlen hI.1
  obtain ⟨Lg, g1, g2, g3, g4⟩ := rl_long hlen hb
  have hst' : rl_st w len 1 sc a1 b3 b5 b6 b7 b8 := ⟨hst.1, hst.2.1, Or.inr ⟨rfl, hb⟩⟩
  have key : ∀ c x last, x + c = 25 → 1 ≤ x → last ≤ 24 → Lg x ≤ last → wL_law_191 post L xs J16 w (nI len) (nI i) x6 (nI (en_N (rf_rd b3) 0)) kc ks (c + 1) (nI last) (nI x) (nI len) pl 1 sc ls ra a1 a2 b3 b4 b5 b6 b7 b8 b9 := by
    intro c
    induction c with
    | zero =>
      intro x last e hx hl hL
      refine pk_lt 24 x (fun _ => ?_) (fun z => absurd z (by omega))
      refine pk_eq (en_N (rf_rd b3) 0) 0 (fun _ => rl_270 hJ hst') (fun z => ⟨nI_ne0 (by omega) (by omega), ?_⟩)
      obtain ⟨j, hj, ej⟩ := pk_andE (x6 >>> ((3 : Int32) &&& 31)) 10 (m := 1023) (by decide)
      rw [ej, pk_rem (by omega) (by omega) (by omega)]
      refine rl_ranked hlen hb (Nat.mod_lt _ (by omega)) (fun pl' ra' b2 => ?_)
      dsimp only
      exact br_f (by decide) (rl_270 hJ hst')
    | succ c ih =>
      intro x last e hx hl hL
      refine pk_lt 24 x (fun z => absurd z (by omega)) (fun _ => ?_)
      refine g4 x _ _ _ _ _ _ _ _ hx (by omega) ?_
      dsimp only
      have hLx := g1 x
      have next : wL_law_191 post L xs J16 w (nI len) (nI i) x6 (nI (en_N (rf_rd b3) 0)) kc ks (c + 1) (nI (Lg x)) (nI (x + 1)) (nI len) pl 1 sc ls ra a1 a2 b3 b4 b5 b6 b7 b8 b9 := ih (x + 1) (Lg x) (by omega) (by omega) (by omega) (g2 x)
      refine br_f (nI_pos (by omega)) (pk_lt last (Lg x) (fun z => absurd z (by omega)) (fun _ => ?_))
      refine pk_eq (Lg x) 0 (fun z => ?_) (fun _ => nm_r (nI_1 x) next)
      refine pk_lt 1 x (fun _ => nm_r (nI_1 x) next) (fun z2 => ?_)
      refine pk_le len 0 (fun _ => nm_r (nI_1 x) next) (fun z3 => ?_)
      have hx1 : x = 1 := by omega
      rw [hx1] at z
      have := g3 z3
      omega
  exact ⟨25, key 24 1 24 (by omega) (by omega) (by omega) (g1 1)⟩
end
section
variable {L : Nat} {xs : Nat → Int32} {kc ks : Nat}
theorem rl_322 {w : Int64} {len : Nat} {pl bu sc ls ra : Int32} {a1 a2 a3 a4 a5 a6 a7 a8 a9 : Nat → Int32} (hst : rl_st w len bu sc a1 a3 a5 a6 a7 a8) :
    wL_law_322 (fun r => r = 1) L xs w (nI len) kc ks (nI len) pl bu sc ls ra a1 a2 a3 a4 a5 a6 a7 a8 a9 := by
  unfold wL_law_322
  refine rl_walks hst.2.1 hst.1 hst.2.2 (fun sc ls ra b3 b4 b5 b6 b7 b8 b9 hb => ?_)
  rfl
theorem rl_16 (hL : L ≤ 260) : ∀ (c i : Nat) (w : Int64) (len : Nat) (pl bu sc ls ra : Int32) (a1 a2 a3 a4 a5 a6 a7 a8 a9 : Nat → Int32), i + c = 60 → rl_st w len bu sc a1 a3 a5 a6 a7 a8 →
    wL_law_16 (fun r => r = 1) L xs kc ks (c + 1) w (nI len) (nI i) (nI len) pl bu sc ls ra a1 a2 a3 a4 a5 a6 a7 a8 a9 := by
  intro c
  induction c with
  | zero =>
    intro i w len pl bu sc ls ra a1 a2 a3 a4 a5 a6 a7 a8 a9 e hst
    exact pk_le L i (fun _ => rl_322 hst) (fun _ => pk_le 60 i (fun _ => rl_322 hst) (fun z => absurd z (by omega)))
  | succ c ih =>
    intro i w len pl bu sc ls ra a1 a2 a3 a4 a5 a6 a7 a8 a9 e hst
    obtain ⟨hlen, htx, hb⟩ := id hst
    refine pk_le L i (fun _ => rl_322 hst) (fun hi => pk_le 60 i (fun z => absurd z (by omega)) (fun _ => ⟨pk_in i L hi, nm_e ?_⟩))
    generalize xs (nI i).toNatClampNeg = x6
    have ty : ∀ d, d < 4 → wL_law_66 (fun r => r = 1) L xs (wL_law_16 (fun r => r = 1) L xs kc ks (c + 1)) w (nI len) (nI i) x6 (nI d) kc ks (nI len) pl bu sc ls ra a1 a2 a3 a4 a5 a6 a7 a8 a9 := by
      intro d hd
      unfold wL_law_66
      by_cases full : len = 24
      · subst full
        refine rf_type_full ?_
        dsimp only
        refine br_t rfl ?_
        unfold wL_law_89
        refine br_t rfl (br_t (by decide) ?_)
        unfold wL_law_125 wL_law_135
        refine br_t (by decide) ?_
        exact rl_178 (fun pl bu sc ls ra a2 a3 a4 a5 a6 a7 a8 a9 h => ih (i + 1) w 24 _ _ _ _ _ _ _ _ _ _ _ _ _ _ (by omega) h) hst
      · refine rf_type (by omega) hd ?_
        dsimp only
        refine pk_eq len 24 (fun z => absurd z full) (fun _ => ?_)
        unfold wL_law_89
        refine br_t (nI_1 len).symm (pk_le 24 len (fun z => absurd z (by omega)) (fun _ => nm_e ?_))
        unfold wL_law_125 wL_law_135
        refine pk_le 24 len (fun z => absurd z (by omega)) (fun _ => nm_r (nI_1 len) ?_)
        refine rl_178 (fun pl bu sc ls ra a2 a3 a4 a5 a6 a7 a8 a9 h => ih (i + 1) _ (len + 1) _ _ _ _ _ _ _ _ _ _ _ _ _ _ (by omega) h) ⟨by omega, ?_, Or.inl rfl⟩
        intro j hj
        refine ⟨?_, tb_lt _ _⟩
        by_cases ej : j = len
        · rw [ej, pk_us, tb_put_s w (by omega) hd]
        · rw [pk_un ej, tb_put_o w (by omega) hd (by omega) ej]
          exact (htx j (by omega)).1
    refine br_c (fun _ => ?_) (fun _ => br_c (fun _ => ?_) (fun _ => ?_))
    · by_cases em : len = 0
      · subst em
        refine rf_shift_0 ?_
        dsimp only
        refine br_t rfl ?_
        unfold wL_law_156
        refine br_t rfl (br_t (by decide) ?_)
        unfold wL_law_170
        refine br_t (by decide) ?_
        exact rl_178 (fun pl bu sc ls ra a2 a3 a4 a5 a6 a7 a8 a9 h => ih (i + 1) w 0 _ _ _ _ _ _ _ _ _ _ _ _ _ _ (by omega) h) hst
      · obtain ⟨l, rfl⟩ : ∃ l, len = l + 1 := ⟨len - 1, by omega⟩
        refine rf_shift (by omega) (fun j hj => ⟨_, (htx j hj).2, (htx j hj).1⟩) (fun b hbj => ?_)
        dsimp only
        refine br_f (nI_ne0 (by omega) (by omega)) ?_
        unfold wL_law_156
        refine br_t (nI_pred l).symm (pk_le (l + 1) 0 (fun z => absurd z (by omega)) (fun _ => nm_e ?_))
        unfold wL_law_170
        refine pk_le (l + 1) 0 (fun z => absurd z (by omega)) (fun _ => nm_r (pk_m1 l) ?_)
        refine rl_178 (fun pl bu sc ls ra a2 a3 a4 a5 a6 a7 a8 a9 h => ih (i + 1) _ l _ _ _ _ _ _ _ _ _ _ _ _ _ _ (by omega) h) ⟨by omega, ?_, Or.inl rfl⟩
        intro j hj
        refine ⟨?_, tb_lt _ _⟩
        rw [hbj j hj, tb_shift w (by omega)]
        exact (htx (j + 1) (by omega)).1
    · obtain ⟨d, hd, ed⟩ := pk_andE x6 1 (m := 1) (by decide)
      rw [ed]
      exact ty d (by omega)
    · obtain ⟨d, hd, ed⟩ := pk_andE (x6 >>> ((4 : Int32) &&& 31)) 2 (m := 3) (by decide)
      rw [ed]
      exact ty d (by omega)
end
theorem i_vc (xs : Nat → Int32) (L : Nat) (hL : L ≤ 260) : wpL_law (fun r => r = 1) L xs := by
  unfold wpL_law
  refine ⟨9, 536, by omega, by omega, ?_⟩
  unfold wpX_init
  dsimp only
  refine ⟨by omega, by omega, by omega, by omega, by omega, by omega, by omega, by omega, by omega, by omega, by omega, by omega, by omega, by omega, by omega, by omega, by omega, by omega, 61, ?_⟩
  exact rl_16 hL 60 0 0 0 0 0 0 0 0 _ _ _ _ _ _ _ _ _ (by omega) ⟨by omega, fun i hi => absurd hi (by omega), Or.inl rfl⟩
end
