section
/-! PURE PART 1: counting, matchings between 7 rows and 7 columns (a matching is a function row -> column, a value of 7 or more says 'free') -/
def mm_cnt (p : Nat → Bool) : Nat → Nat
  | 0 => 0
  | n + 1 => mm_cnt p n + (if p n = true then 1 else 0)
theorem mm_cnt_le (p : Nat → Bool) : ∀ n, mm_cnt p n ≤ n
  | 0 => Nat.le_refl 0
  | n + 1 => by
    have := mm_cnt_le p n
    simp only [mm_cnt]
    split <;> omega
theorem mm_cnt_congr {p q : Nat → Bool} : ∀ n, (∀ i, i < n → p i = q i) → mm_cnt p n = mm_cnt q n
  | 0, _ => rfl
  | n + 1, h => by
    simp only [mm_cnt]
    rw [mm_cnt_congr n (fun i hi => h i (by omega)), h n (by omega)]
/-- one taken out -/
theorem mm_cnt_rem (q : Nat → Bool) (j : Nat) (hq : q j = true) : ∀ m, j < m → mm_cnt q m = mm_cnt (fun i => q i && !(i == j)) m + 1
  | 0, h => by omega
  | m + 1, h => by
    simp only [mm_cnt]
    rcases Nat.lt_or_ge j m with hj | hj
    · rw [mm_cnt_rem q j hq m hj]
      have e : (m == j) = false := by
        simp only [beq_eq_false_iff_ne, ne_eq]
        omega
      simp only [e, Bool.not_false, Bool.and_true]
      omega
    · have e : j = m := by omega
      subst e
      have e2 : mm_cnt q j = mm_cnt (fun i => q i && !(i == j)) j := mm_cnt_congr j (fun i hi => by
        have e : (i == j) = false := by
          simp only [beq_eq_false_iff_ne, ne_eq]
          omega
        simp only [e, Bool.not_false, Bool.and_true])
      rw [e2]
      simp [hq]
theorem mm_inj (p : Nat → Bool) (g : Nat → Nat) (m : Nat) : ∀ (n : Nat) (q : Nat → Bool), (∀ i, i < n → p i = true → g i < m ∧ q (g i) = true) → (∀ i j, i < n → j < n → p i = true → p j = true → g i = g j → i = j) → mm_cnt p n ≤ mm_cnt q m
  | 0, q, _, _ => Nat.zero_le _
  | n + 1, q, h, hj => by
    simp only [mm_cnt]
    by_cases hp : p n = true
    · obtain ⟨h1, h2⟩ := h n (by omega) hp
      have e := mm_cnt_rem q (g n) h2 m h1
      have ih := mm_inj p g m n (fun i => q i && !(i == g n)) (fun i hi hpi => by
        obtain ⟨a, b⟩ := h i (by omega) hpi
        refine ⟨a, ?_⟩
        have hne : g i ≠ g n := fun e => by
          have := hj i n (by omega) (by omega) hpi hp e
          omega
        simp [b, hne]) (fun i j a b => hj i j (by omega) (by omega))
      rw [if_pos hp]
      omega
    · rw [if_neg hp]
      have := mm_inj p g m n q (fun i hi => h i (by omega)) (fun i j a b => hj i j (by omega) (by omega))
      omega
theorem mm_cnt_mono {p q : Nat → Bool} (n : Nat) (h : ∀ i, i < n → p i = true → q i = true) : mm_cnt p n ≤ mm_cnt q n :=
  mm_inj p (fun i => i) n n q (fun i hi hp => ⟨hi, h i hi hp⟩) (fun _ _ _ _ _ _ e => e)
theorem mm_cnt_split (p x : Nat → Bool) : ∀ n, mm_cnt p n = mm_cnt (fun i => p i && x i) n + mm_cnt (fun i => p i && !x i) n
  | 0 => rfl
  | n + 1 => by
    simp only [mm_cnt]
    rw [mm_cnt_split p x n]
    by_cases hp : p n = true <;> by_cases hx : x n = true <;> simp [hp, hx] <;> omega
theorem mm_cnt_not (p : Nat → Bool) : ∀ n, mm_cnt p n + mm_cnt (fun i => !p i) n = n
  | 0 => rfl
  | n + 1 => by
    have := mm_cnt_not p n
    simp only [mm_cnt]
    by_cases hp : p n = true <;> simp [hp] <;> omega
/-- a set that has all: its count is n -/
theorem mm_cnt_all (p : Nat → Bool) (n : Nat) (h : n ≤ mm_cnt p n) : ∀ i, i < n → p i = true := by
  intro i hi
  cases hp : p i with
  | true => rfl
  | false =>
    have h1 := mm_cnt_not p n
    have h2 := mm_cnt_rem (fun i => !p i) i (by simp [hp]) n hi
    omega
/-- a new one put in -/
theorem mm_cnt_lt {p q : Nat → Bool} (n j : Nat) (hj : j < n) (h : ∀ i, i < n → p i = true → q i = true) (hp : p j = false) (hq : q j = true) : mm_cnt p n + 1 ≤ mm_cnt q n := by
  have e := mm_cnt_rem q j hq n hj
  have := mm_cnt_mono (p := p) (q := fun i => q i && !(i == j)) n (fun i hi hpi => by
    have hne : i ≠ j := fun e => by rw [e, hp] at hpi; cases hpi
    simp [h i hi hpi, hne])
  omega
theorem mm_cnt_pos {p : Nat → Bool} (n j : Nat) (hj : j < n) (hp : p j = true) : 1 ≤ mm_cnt p n := by
  have e := mm_cnt_rem p j hp n hj
  omega
def mm_up {α : Type} (f : Nat → α) (k : Nat) (v : α) : Nat → α := fun j => if j = k then v else f j
theorem mm_up_s {α : Type} (f : Nat → α) (k : Nat) (v : α) : mm_up f k v k = v := if_pos rfl
theorem mm_up_n {α : Type} {f : Nat → α} {k j : Nat} {v : α} (h : j ≠ k) : mm_up f k v j = f j := if_neg h
def mm_M (G : Nat → Nat → Bool) (f : Nat → Nat) : Prop := (∀ r, r < 7 → f r < 7 → G r (f r) = true) ∧ ∀ r r', r < 7 → r' < 7 → f r < 7 → f r = f r' → r = r'
def mm_S (f : Nat → Nat) : Nat := mm_cnt (fun r => decide (f r < 7)) 7
def mm_Nu (G : Nat → Nat → Bool) (k : Nat) : Prop := (∃ f, mm_M G f ∧ mm_S f = k) ∧ ∀ f, mm_M G f → mm_S f ≤ k
/-- the other direction of a matching -/
def mm_I (f g : Nat → Nat) : Prop := (∀ r, r < 7 → f r < 7 → g (f r) = r) ∧ ∀ c, c < 7 → g c < 7 → f (g c) = c
theorem mm_Nu_uniq {G : Nat → Nat → Bool} {a b : Nat} (h : mm_Nu G a) (h' : mm_Nu G b) : a = b := by
  obtain ⟨⟨f, hf, e⟩, h1⟩ := h
  obtain ⟨⟨f', hf', e'⟩, h1'⟩ := h'
  have := h1 f' hf'
  have := h1' f hf
  omega
theorem mm_M_mono {G G' : Nat → Nat → Bool} {f : Nat → Nat} (h : mm_M G f) (hG : ∀ r, r < 7 → f r < 7 → G r (f r) = true → G' r (f r) = true) : mm_M G' f := ⟨fun r hr hf => hG r hr hf (h.1 r hr hf), h.2⟩
theorem mm_S_le (f : Nat → Nat) : mm_S f ≤ 7 := mm_cnt_le _ 7
/-- no matching is larger than a cover -/
theorem mm_weak {G : Nat → Nat → Bool} {f : Nat → Nat} {X Y : Nat → Bool} (hM : mm_M G f) (hc : ∀ r c, r < 7 → c < 7 → G r c = true → X r = true ∨ Y c = true) : mm_S f ≤ mm_cnt X 7 + mm_cnt Y 7 := by
  have e := mm_cnt_split (fun r => decide (f r < 7)) X 7
  have h1 : mm_cnt (fun i => decide (f i < 7) && X i) 7 ≤ mm_cnt X 7 := mm_cnt_mono 7 (fun i _ h => by
    simp only [Bool.and_eq_true] at h
    exact h.2)
  have h2 : mm_cnt (fun i => decide (f i < 7) && !X i) 7 ≤ mm_cnt Y 7 := mm_inj _ f 7 7 Y (fun i hi h => by
    simp only [Bool.and_eq_true, decide_eq_true_eq, Bool.not_eq_true'] at h
    refine ⟨h.1, ?_⟩
    rcases hc i (f i) hi h.1 (hM.1 i hi h.1) with q | q
    · rw [h.2] at q; cases q
    · exact q) (fun i j hi hj h _ e => by
    simp only [Bool.and_eq_true, decide_eq_true_eq, Bool.not_eq_true'] at h
    exact hM.2 i j hi hj h.1 e)
  unfold mm_S
  omega
theorem mm_S_same {f : Nat → Nat} {r v : Nat} (hf : f r < 7) (hv : v < 7) : mm_S (mm_up f r v) = mm_S f := by
  unfold mm_S
  refine mm_cnt_congr 7 (fun i _ => ?_)
  by_cases e : i = r
  · subst e
    simp [mm_up_s, hf, hv]
  · rw [mm_up_n e]
theorem mm_S_new {f : Nat → Nat} {r v : Nat} (hr : r < 7) (hf : ¬ f r < 7) (hv : v < 7) : mm_S (mm_up f r v) = mm_S f + 1 := by
  unfold mm_S
  rw [mm_cnt_rem (fun i => decide (mm_up f r v i < 7)) r (by simp [mm_up_s, hv]) 7 hr]
  congr 1
  refine mm_cnt_congr 7 (fun i _ => ?_)
  by_cases e : i = r
  · subst e
    simp [hf]
  · rw [mm_up_n e]
    simp [e]
theorem mm_S_del {f : Nat → Nat} {r v : Nat} (hr : r < 7) (hf : f r < 7) (hv : ¬ v < 7) : mm_S f = mm_S (mm_up f r v) + 1 := by
  unfold mm_S
  rw [mm_cnt_rem (fun i => decide (f i < 7)) r (by simp [hf]) 7 hr]
  congr 1
  refine mm_cnt_congr 7 (fun i _ => ?_)
  by_cases e : i = r
  · subst e
    simp [mm_up_s, hv]
  · rw [mm_up_n e]
    simp [e]
/-- a row is given a column that is free -/
theorem mm_M_put {G : Nat → Nat → Bool} {f : Nat → Nat} {r c : Nat} (h : mm_M G f) (hG : G r c = true) (hc : ∀ x, x < 7 → f x ≠ c) : mm_M G (mm_up f r c) := by
  refine ⟨fun x hx hf => ?_, fun x y hx hy hf e => ?_⟩
  · by_cases ex : x = r
    · subst ex
      rw [mm_up_s]
      exact hG
    · rw [mm_up_n ex] at hf ⊢
      exact h.1 x hx hf
  · by_cases ex : x = r <;> by_cases ey : y = r
    · omega
    · subst ex
      rw [mm_up_s, mm_up_n ey] at e
      exact absurd e.symm (hc y hy)
    · subst ey
      rw [mm_up_s, mm_up_n ex] at e
      exact absurd e (hc x hx)
    · rw [mm_up_n ex, mm_up_n ey] at e
      rw [mm_up_n ex] at hf
      exact h.2 x y hx hy hf e
theorem mm_M_del {G : Nat → Nat → Bool} {f : Nat → Nat} {r v : Nat} (h : mm_M G f) (hv : ¬ v < 7) : mm_M G (mm_up f r v) := by
  refine ⟨fun x hx hf => ?_, fun x y hx hy hf e => ?_⟩
  · by_cases ex : x = r
    · subst ex
      rw [mm_up_s] at hf
      exact absurd hf hv
    · rw [mm_up_n ex] at hf ⊢
      exact h.1 x hx hf
  · by_cases ex : x = r
    · subst ex
      rw [mm_up_s] at hf
      exact absurd hf hv
    · rw [mm_up_n ex] at hf e
      by_cases ey : y = r
      · subst ey
        rw [mm_up_s] at e
        omega
      · rw [mm_up_n ey] at e
        exact h.2 x y hx hy hf e
/-- THE PATH BACK: a free column next to a row of the ranked set R; the rows of lower rank hand their columns on -/
theorem mm_back {G : Nat → Nat → Bool} {M rk : Nat → Nat} {R : Nat → Prop} (hR : ∀ r, r < 7 → R r → M r < 7 → ∃ r', r' < 7 ∧ R r' ∧ rk r' < rk r ∧ G r' (M r) = true) :
    ∀ (d : Nat) (N : Nat → Nat) (c : Nat), c < 7 → mm_M G N → (∀ r, r < 7 → N r ≠ c) → (∀ r, r < 7 → R r → rk r < d → N r = M r) → (∃ r, r < 7 ∧ R r ∧ rk r < d ∧ G r c = true) →
    ∃ N', mm_M G N' ∧ mm_S N' = mm_S N + 1 ∧ (∀ r, r < 7 → ¬ (R r ∧ rk r < d) → N' r = N r) ∧ ∀ r, r < 7 → N' r < 7 → N' r = c ∨ ∃ r', r' < 7 ∧ N r' = N' r := by
  intro d
  induction d using Nat.strongRecOn with
  | ind d ih =>
    intro N c hc hN hfree hag hex
    obtain ⟨r, hr, hRr, hrk, hG⟩ := hex
    have hNr := hag r hr hRr hrk
    have hM1 : mm_M G (mm_up N r c) := mm_M_put hN hG hfree
    by_cases hf : M r < 7
    · obtain ⟨r', hr', hRr', hrk', hG'⟩ := hR r hr hRr hf
      have hNf : N r < 7 := by rw [hNr]; exact hf
      obtain ⟨N', h1, h2, h3, h4⟩ := ih (rk r) hrk (mm_up N r c) (M r) hf hM1 (fun x hx e => by
        by_cases ex : x = r
        · subst ex
          rw [mm_up_s] at e
          exact hfree x hx (by rw [hNr, e])
        · rw [mm_up_n ex] at e
          exact ex (hN.2 x r hx hr (by rw [e]; exact hf) (by rw [e, hNr]))) (fun x hx hRx hkx => by
        have ex : x ≠ r := fun e => by rw [e] at hkx; omega
        rw [mm_up_n ex]
        exact hag x hx hRx (by omega)) ⟨r', hr', hRr', hrk', hG'⟩
      refine ⟨N', h1, by rw [h2, mm_S_same hNf hc], fun x hx hnx => ?_, fun x hx hfx => ?_⟩
      · have ex : x ≠ r := fun e => by rw [e] at hnx; exact hnx ⟨hRr, hrk⟩
        rw [h3 x hx (fun q => hnx ⟨q.1, by omega⟩), mm_up_n ex]
      · rcases h4 x hx hfx with q | ⟨y, hy, q⟩
        · exact Or.inr ⟨r, hr, by rw [hNr, q]⟩
        · by_cases ey : y = r
          · subst ey
            rw [mm_up_s] at q
            exact Or.inl q.symm
          · rw [mm_up_n ey] at q
            exact Or.inr ⟨y, hy, q⟩
    · refine ⟨mm_up N r c, hM1, mm_S_new hr (by rw [hNr]; exact hf) hc, fun x hx hnx => ?_, fun x hx hfx => ?_⟩
      · have ex : x ≠ r := fun e => by rw [e] at hnx; exact hnx ⟨hRr, hrk⟩
        rw [mm_up_n ex]
      · by_cases ex : x = r
        · subst ex
          exact Or.inl (mm_up_s _ _ _)
        · rw [mm_up_n ex]
          exact Or.inr ⟨x, hx, rfl⟩
/-- a ranked row can be left out -/
theorem mm_loose {G : Nat → Nat → Bool} {M rk : Nat → Nat} {R : Nat → Prop} (hM : mm_M G M) (hR : ∀ r, r < 7 → R r → M r < 7 → ∃ r', r' < 7 ∧ R r' ∧ rk r' < rk r ∧ G r' (M r) = true) {r : Nat} (hr : r < 7) (hRr : R r) : ∃ N, mm_M G N ∧ mm_S N = mm_S M ∧ ¬ N r < 7 := by
  by_cases hf : M r < 7
  · obtain ⟨r', hr', hRr', hrk', hG'⟩ := hR r hr hRr hf
    have h7 : ¬ (7 : Nat) < 7 := by omega
    obtain ⟨N', h1, h2, h3, h4⟩ := mm_back hR (rk r) (mm_up M r 7) (M r) hf (mm_M_del hM h7) (fun x hx e => by
      by_cases ex : x = r
      · subst ex
        rw [mm_up_s] at e
        omega
      · rw [mm_up_n ex] at e
        exact ex (hM.2 x r hx hr (by rw [e]; exact hf) e)) (fun x hx hRx hkx => by
      have ex : x ≠ r := fun e => by rw [e] at hkx; omega
      rw [mm_up_n ex]) ⟨r', hr', hRr', hrk', hG'⟩
    refine ⟨N', h1, ?_, ?_⟩
    · rw [h2, ← mm_S_del hr hf h7]
    · rw [h3 r hr (fun q => by omega), mm_up_s]
      omega
  · exact ⟨M, hM, rfl, hf⟩
/-- the inverse of a matching -/
theorem mm_I_ex {G : Nat → Nat → Bool} {f : Nat → Nat} (h : mm_M G f) : ∃ g, mm_I f g := by
  have key : ∀ c : Nat, ∃ r : Nat, (r < 7 ∧ f r = c) ∨ (r = 7 ∧ ∀ x, x < 7 → f x ≠ c) := by
    intro c
    by_cases e : ∃ r, r < 7 ∧ f r = c
    · obtain ⟨r, hr⟩ := e
      exact ⟨r, Or.inl hr⟩
    · exact ⟨7, Or.inr ⟨rfl, fun x hx ex => e ⟨x, hx, ex⟩⟩⟩
  refine ⟨fun c => Classical.choose (key c), fun r hr hf => ?_, fun c hc hg => ?_⟩
  · have := Classical.choose_spec (key (f r))
    show Classical.choose (key (f r)) = r
    generalize Classical.choose (key (f r)) = z at this
    rcases this with ⟨q1, q2⟩ | ⟨q1, q2⟩
    · exact (h.2 r z hr q1 hf q2.symm).symm
    · exact absurd rfl (q2 r hr)
  · have := Classical.choose_spec (key c)
    show f (Classical.choose (key c)) = c
    generalize hz : Classical.choose (key c) = z at this
    rcases this with ⟨q1, q2⟩ | ⟨q1, q2⟩
    · exact q2
    · have hg : Classical.choose (key c) < 7 := hg
      omega
theorem mm_I_symm {f g : Nat → Nat} (h : mm_I f g) : mm_I g f := ⟨h.2, h.1⟩
theorem mm_I_M {G : Nat → Nat → Bool} {f g : Nat → Nat} (h : mm_M G f) (hI : mm_I f g) : mm_M (fun a b => G b a) g := by
  refine ⟨fun c hc hg => ?_, fun c d hc hd hg e => ?_⟩
  · have e := hI.2 c hc hg
    have := h.1 (g c) hg (by rw [e]; exact hc)
    rw [e] at this
    exact this
  · have e1 := hI.2 c hc hg
    have e2 := hI.2 d hd (by rw [← e]; exact hg)
    rw [← e1, ← e2, e]
theorem mm_I_le {f g : Nat → Nat} (hI : mm_I f g) : mm_S f ≤ mm_S g := by
  refine mm_inj _ f 7 7 _ (fun i hi h => ?_) (fun i j hi hj h h' e => ?_)
  · simp only [decide_eq_true_eq] at h ⊢
    rw [hI.1 i hi h]
    exact ⟨h, hi⟩
  · simp only [decide_eq_true_eq] at h h'
    rw [← hI.1 i hi h, ← hI.1 j hj h', e]
theorem mm_I_S {f g : Nat → Nat} (hI : mm_I f g) : mm_S f = mm_S g := Nat.le_antisymm (mm_I_le hI) (mm_I_le (mm_I_symm hI))
theorem mm_Nu_T {G : Nat → Nat → Bool} {k : Nat} (h : mm_Nu G k) : mm_Nu (fun a b => G b a) k := by
  obtain ⟨⟨f, hf, e⟩, h1⟩ := h
  obtain ⟨g, hg⟩ := mm_I_ex hf
  refine ⟨⟨g, mm_I_M hf hg, by rw [← mm_I_S hg, e]⟩, fun f' hf' => ?_⟩
  obtain ⟨g', hg'⟩ := mm_I_ex hf'
  rw [mm_I_S hg']
  exact h1 g' (mm_I_M hf' hg')
end
section
/-! PURE PART 2: what a largest matching, the rows and columns that alternating paths lead to, and circles say of all largest matchings -/
/-- the graph without the row a, the column b, the edge (x, y); 7 stands for none -/
def mm_wo (G : Nat → Nat → Bool) (a b x y : Nat) : Nat → Nat → Bool := fun r c => G r c && (!(r == a) && (!(c == b) && !(r == x && c == y)))
theorem mm_wo_iff {G : Nat → Nat → Bool} {a b x y r c : Nat} : mm_wo G a b x y r c = true ↔ G r c = true ∧ r ≠ a ∧ c ≠ b ∧ ¬ (r = x ∧ c = y) := by
  simp [mm_wo]
  intros
  omega
theorem mm_Nu_congr {G G' : Nat → Nat → Bool} {k : Nat} (h : ∀ r c, r < 7 → c < 7 → G r c = G' r c) (hN : mm_Nu G k) : mm_Nu G' k := by
  obtain ⟨⟨f, hf, e⟩, h1⟩ := hN
  refine ⟨⟨f, mm_M_mono hf (fun r hr hf q => by rw [← h r _ hr hf]; exact q), e⟩, fun f' hf' => h1 f' (mm_M_mono hf' (fun r hr hf q => by rw [h r _ hr hf]; exact q))⟩
/-- the columns next to a set of rows -/
def mm_nb (Z : Nat → Bool) (G : Nat → Nat → Bool) : Nat → Bool := fun c => (List.range 7).any (fun x => Z x && G x c)
theorem mm_nb_iff {Z : Nat → Bool} {G : Nat → Nat → Bool} {c : Nat} : mm_nb Z G c = true ↔ ∃ x, x < 7 ∧ Z x = true ∧ G x c = true := by
  simp [mm_nb]
/-- a closed set of rows that holds all free ones gives a cover of the matching's size -/
theorem mm_cov {G : Nat → Nat → Bool} {pr pc : Nat → Nat} {Z Y : Nat → Bool} (hM : mm_M G pr) (hI : mm_I pr pc) (hfree : ∀ r, r < 7 → ¬ pr r < 7 → Z r = true) (hclo : ∀ x c, x < 7 → c < 7 → Z x = true → G x c = true → pc c < 7 ∧ Z (pc c) = true)
    (hY : ∀ c, c < 7 → (Y c = true ↔ ∃ x, x < 7 ∧ Z x = true ∧ G x c = true)) : mm_cnt (fun i => !Z i) 7 + mm_cnt Y 7 = mm_S pr := by
  have e := mm_cnt_split (fun r => decide (pr r < 7)) Z 7
  have h1 : mm_cnt (fun i => decide (pr i < 7) && !Z i) 7 = mm_cnt (fun i => !Z i) 7 := mm_cnt_congr 7 (fun i hi => by
    cases hz : Z i with
    | true => simp
    | false =>
      have : pr i < 7 := Classical.byContradiction fun q => by
        have := hfree i hi q
        rw [hz] at this
        cases this
      simp [this])
  have h2 : mm_cnt (fun i => decide (pr i < 7) && Z i) 7 ≤ mm_cnt Y 7 := mm_inj _ pr 7 7 Y (fun i hi h => by
    simp only [Bool.and_eq_true, decide_eq_true_eq] at h
    exact ⟨h.1, (hY _ h.1).mpr ⟨i, hi, h.2, hM.1 i hi h.1⟩⟩) (fun i j hi hj h _ e => by
    simp only [Bool.and_eq_true, decide_eq_true_eq] at h
    exact hM.2 i j hi hj h.1 e)
  have key : ∀ c, c < 7 → Y c = true → pc c < 7 ∧ Z (pc c) = true ∧ pr (pc c) = c := fun c hc h => by
    obtain ⟨x, hx, hz, hg⟩ := (hY c hc).mp h
    obtain ⟨q1, q2⟩ := hclo x c hx hc hz hg
    exact ⟨q1, q2, hI.2 c hc q1⟩
  have h3 : mm_cnt Y 7 ≤ mm_cnt (fun i => decide (pr i < 7) && Z i) 7 := mm_inj Y pc 7 7 _ (fun c hc h => by
    obtain ⟨q1, q2, q3⟩ := key c hc h
    refine ⟨q1, ?_⟩
    simp only [Bool.and_eq_true, decide_eq_true_eq, q3]
    exact ⟨hc, q2⟩) (fun c d hc hd h h' e => by
    have q := (key c hc h).2.2
    rw [e, (key d hd h').2.2] at q
    exact q.symm)
  unfold mm_S
  omega
/-- half of what 'prepare' leaves: the rows that free rows lead to -/
def mm_H (G : Nat → Nat → Bool) (pr pc : Nat → Nat) (R : Nat → Bool) : Prop :=
  (∀ r, r < 7 → ¬ pr r < 7 → R r = true) ∧ (∀ x c, x < 7 → c < 7 → R x = true → G x c = true → pc c < 7 ∧ R (pc c) = true) ∧
  ∃ rk : Nat → Nat, ∀ r, r < 7 → R r = true → pr r < 7 → ∃ r', r' < 7 ∧ R r' = true ∧ rk r' < rk r ∧ G r' (pr r) = true
/-- the circles -/
def mm_C (G : Nat → Nat → Bool) (pr pc : Nat → Nat) (Q : Nat → Nat → Bool) : Prop :=
  (∀ x c, x < 7 → c < 7 → G x c = true → pc c < 7 → Q x (pc c) = true) ∧ (∀ x y z, x < 7 → y < 7 → z < 7 → Q x y = true → Q y z = true → Q x z = true) ∧
  ∀ o, o < 7 → ∃ rk : Nat → Nat, ∀ y, y < 7 → Q o y = true → y ≠ o → pr y < 7 ∧ ∃ x, x < 7 ∧ (x = o ∨ Q o x = true) ∧ rk x < rk y ∧ G x (pr y) = true
theorem mm_max {G : Nat → Nat → Bool} {pr pc : Nat → Nat} {R : Nat → Bool} (hM : mm_M G pr) (hI : mm_I pr pc) (hH : mm_H G pr pc R) : ∀ f, mm_M G f → mm_S f ≤ mm_S pr := by
  intro f hf
  have h := mm_cov (Y := mm_nb R G) hM hI hH.1 hH.2.1 (fun c _ => mm_nb_iff)
  have := mm_weak (X := fun i => !R i) (Y := mm_nb R G) hf (fun r c hr hc hg => by
    cases hz : R r with
    | true => exact Or.inr (mm_nb_iff.mpr ⟨r, hr, hz, hg⟩)
    | false => exact Or.inl rfl)
  omega
theorem mm_t_largest {G : Nat → Nat → Bool} {pr pc : Nat → Nat} {R : Nat → Bool} (hM : mm_M G pr) (hI : mm_I pr pc) (hH : mm_H G pr pc R) : mm_Nu G (mm_S pr) := ⟨⟨pr, hM, rfl⟩, mm_max hM hI hH⟩
theorem mm_wo_M {G : Nat → Nat → Bool} {a b x y : Nat} {f : Nat → Nat} (h : mm_M (mm_wo G a b x y) f) : mm_M G f := mm_M_mono h (fun _ _ _ q => (mm_wo_iff.mp q).1)
theorem mm_t_looseR {G : Nat → Nat → Bool} {pr pc : Nat → Nat} {R : Nat → Bool} (hM : mm_M G pr) (hI : mm_I pr pc) (hH : mm_H G pr pc R) {r k : Nat} (hr : r < 7) (hk : mm_Nu (mm_wo G r 7 7 7) k) : k = mm_S pr ↔ R r = true := by
  obtain ⟨⟨f, hf, e⟩, hub⟩ := hk
  constructor
  · intro ek
    cases hz : R r with
    | true => rfl
    | false =>
      have h := mm_cov (Y := mm_nb R G) hM hI hH.1 hH.2.1 (fun c _ => mm_nb_iff)
      have h2 := mm_cnt_rem (fun i => !R i) r (by simp [hz]) 7 hr
      have := mm_weak (X := fun i => !R i && !(i == r)) (Y := mm_nb R G) hf (fun x c hx hc hg => by
        obtain ⟨g1, g2, -⟩ := mm_wo_iff.mp hg
        cases hz : R x with
        | true => exact Or.inr (mm_nb_iff.mpr ⟨x, hx, hz, g1⟩)
        | false => exact Or.inl (by simp [g2]))
      omega
  · intro hR
    obtain ⟨rk, hrk⟩ := hH.2.2
    obtain ⟨N, h1, h2, h3⟩ := mm_loose hM (R := fun r => R r = true) hrk hr hR
    have := hub N (mm_M_mono h1 (fun x hx hf q => mm_wo_iff.mpr ⟨q, fun e => by rw [e] at hf; exact h3 hf, by omega, by omega⟩))
    have := mm_max hM hI hH f (mm_wo_M hf)
    omega
theorem mm_t_looseC {G : Nat → Nat → Bool} {pr pc : Nat → Nat} {C : Nat → Bool} (hM : mm_M G pr) (hI : mm_I pr pc) (hH : mm_H (fun a b => G b a) pc pr C) {c k : Nat} (hc : c < 7) (hk : mm_Nu (mm_wo G 7 c 7 7) k) : k = mm_S pr ↔ C c = true := by
  rw [mm_I_S hI]
  refine mm_t_looseR (mm_I_M hM hI) (mm_I_symm hI) hH hc (mm_Nu_congr (fun a b ha hb => ?_) (mm_Nu_T hk))
  show mm_wo G 7 c 7 7 b a = mm_wo (fun a b => G b a) c 7 7 7 a b
  rw [Bool.eq_iff_iff, mm_wo_iff, mm_wo_iff]
  constructor
  · rintro ⟨h1, h2, h3, h4⟩
    exact ⟨h1, h3, h2, by omega⟩
  · rintro ⟨h1, h2, h3, h4⟩
    exact ⟨h1, h3, h2, by omega⟩
/-- a matching one smaller that leaves r and c free -/
def mm_Rem (G : Nat → Nat → Bool) (S r c : Nat) : Prop := ∃ N, mm_M G N ∧ mm_S N + 1 = S ∧ ¬ N r < 7 ∧ ∀ x, x < 7 → N x ≠ c
theorem mm_Rem_T {G : Nat → Nat → Bool} {S r c : Nat} (hr : r < 7) (hc : c < 7) (h : mm_Rem (fun a b => G b a) S c r) : mm_Rem G S r c := by
  obtain ⟨N, h1, h2, h3, h4⟩ := h
  obtain ⟨g, hg⟩ := mm_I_ex h1
  refine ⟨g, mm_I_M h1 hg, by rw [← mm_I_S hg]; exact h2, fun q => ?_, fun x hx e => ?_⟩
  · exact h4 (g r) q (hg.2 r hr q)
  · have := hg.2 x hx (by rw [e]; exact hc)
    rw [e] at this
    exact h3 (by rw [this]; exact hx)
theorem mm_Rem_free {G : Nat → Nat → Bool} {S r c : Nat} {N : Nat → Nat} (hr : r < 7) (hc : c < 7) (hmax : ∀ f, mm_M G f → mm_S f ≤ S) (hN : mm_M G N) (hS : mm_S N = S) (hf : ¬ N r < 7) (hG : G r c = true) : mm_Rem G S r c := by
  by_cases e : ∃ x, x < 7 ∧ N x = c
  · obtain ⟨x, hx, ex⟩ := e
    have h7 : ¬ (7 : Nat) < 7 := by omega
    have hxr : r ≠ x := fun q => by rw [q, ex] at hf; exact hf hc
    refine ⟨mm_up N x 7, mm_M_del hN h7, ?_, ?_, fun y hy ey => ?_⟩
    · rw [← mm_S_del hx (by rw [ex]; exact hc) h7]
      exact hS
    · rw [mm_up_n hxr]
      exact hf
    · by_cases q : y = x
      · subst q
        rw [mm_up_s] at ey
        omega
      · rw [mm_up_n q] at ey
        exact q (hN.2 y x hy hx (by rw [ey]; exact hc) (by rw [ey, ex]))
  · have h1 := hmax _ (mm_M_put hN hG (fun x hx ex => e ⟨x, hx, ex⟩))
    rw [mm_S_new hr hf hc] at h1
    omega
theorem mm_Rem_Nu {G : Nat → Nat → Bool} {S r c k : Nat} (hr : r < 7) (hc : c < 7) (hmax : ∀ f, mm_M G f → mm_S f ≤ S) (hG : G r c = true) (h : mm_Rem G S r c) (hk : mm_Nu (mm_wo G r c 7 7) k) : k + 1 = S := by
  obtain ⟨N, h1, h2, h3, h4⟩ := h
  obtain ⟨⟨f, hf, e⟩, hub⟩ := hk
  have := hub N (mm_M_mono h1 (fun x hx hf q => mm_wo_iff.mpr ⟨q, fun e => by rw [e] at hf; exact h3 hf, h4 x hx, by omega⟩))
  have h5 : ¬ f r < 7 := fun q => (mm_wo_iff.mp (hf.1 r hr q)).2.1 rfl
  have h6 : ∀ x, x < 7 → f x ≠ c := fun x hx q => (mm_wo_iff.mp (hf.1 x hx (by rw [q]; exact hc))).2.2.1 q
  have h7 := hmax _ (mm_M_put (mm_wo_M hf) hG h6)
  rw [mm_S_new hr h5 hc] at h7
  omega
theorem mm_Rem_of {G : Nat → Nat → Bool} {S r c k : Nat} (hr : r < 7) (hc : c < 7) (hk : mm_Nu (mm_wo G r c 7 7) k) (e : k + 1 = S) : mm_Rem G S r c := by
  obtain ⟨⟨f, hf, ef⟩, -⟩ := hk
  exact ⟨f, mm_wo_M hf, by omega, fun q => (mm_wo_iff.mp (hf.1 r hr q)).2.1 rfl, fun x hx q => (mm_wo_iff.mp (hf.1 x hx (by rw [q]; exact hc))).2.2.1 q⟩
/-- what the class says of an edge: it is usable -/
def mm_U (pr pc : Nat → Nat) (R C : Nat → Bool) (Q : Nat → Nat → Bool) (r c : Nat) : Prop := pr r = c ∨ R r = true ∨ C c = true ∨ (pc c < 7 ∧ Q (pc c) r = true)
/-- all of what 'prepare' leaves -/
def mm_Rd (G : Nat → Nat → Bool) (pr pc : Nat → Nat) (R C : Nat → Bool) (Q : Nat → Nat → Bool) : Prop := mm_M G pr ∧ mm_I pr pc ∧ mm_H G pr pc R ∧ mm_H (fun a b => G b a) pc pr C ∧ mm_C G pr pc Q
theorem mm_U_Rem {G : Nat → Nat → Bool} {pr pc : Nat → Nat} {R C : Nat → Bool} {Q : Nat → Nat → Bool} (h : mm_Rd G pr pc R C Q) {r c : Nat} (hr : r < 7) (hc : c < 7) (hG : G r c = true) (hU : mm_U pr pc R C Q r c) : mm_Rem G (mm_S pr) r c := by
  obtain ⟨hM, hI, hH, hHc, hC1, hC2, hC3⟩ := h
  have h7 : ¬ (7 : Nat) < 7 := by omega
  have h1 : pr r = c → mm_Rem G (mm_S pr) r c := fun e => by
    refine ⟨mm_up pr r 7, mm_M_del hM h7, (mm_S_del hr (by rw [e]; exact hc) h7).symm, by rw [mm_up_s]; exact h7, fun y hy ey => ?_⟩
    by_cases q : y = r
    · subst q
      rw [mm_up_s] at ey
      omega
    · rw [mm_up_n q] at ey
      exact q (hM.2 y r hy hr (by rw [ey]; exact hc) (by rw [ey, e]))
  have hmax := mm_max hM hI hH
  rcases hU with e | e | e | ⟨e1, e2⟩
  · exact h1 e
  · obtain ⟨rk, hrk⟩ := hH.2.2
    obtain ⟨N, q1, q2, q3⟩ := mm_loose hM (R := fun r => R r = true) hrk hr e
    exact mm_Rem_free hr hc hmax q1 q2 q3 hG
  · obtain ⟨rk, hrk⟩ := hHc.2.2
    have hMc := mm_I_M hM hI
    obtain ⟨N, q1, q2, q3⟩ := mm_loose hMc (R := fun r => C r = true) hrk hc e
    have hmaxc := mm_max hMc (mm_I_symm hI) hHc
    rw [mm_I_S hI]
    exact mm_Rem_T hr hc (mm_Rem_free hc hr hmaxc q1 q2 q3 hG)
  · have ho : pr (pc c) = c := hI.2 c hc e1
    generalize pc c = o at e1 e2 ho
    by_cases ero : r = o
    · exact h1 (by rw [ero]; exact ho)
    · obtain ⟨rk, hrk⟩ := hC3 o e1
      obtain ⟨hpr, x, hx, hxq, hxk, hxG⟩ := hrk r hr e2 ero
      have hM0 : mm_M G (mm_up pr o 7) := mm_M_del hM h7
      have hS0 : mm_S pr = mm_S (mm_up pr o 7) + 1 := mm_S_del e1 (by rw [ho]; exact hc) h7
      have hf0 : mm_up pr o 7 r < 7 := by rw [mm_up_n ero]; exact hpr
      have hM1 : mm_M G (mm_up (mm_up pr o 7) r 7) := mm_M_del hM0 h7
      have hS1 : mm_S (mm_up pr o 7) = mm_S (mm_up (mm_up pr o 7) r 7) + 1 := mm_S_del hr hf0 h7
      obtain ⟨N', a1, a2, a3, a4⟩ := mm_back (G := G) (M := mm_up pr o 7) (rk := rk) (R := fun y => y = o ∨ Q o y = true) (fun y hy hRy hfy => by
        have hyo : y ≠ o := fun q => by rw [q, mm_up_s] at hfy; exact h7 hfy
        obtain ⟨b1, z, hz, hzq, hzk, hzG⟩ := hrk y hy (hRy.resolve_left hyo) hyo
        exact ⟨z, hz, hzq, hzk, by rw [mm_up_n hyo]; exact hzG⟩) (rk r) (mm_up (mm_up pr o 7) r 7) (pr r) hpr hM1 (fun y hy ey => by
        by_cases q : y = r
        · subst q
          rw [mm_up_s] at ey
          omega
        · rw [mm_up_n q] at ey
          by_cases q2 : y = o
          · subst q2
            rw [mm_up_s] at ey
            omega
          · rw [mm_up_n q2] at ey
            exact q (hM.2 y r hy hr (by rw [ey]; exact hpr) ey)) (fun y hy hRy hky => by
        have q : y ≠ r := fun q => by rw [q] at hky; omega
        rw [mm_up_n q]) ⟨x, hx, hxq, hxk, hxG⟩
      refine ⟨N', a1, by omega, ?_, fun y hy ey => ?_⟩
      · rw [a3 r hr (fun q => by omega), mm_up_s]
        exact h7
      · rcases a4 y hy (by rw [ey]; exact hc) with q | ⟨z, hz, q⟩
        · rw [ey] at q
          exact ero (hM.2 r o hr e1 hpr (by rw [← q, ho]))
        · rw [ey] at q
          by_cases q2 : z = r
          · subst q2
            rw [mm_up_s] at q
            omega
          · rw [mm_up_n q2] at q
            by_cases q3 : z = o
            · subst q3
              rw [mm_up_s] at q
              omega
            · rw [mm_up_n q3] at q
              exact q3 (hM.2 z o hz e1 (by rw [q]; exact hc) (by rw [q, ho]))
theorem mm_t_use {G : Nat → Nat → Bool} {pr pc : Nat → Nat} {R C : Nat → Bool} {Q : Nat → Nat → Bool} (h : mm_Rd G pr pc R C Q) {r c k : Nat} (hr : r < 7) (hc : c < 7) (hG : G r c = true) (hk : mm_Nu (mm_wo G r c 7 7) k) : k + 1 = mm_S pr ↔ mm_U pr pc R C Q r c := by
  constructor
  · intro e
    obtain ⟨hM, hI, hH, hHc, hC1, hC2, hC3⟩ := id h
    refine Classical.byContradiction fun hU => ?_
    have u1 : pr r ≠ c := fun q => hU (Or.inl q)
    have u2 : ¬ R r = true := fun q => hU (Or.inr (Or.inl q))
    have u3 : ¬ C c = true := fun q => hU (Or.inr (Or.inr (Or.inl q)))
    have hpc : pc c < 7 := Classical.byContradiction fun q => u3 (hHc.1 c hc q)
    have u4 : ¬ Q (pc c) r = true := fun q => hU (Or.inr (Or.inr (Or.inr ⟨hpc, q⟩)))
    have ho : pr (pc c) = c := hI.2 c hc hpc
    generalize pc c = o at hpc u4 ho
    obtain ⟨rk, hrk⟩ := hC3 o hpc
    have back : ∀ n y, rk y < n → y < 7 → (y = o ∨ Q o y = true) → C (pr y) = true → C c = true := by
      intro n
      induction n with
      | zero => intro y hy; omega
      | succ n ih =>
        intro y hy hy7 hyq hCy
        by_cases q : y = o
        · rw [q, ho] at hCy
          exact hCy
        · obtain ⟨b1, z, hz, hzq, hzk, hzG⟩ := hrk y hy7 (hyq.resolve_left q) q
          exact ih z (by omega) hz hzq (hHc.2.1 (pr y) z b1 hz hCy hzG).2
    have hclo : ∀ x c', x < 7 → c' < 7 → (R x || (x == o || Q o x)) = true → G x c' = true → pc c' < 7 ∧ (R (pc c') || (pc c' == o || Q o (pc c'))) = true := by
      intro x c' hx hc' hz hg
      rcases Bool.or_eq_true _ _ ▸ hz with q | q
      · obtain ⟨b1, b2⟩ := hH.2.1 x c' hx hc' q hg
        exact ⟨b1, by rw [b2]; rfl⟩
      · have q' : x = o ∨ Q o x = true := by
          rcases Bool.or_eq_true _ _ ▸ q with q | q
          · exact Or.inl (by simpa using q)
          · exact Or.inr q
        have hpc' : pc c' < 7 := Classical.byContradiction fun w => by
          have hCc := hHc.1 c' hc' w
          obtain ⟨b1, b2⟩ := hHc.2.1 c' x hc' hx hCc hg
          exact u3 (back (rk x + 1) x (by omega) hx q' b2)
        refine ⟨hpc', ?_⟩
        have q2 := hC1 x c' hx hc' hg hpc'
        have q3 : Q o (pc c') = true := by
          rcases q' with w | w
          · rw [← w]; exact q2
          · exact hC2 o x (pc c') hpc hx hpc' w q2
        simp [q3]
    have hcov := mm_cov (Z := fun x => R x || (x == o || Q o x)) (Y := mm_nb (fun x => R x || (x == o || Q o x)) G) hM hI (fun x hx hf => by simp [hH.1 x hx hf]) hclo (fun c _ => mm_nb_iff)
    have hro : r ≠ o := fun q => u1 (by rw [q]; exact ho)
    have k1 := mm_cnt_rem (fun i => !(R i || (i == o || Q o i))) r (by simp [u2, u4, hro]) 7 hr
    have k2 := mm_cnt_rem (mm_nb (fun x => R x || (x == o || Q o x)) G) c (mm_nb_iff.mpr ⟨o, hpc, by simp, by have := hM.1 o hpc (by rw [ho]; exact hc); rw [ho] at this; exact this⟩) 7 hc
    obtain ⟨⟨f, hf, ef⟩, -⟩ := hk
    have := mm_weak (X := fun i => !(R i || (i == o || Q o i)) && !(i == r)) (Y := fun i => mm_nb (fun x => R x || (x == o || Q o x)) G i && !(i == c)) hf (fun x c' hx hc' hg => by
      obtain ⟨g1, g2, g3, -⟩ := mm_wo_iff.mp hg
      cases hz : (R x || (x == o || Q o x)) with
      | true =>
        have : mm_nb (fun x => R x || (x == o || Q o x)) G c' = true := mm_nb_iff.mpr ⟨x, hx, hz, g1⟩
        exact Or.inr (by simp [this, g3])
      | false => exact Or.inl (by simp [g2]))
    omega
  · intro hU
    exact mm_Rem_Nu hr hc (mm_max h.1 h.2.1 h.2.2.1) hG (mm_U_Rem h hr hc hG hU) hk
theorem mm_bits_eq {x y : Nat} (hx : x < 128) (hy : y < 128) (h : ∀ j, j < 7 → x.testBit j = y.testBit j) : x = y := by
  refine Nat.eq_of_testBit_eq fun j => ?_
  rcases Nat.lt_or_ge j 7 with q | q
  · exact h j q
  · have hp : 2 ^ 7 ≤ 2 ^ j := Nat.pow_le_pow_right (by decide) q
    rw [Nat.testBit_lt_two_pow (Nat.lt_of_lt_of_le hx hp), Nat.testBit_lt_two_pow (Nat.lt_of_lt_of_le hy hp)]
theorem mm_two_lt {c : Nat} (hc : c < 7) : 2 ^ c < 128 := Nat.pow_lt_pow_right (by decide) hc
theorem mm_t_forced {G : Nat → Nat → Bool} {pr pc : Nat → Nat} {R C : Nat → Bool} {Q : Nat → Nat → Bool} (h : mm_Rd G pr pc R C Q) {r c k us : Nat} (hus : us < 128) (hr : r < 7) (hub : ∀ c, c < 7 → (us.testBit c = true ↔ G r c = true ∧ mm_U pr pc R C Q r c)) (hc : c < 7) (hG : G r c = true) (hk : mm_Nu (mm_wo G 7 7 r c) k) :
    k < mm_S pr ↔ pr r = c ∧ R r = false ∧ C c = false ∧ us = 2 ^ c := by
  obtain ⟨hM, hI, hH, hHc, hC1, hC2, hC3⟩ := id h
  have hmax := mm_max hM hI hH
  have hin : ∀ f, mm_M G f → f r ≠ c → mm_S f ≤ k := fun f hf hne => hk.2 f (mm_M_mono hf (fun x hx hf q => mm_wo_iff.mpr ⟨q, by omega, by omega, fun w => by rw [w.1] at w; exact hne w.2⟩))
  constructor
  · intro hlt
    have e1 : pr r = c := Classical.byContradiction fun q => by
      have := hin pr hM q
      omega
    refine ⟨e1, ?_, ?_, ?_⟩
    · cases hz : R r with
      | false => rfl
      | true =>
        obtain ⟨rk, hrk⟩ := hH.2.2
        obtain ⟨N, q1, q2, q3⟩ := mm_loose hM (R := fun r => R r = true) hrk hr hz
        have := hin N q1 (fun e => q3 (by rw [e]; exact hc))
        omega
    · cases hz : C c with
      | false => rfl
      | true =>
        obtain ⟨rk, hrk⟩ := hHc.2.2
        obtain ⟨N, q1, q2, q3⟩ := mm_loose (mm_I_M hM hI) (R := fun r => C r = true) hrk hc hz
        obtain ⟨g, hg⟩ := mm_I_ex q1
        have := hin g (mm_I_M q1 hg) (fun e => q3 (by have := hg.2 r hr (by rw [e]; exact hc); rw [e] at this; rw [this]; exact hr))
        rw [← mm_I_S hg, q2, ← mm_I_S hI] at this
        omega
    · refine mm_bits_eq hus (mm_two_lt hc) (fun j hj => ?_)
      rw [Nat.testBit_two_pow, Bool.eq_iff_iff, hub j hj, decide_eq_true_eq]
      constructor
      · rintro ⟨g1, g2⟩
        refine Classical.byContradiction fun hne => ?_
        obtain ⟨N, q1, q2, q3, q4⟩ := mm_U_Rem h hr hj g1 g2
        have := hin _ (mm_M_put q1 g1 q4) (by rw [mm_up_s]; omega)
        rw [mm_S_new hr q3 hj] at this
        omega
      · intro e
        subst e
        exact ⟨hG, Or.inl e1⟩
  · rintro ⟨e1, e2, e3, e4⟩
    refine Classical.byContradiction fun hlt => ?_
    obtain ⟨⟨f, hf, ef⟩, -⟩ := hk
    have hfG := mm_wo_M hf
    have hS : mm_S f = mm_S pr := by
      have := hmax f hfG
      omega
    have hfr : f r < 7 := Classical.byContradiction fun q => by
      have hcov := mm_cov (Y := mm_nb R G) hM hI hH.1 hH.2.1 (fun c _ => mm_nb_iff)
      have h2 := mm_cnt_rem (fun i => !R i) r (by simp [e2]) 7 hr
      have := mm_weak (G := mm_wo G r 7 7 7) (X := fun i => !R i && !(i == r)) (Y := mm_nb R G) (mm_M_mono hfG (fun x hx hfx w => mm_wo_iff.mpr ⟨w, fun e => by rw [e] at hfx; exact q hfx, by omega, by omega⟩)) (fun x c hx hc hg => by
        obtain ⟨g1, g2, -⟩ := mm_wo_iff.mp hg
        cases hz : R x with
        | true => exact Or.inr (mm_nb_iff.mpr ⟨x, hx, hz, g1⟩)
        | false => exact Or.inl (by simp [g2]))
      omega
    obtain ⟨g1, -, -, g4⟩ := mm_wo_iff.mp (hf.1 r hr hfr)
    have hne : f r ≠ c := fun e => g4 ⟨rfl, e⟩
    have h7 : ¬ (7 : Nat) < 7 := by omega
    have hrem : mm_Rem G (mm_S pr) r (f r) := by
      refine ⟨mm_up f r 7, mm_M_del hfG h7, by rw [← hS]; exact (mm_S_del hr hfr h7).symm, by rw [mm_up_s]; exact h7, fun y hy ey => ?_⟩
      by_cases q : y = r
      · subst q
        rw [mm_up_s] at ey
        omega
      · rw [mm_up_n q] at ey
        exact q (hfG.2 y r hy hr (by rw [ey]; exact hfr) ey)
    obtain ⟨N, n1, n2, n3, n4⟩ := hrem
    have hNu : mm_Nu (mm_wo G r (f r) 7 7) (mm_S N) := by
      refine ⟨⟨N, mm_M_mono n1 (fun x hx hf q => mm_wo_iff.mpr ⟨q, fun e => by rw [e] at hf; exact n3 hf, n4 x hx, by omega⟩), rfl⟩, fun f' hf' => ?_⟩
      have b1 : ¬ f' r < 7 := fun q => (mm_wo_iff.mp (hf'.1 r hr q)).2.1 rfl
      have b2 : ∀ x, x < 7 → f' x ≠ f r := fun x hx q => (mm_wo_iff.mp (hf'.1 x hx (by rw [q]; exact hfr))).2.2.1 q
      have b3 := hmax _ (mm_M_put (mm_wo_M hf') g1 b2)
      rw [mm_S_new hr b1 hfr] at b3
      omega
    have hU := (mm_t_use h hr hfr g1 hNu).mp n2
    have := (hub (f r) hfr).mpr ⟨g1, hU⟩
    rw [e4, Nat.testBit_two_pow, decide_eq_true_eq] at this
    exact hne this.symm
end
section
/-! PURE PART 3: what the methods compute, as functions of numbers (a set of rows or columns is a number below 128), and what it means -/
/-- the bits of g k for the k < n with p k -/
def pf_or (p : Nat → Bool) (g : Nat → Nat) : Nat → Nat
  | 0 => 0
  | n + 1 => if p n = true then pf_or p g n ||| g n else pf_or p g n
theorem pf_or_bit (p : Nat → Bool) (g : Nat → Nat) (j : Nat) : ∀ n, (pf_or p g n).testBit j = true ↔ ∃ k, k < n ∧ p k = true ∧ (g k).testBit j = true
  | 0 => by simp [pf_or]
  | n + 1 => by
    have ih := pf_or_bit p g j n
    by_cases hp : p n = true
    · rw [pf_or, if_pos hp, Nat.testBit_or, Bool.or_eq_true, ih]
      constructor
      · rintro (⟨k, h1, h2⟩ | h)
        · exact ⟨k, by omega, h2⟩
        · exact ⟨n, by omega, hp, h⟩
      · rintro ⟨k, h1, h2, h3⟩
        by_cases e : k = n
        · subst e
          exact Or.inr h3
        · exact Or.inl ⟨k, by omega, h2, h3⟩
    · rw [pf_or, if_neg hp, ih]
      constructor
      · rintro ⟨k, h1, h2⟩
        exact ⟨k, by omega, h2⟩
      · rintro ⟨k, h1, h2, h3⟩
        refine ⟨k, ?_, h2, h3⟩
        have : k ≠ n := fun e => hp (by rw [← e]; exact h2)
        omega
theorem pf_or_lt {p : Nat → Bool} {g : Nat → Nat} : ∀ n, (∀ k, k < n → p k = true → g k < 128) → pf_or p g n < 128
  | 0, _ => by simp [pf_or]
  | n + 1, h => by
    have ih := pf_or_lt n (fun k hk => h k (by omega))
    rw [pf_or]
    split
    · next hp => exact Nat.or_lt_two_pow (n := 7) ih (h n (by omega) hp)
    · exact ih
theorem pf_two_bit {p : Nat → Bool} {j : Nat} (n : Nat) : (pf_or p (fun k => 2 ^ k) n).testBit j = true ↔ j < n ∧ p j = true := by
  rw [pf_or_bit]
  constructor
  · rintro ⟨k, h1, h2, h3⟩
    rw [Nat.testBit_two_pow, decide_eq_true_eq] at h3
    subst h3
    exact ⟨h1, h2⟩
  · rintro ⟨h1, h2⟩
    exact ⟨j, h1, h2, by rw [Nat.testBit_two_pow]; simp⟩
theorem pf_two_lt (p : Nat → Bool) : pf_or p (fun k => 2 ^ k) 7 < 128 := pf_or_lt 7 (fun k hk _ => mm_two_lt hk)
/-- a set of bits by its number -/
theorem pf_enc (p : Nat → Bool) : ∃ n, n < 128 ∧ ∀ j, j < 7 → n.testBit j = p j :=
  ⟨pf_or p (fun k => 2 ^ k) 7, pf_two_lt p, fun j hj => by rw [Bool.eq_iff_iff, pf_two_bit]; exact ⟨fun h => h.2, fun h => ⟨hj, h⟩⟩⟩
def pf_G (E : Nat → Nat) : Nat → Nat → Bool := fun r c => (E r).testBit c
def pf_pc (pc : Nat → Nat) (set : Nat) : Nat := pf_or (fun c => set.testBit c && decide (pc c < 7)) (fun c => 2 ^ pc c) 7
def pf_cn (E : Nat → Nat) (rows : Nat) : Nat := pf_or (fun r => rows.testBit r) E 7
def pf_re (E : Nat → Nat) (c : Nat) : Nat := pf_or (fun r => (E r).testBit c) (fun r => 2 ^ r) 7
def pf_rn (E : Nat → Nat) (cols : Nat) : Nat := pf_or (fun c => cols.testBit c) (pf_re E) 7
theorem pf_pc_bit {pc : Nat → Nat} {set j : Nat} : (pf_pc pc set).testBit j = true ↔ ∃ c, c < 7 ∧ set.testBit c = true ∧ pc c < 7 ∧ pc c = j := by
  rw [pf_pc, pf_or_bit]
  constructor
  · rintro ⟨c, h1, h2, h3⟩
    rw [Nat.testBit_two_pow, decide_eq_true_eq] at h3
    simp only [Bool.and_eq_true, decide_eq_true_eq] at h2
    exact ⟨c, h1, h2.1, h2.2, h3⟩
  · rintro ⟨c, h1, h2, h3, h4⟩
    exact ⟨c, h1, by simp [h2, h3], by rw [Nat.testBit_two_pow]; simp [h4]⟩
theorem pf_pc_lt (pc : Nat → Nat) (set : Nat) : pf_pc pc set < 128 := pf_or_lt 7 (fun k _ h => by
  simp only [Bool.and_eq_true, decide_eq_true_eq] at h
  exact mm_two_lt h.2)
theorem pf_cn_bit {E : Nat → Nat} {rows c : Nat} : (pf_cn E rows).testBit c = true ↔ ∃ r, r < 7 ∧ rows.testBit r = true ∧ pf_G E r c = true := pf_or_bit _ _ _ _
theorem pf_cn_lt {E : Nat → Nat} (hE : ∀ r, E r < 128) (rows : Nat) : pf_cn E rows < 128 := pf_or_lt 7 (fun k _ _ => hE k)
theorem pf_re_bit {E : Nat → Nat} {c r : Nat} : (pf_re E c).testBit r = true ↔ r < 7 ∧ pf_G E r c = true := pf_two_bit 7
theorem pf_re_lt (E : Nat → Nat) (c : Nat) : pf_re E c < 128 := pf_two_lt _
theorem pf_rn_bit {E : Nat → Nat} {cols r : Nat} : (pf_rn E cols).testBit r = true ↔ ∃ c, c < 7 ∧ cols.testBit c = true ∧ r < 7 ∧ pf_G E r c = true := by
  rw [pf_rn, pf_or_bit]
  constructor
  · rintro ⟨c, h1, h2, h3⟩
    exact ⟨c, h1, h2, pf_re_bit.mp h3⟩
  · rintro ⟨c, h1, h2, h3⟩
    exact ⟨c, h1, h2, pf_re_bit.mpr h3⟩
theorem pf_rn_lt (E : Nat → Nat) (cols : Nat) : pf_rn E cols < 128 := pf_or_lt 7 (fun k _ _ => pf_re_lt E k)
def pf_f0 (pr : Nat → Nat) : Nat := pf_or (fun i => decide (¬ pr i < 7)) (fun k => 2 ^ k) 7
/-- rowsFromRows after n rounds -/
def pf_R (E pr pc : Nat → Nat) : Nat → Nat
  | 0 => pf_f0 pr
  | n + 1 => pf_R E pr pc n ||| pf_pc pc (pf_cn E (pf_R E pr pc n))
/-- columnsFromColumns after n rounds -/
def pf_C (E pr pc : Nat → Nat) : Nat → Nat
  | 0 => pf_f0 pc
  | n + 1 => pf_C E pr pc n ||| pf_pc pr (pf_rn E (pf_C E pr pc n))
theorem pf_f0_bit {pr : Nat → Nat} {j : Nat} : (pf_f0 pr).testBit j = true ↔ j < 7 ∧ ¬ pr j < 7 := by
  rw [pf_f0, pf_two_bit]
  simp
theorem pf_R_lt (E pr pc : Nat → Nat) : ∀ n, pf_R E pr pc n < 128
  | 0 => by
    rw [pf_R, pf_f0]
    exact pf_two_lt _
  | n + 1 => Nat.or_lt_two_pow (n := 7) (pf_R_lt E pr pc n) (pf_pc_lt _ _)
theorem pf_C_lt (E pr pc : Nat → Nat) : ∀ n, pf_C E pr pc n < 128
  | 0 => by
    rw [pf_C, pf_f0]
    exact pf_two_lt _
  | n + 1 => Nat.or_lt_two_pow (n := 7) (pf_C_lt E pr pc n) (pf_pc_lt _ _)
/-- sets that grow by one step at least a round, until they are closed: closed after 7 rounds -/
theorem pf_closed (S : Nat → Nat → Bool) (T : Nat → Nat → Prop) (h1 : ∀ n x, x < 7 → S n x = true → S (n + 1) x = true) (h2 : ∀ n x y, x < 7 → y < 7 → S n x = true → T x y → S (n + 1) y = true)
    (h3 : ∀ n, (∀ x y, x < 7 → y < 7 → S n x = true → T x y → S n y = true) → ∀ x, x < 7 → S (n + 1) x = true → S n x = true) :
    ∀ n, (∀ x y, x < 7 → y < 7 → S n x = true → T x y → S n y = true) ∨ n + 1 ≤ mm_cnt (S n) 7
  | 0 => by
    by_cases e : ∃ x, x < 7 ∧ S 0 x = true
    · obtain ⟨x, hx, hs⟩ := e
      exact Or.inr (mm_cnt_pos 7 x hx hs)
    · exact Or.inl (fun x y hx _ hs _ => absurd ⟨x, hx, hs⟩ e)
  | n + 1 => by
    by_cases hc : ∀ x y, x < 7 → y < 7 → S n x = true → T x y → S n y = true
    · refine Or.inl (fun x y hx hy hs ht => h1 n y hy (hc x y hx hy (h3 n hc x hx hs) ht))
    · have ih := (pf_closed S T h1 h2 h3 n).resolve_left hc
      refine Or.inr ?_
      have : ∃ x y, x < 7 ∧ y < 7 ∧ S n x = true ∧ T x y ∧ ¬ S n y = true := Classical.byContradiction fun q => hc (fun x y hx hy hs ht => Classical.byContradiction fun w => q ⟨x, y, hx, hy, hs, ht, w⟩)
      obtain ⟨x, y, hx, hy, hs, ht, hn⟩ := this
      have := mm_cnt_lt (p := S n) (q := S (n + 1)) 7 y hy (fun i hi => h1 n i hi) (by simpa using hn) (h2 n x y hx hy hs ht)
      omega
/-- ranks: the first round in which one is in -/
theorem pf_rank (S : Nat → Nat → Prop) (T : Nat → Nat → Prop) (hs : ∀ n y, y < 7 → S (n + 1) y → S n y ∨ ∃ x, x < 7 ∧ S n x ∧ T x y) :
    ∃ rk : Nat → Nat, ∀ y, y < 7 → (∃ n, S n y) → ¬ S 0 y → ∃ x, x < 7 ∧ (∃ n, S n x) ∧ rk x < rk y ∧ T x y := by
  have key : ∀ y : Nat, ∃ k : Nat, (∃ n, S n y) → S k y ∧ ∀ j, j < k → ¬ S j y := by
    intro y
    by_cases e : ∃ n, S n y
    · obtain ⟨k, hk⟩ := pk_least (fun n => S n y) e
      exact ⟨k, fun _ => hk⟩
    · exact ⟨0, fun q => absurd q e⟩
  obtain ⟨rk, hrk⟩ := Classical.axiomOfChoice key
  refine ⟨rk, fun y hy hn h0 => ?_⟩
  obtain ⟨a1, a2⟩ := hrk y hn
  cases hk : rk y with
  | zero => rw [hk] at a1; exact absurd a1 h0
  | succ j =>
    rw [hk] at a1 a2
    rcases hs j y hy a1 with q | ⟨x, hx, q1, q2⟩
    · exact absurd q (a2 j (by omega))
    · refine ⟨x, hx, ⟨j, q1⟩, ?_, q2⟩
      obtain ⟨b1, b2⟩ := hrk x ⟨j, q1⟩
      have : ¬ j < rk x := fun w => b2 j w q1
      omega
/-- the last search round found nothing: the set of rows that it came to -/
def pf_Mx (G : Nat → Nat → Bool) (pr pc : Nat → Nat) : Prop := ∃ Z : Nat → Prop, (∀ r, r < 7 → ¬ pr r < 7 → Z r) ∧ ∀ x c, x < 7 → c < 7 → Z x → G x c = true → pc c < 7 ∧ Z (pc c)
theorem pf_H_R {E pr pc : Nat → Nat} (hI : mm_I pr pc) (hx : pf_Mx (pf_G E) pr pc) : mm_H (pf_G E) pr pc (fun r => (pf_R E pr pc 8).testBit r) := by
  obtain ⟨Z, z1, z2⟩ := hx
  have hs : ∀ n y, (pf_R E pr pc (n + 1)).testBit y = true ↔ (pf_R E pr pc n).testBit y = true ∨ ∃ x, x < 7 ∧ (pf_R E pr pc n).testBit x = true ∧ ∃ c, c < 7 ∧ pf_G E x c = true ∧ pc c < 7 ∧ pc c = y := by
    intro n y
    rw [pf_R, Nat.testBit_or, Bool.or_eq_true, pf_pc_bit]
    constructor
    · rintro (h | ⟨c, h1, h2, h3, h4⟩)
      · exact Or.inl h
      · obtain ⟨x, q1, q2, q3⟩ := pf_cn_bit.mp h2
        exact Or.inr ⟨x, q1, q2, c, h1, q3, h3, h4⟩
    · rintro (h | ⟨x, q1, q2, c, h1, q3, h3, h4⟩)
      · exact Or.inl h
      · exact Or.inr ⟨c, h1, pf_cn_bit.mpr ⟨x, q1, q2, q3⟩, h3, h4⟩
  have hZ : ∀ n y, y < 7 → (pf_R E pr pc n).testBit y = true → Z y := by
    intro n
    induction n with
    | zero => intro y hy h; exact z1 y hy (pf_f0_bit.mp h).2
    | succ n ih =>
      intro y hy h
      rcases (hs n y).mp h with h | ⟨x, q1, q2, c, h1, q3, h3, h4⟩
      · exact ih y hy h
      · rw [← h4]
        exact (z2 x c q1 h1 (ih x q1 q2) q3).2
  have hcl := pf_closed (fun n r => (pf_R E pr pc n).testBit r) (fun x y => ∃ c, c < 7 ∧ pf_G E x c = true ∧ pc c < 7 ∧ pc c = y) (fun n x _ h => (hs n x).mpr (Or.inl h)) (fun n x y hx _ h ht => (hs n y).mpr (Or.inr ⟨x, hx, h, ht⟩)) (fun n hc x hx h => by
    rcases (hs n x).mp h with h | ⟨z, q1, q2, ht⟩
    · exact h
    · exact hc z x q1 hx q2 ht) 8
  have hcl := hcl.resolve_right (fun q => by have := mm_cnt_le (fun r => (pf_R E pr pc 8).testBit r) 7; omega)
  have hm : ∀ n y, n ≤ 8 → (pf_R E pr pc (8 - n)).testBit y = true → (pf_R E pr pc 8).testBit y = true := by
    intro n y
    induction n with
    | zero => intro _ h; exact h
    | succ n ih =>
      intro hn h
      refine ih (by omega) ?_
      have e : 8 - n = (8 - (n + 1)) + 1 := by omega
      rw [e]
      exact (hs _ y).mpr (Or.inl h)
  have hall : ∀ n y, y < 7 → (pf_R E pr pc n).testBit y = true → (pf_R E pr pc 8).testBit y = true := by
    intro n
    induction n with
    | zero => intro y _ h; exact hm 8 y (by omega) h
    | succ n ih =>
      intro y hy h
      rcases (hs n y).mp h with h | ⟨x, q1, q2, ht⟩
      · exact ih y hy h
      · exact hcl x y q1 hy (ih x q1 q2) ht
  refine ⟨fun r hr h => hall 0 r hr (pf_f0_bit.mpr ⟨hr, h⟩), fun x c hx hc h hg => ?_, ?_⟩
  · have := (z2 x c hx hc (hZ 8 x hx h) hg).1
    exact ⟨this, hcl x (pc c) hx this h ⟨c, hc, hg, this, rfl⟩⟩
  · obtain ⟨rk, hrk⟩ := pf_rank (fun n y => (pf_R E pr pc n).testBit y = true) (fun x y => ∃ c, c < 7 ∧ pf_G E x c = true ∧ pc c < 7 ∧ pc c = y) (fun n y _ h => (hs n y).mp h)
    refine ⟨rk, fun r hr h hp => ?_⟩
    obtain ⟨x, hx, ⟨n, hn⟩, hk, c, hc, hg, hpc, e⟩ := hrk r hr ⟨8, h⟩ (fun q => (pf_f0_bit.mp q).2 hp)
    refine ⟨x, hx, hall n x hx hn, hk, ?_⟩
    have := hI.2 c hc hpc
    rw [e] at this
    rw [this]
    exact hg
theorem pf_H_C {E pr pc : Nat → Nat} {R : Nat → Bool} (hI : mm_I pr pc) (hR : mm_H (pf_G E) pr pc R) : mm_H (fun a b => pf_G E b a) pc pr (fun c => (pf_C E pr pc 8).testBit c) := by
  have hs : ∀ n y, (pf_C E pr pc (n + 1)).testBit y = true ↔ (pf_C E pr pc n).testBit y = true ∨ ∃ c, c < 7 ∧ (pf_C E pr pc n).testBit c = true ∧ ∃ x, x < 7 ∧ pf_G E x c = true ∧ pr x < 7 ∧ pr x = y := by
    intro n y
    rw [pf_C, Nat.testBit_or, Bool.or_eq_true, pf_pc_bit]
    constructor
    · rintro (h | ⟨x, h1, h2, h3, h4⟩)
      · exact Or.inl h
      · obtain ⟨c, q1, q2, q3, q4⟩ := pf_rn_bit.mp h2
        exact Or.inr ⟨c, q1, q2, x, h1, q4, h3, h4⟩
    · rintro (h | ⟨c, q1, q2, x, h1, q4, h3, h4⟩)
      · exact Or.inl h
      · exact Or.inr ⟨x, h1, pf_rn_bit.mpr ⟨c, q1, q2, h1, q4⟩, h3, h4⟩
  have hno : ∀ n c, c < 7 → (pf_C E pr pc n).testBit c = true → ∀ x, x < 7 → R x = true → ¬ pf_G E x c = true := by
    intro n
    induction n with
    | zero => intro c hc h x hx hr hg; exact (pf_f0_bit.mp h).2 (hR.2.1 x c hx hc hr hg).1
    | succ n ih =>
      intro c hc h x hx hr hg
      rcases (hs n c).mp h with h | ⟨d, q1, q2, z, h1, q4, h3, h4⟩
      · exact ih c hc h x hx hr hg
      · have := (hR.2.1 x c hx hc hr hg).2
        rw [← h4, hI.1 z h1 h3] at this
        exact ih d q1 q2 z h1 this q4
  have hcl := pf_closed (fun n r => (pf_C E pr pc n).testBit r) (fun c y => ∃ x, x < 7 ∧ pf_G E x c = true ∧ pr x < 7 ∧ pr x = y) (fun n x _ h => (hs n x).mpr (Or.inl h)) (fun n x y hx _ h ht => (hs n y).mpr (Or.inr ⟨x, hx, h, ht⟩)) (fun n hc x hx h => by
    rcases (hs n x).mp h with h | ⟨z, q1, q2, ht⟩
    · exact h
    · exact hc z x q1 hx q2 ht) 8
  have hcl := hcl.resolve_right (fun q => by have := mm_cnt_le (fun r => (pf_C E pr pc 8).testBit r) 7; omega)
  have hm : ∀ n y, n ≤ 8 → (pf_C E pr pc (8 - n)).testBit y = true → (pf_C E pr pc 8).testBit y = true := by
    intro n y
    induction n with
    | zero => intro _ h; exact h
    | succ n ih =>
      intro hn h
      refine ih (by omega) ?_
      have e : 8 - n = (8 - (n + 1)) + 1 := by omega
      rw [e]
      exact (hs _ y).mpr (Or.inl h)
  have hall : ∀ n y, y < 7 → (pf_C E pr pc n).testBit y = true → (pf_C E pr pc 8).testBit y = true := by
    intro n
    induction n with
    | zero => intro y _ h; exact hm 8 y (by omega) h
    | succ n ih =>
      intro y hy h
      rcases (hs n y).mp h with h | ⟨x, q1, q2, ht⟩
      · exact ih y hy h
      · exact hcl x y q1 hy (ih x q1 q2) ht
  refine ⟨fun c hc h => hall 0 c hc (pf_f0_bit.mpr ⟨hc, h⟩), fun c x hc hx h hg => ?_, ?_⟩
  · have : pr x < 7 := Classical.byContradiction fun w => hno 8 c hc h x hx (hR.1 x hx w) hg
    exact ⟨this, hcl c (pr x) hc this h ⟨x, hx, hg, this, rfl⟩⟩
  · obtain ⟨rk, hrk⟩ := pf_rank (fun n y => (pf_C E pr pc n).testBit y = true) (fun c y => ∃ x, x < 7 ∧ pf_G E x c = true ∧ pr x < 7 ∧ pr x = y) (fun n y _ h => (hs n y).mp h)
    refine ⟨rk, fun c hc h hp => ?_⟩
    obtain ⟨d, hd, ⟨n, hn⟩, hk, x, hx, hg, hpx, e⟩ := hrk c hc ⟨8, h⟩ (fun q => (pf_f0_bit.mp q).2 hp)
    refine ⟨d, hd, hall n d hd hn, hk, ?_⟩
    have := hI.1 x hx hpx
    rw [e] at this
    show pf_G E (pc c) d = true
    rw [this]
    exact hg
/-- 'reach' after the middles below m -/
def pf_W (E pc : Nat → Nat) : Nat → Nat → Nat
  | 0 => fun r => pf_pc pc (E r)
  | m + 1 => fun r => if (pf_W E pc m r).testBit m = true then pf_W E pc m r ||| pf_W E pc m m else pf_W E pc m r
theorem pf_W_lt (E pc : Nat → Nat) : ∀ m r, pf_W E pc m r < 128
  | 0, r => pf_pc_lt _ _
  | m + 1, r => by
    rw [pf_W]
    dsimp only
    split
    · exact Nat.or_lt_two_pow (n := 7) (pf_W_lt E pc m r) (pf_W_lt E pc m m)
    · exact pf_W_lt E pc m r
theorem pf_W_self (E pc : Nat → Nat) (m : Nat) : pf_W E pc (m + 1) m = pf_W E pc m m := by
  rw [pf_W]
  dsimp only
  split
  · exact Nat.or_self _
  · rfl
theorem pf_W_bit {E pc : Nat → Nat} {m r j : Nat} : (pf_W E pc (m + 1) r).testBit j = true ↔ (pf_W E pc m r).testBit j = true ∨ ((pf_W E pc m r).testBit m = true ∧ (pf_W E pc m m).testBit j = true) := by
  rw [pf_W]
  dsimp only
  split
  · next h => rw [Nat.testBit_or, Bool.or_eq_true]; simp [h]
  · next h => simp [h]
theorem pf_W_up {E pc : Nat → Nat} {r j : Nat} : ∀ m, (pf_W E pc 0 r).testBit j = true → (pf_W E pc m r).testBit j = true
  | 0, h => h
  | m + 1, h => pf_W_bit.mpr (Or.inl (pf_W_up m h))
theorem pf_W_tr {E pc : Nat → Nat} : ∀ m x y z, y < m → (pf_W E pc m x).testBit y = true → (pf_W E pc m y).testBit z = true → (pf_W E pc m x).testBit z = true
  | 0, _, _, _, h, _, _ => by omega
  | m + 1, x, y, z, h, h1, h2 => by
    have ih := @pf_W_tr E pc m
    rw [pf_W_bit] at h1 h2 ⊢
    by_cases e : y = m
    · subst e
      have a : (pf_W E pc y x).testBit y = true := by
        rcases h1 with q | q
        · exact q
        · exact q.1
      have b : (pf_W E pc y y).testBit z = true := by
        rcases h2 with q | q
        · exact q
        · exact q.2
      exact Or.inr ⟨a, b⟩
    · have hy : y < m := by omega
      rcases h1 with q | ⟨q, q'⟩
      · rcases h2 with w | ⟨w, w'⟩
        · exact Or.inl (ih x y z hy q w)
        · exact Or.inr ⟨ih x y m hy q w, w'⟩
      · rcases h2 with w | ⟨w, w'⟩
        · exact Or.inr ⟨q, ih m y z hy q' w⟩
        · exact Or.inr ⟨q, w'⟩
/-- n steps -/
def pf_P (T : Nat → Nat → Prop) (o : Nat) : Nat → Nat → Prop
  | 0 => fun y => y = o
  | n + 1 => fun y => pf_P T o n y ∨ ∃ x, x < 7 ∧ pf_P T o n x ∧ T x y
theorem pf_P_tr {T : Nat → Nat → Prop} {o x : Nat} {a : Nat} (h : pf_P T o a x) : ∀ b y, pf_P T x b y → pf_P T o (a + b) y
  | 0, y, q => by
    have q : y = x := q
    rw [q]
    exact h
  | b + 1, y, q => by
    rcases q with q | ⟨z, hz, q1, q2⟩
    · exact Or.inl (pf_P_tr h b y q)
    · exact Or.inr ⟨z, hz, pf_P_tr h b z q1, q2⟩
theorem pf_W_snd {E pc : Nat → Nat} : ∀ m x y, x < 7 → (pf_W E pc m x).testBit y = true → ∃ n, pf_P (fun x y => ∃ c, c < 7 ∧ pf_G E x c = true ∧ pc c < 7 ∧ pc c = y) x n y
  | 0, x, y, hx, h => by
    obtain ⟨c, h1, h2, h3, h4⟩ := pf_pc_bit.mp h
    exact ⟨1, Or.inr ⟨x, hx, rfl, c, h1, h2, h3, h4⟩⟩
  | m + 1, x, y, hx, h => by
    rcases pf_W_bit.mp h with q | ⟨q1, q2⟩
    · exact pf_W_snd m x y hx q
    · have hm : m < 7 := Classical.byContradiction fun w => by
        have hp : 2 ^ 7 ≤ 2 ^ m := Nat.pow_le_pow_right (by decide) (by omega)
        rw [Nat.testBit_lt_two_pow (Nat.lt_of_lt_of_le (pf_W_lt E pc m x) hp)] at q1
        cases q1
      obtain ⟨a, ha⟩ := pf_W_snd m x m hx q1
      obtain ⟨b, hb⟩ := pf_W_snd m m y hm q2
      exact ⟨a + b, pf_P_tr ha b y hb⟩
theorem pf_C_W {E pr pc : Nat → Nat} (hI : mm_I pr pc) : mm_C (pf_G E) pr pc (fun x y => (pf_W E pc 7 x).testBit y) := by
  have h1 : ∀ x c, x < 7 → c < 7 → pf_G E x c = true → pc c < 7 → (pf_W E pc 7 x).testBit (pc c) = true := fun x c _ hc hg hp => pf_W_up 7 (pf_pc_bit.mpr ⟨c, hc, hg, hp, rfl⟩)
  refine ⟨h1, fun x y z _ hy _ a b => pf_W_tr 7 x y z hy a b, fun o ho => ?_⟩
  obtain ⟨rk, hrk⟩ := pf_rank (pf_P (fun x y => ∃ c, c < 7 ∧ pf_G E x c = true ∧ pc c < 7 ∧ pc c = y) o) (fun x y => ∃ c, c < 7 ∧ pf_G E x c = true ∧ pc c < 7 ∧ pc c = y) (fun n y _ h => h)
  have hall : ∀ n y, pf_P (fun x y => ∃ c, c < 7 ∧ pf_G E x c = true ∧ pc c < 7 ∧ pc c = y) o n y → y = o ∨ (pf_W E pc 7 o).testBit y = true := by
    intro n
    induction n with
    | zero => intro y h; exact Or.inl h
    | succ n ih =>
      intro y h
      rcases h with h | ⟨x, hx, q, c, hc, hg, hp, e⟩
      · exact ih y h
      · have a := h1 x c hx hc hg hp
        rw [e] at a
        rcases ih x q with w | w
        · rw [w] at a
          exact Or.inr a
        · exact Or.inr (pf_W_tr 7 o x y hx w a)
  refine ⟨rk, fun y hy hq hne => ?_⟩
  obtain ⟨x, hx, ⟨n, hn⟩, hk, c, hc, hg, hp, e⟩ := hrk y hy (pf_W_snd 7 o y ho hq) (fun q => hne q)
  have hpy : pr y = c := by
    have := hI.2 c hc hp
    rw [e] at this
    exact this
  exact ⟨by rw [hpy]; exact hc, x, hx, hall n x hn, hk, by rw [hpy]; exact hg⟩
/-- all of 'prepare', from a matching that no search could enlarge -/
theorem pf_Rd {E pr pc : Nat → Nat} (hM : mm_M (pf_G E) pr) (hI : mm_I pr pc) (hx : pf_Mx (pf_G E) pr pc) : mm_Rd (pf_G E) pr pc (fun r => (pf_R E pr pc 8).testBit r) (fun c => (pf_C E pr pc 8).testBit c) (fun x y => (pf_W E pc 7 x).testBit y) :=
  ⟨hM, hI, pf_H_R hI hx, pf_H_C hI (pf_H_R hI hx), pf_C_W hI⟩
end
section
/-! PURE PART 4: the reference's table of column sets, blocks, covers -/
def pf_tk (can : Nat → Bool) (cols : Nat) : Nat → Bool := fun S => can S || (List.range 7).any (fun c => cols.testBit c && (S.testBit c && can (S ^^^ 2 ^ c)))
theorem pf_tk_iff {can : Nat → Bool} {cols S : Nat} : pf_tk can cols S = true ↔ can S = true ∨ ∃ c, c < 7 ∧ cols.testBit c = true ∧ S.testBit c = true ∧ can (S ^^^ 2 ^ c) = true := by
  simp [pf_tk]
theorem pf_none_M {G : Nat → Nat → Bool} : mm_M G (fun _ => 7) := ⟨fun _ _ h => absurd h (Nat.lt_irrefl 7), fun _ _ _ _ h => absurd h (Nat.lt_irrefl 7)⟩
def pf_dp (cols : Nat → Nat) : Nat → Nat → Bool
  | 0 => fun S => S == 0
  | k + 1 => pf_tk (pf_dp cols k) (cols k)
theorem pf_xor_bit {S c j : Nat} : (S ^^^ 2 ^ c).testBit j = true ↔ (S.testBit j = true ∧ j ≠ c) ∨ (S.testBit j = false ∧ j = c) := by
  rw [Nat.testBit_xor, Nat.testBit_two_pow]
  by_cases e : c = j
  · subst e
    cases S.testBit c <;> simp
  · have : j ≠ c := fun q => e q.symm
    cases S.testBit j <;> simp [e, this]
theorem pf_dp_iff (cols : Nat → Nat) : ∀ k, k ≤ 7 → ∀ S, S < 128 → (pf_dp cols k S = true ↔ ∃ f, mm_M (pf_G cols) f ∧ (∀ r, r < 7 → k ≤ r → ¬ f r < 7) ∧ ∀ c, c < 7 → (S.testBit c = true ↔ ∃ r, r < 7 ∧ f r = c))
  | 0, _, S, hS => by
    rw [pf_dp]
    dsimp only
    rw [beq_iff_eq]
    constructor
    · intro e
      subst e
      refine ⟨fun _ => 7, pf_none_M, fun r _ _ => Nat.lt_irrefl 7, fun c hc => ?_⟩
      rw [Nat.zero_testBit]
      constructor
      · intro h; cases h
      · rintro ⟨r, _, e⟩
        have e : 7 = c := e
        omega
    · rintro ⟨f, h1, h2, h3⟩
      refine mm_bits_eq hS (by decide) (fun j hj => ?_)
      rw [Nat.zero_testBit]
      cases hb : S.testBit j with
      | false => rfl
      | true =>
        obtain ⟨r, hr, e⟩ := (h3 j hj).mp hb
        exact absurd (by rw [e]; exact hj) (h2 r hr (by omega))
  | k + 1, hk, S, hS => by
    have hx : ∀ c, c < 7 → S ^^^ 2 ^ c < 128 := fun c hc => Nat.xor_lt_two_pow (n := 7) hS (mm_two_lt hc)
    rw [pf_dp, pf_tk_iff, pf_dp_iff cols k (by omega) S hS]
    constructor
    · rintro (⟨f, h1, h2, h3⟩ | ⟨c, hc, a1, a2, a3⟩)
      · exact ⟨f, h1, fun r hr h => h2 r hr (by omega), h3⟩
      · obtain ⟨f, h1, h2, h3⟩ := (pf_dp_iff cols k (by omega) _ (hx c hc)).mp a3
        have hfree : ∀ x, x < 7 → f x ≠ c := fun x hx e => by
          have := (h3 c hc).mpr ⟨x, hx, e⟩
          rw [pf_xor_bit] at this
          rcases this with q | q
          · exact q.2 rfl
          · rw [a2] at q; cases q.1
        refine ⟨mm_up f k c, mm_M_put h1 a1 hfree, fun r hr h => ?_, fun j hj => ?_⟩
        · rw [mm_up_n (by omega)]
          exact h2 r hr (by omega)
        · constructor
          · intro hb
            by_cases e : j = c
            · exact ⟨k, by omega, by rw [mm_up_s]; exact e.symm⟩
            · obtain ⟨r, hr, er⟩ := (h3 j hj).mp (pf_xor_bit.mpr (Or.inl ⟨hb, e⟩))
              have hne : r ≠ k := fun q => by
                have := h2 r hr (by omega)
                omega
              exact ⟨r, hr, by rw [mm_up_n hne]; exact er⟩
          · rintro ⟨r, hr, er⟩
            by_cases e : r = k
            · rw [e, mm_up_s] at er
              rw [← er]; exact a2
            · rw [mm_up_n e] at er
              have := (h3 j hj).mpr ⟨r, hr, er⟩
              rw [pf_xor_bit] at this
              rcases this with q | q
              · exact q.1
              · rw [q.2]; exact a2
    · rintro ⟨f, h1, h2, h3⟩
      by_cases hf : f k < 7
      · right
        have hk7 : k < 7 := by omega
        refine ⟨f k, hf, h1.1 k hk7 hf, (h3 _ hf).mpr ⟨k, hk7, rfl⟩, (pf_dp_iff cols k (by omega) _ (hx _ hf)).mpr ⟨mm_up f k 7, mm_M_del h1 (by omega), fun r hr h => ?_, fun j hj => ?_⟩⟩
        · by_cases e : r = k
          · rw [e, mm_up_s]; omega
          · rw [mm_up_n e]
            exact h2 r hr (by omega)
        · rw [pf_xor_bit, h3 j hj]
          constructor
          · rintro (⟨⟨r, hr, er⟩, hne⟩ | ⟨hb, e⟩)
            · have : r ≠ k := fun q => by rw [q] at er; exact hne er.symm
              exact ⟨r, hr, by rw [mm_up_n this]; exact er⟩
            · have := (h3 j hj).mpr ⟨k, hk7, e.symm⟩
              rw [hb] at this; cases this
          · rintro ⟨r, hr, er⟩
            by_cases e : r = k
            · rw [e, mm_up_s] at er; omega
            · rw [mm_up_n e] at er
              refine Or.inl ⟨⟨r, hr, er⟩, fun q => e ?_⟩
              rw [q] at er
              exact h1.2 r k hr hk7 (by rw [er]; exact hf) er
      · left
        refine ⟨f, h1, fun r hr h => ?_, h3⟩
        by_cases e : r = k
        · rw [e]; exact hf
        · exact h2 r hr (by omega)
def pf_sz (S : Nat) : Nat := mm_cnt (fun k => S.testBit k) 7
def pf_best (can : Nat → Bool) : Nat → Nat
  | 0 => 0
  | n + 1 => if pf_best can n < (if can n = true then pf_sz n else 0) then (if can n = true then pf_sz n else 0) else pf_best can n
theorem pf_best_ge (can : Nat → Bool) : ∀ n S, S < n → can S = true → pf_sz S ≤ pf_best can n
  | 0, S, h, _ => by omega
  | n + 1, S, h, hc => by
    rw [pf_best]
    by_cases e : S = n
    · subst e
      rw [if_pos hc]
      split <;> omega
    · have := pf_best_ge can n S (by omega) hc
      generalize (if can n = true then pf_sz n else 0) = z
      split <;> omega
theorem pf_best_ex (can : Nat → Bool) : ∀ n, pf_best can n = 0 ∨ ∃ S, S < n ∧ can S = true ∧ pf_sz S = pf_best can n
  | 0 => Or.inl rfl
  | n + 1 => by
    rw [pf_best]
    by_cases hc : can n = true
    · rw [if_pos hc]
      split
      · exact Or.inr ⟨n, by omega, hc, rfl⟩
      · rcases pf_best_ex can n with q | ⟨S, h1, h2, h3⟩
        · exact Or.inl q
        · exact Or.inr ⟨S, by omega, h2, h3⟩
    · rw [if_neg hc, if_neg (by omega)]
      rcases pf_best_ex can n with q | ⟨S, h1, h2, h3⟩
      · exact Or.inl q
      · exact Or.inr ⟨S, by omega, h2, h3⟩
theorem pf_best_congr {can can' : Nat → Bool} : ∀ n, (∀ S, S < n → can S = can' S) → pf_best can n = pf_best can' n
  | 0, _ => rfl
  | n + 1, h => by
    rw [pf_best, pf_best, pf_best_congr n (fun S hS => h S (by omega)), h n (by omega)]
theorem pf_sz_f {S : Nat} {G : Nat → Nat → Bool} {f : Nat → Nat} (h1 : mm_M G f) (h3 : ∀ c, c < 7 → (S.testBit c = true ↔ ∃ r, r < 7 ∧ f r = c)) : pf_sz S = mm_S f := by
  refine Nat.le_antisymm ?_ ?_
  · obtain ⟨g, hg⟩ := mm_I_ex h1
    rw [mm_I_S hg]
    refine mm_cnt_mono 7 (fun c hc h => ?_)
    obtain ⟨r, hr, e⟩ := (h3 c hc).mp h
    have := hg.1 r hr (by rw [e]; exact hc)
    rw [e] at this
    rw [decide_eq_true_eq, this]
    exact hr
  · refine mm_inj _ f 7 7 _ (fun i hi h => ?_) (fun i j hi hj h h' e => ?_)
    · rw [decide_eq_true_eq] at h
      exact ⟨h, (h3 _ h).mpr ⟨i, hi, rfl⟩⟩
    · rw [decide_eq_true_eq] at h
      exact h1.2 i j hi hj h e
theorem pf_best_Nu (cols : Nat → Nat) : mm_Nu (pf_G cols) (pf_best (pf_dp cols 7) 128) := by
  constructor
  · rcases pf_best_ex (pf_dp cols 7) 128 with q | ⟨S, h1, h2, h3⟩
    · refine ⟨fun _ => 7, pf_none_M, ?_⟩
      rw [q]
      rfl
    · obtain ⟨f, a1, a2, a3⟩ := (pf_dp_iff cols 7 (Nat.le_refl 7) S h1).mp h2
      exact ⟨f, a1, by rw [← h3, pf_sz_f a1 a3]⟩
  · intro f hf
    obtain ⟨S, hS, hb⟩ := pf_enc (fun c => (List.range 7).any (fun r => f r == c))
    have h3 : ∀ c, c < 7 → (S.testBit c = true ↔ ∃ r, r < 7 ∧ f r = c) := fun c hc => by
      rw [hb c hc]
      simp
    rw [← pf_sz_f hf h3]
    exact pf_best_ge _ 128 S hS ((pf_dp_iff cols 7 (Nat.le_refl 7) S hS).mpr ⟨f, hf, fun r hr h => by omega, h3⟩)
/-- a bit taken out -/
def pf_cl (x c : Nat) : Nat := x ^^^ (x &&& 2 ^ c)
theorem pf_cl_bit {x c j : Nat} : (pf_cl x c).testBit j = true ↔ x.testBit j = true ∧ j ≠ c := by
  rw [pf_cl, Nat.testBit_xor, Nat.testBit_and, Nat.testBit_two_pow]
  by_cases e : c = j
  · subst e
    cases x.testBit c <;> simp
  · have : j ≠ c := fun q => e q.symm
    cases x.testBit j <;> simp [e, this]
theorem pf_cl_lt {x : Nat} (hx : x < 128) (c : Nat) : pf_cl x c < 128 := Nat.xor_lt_two_pow (n := 7) hx (Nat.lt_of_le_of_lt Nat.and_le_left hx)
/-- the columns that sizeWithout takes of row k -/
def pf_c1 (E : Nat → Nat) (b x y k : Nat) : Nat := if k = x then pf_cl (pf_cl (E k) b) y else pf_cl (E k) b
def pf_cols (E : Nat → Nat) (a b x y : Nat) : Nat → Nat := fun k => if k = a then 0 else pf_c1 E b x y k
theorem pf_cols_G (E : Nat → Nat) (a b x y r c : Nat) : pf_G (pf_cols E a b x y) r c = mm_wo (pf_G E) a b x y r c := by
  rw [Bool.eq_iff_iff, mm_wo_iff]
  show (pf_cols E a b x y r).testBit c = true ↔ _
  rw [pf_cols, pf_c1]
  by_cases e : r = a
  · rw [if_pos e]
    simp [e]
  · rw [if_neg e]
    by_cases e2 : r = x
    · rw [if_pos e2, pf_cl_bit, pf_cl_bit]
      show ((pf_G E r c = true ∧ c ≠ b) ∧ c ≠ y) ↔ _
      constructor
      · rintro ⟨⟨h1, h2⟩, h3⟩
        exact ⟨h1, e, h2, fun q => h3 q.2⟩
      · rintro ⟨h1, h2, h3, h4⟩
        exact ⟨⟨h1, h3⟩, fun q => h4 ⟨e2, q⟩⟩
    · rw [if_neg e2, pf_cl_bit]
      show (pf_G E r c = true ∧ c ≠ b) ↔ _
      constructor
      · rintro ⟨h1, h2⟩
        exact ⟨h1, e, h2, fun q => e2 q.1⟩
      · rintro ⟨h1, h2, h3, h4⟩
        exact ⟨h1, h3⟩
/-- what sizeWithout answers -/
def pf_nu (E : Nat → Nat) (a b x y : Nat) : Nat := pf_best (pf_dp (pf_cols E a b x y) 7) 128
theorem pf_nu_Nu (E : Nat → Nat) (a b x y : Nat) : mm_Nu (mm_wo (pf_G E) a b x y) (pf_nu E a b x y) := mm_Nu_congr (fun r c _ _ => pf_cols_G E a b x y r c) (pf_best_Nu _)
theorem pf_nu_all (E : Nat → Nat) : mm_Nu (pf_G E) (pf_nu E 7 7 7 7) := mm_Nu_congr (fun r c hr hc => by
  rw [Bool.eq_iff_iff, mm_wo_iff]
  constructor
  · exact fun h => h.1
  · exact fun h => ⟨h, by omega, by omega, by omega⟩) (pf_nu_Nu E 7 7 7 7)
theorem pf_nu_le (E : Nat → Nat) (a b x y : Nat) : pf_nu E a b x y ≤ 7 := by
  obtain ⟨⟨f, _, e⟩, _⟩ := pf_nu_Nu E a b x y
  rw [← e]
  exact mm_S_le f
theorem pf_or_congr {p q : Nat → Bool} {g h : Nat → Nat} : ∀ n, (∀ k, k < n → p k = q k) → (∀ k, k < n → p k = true → g k = h k) → pf_or p g n = pf_or q h n
  | 0, _, _ => rfl
  | n + 1, hp, hg => by
    rw [pf_or, pf_or, pf_or_congr n (fun k hk => hp k (by omega)) (fun k hk => hg k (by omega)), hp n (by omega)]
    split
    · next e => rw [hg n (by omega) (by rw [hp n (by omega)]; exact e)]
    · rfl
-- the reference's answers
def pf_mlr (E : Nat → Nat) : Nat := pf_or (fun r => pf_nu E r 7 7 7 == pf_nu E 7 7 7 7) (fun k => 2 ^ k) 7
def pf_mlc (E : Nat → Nat) : Nat := pf_or (fun c => pf_nu E 7 c 7 7 == pf_nu E 7 7 7 7) (fun k => 2 ^ k) 7
def pf_mus (E : Nat → Nat) (r : Nat) : Nat := pf_or (fun c => (E r).testBit c && (pf_nu E r c 7 7 + 1 == pf_nu E 7 7 7 7)) (fun k => 2 ^ k) 7
def pf_mfo (E : Nat → Nat) (r : Nat) : Nat := pf_or (fun c => (E r).testBit c && decide (pf_nu E 7 7 r c < pf_nu E 7 7 7 7)) (fun k => 2 ^ k) 7
-- the class's answers
def pf_u1 (pr pc : Nat → Nat) (rr cc : Nat) (re : Nat → Nat) (r c : Nat) : Bool := pr r == c || (rr.testBit r || (cc.testBit c || (decide (pc c < 7) && (re (pc c)).testBit r)))
def pf_us (E pr pc : Nat → Nat) (rr cc : Nat) (re : Nat → Nat) (r : Nat) : Nat := pf_or (fun c => (E r).testBit c && pf_u1 pr pc rr cc re r c) (fun k => 2 ^ k) 7
def pf_fo (pr : Nat → Nat) (rr cc : Nat) (us : Nat → Nat) (r : Nat) : Bool := decide (pr r < 7) && (!rr.testBit r && (!cc.testBit (pr r) && us r == 2 ^ pr r))
/-- what 'prepare' leaves, as numbers -/
def pf_Ok (E pr pc : Nat → Nat) (rr cr cc : Nat) (re us : Nat → Nat) : Prop :=
  mm_M (pf_G E) pr ∧ mm_I pr pc ∧ pf_Mx (pf_G E) pr pc ∧ rr = pf_R E pr pc 8 ∧ cr = pf_cn E (pf_R E pr pc 7) ∧ cc = pf_C E pr pc 8 ∧ (∀ r, r < 7 → re r = pf_W E pc 7 r) ∧ ∀ r, r < 7 → us r = pf_us E pr pc rr cc re r
theorem pf_nu_S {E pr pc : Nat → Nat} (hM : mm_M (pf_G E) pr) (hI : mm_I pr pc) (hx : pf_Mx (pf_G E) pr pc) : pf_nu E 7 7 7 7 = mm_S pr := mm_Nu_uniq (pf_nu_all E) (mm_t_largest hM hI (pf_H_R hI hx))
theorem pf_a_lr {E pr pc re us : Nat → Nat} {rr cr cc : Nat} (h : pf_Ok E pr pc rr cr cc re us) : rr = pf_mlr E := by
  obtain ⟨hM, hI, hx, e1, e2, e3, e4, e5⟩ := h
  refine mm_bits_eq (by rw [e1]; exact pf_R_lt _ _ _ _) (pf_two_lt _) (fun j hj => ?_)
  rw [Bool.eq_iff_iff, pf_mlr, pf_two_bit, beq_iff_eq, pf_nu_S hM hI hx, mm_t_looseR hM hI (pf_H_R hI hx) hj (pf_nu_Nu E j 7 7 7), e1]
  exact ⟨fun h => ⟨hj, h⟩, fun h => h.2⟩
theorem pf_a_lc {E pr pc re us : Nat → Nat} {rr cr cc : Nat} (h : pf_Ok E pr pc rr cr cc re us) : cc = pf_mlc E := by
  obtain ⟨hM, hI, hx, e1, e2, e3, e4, e5⟩ := h
  refine mm_bits_eq (by rw [e3]; exact pf_C_lt _ _ _ _) (pf_two_lt _) (fun j hj => ?_)
  rw [Bool.eq_iff_iff, pf_mlc, pf_two_bit, beq_iff_eq, pf_nu_S hM hI hx, mm_t_looseC hM hI (pf_H_C hI (pf_H_R hI hx)) hj (pf_nu_Nu E 7 j 7 7), e3]
  exact ⟨fun h => ⟨hj, h⟩, fun h => h.2⟩
theorem pf_u1_iff {E pr pc re us : Nat → Nat} {rr cr cc : Nat} (h : pf_Ok E pr pc rr cr cc re us) {r c : Nat} : pf_u1 pr pc rr cc re r c = true ↔ mm_U pr pc (fun r => (pf_R E pr pc 8).testBit r) (fun c => (pf_C E pr pc 8).testBit c) (fun x y => (pf_W E pc 7 x).testBit y) r c := by
  obtain ⟨hM, hI, hx, e1, e2, e3, e4, e5⟩ := h
  rw [pf_u1, mm_U, e1, e3]
  simp only [Bool.or_eq_true, beq_iff_eq, Bool.and_eq_true, decide_eq_true_eq]
  constructor
  · rintro (q | q | q | ⟨q1, q2⟩)
    · exact Or.inl q
    · exact Or.inr (Or.inl q)
    · exact Or.inr (Or.inr (Or.inl q))
    · exact Or.inr (Or.inr (Or.inr ⟨q1, by rw [← e4 _ q1]; exact q2⟩))
  · rintro (q | q | q | ⟨q1, q2⟩)
    · exact Or.inl q
    · exact Or.inr (Or.inl q)
    · exact Or.inr (Or.inr (Or.inl q))
    · exact Or.inr (Or.inr (Or.inr ⟨q1, by rw [e4 _ q1]; exact q2⟩))
theorem pf_us_lt {E pr pc re us : Nat → Nat} {rr cr cc : Nat} (h : pf_Ok E pr pc rr cr cc re us) {r : Nat} (hr : r < 7) : us r < 128 := by
  rw [h.2.2.2.2.2.2.2 r hr]
  exact pf_two_lt _
theorem pf_a_us {E pr pc re us : Nat → Nat} {rr cr cc : Nat} (h : pf_Ok E pr pc rr cr cc re us) {r : Nat} (hr : r < 7) : us r = pf_mus E r := by
  refine mm_bits_eq (pf_us_lt h hr) (pf_two_lt _) (fun j hj => ?_)
  have hu := @pf_u1_iff E pr pc re us rr cr cc h r j
  obtain ⟨hM, hI, hx, e1, e2, e3, e4, e5⟩ := h
  rw [Bool.eq_iff_iff, e5 r hr, pf_us, pf_mus, pf_two_bit, pf_two_bit, Bool.and_eq_true, Bool.and_eq_true, beq_iff_eq, hu, pf_nu_S hM hI hx]
  constructor
  · rintro ⟨_, h1, h2⟩
    exact ⟨hj, h1, (mm_t_use (pf_Rd hM hI hx) hr hj h1 (pf_nu_Nu E r j 7 7)).mpr h2⟩
  · rintro ⟨_, h1, h2⟩
    exact ⟨hj, h1, (mm_t_use (pf_Rd hM hI hx) hr hj h1 (pf_nu_Nu E r j 7 7)).mp h2⟩
theorem pf_a_fo {E pr pc re us : Nat → Nat} {rr cr cc : Nat} (h : pf_Ok E pr pc rr cr cc re us) {r : Nat} (hr : r < 7) : (if pf_fo pr rr cc us r = true then 2 ^ pr r else 0) = pf_mfo E r := by
  have hu := fun j => @pf_u1_iff E pr pc re us rr cr cc h r j
  have hus := pf_us_lt h hr
  obtain ⟨hM, hI, hx, e1, e2, e3, e4, e5⟩ := h
  have hub : ∀ c, c < 7 → ((us r).testBit c = true ↔ pf_G E r c = true ∧ mm_U pr pc (fun r => (pf_R E pr pc 8).testBit r) (fun c => (pf_C E pr pc 8).testBit c) (fun x y => (pf_W E pc 7 x).testBit y) r c) := fun c hc => by
    rw [e5 r hr, pf_us, pf_two_bit, Bool.and_eq_true, hu]
    exact ⟨fun h => h.2, fun h => ⟨hc, h⟩⟩
  have key : ∀ c, c < 7 → pf_G E r c = true → (pf_nu E 7 7 r c < pf_nu E 7 7 7 7 ↔ pf_fo pr rr cc us r = true ∧ pr r = c) := fun c hc hg => by
    rw [pf_nu_S hM hI hx, mm_t_forced (pf_Rd hM hI hx) hus hr hub hc hg (pf_nu_Nu E 7 7 r c), pf_fo, e1, e3]
    simp only [Bool.and_eq_true, decide_eq_true_eq, Bool.not_eq_true', beq_iff_eq]
    constructor
    · rintro ⟨a1, a2, a3, a4⟩
      exact ⟨⟨by rw [a1]; exact hc, a2, by rw [a1]; exact a3, by rw [a1]; exact a4⟩, a1⟩
    · rintro ⟨⟨a1, a2, a3, a4⟩, a5⟩
      exact ⟨a5, a2, by rw [← a5]; exact a3, by rw [← a5]; exact a4⟩
  refine mm_bits_eq ?_ (pf_two_lt _) (fun j hj => ?_)
  · split
    · next q =>
      rw [pf_fo] at q
      simp only [Bool.and_eq_true, decide_eq_true_eq] at q
      exact mm_two_lt q.1
    · decide
  · rw [Bool.eq_iff_iff, pf_mfo, pf_two_bit, Bool.and_eq_true, decide_eq_true_eq]
    constructor
    · intro q
      split at q
      · next w =>
        rw [Nat.testBit_two_pow, decide_eq_true_eq] at q
        have hg : pf_G E r j = true := by
          rw [← q]
          rw [pf_fo] at w
          simp only [Bool.and_eq_true, decide_eq_true_eq] at w
          exact hM.1 r hr w.1
        exact ⟨hj, hg, (key j hj hg).mpr ⟨w, q⟩⟩
      · rw [Nat.zero_testBit] at q; cases q
    · rintro ⟨_, h1, h2⟩
      obtain ⟨a, b⟩ := (key j hj h1).mp h2
      rw [if_pos a, Nat.testBit_two_pow, decide_eq_true_eq]
      exact b
end
section
/-! PURE PART 5: covers and blocks -/
theorem pf_R_78 (E pr pc : Nat → Nat) : pf_R E pr pc 8 = pf_R E pr pc 7 := by
  have hs : ∀ n y, (pf_R E pr pc (n + 1)).testBit y = true ↔ (pf_R E pr pc n).testBit y = true ∨ ∃ x, x < 7 ∧ (pf_R E pr pc n).testBit x = true ∧ ∃ c, c < 7 ∧ pf_G E x c = true ∧ pc c < 7 ∧ pc c = y := by
    intro n y
    rw [pf_R, Nat.testBit_or, Bool.or_eq_true, pf_pc_bit]
    constructor
    · rintro (h | ⟨c, h1, h2, h3, h4⟩)
      · exact Or.inl h
      · obtain ⟨x, q1, q2, q3⟩ := pf_cn_bit.mp h2
        exact Or.inr ⟨x, q1, q2, c, h1, q3, h3, h4⟩
    · rintro (h | ⟨x, q1, q2, c, h1, q3, h3, h4⟩)
      · exact Or.inl h
      · exact Or.inr ⟨c, h1, pf_cn_bit.mpr ⟨x, q1, q2, q3⟩, h3, h4⟩
  have hcl := pf_closed (fun n r => (pf_R E pr pc n).testBit r) (fun x y => ∃ c, c < 7 ∧ pf_G E x c = true ∧ pc c < 7 ∧ pc c = y) (fun n x _ h => (hs n x).mpr (Or.inl h)) (fun n x y hx _ h ht => (hs n y).mpr (Or.inr ⟨x, hx, h, ht⟩)) (fun n hc x hx h => by
    rcases (hs n x).mp h with h | ⟨z, q1, q2, ht⟩
    · exact h
    · exact hc z x q1 hx q2 ht) 7
  have hcl := hcl.resolve_right (fun q => by have := mm_cnt_le (fun r => (pf_R E pr pc 7).testBit r) 7; omega)
  refine mm_bits_eq (pf_R_lt _ _ _ _) (pf_R_lt _ _ _ _) (fun j hj => ?_)
  rw [Bool.eq_iff_iff, hs 7 j]
  constructor
  · rintro (h | ⟨x, hx, h, ht⟩)
    · exact h
    · exact hcl x j hx hj h ht
  · exact Or.inl
def pf_cov (E : Nat → Nat) (rr cr : Nat) (n : Nat) : Nat := mm_cnt (fun i => decide (E i ≠ 0) && !rr.testBit i) n + mm_cnt (fun i => cr.testBit i) n
def pf_cu (E : Nat → Nat) (set : Nat) : Nat → Nat := pf_or (fun r => !set.testBit r) E
def pf_cv (E : Nat → Nat) (set : Nat) : Nat := pf_sz set + pf_sz (pf_cu E set 7)
def pf_mc (E : Nat → Nat) : Nat → Nat
  | 0 => 7
  | n + 1 => if pf_cv E n < pf_mc E n then pf_cv E n else pf_mc E n
theorem pf_mc_le (E : Nat → Nat) : ∀ n, pf_mc E n ≤ 7 ∧ ∀ s, s < n → pf_mc E n ≤ pf_cv E s
  | 0 => ⟨Nat.le_refl 7, fun s h => by omega⟩
  | n + 1 => by
    obtain ⟨h1, h2⟩ := pf_mc_le E n
    rw [pf_mc]
    refine ⟨by split <;> omega, fun s hs => ?_⟩
    by_cases e : s = n
    · subst e
      split <;> omega
    · have := h2 s (by omega)
      split <;> omega
theorem pf_mc_ex (E : Nat → Nat) : ∀ n, pf_mc E n = 7 ∨ ∃ s, s < n ∧ pf_mc E n = pf_cv E s
  | 0 => Or.inl rfl
  | n + 1 => by
    rw [pf_mc]
    split
    · exact Or.inr ⟨n, by omega, rfl⟩
    · rcases pf_mc_ex E n with h | ⟨s, h1, h2⟩
      · exact Or.inl h
      · exact Or.inr ⟨s, by omega, h2⟩
theorem pf_a_cov {E pr pc re us : Nat → Nat} {rr cr cc : Nat} (h : pf_Ok E pr pc rr cr cc re us) : pf_cov E rr cr 7 = pf_mc E 128 := by
  obtain ⟨hM, hI, hx, e1, e2, e3, e4, e5⟩ := h
  have hH := pf_H_R hI hx
  have hcov := mm_cov (Z := fun r => rr.testBit r) (Y := fun c => cr.testBit c) hM hI (by rw [e1]; exact hH.1) (by rw [e1]; exact hH.2.1) (fun c _ => by
    show cr.testBit c = true ↔ ∃ x, x < 7 ∧ rr.testBit x = true ∧ pf_G E x c = true
    rw [e2, e1, pf_R_78]
    exact pf_cn_bit)
  have ha : mm_cnt (fun i => decide (E i ≠ 0) && !rr.testBit i) 7 = mm_cnt (fun i => !rr.testBit i) 7 := mm_cnt_congr 7 (fun i hi => by
    by_cases e0 : E i = 0
    · have : rr.testBit i = true := by
        rw [e1]
        refine hH.1 i hi (fun q => ?_)
        have := hM.1 i hi q
        rw [pf_G, e0, Nat.zero_testBit] at this
        cases this
      simp [this]
    · simp [e0])
  have hS : pf_cov E rr cr 7 = mm_S pr := by
    rw [pf_cov, ha]
    exact hcov
  rw [hS]
  have hlow : ∀ s, mm_S pr ≤ pf_cv E s := fun s => mm_weak (X := fun i => s.testBit i) (Y := fun i => (pf_cu E s 7).testBit i) hM (fun r c hr hc hg => by
    cases hb : s.testBit r with
    | true => exact Or.inl rfl
    | false => exact Or.inr ((pf_or_bit _ _ _ _).mpr ⟨r, hr, by simp [hb], hg⟩))
  obtain ⟨s, hs, hb⟩ := pf_enc (fun i => !rr.testBit i)
  have hcv : pf_cv E s = mm_S pr := by
    rw [pf_cv, pf_sz, pf_sz, ← hcov]
    congr 1
    · exact mm_cnt_congr 7 (fun i hi => hb i hi)
    · refine mm_cnt_congr 7 (fun c hc => ?_)
      rw [Bool.eq_iff_iff, pf_cu, pf_or_bit, e2, pf_cn_bit, ← pf_R_78, ← e1]
      constructor
      · rintro ⟨x, h1, h2, h3⟩
        rw [hb x h1] at h2
        exact ⟨x, h1, by simpa using h2, h3⟩
      · rintro ⟨x, h1, h2, h3⟩
        exact ⟨x, h1, by rw [hb x h1]; simp [h2], h3⟩
  have h1 := (pf_mc_le E 128).2 s hs
  rcases pf_mc_ex E 128 with q | ⟨s', _, q⟩
  · have := mm_S_le pr
    omega
  · have := hlow s'
    omega
theorem pf_and_ne {a b : Nat} : a &&& b ≠ 0 ↔ ∃ j, a.testBit j = true ∧ b.testBit j = true := by
  constructor
  · intro h
    refine Classical.byContradiction fun q => h (Nat.eq_of_testBit_eq fun j => ?_)
    rw [Nat.testBit_and, Nat.zero_testBit]
    cases h1 : a.testBit j with
    | false => rfl
    | true =>
      cases h2 : b.testBit j with
      | false => rfl
      | true => exact absurd ⟨j, h1, h2⟩ q
  · rintro ⟨j, h1, h2⟩ e
    have : (a &&& b).testBit j = true := by rw [Nat.testBit_and, h1, h2]; rfl
    rw [e, Nat.zero_testBit] at this
    cases this
def pf_bc (us : Nat → Nat) (rows : Nat) : Nat := pf_or (fun k => rows.testBit k) us 7
def pf_B (us : Nat → Nat) (r : Nat) : Nat → Nat
  | 0 => 2 ^ r
  | n + 1 => pf_B us r n ||| pf_or (fun k => decide (us k &&& pf_bc us (pf_B us r n) ≠ 0)) (fun k => 2 ^ k) 7
theorem pf_B_bit {us : Nat → Nat} {r n y : Nat} : (pf_B us r (n + 1)).testBit y = true ↔ (pf_B us r n).testBit y = true ∨ (y < 7 ∧ ∃ x, x < 7 ∧ (pf_B us r n).testBit x = true ∧ us x &&& us y ≠ 0) := by
  rw [pf_B, Nat.testBit_or, Bool.or_eq_true, pf_two_bit, decide_eq_true_eq]
  have : us y &&& pf_bc us (pf_B us r n) ≠ 0 ↔ ∃ x, x < 7 ∧ (pf_B us r n).testBit x = true ∧ us x &&& us y ≠ 0 := by
    rw [pf_and_ne]
    constructor
    · rintro ⟨j, h1, h2⟩
      obtain ⟨x, a1, a2, a3⟩ := (pf_or_bit _ _ _ _).mp h2
      exact ⟨x, a1, a2, pf_and_ne.mpr ⟨j, a3, h1⟩⟩
    · rintro ⟨x, a1, a2, a3⟩
      obtain ⟨j, b1, b2⟩ := pf_and_ne.mp a3
      exact ⟨j, b2, (pf_or_bit _ _ _ _).mpr ⟨x, a1, a2, b1⟩⟩
  rw [this]
theorem pf_B_lt {us : Nat → Nat} {r : Nat} (hr : r < 7) : ∀ n, pf_B us r n < 128
  | 0 => mm_two_lt hr
  | n + 1 => Nat.or_lt_two_pow (n := 7) (pf_B_lt hr n) (pf_two_lt _)
/-- the rows of a block -/
def pf_Blk (us : Nat → Nat) (r b : Nat) : Prop := b < 128 ∧ b.testBit r = true ∧ (∀ x y, x < 7 → y < 7 → b.testBit x = true → us x &&& us y ≠ 0 → b.testBit y = true) ∧
  ∀ Z : Nat → Prop, Z r → (∀ x y, x < 7 → y < 7 → Z x → us x &&& us y ≠ 0 → Z y) → ∀ x, x < 7 → b.testBit x = true → Z x
theorem pf_Blk_uniq {us : Nat → Nat} {r a b : Nat} (h : pf_Blk us r a) (h' : pf_Blk us r b) : a = b := by
  refine mm_bits_eq h.1 h'.1 (fun j hj => ?_)
  rw [Bool.eq_iff_iff]
  exact ⟨h.2.2.2 (fun x => b.testBit x = true) h'.2.1 h'.2.2.1 j hj, h'.2.2.2 (fun x => a.testBit x = true) h.2.1 h.2.2.1 j hj⟩
theorem pf_self_bit (r : Nat) : (2 ^ r).testBit r = true := by rw [Nat.testBit_two_pow]; simp
theorem pf_B_blk (us : Nat → Nat) {r : Nat} (hr : r < 7) : pf_Blk us r (pf_B us r 7) := by
  refine ⟨pf_B_lt hr 7, ?_, ?_, fun Z hZ hc => ?_⟩
  · have : ∀ n, (pf_B us r n).testBit r = true := by
      intro n
      induction n with
      | zero => exact pf_self_bit r
      | succ n ih => exact pf_B_bit.mpr (Or.inl ih)
    exact this 7
  · have hcl := pf_closed (fun n x => (pf_B us r n).testBit x) (fun x y => us x &&& us y ≠ 0) (fun n x _ h => pf_B_bit.mpr (Or.inl h)) (fun n x y hx hy h ht => pf_B_bit.mpr (Or.inr ⟨hy, x, hx, h, ht⟩)) (fun n hc x hx h => by
      rcases pf_B_bit.mp h with h | ⟨_, z, q1, q2, ht⟩
      · exact h
      · exact hc z x q1 hx q2 ht) 7
    exact hcl.resolve_right (fun q => by have := mm_cnt_le (fun x => (pf_B us r 7).testBit x) 7; omega)
  · have : ∀ n x, x < 7 → (pf_B us r n).testBit x = true → Z x := by
      intro n
      induction n with
      | zero =>
        intro x hx h
        rw [pf_B, Nat.testBit_two_pow, decide_eq_true_eq] at h
        rw [← h]; exact hZ
      | succ n ih =>
        intro x hx h
        rcases pf_B_bit.mp h with h | ⟨_, z, q1, q2, ht⟩
        · exact ih x hx h
        · exact hc z x q1 hx (ih z q1 q2) ht
    exact this 7
def pf_b1 (us : Nat → Nat) (set : Nat) : Nat → Nat
  | 0 => set
  | k + 1 => if (pf_b1 us set k).testBit (k / 7) = true ∧ us (k / 7) &&& us (k % 7) ≠ 0 then pf_b1 us set k ||| 2 ^ (k % 7) else pf_b1 us set k
def pf_BO (us : Nat → Nat) (r : Nat) : Nat → Nat
  | 0 => 2 ^ r
  | n + 1 => pf_b1 us (pf_BO us r n) 49
theorem pf_b1_lt {us : Nat → Nat} {set : Nat} (h : set < 128) : ∀ k, pf_b1 us set k < 128
  | 0 => h
  | k + 1 => by
    rw [pf_b1]
    split
    · exact Nat.or_lt_two_pow (n := 7) (pf_b1_lt h k) (mm_two_lt (Nat.mod_lt _ (by decide)))
    · exact pf_b1_lt h k
theorem pf_b1_up {us : Nat → Nat} {set j : Nat} (k : Nat) (h : (pf_b1 us set k).testBit j = true) : (pf_b1 us set (k + 1)).testBit j = true := by
  rw [pf_b1]
  split
  · rw [Nat.testBit_or, h]; rfl
  · exact h
theorem pf_b1_ups {us : Nat → Nat} {set j : Nat} (k : Nat) (h : (pf_b1 us set k).testBit j = true) : ∀ n, (pf_b1 us set (k + n)).testBit j = true
  | 0 => h
  | n + 1 => pf_b1_up (k + n) (pf_b1_ups k h n)
theorem pf_b1_in {us : Nat → Nat} {set : Nat} {Z : Nat → Prop} (hc : ∀ x y, x < 7 → y < 7 → Z x → us x &&& us y ≠ 0 → Z y) (h : ∀ x, x < 7 → set.testBit x = true → Z x) : ∀ k, k ≤ 49 → ∀ x, x < 7 → (pf_b1 us set k).testBit x = true → Z x
  | 0, _, x, hx, q => h x hx q
  | k + 1, hk, x, hx, q => by
    rw [pf_b1] at q
    split at q
    · next w =>
      rw [Nat.testBit_or, Bool.or_eq_true, Nat.testBit_two_pow, decide_eq_true_eq] at q
      have h7 : k / 7 < 7 := by omega
      rcases q with q | q
      · exact pf_b1_in hc h k (by omega) x hx q
      · rw [q] at w
        exact hc (k / 7) x h7 hx (pf_b1_in hc h k (by omega) _ h7 w.1) w.2
    · exact pf_b1_in hc h k (by omega) x hx q
theorem pf_b1_step {us : Nat → Nat} {set x y : Nat} (hx : x < 7) (hy : y < 7) (h : set.testBit x = true) (ht : us x &&& us y ≠ 0) : (pf_b1 us set 49).testBit y = true := by
  have e1 : (7 * x + y) / 7 = x := by omega
  have e2 : (7 * x + y) % 7 = y := by omega
  have h0 : (pf_b1 us set (7 * x + y)).testBit x = true := by
    have := pf_b1_ups (us := us) (set := set) 0 h (7 * x + y)
    rw [Nat.zero_add] at this
    exact this
  have h1 : (pf_b1 us set (7 * x + y + 1)).testBit y = true := by
    rw [pf_b1, e1, e2, if_pos ⟨h0, ht⟩, Nat.testBit_or, pf_self_bit]
    simp
  have h2 := pf_b1_ups (7 * x + y + 1) h1 (49 - (7 * x + y + 1))
  have e3 : 7 * x + y + 1 + (49 - (7 * x + y + 1)) = 49 := by omega
  rw [e3] at h2
  exact h2
theorem pf_BO_lt {us : Nat → Nat} {r : Nat} (hr : r < 7) : ∀ n, pf_BO us r n < 128
  | 0 => mm_two_lt hr
  | n + 1 => pf_b1_lt (pf_BO_lt hr n) 49
theorem pf_BO_up {us : Nat → Nat} {r n x : Nat} (h : (pf_BO us r n).testBit x = true) : (pf_BO us r (n + 1)).testBit x = true := by
  have := pf_b1_ups (us := us) (set := pf_BO us r n) 0 h 49
  exact this
theorem pf_BO_blk (us : Nat → Nat) {r : Nat} (hr : r < 7) : pf_Blk us r (pf_BO us r 7) := by
  refine ⟨pf_BO_lt hr 7, ?_, ?_, fun Z hZ hc => ?_⟩
  · have : ∀ n, (pf_BO us r n).testBit r = true := by
      intro n
      induction n with
      | zero => exact pf_self_bit r
      | succ n ih => exact pf_BO_up ih
    exact this 7
  · have hcl := pf_closed (fun n x => (pf_BO us r n).testBit x) (fun x y => us x &&& us y ≠ 0) (fun n x _ h => pf_BO_up h) (fun n x y hx hy h ht => pf_b1_step hx hy h ht) (fun n hc x hx h => pf_b1_in (Z := fun x => (pf_BO us r n).testBit x = true) hc (fun x _ h => h) 49 (Nat.le_refl 49) x hx h) 7
    exact hcl.resolve_right (fun q => by have := mm_cnt_le (fun x => (pf_BO us r 7).testBit x) 7; omega)
  · have : ∀ n x, x < 7 → (pf_BO us r n).testBit x = true → Z x := by
      intro n
      induction n with
      | zero =>
        intro x hx h
        rw [pf_BO, Nat.testBit_two_pow, decide_eq_true_eq] at h
        rw [← h]; exact hZ
      | succ n ih => exact fun x hx h => pf_b1_in hc ih 49 (Nat.le_refl 49) x hx h
    exact this 7
theorem pf_B_BO (us : Nat → Nat) {r : Nat} (hr : r < 7) : pf_B us r 7 = pf_BO us r 7 := pf_Blk_uniq (pf_B_blk us hr) (pf_BO_blk us hr)
theorem pf_bc_congr {us us' : Nat → Nat} (h : ∀ k, k < 7 → us k = us' k) (rows : Nat) : pf_bc us rows = pf_bc us' rows := pf_or_congr 7 (fun _ _ => rfl) (fun k hk _ => h k hk)
theorem pf_B_congr {us us' : Nat → Nat} (h : ∀ k, k < 7 → us k = us' k) (r : Nat) : ∀ n, pf_B us r n = pf_B us' r n
  | 0 => rfl
  | n + 1 => by
    rw [pf_B, pf_B, pf_B_congr h r n]
    congr 1
    refine pf_or_congr 7 (fun k hk => ?_) (fun _ _ _ => rfl)
    rw [h k hk, pf_bc_congr h]
theorem pf_Blk_symm {us : Nat → Nat} {r k a b : Nat} (hr : r < 7) (hk : k < 7) (ha : pf_Blk us r a) (hb : pf_Blk us k b) (h : a.testBit k = true) : b.testBit r = true := by
  refine Classical.byContradiction fun q => ?_
  have := ha.2.2.2 (fun x => a.testBit x = true ∧ ¬ b.testBit x = true) ⟨ha.2.1, q⟩ (fun x y hx hy hz ht => ⟨ha.2.2.1 x y hx hy hz.1 ht, fun w => hz.2 (hb.2.2.1 y x hy hx w (by rw [Nat.and_comm]; exact ht))⟩) k hk h
  exact this.2 hb.2.1
theorem pf_Blk_sub {us : Nat → Nat} {r k a b : Nat} (ha : pf_Blk us r a) (hb : pf_Blk us k b) (h : a.testBit k = true) : ∀ x, x < 7 → b.testBit x = true → a.testBit x = true := hb.2.2.2 (fun x => a.testBit x = true) h ha.2.2.1
/-- in a block that isn't one row alone, all rows have usable edges -/
theorem pf_Blk_us {us : Nat → Nat} {r a x : Nat} (ha : pf_Blk us r a) (hx : x < 7) (h : a.testBit x = true) (hne : x ≠ r) : us x ≠ 0 := by
  intro e
  have := ha.2.2.2 (fun z => z ≠ x) (fun q => hne q.symm) (fun y z hy hz hq ht w => by
    rw [w, e, Nat.and_zero] at ht
    exact ht rfl) x hx h
  exact this rfl
/-- blocks(): the number so far, the rows that are done -/
def pf_bl (us : Nat → Nat) : Nat → Nat × Nat
  | 0 => (0, 0)
  | k + 1 => if us k = 0 ∨ (pf_bl us k).2.testBit k = true then pf_bl us k else ((pf_bl us k).1 + 1, (pf_bl us k).2 ||| pf_B us k 7)
def pf_mb (us : Nat → Nat) : Nat → Nat
  | 0 => 0
  | k + 1 => if us k ≠ 0 ∧ pf_BO us k 7 &&& (2 ^ k - 1) = 0 then pf_mb us k + 1 else pf_mb us k
theorem pf_bl_lt (us : Nat → Nat) : ∀ k, k ≤ 7 → (pf_bl us k).2 < 128
  | 0, _ => by simp [pf_bl]
  | k + 1, h => by
    rw [pf_bl]
    split
    · exact pf_bl_lt us k (by omega)
    · exact Nat.or_lt_two_pow (n := 7) (pf_bl_lt us k (by omega)) (pf_B_lt (by omega) 7)
theorem pf_bl_mb (us : Nat → Nat) : ∀ k, k ≤ 7 → (pf_bl us k).1 = pf_mb us k ∧ ∀ j, j < 7 → ((pf_bl us k).2.testBit j = true ↔ ∃ i, i < k ∧ us i ≠ 0 ∧ (pf_B us i 7).testBit j = true)
  | 0, _ => ⟨rfl, fun j _ => by
    rw [pf_bl, Nat.zero_testBit]
    constructor
    · intro h; cases h
    · rintro ⟨i, h, _⟩; omega⟩
  | k + 1, hk => by
    obtain ⟨h1, h2⟩ := pf_bl_mb us k (by omega)
    have hk7 : k < 7 := by omega
    have key : us k ≠ 0 → ((pf_bl us k).2.testBit k = true ↔ pf_BO us k 7 &&& (2 ^ k - 1) ≠ 0) := fun hu => by
      rw [h2 k hk7, pf_and_ne, ← pf_B_BO us hk7]
      constructor
      · rintro ⟨i, a1, a2, a3⟩
        exact ⟨i, pf_Blk_symm (by omega) hk7 (pf_B_blk us (by omega)) (pf_B_blk us hk7) a3, by rw [Nat.testBit_two_pow_sub_one]; simp [a1]⟩
      · rintro ⟨i, a1, a2⟩
        rw [Nat.testBit_two_pow_sub_one, decide_eq_true_eq] at a2
        have hi : i < 7 := by omega
        exact ⟨i, a2, pf_Blk_us (pf_B_blk us hk7) hi a1 (by omega), pf_Blk_symm hk7 hi (pf_B_blk us hk7) (pf_B_blk us hi) a1⟩
    rw [pf_bl, pf_mb]
    by_cases hu : us k = 0
    · rw [if_pos (Or.inl hu), if_neg (fun q => q.1 hu)]
      refine ⟨h1, fun j hj => ?_⟩
      rw [h2 j hj]
      constructor
      · rintro ⟨i, a1, a2⟩
        exact ⟨i, by omega, a2⟩
      · rintro ⟨i, a1, a2, a3⟩
        have : i ≠ k := fun q => a2 (by rw [q]; exact hu)
        exact ⟨i, by omega, a2, a3⟩
    · by_cases hd : (pf_bl us k).2.testBit k = true
      · rw [if_pos (Or.inr hd), if_neg (fun q => (key hu).mp hd q.2)]
        refine ⟨h1, fun j hj => ?_⟩
        rw [h2 j hj]
        constructor
        · rintro ⟨i, a1, a2⟩
          exact ⟨i, by omega, a2⟩
        · rintro ⟨i, a1, a2, a3⟩
          by_cases e : i = k
          · obtain ⟨z, b1, b2, b3⟩ := (h2 k hk7).mp hd
            rw [e] at a3
            exact ⟨z, b1, b2, pf_Blk_sub (pf_B_blk us (by omega)) (pf_B_blk us hk7) b3 j hj a3⟩
          · exact ⟨i, by omega, a2, a3⟩
      · have hz : pf_BO us k 7 &&& (2 ^ k - 1) = 0 := Classical.byContradiction fun q => hd ((key hu).mpr q)
        rw [if_neg (fun q => q.elim hu hd), if_pos ⟨hu, hz⟩]
        refine ⟨by rw [h1], fun j hj => ?_⟩
        show ((pf_bl us k).2 ||| pf_B us k 7).testBit j = true ↔ _
        rw [Nat.testBit_or, Bool.or_eq_true, h2 j hj]
        constructor
        · rintro (⟨i, a1, a2⟩ | a)
          · exact ⟨i, by omega, a2⟩
          · exact ⟨k, by omega, hu, a⟩
        · rintro ⟨i, a1, a2, a3⟩
          by_cases e : i = k
          · rw [e] at a3
            exact Or.inr a3
          · exact Or.inl ⟨i, by omega, a2, a3⟩
theorem pf_mb_congr {us us' : Nat → Nat} (h : ∀ k, k < 7 → us k = us' k) : ∀ k, k ≤ 7 → pf_mb us k = pf_mb us' k
  | 0, _ => rfl
  | k + 1, hk => by
    rw [pf_mb, pf_mb, pf_mb_congr h k (by omega), h k (by omega), ← pf_B_BO us (by omega), ← pf_B_BO us' (by omega), pf_B_congr h]
theorem pf_a_bl {us : Nat → Nat} {E : Nat → Nat} (h : ∀ r, r < 7 → us r = pf_mus E r) : (pf_bl us 7).1 = pf_mb (pf_mus E) 7 := by
  rw [(pf_bl_mb us 7 (Nat.le_refl 7)).1, pf_mb_congr h 7 (Nat.le_refl 7)]
theorem pf_a_br {us : Nat → Nat} {E : Nat → Nat} (h : ∀ r, r < 7 → us r = pf_mus E r) {r : Nat} (hr : r < 7) : (if us r = 0 then 0 else pf_B us r 7) = (if pf_mus E r = 0 then 0 else pf_BO (pf_mus E) r 7) := by
  rw [h r hr, pf_B_congr h, pf_B_BO _ hr]
end
section
-- ===== PART A: goes FIRST, ahead of the names: the tables' words, and 'selects' of the private methods out of them =====
/-- a private method of a class that the tables say can be made, by its rows of tables_1 -/
def lw_okq (q : MethodName × Nat) : Prop := (q.1.cls ≠ "java/lang/invoke/MethodHandle" ∧ q.1.cls ≠ "java/lang/invoke/VarHandle") ∧ Cond.instantiable q.1.cls q.2 ∈ tables_1 ∧ Cond.privateMethod q.1 ∈ tables_1 ∧ Cond.instanceMethod q.1 ∈ tables_1
set_option maxRecDepth 100000
theorem lw_t1 {w : Cond} (h : w ∈ tables_1_1) : w ∈ tables_1 := List.mem_append_left _ h
theorem lw_t2 {w : Cond} (h : w ∈ tables_1_2) : w ∈ tables_1 := List.mem_append_right _ h
theorem lw_p0 : lw_okq (⟨"DmDecomposer", "isNumber", "(I)Z"⟩, 12) := ⟨⟨by decide +kernel, by decide +kernel⟩, lw_t1 (List.mem_of_getElem? (i := 4) rfl), lw_t1 (List.mem_of_getElem? (i := 55) rfl), lw_t1 (List.mem_of_getElem? (i := 56) rfl)⟩
theorem lw_p1 : lw_okq (⟨"DmDecomposer", "prepare", "()V"⟩, 12) := ⟨⟨by decide +kernel, by decide +kernel⟩, lw_t1 (List.mem_of_getElem? (i := 4) rfl), lw_t1 (List.mem_of_getElem? (i := 71) rfl), lw_t1 (List.mem_of_getElem? (i := 72) rfl)⟩
theorem lw_p2 : lw_okq (⟨"DmDecomposer", "augment", "(I)Z"⟩, 12) := ⟨⟨by decide +kernel, by decide +kernel⟩, lw_t1 (List.mem_of_getElem? (i := 4) rfl), lw_t1 (List.mem_of_getElem? (i := 75) rfl), lw_t1 (List.mem_of_getElem? (i := 76) rfl)⟩
theorem lw_p3 : lw_okq (⟨"DmDecomposer", "turnPath", "(II)V"⟩, 12) := ⟨⟨by decide +kernel, by decide +kernel⟩, lw_t1 (List.mem_of_getElem? (i := 4) rfl), lw_t1 (List.mem_of_getElem? (i := 79) rfl), lw_t1 (List.mem_of_getElem? (i := 80) rfl)⟩
theorem lw_p4 : lw_okq (⟨"DmDecomposer", "findReach", "()V"⟩, 12) := ⟨⟨by decide +kernel, by decide +kernel⟩, lw_t1 (List.mem_of_getElem? (i := 4) rfl), lw_t1 (List.mem_of_getElem? (i := 83) rfl), lw_t1 (List.mem_of_getElem? (i := 84) rfl)⟩
theorem lw_p5 : lw_okq (⟨"DmDecomposer", "columnsNextTo", "(I)I"⟩, 12) := ⟨⟨by decide +kernel, by decide +kernel⟩, lw_t1 (List.mem_of_getElem? (i := 4) rfl), lw_t1 (List.mem_of_getElem? (i := 87) rfl), lw_t1 (List.mem_of_getElem? (i := 88) rfl)⟩
theorem lw_p6 : lw_okq (⟨"DmDecomposer", "partnersOfColumns", "(I)I"⟩, 12) := ⟨⟨by decide +kernel, by decide +kernel⟩, lw_t1 (List.mem_of_getElem? (i := 4) rfl), lw_t1 (List.mem_of_getElem? (i := 91) rfl), lw_t1 (List.mem_of_getElem? (i := 92) rfl)⟩
theorem lw_p7 : lw_okq (⟨"DmDecomposer", "rowsNextTo", "(I)I"⟩, 12) := ⟨⟨by decide +kernel, by decide +kernel⟩, lw_t1 (List.mem_of_getElem? (i := 4) rfl), lw_t1 (List.mem_of_getElem? (i := 95) rfl), lw_t1 (List.mem_of_getElem? (i := 96) rfl)⟩
theorem lw_p8 : lw_okq (⟨"DmDecomposer", "rowsWithEdgeTo", "(I)I"⟩, 12) := ⟨⟨by decide +kernel, by decide +kernel⟩, lw_t1 (List.mem_of_getElem? (i := 4) rfl), lw_t1 (List.mem_of_getElem? (i := 99) rfl), lw_t1 (List.mem_of_getElem? (i := 100) rfl)⟩
theorem lw_p9 : lw_okq (⟨"DmDecomposer", "partnersOfRows", "(I)I"⟩, 12) := ⟨⟨by decide +kernel, by decide +kernel⟩, lw_t1 (List.mem_of_getElem? (i := 4) rfl), lw_t1 (List.mem_of_getElem? (i := 103) rfl), lw_t1 (List.mem_of_getElem? (i := 104) rfl)⟩
theorem lw_p10 : lw_okq (⟨"DmDecomposer", "findUsable", "()V"⟩, 12) := ⟨⟨by decide +kernel, by decide +kernel⟩, lw_t1 (List.mem_of_getElem? (i := 4) rfl), lw_t1 (List.mem_of_getElem? (i := 107) rfl), lw_t1 (List.mem_of_getElem? (i := 108) rfl)⟩
theorem lw_p11 : lw_okq (⟨"DmDecomposer", "isUsable", "(II)Z"⟩, 12) := ⟨⟨by decide +kernel, by decide +kernel⟩, lw_t1 (List.mem_of_getElem? (i := 4) rfl), lw_t1 (List.mem_of_getElem? (i := 111) rfl), lw_t1 (List.mem_of_getElem? (i := 112) rfl)⟩
theorem lw_p12 : lw_okq (⟨"DmDecomposer", "isForced", "(I)Z"⟩, 12) := ⟨⟨by decide +kernel, by decide +kernel⟩, lw_t1 (List.mem_of_getElem? (i := 4) rfl), lw_t1 (List.mem_of_getElem? (i := 131) rfl), lw_t1 (List.mem_of_getElem? (i := 132) rfl)⟩
theorem lw_p13 : lw_okq (⟨"DmDecomposer", "rowsOfBlock", "(I)I"⟩, 12) := ⟨⟨by decide +kernel, by decide +kernel⟩, lw_t1 (List.mem_of_getElem? (i := 4) rfl), lw_t1 (List.mem_of_getElem? (i := 139) rfl), lw_t1 (List.mem_of_getElem? (i := 140) rfl)⟩
theorem lw_p14 : lw_okq (⟨"DmDecomposerModel", "isPlace", "(I)Z"⟩, 4) := ⟨⟨by decide +kernel, by decide +kernel⟩, lw_t1 (List.mem_of_getElem? (i := 151) rfl), lw_t1 (List.mem_of_getElem? (i := 175) rfl), lw_t1 (List.mem_of_getElem? (i := 176) rfl)⟩
theorem lw_p15 : lw_okq (⟨"DmDecomposerModel", "sizeWithout", "(IIII)I"⟩, 4) := ⟨⟨by decide +kernel, by decide +kernel⟩, lw_t1 (List.mem_of_getElem? (i := 151) rfl), lw_t1 (List.mem_of_getElem? (i := 191) rfl), lw_t1 (List.mem_of_getElem? (i := 192) rfl)⟩
def lw_privs_1 : List (MethodName × Nat) := [(⟨"DmDecomposer", "isNumber", "(I)Z"⟩, 12), (⟨"DmDecomposer", "prepare", "()V"⟩, 12), (⟨"DmDecomposer", "augment", "(I)Z"⟩, 12), (⟨"DmDecomposer", "turnPath", "(II)V"⟩, 12), (⟨"DmDecomposer", "findReach", "()V"⟩, 12), (⟨"DmDecomposer", "columnsNextTo", "(I)I"⟩, 12), (⟨"DmDecomposer", "partnersOfColumns", "(I)I"⟩, 12), (⟨"DmDecomposer", "rowsNextTo", "(I)I"⟩, 12), (⟨"DmDecomposer", "rowsWithEdgeTo", "(I)I"⟩, 12), (⟨"DmDecomposer", "partnersOfRows", "(I)I"⟩, 12), (⟨"DmDecomposer", "findUsable", "()V"⟩, 12), (⟨"DmDecomposer", "isUsable", "(II)Z"⟩, 12), (⟨"DmDecomposer", "isForced", "(I)Z"⟩, 12), (⟨"DmDecomposer", "rowsOfBlock", "(I)I"⟩, 12), (⟨"DmDecomposerModel", "isPlace", "(I)Z"⟩, 4), (⟨"DmDecomposerModel", "sizeWithout", "(IIII)I"⟩, 4)]
theorem lw_r1 : ∀ q ∈ lw_privs_1, lw_okq q := List.forall_mem_cons.mpr ⟨lw_p0, List.forall_mem_cons.mpr ⟨lw_p1, List.forall_mem_cons.mpr ⟨lw_p2, List.forall_mem_cons.mpr ⟨lw_p3, List.forall_mem_cons.mpr ⟨lw_p4, List.forall_mem_cons.mpr ⟨lw_p5, List.forall_mem_cons.mpr ⟨lw_p6, List.forall_mem_cons.mpr ⟨lw_p7, List.forall_mem_cons.mpr ⟨lw_p8, List.forall_mem_cons.mpr ⟨lw_p9, List.forall_mem_cons.mpr ⟨lw_p10, List.forall_mem_cons.mpr ⟨lw_p11, List.forall_mem_cons.mpr ⟨lw_p12, List.forall_mem_cons.mpr ⟨lw_p13, List.forall_mem_cons.mpr ⟨lw_p14, List.forall_mem_cons.mpr ⟨lw_p15, fun _ h => absurd h List.not_mem_nil⟩⟩⟩⟩⟩⟩⟩⟩⟩⟩⟩⟩⟩⟩⟩⟩
theorem lw_p16 : lw_okq (⟨"DmDecomposerModel", "takeRow", "(I)V"⟩, 4) := ⟨⟨by decide +kernel, by decide +kernel⟩, lw_t1 (List.mem_of_getElem? (i := 151) rfl), lw_t1 (List.mem_of_getElem? (i := 195) rfl), lw_t1 (List.mem_of_getElem? (i := 196) rfl)⟩
theorem lw_p17 : lw_okq (⟨"DmDecomposerModel", "in", "(II)Z"⟩, 4) := ⟨⟨by decide +kernel, by decide +kernel⟩, lw_t1 (List.mem_of_getElem? (i := 151) rfl), lw_t1 (List.mem_of_getElem? (i := 199) rfl), lw_t1 (List.mem_of_getElem? (i := 200) rfl)⟩
theorem lw_p18 : lw_okq (⟨"DmDecomposerModel", "sizeOf", "(I)I"⟩, 4) := ⟨⟨by decide +kernel, by decide +kernel⟩, lw_t1 (List.mem_of_getElem? (i := 151) rfl), lw_t1 (List.mem_of_getElem? (i := 203) rfl), lw_t1 (List.mem_of_getElem? (i := 204) rfl)⟩
theorem lw_p19 : lw_okq (⟨"DmDecomposerModel", "usableOf", "(II)I"⟩, 4) := ⟨⟨by decide +kernel, by decide +kernel⟩, lw_t1 (List.mem_of_getElem? (i := 151) rfl), lw_t1 (List.mem_of_getElem? (i := 220) rfl), lw_t1 (List.mem_of_getElem? (i := 221) rfl)⟩
theorem lw_p20 : lw_okq (⟨"DmDecomposerModel", "findGood", "()V"⟩, 4) := ⟨⟨by decide +kernel, by decide +kernel⟩, lw_t1 (List.mem_of_getElem? (i := 151) rfl), lw_t1 (List.mem_of_getElem? (i := 232) rfl), lw_t1 (List.mem_of_getElem? (i := 233) rfl)⟩
theorem lw_p21 : lw_okq (⟨"DmDecomposerModel", "blockOf", "(I)I"⟩, 4) := ⟨⟨by decide +kernel, by decide +kernel⟩, lw_t1 (List.mem_of_getElem? (i := 151) rfl), lw_t1 (List.mem_of_getElem? (i := 236) rfl), lw_t1 (List.mem_of_getElem? (i := 237) rfl)⟩
def lw_privs_2 : List (MethodName × Nat) := [(⟨"DmDecomposerModel", "takeRow", "(I)V"⟩, 4), (⟨"DmDecomposerModel", "in", "(II)Z"⟩, 4), (⟨"DmDecomposerModel", "sizeOf", "(I)I"⟩, 4), (⟨"DmDecomposerModel", "usableOf", "(II)I"⟩, 4), (⟨"DmDecomposerModel", "findGood", "()V"⟩, 4), (⟨"DmDecomposerModel", "blockOf", "(I)I"⟩, 4)]
theorem lw_r2 : ∀ q ∈ lw_privs_2, lw_okq q := List.forall_mem_cons.mpr ⟨lw_p16, List.forall_mem_cons.mpr ⟨lw_p17, List.forall_mem_cons.mpr ⟨lw_p18, List.forall_mem_cons.mpr ⟨lw_p19, List.forall_mem_cons.mpr ⟨lw_p20, List.forall_mem_cons.mpr ⟨lw_p21, fun _ h => absurd h List.not_mem_nil⟩⟩⟩⟩⟩⟩
def lw_privs : List (MethodName × Nat) := lw_privs_1 ++ (lw_privs_2)
def lw_tbl : List Cond := k2_sels lw_privs ++ tables_1
theorem lw_privs_ok : ∀ q ∈ lw_privs, lw_okq q := by
  show ∀ q ∈ lw_privs_1 ++ (lw_privs_2), lw_okq q
  exact List.forall_mem_append.mpr ⟨lw_r1, lw_r2⟩
-- ===== ONE list of words for every method: the tables' words that hold all through a run =====
def lw_all : List Cond := lw_tbl.filter goodWord
/-- a word of the tables by its place: claim/WORDS.tsv -/
theorem lw_w {w : Cond} (i : Nat) (h : lw_tbl[i]? = some w) (g : goodWord w = true) : w ∈ lw_all := List.mem_filter.mpr ⟨List.mem_of_getElem? h, g⟩
theorem lw_all_tbl {w : Cond} (h : w ∈ lw_all) : w ∈ lw_tbl := (List.mem_filter.mp h).1
theorem lw_self : GoodIn lw_all lw_all := fun w h => ⟨h, good_of_word (List.mem_filter.mp h).2⟩
/-- a class's field words, by their places -/
theorem lw_in (ws : List Cond) (ps : List Nat) (hp : ws = ps.filterMap (fun i => lw_tbl[i]?)) (hg : ws.all goodWord = true) : ∀ w ∈ ws, w ∈ lw_all := by
  intro w h
  have h1 := List.all_eq_true.mp hg w h
  rw [hp] at h
  obtain ⟨i, -, hi⟩ := List.mem_filterMap.mp h
  exact lw_w i hi h1
/-- the words of a contract for the method y with code b, L locals, answer r -/
abbrev ws_ (y : MethodName) (b : ByteArray) (L : Nat) (r : Option FieldType) : List Cond := Cond.code y b L r :: lw_all
theorem lw_meth {y : MethodName} {b : ByteArray} {L : Nat} {r : Option FieldType} (h : Cond.code y b L r ∈ lw_all) : GoodIn lw_all (ws_ y b L r) := by
  intro w hw
  rcases List.mem_cons.mp hw with e | e
  · rw [e]
    exact lw_self _ h
  · exact lw_self _ e
theorem lw_app {a c : List Cond} (ha : ∀ w ∈ a, w ∈ lw_all) (hc : GoodIn lw_all c) : GoodIn lw_all (a ++ c) := by
  intro w hw
  rcases List.mem_append.mp hw with e | e
  · exact lw_self w (ha w e)
  · exact hc w e
/-- what a call through an object asks: cwV n hts (lw_V ..) -/
theorem lw_V {own : String} {idx : Nat} {C : String} {y : MethodName} {b : ByteArray} {L : Nat} {r : Option FieldType} (h1 : Cond.methodLink own idx y ∈ lw_all) (h2 : Cond.instanceMethod y ∈ lw_all) (h3 : Cond.selects C y y ∈ lw_all) (h4 : Cond.initialized C ∈ lw_all) (h5 : Cond.code y b L r ∈ lw_all) : GoodIn lw_all (wsV own idx C y (ws_ y b L r)) := by
  refine lw_app ?_ (lw_meth h5)
  intro w hw
  simp only [List.mem_cons, List.not_mem_nil, or_false] at hw
  rcases hw with e | e | e | e
  · rw [e]; exact h1
  · rw [e]; exact h2
  · rw [e]; exact h3
  · rw [e]; exact h4
/-- what a static call asks: va_cwS n hts (lw_S ..) -/
theorem lw_S {own : String} {idx : Nat} {y : MethodName} {b : ByteArray} {L : Nat} {r : Option FieldType} (h1 : Cond.methodLink own idx y ∈ lw_all) (h2 : Cond.static y ∈ lw_all) (h3 : Cond.initialized y.cls ∈ lw_all) (h4 : Cond.code y b L r ∈ lw_all) : GoodIn lw_all (va_wsS own idx y (ws_ y b L r)) := by
  refine lw_app ?_ (lw_meth h4)
  intro w hw
  simp only [List.mem_cons, List.not_mem_nil, or_false] at hw
  rcases hw with e | e | e
  · rw [e]; exact h1
  · rw [e]; exact h2
  · rw [e]; exact h3
/-- the words of a contract for a method WITH HANDLERS (hh: its table) -/
abbrev wsW_ (y : MethodName) (b : ByteArray) (L : Nat) (r : Option FieldType) (hh : List (Nat × Nat × Nat × Nat)) : List Cond := Cond.codeWith y b L r hh :: lw_all
theorem lw_methW {y : MethodName} {b : ByteArray} {L : Nat} {r : Option FieldType} {hh : List (Nat × Nat × Nat × Nat)} (h : Cond.codeWith y b L r hh ∈ lw_all) : GoodIn lw_all (wsW_ y b L r hh) := by
  intro w hw
  rcases List.mem_cons.mp hw with e | e
  · rw [e]
    exact lw_self _ h
  · exact lw_self _ e
/-- any list of words by their places (lw_in), good -/
theorem lw_good {ws : List Cond} (h : ∀ w ∈ ws, w ∈ lw_all) : GoodIn lw_all ws := fun w hw => lw_self w (h w hw)
/-- what a call of a method with handlers asks: vx_cwVW n hts (lw_VW ..), vx_cwSW n hts (lw_SW ..) -/
theorem lw_VW {own : String} {idx : Nat} {C : String} {y : MethodName} {b : ByteArray} {L : Nat} {r : Option FieldType} {hh : List (Nat × Nat × Nat × Nat)} (h1 : Cond.methodLink own idx y ∈ lw_all) (h2 : Cond.instanceMethod y ∈ lw_all) (h3 : Cond.selects C y y ∈ lw_all) (h4 : Cond.initialized C ∈ lw_all) (h5 : Cond.codeWith y b L r hh ∈ lw_all) : GoodIn lw_all (wsV own idx C y (wsW_ y b L r hh)) := by
  refine lw_app ?_ (lw_methW h5)
  intro w hw
  simp only [List.mem_cons, List.not_mem_nil, or_false] at hw
  rcases hw with e | e | e | e
  · rw [e]; exact h1
  · rw [e]; exact h2
  · rw [e]; exact h3
  · rw [e]; exact h4
theorem lw_SW {own : String} {idx : Nat} {y : MethodName} {b : ByteArray} {L : Nat} {r : Option FieldType} {hh : List (Nat × Nat × Nat × Nat)} (h1 : Cond.methodLink own idx y ∈ lw_all) (h2 : Cond.static y ∈ lw_all) (h3 : Cond.initialized y.cls ∈ lw_all) (h4 : Cond.codeWith y b L r hh ∈ lw_all) : GoodIn lw_all (va_wsS own idx y (wsW_ y b L r hh)) := by
  refine lw_app ?_ (lw_methW h4)
  intro w hw
  simp only [List.mem_cons, List.not_mem_nil, or_false] at hw
  rcases hw with e | e | e
  · rw [e]; exact h1
  · rw [e]; exact h2
  · rw [e]; exact h3
/-- a word by its place in its run of the tables -/
theorem lw_at {r : List Cond} (hr : ∀ w ∈ r, w ∈ lw_tbl) {w : Cond} (i : Nat) (h : r[i]? = some w) : w ∈ lw_tbl := hr w (List.mem_of_getElem? h)
theorem lw_g {w : Cond} (h : w ∈ lw_tbl) (g : goodWord w = true) : w ∈ lw_all := List.mem_filter.mpr ⟨h, g⟩
theorem lw_ms : ∀ w ∈ k2_sels lw_privs, w ∈ lw_tbl := fun w h => show w ∈ k2_sels lw_privs ++ tables_1 from List.mem_append_left _ h
theorem lw_m1 : ∀ w ∈ tables_1_1, w ∈ lw_tbl := fun w h => show w ∈ k2_sels lw_privs ++ tables_1 from List.mem_append_right (k2_sels lw_privs) (show w ∈ tables_1 from List.mem_append_left _ h)
theorem lw_m2 : ∀ w ∈ tables_1_2, w ∈ lw_tbl := fun w h => show w ∈ k2_sels lw_privs ++ tables_1 from List.mem_append_right (k2_sels lw_privs) (show w ∈ tables_1 from List.mem_append_right _ h)
theorem qs0 : (Cond.selects "DmDecomposer" ⟨"DmDecomposer", "isNumber", "(I)Z"⟩ ⟨"DmDecomposer", "isNumber", "(I)Z"⟩) ∈ lw_all := lw_g (lw_at lw_ms 0 rfl) rfl
theorem qs1 : (Cond.selects "DmDecomposer" ⟨"DmDecomposer", "prepare", "()V"⟩ ⟨"DmDecomposer", "prepare", "()V"⟩) ∈ lw_all := lw_g (lw_at lw_ms 1 rfl) rfl
theorem qs2 : (Cond.selects "DmDecomposer" ⟨"DmDecomposer", "augment", "(I)Z"⟩ ⟨"DmDecomposer", "augment", "(I)Z"⟩) ∈ lw_all := lw_g (lw_at lw_ms 2 rfl) rfl
theorem qs3 : (Cond.selects "DmDecomposer" ⟨"DmDecomposer", "turnPath", "(II)V"⟩ ⟨"DmDecomposer", "turnPath", "(II)V"⟩) ∈ lw_all := lw_g (lw_at lw_ms 3 rfl) rfl
theorem qs4 : (Cond.selects "DmDecomposer" ⟨"DmDecomposer", "findReach", "()V"⟩ ⟨"DmDecomposer", "findReach", "()V"⟩) ∈ lw_all := lw_g (lw_at lw_ms 4 rfl) rfl
theorem qs5 : (Cond.selects "DmDecomposer" ⟨"DmDecomposer", "columnsNextTo", "(I)I"⟩ ⟨"DmDecomposer", "columnsNextTo", "(I)I"⟩) ∈ lw_all := lw_g (lw_at lw_ms 5 rfl) rfl
theorem qs6 : (Cond.selects "DmDecomposer" ⟨"DmDecomposer", "partnersOfColumns", "(I)I"⟩ ⟨"DmDecomposer", "partnersOfColumns", "(I)I"⟩) ∈ lw_all := lw_g (lw_at lw_ms 6 rfl) rfl
theorem qs7 : (Cond.selects "DmDecomposer" ⟨"DmDecomposer", "rowsNextTo", "(I)I"⟩ ⟨"DmDecomposer", "rowsNextTo", "(I)I"⟩) ∈ lw_all := lw_g (lw_at lw_ms 7 rfl) rfl
theorem qs8 : (Cond.selects "DmDecomposer" ⟨"DmDecomposer", "rowsWithEdgeTo", "(I)I"⟩ ⟨"DmDecomposer", "rowsWithEdgeTo", "(I)I"⟩) ∈ lw_all := lw_g (lw_at lw_ms 8 rfl) rfl
theorem qs9 : (Cond.selects "DmDecomposer" ⟨"DmDecomposer", "partnersOfRows", "(I)I"⟩ ⟨"DmDecomposer", "partnersOfRows", "(I)I"⟩) ∈ lw_all := lw_g (lw_at lw_ms 9 rfl) rfl
theorem qs10 : (Cond.selects "DmDecomposer" ⟨"DmDecomposer", "findUsable", "()V"⟩ ⟨"DmDecomposer", "findUsable", "()V"⟩) ∈ lw_all := lw_g (lw_at lw_ms 10 rfl) rfl
theorem qs11 : (Cond.selects "DmDecomposer" ⟨"DmDecomposer", "isUsable", "(II)Z"⟩ ⟨"DmDecomposer", "isUsable", "(II)Z"⟩) ∈ lw_all := lw_g (lw_at lw_ms 11 rfl) rfl
theorem qs12 : (Cond.selects "DmDecomposer" ⟨"DmDecomposer", "isForced", "(I)Z"⟩ ⟨"DmDecomposer", "isForced", "(I)Z"⟩) ∈ lw_all := lw_g (lw_at lw_ms 12 rfl) rfl
theorem qs13 : (Cond.selects "DmDecomposer" ⟨"DmDecomposer", "rowsOfBlock", "(I)I"⟩ ⟨"DmDecomposer", "rowsOfBlock", "(I)I"⟩) ∈ lw_all := lw_g (lw_at lw_ms 13 rfl) rfl
theorem qs14 : (Cond.selects "DmDecomposerModel" ⟨"DmDecomposerModel", "isPlace", "(I)Z"⟩ ⟨"DmDecomposerModel", "isPlace", "(I)Z"⟩) ∈ lw_all := lw_g (lw_at lw_ms 14 rfl) rfl
theorem qs15 : (Cond.selects "DmDecomposerModel" ⟨"DmDecomposerModel", "sizeWithout", "(IIII)I"⟩ ⟨"DmDecomposerModel", "sizeWithout", "(IIII)I"⟩) ∈ lw_all := lw_g (lw_at lw_ms 15 rfl) rfl
theorem qs16 : (Cond.selects "DmDecomposerModel" ⟨"DmDecomposerModel", "takeRow", "(I)V"⟩ ⟨"DmDecomposerModel", "takeRow", "(I)V"⟩) ∈ lw_all := lw_g (lw_at lw_ms 16 rfl) rfl
theorem qs17 : (Cond.selects "DmDecomposerModel" ⟨"DmDecomposerModel", "in", "(II)Z"⟩ ⟨"DmDecomposerModel", "in", "(II)Z"⟩) ∈ lw_all := lw_g (lw_at lw_ms 17 rfl) rfl
theorem qs18 : (Cond.selects "DmDecomposerModel" ⟨"DmDecomposerModel", "sizeOf", "(I)I"⟩ ⟨"DmDecomposerModel", "sizeOf", "(I)I"⟩) ∈ lw_all := lw_g (lw_at lw_ms 18 rfl) rfl
theorem qs19 : (Cond.selects "DmDecomposerModel" ⟨"DmDecomposerModel", "usableOf", "(II)I"⟩ ⟨"DmDecomposerModel", "usableOf", "(II)I"⟩) ∈ lw_all := lw_g (lw_at lw_ms 19 rfl) rfl
theorem qs20 : (Cond.selects "DmDecomposerModel" ⟨"DmDecomposerModel", "findGood", "()V"⟩ ⟨"DmDecomposerModel", "findGood", "()V"⟩) ∈ lw_all := lw_g (lw_at lw_ms 20 rfl) rfl
theorem qs21 : (Cond.selects "DmDecomposerModel" ⟨"DmDecomposerModel", "blockOf", "(I)I"⟩ ⟨"DmDecomposerModel", "blockOf", "(I)I"⟩) ∈ lw_all := lw_g (lw_at lw_ms 21 rfl) rfl
end
section
/-! DmDecomposer -/
set_option maxRecDepth 100000
def RX0 : String := "DmDecomposer"
def TX0 : u_T := fun k => match k with
  | 0 => ("DmDecomposer", "edges", "[I", true)
  | 1 => ("DmDecomposer", "ready", "Z", false)
  | 2 => ("DmDecomposer", "partnerOfRow", "[B", true)
  | 3 => ("DmDecomposer", "partnerOfColumn", "[B", true)
  | 4 => ("DmDecomposer", "queue", "[B", true)
  | 5 => ("DmDecomposer", "cameFrom", "[B", true)
  | 6 => ("DmDecomposer", "rowsFromRows", "I", false)
  | 7 => ("DmDecomposer", "columnsFromRows", "I", false)
  | 8 => ("DmDecomposer", "rowsFromColumns", "I", false)
  | 9 => ("DmDecomposer", "columnsFromColumns", "I", false)
  | 10 => ("DmDecomposer", "reach", "[I", true)
  | _ => ("DmDecomposer", "usableSet", "[I", true)
def tyX0 : Nat → FieldType := fun k => match k with
  | 0 => .array .int
  | 1 => .boolean
  | 2 => .array .byte
  | 3 => .array .byte
  | 4 => .array .byte
  | 5 => .array .byte
  | 6 => .int
  | 7 => .int
  | 8 => .int
  | 9 => .int
  | 10 => .array .int
  | _ => .array .int
abbrev wsX00 : List Cond := u_ws RX0 TX0 12
theorem nmX0 : ∀ a, a < 12 → ∀ b, b < 12 → a ≠ b → (TX0 a).2.1 ≠ (TX0 b).2.1 := by decide +kernel
theorem tyX0_ok : ∀ k, k < 12 → parseFieldDescriptor (TX0 k).2.2.1 = some (tyX0 k) := by decide +kernel
abbrev cX0_init : ByteArray := prog_1_method_1_code
def yX0_init : MethodName := ⟨RX0, "<init>", "()V"⟩
theorem dX0_init_0 : decode cX0_init 0 = .ok (.aload_n 0, 1) := by decide +kernel
theorem dX0_init_1 : decode cX0_init 1 = .ok (.invokespecial 1, 3) := by decide +kernel
theorem dX0_init_4 : decode cX0_init 4 = .ok (.aload_n 0, 1) := by decide +kernel
theorem dX0_init_5 : decode cX0_init 5 = .ok (.bipush 7, 2) := by decide +kernel
theorem dX0_init_7 : decode cX0_init 7 = .ok (.newarray .int, 2) := by decide +kernel
theorem dX0_init_9 : decode cX0_init 9 = .ok (.putfield 7, 3) := by decide +kernel
theorem dX0_init_12 : decode cX0_init 12 = .ok (.aload_n 0, 1) := by decide +kernel
theorem dX0_init_13 : decode cX0_init 13 = .ok (.bipush 7, 2) := by decide +kernel
theorem dX0_init_15 : decode cX0_init 15 = .ok (.newarray .byte, 2) := by decide +kernel
theorem dX0_init_17 : decode cX0_init 17 = .ok (.putfield 13, 3) := by decide +kernel
theorem dX0_init_20 : decode cX0_init 20 = .ok (.aload_n 0, 1) := by decide +kernel
theorem dX0_init_21 : decode cX0_init 21 = .ok (.bipush 7, 2) := by decide +kernel
theorem dX0_init_23 : decode cX0_init 23 = .ok (.newarray .byte, 2) := by decide +kernel
theorem dX0_init_25 : decode cX0_init 25 = .ok (.putfield 17, 3) := by decide +kernel
theorem dX0_init_28 : decode cX0_init 28 = .ok (.aload_n 0, 1) := by decide +kernel
theorem dX0_init_29 : decode cX0_init 29 = .ok (.bipush 7, 2) := by decide +kernel
theorem dX0_init_31 : decode cX0_init 31 = .ok (.newarray .byte, 2) := by decide +kernel
theorem dX0_init_33 : decode cX0_init 33 = .ok (.putfield 20, 3) := by decide +kernel
theorem dX0_init_36 : decode cX0_init 36 = .ok (.aload_n 0, 1) := by decide +kernel
theorem dX0_init_37 : decode cX0_init 37 = .ok (.bipush 7, 2) := by decide +kernel
theorem dX0_init_39 : decode cX0_init 39 = .ok (.newarray .byte, 2) := by decide +kernel
theorem dX0_init_41 : decode cX0_init 41 = .ok (.putfield 23, 3) := by decide +kernel
theorem dX0_init_44 : decode cX0_init 44 = .ok (.aload_n 0, 1) := by decide +kernel
theorem dX0_init_45 : decode cX0_init 45 = .ok (.bipush 7, 2) := by decide +kernel
theorem dX0_init_47 : decode cX0_init 47 = .ok (.newarray .int, 2) := by decide +kernel
theorem dX0_init_49 : decode cX0_init 49 = .ok (.putfield 26, 3) := by decide +kernel
theorem dX0_init_52 : decode cX0_init 52 = .ok (.aload_n 0, 1) := by decide +kernel
theorem dX0_init_53 : decode cX0_init 53 = .ok (.bipush 7, 2) := by decide +kernel
theorem dX0_init_55 : decode cX0_init 55 = .ok (.newarray .int, 2) := by decide +kernel
theorem dX0_init_57 : decode cX0_init 57 = .ok (.putfield 29, 3) := by decide +kernel
theorem dX0_init_60 : decode cX0_init 60 = .ok (.iconst 0, 1) := by decide +kernel
theorem dX0_init_61 : decode cX0_init 61 = .ok (.istore_n 1, 1) := by decide +kernel
theorem dX0_init_62 : decode cX0_init 62 = .ok (.iload_n 1, 1) := by decide +kernel
theorem dX0_init_63 : decode cX0_init 63 = .ok (.bipush 7, 2) := by decide +kernel
theorem dX0_init_65 : decode cX0_init 65 = .ok (.if_icmp .ge 23, 3) := by decide +kernel
theorem dX0_init_68 : decode cX0_init 68 = .ok (.aload_n 0, 1) := by decide +kernel
theorem dX0_init_69 : decode cX0_init 69 = .ok (.getfield 13, 3) := by decide +kernel
theorem dX0_init_72 : decode cX0_init 72 = .ok (.iload_n 1, 1) := by decide +kernel
theorem dX0_init_73 : decode cX0_init 73 = .ok (.iconst (-1), 1) := by decide +kernel
theorem dX0_init_74 : decode cX0_init 74 = .ok (.bastore, 1) := by decide +kernel
theorem dX0_init_75 : decode cX0_init 75 = .ok (.aload_n 0, 1) := by decide +kernel
theorem dX0_init_76 : decode cX0_init 76 = .ok (.getfield 17, 3) := by decide +kernel
theorem dX0_init_79 : decode cX0_init 79 = .ok (.iload_n 1, 1) := by decide +kernel
theorem dX0_init_80 : decode cX0_init 80 = .ok (.iconst (-1), 1) := by decide +kernel
theorem dX0_init_81 : decode cX0_init 81 = .ok (.bastore, 1) := by decide +kernel
theorem dX0_init_82 : decode cX0_init 82 = .ok (.iinc 1 1, 3) := by decide +kernel
theorem dX0_init_85 : decode cX0_init 85 = .ok (.goto (-23), 3) := by decide +kernel
theorem dX0_init_88 : decode cX0_init 88 = .ok (.return_, 1) := by decide +kernel
abbrev cX0_edge : ByteArray := prog_1_method_2_code
def yX0_edge : MethodName := ⟨RX0, "edge", "(IIZ)Z"⟩
theorem dX0_edge_0 : decode cX0_edge 0 = .ok (.aload_n 0, 1) := by decide +kernel
theorem dX0_edge_1 : decode cX0_edge 1 = .ok (.iload_n 1, 1) := by decide +kernel
theorem dX0_edge_2 : decode cX0_edge 2 = .ok (.invokevirtual 32, 3) := by decide +kernel
theorem dX0_edge_5 : decode cX0_edge 5 = .ok (.ifCond .eq 11, 3) := by decide +kernel
theorem dX0_edge_8 : decode cX0_edge 8 = .ok (.aload_n 0, 1) := by decide +kernel
theorem dX0_edge_9 : decode cX0_edge 9 = .ok (.iload_n 2, 1) := by decide +kernel
theorem dX0_edge_10 : decode cX0_edge 10 = .ok (.invokevirtual 32, 3) := by decide +kernel
theorem dX0_edge_13 : decode cX0_edge 13 = .ok (.ifCond .ne 5, 3) := by decide +kernel
theorem dX0_edge_16 : decode cX0_edge 16 = .ok (.iconst 0, 1) := by decide +kernel
theorem dX0_edge_17 : decode cX0_edge 17 = .ok (.ireturn, 1) := by decide +kernel
theorem dX0_edge_18 : decode cX0_edge 18 = .ok (.iload_n 3, 1) := by decide +kernel
theorem dX0_edge_19 : decode cX0_edge 19 = .ok (.ifCond .eq 18, 3) := by decide +kernel
theorem dX0_edge_22 : decode cX0_edge 22 = .ok (.aload_n 0, 1) := by decide +kernel
theorem dX0_edge_23 : decode cX0_edge 23 = .ok (.getfield 7, 3) := by decide +kernel
theorem dX0_edge_26 : decode cX0_edge 26 = .ok (.iload_n 1, 1) := by decide +kernel
theorem dX0_edge_27 : decode cX0_edge 27 = .ok (.dup2, 1) := by decide +kernel
theorem dX0_edge_28 : decode cX0_edge 28 = .ok (.iaload, 1) := by decide +kernel
theorem dX0_edge_29 : decode cX0_edge 29 = .ok (.iconst 1, 1) := by decide +kernel
theorem dX0_edge_30 : decode cX0_edge 30 = .ok (.iload_n 2, 1) := by decide +kernel
theorem dX0_edge_31 : decode cX0_edge 31 = .ok (.ishl, 1) := by decide +kernel
theorem dX0_edge_32 : decode cX0_edge 32 = .ok (.ior, 1) := by decide +kernel
theorem dX0_edge_33 : decode cX0_edge 33 = .ok (.iastore, 1) := by decide +kernel
theorem dX0_edge_34 : decode cX0_edge 34 = .ok (.goto 17, 3) := by decide +kernel
theorem dX0_edge_37 : decode cX0_edge 37 = .ok (.aload_n 0, 1) := by decide +kernel
theorem dX0_edge_38 : decode cX0_edge 38 = .ok (.getfield 7, 3) := by decide +kernel
theorem dX0_edge_41 : decode cX0_edge 41 = .ok (.iload_n 1, 1) := by decide +kernel
theorem dX0_edge_42 : decode cX0_edge 42 = .ok (.dup2, 1) := by decide +kernel
theorem dX0_edge_43 : decode cX0_edge 43 = .ok (.iaload, 1) := by decide +kernel
theorem dX0_edge_44 : decode cX0_edge 44 = .ok (.iconst 1, 1) := by decide +kernel
theorem dX0_edge_45 : decode cX0_edge 45 = .ok (.iload_n 2, 1) := by decide +kernel
theorem dX0_edge_46 : decode cX0_edge 46 = .ok (.ishl, 1) := by decide +kernel
theorem dX0_edge_47 : decode cX0_edge 47 = .ok (.iconst (-1), 1) := by decide +kernel
theorem dX0_edge_48 : decode cX0_edge 48 = .ok (.ixor, 1) := by decide +kernel
theorem dX0_edge_49 : decode cX0_edge 49 = .ok (.iand, 1) := by decide +kernel
theorem dX0_edge_50 : decode cX0_edge 50 = .ok (.iastore, 1) := by decide +kernel
theorem dX0_edge_51 : decode cX0_edge 51 = .ok (.aload_n 0, 1) := by decide +kernel
theorem dX0_edge_52 : decode cX0_edge 52 = .ok (.iconst 0, 1) := by decide +kernel
theorem dX0_edge_53 : decode cX0_edge 53 = .ok (.putfield 36, 3) := by decide +kernel
theorem dX0_edge_56 : decode cX0_edge 56 = .ok (.iconst 1, 1) := by decide +kernel
theorem dX0_edge_57 : decode cX0_edge 57 = .ok (.ireturn, 1) := by decide +kernel
abbrev cX0_isNumber : ByteArray := prog_1_method_5_code
def yX0_isNumber : MethodName := ⟨RX0, "isNumber", "(I)Z"⟩
theorem dX0_isNumber_0 : decode cX0_isNumber 0 = .ok (.iload_n 1, 1) := by decide +kernel
theorem dX0_isNumber_1 : decode cX0_isNumber 1 = .ok (.ifCond .lt 13, 3) := by decide +kernel
theorem dX0_isNumber_4 : decode cX0_isNumber 4 = .ok (.iload_n 1, 1) := by decide +kernel
theorem dX0_isNumber_5 : decode cX0_isNumber 5 = .ok (.bipush 6, 2) := by decide +kernel
theorem dX0_isNumber_7 : decode cX0_isNumber 7 = .ok (.if_icmp .gt 7, 3) := by decide +kernel
theorem dX0_isNumber_10 : decode cX0_isNumber 10 = .ok (.iconst 1, 1) := by decide +kernel
theorem dX0_isNumber_11 : decode cX0_isNumber 11 = .ok (.goto 4, 3) := by decide +kernel
theorem dX0_isNumber_14 : decode cX0_isNumber 14 = .ok (.iconst 0, 1) := by decide +kernel
theorem dX0_isNumber_15 : decode cX0_isNumber 15 = .ok (.ireturn, 1) := by decide +kernel
abbrev cX0_row : ByteArray := prog_1_method_3_code
def yX0_row : MethodName := ⟨RX0, "row", "(II)Z"⟩
theorem dX0_row_0 : decode cX0_row 0 = .ok (.aload_n 0, 1) := by decide +kernel
theorem dX0_row_1 : decode cX0_row 1 = .ok (.iload_n 1, 1) := by decide +kernel
theorem dX0_row_2 : decode cX0_row 2 = .ok (.invokevirtual 32, 3) := by decide +kernel
theorem dX0_row_5 : decode cX0_row 5 = .ok (.ifCond .eq 13, 3) := by decide +kernel
theorem dX0_row_8 : decode cX0_row 8 = .ok (.iload_n 2, 1) := by decide +kernel
theorem dX0_row_9 : decode cX0_row 9 = .ok (.ifCond .lt 9, 3) := by decide +kernel
theorem dX0_row_12 : decode cX0_row 12 = .ok (.iload_n 2, 1) := by decide +kernel
theorem dX0_row_13 : decode cX0_row 13 = .ok (.bipush 127, 2) := by decide +kernel
theorem dX0_row_15 : decode cX0_row 15 = .ok (.if_icmp .le 5, 3) := by decide +kernel
theorem dX0_row_18 : decode cX0_row 18 = .ok (.iconst 0, 1) := by decide +kernel
theorem dX0_row_19 : decode cX0_row 19 = .ok (.ireturn, 1) := by decide +kernel
theorem dX0_row_20 : decode cX0_row 20 = .ok (.aload_n 0, 1) := by decide +kernel
theorem dX0_row_21 : decode cX0_row 21 = .ok (.getfield 7, 3) := by decide +kernel
theorem dX0_row_24 : decode cX0_row 24 = .ok (.iload_n 1, 1) := by decide +kernel
theorem dX0_row_25 : decode cX0_row 25 = .ok (.iload_n 2, 1) := by decide +kernel
theorem dX0_row_26 : decode cX0_row 26 = .ok (.iastore, 1) := by decide +kernel
theorem dX0_row_27 : decode cX0_row 27 = .ok (.aload_n 0, 1) := by decide +kernel
theorem dX0_row_28 : decode cX0_row 28 = .ok (.iconst 0, 1) := by decide +kernel
theorem dX0_row_29 : decode cX0_row 29 = .ok (.putfield 36, 3) := by decide +kernel
theorem dX0_row_32 : decode cX0_row 32 = .ok (.iconst 1, 1) := by decide +kernel
theorem dX0_row_33 : decode cX0_row 33 = .ok (.ireturn, 1) := by decide +kernel
abbrev cX0_columnsOf : ByteArray := prog_1_method_4_code
def yX0_columnsOf : MethodName := ⟨RX0, "columnsOf", "(I)I"⟩
theorem dX0_columnsOf_0 : decode cX0_columnsOf 0 = .ok (.aload_n 0, 1) := by decide +kernel
theorem dX0_columnsOf_1 : decode cX0_columnsOf 1 = .ok (.iload_n 1, 1) := by decide +kernel
theorem dX0_columnsOf_2 : decode cX0_columnsOf 2 = .ok (.invokevirtual 32, 3) := by decide +kernel
theorem dX0_columnsOf_5 : decode cX0_columnsOf 5 = .ok (.ifCond .eq 12, 3) := by decide +kernel
theorem dX0_columnsOf_8 : decode cX0_columnsOf 8 = .ok (.aload_n 0, 1) := by decide +kernel
theorem dX0_columnsOf_9 : decode cX0_columnsOf 9 = .ok (.getfield 7, 3) := by decide +kernel
theorem dX0_columnsOf_12 : decode cX0_columnsOf 12 = .ok (.iload_n 1, 1) := by decide +kernel
theorem dX0_columnsOf_13 : decode cX0_columnsOf 13 = .ok (.iaload, 1) := by decide +kernel
theorem dX0_columnsOf_14 : decode cX0_columnsOf 14 = .ok (.goto 4, 3) := by decide +kernel
theorem dX0_columnsOf_17 : decode cX0_columnsOf 17 = .ok (.iconst (-1), 1) := by decide +kernel
theorem dX0_columnsOf_18 : decode cX0_columnsOf 18 = .ok (.ireturn, 1) := by decide +kernel
abbrev cX0_largest : ByteArray := prog_1_method_6_code
def yX0_largest : MethodName := ⟨RX0, "largest", "()I"⟩
theorem dX0_largest_0 : decode cX0_largest 0 = .ok (.aload_n 0, 1) := by decide +kernel
theorem dX0_largest_1 : decode cX0_largest 1 = .ok (.invokevirtual 40, 3) := by decide +kernel
theorem dX0_largest_4 : decode cX0_largest 4 = .ok (.iconst 0, 1) := by decide +kernel
theorem dX0_largest_5 : decode cX0_largest 5 = .ok (.istore_n 1, 1) := by decide +kernel
theorem dX0_largest_6 : decode cX0_largest 6 = .ok (.iconst 0, 1) := by decide +kernel
theorem dX0_largest_7 : decode cX0_largest 7 = .ok (.istore_n 2, 1) := by decide +kernel
theorem dX0_largest_8 : decode cX0_largest 8 = .ok (.iload_n 2, 1) := by decide +kernel
theorem dX0_largest_9 : decode cX0_largest 9 = .ok (.bipush 7, 2) := by decide +kernel
theorem dX0_largest_11 : decode cX0_largest 11 = .ok (.if_icmp .ge 21, 3) := by decide +kernel
theorem dX0_largest_14 : decode cX0_largest 14 = .ok (.aload_n 0, 1) := by decide +kernel
theorem dX0_largest_15 : decode cX0_largest 15 = .ok (.getfield 13, 3) := by decide +kernel
theorem dX0_largest_18 : decode cX0_largest 18 = .ok (.iload_n 2, 1) := by decide +kernel
theorem dX0_largest_19 : decode cX0_largest 19 = .ok (.baload, 1) := by decide +kernel
theorem dX0_largest_20 : decode cX0_largest 20 = .ok (.ifCond .lt 6, 3) := by decide +kernel
theorem dX0_largest_23 : decode cX0_largest 23 = .ok (.iinc 1 1, 3) := by decide +kernel
theorem dX0_largest_26 : decode cX0_largest 26 = .ok (.iinc 2 1, 3) := by decide +kernel
theorem dX0_largest_29 : decode cX0_largest 29 = .ok (.goto (-21), 3) := by decide +kernel
theorem dX0_largest_32 : decode cX0_largest 32 = .ok (.iload_n 1, 1) := by decide +kernel
theorem dX0_largest_33 : decode cX0_largest 33 = .ok (.ireturn, 1) := by decide +kernel
abbrev cX0_prepare : ByteArray := prog_1_method_14_code
def yX0_prepare : MethodName := ⟨RX0, "prepare", "()V"⟩
theorem dX0_prepare_0 : decode cX0_prepare 0 = .ok (.aload_n 0, 1) := by decide +kernel
theorem dX0_prepare_1 : decode cX0_prepare 1 = .ok (.getfield 36, 3) := by decide +kernel
theorem dX0_prepare_4 : decode cX0_prepare 4 = .ok (.ifCond .eq 4, 3) := by decide +kernel
theorem dX0_prepare_7 : decode cX0_prepare 7 = .ok (.return_, 1) := by decide +kernel
theorem dX0_prepare_8 : decode cX0_prepare 8 = .ok (.aload_n 0, 1) := by decide +kernel
theorem dX0_prepare_9 : decode cX0_prepare 9 = .ok (.iconst 1, 1) := by decide +kernel
theorem dX0_prepare_10 : decode cX0_prepare 10 = .ok (.putfield 36, 3) := by decide +kernel
theorem dX0_prepare_13 : decode cX0_prepare 13 = .ok (.iconst 0, 1) := by decide +kernel
theorem dX0_prepare_14 : decode cX0_prepare 14 = .ok (.istore_n 1, 1) := by decide +kernel
theorem dX0_prepare_15 : decode cX0_prepare 15 = .ok (.iload_n 1, 1) := by decide +kernel
theorem dX0_prepare_16 : decode cX0_prepare 16 = .ok (.bipush 7, 2) := by decide +kernel
theorem dX0_prepare_18 : decode cX0_prepare 18 = .ok (.if_icmp .ge 50, 3) := by decide +kernel
theorem dX0_prepare_21 : decode cX0_prepare 21 = .ok (.aload_n 0, 1) := by decide +kernel
theorem dX0_prepare_22 : decode cX0_prepare 22 = .ok (.getfield 13, 3) := by decide +kernel
theorem dX0_prepare_25 : decode cX0_prepare 25 = .ok (.iload_n 1, 1) := by decide +kernel
theorem dX0_prepare_26 : decode cX0_prepare 26 = .ok (.baload, 1) := by decide +kernel
theorem dX0_prepare_27 : decode cX0_prepare 27 = .ok (.istore_n 2, 1) := by decide +kernel
theorem dX0_prepare_28 : decode cX0_prepare 28 = .ok (.iload_n 2, 1) := by decide +kernel
theorem dX0_prepare_29 : decode cX0_prepare 29 = .ok (.ifCond .lt 33, 3) := by decide +kernel
theorem dX0_prepare_32 : decode cX0_prepare 32 = .ok (.aload_n 0, 1) := by decide +kernel
theorem dX0_prepare_33 : decode cX0_prepare 33 = .ok (.getfield 7, 3) := by decide +kernel
theorem dX0_prepare_36 : decode cX0_prepare 36 = .ok (.iload_n 1, 1) := by decide +kernel
theorem dX0_prepare_37 : decode cX0_prepare 37 = .ok (.iaload, 1) := by decide +kernel
theorem dX0_prepare_38 : decode cX0_prepare 38 = .ok (.iload_n 2, 1) := by decide +kernel
theorem dX0_prepare_39 : decode cX0_prepare 39 = .ok (.ishr, 1) := by decide +kernel
theorem dX0_prepare_40 : decode cX0_prepare 40 = .ok (.iconst 1, 1) := by decide +kernel
theorem dX0_prepare_41 : decode cX0_prepare 41 = .ok (.iand, 1) := by decide +kernel
theorem dX0_prepare_42 : decode cX0_prepare 42 = .ok (.ifCond .eq 6, 3) := by decide +kernel
theorem dX0_prepare_45 : decode cX0_prepare 45 = .ok (.goto 17, 3) := by decide +kernel
theorem dX0_prepare_48 : decode cX0_prepare 48 = .ok (.aload_n 0, 1) := by decide +kernel
theorem dX0_prepare_49 : decode cX0_prepare 49 = .ok (.getfield 13, 3) := by decide +kernel
theorem dX0_prepare_52 : decode cX0_prepare 52 = .ok (.iload_n 1, 1) := by decide +kernel
theorem dX0_prepare_53 : decode cX0_prepare 53 = .ok (.iconst (-1), 1) := by decide +kernel
theorem dX0_prepare_54 : decode cX0_prepare 54 = .ok (.bastore, 1) := by decide +kernel
theorem dX0_prepare_55 : decode cX0_prepare 55 = .ok (.aload_n 0, 1) := by decide +kernel
theorem dX0_prepare_56 : decode cX0_prepare 56 = .ok (.getfield 17, 3) := by decide +kernel
theorem dX0_prepare_59 : decode cX0_prepare 59 = .ok (.iload_n 2, 1) := by decide +kernel
theorem dX0_prepare_60 : decode cX0_prepare 60 = .ok (.iconst (-1), 1) := by decide +kernel
theorem dX0_prepare_61 : decode cX0_prepare 61 = .ok (.bastore, 1) := by decide +kernel
theorem dX0_prepare_62 : decode cX0_prepare 62 = .ok (.iinc 1 1, 3) := by decide +kernel
theorem dX0_prepare_65 : decode cX0_prepare 65 = .ok (.goto (-50), 3) := by decide +kernel
theorem dX0_prepare_68 : decode cX0_prepare 68 = .ok (.iconst 1, 1) := by decide +kernel
theorem dX0_prepare_69 : decode cX0_prepare 69 = .ok (.istore_n 1, 1) := by decide +kernel
theorem dX0_prepare_70 : decode cX0_prepare 70 = .ok (.iconst 0, 1) := by decide +kernel
theorem dX0_prepare_71 : decode cX0_prepare 71 = .ok (.istore_n 2, 1) := by decide +kernel
theorem dX0_prepare_72 : decode cX0_prepare 72 = .ok (.iload_n 2, 1) := by decide +kernel
theorem dX0_prepare_73 : decode cX0_prepare 73 = .ok (.bipush 8, 2) := by decide +kernel
theorem dX0_prepare_75 : decode cX0_prepare 75 = .ok (.if_icmp .ge 48, 3) := by decide +kernel
theorem dX0_prepare_78 : decode cX0_prepare 78 = .ok (.iload_n 1, 1) := by decide +kernel
theorem dX0_prepare_79 : decode cX0_prepare 79 = .ok (.ifCond .eq 44, 3) := by decide +kernel
theorem dX0_prepare_82 : decode cX0_prepare 82 = .ok (.iconst 0, 1) := by decide +kernel
theorem dX0_prepare_83 : decode cX0_prepare 83 = .ok (.istore_n 1, 1) := by decide +kernel
theorem dX0_prepare_84 : decode cX0_prepare 84 = .ok (.iconst 0, 1) := by decide +kernel
theorem dX0_prepare_85 : decode cX0_prepare 85 = .ok (.istore_n 3, 1) := by decide +kernel
theorem dX0_prepare_86 : decode cX0_prepare 86 = .ok (.iload_n 3, 1) := by decide +kernel
theorem dX0_prepare_87 : decode cX0_prepare 87 = .ok (.bipush 7, 2) := by decide +kernel
theorem dX0_prepare_89 : decode cX0_prepare 89 = .ok (.if_icmp .ge 28, 3) := by decide +kernel
theorem dX0_prepare_92 : decode cX0_prepare 92 = .ok (.aload_n 0, 1) := by decide +kernel
theorem dX0_prepare_93 : decode cX0_prepare 93 = .ok (.getfield 13, 3) := by decide +kernel
theorem dX0_prepare_96 : decode cX0_prepare 96 = .ok (.iload_n 3, 1) := by decide +kernel
theorem dX0_prepare_97 : decode cX0_prepare 97 = .ok (.baload, 1) := by decide +kernel
theorem dX0_prepare_98 : decode cX0_prepare 98 = .ok (.ifCond .ge 13, 3) := by decide +kernel
theorem dX0_prepare_101 : decode cX0_prepare 101 = .ok (.aload_n 0, 1) := by decide +kernel
theorem dX0_prepare_102 : decode cX0_prepare 102 = .ok (.iload_n 3, 1) := by decide +kernel
theorem dX0_prepare_103 : decode cX0_prepare 103 = .ok (.invokevirtual 60, 3) := by decide +kernel
theorem dX0_prepare_106 : decode cX0_prepare 106 = .ok (.ifCond .eq 5, 3) := by decide +kernel
theorem dX0_prepare_109 : decode cX0_prepare 109 = .ok (.iconst 1, 1) := by decide +kernel
theorem dX0_prepare_110 : decode cX0_prepare 110 = .ok (.istore_n 1, 1) := by decide +kernel
theorem dX0_prepare_111 : decode cX0_prepare 111 = .ok (.iinc 3 1, 3) := by decide +kernel
theorem dX0_prepare_114 : decode cX0_prepare 114 = .ok (.goto (-28), 3) := by decide +kernel
theorem dX0_prepare_117 : decode cX0_prepare 117 = .ok (.iinc 2 1, 3) := by decide +kernel
theorem dX0_prepare_120 : decode cX0_prepare 120 = .ok (.goto (-48), 3) := by decide +kernel
theorem dX0_prepare_123 : decode cX0_prepare 123 = .ok (.aload_n 0, 1) := by decide +kernel
theorem dX0_prepare_124 : decode cX0_prepare 124 = .ok (.invokevirtual 63, 3) := by decide +kernel
theorem dX0_prepare_127 : decode cX0_prepare 127 = .ok (.aload_n 0, 1) := by decide +kernel
theorem dX0_prepare_128 : decode cX0_prepare 128 = .ok (.invokevirtual 66, 3) := by decide +kernel
theorem dX0_prepare_131 : decode cX0_prepare 131 = .ok (.return_, 1) := by decide +kernel
abbrev cX0_augment : ByteArray := prog_1_method_15_code
def yX0_augment : MethodName := ⟨RX0, "augment", "(I)Z"⟩
theorem dX0_augment_0 : decode cX0_augment 0 = .ok (.iconst 1, 1) := by decide +kernel
theorem dX0_augment_1 : decode cX0_augment 1 = .ok (.istore_n 2, 1) := by decide +kernel
theorem dX0_augment_2 : decode cX0_augment 2 = .ok (.iconst 0, 1) := by decide +kernel
theorem dX0_augment_3 : decode cX0_augment 3 = .ok (.istore_n 3, 1) := by decide +kernel
theorem dX0_augment_4 : decode cX0_augment 4 = .ok (.aload_n 0, 1) := by decide +kernel
theorem dX0_augment_5 : decode cX0_augment 5 = .ok (.getfield 20, 3) := by decide +kernel
theorem dX0_augment_8 : decode cX0_augment 8 = .ok (.iconst 0, 1) := by decide +kernel
theorem dX0_augment_9 : decode cX0_augment 9 = .ok (.iload_n 1, 1) := by decide +kernel
theorem dX0_augment_10 : decode cX0_augment 10 = .ok (.i2b, 1) := by decide +kernel
theorem dX0_augment_11 : decode cX0_augment 11 = .ok (.bastore, 1) := by decide +kernel
theorem dX0_augment_12 : decode cX0_augment 12 = .ok (.iconst 0, 1) := by decide +kernel
theorem dX0_augment_13 : decode cX0_augment 13 = .ok (.istore 4, 2) := by decide +kernel
theorem dX0_augment_15 : decode cX0_augment 15 = .ok (.iload 4, 2) := by decide +kernel
theorem dX0_augment_17 : decode cX0_augment 17 = .ok (.iload_n 2, 1) := by decide +kernel
theorem dX0_augment_18 : decode cX0_augment 18 = .ok (.if_icmp .ge 108, 3) := by decide +kernel
theorem dX0_augment_21 : decode cX0_augment 21 = .ok (.aload_n 0, 1) := by decide +kernel
theorem dX0_augment_22 : decode cX0_augment 22 = .ok (.getfield 20, 3) := by decide +kernel
theorem dX0_augment_25 : decode cX0_augment 25 = .ok (.iload 4, 2) := by decide +kernel
theorem dX0_augment_27 : decode cX0_augment 27 = .ok (.baload, 1) := by decide +kernel
theorem dX0_augment_28 : decode cX0_augment 28 = .ok (.istore 5, 2) := by decide +kernel
theorem dX0_augment_30 : decode cX0_augment 30 = .ok (.iconst 0, 1) := by decide +kernel
theorem dX0_augment_31 : decode cX0_augment 31 = .ok (.istore 6, 2) := by decide +kernel
theorem dX0_augment_33 : decode cX0_augment 33 = .ok (.iload 6, 2) := by decide +kernel
theorem dX0_augment_35 : decode cX0_augment 35 = .ok (.bipush 7, 2) := by decide +kernel
theorem dX0_augment_37 : decode cX0_augment 37 = .ok (.if_icmp .ge 83, 3) := by decide +kernel
theorem dX0_augment_40 : decode cX0_augment 40 = .ok (.aload_n 0, 1) := by decide +kernel
theorem dX0_augment_41 : decode cX0_augment 41 = .ok (.getfield 7, 3) := by decide +kernel
theorem dX0_augment_44 : decode cX0_augment 44 = .ok (.iload 5, 2) := by decide +kernel
theorem dX0_augment_46 : decode cX0_augment 46 = .ok (.iaload, 1) := by decide +kernel
theorem dX0_augment_47 : decode cX0_augment 47 = .ok (.iload_n 3, 1) := by decide +kernel
theorem dX0_augment_48 : decode cX0_augment 48 = .ok (.iconst (-1), 1) := by decide +kernel
theorem dX0_augment_49 : decode cX0_augment 49 = .ok (.ixor, 1) := by decide +kernel
theorem dX0_augment_50 : decode cX0_augment 50 = .ok (.iand, 1) := by decide +kernel
theorem dX0_augment_51 : decode cX0_augment 51 = .ok (.iconst 1, 1) := by decide +kernel
theorem dX0_augment_52 : decode cX0_augment 52 = .ok (.iload 6, 2) := by decide +kernel
theorem dX0_augment_54 : decode cX0_augment 54 = .ok (.ishl, 1) := by decide +kernel
theorem dX0_augment_55 : decode cX0_augment 55 = .ok (.iand, 1) := by decide +kernel
theorem dX0_augment_56 : decode cX0_augment 56 = .ok (.ifCond .ne 6, 3) := by decide +kernel
theorem dX0_augment_59 : decode cX0_augment 59 = .ok (.goto 55, 3) := by decide +kernel
theorem dX0_augment_62 : decode cX0_augment 62 = .ok (.iload_n 3, 1) := by decide +kernel
theorem dX0_augment_63 : decode cX0_augment 63 = .ok (.iconst 1, 1) := by decide +kernel
theorem dX0_augment_64 : decode cX0_augment 64 = .ok (.iload 6, 2) := by decide +kernel
theorem dX0_augment_66 : decode cX0_augment 66 = .ok (.ishl, 1) := by decide +kernel
theorem dX0_augment_67 : decode cX0_augment 67 = .ok (.ior, 1) := by decide +kernel
theorem dX0_augment_68 : decode cX0_augment 68 = .ok (.istore_n 3, 1) := by decide +kernel
theorem dX0_augment_69 : decode cX0_augment 69 = .ok (.aload_n 0, 1) := by decide +kernel
theorem dX0_augment_70 : decode cX0_augment 70 = .ok (.getfield 23, 3) := by decide +kernel
theorem dX0_augment_73 : decode cX0_augment 73 = .ok (.iload 6, 2) := by decide +kernel
theorem dX0_augment_75 : decode cX0_augment 75 = .ok (.iload 5, 2) := by decide +kernel
theorem dX0_augment_77 : decode cX0_augment 77 = .ok (.i2b, 1) := by decide +kernel
theorem dX0_augment_78 : decode cX0_augment 78 = .ok (.bastore, 1) := by decide +kernel
theorem dX0_augment_79 : decode cX0_augment 79 = .ok (.aload_n 0, 1) := by decide +kernel
theorem dX0_augment_80 : decode cX0_augment 80 = .ok (.getfield 17, 3) := by decide +kernel
theorem dX0_augment_83 : decode cX0_augment 83 = .ok (.iload 6, 2) := by decide +kernel
theorem dX0_augment_85 : decode cX0_augment 85 = .ok (.baload, 1) := by decide +kernel
theorem dX0_augment_86 : decode cX0_augment 86 = .ok (.ifCond .ge 12, 3) := by decide +kernel
theorem dX0_augment_89 : decode cX0_augment 89 = .ok (.aload_n 0, 1) := by decide +kernel
theorem dX0_augment_90 : decode cX0_augment 90 = .ok (.iload 6, 2) := by decide +kernel
theorem dX0_augment_92 : decode cX0_augment 92 = .ok (.iload_n 1, 1) := by decide +kernel
theorem dX0_augment_93 : decode cX0_augment 93 = .ok (.invokevirtual 69, 3) := by decide +kernel
theorem dX0_augment_96 : decode cX0_augment 96 = .ok (.iconst 1, 1) := by decide +kernel
theorem dX0_augment_97 : decode cX0_augment 97 = .ok (.ireturn, 1) := by decide +kernel
theorem dX0_augment_98 : decode cX0_augment 98 = .ok (.aload_n 0, 1) := by decide +kernel
theorem dX0_augment_99 : decode cX0_augment 99 = .ok (.getfield 20, 3) := by decide +kernel
theorem dX0_augment_102 : decode cX0_augment 102 = .ok (.iload_n 2, 1) := by decide +kernel
theorem dX0_augment_103 : decode cX0_augment 103 = .ok (.aload_n 0, 1) := by decide +kernel
theorem dX0_augment_104 : decode cX0_augment 104 = .ok (.getfield 17, 3) := by decide +kernel
theorem dX0_augment_107 : decode cX0_augment 107 = .ok (.iload 6, 2) := by decide +kernel
theorem dX0_augment_109 : decode cX0_augment 109 = .ok (.baload, 1) := by decide +kernel
theorem dX0_augment_110 : decode cX0_augment 110 = .ok (.bastore, 1) := by decide +kernel
theorem dX0_augment_111 : decode cX0_augment 111 = .ok (.iinc 2 1, 3) := by decide +kernel
theorem dX0_augment_114 : decode cX0_augment 114 = .ok (.iinc 6 1, 3) := by decide +kernel
theorem dX0_augment_117 : decode cX0_augment 117 = .ok (.goto (-84), 3) := by decide +kernel
theorem dX0_augment_120 : decode cX0_augment 120 = .ok (.iinc 4 1, 3) := by decide +kernel
theorem dX0_augment_123 : decode cX0_augment 123 = .ok (.goto (-108), 3) := by decide +kernel
theorem dX0_augment_126 : decode cX0_augment 126 = .ok (.iconst 0, 1) := by decide +kernel
theorem dX0_augment_127 : decode cX0_augment 127 = .ok (.ireturn, 1) := by decide +kernel
abbrev cX0_turnPath : ByteArray := prog_1_method_16_code
def yX0_turnPath : MethodName := ⟨RX0, "turnPath", "(II)V"⟩
theorem dX0_turnPath_0 : decode cX0_turnPath 0 = .ok (.iload_n 1, 1) := by decide +kernel
theorem dX0_turnPath_1 : decode cX0_turnPath 1 = .ok (.istore_n 3, 1) := by decide +kernel
theorem dX0_turnPath_2 : decode cX0_turnPath 2 = .ok (.iconst 0, 1) := by decide +kernel
theorem dX0_turnPath_3 : decode cX0_turnPath 3 = .ok (.istore 4, 2) := by decide +kernel
theorem dX0_turnPath_5 : decode cX0_turnPath 5 = .ok (.iload 4, 2) := by decide +kernel
theorem dX0_turnPath_7 : decode cX0_turnPath 7 = .ok (.bipush 7, 2) := by decide +kernel
theorem dX0_turnPath_9 : decode cX0_turnPath 9 = .ok (.if_icmp .ge 54, 3) := by decide +kernel
theorem dX0_turnPath_12 : decode cX0_turnPath 12 = .ok (.aload_n 0, 1) := by decide +kernel
theorem dX0_turnPath_13 : decode cX0_turnPath 13 = .ok (.getfield 23, 3) := by decide +kernel
theorem dX0_turnPath_16 : decode cX0_turnPath 16 = .ok (.iload_n 3, 1) := by decide +kernel
theorem dX0_turnPath_17 : decode cX0_turnPath 17 = .ok (.baload, 1) := by decide +kernel
theorem dX0_turnPath_18 : decode cX0_turnPath 18 = .ok (.istore 5, 2) := by decide +kernel
theorem dX0_turnPath_20 : decode cX0_turnPath 20 = .ok (.aload_n 0, 1) := by decide +kernel
theorem dX0_turnPath_21 : decode cX0_turnPath 21 = .ok (.getfield 13, 3) := by decide +kernel
theorem dX0_turnPath_24 : decode cX0_turnPath 24 = .ok (.iload 5, 2) := by decide +kernel
theorem dX0_turnPath_26 : decode cX0_turnPath 26 = .ok (.baload, 1) := by decide +kernel
theorem dX0_turnPath_27 : decode cX0_turnPath 27 = .ok (.istore 6, 2) := by decide +kernel
theorem dX0_turnPath_29 : decode cX0_turnPath 29 = .ok (.aload_n 0, 1) := by decide +kernel
theorem dX0_turnPath_30 : decode cX0_turnPath 30 = .ok (.getfield 13, 3) := by decide +kernel
theorem dX0_turnPath_33 : decode cX0_turnPath 33 = .ok (.iload 5, 2) := by decide +kernel
theorem dX0_turnPath_35 : decode cX0_turnPath 35 = .ok (.iload_n 3, 1) := by decide +kernel
theorem dX0_turnPath_36 : decode cX0_turnPath 36 = .ok (.i2b, 1) := by decide +kernel
theorem dX0_turnPath_37 : decode cX0_turnPath 37 = .ok (.bastore, 1) := by decide +kernel
theorem dX0_turnPath_38 : decode cX0_turnPath 38 = .ok (.aload_n 0, 1) := by decide +kernel
theorem dX0_turnPath_39 : decode cX0_turnPath 39 = .ok (.getfield 17, 3) := by decide +kernel
theorem dX0_turnPath_42 : decode cX0_turnPath 42 = .ok (.iload_n 3, 1) := by decide +kernel
theorem dX0_turnPath_43 : decode cX0_turnPath 43 = .ok (.iload 5, 2) := by decide +kernel
theorem dX0_turnPath_45 : decode cX0_turnPath 45 = .ok (.i2b, 1) := by decide +kernel
theorem dX0_turnPath_46 : decode cX0_turnPath 46 = .ok (.bastore, 1) := by decide +kernel
theorem dX0_turnPath_47 : decode cX0_turnPath 47 = .ok (.iload 5, 2) := by decide +kernel
theorem dX0_turnPath_49 : decode cX0_turnPath 49 = .ok (.iload_n 2, 1) := by decide +kernel
theorem dX0_turnPath_50 : decode cX0_turnPath 50 = .ok (.if_icmp .ne 4, 3) := by decide +kernel
theorem dX0_turnPath_53 : decode cX0_turnPath 53 = .ok (.return_, 1) := by decide +kernel
theorem dX0_turnPath_54 : decode cX0_turnPath 54 = .ok (.iload 6, 2) := by decide +kernel
theorem dX0_turnPath_56 : decode cX0_turnPath 56 = .ok (.istore_n 3, 1) := by decide +kernel
theorem dX0_turnPath_57 : decode cX0_turnPath 57 = .ok (.iinc 4 1, 3) := by decide +kernel
theorem dX0_turnPath_60 : decode cX0_turnPath 60 = .ok (.goto (-55), 3) := by decide +kernel
theorem dX0_turnPath_63 : decode cX0_turnPath 63 = .ok (.return_, 1) := by decide +kernel
abbrev cX0_findReach : ByteArray := prog_1_method_22_code
def yX0_findReach : MethodName := ⟨RX0, "findReach", "()V"⟩
theorem dX0_findReach_0 : decode cX0_findReach 0 = .ok (.aload_n 0, 1) := by decide +kernel
theorem dX0_findReach_1 : decode cX0_findReach 1 = .ok (.iconst 0, 1) := by decide +kernel
theorem dX0_findReach_2 : decode cX0_findReach 2 = .ok (.putfield 43, 3) := by decide +kernel
theorem dX0_findReach_5 : decode cX0_findReach 5 = .ok (.aload_n 0, 1) := by decide +kernel
theorem dX0_findReach_6 : decode cX0_findReach 6 = .ok (.iconst 0, 1) := by decide +kernel
theorem dX0_findReach_7 : decode cX0_findReach 7 = .ok (.putfield 47, 3) := by decide +kernel
theorem dX0_findReach_10 : decode cX0_findReach 10 = .ok (.iconst 0, 1) := by decide +kernel
theorem dX0_findReach_11 : decode cX0_findReach 11 = .ok (.istore_n 1, 1) := by decide +kernel
theorem dX0_findReach_12 : decode cX0_findReach 12 = .ok (.iload_n 1, 1) := by decide +kernel
theorem dX0_findReach_13 : decode cX0_findReach 13 = .ok (.bipush 7, 2) := by decide +kernel
theorem dX0_findReach_15 : decode cX0_findReach 15 = .ok (.if_icmp .ge 51, 3) := by decide +kernel
theorem dX0_findReach_18 : decode cX0_findReach 18 = .ok (.aload_n 0, 1) := by decide +kernel
theorem dX0_findReach_19 : decode cX0_findReach 19 = .ok (.getfield 13, 3) := by decide +kernel
theorem dX0_findReach_22 : decode cX0_findReach 22 = .ok (.iload_n 1, 1) := by decide +kernel
theorem dX0_findReach_23 : decode cX0_findReach 23 = .ok (.baload, 1) := by decide +kernel
theorem dX0_findReach_24 : decode cX0_findReach 24 = .ok (.ifCond .ge 15, 3) := by decide +kernel
theorem dX0_findReach_27 : decode cX0_findReach 27 = .ok (.aload_n 0, 1) := by decide +kernel
theorem dX0_findReach_28 : decode cX0_findReach 28 = .ok (.dup, 1) := by decide +kernel
theorem dX0_findReach_29 : decode cX0_findReach 29 = .ok (.getfield 43, 3) := by decide +kernel
theorem dX0_findReach_32 : decode cX0_findReach 32 = .ok (.iconst 1, 1) := by decide +kernel
theorem dX0_findReach_33 : decode cX0_findReach 33 = .ok (.iload_n 1, 1) := by decide +kernel
theorem dX0_findReach_34 : decode cX0_findReach 34 = .ok (.ishl, 1) := by decide +kernel
theorem dX0_findReach_35 : decode cX0_findReach 35 = .ok (.ior, 1) := by decide +kernel
theorem dX0_findReach_36 : decode cX0_findReach 36 = .ok (.putfield 43, 3) := by decide +kernel
theorem dX0_findReach_39 : decode cX0_findReach 39 = .ok (.aload_n 0, 1) := by decide +kernel
theorem dX0_findReach_40 : decode cX0_findReach 40 = .ok (.getfield 17, 3) := by decide +kernel
theorem dX0_findReach_43 : decode cX0_findReach 43 = .ok (.iload_n 1, 1) := by decide +kernel
theorem dX0_findReach_44 : decode cX0_findReach 44 = .ok (.baload, 1) := by decide +kernel
theorem dX0_findReach_45 : decode cX0_findReach 45 = .ok (.ifCond .ge 15, 3) := by decide +kernel
theorem dX0_findReach_48 : decode cX0_findReach 48 = .ok (.aload_n 0, 1) := by decide +kernel
theorem dX0_findReach_49 : decode cX0_findReach 49 = .ok (.dup, 1) := by decide +kernel
theorem dX0_findReach_50 : decode cX0_findReach 50 = .ok (.getfield 47, 3) := by decide +kernel
theorem dX0_findReach_53 : decode cX0_findReach 53 = .ok (.iconst 1, 1) := by decide +kernel
theorem dX0_findReach_54 : decode cX0_findReach 54 = .ok (.iload_n 1, 1) := by decide +kernel
theorem dX0_findReach_55 : decode cX0_findReach 55 = .ok (.ishl, 1) := by decide +kernel
theorem dX0_findReach_56 : decode cX0_findReach 56 = .ok (.ior, 1) := by decide +kernel
theorem dX0_findReach_57 : decode cX0_findReach 57 = .ok (.putfield 47, 3) := by decide +kernel
theorem dX0_findReach_60 : decode cX0_findReach 60 = .ok (.iinc 1 1, 3) := by decide +kernel
theorem dX0_findReach_63 : decode cX0_findReach 63 = .ok (.goto (-51), 3) := by decide +kernel
theorem dX0_findReach_66 : decode cX0_findReach 66 = .ok (.iconst 0, 1) := by decide +kernel
theorem dX0_findReach_67 : decode cX0_findReach 67 = .ok (.istore_n 1, 1) := by decide +kernel
theorem dX0_findReach_68 : decode cX0_findReach 68 = .ok (.iload_n 1, 1) := by decide +kernel
theorem dX0_findReach_69 : decode cX0_findReach 69 = .ok (.bipush 8, 2) := by decide +kernel
theorem dX0_findReach_71 : decode cX0_findReach 71 = .ok (.if_icmp .ge 67, 3) := by decide +kernel
theorem dX0_findReach_74 : decode cX0_findReach 74 = .ok (.aload_n 0, 1) := by decide +kernel
theorem dX0_findReach_75 : decode cX0_findReach 75 = .ok (.aload_n 0, 1) := by decide +kernel
theorem dX0_findReach_76 : decode cX0_findReach 76 = .ok (.aload_n 0, 1) := by decide +kernel
theorem dX0_findReach_77 : decode cX0_findReach 77 = .ok (.getfield 43, 3) := by decide +kernel
theorem dX0_findReach_80 : decode cX0_findReach 80 = .ok (.invokevirtual 76, 3) := by decide +kernel
theorem dX0_findReach_83 : decode cX0_findReach 83 = .ok (.putfield 57, 3) := by decide +kernel
theorem dX0_findReach_86 : decode cX0_findReach 86 = .ok (.aload_n 0, 1) := by decide +kernel
theorem dX0_findReach_87 : decode cX0_findReach 87 = .ok (.dup, 1) := by decide +kernel
theorem dX0_findReach_88 : decode cX0_findReach 88 = .ok (.getfield 43, 3) := by decide +kernel
theorem dX0_findReach_91 : decode cX0_findReach 91 = .ok (.aload_n 0, 1) := by decide +kernel
theorem dX0_findReach_92 : decode cX0_findReach 92 = .ok (.aload_n 0, 1) := by decide +kernel
theorem dX0_findReach_93 : decode cX0_findReach 93 = .ok (.getfield 57, 3) := by decide +kernel
theorem dX0_findReach_96 : decode cX0_findReach 96 = .ok (.invokevirtual 79, 3) := by decide +kernel
theorem dX0_findReach_99 : decode cX0_findReach 99 = .ok (.ior, 1) := by decide +kernel
theorem dX0_findReach_100 : decode cX0_findReach 100 = .ok (.putfield 43, 3) := by decide +kernel
theorem dX0_findReach_103 : decode cX0_findReach 103 = .ok (.aload_n 0, 1) := by decide +kernel
theorem dX0_findReach_104 : decode cX0_findReach 104 = .ok (.aload_n 0, 1) := by decide +kernel
theorem dX0_findReach_105 : decode cX0_findReach 105 = .ok (.aload_n 0, 1) := by decide +kernel
theorem dX0_findReach_106 : decode cX0_findReach 106 = .ok (.getfield 47, 3) := by decide +kernel
theorem dX0_findReach_109 : decode cX0_findReach 109 = .ok (.invokevirtual 82, 3) := by decide +kernel
theorem dX0_findReach_112 : decode cX0_findReach 112 = .ok (.putfield 85, 3) := by decide +kernel
theorem dX0_findReach_115 : decode cX0_findReach 115 = .ok (.aload_n 0, 1) := by decide +kernel
theorem dX0_findReach_116 : decode cX0_findReach 116 = .ok (.dup, 1) := by decide +kernel
theorem dX0_findReach_117 : decode cX0_findReach 117 = .ok (.getfield 47, 3) := by decide +kernel
theorem dX0_findReach_120 : decode cX0_findReach 120 = .ok (.aload_n 0, 1) := by decide +kernel
theorem dX0_findReach_121 : decode cX0_findReach 121 = .ok (.aload_n 0, 1) := by decide +kernel
theorem dX0_findReach_122 : decode cX0_findReach 122 = .ok (.getfield 85, 3) := by decide +kernel
theorem dX0_findReach_125 : decode cX0_findReach 125 = .ok (.invokevirtual 88, 3) := by decide +kernel
theorem dX0_findReach_128 : decode cX0_findReach 128 = .ok (.ior, 1) := by decide +kernel
theorem dX0_findReach_129 : decode cX0_findReach 129 = .ok (.putfield 47, 3) := by decide +kernel
theorem dX0_findReach_132 : decode cX0_findReach 132 = .ok (.iinc 1 1, 3) := by decide +kernel
theorem dX0_findReach_135 : decode cX0_findReach 135 = .ok (.goto (-67), 3) := by decide +kernel
theorem dX0_findReach_138 : decode cX0_findReach 138 = .ok (.iconst 0, 1) := by decide +kernel
theorem dX0_findReach_139 : decode cX0_findReach 139 = .ok (.istore_n 1, 1) := by decide +kernel
theorem dX0_findReach_140 : decode cX0_findReach 140 = .ok (.iload_n 1, 1) := by decide +kernel
theorem dX0_findReach_141 : decode cX0_findReach 141 = .ok (.bipush 7, 2) := by decide +kernel
theorem dX0_findReach_143 : decode cX0_findReach 143 = .ok (.if_icmp .ge 25, 3) := by decide +kernel
theorem dX0_findReach_146 : decode cX0_findReach 146 = .ok (.aload_n 0, 1) := by decide +kernel
theorem dX0_findReach_147 : decode cX0_findReach 147 = .ok (.getfield 26, 3) := by decide +kernel
theorem dX0_findReach_150 : decode cX0_findReach 150 = .ok (.iload_n 1, 1) := by decide +kernel
theorem dX0_findReach_151 : decode cX0_findReach 151 = .ok (.aload_n 0, 1) := by decide +kernel
theorem dX0_findReach_152 : decode cX0_findReach 152 = .ok (.aload_n 0, 1) := by decide +kernel
theorem dX0_findReach_153 : decode cX0_findReach 153 = .ok (.getfield 7, 3) := by decide +kernel
theorem dX0_findReach_156 : decode cX0_findReach 156 = .ok (.iload_n 1, 1) := by decide +kernel
theorem dX0_findReach_157 : decode cX0_findReach 157 = .ok (.iaload, 1) := by decide +kernel
theorem dX0_findReach_158 : decode cX0_findReach 158 = .ok (.invokevirtual 79, 3) := by decide +kernel
theorem dX0_findReach_161 : decode cX0_findReach 161 = .ok (.iastore, 1) := by decide +kernel
theorem dX0_findReach_162 : decode cX0_findReach 162 = .ok (.iinc 1 1, 3) := by decide +kernel
theorem dX0_findReach_165 : decode cX0_findReach 165 = .ok (.goto (-25), 3) := by decide +kernel
theorem dX0_findReach_168 : decode cX0_findReach 168 = .ok (.iconst 0, 1) := by decide +kernel
theorem dX0_findReach_169 : decode cX0_findReach 169 = .ok (.istore_n 1, 1) := by decide +kernel
theorem dX0_findReach_170 : decode cX0_findReach 170 = .ok (.iload_n 1, 1) := by decide +kernel
theorem dX0_findReach_171 : decode cX0_findReach 171 = .ok (.bipush 7, 2) := by decide +kernel
theorem dX0_findReach_173 : decode cX0_findReach 173 = .ok (.if_icmp .ge 51, 3) := by decide +kernel
theorem dX0_findReach_176 : decode cX0_findReach 176 = .ok (.iconst 0, 1) := by decide +kernel
theorem dX0_findReach_177 : decode cX0_findReach 177 = .ok (.istore_n 2, 1) := by decide +kernel
theorem dX0_findReach_178 : decode cX0_findReach 178 = .ok (.iload_n 2, 1) := by decide +kernel
theorem dX0_findReach_179 : decode cX0_findReach 179 = .ok (.bipush 7, 2) := by decide +kernel
theorem dX0_findReach_181 : decode cX0_findReach 181 = .ok (.if_icmp .ge 37, 3) := by decide +kernel
theorem dX0_findReach_184 : decode cX0_findReach 184 = .ok (.aload_n 0, 1) := by decide +kernel
theorem dX0_findReach_185 : decode cX0_findReach 185 = .ok (.getfield 26, 3) := by decide +kernel
theorem dX0_findReach_188 : decode cX0_findReach 188 = .ok (.iload_n 2, 1) := by decide +kernel
theorem dX0_findReach_189 : decode cX0_findReach 189 = .ok (.iaload, 1) := by decide +kernel
theorem dX0_findReach_190 : decode cX0_findReach 190 = .ok (.iload_n 1, 1) := by decide +kernel
theorem dX0_findReach_191 : decode cX0_findReach 191 = .ok (.ishr, 1) := by decide +kernel
theorem dX0_findReach_192 : decode cX0_findReach 192 = .ok (.iconst 1, 1) := by decide +kernel
theorem dX0_findReach_193 : decode cX0_findReach 193 = .ok (.iand, 1) := by decide +kernel
theorem dX0_findReach_194 : decode cX0_findReach 194 = .ok (.ifCond .eq 18, 3) := by decide +kernel
theorem dX0_findReach_197 : decode cX0_findReach 197 = .ok (.aload_n 0, 1) := by decide +kernel
theorem dX0_findReach_198 : decode cX0_findReach 198 = .ok (.getfield 26, 3) := by decide +kernel
theorem dX0_findReach_201 : decode cX0_findReach 201 = .ok (.iload_n 2, 1) := by decide +kernel
theorem dX0_findReach_202 : decode cX0_findReach 202 = .ok (.dup2, 1) := by decide +kernel
theorem dX0_findReach_203 : decode cX0_findReach 203 = .ok (.iaload, 1) := by decide +kernel
theorem dX0_findReach_204 : decode cX0_findReach 204 = .ok (.aload_n 0, 1) := by decide +kernel
theorem dX0_findReach_205 : decode cX0_findReach 205 = .ok (.getfield 26, 3) := by decide +kernel
theorem dX0_findReach_208 : decode cX0_findReach 208 = .ok (.iload_n 1, 1) := by decide +kernel
theorem dX0_findReach_209 : decode cX0_findReach 209 = .ok (.iaload, 1) := by decide +kernel
theorem dX0_findReach_210 : decode cX0_findReach 210 = .ok (.ior, 1) := by decide +kernel
theorem dX0_findReach_211 : decode cX0_findReach 211 = .ok (.iastore, 1) := by decide +kernel
theorem dX0_findReach_212 : decode cX0_findReach 212 = .ok (.iinc 2 1, 3) := by decide +kernel
theorem dX0_findReach_215 : decode cX0_findReach 215 = .ok (.goto (-37), 3) := by decide +kernel
theorem dX0_findReach_218 : decode cX0_findReach 218 = .ok (.iinc 1 1, 3) := by decide +kernel
theorem dX0_findReach_221 : decode cX0_findReach 221 = .ok (.goto (-51), 3) := by decide +kernel
theorem dX0_findReach_224 : decode cX0_findReach 224 = .ok (.return_, 1) := by decide +kernel
abbrev cX0_columnsNextTo : ByteArray := prog_1_method_20_code
def yX0_columnsNextTo : MethodName := ⟨RX0, "columnsNextTo", "(I)I"⟩
theorem dX0_columnsNextTo_0 : decode cX0_columnsNextTo 0 = .ok (.iconst 0, 1) := by decide +kernel
theorem dX0_columnsNextTo_1 : decode cX0_columnsNextTo 1 = .ok (.istore_n 2, 1) := by decide +kernel
theorem dX0_columnsNextTo_2 : decode cX0_columnsNextTo 2 = .ok (.iconst 0, 1) := by decide +kernel
theorem dX0_columnsNextTo_3 : decode cX0_columnsNextTo 3 = .ok (.istore_n 3, 1) := by decide +kernel
theorem dX0_columnsNextTo_4 : decode cX0_columnsNextTo 4 = .ok (.iload_n 3, 1) := by decide +kernel
theorem dX0_columnsNextTo_5 : decode cX0_columnsNextTo 5 = .ok (.bipush 7, 2) := by decide +kernel
theorem dX0_columnsNextTo_7 : decode cX0_columnsNextTo 7 = .ok (.if_icmp .ge 26, 3) := by decide +kernel
theorem dX0_columnsNextTo_10 : decode cX0_columnsNextTo 10 = .ok (.iload_n 1, 1) := by decide +kernel
theorem dX0_columnsNextTo_11 : decode cX0_columnsNextTo 11 = .ok (.iload_n 3, 1) := by decide +kernel
theorem dX0_columnsNextTo_12 : decode cX0_columnsNextTo 12 = .ok (.ishr, 1) := by decide +kernel
theorem dX0_columnsNextTo_13 : decode cX0_columnsNextTo 13 = .ok (.iconst 1, 1) := by decide +kernel
theorem dX0_columnsNextTo_14 : decode cX0_columnsNextTo 14 = .ok (.iand, 1) := by decide +kernel
theorem dX0_columnsNextTo_15 : decode cX0_columnsNextTo 15 = .ok (.ifCond .eq 12, 3) := by decide +kernel
theorem dX0_columnsNextTo_18 : decode cX0_columnsNextTo 18 = .ok (.iload_n 2, 1) := by decide +kernel
theorem dX0_columnsNextTo_19 : decode cX0_columnsNextTo 19 = .ok (.aload_n 0, 1) := by decide +kernel
theorem dX0_columnsNextTo_20 : decode cX0_columnsNextTo 20 = .ok (.getfield 7, 3) := by decide +kernel
theorem dX0_columnsNextTo_23 : decode cX0_columnsNextTo 23 = .ok (.iload_n 3, 1) := by decide +kernel
theorem dX0_columnsNextTo_24 : decode cX0_columnsNextTo 24 = .ok (.iaload, 1) := by decide +kernel
theorem dX0_columnsNextTo_25 : decode cX0_columnsNextTo 25 = .ok (.ior, 1) := by decide +kernel
theorem dX0_columnsNextTo_26 : decode cX0_columnsNextTo 26 = .ok (.istore_n 2, 1) := by decide +kernel
theorem dX0_columnsNextTo_27 : decode cX0_columnsNextTo 27 = .ok (.iinc 3 1, 3) := by decide +kernel
theorem dX0_columnsNextTo_30 : decode cX0_columnsNextTo 30 = .ok (.goto (-26), 3) := by decide +kernel
theorem dX0_columnsNextTo_33 : decode cX0_columnsNextTo 33 = .ok (.iload_n 2, 1) := by decide +kernel
theorem dX0_columnsNextTo_34 : decode cX0_columnsNextTo 34 = .ok (.ireturn, 1) := by decide +kernel
abbrev cX0_partnersOfColumns : ByteArray := prog_1_method_18_code
def yX0_partnersOfColumns : MethodName := ⟨RX0, "partnersOfColumns", "(I)I"⟩
theorem dX0_partnersOfColumns_0 : decode cX0_partnersOfColumns 0 = .ok (.iconst 0, 1) := by decide +kernel
theorem dX0_partnersOfColumns_1 : decode cX0_partnersOfColumns 1 = .ok (.istore_n 2, 1) := by decide +kernel
theorem dX0_partnersOfColumns_2 : decode cX0_partnersOfColumns 2 = .ok (.iconst 0, 1) := by decide +kernel
theorem dX0_partnersOfColumns_3 : decode cX0_partnersOfColumns 3 = .ok (.istore_n 3, 1) := by decide +kernel
theorem dX0_partnersOfColumns_4 : decode cX0_partnersOfColumns 4 = .ok (.iload_n 3, 1) := by decide +kernel
theorem dX0_partnersOfColumns_5 : decode cX0_partnersOfColumns 5 = .ok (.bipush 7, 2) := by decide +kernel
theorem dX0_partnersOfColumns_7 : decode cX0_partnersOfColumns 7 = .ok (.if_icmp .ge 37, 3) := by decide +kernel
theorem dX0_partnersOfColumns_10 : decode cX0_partnersOfColumns 10 = .ok (.iload_n 1, 1) := by decide +kernel
theorem dX0_partnersOfColumns_11 : decode cX0_partnersOfColumns 11 = .ok (.iload_n 3, 1) := by decide +kernel
theorem dX0_partnersOfColumns_12 : decode cX0_partnersOfColumns 12 = .ok (.ishr, 1) := by decide +kernel
theorem dX0_partnersOfColumns_13 : decode cX0_partnersOfColumns 13 = .ok (.iconst 1, 1) := by decide +kernel
theorem dX0_partnersOfColumns_14 : decode cX0_partnersOfColumns 14 = .ok (.iand, 1) := by decide +kernel
theorem dX0_partnersOfColumns_15 : decode cX0_partnersOfColumns 15 = .ok (.ifCond .eq 23, 3) := by decide +kernel
theorem dX0_partnersOfColumns_18 : decode cX0_partnersOfColumns 18 = .ok (.aload_n 0, 1) := by decide +kernel
theorem dX0_partnersOfColumns_19 : decode cX0_partnersOfColumns 19 = .ok (.getfield 17, 3) := by decide +kernel
theorem dX0_partnersOfColumns_22 : decode cX0_partnersOfColumns 22 = .ok (.iload_n 3, 1) := by decide +kernel
theorem dX0_partnersOfColumns_23 : decode cX0_partnersOfColumns 23 = .ok (.baload, 1) := by decide +kernel
theorem dX0_partnersOfColumns_24 : decode cX0_partnersOfColumns 24 = .ok (.ifCond .lt 14, 3) := by decide +kernel
theorem dX0_partnersOfColumns_27 : decode cX0_partnersOfColumns 27 = .ok (.iload_n 2, 1) := by decide +kernel
theorem dX0_partnersOfColumns_28 : decode cX0_partnersOfColumns 28 = .ok (.iconst 1, 1) := by decide +kernel
theorem dX0_partnersOfColumns_29 : decode cX0_partnersOfColumns 29 = .ok (.aload_n 0, 1) := by decide +kernel
theorem dX0_partnersOfColumns_30 : decode cX0_partnersOfColumns 30 = .ok (.getfield 17, 3) := by decide +kernel
theorem dX0_partnersOfColumns_33 : decode cX0_partnersOfColumns 33 = .ok (.iload_n 3, 1) := by decide +kernel
theorem dX0_partnersOfColumns_34 : decode cX0_partnersOfColumns 34 = .ok (.baload, 1) := by decide +kernel
theorem dX0_partnersOfColumns_35 : decode cX0_partnersOfColumns 35 = .ok (.ishl, 1) := by decide +kernel
theorem dX0_partnersOfColumns_36 : decode cX0_partnersOfColumns 36 = .ok (.ior, 1) := by decide +kernel
theorem dX0_partnersOfColumns_37 : decode cX0_partnersOfColumns 37 = .ok (.istore_n 2, 1) := by decide +kernel
theorem dX0_partnersOfColumns_38 : decode cX0_partnersOfColumns 38 = .ok (.iinc 3 1, 3) := by decide +kernel
theorem dX0_partnersOfColumns_41 : decode cX0_partnersOfColumns 41 = .ok (.goto (-37), 3) := by decide +kernel
theorem dX0_partnersOfColumns_44 : decode cX0_partnersOfColumns 44 = .ok (.iload_n 2, 1) := by decide +kernel
theorem dX0_partnersOfColumns_45 : decode cX0_partnersOfColumns 45 = .ok (.ireturn, 1) := by decide +kernel
abbrev cX0_rowsNextTo : ByteArray := prog_1_method_21_code
def yX0_rowsNextTo : MethodName := ⟨RX0, "rowsNextTo", "(I)I"⟩
theorem dX0_rowsNextTo_0 : decode cX0_rowsNextTo 0 = .ok (.iconst 0, 1) := by decide +kernel
theorem dX0_rowsNextTo_1 : decode cX0_rowsNextTo 1 = .ok (.istore_n 2, 1) := by decide +kernel
theorem dX0_rowsNextTo_2 : decode cX0_rowsNextTo 2 = .ok (.iconst 0, 1) := by decide +kernel
theorem dX0_rowsNextTo_3 : decode cX0_rowsNextTo 3 = .ok (.istore_n 3, 1) := by decide +kernel
theorem dX0_rowsNextTo_4 : decode cX0_rowsNextTo 4 = .ok (.iload_n 3, 1) := by decide +kernel
theorem dX0_rowsNextTo_5 : decode cX0_rowsNextTo 5 = .ok (.bipush 7, 2) := by decide +kernel
theorem dX0_rowsNextTo_7 : decode cX0_rowsNextTo 7 = .ok (.if_icmp .ge 25, 3) := by decide +kernel
theorem dX0_rowsNextTo_10 : decode cX0_rowsNextTo 10 = .ok (.iload_n 1, 1) := by decide +kernel
theorem dX0_rowsNextTo_11 : decode cX0_rowsNextTo 11 = .ok (.iload_n 3, 1) := by decide +kernel
theorem dX0_rowsNextTo_12 : decode cX0_rowsNextTo 12 = .ok (.ishr, 1) := by decide +kernel
theorem dX0_rowsNextTo_13 : decode cX0_rowsNextTo 13 = .ok (.iconst 1, 1) := by decide +kernel
theorem dX0_rowsNextTo_14 : decode cX0_rowsNextTo 14 = .ok (.iand, 1) := by decide +kernel
theorem dX0_rowsNextTo_15 : decode cX0_rowsNextTo 15 = .ok (.ifCond .eq 11, 3) := by decide +kernel
theorem dX0_rowsNextTo_18 : decode cX0_rowsNextTo 18 = .ok (.iload_n 2, 1) := by decide +kernel
theorem dX0_rowsNextTo_19 : decode cX0_rowsNextTo 19 = .ok (.aload_n 0, 1) := by decide +kernel
theorem dX0_rowsNextTo_20 : decode cX0_rowsNextTo 20 = .ok (.iload_n 3, 1) := by decide +kernel
theorem dX0_rowsNextTo_21 : decode cX0_rowsNextTo 21 = .ok (.invokevirtual 73, 3) := by decide +kernel
theorem dX0_rowsNextTo_24 : decode cX0_rowsNextTo 24 = .ok (.ior, 1) := by decide +kernel
theorem dX0_rowsNextTo_25 : decode cX0_rowsNextTo 25 = .ok (.istore_n 2, 1) := by decide +kernel
theorem dX0_rowsNextTo_26 : decode cX0_rowsNextTo 26 = .ok (.iinc 3 1, 3) := by decide +kernel
theorem dX0_rowsNextTo_29 : decode cX0_rowsNextTo 29 = .ok (.goto (-25), 3) := by decide +kernel
theorem dX0_rowsNextTo_32 : decode cX0_rowsNextTo 32 = .ok (.iload_n 2, 1) := by decide +kernel
theorem dX0_rowsNextTo_33 : decode cX0_rowsNextTo 33 = .ok (.ireturn, 1) := by decide +kernel
abbrev cX0_rowsWithEdgeTo : ByteArray := prog_1_method_17_code
def yX0_rowsWithEdgeTo : MethodName := ⟨RX0, "rowsWithEdgeTo", "(I)I"⟩
theorem dX0_rowsWithEdgeTo_0 : decode cX0_rowsWithEdgeTo 0 = .ok (.iconst 0, 1) := by decide +kernel
theorem dX0_rowsWithEdgeTo_1 : decode cX0_rowsWithEdgeTo 1 = .ok (.istore_n 2, 1) := by decide +kernel
theorem dX0_rowsWithEdgeTo_2 : decode cX0_rowsWithEdgeTo 2 = .ok (.iconst 0, 1) := by decide +kernel
theorem dX0_rowsWithEdgeTo_3 : decode cX0_rowsWithEdgeTo 3 = .ok (.istore_n 3, 1) := by decide +kernel
theorem dX0_rowsWithEdgeTo_4 : decode cX0_rowsWithEdgeTo 4 = .ok (.iload_n 3, 1) := by decide +kernel
theorem dX0_rowsWithEdgeTo_5 : decode cX0_rowsWithEdgeTo 5 = .ok (.bipush 7, 2) := by decide +kernel
theorem dX0_rowsWithEdgeTo_7 : decode cX0_rowsWithEdgeTo 7 = .ok (.if_icmp .ge 24, 3) := by decide +kernel
theorem dX0_rowsWithEdgeTo_10 : decode cX0_rowsWithEdgeTo 10 = .ok (.iload_n 2, 1) := by decide +kernel
theorem dX0_rowsWithEdgeTo_11 : decode cX0_rowsWithEdgeTo 11 = .ok (.aload_n 0, 1) := by decide +kernel
theorem dX0_rowsWithEdgeTo_12 : decode cX0_rowsWithEdgeTo 12 = .ok (.getfield 7, 3) := by decide +kernel
theorem dX0_rowsWithEdgeTo_15 : decode cX0_rowsWithEdgeTo 15 = .ok (.iload_n 3, 1) := by decide +kernel
theorem dX0_rowsWithEdgeTo_16 : decode cX0_rowsWithEdgeTo 16 = .ok (.iaload, 1) := by decide +kernel
theorem dX0_rowsWithEdgeTo_17 : decode cX0_rowsWithEdgeTo 17 = .ok (.iload_n 1, 1) := by decide +kernel
theorem dX0_rowsWithEdgeTo_18 : decode cX0_rowsWithEdgeTo 18 = .ok (.ishr, 1) := by decide +kernel
theorem dX0_rowsWithEdgeTo_19 : decode cX0_rowsWithEdgeTo 19 = .ok (.iconst 1, 1) := by decide +kernel
theorem dX0_rowsWithEdgeTo_20 : decode cX0_rowsWithEdgeTo 20 = .ok (.iand, 1) := by decide +kernel
theorem dX0_rowsWithEdgeTo_21 : decode cX0_rowsWithEdgeTo 21 = .ok (.iload_n 3, 1) := by decide +kernel
theorem dX0_rowsWithEdgeTo_22 : decode cX0_rowsWithEdgeTo 22 = .ok (.ishl, 1) := by decide +kernel
theorem dX0_rowsWithEdgeTo_23 : decode cX0_rowsWithEdgeTo 23 = .ok (.ior, 1) := by decide +kernel
theorem dX0_rowsWithEdgeTo_24 : decode cX0_rowsWithEdgeTo 24 = .ok (.istore_n 2, 1) := by decide +kernel
theorem dX0_rowsWithEdgeTo_25 : decode cX0_rowsWithEdgeTo 25 = .ok (.iinc 3 1, 3) := by decide +kernel
theorem dX0_rowsWithEdgeTo_28 : decode cX0_rowsWithEdgeTo 28 = .ok (.goto (-24), 3) := by decide +kernel
theorem dX0_rowsWithEdgeTo_31 : decode cX0_rowsWithEdgeTo 31 = .ok (.iload_n 2, 1) := by decide +kernel
theorem dX0_rowsWithEdgeTo_32 : decode cX0_rowsWithEdgeTo 32 = .ok (.ireturn, 1) := by decide +kernel
abbrev cX0_partnersOfRows : ByteArray := prog_1_method_19_code
def yX0_partnersOfRows : MethodName := ⟨RX0, "partnersOfRows", "(I)I"⟩
theorem dX0_partnersOfRows_0 : decode cX0_partnersOfRows 0 = .ok (.iconst 0, 1) := by decide +kernel
theorem dX0_partnersOfRows_1 : decode cX0_partnersOfRows 1 = .ok (.istore_n 2, 1) := by decide +kernel
theorem dX0_partnersOfRows_2 : decode cX0_partnersOfRows 2 = .ok (.iconst 0, 1) := by decide +kernel
theorem dX0_partnersOfRows_3 : decode cX0_partnersOfRows 3 = .ok (.istore_n 3, 1) := by decide +kernel
theorem dX0_partnersOfRows_4 : decode cX0_partnersOfRows 4 = .ok (.iload_n 3, 1) := by decide +kernel
theorem dX0_partnersOfRows_5 : decode cX0_partnersOfRows 5 = .ok (.bipush 7, 2) := by decide +kernel
theorem dX0_partnersOfRows_7 : decode cX0_partnersOfRows 7 = .ok (.if_icmp .ge 37, 3) := by decide +kernel
theorem dX0_partnersOfRows_10 : decode cX0_partnersOfRows 10 = .ok (.iload_n 1, 1) := by decide +kernel
theorem dX0_partnersOfRows_11 : decode cX0_partnersOfRows 11 = .ok (.iload_n 3, 1) := by decide +kernel
theorem dX0_partnersOfRows_12 : decode cX0_partnersOfRows 12 = .ok (.ishr, 1) := by decide +kernel
theorem dX0_partnersOfRows_13 : decode cX0_partnersOfRows 13 = .ok (.iconst 1, 1) := by decide +kernel
theorem dX0_partnersOfRows_14 : decode cX0_partnersOfRows 14 = .ok (.iand, 1) := by decide +kernel
theorem dX0_partnersOfRows_15 : decode cX0_partnersOfRows 15 = .ok (.ifCond .eq 23, 3) := by decide +kernel
theorem dX0_partnersOfRows_18 : decode cX0_partnersOfRows 18 = .ok (.aload_n 0, 1) := by decide +kernel
theorem dX0_partnersOfRows_19 : decode cX0_partnersOfRows 19 = .ok (.getfield 13, 3) := by decide +kernel
theorem dX0_partnersOfRows_22 : decode cX0_partnersOfRows 22 = .ok (.iload_n 3, 1) := by decide +kernel
theorem dX0_partnersOfRows_23 : decode cX0_partnersOfRows 23 = .ok (.baload, 1) := by decide +kernel
theorem dX0_partnersOfRows_24 : decode cX0_partnersOfRows 24 = .ok (.ifCond .lt 14, 3) := by decide +kernel
theorem dX0_partnersOfRows_27 : decode cX0_partnersOfRows 27 = .ok (.iload_n 2, 1) := by decide +kernel
theorem dX0_partnersOfRows_28 : decode cX0_partnersOfRows 28 = .ok (.iconst 1, 1) := by decide +kernel
theorem dX0_partnersOfRows_29 : decode cX0_partnersOfRows 29 = .ok (.aload_n 0, 1) := by decide +kernel
theorem dX0_partnersOfRows_30 : decode cX0_partnersOfRows 30 = .ok (.getfield 13, 3) := by decide +kernel
theorem dX0_partnersOfRows_33 : decode cX0_partnersOfRows 33 = .ok (.iload_n 3, 1) := by decide +kernel
theorem dX0_partnersOfRows_34 : decode cX0_partnersOfRows 34 = .ok (.baload, 1) := by decide +kernel
theorem dX0_partnersOfRows_35 : decode cX0_partnersOfRows 35 = .ok (.ishl, 1) := by decide +kernel
theorem dX0_partnersOfRows_36 : decode cX0_partnersOfRows 36 = .ok (.ior, 1) := by decide +kernel
theorem dX0_partnersOfRows_37 : decode cX0_partnersOfRows 37 = .ok (.istore_n 2, 1) := by decide +kernel
theorem dX0_partnersOfRows_38 : decode cX0_partnersOfRows 38 = .ok (.iinc 3 1, 3) := by decide +kernel
theorem dX0_partnersOfRows_41 : decode cX0_partnersOfRows 41 = .ok (.goto (-37), 3) := by decide +kernel
theorem dX0_partnersOfRows_44 : decode cX0_partnersOfRows 44 = .ok (.iload_n 2, 1) := by decide +kernel
theorem dX0_partnersOfRows_45 : decode cX0_partnersOfRows 45 = .ok (.ireturn, 1) := by decide +kernel
abbrev cX0_findUsable : ByteArray := prog_1_method_23_code
def yX0_findUsable : MethodName := ⟨RX0, "findUsable", "()V"⟩
theorem dX0_findUsable_0 : decode cX0_findUsable 0 = .ok (.iconst 0, 1) := by decide +kernel
theorem dX0_findUsable_1 : decode cX0_findUsable 1 = .ok (.istore_n 1, 1) := by decide +kernel
theorem dX0_findUsable_2 : decode cX0_findUsable 2 = .ok (.iload_n 1, 1) := by decide +kernel
theorem dX0_findUsable_3 : decode cX0_findUsable 3 = .ok (.bipush 7, 2) := by decide +kernel
theorem dX0_findUsable_5 : decode cX0_findUsable 5 = .ok (.if_icmp .ge 64, 3) := by decide +kernel
theorem dX0_findUsable_8 : decode cX0_findUsable 8 = .ok (.aload_n 0, 1) := by decide +kernel
theorem dX0_findUsable_9 : decode cX0_findUsable 9 = .ok (.getfield 29, 3) := by decide +kernel
theorem dX0_findUsable_12 : decode cX0_findUsable 12 = .ok (.iload_n 1, 1) := by decide +kernel
theorem dX0_findUsable_13 : decode cX0_findUsable 13 = .ok (.iconst 0, 1) := by decide +kernel
theorem dX0_findUsable_14 : decode cX0_findUsable 14 = .ok (.iastore, 1) := by decide +kernel
theorem dX0_findUsable_15 : decode cX0_findUsable 15 = .ok (.iconst 0, 1) := by decide +kernel
theorem dX0_findUsable_16 : decode cX0_findUsable 16 = .ok (.istore_n 2, 1) := by decide +kernel
theorem dX0_findUsable_17 : decode cX0_findUsable 17 = .ok (.iload_n 2, 1) := by decide +kernel
theorem dX0_findUsable_18 : decode cX0_findUsable 18 = .ok (.bipush 7, 2) := by decide +kernel
theorem dX0_findUsable_20 : decode cX0_findUsable 20 = .ok (.if_icmp .ge 43, 3) := by decide +kernel
theorem dX0_findUsable_23 : decode cX0_findUsable 23 = .ok (.aload_n 0, 1) := by decide +kernel
theorem dX0_findUsable_24 : decode cX0_findUsable 24 = .ok (.getfield 7, 3) := by decide +kernel
theorem dX0_findUsable_27 : decode cX0_findUsable 27 = .ok (.iload_n 1, 1) := by decide +kernel
theorem dX0_findUsable_28 : decode cX0_findUsable 28 = .ok (.iaload, 1) := by decide +kernel
theorem dX0_findUsable_29 : decode cX0_findUsable 29 = .ok (.iload_n 2, 1) := by decide +kernel
theorem dX0_findUsable_30 : decode cX0_findUsable 30 = .ok (.ishr, 1) := by decide +kernel
theorem dX0_findUsable_31 : decode cX0_findUsable 31 = .ok (.iconst 1, 1) := by decide +kernel
theorem dX0_findUsable_32 : decode cX0_findUsable 32 = .ok (.iand, 1) := by decide +kernel
theorem dX0_findUsable_33 : decode cX0_findUsable 33 = .ok (.ifCond .eq 24, 3) := by decide +kernel
theorem dX0_findUsable_36 : decode cX0_findUsable 36 = .ok (.aload_n 0, 1) := by decide +kernel
theorem dX0_findUsable_37 : decode cX0_findUsable 37 = .ok (.iload_n 1, 1) := by decide +kernel
theorem dX0_findUsable_38 : decode cX0_findUsable 38 = .ok (.iload_n 2, 1) := by decide +kernel
theorem dX0_findUsable_39 : decode cX0_findUsable 39 = .ok (.invokevirtual 91, 3) := by decide +kernel
theorem dX0_findUsable_42 : decode cX0_findUsable 42 = .ok (.ifCond .eq 15, 3) := by decide +kernel
theorem dX0_findUsable_45 : decode cX0_findUsable 45 = .ok (.aload_n 0, 1) := by decide +kernel
theorem dX0_findUsable_46 : decode cX0_findUsable 46 = .ok (.getfield 29, 3) := by decide +kernel
theorem dX0_findUsable_49 : decode cX0_findUsable 49 = .ok (.iload_n 1, 1) := by decide +kernel
theorem dX0_findUsable_50 : decode cX0_findUsable 50 = .ok (.dup2, 1) := by decide +kernel
theorem dX0_findUsable_51 : decode cX0_findUsable 51 = .ok (.iaload, 1) := by decide +kernel
theorem dX0_findUsable_52 : decode cX0_findUsable 52 = .ok (.iconst 1, 1) := by decide +kernel
theorem dX0_findUsable_53 : decode cX0_findUsable 53 = .ok (.iload_n 2, 1) := by decide +kernel
theorem dX0_findUsable_54 : decode cX0_findUsable 54 = .ok (.ishl, 1) := by decide +kernel
theorem dX0_findUsable_55 : decode cX0_findUsable 55 = .ok (.ior, 1) := by decide +kernel
theorem dX0_findUsable_56 : decode cX0_findUsable 56 = .ok (.iastore, 1) := by decide +kernel
theorem dX0_findUsable_57 : decode cX0_findUsable 57 = .ok (.iinc 2 1, 3) := by decide +kernel
theorem dX0_findUsable_60 : decode cX0_findUsable 60 = .ok (.goto (-43), 3) := by decide +kernel
theorem dX0_findUsable_63 : decode cX0_findUsable 63 = .ok (.iinc 1 1, 3) := by decide +kernel
theorem dX0_findUsable_66 : decode cX0_findUsable 66 = .ok (.goto (-64), 3) := by decide +kernel
theorem dX0_findUsable_69 : decode cX0_findUsable 69 = .ok (.return_, 1) := by decide +kernel
abbrev cX0_isUsable : ByteArray := prog_1_method_24_code
def yX0_isUsable : MethodName := ⟨RX0, "isUsable", "(II)Z"⟩
theorem dX0_isUsable_0 : decode cX0_isUsable 0 = .ok (.aload_n 0, 1) := by decide +kernel
theorem dX0_isUsable_1 : decode cX0_isUsable 1 = .ok (.getfield 13, 3) := by decide +kernel
theorem dX0_isUsable_4 : decode cX0_isUsable 4 = .ok (.iload_n 1, 1) := by decide +kernel
theorem dX0_isUsable_5 : decode cX0_isUsable 5 = .ok (.baload, 1) := by decide +kernel
theorem dX0_isUsable_6 : decode cX0_isUsable 6 = .ok (.iload_n 2, 1) := by decide +kernel
theorem dX0_isUsable_7 : decode cX0_isUsable 7 = .ok (.if_icmp .ne 5, 3) := by decide +kernel
theorem dX0_isUsable_10 : decode cX0_isUsable 10 = .ok (.iconst 1, 1) := by decide +kernel
theorem dX0_isUsable_11 : decode cX0_isUsable 11 = .ok (.ireturn, 1) := by decide +kernel
theorem dX0_isUsable_12 : decode cX0_isUsable 12 = .ok (.aload_n 0, 1) := by decide +kernel
theorem dX0_isUsable_13 : decode cX0_isUsable 13 = .ok (.getfield 43, 3) := by decide +kernel
theorem dX0_isUsable_16 : decode cX0_isUsable 16 = .ok (.iload_n 1, 1) := by decide +kernel
theorem dX0_isUsable_17 : decode cX0_isUsable 17 = .ok (.ishr, 1) := by decide +kernel
theorem dX0_isUsable_18 : decode cX0_isUsable 18 = .ok (.iconst 1, 1) := by decide +kernel
theorem dX0_isUsable_19 : decode cX0_isUsable 19 = .ok (.iand, 1) := by decide +kernel
theorem dX0_isUsable_20 : decode cX0_isUsable 20 = .ok (.ifCond .ne 14, 3) := by decide +kernel
theorem dX0_isUsable_23 : decode cX0_isUsable 23 = .ok (.aload_n 0, 1) := by decide +kernel
theorem dX0_isUsable_24 : decode cX0_isUsable 24 = .ok (.getfield 47, 3) := by decide +kernel
theorem dX0_isUsable_27 : decode cX0_isUsable 27 = .ok (.iload_n 2, 1) := by decide +kernel
theorem dX0_isUsable_28 : decode cX0_isUsable 28 = .ok (.ishr, 1) := by decide +kernel
theorem dX0_isUsable_29 : decode cX0_isUsable 29 = .ok (.iconst 1, 1) := by decide +kernel
theorem dX0_isUsable_30 : decode cX0_isUsable 30 = .ok (.iand, 1) := by decide +kernel
theorem dX0_isUsable_31 : decode cX0_isUsable 31 = .ok (.ifCond .eq 5, 3) := by decide +kernel
theorem dX0_isUsable_34 : decode cX0_isUsable 34 = .ok (.iconst 1, 1) := by decide +kernel
theorem dX0_isUsable_35 : decode cX0_isUsable 35 = .ok (.ireturn, 1) := by decide +kernel
theorem dX0_isUsable_36 : decode cX0_isUsable 36 = .ok (.aload_n 0, 1) := by decide +kernel
theorem dX0_isUsable_37 : decode cX0_isUsable 37 = .ok (.getfield 17, 3) := by decide +kernel
theorem dX0_isUsable_40 : decode cX0_isUsable 40 = .ok (.iload_n 2, 1) := by decide +kernel
theorem dX0_isUsable_41 : decode cX0_isUsable 41 = .ok (.baload, 1) := by decide +kernel
theorem dX0_isUsable_42 : decode cX0_isUsable 42 = .ok (.istore_n 3, 1) := by decide +kernel
theorem dX0_isUsable_43 : decode cX0_isUsable 43 = .ok (.iload_n 3, 1) := by decide +kernel
theorem dX0_isUsable_44 : decode cX0_isUsable 44 = .ok (.ifCond .lt 20, 3) := by decide +kernel
theorem dX0_isUsable_47 : decode cX0_isUsable 47 = .ok (.aload_n 0, 1) := by decide +kernel
theorem dX0_isUsable_48 : decode cX0_isUsable 48 = .ok (.getfield 26, 3) := by decide +kernel
theorem dX0_isUsable_51 : decode cX0_isUsable 51 = .ok (.iload_n 3, 1) := by decide +kernel
theorem dX0_isUsable_52 : decode cX0_isUsable 52 = .ok (.iaload, 1) := by decide +kernel
theorem dX0_isUsable_53 : decode cX0_isUsable 53 = .ok (.iload_n 1, 1) := by decide +kernel
theorem dX0_isUsable_54 : decode cX0_isUsable 54 = .ok (.ishr, 1) := by decide +kernel
theorem dX0_isUsable_55 : decode cX0_isUsable 55 = .ok (.iconst 1, 1) := by decide +kernel
theorem dX0_isUsable_56 : decode cX0_isUsable 56 = .ok (.iand, 1) := by decide +kernel
theorem dX0_isUsable_57 : decode cX0_isUsable 57 = .ok (.ifCond .eq 7, 3) := by decide +kernel
theorem dX0_isUsable_60 : decode cX0_isUsable 60 = .ok (.iconst 1, 1) := by decide +kernel
theorem dX0_isUsable_61 : decode cX0_isUsable 61 = .ok (.goto 4, 3) := by decide +kernel
theorem dX0_isUsable_64 : decode cX0_isUsable 64 = .ok (.iconst 0, 1) := by decide +kernel
theorem dX0_isUsable_65 : decode cX0_isUsable 65 = .ok (.ireturn, 1) := by decide +kernel
abbrev cX0_looseRows : ByteArray := prog_1_method_7_code
def yX0_looseRows : MethodName := ⟨RX0, "looseRows", "()I"⟩
theorem dX0_looseRows_0 : decode cX0_looseRows 0 = .ok (.aload_n 0, 1) := by decide +kernel
theorem dX0_looseRows_1 : decode cX0_looseRows 1 = .ok (.invokevirtual 40, 3) := by decide +kernel
theorem dX0_looseRows_4 : decode cX0_looseRows 4 = .ok (.aload_n 0, 1) := by decide +kernel
theorem dX0_looseRows_5 : decode cX0_looseRows 5 = .ok (.getfield 43, 3) := by decide +kernel
theorem dX0_looseRows_8 : decode cX0_looseRows 8 = .ok (.ireturn, 1) := by decide +kernel
abbrev cX0_looseColumns : ByteArray := prog_1_method_8_code
def yX0_looseColumns : MethodName := ⟨RX0, "looseColumns", "()I"⟩
theorem dX0_looseColumns_0 : decode cX0_looseColumns 0 = .ok (.aload_n 0, 1) := by decide +kernel
theorem dX0_looseColumns_1 : decode cX0_looseColumns 1 = .ok (.invokevirtual 40, 3) := by decide +kernel
theorem dX0_looseColumns_4 : decode cX0_looseColumns 4 = .ok (.aload_n 0, 1) := by decide +kernel
theorem dX0_looseColumns_5 : decode cX0_looseColumns 5 = .ok (.getfield 47, 3) := by decide +kernel
theorem dX0_looseColumns_8 : decode cX0_looseColumns 8 = .ok (.ireturn, 1) := by decide +kernel
abbrev cX0_usable : ByteArray := prog_1_method_9_code
def yX0_usable : MethodName := ⟨RX0, "usable", "(I)I"⟩
theorem dX0_usable_0 : decode cX0_usable 0 = .ok (.aload_n 0, 1) := by decide +kernel
theorem dX0_usable_1 : decode cX0_usable 1 = .ok (.iload_n 1, 1) := by decide +kernel
theorem dX0_usable_2 : decode cX0_usable 2 = .ok (.invokevirtual 32, 3) := by decide +kernel
theorem dX0_usable_5 : decode cX0_usable 5 = .ok (.ifCond .ne 5, 3) := by decide +kernel
theorem dX0_usable_8 : decode cX0_usable 8 = .ok (.iconst (-1), 1) := by decide +kernel
theorem dX0_usable_9 : decode cX0_usable 9 = .ok (.ireturn, 1) := by decide +kernel
theorem dX0_usable_10 : decode cX0_usable 10 = .ok (.aload_n 0, 1) := by decide +kernel
theorem dX0_usable_11 : decode cX0_usable 11 = .ok (.invokevirtual 40, 3) := by decide +kernel
theorem dX0_usable_14 : decode cX0_usable 14 = .ok (.aload_n 0, 1) := by decide +kernel
theorem dX0_usable_15 : decode cX0_usable 15 = .ok (.getfield 29, 3) := by decide +kernel
theorem dX0_usable_18 : decode cX0_usable 18 = .ok (.iload_n 1, 1) := by decide +kernel
theorem dX0_usable_19 : decode cX0_usable 19 = .ok (.iaload, 1) := by decide +kernel
theorem dX0_usable_20 : decode cX0_usable 20 = .ok (.ireturn, 1) := by decide +kernel
abbrev cX0_forced : ByteArray := prog_1_method_10_code
def yX0_forced : MethodName := ⟨RX0, "forced", "(I)I"⟩
theorem dX0_forced_0 : decode cX0_forced 0 = .ok (.aload_n 0, 1) := by decide +kernel
theorem dX0_forced_1 : decode cX0_forced 1 = .ok (.iload_n 1, 1) := by decide +kernel
theorem dX0_forced_2 : decode cX0_forced 2 = .ok (.invokevirtual 32, 3) := by decide +kernel
theorem dX0_forced_5 : decode cX0_forced 5 = .ok (.ifCond .ne 5, 3) := by decide +kernel
theorem dX0_forced_8 : decode cX0_forced 8 = .ok (.iconst (-1), 1) := by decide +kernel
theorem dX0_forced_9 : decode cX0_forced 9 = .ok (.ireturn, 1) := by decide +kernel
theorem dX0_forced_10 : decode cX0_forced 10 = .ok (.aload_n 0, 1) := by decide +kernel
theorem dX0_forced_11 : decode cX0_forced 11 = .ok (.invokevirtual 40, 3) := by decide +kernel
theorem dX0_forced_14 : decode cX0_forced 14 = .ok (.aload_n 0, 1) := by decide +kernel
theorem dX0_forced_15 : decode cX0_forced 15 = .ok (.iload_n 1, 1) := by decide +kernel
theorem dX0_forced_16 : decode cX0_forced 16 = .ok (.invokevirtual 50, 3) := by decide +kernel
theorem dX0_forced_19 : decode cX0_forced 19 = .ok (.ifCond .eq 14, 3) := by decide +kernel
theorem dX0_forced_22 : decode cX0_forced 22 = .ok (.iconst 1, 1) := by decide +kernel
theorem dX0_forced_23 : decode cX0_forced 23 = .ok (.aload_n 0, 1) := by decide +kernel
theorem dX0_forced_24 : decode cX0_forced 24 = .ok (.getfield 13, 3) := by decide +kernel
theorem dX0_forced_27 : decode cX0_forced 27 = .ok (.iload_n 1, 1) := by decide +kernel
theorem dX0_forced_28 : decode cX0_forced 28 = .ok (.baload, 1) := by decide +kernel
theorem dX0_forced_29 : decode cX0_forced 29 = .ok (.ishl, 1) := by decide +kernel
theorem dX0_forced_30 : decode cX0_forced 30 = .ok (.goto 4, 3) := by decide +kernel
theorem dX0_forced_33 : decode cX0_forced 33 = .ok (.iconst 0, 1) := by decide +kernel
theorem dX0_forced_34 : decode cX0_forced 34 = .ok (.ireturn, 1) := by decide +kernel
abbrev cX0_isForced : ByteArray := prog_1_method_25_code
def yX0_isForced : MethodName := ⟨RX0, "isForced", "(I)Z"⟩
theorem dX0_isForced_0 : decode cX0_isForced 0 = .ok (.aload_n 0, 1) := by decide +kernel
theorem dX0_isForced_1 : decode cX0_isForced 1 = .ok (.getfield 13, 3) := by decide +kernel
theorem dX0_isForced_4 : decode cX0_isForced 4 = .ok (.iload_n 1, 1) := by decide +kernel
theorem dX0_isForced_5 : decode cX0_isForced 5 = .ok (.baload, 1) := by decide +kernel
theorem dX0_isForced_6 : decode cX0_isForced 6 = .ok (.istore_n 2, 1) := by decide +kernel
theorem dX0_isForced_7 : decode cX0_isForced 7 = .ok (.iload_n 2, 1) := by decide +kernel
theorem dX0_isForced_8 : decode cX0_isForced 8 = .ok (.ifCond .lt 25, 3) := by decide +kernel
theorem dX0_isForced_11 : decode cX0_isForced 11 = .ok (.aload_n 0, 1) := by decide +kernel
theorem dX0_isForced_12 : decode cX0_isForced 12 = .ok (.getfield 43, 3) := by decide +kernel
theorem dX0_isForced_15 : decode cX0_isForced 15 = .ok (.iload_n 1, 1) := by decide +kernel
theorem dX0_isForced_16 : decode cX0_isForced 16 = .ok (.ishr, 1) := by decide +kernel
theorem dX0_isForced_17 : decode cX0_isForced 17 = .ok (.iconst 1, 1) := by decide +kernel
theorem dX0_isForced_18 : decode cX0_isForced 18 = .ok (.iand, 1) := by decide +kernel
theorem dX0_isForced_19 : decode cX0_isForced 19 = .ok (.ifCond .ne 14, 3) := by decide +kernel
theorem dX0_isForced_22 : decode cX0_isForced 22 = .ok (.aload_n 0, 1) := by decide +kernel
theorem dX0_isForced_23 : decode cX0_isForced 23 = .ok (.getfield 47, 3) := by decide +kernel
theorem dX0_isForced_26 : decode cX0_isForced 26 = .ok (.iload_n 2, 1) := by decide +kernel
theorem dX0_isForced_27 : decode cX0_isForced 27 = .ok (.ishr, 1) := by decide +kernel
theorem dX0_isForced_28 : decode cX0_isForced 28 = .ok (.iconst 1, 1) := by decide +kernel
theorem dX0_isForced_29 : decode cX0_isForced 29 = .ok (.iand, 1) := by decide +kernel
theorem dX0_isForced_30 : decode cX0_isForced 30 = .ok (.ifCond .eq 5, 3) := by decide +kernel
theorem dX0_isForced_33 : decode cX0_isForced 33 = .ok (.iconst 0, 1) := by decide +kernel
theorem dX0_isForced_34 : decode cX0_isForced 34 = .ok (.ireturn, 1) := by decide +kernel
theorem dX0_isForced_35 : decode cX0_isForced 35 = .ok (.aload_n 0, 1) := by decide +kernel
theorem dX0_isForced_36 : decode cX0_isForced 36 = .ok (.getfield 29, 3) := by decide +kernel
theorem dX0_isForced_39 : decode cX0_isForced 39 = .ok (.iload_n 1, 1) := by decide +kernel
theorem dX0_isForced_40 : decode cX0_isForced 40 = .ok (.iaload, 1) := by decide +kernel
theorem dX0_isForced_41 : decode cX0_isForced 41 = .ok (.iconst 1, 1) := by decide +kernel
theorem dX0_isForced_42 : decode cX0_isForced 42 = .ok (.iload_n 2, 1) := by decide +kernel
theorem dX0_isForced_43 : decode cX0_isForced 43 = .ok (.ishl, 1) := by decide +kernel
theorem dX0_isForced_44 : decode cX0_isForced 44 = .ok (.if_icmp .ne 7, 3) := by decide +kernel
theorem dX0_isForced_47 : decode cX0_isForced 47 = .ok (.iconst 1, 1) := by decide +kernel
theorem dX0_isForced_48 : decode cX0_isForced 48 = .ok (.goto 4, 3) := by decide +kernel
theorem dX0_isForced_51 : decode cX0_isForced 51 = .ok (.iconst 0, 1) := by decide +kernel
theorem dX0_isForced_52 : decode cX0_isForced 52 = .ok (.ireturn, 1) := by decide +kernel
abbrev cX0_blocks : ByteArray := prog_1_method_11_code
def yX0_blocks : MethodName := ⟨RX0, "blocks", "()I"⟩
theorem dX0_blocks_0 : decode cX0_blocks 0 = .ok (.aload_n 0, 1) := by decide +kernel
theorem dX0_blocks_1 : decode cX0_blocks 1 = .ok (.invokevirtual 40, 3) := by decide +kernel
theorem dX0_blocks_4 : decode cX0_blocks 4 = .ok (.iconst 0, 1) := by decide +kernel
theorem dX0_blocks_5 : decode cX0_blocks 5 = .ok (.istore_n 1, 1) := by decide +kernel
theorem dX0_blocks_6 : decode cX0_blocks 6 = .ok (.iconst 0, 1) := by decide +kernel
theorem dX0_blocks_7 : decode cX0_blocks 7 = .ok (.istore_n 2, 1) := by decide +kernel
theorem dX0_blocks_8 : decode cX0_blocks 8 = .ok (.iconst 0, 1) := by decide +kernel
theorem dX0_blocks_9 : decode cX0_blocks 9 = .ok (.istore_n 3, 1) := by decide +kernel
theorem dX0_blocks_10 : decode cX0_blocks 10 = .ok (.iload_n 3, 1) := by decide +kernel
theorem dX0_blocks_11 : decode cX0_blocks 11 = .ok (.bipush 7, 2) := by decide +kernel
theorem dX0_blocks_13 : decode cX0_blocks 13 = .ok (.if_icmp .ge 40, 3) := by decide +kernel
theorem dX0_blocks_16 : decode cX0_blocks 16 = .ok (.aload_n 0, 1) := by decide +kernel
theorem dX0_blocks_17 : decode cX0_blocks 17 = .ok (.getfield 29, 3) := by decide +kernel
theorem dX0_blocks_20 : decode cX0_blocks 20 = .ok (.iload_n 3, 1) := by decide +kernel
theorem dX0_blocks_21 : decode cX0_blocks 21 = .ok (.iaload, 1) := by decide +kernel
theorem dX0_blocks_22 : decode cX0_blocks 22 = .ok (.ifCond .eq 25, 3) := by decide +kernel
theorem dX0_blocks_25 : decode cX0_blocks 25 = .ok (.iload_n 2, 1) := by decide +kernel
theorem dX0_blocks_26 : decode cX0_blocks 26 = .ok (.iload_n 3, 1) := by decide +kernel
theorem dX0_blocks_27 : decode cX0_blocks 27 = .ok (.ishr, 1) := by decide +kernel
theorem dX0_blocks_28 : decode cX0_blocks 28 = .ok (.iconst 1, 1) := by decide +kernel
theorem dX0_blocks_29 : decode cX0_blocks 29 = .ok (.iand, 1) := by decide +kernel
theorem dX0_blocks_30 : decode cX0_blocks 30 = .ok (.ifCond .eq 6, 3) := by decide +kernel
theorem dX0_blocks_33 : decode cX0_blocks 33 = .ok (.goto 14, 3) := by decide +kernel
theorem dX0_blocks_36 : decode cX0_blocks 36 = .ok (.iload_n 2, 1) := by decide +kernel
theorem dX0_blocks_37 : decode cX0_blocks 37 = .ok (.aload_n 0, 1) := by decide +kernel
theorem dX0_blocks_38 : decode cX0_blocks 38 = .ok (.iload_n 3, 1) := by decide +kernel
theorem dX0_blocks_39 : decode cX0_blocks 39 = .ok (.invokevirtual 53, 3) := by decide +kernel
theorem dX0_blocks_42 : decode cX0_blocks 42 = .ok (.ior, 1) := by decide +kernel
theorem dX0_blocks_43 : decode cX0_blocks 43 = .ok (.istore_n 2, 1) := by decide +kernel
theorem dX0_blocks_44 : decode cX0_blocks 44 = .ok (.iinc 1 1, 3) := by decide +kernel
theorem dX0_blocks_47 : decode cX0_blocks 47 = .ok (.iinc 3 1, 3) := by decide +kernel
theorem dX0_blocks_50 : decode cX0_blocks 50 = .ok (.goto (-40), 3) := by decide +kernel
theorem dX0_blocks_53 : decode cX0_blocks 53 = .ok (.iload_n 1, 1) := by decide +kernel
theorem dX0_blocks_54 : decode cX0_blocks 54 = .ok (.ireturn, 1) := by decide +kernel
abbrev cX0_rowsOfBlock : ByteArray := prog_1_method_26_code
def yX0_rowsOfBlock : MethodName := ⟨RX0, "rowsOfBlock", "(I)I"⟩
theorem dX0_rowsOfBlock_0 : decode cX0_rowsOfBlock 0 = .ok (.iconst 1, 1) := by decide +kernel
theorem dX0_rowsOfBlock_1 : decode cX0_rowsOfBlock 1 = .ok (.iload_n 1, 1) := by decide +kernel
theorem dX0_rowsOfBlock_2 : decode cX0_rowsOfBlock 2 = .ok (.ishl, 1) := by decide +kernel
theorem dX0_rowsOfBlock_3 : decode cX0_rowsOfBlock 3 = .ok (.istore_n 2, 1) := by decide +kernel
theorem dX0_rowsOfBlock_4 : decode cX0_rowsOfBlock 4 = .ok (.iconst 0, 1) := by decide +kernel
theorem dX0_rowsOfBlock_5 : decode cX0_rowsOfBlock 5 = .ok (.istore_n 3, 1) := by decide +kernel
theorem dX0_rowsOfBlock_6 : decode cX0_rowsOfBlock 6 = .ok (.iload_n 3, 1) := by decide +kernel
theorem dX0_rowsOfBlock_7 : decode cX0_rowsOfBlock 7 = .ok (.bipush 7, 2) := by decide +kernel
theorem dX0_rowsOfBlock_9 : decode cX0_rowsOfBlock 9 = .ok (.if_icmp .ge 85, 3) := by decide +kernel
theorem dX0_rowsOfBlock_12 : decode cX0_rowsOfBlock 12 = .ok (.iconst 0, 1) := by decide +kernel
theorem dX0_rowsOfBlock_13 : decode cX0_rowsOfBlock 13 = .ok (.istore 4, 2) := by decide +kernel
theorem dX0_rowsOfBlock_15 : decode cX0_rowsOfBlock 15 = .ok (.iconst 0, 1) := by decide +kernel
theorem dX0_rowsOfBlock_16 : decode cX0_rowsOfBlock 16 = .ok (.istore 5, 2) := by decide +kernel
theorem dX0_rowsOfBlock_18 : decode cX0_rowsOfBlock 18 = .ok (.iload 5, 2) := by decide +kernel
theorem dX0_rowsOfBlock_20 : decode cX0_rowsOfBlock 20 = .ok (.bipush 7, 2) := by decide +kernel
theorem dX0_rowsOfBlock_22 : decode cX0_rowsOfBlock 22 = .ok (.if_icmp .ge 30, 3) := by decide +kernel
theorem dX0_rowsOfBlock_25 : decode cX0_rowsOfBlock 25 = .ok (.iload_n 2, 1) := by decide +kernel
theorem dX0_rowsOfBlock_26 : decode cX0_rowsOfBlock 26 = .ok (.iload 5, 2) := by decide +kernel
theorem dX0_rowsOfBlock_28 : decode cX0_rowsOfBlock 28 = .ok (.ishr, 1) := by decide +kernel
theorem dX0_rowsOfBlock_29 : decode cX0_rowsOfBlock 29 = .ok (.iconst 1, 1) := by decide +kernel
theorem dX0_rowsOfBlock_30 : decode cX0_rowsOfBlock 30 = .ok (.iand, 1) := by decide +kernel
theorem dX0_rowsOfBlock_31 : decode cX0_rowsOfBlock 31 = .ok (.ifCond .eq 15, 3) := by decide +kernel
theorem dX0_rowsOfBlock_34 : decode cX0_rowsOfBlock 34 = .ok (.iload 4, 2) := by decide +kernel
theorem dX0_rowsOfBlock_36 : decode cX0_rowsOfBlock 36 = .ok (.aload_n 0, 1) := by decide +kernel
theorem dX0_rowsOfBlock_37 : decode cX0_rowsOfBlock 37 = .ok (.getfield 29, 3) := by decide +kernel
theorem dX0_rowsOfBlock_40 : decode cX0_rowsOfBlock 40 = .ok (.iload 5, 2) := by decide +kernel
theorem dX0_rowsOfBlock_42 : decode cX0_rowsOfBlock 42 = .ok (.iaload, 1) := by decide +kernel
theorem dX0_rowsOfBlock_43 : decode cX0_rowsOfBlock 43 = .ok (.ior, 1) := by decide +kernel
theorem dX0_rowsOfBlock_44 : decode cX0_rowsOfBlock 44 = .ok (.istore 4, 2) := by decide +kernel
theorem dX0_rowsOfBlock_46 : decode cX0_rowsOfBlock 46 = .ok (.iinc 5 1, 3) := by decide +kernel
theorem dX0_rowsOfBlock_49 : decode cX0_rowsOfBlock 49 = .ok (.goto (-31), 3) := by decide +kernel
theorem dX0_rowsOfBlock_52 : decode cX0_rowsOfBlock 52 = .ok (.iconst 0, 1) := by decide +kernel
theorem dX0_rowsOfBlock_53 : decode cX0_rowsOfBlock 53 = .ok (.istore 5, 2) := by decide +kernel
theorem dX0_rowsOfBlock_55 : decode cX0_rowsOfBlock 55 = .ok (.iload 5, 2) := by decide +kernel
theorem dX0_rowsOfBlock_57 : decode cX0_rowsOfBlock 57 = .ok (.bipush 7, 2) := by decide +kernel
theorem dX0_rowsOfBlock_59 : decode cX0_rowsOfBlock 59 = .ok (.if_icmp .ge 29, 3) := by decide +kernel
theorem dX0_rowsOfBlock_62 : decode cX0_rowsOfBlock 62 = .ok (.aload_n 0, 1) := by decide +kernel
theorem dX0_rowsOfBlock_63 : decode cX0_rowsOfBlock 63 = .ok (.getfield 29, 3) := by decide +kernel
theorem dX0_rowsOfBlock_66 : decode cX0_rowsOfBlock 66 = .ok (.iload 5, 2) := by decide +kernel
theorem dX0_rowsOfBlock_68 : decode cX0_rowsOfBlock 68 = .ok (.iaload, 1) := by decide +kernel
theorem dX0_rowsOfBlock_69 : decode cX0_rowsOfBlock 69 = .ok (.iload 4, 2) := by decide +kernel
theorem dX0_rowsOfBlock_71 : decode cX0_rowsOfBlock 71 = .ok (.iand, 1) := by decide +kernel
theorem dX0_rowsOfBlock_72 : decode cX0_rowsOfBlock 72 = .ok (.ifCond .eq 10, 3) := by decide +kernel
theorem dX0_rowsOfBlock_75 : decode cX0_rowsOfBlock 75 = .ok (.iload_n 2, 1) := by decide +kernel
theorem dX0_rowsOfBlock_76 : decode cX0_rowsOfBlock 76 = .ok (.iconst 1, 1) := by decide +kernel
theorem dX0_rowsOfBlock_77 : decode cX0_rowsOfBlock 77 = .ok (.iload 5, 2) := by decide +kernel
theorem dX0_rowsOfBlock_79 : decode cX0_rowsOfBlock 79 = .ok (.ishl, 1) := by decide +kernel
theorem dX0_rowsOfBlock_80 : decode cX0_rowsOfBlock 80 = .ok (.ior, 1) := by decide +kernel
theorem dX0_rowsOfBlock_81 : decode cX0_rowsOfBlock 81 = .ok (.istore_n 2, 1) := by decide +kernel
theorem dX0_rowsOfBlock_82 : decode cX0_rowsOfBlock 82 = .ok (.iinc 5 1, 3) := by decide +kernel
theorem dX0_rowsOfBlock_85 : decode cX0_rowsOfBlock 85 = .ok (.goto (-30), 3) := by decide +kernel
theorem dX0_rowsOfBlock_88 : decode cX0_rowsOfBlock 88 = .ok (.iinc 3 1, 3) := by decide +kernel
theorem dX0_rowsOfBlock_91 : decode cX0_rowsOfBlock 91 = .ok (.goto (-85), 3) := by decide +kernel
theorem dX0_rowsOfBlock_94 : decode cX0_rowsOfBlock 94 = .ok (.iload_n 2, 1) := by decide +kernel
theorem dX0_rowsOfBlock_95 : decode cX0_rowsOfBlock 95 = .ok (.ireturn, 1) := by decide +kernel
abbrev cX0_blockRows : ByteArray := prog_1_method_12_code
def yX0_blockRows : MethodName := ⟨RX0, "blockRows", "(I)I"⟩
theorem dX0_blockRows_0 : decode cX0_blockRows 0 = .ok (.aload_n 0, 1) := by decide +kernel
theorem dX0_blockRows_1 : decode cX0_blockRows 1 = .ok (.iload_n 1, 1) := by decide +kernel
theorem dX0_blockRows_2 : decode cX0_blockRows 2 = .ok (.invokevirtual 32, 3) := by decide +kernel
theorem dX0_blockRows_5 : decode cX0_blockRows 5 = .ok (.ifCond .ne 5, 3) := by decide +kernel
theorem dX0_blockRows_8 : decode cX0_blockRows 8 = .ok (.iconst (-1), 1) := by decide +kernel
theorem dX0_blockRows_9 : decode cX0_blockRows 9 = .ok (.ireturn, 1) := by decide +kernel
theorem dX0_blockRows_10 : decode cX0_blockRows 10 = .ok (.aload_n 0, 1) := by decide +kernel
theorem dX0_blockRows_11 : decode cX0_blockRows 11 = .ok (.invokevirtual 40, 3) := by decide +kernel
theorem dX0_blockRows_14 : decode cX0_blockRows 14 = .ok (.aload_n 0, 1) := by decide +kernel
theorem dX0_blockRows_15 : decode cX0_blockRows 15 = .ok (.getfield 29, 3) := by decide +kernel
theorem dX0_blockRows_18 : decode cX0_blockRows 18 = .ok (.iload_n 1, 1) := by decide +kernel
theorem dX0_blockRows_19 : decode cX0_blockRows 19 = .ok (.iaload, 1) := by decide +kernel
theorem dX0_blockRows_20 : decode cX0_blockRows 20 = .ok (.ifCond .ne 7, 3) := by decide +kernel
theorem dX0_blockRows_23 : decode cX0_blockRows 23 = .ok (.iconst 0, 1) := by decide +kernel
theorem dX0_blockRows_24 : decode cX0_blockRows 24 = .ok (.goto 8, 3) := by decide +kernel
theorem dX0_blockRows_27 : decode cX0_blockRows 27 = .ok (.aload_n 0, 1) := by decide +kernel
theorem dX0_blockRows_28 : decode cX0_blockRows 28 = .ok (.iload_n 1, 1) := by decide +kernel
theorem dX0_blockRows_29 : decode cX0_blockRows 29 = .ok (.invokevirtual 53, 3) := by decide +kernel
theorem dX0_blockRows_32 : decode cX0_blockRows 32 = .ok (.ireturn, 1) := by decide +kernel
abbrev cX0_cover : ByteArray := prog_1_method_13_code
def yX0_cover : MethodName := ⟨RX0, "cover", "()I"⟩
theorem dX0_cover_0 : decode cX0_cover 0 = .ok (.aload_n 0, 1) := by decide +kernel
theorem dX0_cover_1 : decode cX0_cover 1 = .ok (.invokevirtual 40, 3) := by decide +kernel
theorem dX0_cover_4 : decode cX0_cover 4 = .ok (.iconst 0, 1) := by decide +kernel
theorem dX0_cover_5 : decode cX0_cover 5 = .ok (.istore_n 1, 1) := by decide +kernel
theorem dX0_cover_6 : decode cX0_cover 6 = .ok (.iconst 0, 1) := by decide +kernel
theorem dX0_cover_7 : decode cX0_cover 7 = .ok (.istore_n 2, 1) := by decide +kernel
theorem dX0_cover_8 : decode cX0_cover 8 = .ok (.iload_n 2, 1) := by decide +kernel
theorem dX0_cover_9 : decode cX0_cover 9 = .ok (.bipush 7, 2) := by decide +kernel
theorem dX0_cover_11 : decode cX0_cover 11 = .ok (.if_icmp .ge 46, 3) := by decide +kernel
theorem dX0_cover_14 : decode cX0_cover 14 = .ok (.aload_n 0, 1) := by decide +kernel
theorem dX0_cover_15 : decode cX0_cover 15 = .ok (.getfield 7, 3) := by decide +kernel
theorem dX0_cover_18 : decode cX0_cover 18 = .ok (.iload_n 2, 1) := by decide +kernel
theorem dX0_cover_19 : decode cX0_cover 19 = .ok (.iaload, 1) := by decide +kernel
theorem dX0_cover_20 : decode cX0_cover 20 = .ok (.ifCond .eq 17, 3) := by decide +kernel
theorem dX0_cover_23 : decode cX0_cover 23 = .ok (.aload_n 0, 1) := by decide +kernel
theorem dX0_cover_24 : decode cX0_cover 24 = .ok (.getfield 43, 3) := by decide +kernel
theorem dX0_cover_27 : decode cX0_cover 27 = .ok (.iload_n 2, 1) := by decide +kernel
theorem dX0_cover_28 : decode cX0_cover 28 = .ok (.ishr, 1) := by decide +kernel
theorem dX0_cover_29 : decode cX0_cover 29 = .ok (.iconst 1, 1) := by decide +kernel
theorem dX0_cover_30 : decode cX0_cover 30 = .ok (.iand, 1) := by decide +kernel
theorem dX0_cover_31 : decode cX0_cover 31 = .ok (.ifCond .ne 6, 3) := by decide +kernel
theorem dX0_cover_34 : decode cX0_cover 34 = .ok (.iinc 1 1, 3) := by decide +kernel
theorem dX0_cover_37 : decode cX0_cover 37 = .ok (.aload_n 0, 1) := by decide +kernel
theorem dX0_cover_38 : decode cX0_cover 38 = .ok (.getfield 57, 3) := by decide +kernel
theorem dX0_cover_41 : decode cX0_cover 41 = .ok (.iload_n 2, 1) := by decide +kernel
theorem dX0_cover_42 : decode cX0_cover 42 = .ok (.ishr, 1) := by decide +kernel
theorem dX0_cover_43 : decode cX0_cover 43 = .ok (.iconst 1, 1) := by decide +kernel
theorem dX0_cover_44 : decode cX0_cover 44 = .ok (.iand, 1) := by decide +kernel
theorem dX0_cover_45 : decode cX0_cover 45 = .ok (.ifCond .eq 6, 3) := by decide +kernel
theorem dX0_cover_48 : decode cX0_cover 48 = .ok (.iinc 1 1, 3) := by decide +kernel
theorem dX0_cover_51 : decode cX0_cover 51 = .ok (.iinc 2 1, 3) := by decide +kernel
theorem dX0_cover_54 : decode cX0_cover 54 = .ok (.goto (-46), 3) := by decide +kernel
theorem dX0_cover_57 : decode cX0_cover 57 = .ok (.iload_n 1, 1) := by decide +kernel
theorem dX0_cover_58 : decode cX0_cover 58 = .ok (.ireturn, 1) := by decide +kernel
theorem q23 : (Jvm.Cond.initialized "DmDecomposer") ∈ lw_all := lw_g (lw_at lw_m1 1 rfl) rfl
theorem q26 : (Jvm.Cond.instantiable "DmDecomposer" (12 : Nat)) ∈ lw_all := lw_g (lw_at lw_m1 4 rfl) rfl
theorem q28 : (Jvm.Cond.instanceMethod ({ cls := "DmDecomposer", name := "<init>", desc := "()V" } : Jvm.MethodName)) ∈ lw_all := lw_g (lw_at lw_m1 6 rfl) rfl
theorem q29 : (Jvm.Cond.code ({ cls := "DmDecomposer", name := "<init>", desc := "()V" } : Jvm.MethodName) prog_1_method_1_code (2 : Nat) (Option.none : Option Jvm.ClassFile.FieldType)) ∈ lw_all := lw_g (lw_at lw_m1 7 rfl) rfl
theorem q30 : (Jvm.Cond.methodLink "DmDecomposer" (1 : Nat) ({ cls := "java/lang/Object", name := "<init>", desc := "()V" } : Jvm.MethodName)) ∈ lw_all := lw_g (lw_at lw_m1 8 rfl) rfl
theorem q33 : (Jvm.Cond.fieldLink "DmDecomposer" (7 : Nat) "DmDecomposer" "edges" "[I") ∈ lw_all := lw_g (lw_at lw_m1 11 rfl) rfl
theorem q34 : (Jvm.Cond.fieldLink "DmDecomposer" (36 : Nat) "DmDecomposer" "ready" "Z") ∈ lw_all := lw_g (lw_at lw_m1 12 rfl) rfl
theorem q35 : (Jvm.Cond.fieldLink "DmDecomposer" (13 : Nat) "DmDecomposer" "partnerOfRow" "[B") ∈ lw_all := lw_g (lw_at lw_m1 13 rfl) rfl
theorem q36 : (Jvm.Cond.fieldLink "DmDecomposer" (17 : Nat) "DmDecomposer" "partnerOfColumn" "[B") ∈ lw_all := lw_g (lw_at lw_m1 14 rfl) rfl
theorem q37 : (Jvm.Cond.fieldLink "DmDecomposer" (20 : Nat) "DmDecomposer" "queue" "[B") ∈ lw_all := lw_g (lw_at lw_m1 15 rfl) rfl
theorem q38 : (Jvm.Cond.fieldLink "DmDecomposer" (23 : Nat) "DmDecomposer" "cameFrom" "[B") ∈ lw_all := lw_g (lw_at lw_m1 16 rfl) rfl
theorem q39 : (Jvm.Cond.fieldLink "DmDecomposer" (43 : Nat) "DmDecomposer" "rowsFromRows" "I") ∈ lw_all := lw_g (lw_at lw_m1 17 rfl) rfl
theorem q40 : (Jvm.Cond.fieldLink "DmDecomposer" (57 : Nat) "DmDecomposer" "columnsFromRows" "I") ∈ lw_all := lw_g (lw_at lw_m1 18 rfl) rfl
theorem q41 : (Jvm.Cond.fieldLink "DmDecomposer" (85 : Nat) "DmDecomposer" "rowsFromColumns" "I") ∈ lw_all := lw_g (lw_at lw_m1 19 rfl) rfl
theorem q42 : (Jvm.Cond.fieldLink "DmDecomposer" (47 : Nat) "DmDecomposer" "columnsFromColumns" "I") ∈ lw_all := lw_g (lw_at lw_m1 20 rfl) rfl
theorem q43 : (Jvm.Cond.fieldLink "DmDecomposer" (26 : Nat) "DmDecomposer" "reach" "[I") ∈ lw_all := lw_g (lw_at lw_m1 21 rfl) rfl
theorem q44 : (Jvm.Cond.fieldLink "DmDecomposer" (29 : Nat) "DmDecomposer" "usableSet" "[I") ∈ lw_all := lw_g (lw_at lw_m1 22 rfl) rfl
theorem q45 : (Jvm.Cond.laysFinal "DmDecomposer" "DmDecomposer" "edges" "[I") ∈ lw_all := lw_g (lw_at lw_m1 23 rfl) rfl
theorem q46 : (Jvm.Cond.soleField "DmDecomposer" "edges") ∈ lw_all := lw_g (lw_at lw_m1 24 rfl) rfl
theorem q47 : (Jvm.Cond.lays "DmDecomposer" "DmDecomposer" "ready" "Z") ∈ lw_all := lw_g (lw_at lw_m1 25 rfl) rfl
theorem q48 : (Jvm.Cond.soleField "DmDecomposer" "ready") ∈ lw_all := lw_g (lw_at lw_m1 26 rfl) rfl
theorem q49 : (Jvm.Cond.laysFinal "DmDecomposer" "DmDecomposer" "partnerOfRow" "[B") ∈ lw_all := lw_g (lw_at lw_m1 27 rfl) rfl
theorem q50 : (Jvm.Cond.soleField "DmDecomposer" "partnerOfRow") ∈ lw_all := lw_g (lw_at lw_m1 28 rfl) rfl
theorem q51 : (Jvm.Cond.laysFinal "DmDecomposer" "DmDecomposer" "partnerOfColumn" "[B") ∈ lw_all := lw_g (lw_at lw_m1 29 rfl) rfl
theorem q52 : (Jvm.Cond.soleField "DmDecomposer" "partnerOfColumn") ∈ lw_all := lw_g (lw_at lw_m1 30 rfl) rfl
theorem q53 : (Jvm.Cond.laysFinal "DmDecomposer" "DmDecomposer" "queue" "[B") ∈ lw_all := lw_g (lw_at lw_m1 31 rfl) rfl
theorem q54 : (Jvm.Cond.soleField "DmDecomposer" "queue") ∈ lw_all := lw_g (lw_at lw_m1 32 rfl) rfl
theorem q55 : (Jvm.Cond.laysFinal "DmDecomposer" "DmDecomposer" "cameFrom" "[B") ∈ lw_all := lw_g (lw_at lw_m1 33 rfl) rfl
theorem q56 : (Jvm.Cond.soleField "DmDecomposer" "cameFrom") ∈ lw_all := lw_g (lw_at lw_m1 34 rfl) rfl
theorem q57 : (Jvm.Cond.lays "DmDecomposer" "DmDecomposer" "rowsFromRows" "I") ∈ lw_all := lw_g (lw_at lw_m1 35 rfl) rfl
theorem q58 : (Jvm.Cond.soleField "DmDecomposer" "rowsFromRows") ∈ lw_all := lw_g (lw_at lw_m1 36 rfl) rfl
theorem q59 : (Jvm.Cond.lays "DmDecomposer" "DmDecomposer" "columnsFromRows" "I") ∈ lw_all := lw_g (lw_at lw_m1 37 rfl) rfl
theorem q60 : (Jvm.Cond.soleField "DmDecomposer" "columnsFromRows") ∈ lw_all := lw_g (lw_at lw_m1 38 rfl) rfl
theorem q61 : (Jvm.Cond.lays "DmDecomposer" "DmDecomposer" "rowsFromColumns" "I") ∈ lw_all := lw_g (lw_at lw_m1 39 rfl) rfl
theorem q62 : (Jvm.Cond.soleField "DmDecomposer" "rowsFromColumns") ∈ lw_all := lw_g (lw_at lw_m1 40 rfl) rfl
theorem q63 : (Jvm.Cond.lays "DmDecomposer" "DmDecomposer" "columnsFromColumns" "I") ∈ lw_all := lw_g (lw_at lw_m1 41 rfl) rfl
theorem q64 : (Jvm.Cond.soleField "DmDecomposer" "columnsFromColumns") ∈ lw_all := lw_g (lw_at lw_m1 42 rfl) rfl
theorem q65 : (Jvm.Cond.laysFinal "DmDecomposer" "DmDecomposer" "reach" "[I") ∈ lw_all := lw_g (lw_at lw_m1 43 rfl) rfl
theorem q66 : (Jvm.Cond.soleField "DmDecomposer" "reach") ∈ lw_all := lw_g (lw_at lw_m1 44 rfl) rfl
theorem q67 : (Jvm.Cond.laysFinal "DmDecomposer" "DmDecomposer" "usableSet" "[I") ∈ lw_all := lw_g (lw_at lw_m1 45 rfl) rfl
theorem q68 : (Jvm.Cond.soleField "DmDecomposer" "usableSet") ∈ lw_all := lw_g (lw_at lw_m1 46 rfl) rfl
theorem q69 : (Jvm.Cond.superclass "DmDecomposer" "java/lang/Object") ∈ lw_all := lw_g (lw_at lw_m1 47 rfl) rfl
theorem q73 : (Jvm.Cond.instanceMethod ({ cls := "DmDecomposer", name := "edge", desc := "(IIZ)Z" } : Jvm.MethodName)) ∈ lw_all := lw_g (lw_at lw_m1 51 rfl) rfl
theorem q74 : (Jvm.Cond.selects "DmDecomposer" ({ cls := "DmDecomposer", name := "edge", desc := "(IIZ)Z" } : Jvm.MethodName) ({ cls := "DmDecomposer", name := "edge", desc := "(IIZ)Z" } : Jvm.MethodName)) ∈ lw_all := lw_g (lw_at lw_m1 52 rfl) rfl
theorem q75 : (Jvm.Cond.code ({ cls := "DmDecomposer", name := "edge", desc := "(IIZ)Z" } : Jvm.MethodName) prog_1_method_2_code (4 : Nat) (Option.some Jvm.ClassFile.FieldType.boolean)) ∈ lw_all := lw_g (lw_at lw_m1 53 rfl) rfl
theorem q76 : (Jvm.Cond.methodLink "DmDecomposer" (32 : Nat) ({ cls := "DmDecomposer", name := "isNumber", desc := "(I)Z" } : Jvm.MethodName)) ∈ lw_all := lw_g (lw_at lw_m1 54 rfl) rfl
theorem q77 : (Jvm.Cond.privateMethod ({ cls := "DmDecomposer", name := "isNumber", desc := "(I)Z" } : Jvm.MethodName)) ∈ lw_tbl := lw_at lw_m1 55 rfl
theorem q78 : (Jvm.Cond.instanceMethod ({ cls := "DmDecomposer", name := "isNumber", desc := "(I)Z" } : Jvm.MethodName)) ∈ lw_all := lw_g (lw_at lw_m1 56 rfl) rfl
theorem q79 : (Jvm.Cond.code ({ cls := "DmDecomposer", name := "isNumber", desc := "(I)Z" } : Jvm.MethodName) prog_1_method_5_code (2 : Nat) (Option.some Jvm.ClassFile.FieldType.boolean)) ∈ lw_all := lw_g (lw_at lw_m1 57 rfl) rfl
theorem q81 : (Jvm.Cond.instanceMethod ({ cls := "DmDecomposer", name := "row", desc := "(II)Z" } : Jvm.MethodName)) ∈ lw_all := lw_g (lw_at lw_m1 59 rfl) rfl
theorem q82 : (Jvm.Cond.selects "DmDecomposer" ({ cls := "DmDecomposer", name := "row", desc := "(II)Z" } : Jvm.MethodName) ({ cls := "DmDecomposer", name := "row", desc := "(II)Z" } : Jvm.MethodName)) ∈ lw_all := lw_g (lw_at lw_m1 60 rfl) rfl
theorem q83 : (Jvm.Cond.code ({ cls := "DmDecomposer", name := "row", desc := "(II)Z" } : Jvm.MethodName) prog_1_method_3_code (3 : Nat) (Option.some Jvm.ClassFile.FieldType.boolean)) ∈ lw_all := lw_g (lw_at lw_m1 61 rfl) rfl
theorem q85 : (Jvm.Cond.instanceMethod ({ cls := "DmDecomposer", name := "columnsOf", desc := "(I)I" } : Jvm.MethodName)) ∈ lw_all := lw_g (lw_at lw_m1 63 rfl) rfl
theorem q86 : (Jvm.Cond.selects "DmDecomposer" ({ cls := "DmDecomposer", name := "columnsOf", desc := "(I)I" } : Jvm.MethodName) ({ cls := "DmDecomposer", name := "columnsOf", desc := "(I)I" } : Jvm.MethodName)) ∈ lw_all := lw_g (lw_at lw_m1 64 rfl) rfl
theorem q87 : (Jvm.Cond.code ({ cls := "DmDecomposer", name := "columnsOf", desc := "(I)I" } : Jvm.MethodName) prog_1_method_4_code (2 : Nat) (Option.some Jvm.ClassFile.FieldType.int)) ∈ lw_all := lw_g (lw_at lw_m1 65 rfl) rfl
theorem q89 : (Jvm.Cond.instanceMethod ({ cls := "DmDecomposer", name := "largest", desc := "()I" } : Jvm.MethodName)) ∈ lw_all := lw_g (lw_at lw_m1 67 rfl) rfl
theorem q90 : (Jvm.Cond.selects "DmDecomposer" ({ cls := "DmDecomposer", name := "largest", desc := "()I" } : Jvm.MethodName) ({ cls := "DmDecomposer", name := "largest", desc := "()I" } : Jvm.MethodName)) ∈ lw_all := lw_g (lw_at lw_m1 68 rfl) rfl
theorem q91 : (Jvm.Cond.code ({ cls := "DmDecomposer", name := "largest", desc := "()I" } : Jvm.MethodName) prog_1_method_6_code (3 : Nat) (Option.some Jvm.ClassFile.FieldType.int)) ∈ lw_all := lw_g (lw_at lw_m1 69 rfl) rfl
theorem q92 : (Jvm.Cond.methodLink "DmDecomposer" (40 : Nat) ({ cls := "DmDecomposer", name := "prepare", desc := "()V" } : Jvm.MethodName)) ∈ lw_all := lw_g (lw_at lw_m1 70 rfl) rfl
theorem q93 : (Jvm.Cond.privateMethod ({ cls := "DmDecomposer", name := "prepare", desc := "()V" } : Jvm.MethodName)) ∈ lw_tbl := lw_at lw_m1 71 rfl
theorem q94 : (Jvm.Cond.instanceMethod ({ cls := "DmDecomposer", name := "prepare", desc := "()V" } : Jvm.MethodName)) ∈ lw_all := lw_g (lw_at lw_m1 72 rfl) rfl
theorem q95 : (Jvm.Cond.code ({ cls := "DmDecomposer", name := "prepare", desc := "()V" } : Jvm.MethodName) prog_1_method_14_code (4 : Nat) (Option.none : Option Jvm.ClassFile.FieldType)) ∈ lw_all := lw_g (lw_at lw_m1 73 rfl) rfl
theorem q96 : (Jvm.Cond.methodLink "DmDecomposer" (60 : Nat) ({ cls := "DmDecomposer", name := "augment", desc := "(I)Z" } : Jvm.MethodName)) ∈ lw_all := lw_g (lw_at lw_m1 74 rfl) rfl
theorem q97 : (Jvm.Cond.privateMethod ({ cls := "DmDecomposer", name := "augment", desc := "(I)Z" } : Jvm.MethodName)) ∈ lw_tbl := lw_at lw_m1 75 rfl
theorem q98 : (Jvm.Cond.instanceMethod ({ cls := "DmDecomposer", name := "augment", desc := "(I)Z" } : Jvm.MethodName)) ∈ lw_all := lw_g (lw_at lw_m1 76 rfl) rfl
theorem q99 : (Jvm.Cond.code ({ cls := "DmDecomposer", name := "augment", desc := "(I)Z" } : Jvm.MethodName) prog_1_method_15_code (7 : Nat) (Option.some Jvm.ClassFile.FieldType.boolean)) ∈ lw_all := lw_g (lw_at lw_m1 77 rfl) rfl
theorem q100 : (Jvm.Cond.methodLink "DmDecomposer" (69 : Nat) ({ cls := "DmDecomposer", name := "turnPath", desc := "(II)V" } : Jvm.MethodName)) ∈ lw_all := lw_g (lw_at lw_m1 78 rfl) rfl
theorem q101 : (Jvm.Cond.privateMethod ({ cls := "DmDecomposer", name := "turnPath", desc := "(II)V" } : Jvm.MethodName)) ∈ lw_tbl := lw_at lw_m1 79 rfl
theorem q102 : (Jvm.Cond.instanceMethod ({ cls := "DmDecomposer", name := "turnPath", desc := "(II)V" } : Jvm.MethodName)) ∈ lw_all := lw_g (lw_at lw_m1 80 rfl) rfl
theorem q103 : (Jvm.Cond.code ({ cls := "DmDecomposer", name := "turnPath", desc := "(II)V" } : Jvm.MethodName) prog_1_method_16_code (7 : Nat) (Option.none : Option Jvm.ClassFile.FieldType)) ∈ lw_all := lw_g (lw_at lw_m1 81 rfl) rfl
theorem q104 : (Jvm.Cond.methodLink "DmDecomposer" (63 : Nat) ({ cls := "DmDecomposer", name := "findReach", desc := "()V" } : Jvm.MethodName)) ∈ lw_all := lw_g (lw_at lw_m1 82 rfl) rfl
theorem q105 : (Jvm.Cond.privateMethod ({ cls := "DmDecomposer", name := "findReach", desc := "()V" } : Jvm.MethodName)) ∈ lw_tbl := lw_at lw_m1 83 rfl
theorem q106 : (Jvm.Cond.instanceMethod ({ cls := "DmDecomposer", name := "findReach", desc := "()V" } : Jvm.MethodName)) ∈ lw_all := lw_g (lw_at lw_m1 84 rfl) rfl
theorem q107 : (Jvm.Cond.code ({ cls := "DmDecomposer", name := "findReach", desc := "()V" } : Jvm.MethodName) prog_1_method_22_code (3 : Nat) (Option.none : Option Jvm.ClassFile.FieldType)) ∈ lw_all := lw_g (lw_at lw_m1 85 rfl) rfl
theorem q108 : (Jvm.Cond.methodLink "DmDecomposer" (76 : Nat) ({ cls := "DmDecomposer", name := "columnsNextTo", desc := "(I)I" } : Jvm.MethodName)) ∈ lw_all := lw_g (lw_at lw_m1 86 rfl) rfl
theorem q109 : (Jvm.Cond.privateMethod ({ cls := "DmDecomposer", name := "columnsNextTo", desc := "(I)I" } : Jvm.MethodName)) ∈ lw_tbl := lw_at lw_m1 87 rfl
theorem q110 : (Jvm.Cond.instanceMethod ({ cls := "DmDecomposer", name := "columnsNextTo", desc := "(I)I" } : Jvm.MethodName)) ∈ lw_all := lw_g (lw_at lw_m1 88 rfl) rfl
theorem q111 : (Jvm.Cond.code ({ cls := "DmDecomposer", name := "columnsNextTo", desc := "(I)I" } : Jvm.MethodName) prog_1_method_20_code (4 : Nat) (Option.some Jvm.ClassFile.FieldType.int)) ∈ lw_all := lw_g (lw_at lw_m1 89 rfl) rfl
theorem q112 : (Jvm.Cond.methodLink "DmDecomposer" (79 : Nat) ({ cls := "DmDecomposer", name := "partnersOfColumns", desc := "(I)I" } : Jvm.MethodName)) ∈ lw_all := lw_g (lw_at lw_m1 90 rfl) rfl
theorem q113 : (Jvm.Cond.privateMethod ({ cls := "DmDecomposer", name := "partnersOfColumns", desc := "(I)I" } : Jvm.MethodName)) ∈ lw_tbl := lw_at lw_m1 91 rfl
theorem q114 : (Jvm.Cond.instanceMethod ({ cls := "DmDecomposer", name := "partnersOfColumns", desc := "(I)I" } : Jvm.MethodName)) ∈ lw_all := lw_g (lw_at lw_m1 92 rfl) rfl
theorem q115 : (Jvm.Cond.code ({ cls := "DmDecomposer", name := "partnersOfColumns", desc := "(I)I" } : Jvm.MethodName) prog_1_method_18_code (4 : Nat) (Option.some Jvm.ClassFile.FieldType.int)) ∈ lw_all := lw_g (lw_at lw_m1 93 rfl) rfl
theorem q116 : (Jvm.Cond.methodLink "DmDecomposer" (82 : Nat) ({ cls := "DmDecomposer", name := "rowsNextTo", desc := "(I)I" } : Jvm.MethodName)) ∈ lw_all := lw_g (lw_at lw_m1 94 rfl) rfl
theorem q117 : (Jvm.Cond.privateMethod ({ cls := "DmDecomposer", name := "rowsNextTo", desc := "(I)I" } : Jvm.MethodName)) ∈ lw_tbl := lw_at lw_m1 95 rfl
theorem q118 : (Jvm.Cond.instanceMethod ({ cls := "DmDecomposer", name := "rowsNextTo", desc := "(I)I" } : Jvm.MethodName)) ∈ lw_all := lw_g (lw_at lw_m1 96 rfl) rfl
theorem q119 : (Jvm.Cond.code ({ cls := "DmDecomposer", name := "rowsNextTo", desc := "(I)I" } : Jvm.MethodName) prog_1_method_21_code (4 : Nat) (Option.some Jvm.ClassFile.FieldType.int)) ∈ lw_all := lw_g (lw_at lw_m1 97 rfl) rfl
theorem q120 : (Jvm.Cond.methodLink "DmDecomposer" (73 : Nat) ({ cls := "DmDecomposer", name := "rowsWithEdgeTo", desc := "(I)I" } : Jvm.MethodName)) ∈ lw_all := lw_g (lw_at lw_m1 98 rfl) rfl
theorem q121 : (Jvm.Cond.privateMethod ({ cls := "DmDecomposer", name := "rowsWithEdgeTo", desc := "(I)I" } : Jvm.MethodName)) ∈ lw_tbl := lw_at lw_m1 99 rfl
theorem q122 : (Jvm.Cond.instanceMethod ({ cls := "DmDecomposer", name := "rowsWithEdgeTo", desc := "(I)I" } : Jvm.MethodName)) ∈ lw_all := lw_g (lw_at lw_m1 100 rfl) rfl
theorem q123 : (Jvm.Cond.code ({ cls := "DmDecomposer", name := "rowsWithEdgeTo", desc := "(I)I" } : Jvm.MethodName) prog_1_method_17_code (4 : Nat) (Option.some Jvm.ClassFile.FieldType.int)) ∈ lw_all := lw_g (lw_at lw_m1 101 rfl) rfl
theorem q124 : (Jvm.Cond.methodLink "DmDecomposer" (88 : Nat) ({ cls := "DmDecomposer", name := "partnersOfRows", desc := "(I)I" } : Jvm.MethodName)) ∈ lw_all := lw_g (lw_at lw_m1 102 rfl) rfl
theorem q125 : (Jvm.Cond.privateMethod ({ cls := "DmDecomposer", name := "partnersOfRows", desc := "(I)I" } : Jvm.MethodName)) ∈ lw_tbl := lw_at lw_m1 103 rfl
theorem q126 : (Jvm.Cond.instanceMethod ({ cls := "DmDecomposer", name := "partnersOfRows", desc := "(I)I" } : Jvm.MethodName)) ∈ lw_all := lw_g (lw_at lw_m1 104 rfl) rfl
theorem q127 : (Jvm.Cond.code ({ cls := "DmDecomposer", name := "partnersOfRows", desc := "(I)I" } : Jvm.MethodName) prog_1_method_19_code (4 : Nat) (Option.some Jvm.ClassFile.FieldType.int)) ∈ lw_all := lw_g (lw_at lw_m1 105 rfl) rfl
theorem q128 : (Jvm.Cond.methodLink "DmDecomposer" (66 : Nat) ({ cls := "DmDecomposer", name := "findUsable", desc := "()V" } : Jvm.MethodName)) ∈ lw_all := lw_g (lw_at lw_m1 106 rfl) rfl
theorem q129 : (Jvm.Cond.privateMethod ({ cls := "DmDecomposer", name := "findUsable", desc := "()V" } : Jvm.MethodName)) ∈ lw_tbl := lw_at lw_m1 107 rfl
theorem q130 : (Jvm.Cond.instanceMethod ({ cls := "DmDecomposer", name := "findUsable", desc := "()V" } : Jvm.MethodName)) ∈ lw_all := lw_g (lw_at lw_m1 108 rfl) rfl
theorem q131 : (Jvm.Cond.code ({ cls := "DmDecomposer", name := "findUsable", desc := "()V" } : Jvm.MethodName) prog_1_method_23_code (3 : Nat) (Option.none : Option Jvm.ClassFile.FieldType)) ∈ lw_all := lw_g (lw_at lw_m1 109 rfl) rfl
theorem q132 : (Jvm.Cond.methodLink "DmDecomposer" (91 : Nat) ({ cls := "DmDecomposer", name := "isUsable", desc := "(II)Z" } : Jvm.MethodName)) ∈ lw_all := lw_g (lw_at lw_m1 110 rfl) rfl
theorem q133 : (Jvm.Cond.privateMethod ({ cls := "DmDecomposer", name := "isUsable", desc := "(II)Z" } : Jvm.MethodName)) ∈ lw_tbl := lw_at lw_m1 111 rfl
theorem q134 : (Jvm.Cond.instanceMethod ({ cls := "DmDecomposer", name := "isUsable", desc := "(II)Z" } : Jvm.MethodName)) ∈ lw_all := lw_g (lw_at lw_m1 112 rfl) rfl
theorem q135 : (Jvm.Cond.code ({ cls := "DmDecomposer", name := "isUsable", desc := "(II)Z" } : Jvm.MethodName) prog_1_method_24_code (4 : Nat) (Option.some Jvm.ClassFile.FieldType.boolean)) ∈ lw_all := lw_g (lw_at lw_m1 113 rfl) rfl
theorem q137 : (Jvm.Cond.instanceMethod ({ cls := "DmDecomposer", name := "looseRows", desc := "()I" } : Jvm.MethodName)) ∈ lw_all := lw_g (lw_at lw_m1 115 rfl) rfl
theorem q138 : (Jvm.Cond.selects "DmDecomposer" ({ cls := "DmDecomposer", name := "looseRows", desc := "()I" } : Jvm.MethodName) ({ cls := "DmDecomposer", name := "looseRows", desc := "()I" } : Jvm.MethodName)) ∈ lw_all := lw_g (lw_at lw_m1 116 rfl) rfl
theorem q139 : (Jvm.Cond.code ({ cls := "DmDecomposer", name := "looseRows", desc := "()I" } : Jvm.MethodName) prog_1_method_7_code (1 : Nat) (Option.some Jvm.ClassFile.FieldType.int)) ∈ lw_all := lw_g (lw_at lw_m1 117 rfl) rfl
theorem q141 : (Jvm.Cond.instanceMethod ({ cls := "DmDecomposer", name := "looseColumns", desc := "()I" } : Jvm.MethodName)) ∈ lw_all := lw_g (lw_at lw_m1 119 rfl) rfl
theorem q142 : (Jvm.Cond.selects "DmDecomposer" ({ cls := "DmDecomposer", name := "looseColumns", desc := "()I" } : Jvm.MethodName) ({ cls := "DmDecomposer", name := "looseColumns", desc := "()I" } : Jvm.MethodName)) ∈ lw_all := lw_g (lw_at lw_m1 120 rfl) rfl
theorem q143 : (Jvm.Cond.code ({ cls := "DmDecomposer", name := "looseColumns", desc := "()I" } : Jvm.MethodName) prog_1_method_8_code (1 : Nat) (Option.some Jvm.ClassFile.FieldType.int)) ∈ lw_all := lw_g (lw_at lw_m1 121 rfl) rfl
theorem q145 : (Jvm.Cond.instanceMethod ({ cls := "DmDecomposer", name := "usable", desc := "(I)I" } : Jvm.MethodName)) ∈ lw_all := lw_g (lw_at lw_m1 123 rfl) rfl
theorem q146 : (Jvm.Cond.selects "DmDecomposer" ({ cls := "DmDecomposer", name := "usable", desc := "(I)I" } : Jvm.MethodName) ({ cls := "DmDecomposer", name := "usable", desc := "(I)I" } : Jvm.MethodName)) ∈ lw_all := lw_g (lw_at lw_m1 124 rfl) rfl
theorem q147 : (Jvm.Cond.code ({ cls := "DmDecomposer", name := "usable", desc := "(I)I" } : Jvm.MethodName) prog_1_method_9_code (2 : Nat) (Option.some Jvm.ClassFile.FieldType.int)) ∈ lw_all := lw_g (lw_at lw_m1 125 rfl) rfl
theorem q149 : (Jvm.Cond.instanceMethod ({ cls := "DmDecomposer", name := "forced", desc := "(I)I" } : Jvm.MethodName)) ∈ lw_all := lw_g (lw_at lw_m1 127 rfl) rfl
theorem q150 : (Jvm.Cond.selects "DmDecomposer" ({ cls := "DmDecomposer", name := "forced", desc := "(I)I" } : Jvm.MethodName) ({ cls := "DmDecomposer", name := "forced", desc := "(I)I" } : Jvm.MethodName)) ∈ lw_all := lw_g (lw_at lw_m1 128 rfl) rfl
theorem q151 : (Jvm.Cond.code ({ cls := "DmDecomposer", name := "forced", desc := "(I)I" } : Jvm.MethodName) prog_1_method_10_code (2 : Nat) (Option.some Jvm.ClassFile.FieldType.int)) ∈ lw_all := lw_g (lw_at lw_m1 129 rfl) rfl
theorem q152 : (Jvm.Cond.methodLink "DmDecomposer" (50 : Nat) ({ cls := "DmDecomposer", name := "isForced", desc := "(I)Z" } : Jvm.MethodName)) ∈ lw_all := lw_g (lw_at lw_m1 130 rfl) rfl
theorem q153 : (Jvm.Cond.privateMethod ({ cls := "DmDecomposer", name := "isForced", desc := "(I)Z" } : Jvm.MethodName)) ∈ lw_tbl := lw_at lw_m1 131 rfl
theorem q154 : (Jvm.Cond.instanceMethod ({ cls := "DmDecomposer", name := "isForced", desc := "(I)Z" } : Jvm.MethodName)) ∈ lw_all := lw_g (lw_at lw_m1 132 rfl) rfl
theorem q155 : (Jvm.Cond.code ({ cls := "DmDecomposer", name := "isForced", desc := "(I)Z" } : Jvm.MethodName) prog_1_method_25_code (3 : Nat) (Option.some Jvm.ClassFile.FieldType.boolean)) ∈ lw_all := lw_g (lw_at lw_m1 133 rfl) rfl
theorem q157 : (Jvm.Cond.instanceMethod ({ cls := "DmDecomposer", name := "blocks", desc := "()I" } : Jvm.MethodName)) ∈ lw_all := lw_g (lw_at lw_m1 135 rfl) rfl
theorem q158 : (Jvm.Cond.selects "DmDecomposer" ({ cls := "DmDecomposer", name := "blocks", desc := "()I" } : Jvm.MethodName) ({ cls := "DmDecomposer", name := "blocks", desc := "()I" } : Jvm.MethodName)) ∈ lw_all := lw_g (lw_at lw_m1 136 rfl) rfl
theorem q159 : (Jvm.Cond.code ({ cls := "DmDecomposer", name := "blocks", desc := "()I" } : Jvm.MethodName) prog_1_method_11_code (4 : Nat) (Option.some Jvm.ClassFile.FieldType.int)) ∈ lw_all := lw_g (lw_at lw_m1 137 rfl) rfl
theorem q160 : (Jvm.Cond.methodLink "DmDecomposer" (53 : Nat) ({ cls := "DmDecomposer", name := "rowsOfBlock", desc := "(I)I" } : Jvm.MethodName)) ∈ lw_all := lw_g (lw_at lw_m1 138 rfl) rfl
theorem q161 : (Jvm.Cond.privateMethod ({ cls := "DmDecomposer", name := "rowsOfBlock", desc := "(I)I" } : Jvm.MethodName)) ∈ lw_tbl := lw_at lw_m1 139 rfl
theorem q162 : (Jvm.Cond.instanceMethod ({ cls := "DmDecomposer", name := "rowsOfBlock", desc := "(I)I" } : Jvm.MethodName)) ∈ lw_all := lw_g (lw_at lw_m1 140 rfl) rfl
theorem q163 : (Jvm.Cond.code ({ cls := "DmDecomposer", name := "rowsOfBlock", desc := "(I)I" } : Jvm.MethodName) prog_1_method_26_code (6 : Nat) (Option.some Jvm.ClassFile.FieldType.int)) ∈ lw_all := lw_g (lw_at lw_m1 141 rfl) rfl
theorem q165 : (Jvm.Cond.instanceMethod ({ cls := "DmDecomposer", name := "blockRows", desc := "(I)I" } : Jvm.MethodName)) ∈ lw_all := lw_g (lw_at lw_m1 143 rfl) rfl
theorem q166 : (Jvm.Cond.selects "DmDecomposer" ({ cls := "DmDecomposer", name := "blockRows", desc := "(I)I" } : Jvm.MethodName) ({ cls := "DmDecomposer", name := "blockRows", desc := "(I)I" } : Jvm.MethodName)) ∈ lw_all := lw_g (lw_at lw_m1 144 rfl) rfl
theorem q167 : (Jvm.Cond.code ({ cls := "DmDecomposer", name := "blockRows", desc := "(I)I" } : Jvm.MethodName) prog_1_method_12_code (2 : Nat) (Option.some Jvm.ClassFile.FieldType.int)) ∈ lw_all := lw_g (lw_at lw_m1 145 rfl) rfl
theorem q169 : (Jvm.Cond.instanceMethod ({ cls := "DmDecomposer", name := "cover", desc := "()I" } : Jvm.MethodName)) ∈ lw_all := lw_g (lw_at lw_m1 147 rfl) rfl
theorem q170 : (Jvm.Cond.selects "DmDecomposer" ({ cls := "DmDecomposer", name := "cover", desc := "()I" } : Jvm.MethodName) ({ cls := "DmDecomposer", name := "cover", desc := "()I" } : Jvm.MethodName)) ∈ lw_all := lw_g (lw_at lw_m1 148 rfl) rfl
theorem q171 : (Jvm.Cond.code ({ cls := "DmDecomposer", name := "cover", desc := "()I" } : Jvm.MethodName) prog_1_method_13_code (3 : Nat) (Option.some Jvm.ClassFile.FieldType.int)) ∈ lw_all := lw_g (lw_at lw_m1 149 rfl) rfl
theorem in_X0 : ∀ w ∈ wsX00, w ∈ lw_all := lw_in wsX00 [45, 47, 49, 51, 53, 55, 57, 59, 61, 63, 65, 67] (by decide +kernel) (by decide +kernel)
end
section
/-! DmDecomposerModel -/
set_option maxRecDepth 100000
def RX1 : String := "DmDecomposerModel"
def TX1 : u_T := fun k => match k with
  | 0 => ("DmDecomposerModel", "rows", "[I", false)
  | 1 => ("DmDecomposerModel", "can", "[Z", false)
  | 2 => ("DmDecomposerModel", "then", "[Z", false)
  | _ => ("DmDecomposerModel", "good", "[I", false)
def tyX1 : Nat → FieldType := fun k => match k with
  | 0 => .array .int
  | 1 => .array .boolean
  | 2 => .array .boolean
  | _ => .array .int
abbrev wsX10 : List Cond := u_ws RX1 TX1 4
theorem nmX1 : ∀ a, a < 4 → ∀ b, b < 4 → a ≠ b → (TX1 a).2.1 ≠ (TX1 b).2.1 := by decide +kernel
theorem tyX1_ok : ∀ k, k < 4 → parseFieldDescriptor (TX1 k).2.2.1 = some (tyX1 k) := by decide +kernel
abbrev cX1_init : ByteArray := prog_3_method_1_code
def yX1_init : MethodName := ⟨RX1, "<init>", "()V"⟩
theorem dX1_init_0 : decode cX1_init 0 = .ok (.aload_n 0, 1) := by decide +kernel
theorem dX1_init_1 : decode cX1_init 1 = .ok (.invokespecial 1, 3) := by decide +kernel
theorem dX1_init_4 : decode cX1_init 4 = .ok (.aload_n 0, 1) := by decide +kernel
theorem dX1_init_5 : decode cX1_init 5 = .ok (.bipush 7, 2) := by decide +kernel
theorem dX1_init_7 : decode cX1_init 7 = .ok (.newarray .int, 2) := by decide +kernel
theorem dX1_init_9 : decode cX1_init 9 = .ok (.putfield 7, 3) := by decide +kernel
theorem dX1_init_12 : decode cX1_init 12 = .ok (.aload_n 0, 1) := by decide +kernel
theorem dX1_init_13 : decode cX1_init 13 = .ok (.sipush 128, 3) := by decide +kernel
theorem dX1_init_16 : decode cX1_init 16 = .ok (.newarray .boolean, 2) := by decide +kernel
theorem dX1_init_18 : decode cX1_init 18 = .ok (.putfield 13, 3) := by decide +kernel
theorem dX1_init_21 : decode cX1_init 21 = .ok (.aload_n 0, 1) := by decide +kernel
theorem dX1_init_22 : decode cX1_init 22 = .ok (.sipush 128, 3) := by decide +kernel
theorem dX1_init_25 : decode cX1_init 25 = .ok (.newarray .boolean, 2) := by decide +kernel
theorem dX1_init_27 : decode cX1_init 27 = .ok (.putfield 17, 3) := by decide +kernel
theorem dX1_init_30 : decode cX1_init 30 = .ok (.aload_n 0, 1) := by decide +kernel
theorem dX1_init_31 : decode cX1_init 31 = .ok (.bipush 7, 2) := by decide +kernel
theorem dX1_init_33 : decode cX1_init 33 = .ok (.newarray .int, 2) := by decide +kernel
theorem dX1_init_35 : decode cX1_init 35 = .ok (.putfield 20, 3) := by decide +kernel
theorem dX1_init_38 : decode cX1_init 38 = .ok (.return_, 1) := by decide +kernel
abbrev cX1_edge : ByteArray := prog_3_method_4_code
def yX1_edge : MethodName := ⟨RX1, "edge", "(IIZ)Z"⟩
theorem dX1_edge_0 : decode cX1_edge 0 = .ok (.aload_n 0, 1) := by decide +kernel
theorem dX1_edge_1 : decode cX1_edge 1 = .ok (.iload_n 1, 1) := by decide +kernel
theorem dX1_edge_2 : decode cX1_edge 2 = .ok (.invokevirtual 23, 3) := by decide +kernel
theorem dX1_edge_5 : decode cX1_edge 5 = .ok (.ifCond .eq 11, 3) := by decide +kernel
theorem dX1_edge_8 : decode cX1_edge 8 = .ok (.aload_n 0, 1) := by decide +kernel
theorem dX1_edge_9 : decode cX1_edge 9 = .ok (.iload_n 2, 1) := by decide +kernel
theorem dX1_edge_10 : decode cX1_edge 10 = .ok (.invokevirtual 23, 3) := by decide +kernel
theorem dX1_edge_13 : decode cX1_edge 13 = .ok (.ifCond .ne 5, 3) := by decide +kernel
theorem dX1_edge_16 : decode cX1_edge 16 = .ok (.iconst 0, 1) := by decide +kernel
theorem dX1_edge_17 : decode cX1_edge 17 = .ok (.ireturn, 1) := by decide +kernel
theorem dX1_edge_18 : decode cX1_edge 18 = .ok (.aload_n 0, 1) := by decide +kernel
theorem dX1_edge_19 : decode cX1_edge 19 = .ok (.getfield 7, 3) := by decide +kernel
theorem dX1_edge_22 : decode cX1_edge 22 = .ok (.iload_n 1, 1) := by decide +kernel
theorem dX1_edge_23 : decode cX1_edge 23 = .ok (.iload_n 3, 1) := by decide +kernel
theorem dX1_edge_24 : decode cX1_edge 24 = .ok (.ifCond .eq 16, 3) := by decide +kernel
theorem dX1_edge_27 : decode cX1_edge 27 = .ok (.aload_n 0, 1) := by decide +kernel
theorem dX1_edge_28 : decode cX1_edge 28 = .ok (.getfield 7, 3) := by decide +kernel
theorem dX1_edge_31 : decode cX1_edge 31 = .ok (.iload_n 1, 1) := by decide +kernel
theorem dX1_edge_32 : decode cX1_edge 32 = .ok (.iaload, 1) := by decide +kernel
theorem dX1_edge_33 : decode cX1_edge 33 = .ok (.iconst 1, 1) := by decide +kernel
theorem dX1_edge_34 : decode cX1_edge 34 = .ok (.iload_n 2, 1) := by decide +kernel
theorem dX1_edge_35 : decode cX1_edge 35 = .ok (.ishl, 1) := by decide +kernel
theorem dX1_edge_36 : decode cX1_edge 36 = .ok (.ior, 1) := by decide +kernel
theorem dX1_edge_37 : decode cX1_edge 37 = .ok (.goto 15, 3) := by decide +kernel
theorem dX1_edge_40 : decode cX1_edge 40 = .ok (.aload_n 0, 1) := by decide +kernel
theorem dX1_edge_41 : decode cX1_edge 41 = .ok (.getfield 7, 3) := by decide +kernel
theorem dX1_edge_44 : decode cX1_edge 44 = .ok (.iload_n 1, 1) := by decide +kernel
theorem dX1_edge_45 : decode cX1_edge 45 = .ok (.iaload, 1) := by decide +kernel
theorem dX1_edge_46 : decode cX1_edge 46 = .ok (.iconst 1, 1) := by decide +kernel
theorem dX1_edge_47 : decode cX1_edge 47 = .ok (.iload_n 2, 1) := by decide +kernel
theorem dX1_edge_48 : decode cX1_edge 48 = .ok (.ishl, 1) := by decide +kernel
theorem dX1_edge_49 : decode cX1_edge 49 = .ok (.iconst (-1), 1) := by decide +kernel
theorem dX1_edge_50 : decode cX1_edge 50 = .ok (.ixor, 1) := by decide +kernel
theorem dX1_edge_51 : decode cX1_edge 51 = .ok (.iand, 1) := by decide +kernel
theorem dX1_edge_52 : decode cX1_edge 52 = .ok (.iastore, 1) := by decide +kernel
theorem dX1_edge_53 : decode cX1_edge 53 = .ok (.iconst 1, 1) := by decide +kernel
theorem dX1_edge_54 : decode cX1_edge 54 = .ok (.ireturn, 1) := by decide +kernel
abbrev cX1_isPlace : ByteArray := prog_3_method_2_code
def yX1_isPlace : MethodName := ⟨RX1, "isPlace", "(I)Z"⟩
theorem dX1_isPlace_0 : decode cX1_isPlace 0 = .ok (.iload_n 1, 1) := by decide +kernel
theorem dX1_isPlace_1 : decode cX1_isPlace 1 = .ok (.ifCond .lt 13, 3) := by decide +kernel
theorem dX1_isPlace_4 : decode cX1_isPlace 4 = .ok (.iload_n 1, 1) := by decide +kernel
theorem dX1_isPlace_5 : decode cX1_isPlace 5 = .ok (.bipush 6, 2) := by decide +kernel
theorem dX1_isPlace_7 : decode cX1_isPlace 7 = .ok (.if_icmp .gt 7, 3) := by decide +kernel
theorem dX1_isPlace_10 : decode cX1_isPlace 10 = .ok (.iconst 1, 1) := by decide +kernel
theorem dX1_isPlace_11 : decode cX1_isPlace 11 = .ok (.goto 4, 3) := by decide +kernel
theorem dX1_isPlace_14 : decode cX1_isPlace 14 = .ok (.iconst 0, 1) := by decide +kernel
theorem dX1_isPlace_15 : decode cX1_isPlace 15 = .ok (.ireturn, 1) := by decide +kernel
abbrev cX1_row : ByteArray := prog_3_method_5_code
def yX1_row : MethodName := ⟨RX1, "row", "(II)Z"⟩
theorem dX1_row_0 : decode cX1_row 0 = .ok (.aload_n 0, 1) := by decide +kernel
theorem dX1_row_1 : decode cX1_row 1 = .ok (.iload_n 1, 1) := by decide +kernel
theorem dX1_row_2 : decode cX1_row 2 = .ok (.invokevirtual 23, 3) := by decide +kernel
theorem dX1_row_5 : decode cX1_row 5 = .ok (.ifCond .eq 13, 3) := by decide +kernel
theorem dX1_row_8 : decode cX1_row 8 = .ok (.iload_n 2, 1) := by decide +kernel
theorem dX1_row_9 : decode cX1_row 9 = .ok (.ifCond .lt 9, 3) := by decide +kernel
theorem dX1_row_12 : decode cX1_row 12 = .ok (.iload_n 2, 1) := by decide +kernel
theorem dX1_row_13 : decode cX1_row 13 = .ok (.bipush 127, 2) := by decide +kernel
theorem dX1_row_15 : decode cX1_row 15 = .ok (.if_icmp .le 5, 3) := by decide +kernel
theorem dX1_row_18 : decode cX1_row 18 = .ok (.iconst 0, 1) := by decide +kernel
theorem dX1_row_19 : decode cX1_row 19 = .ok (.ireturn, 1) := by decide +kernel
theorem dX1_row_20 : decode cX1_row 20 = .ok (.aload_n 0, 1) := by decide +kernel
theorem dX1_row_21 : decode cX1_row 21 = .ok (.getfield 7, 3) := by decide +kernel
theorem dX1_row_24 : decode cX1_row 24 = .ok (.iload_n 1, 1) := by decide +kernel
theorem dX1_row_25 : decode cX1_row 25 = .ok (.iload_n 2, 1) := by decide +kernel
theorem dX1_row_26 : decode cX1_row 26 = .ok (.iastore, 1) := by decide +kernel
theorem dX1_row_27 : decode cX1_row 27 = .ok (.iconst 1, 1) := by decide +kernel
theorem dX1_row_28 : decode cX1_row 28 = .ok (.ireturn, 1) := by decide +kernel
abbrev cX1_columnsOf : ByteArray := prog_3_method_6_code
def yX1_columnsOf : MethodName := ⟨RX1, "columnsOf", "(I)I"⟩
theorem dX1_columnsOf_0 : decode cX1_columnsOf 0 = .ok (.aload_n 0, 1) := by decide +kernel
theorem dX1_columnsOf_1 : decode cX1_columnsOf 1 = .ok (.iload_n 1, 1) := by decide +kernel
theorem dX1_columnsOf_2 : decode cX1_columnsOf 2 = .ok (.invokevirtual 23, 3) := by decide +kernel
theorem dX1_columnsOf_5 : decode cX1_columnsOf 5 = .ok (.ifCond .eq 12, 3) := by decide +kernel
theorem dX1_columnsOf_8 : decode cX1_columnsOf 8 = .ok (.aload_n 0, 1) := by decide +kernel
theorem dX1_columnsOf_9 : decode cX1_columnsOf 9 = .ok (.getfield 7, 3) := by decide +kernel
theorem dX1_columnsOf_12 : decode cX1_columnsOf 12 = .ok (.iload_n 1, 1) := by decide +kernel
theorem dX1_columnsOf_13 : decode cX1_columnsOf 13 = .ok (.iaload, 1) := by decide +kernel
theorem dX1_columnsOf_14 : decode cX1_columnsOf 14 = .ok (.goto 4, 3) := by decide +kernel
theorem dX1_columnsOf_17 : decode cX1_columnsOf 17 = .ok (.iconst (-1), 1) := by decide +kernel
theorem dX1_columnsOf_18 : decode cX1_columnsOf 18 = .ok (.ireturn, 1) := by decide +kernel
abbrev cX1_largest : ByteArray := prog_3_method_10_code
def yX1_largest : MethodName := ⟨RX1, "largest", "()I"⟩
theorem dX1_largest_0 : decode cX1_largest 0 = .ok (.aload_n 0, 1) := by decide +kernel
theorem dX1_largest_1 : decode cX1_largest 1 = .ok (.bipush 7, 2) := by decide +kernel
theorem dX1_largest_3 : decode cX1_largest 3 = .ok (.bipush 7, 2) := by decide +kernel
theorem dX1_largest_5 : decode cX1_largest 5 = .ok (.bipush 7, 2) := by decide +kernel
theorem dX1_largest_7 : decode cX1_largest 7 = .ok (.bipush 7, 2) := by decide +kernel
theorem dX1_largest_9 : decode cX1_largest 9 = .ok (.invokevirtual 39, 3) := by decide +kernel
theorem dX1_largest_12 : decode cX1_largest 12 = .ok (.ireturn, 1) := by decide +kernel
abbrev cX1_sizeWithout : ByteArray := prog_3_method_9_code
def yX1_sizeWithout : MethodName := ⟨RX1, "sizeWithout", "(IIII)I"⟩
theorem dX1_sizeWithout_0 : decode cX1_sizeWithout 0 = .ok (.iconst 0, 1) := by decide +kernel
theorem dX1_sizeWithout_1 : decode cX1_sizeWithout 1 = .ok (.istore 5, 2) := by decide +kernel
theorem dX1_sizeWithout_3 : decode cX1_sizeWithout 3 = .ok (.iload 5, 2) := by decide +kernel
theorem dX1_sizeWithout_5 : decode cX1_sizeWithout 5 = .ok (.sipush 128, 3) := by decide +kernel
theorem dX1_sizeWithout_8 : decode cX1_sizeWithout 8 = .ok (.if_icmp .ge 26, 3) := by decide +kernel
theorem dX1_sizeWithout_11 : decode cX1_sizeWithout 11 = .ok (.aload_n 0, 1) := by decide +kernel
theorem dX1_sizeWithout_12 : decode cX1_sizeWithout 12 = .ok (.getfield 13, 3) := by decide +kernel
theorem dX1_sizeWithout_15 : decode cX1_sizeWithout 15 = .ok (.iload 5, 2) := by decide +kernel
theorem dX1_sizeWithout_17 : decode cX1_sizeWithout 17 = .ok (.iload 5, 2) := by decide +kernel
theorem dX1_sizeWithout_19 : decode cX1_sizeWithout 19 = .ok (.ifCond .ne 7, 3) := by decide +kernel
theorem dX1_sizeWithout_22 : decode cX1_sizeWithout 22 = .ok (.iconst 1, 1) := by decide +kernel
theorem dX1_sizeWithout_23 : decode cX1_sizeWithout 23 = .ok (.goto 4, 3) := by decide +kernel
theorem dX1_sizeWithout_26 : decode cX1_sizeWithout 26 = .ok (.iconst 0, 1) := by decide +kernel
theorem dX1_sizeWithout_27 : decode cX1_sizeWithout 27 = .ok (.bastore, 1) := by decide +kernel
theorem dX1_sizeWithout_28 : decode cX1_sizeWithout 28 = .ok (.iinc 5 1, 3) := by decide +kernel
theorem dX1_sizeWithout_31 : decode cX1_sizeWithout 31 = .ok (.goto (-28), 3) := by decide +kernel
theorem dX1_sizeWithout_34 : decode cX1_sizeWithout 34 = .ok (.iconst 0, 1) := by decide +kernel
theorem dX1_sizeWithout_35 : decode cX1_sizeWithout 35 = .ok (.istore 5, 2) := by decide +kernel
theorem dX1_sizeWithout_37 : decode cX1_sizeWithout 37 = .ok (.iload 5, 2) := by decide +kernel
theorem dX1_sizeWithout_39 : decode cX1_sizeWithout 39 = .ok (.bipush 7, 2) := by decide +kernel
theorem dX1_sizeWithout_41 : decode cX1_sizeWithout 41 = .ok (.if_icmp .ge 58, 3) := by decide +kernel
theorem dX1_sizeWithout_44 : decode cX1_sizeWithout 44 = .ok (.aload_n 0, 1) := by decide +kernel
theorem dX1_sizeWithout_45 : decode cX1_sizeWithout 45 = .ok (.getfield 7, 3) := by decide +kernel
theorem dX1_sizeWithout_48 : decode cX1_sizeWithout 48 = .ok (.iload 5, 2) := by decide +kernel
theorem dX1_sizeWithout_50 : decode cX1_sizeWithout 50 = .ok (.iaload, 1) := by decide +kernel
theorem dX1_sizeWithout_51 : decode cX1_sizeWithout 51 = .ok (.iconst 1, 1) := by decide +kernel
theorem dX1_sizeWithout_52 : decode cX1_sizeWithout 52 = .ok (.iload_n 2, 1) := by decide +kernel
theorem dX1_sizeWithout_53 : decode cX1_sizeWithout 53 = .ok (.ishl, 1) := by decide +kernel
theorem dX1_sizeWithout_54 : decode cX1_sizeWithout 54 = .ok (.iconst (-1), 1) := by decide +kernel
theorem dX1_sizeWithout_55 : decode cX1_sizeWithout 55 = .ok (.ixor, 1) := by decide +kernel
theorem dX1_sizeWithout_56 : decode cX1_sizeWithout 56 = .ok (.iand, 1) := by decide +kernel
theorem dX1_sizeWithout_57 : decode cX1_sizeWithout 57 = .ok (.istore 6, 2) := by decide +kernel
theorem dX1_sizeWithout_59 : decode cX1_sizeWithout 59 = .ok (.iload 5, 2) := by decide +kernel
theorem dX1_sizeWithout_61 : decode cX1_sizeWithout 61 = .ok (.iload_n 3, 1) := by decide +kernel
theorem dX1_sizeWithout_62 : decode cX1_sizeWithout 62 = .ok (.if_icmp .ne 14, 3) := by decide +kernel
theorem dX1_sizeWithout_65 : decode cX1_sizeWithout 65 = .ok (.iload 6, 2) := by decide +kernel
theorem dX1_sizeWithout_67 : decode cX1_sizeWithout 67 = .ok (.iconst 1, 1) := by decide +kernel
theorem dX1_sizeWithout_68 : decode cX1_sizeWithout 68 = .ok (.iload 4, 2) := by decide +kernel
theorem dX1_sizeWithout_70 : decode cX1_sizeWithout 70 = .ok (.ishl, 1) := by decide +kernel
theorem dX1_sizeWithout_71 : decode cX1_sizeWithout 71 = .ok (.iconst (-1), 1) := by decide +kernel
theorem dX1_sizeWithout_72 : decode cX1_sizeWithout 72 = .ok (.ixor, 1) := by decide +kernel
theorem dX1_sizeWithout_73 : decode cX1_sizeWithout 73 = .ok (.iand, 1) := by decide +kernel
theorem dX1_sizeWithout_74 : decode cX1_sizeWithout 74 = .ok (.istore 6, 2) := by decide +kernel
theorem dX1_sizeWithout_76 : decode cX1_sizeWithout 76 = .ok (.iload 5, 2) := by decide +kernel
theorem dX1_sizeWithout_78 : decode cX1_sizeWithout 78 = .ok (.iload_n 1, 1) := by decide +kernel
theorem dX1_sizeWithout_79 : decode cX1_sizeWithout 79 = .ok (.if_icmp .eq 14, 3) := by decide +kernel
theorem dX1_sizeWithout_82 : decode cX1_sizeWithout 82 = .ok (.iload 6, 2) := by decide +kernel
theorem dX1_sizeWithout_84 : decode cX1_sizeWithout 84 = .ok (.ifCond .eq 9, 3) := by decide +kernel
theorem dX1_sizeWithout_87 : decode cX1_sizeWithout 87 = .ok (.aload_n 0, 1) := by decide +kernel
theorem dX1_sizeWithout_88 : decode cX1_sizeWithout 88 = .ok (.iload 6, 2) := by decide +kernel
theorem dX1_sizeWithout_90 : decode cX1_sizeWithout 90 = .ok (.invokevirtual 31, 3) := by decide +kernel
theorem dX1_sizeWithout_93 : decode cX1_sizeWithout 93 = .ok (.iinc 5 1, 3) := by decide +kernel
theorem dX1_sizeWithout_96 : decode cX1_sizeWithout 96 = .ok (.goto (-59), 3) := by decide +kernel
theorem dX1_sizeWithout_99 : decode cX1_sizeWithout 99 = .ok (.iconst 0, 1) := by decide +kernel
theorem dX1_sizeWithout_100 : decode cX1_sizeWithout 100 = .ok (.istore 5, 2) := by decide +kernel
theorem dX1_sizeWithout_102 : decode cX1_sizeWithout 102 = .ok (.iconst 0, 1) := by decide +kernel
theorem dX1_sizeWithout_103 : decode cX1_sizeWithout 103 = .ok (.istore 6, 2) := by decide +kernel
theorem dX1_sizeWithout_105 : decode cX1_sizeWithout 105 = .ok (.iload 6, 2) := by decide +kernel
theorem dX1_sizeWithout_107 : decode cX1_sizeWithout 107 = .ok (.sipush 128, 3) := by decide +kernel
theorem dX1_sizeWithout_110 : decode cX1_sizeWithout 110 = .ok (.if_icmp .ge 42, 3) := by decide +kernel
theorem dX1_sizeWithout_113 : decode cX1_sizeWithout 113 = .ok (.aload_n 0, 1) := by decide +kernel
theorem dX1_sizeWithout_114 : decode cX1_sizeWithout 114 = .ok (.getfield 13, 3) := by decide +kernel
theorem dX1_sizeWithout_117 : decode cX1_sizeWithout 117 = .ok (.iload 6, 2) := by decide +kernel
theorem dX1_sizeWithout_119 : decode cX1_sizeWithout 119 = .ok (.baload, 1) := by decide +kernel
theorem dX1_sizeWithout_120 : decode cX1_sizeWithout 120 = .ok (.ifCond .eq 12, 3) := by decide +kernel
theorem dX1_sizeWithout_123 : decode cX1_sizeWithout 123 = .ok (.aload_n 0, 1) := by decide +kernel
theorem dX1_sizeWithout_124 : decode cX1_sizeWithout 124 = .ok (.iload 6, 2) := by decide +kernel
theorem dX1_sizeWithout_126 : decode cX1_sizeWithout 126 = .ok (.invokevirtual 35, 3) := by decide +kernel
theorem dX1_sizeWithout_129 : decode cX1_sizeWithout 129 = .ok (.goto 4, 3) := by decide +kernel
theorem dX1_sizeWithout_132 : decode cX1_sizeWithout 132 = .ok (.iconst 0, 1) := by decide +kernel
theorem dX1_sizeWithout_133 : decode cX1_sizeWithout 133 = .ok (.istore 7, 2) := by decide +kernel
theorem dX1_sizeWithout_135 : decode cX1_sizeWithout 135 = .ok (.iload 7, 2) := by decide +kernel
theorem dX1_sizeWithout_137 : decode cX1_sizeWithout 137 = .ok (.iload 5, 2) := by decide +kernel
theorem dX1_sizeWithout_139 : decode cX1_sizeWithout 139 = .ok (.if_icmp .le 7, 3) := by decide +kernel
theorem dX1_sizeWithout_142 : decode cX1_sizeWithout 142 = .ok (.iload 7, 2) := by decide +kernel
theorem dX1_sizeWithout_144 : decode cX1_sizeWithout 144 = .ok (.istore 5, 2) := by decide +kernel
theorem dX1_sizeWithout_146 : decode cX1_sizeWithout 146 = .ok (.iinc 6 1, 3) := by decide +kernel
theorem dX1_sizeWithout_149 : decode cX1_sizeWithout 149 = .ok (.goto (-44), 3) := by decide +kernel
theorem dX1_sizeWithout_152 : decode cX1_sizeWithout 152 = .ok (.iload 5, 2) := by decide +kernel
theorem dX1_sizeWithout_154 : decode cX1_sizeWithout 154 = .ok (.ireturn, 1) := by decide +kernel
abbrev cX1_takeRow : ByteArray := prog_3_method_8_code
def yX1_takeRow : MethodName := ⟨RX1, "takeRow", "(I)V"⟩
theorem dX1_takeRow_0 : decode cX1_takeRow 0 = .ok (.iconst 0, 1) := by decide +kernel
theorem dX1_takeRow_1 : decode cX1_takeRow 1 = .ok (.istore_n 2, 1) := by decide +kernel
theorem dX1_takeRow_2 : decode cX1_takeRow 2 = .ok (.iload_n 2, 1) := by decide +kernel
theorem dX1_takeRow_3 : decode cX1_takeRow 3 = .ok (.sipush 128, 3) := by decide +kernel
theorem dX1_takeRow_6 : decode cX1_takeRow 6 = .ok (.if_icmp .ge 21, 3) := by decide +kernel
theorem dX1_takeRow_9 : decode cX1_takeRow 9 = .ok (.aload_n 0, 1) := by decide +kernel
theorem dX1_takeRow_10 : decode cX1_takeRow 10 = .ok (.getfield 17, 3) := by decide +kernel
theorem dX1_takeRow_13 : decode cX1_takeRow 13 = .ok (.iload_n 2, 1) := by decide +kernel
theorem dX1_takeRow_14 : decode cX1_takeRow 14 = .ok (.aload_n 0, 1) := by decide +kernel
theorem dX1_takeRow_15 : decode cX1_takeRow 15 = .ok (.getfield 13, 3) := by decide +kernel
theorem dX1_takeRow_18 : decode cX1_takeRow 18 = .ok (.iload_n 2, 1) := by decide +kernel
theorem dX1_takeRow_19 : decode cX1_takeRow 19 = .ok (.baload, 1) := by decide +kernel
theorem dX1_takeRow_20 : decode cX1_takeRow 20 = .ok (.bastore, 1) := by decide +kernel
theorem dX1_takeRow_21 : decode cX1_takeRow 21 = .ok (.iinc 2 1, 3) := by decide +kernel
theorem dX1_takeRow_24 : decode cX1_takeRow 24 = .ok (.goto (-22), 3) := by decide +kernel
theorem dX1_takeRow_27 : decode cX1_takeRow 27 = .ok (.iconst 0, 1) := by decide +kernel
theorem dX1_takeRow_28 : decode cX1_takeRow 28 = .ok (.istore_n 2, 1) := by decide +kernel
theorem dX1_takeRow_29 : decode cX1_takeRow 29 = .ok (.iload_n 2, 1) := by decide +kernel
theorem dX1_takeRow_30 : decode cX1_takeRow 30 = .ok (.sipush 128, 3) := by decide +kernel
theorem dX1_takeRow_33 : decode cX1_takeRow 33 = .ok (.if_icmp .ge 61, 3) := by decide +kernel
theorem dX1_takeRow_36 : decode cX1_takeRow 36 = .ok (.iconst 0, 1) := by decide +kernel
theorem dX1_takeRow_37 : decode cX1_takeRow 37 = .ok (.istore_n 3, 1) := by decide +kernel
theorem dX1_takeRow_38 : decode cX1_takeRow 38 = .ok (.iload_n 3, 1) := by decide +kernel
theorem dX1_takeRow_39 : decode cX1_takeRow 39 = .ok (.bipush 7, 2) := by decide +kernel
theorem dX1_takeRow_41 : decode cX1_takeRow 41 = .ok (.if_icmp .ge 47, 3) := by decide +kernel
theorem dX1_takeRow_44 : decode cX1_takeRow 44 = .ok (.aload_n 0, 1) := by decide +kernel
theorem dX1_takeRow_45 : decode cX1_takeRow 45 = .ok (.getfield 13, 3) := by decide +kernel
theorem dX1_takeRow_48 : decode cX1_takeRow 48 = .ok (.iload_n 2, 1) := by decide +kernel
theorem dX1_takeRow_49 : decode cX1_takeRow 49 = .ok (.baload, 1) := by decide +kernel
theorem dX1_takeRow_50 : decode cX1_takeRow 50 = .ok (.ifCond .eq 32, 3) := by decide +kernel
theorem dX1_takeRow_53 : decode cX1_takeRow 53 = .ok (.aload_n 0, 1) := by decide +kernel
theorem dX1_takeRow_54 : decode cX1_takeRow 54 = .ok (.iload_n 1, 1) := by decide +kernel
theorem dX1_takeRow_55 : decode cX1_takeRow 55 = .ok (.iload_n 3, 1) := by decide +kernel
theorem dX1_takeRow_56 : decode cX1_takeRow 56 = .ok (.invokevirtual 27, 3) := by decide +kernel
theorem dX1_takeRow_59 : decode cX1_takeRow 59 = .ok (.ifCond .eq 23, 3) := by decide +kernel
theorem dX1_takeRow_62 : decode cX1_takeRow 62 = .ok (.aload_n 0, 1) := by decide +kernel
theorem dX1_takeRow_63 : decode cX1_takeRow 63 = .ok (.iload_n 2, 1) := by decide +kernel
theorem dX1_takeRow_64 : decode cX1_takeRow 64 = .ok (.iload_n 3, 1) := by decide +kernel
theorem dX1_takeRow_65 : decode cX1_takeRow 65 = .ok (.invokevirtual 27, 3) := by decide +kernel
theorem dX1_takeRow_68 : decode cX1_takeRow 68 = .ok (.ifCond .ne 14, 3) := by decide +kernel
theorem dX1_takeRow_71 : decode cX1_takeRow 71 = .ok (.aload_n 0, 1) := by decide +kernel
theorem dX1_takeRow_72 : decode cX1_takeRow 72 = .ok (.getfield 17, 3) := by decide +kernel
theorem dX1_takeRow_75 : decode cX1_takeRow 75 = .ok (.iload_n 2, 1) := by decide +kernel
theorem dX1_takeRow_76 : decode cX1_takeRow 76 = .ok (.iconst 1, 1) := by decide +kernel
theorem dX1_takeRow_77 : decode cX1_takeRow 77 = .ok (.iload_n 3, 1) := by decide +kernel
theorem dX1_takeRow_78 : decode cX1_takeRow 78 = .ok (.ishl, 1) := by decide +kernel
theorem dX1_takeRow_79 : decode cX1_takeRow 79 = .ok (.ior, 1) := by decide +kernel
theorem dX1_takeRow_80 : decode cX1_takeRow 80 = .ok (.iconst 1, 1) := by decide +kernel
theorem dX1_takeRow_81 : decode cX1_takeRow 81 = .ok (.bastore, 1) := by decide +kernel
theorem dX1_takeRow_82 : decode cX1_takeRow 82 = .ok (.iinc 3 1, 3) := by decide +kernel
theorem dX1_takeRow_85 : decode cX1_takeRow 85 = .ok (.goto (-47), 3) := by decide +kernel
theorem dX1_takeRow_88 : decode cX1_takeRow 88 = .ok (.iinc 2 1, 3) := by decide +kernel
theorem dX1_takeRow_91 : decode cX1_takeRow 91 = .ok (.goto (-62), 3) := by decide +kernel
theorem dX1_takeRow_94 : decode cX1_takeRow 94 = .ok (.iconst 0, 1) := by decide +kernel
theorem dX1_takeRow_95 : decode cX1_takeRow 95 = .ok (.istore_n 2, 1) := by decide +kernel
theorem dX1_takeRow_96 : decode cX1_takeRow 96 = .ok (.iload_n 2, 1) := by decide +kernel
theorem dX1_takeRow_97 : decode cX1_takeRow 97 = .ok (.sipush 128, 3) := by decide +kernel
theorem dX1_takeRow_100 : decode cX1_takeRow 100 = .ok (.if_icmp .ge 21, 3) := by decide +kernel
theorem dX1_takeRow_103 : decode cX1_takeRow 103 = .ok (.aload_n 0, 1) := by decide +kernel
theorem dX1_takeRow_104 : decode cX1_takeRow 104 = .ok (.getfield 13, 3) := by decide +kernel
theorem dX1_takeRow_107 : decode cX1_takeRow 107 = .ok (.iload_n 2, 1) := by decide +kernel
theorem dX1_takeRow_108 : decode cX1_takeRow 108 = .ok (.aload_n 0, 1) := by decide +kernel
theorem dX1_takeRow_109 : decode cX1_takeRow 109 = .ok (.getfield 17, 3) := by decide +kernel
theorem dX1_takeRow_112 : decode cX1_takeRow 112 = .ok (.iload_n 2, 1) := by decide +kernel
theorem dX1_takeRow_113 : decode cX1_takeRow 113 = .ok (.baload, 1) := by decide +kernel
theorem dX1_takeRow_114 : decode cX1_takeRow 114 = .ok (.bastore, 1) := by decide +kernel
theorem dX1_takeRow_115 : decode cX1_takeRow 115 = .ok (.iinc 2 1, 3) := by decide +kernel
theorem dX1_takeRow_118 : decode cX1_takeRow 118 = .ok (.goto (-22), 3) := by decide +kernel
theorem dX1_takeRow_121 : decode cX1_takeRow 121 = .ok (.return_, 1) := by decide +kernel
abbrev cX1_in : ByteArray := prog_3_method_3_code
def yX1_in : MethodName := ⟨RX1, "in", "(II)Z"⟩
theorem dX1_in_0 : decode cX1_in 0 = .ok (.iload_n 1, 1) := by decide +kernel
theorem dX1_in_1 : decode cX1_in 1 = .ok (.iload_n 2, 1) := by decide +kernel
theorem dX1_in_2 : decode cX1_in 2 = .ok (.ishr, 1) := by decide +kernel
theorem dX1_in_3 : decode cX1_in 3 = .ok (.iconst 1, 1) := by decide +kernel
theorem dX1_in_4 : decode cX1_in 4 = .ok (.iand, 1) := by decide +kernel
theorem dX1_in_5 : decode cX1_in 5 = .ok (.iconst 1, 1) := by decide +kernel
theorem dX1_in_6 : decode cX1_in 6 = .ok (.if_icmp .ne 7, 3) := by decide +kernel
theorem dX1_in_9 : decode cX1_in 9 = .ok (.iconst 1, 1) := by decide +kernel
theorem dX1_in_10 : decode cX1_in 10 = .ok (.goto 4, 3) := by decide +kernel
theorem dX1_in_13 : decode cX1_in 13 = .ok (.iconst 0, 1) := by decide +kernel
theorem dX1_in_14 : decode cX1_in 14 = .ok (.ireturn, 1) := by decide +kernel
abbrev cX1_sizeOf : ByteArray := prog_3_method_7_code
def yX1_sizeOf : MethodName := ⟨RX1, "sizeOf", "(I)I"⟩
theorem dX1_sizeOf_0 : decode cX1_sizeOf 0 = .ok (.iconst 0, 1) := by decide +kernel
theorem dX1_sizeOf_1 : decode cX1_sizeOf 1 = .ok (.istore_n 2, 1) := by decide +kernel
theorem dX1_sizeOf_2 : decode cX1_sizeOf 2 = .ok (.iconst 0, 1) := by decide +kernel
theorem dX1_sizeOf_3 : decode cX1_sizeOf 3 = .ok (.istore_n 3, 1) := by decide +kernel
theorem dX1_sizeOf_4 : decode cX1_sizeOf 4 = .ok (.iload_n 3, 1) := by decide +kernel
theorem dX1_sizeOf_5 : decode cX1_sizeOf 5 = .ok (.bipush 7, 2) := by decide +kernel
theorem dX1_sizeOf_7 : decode cX1_sizeOf 7 = .ok (.if_icmp .ge 21, 3) := by decide +kernel
theorem dX1_sizeOf_10 : decode cX1_sizeOf 10 = .ok (.aload_n 0, 1) := by decide +kernel
theorem dX1_sizeOf_11 : decode cX1_sizeOf 11 = .ok (.iload_n 1, 1) := by decide +kernel
theorem dX1_sizeOf_12 : decode cX1_sizeOf 12 = .ok (.iload_n 3, 1) := by decide +kernel
theorem dX1_sizeOf_13 : decode cX1_sizeOf 13 = .ok (.invokevirtual 27, 3) := by decide +kernel
theorem dX1_sizeOf_16 : decode cX1_sizeOf 16 = .ok (.ifCond .eq 6, 3) := by decide +kernel
theorem dX1_sizeOf_19 : decode cX1_sizeOf 19 = .ok (.iinc 2 1, 3) := by decide +kernel
theorem dX1_sizeOf_22 : decode cX1_sizeOf 22 = .ok (.iinc 3 1, 3) := by decide +kernel
theorem dX1_sizeOf_25 : decode cX1_sizeOf 25 = .ok (.goto (-21), 3) := by decide +kernel
theorem dX1_sizeOf_28 : decode cX1_sizeOf 28 = .ok (.iload_n 2, 1) := by decide +kernel
theorem dX1_sizeOf_29 : decode cX1_sizeOf 29 = .ok (.ireturn, 1) := by decide +kernel
abbrev cX1_looseRows : ByteArray := prog_3_method_11_code
def yX1_looseRows : MethodName := ⟨RX1, "looseRows", "()I"⟩
theorem dX1_looseRows_0 : decode cX1_looseRows 0 = .ok (.aload_n 0, 1) := by decide +kernel
theorem dX1_looseRows_1 : decode cX1_looseRows 1 = .ok (.invokevirtual 43, 3) := by decide +kernel
theorem dX1_looseRows_4 : decode cX1_looseRows 4 = .ok (.istore_n 1, 1) := by decide +kernel
theorem dX1_looseRows_5 : decode cX1_looseRows 5 = .ok (.iconst 0, 1) := by decide +kernel
theorem dX1_looseRows_6 : decode cX1_looseRows 6 = .ok (.istore_n 2, 1) := by decide +kernel
theorem dX1_looseRows_7 : decode cX1_looseRows 7 = .ok (.iconst 0, 1) := by decide +kernel
theorem dX1_looseRows_8 : decode cX1_looseRows 8 = .ok (.istore_n 3, 1) := by decide +kernel
theorem dX1_looseRows_9 : decode cX1_looseRows 9 = .ok (.iload_n 3, 1) := by decide +kernel
theorem dX1_looseRows_10 : decode cX1_looseRows 10 = .ok (.bipush 7, 2) := by decide +kernel
theorem dX1_looseRows_12 : decode cX1_looseRows 12 = .ok (.if_icmp .ge 30, 3) := by decide +kernel
theorem dX1_looseRows_15 : decode cX1_looseRows 15 = .ok (.aload_n 0, 1) := by decide +kernel
theorem dX1_looseRows_16 : decode cX1_looseRows 16 = .ok (.iload_n 3, 1) := by decide +kernel
theorem dX1_looseRows_17 : decode cX1_looseRows 17 = .ok (.bipush 7, 2) := by decide +kernel
theorem dX1_looseRows_19 : decode cX1_looseRows 19 = .ok (.bipush 7, 2) := by decide +kernel
theorem dX1_looseRows_21 : decode cX1_looseRows 21 = .ok (.bipush 7, 2) := by decide +kernel
theorem dX1_looseRows_23 : decode cX1_looseRows 23 = .ok (.invokevirtual 39, 3) := by decide +kernel
theorem dX1_looseRows_26 : decode cX1_looseRows 26 = .ok (.iload_n 1, 1) := by decide +kernel
theorem dX1_looseRows_27 : decode cX1_looseRows 27 = .ok (.if_icmp .ne 9, 3) := by decide +kernel
theorem dX1_looseRows_30 : decode cX1_looseRows 30 = .ok (.iload_n 2, 1) := by decide +kernel
theorem dX1_looseRows_31 : decode cX1_looseRows 31 = .ok (.iconst 1, 1) := by decide +kernel
theorem dX1_looseRows_32 : decode cX1_looseRows 32 = .ok (.iload_n 3, 1) := by decide +kernel
theorem dX1_looseRows_33 : decode cX1_looseRows 33 = .ok (.ishl, 1) := by decide +kernel
theorem dX1_looseRows_34 : decode cX1_looseRows 34 = .ok (.ior, 1) := by decide +kernel
theorem dX1_looseRows_35 : decode cX1_looseRows 35 = .ok (.istore_n 2, 1) := by decide +kernel
theorem dX1_looseRows_36 : decode cX1_looseRows 36 = .ok (.iinc 3 1, 3) := by decide +kernel
theorem dX1_looseRows_39 : decode cX1_looseRows 39 = .ok (.goto (-30), 3) := by decide +kernel
theorem dX1_looseRows_42 : decode cX1_looseRows 42 = .ok (.iload_n 2, 1) := by decide +kernel
theorem dX1_looseRows_43 : decode cX1_looseRows 43 = .ok (.ireturn, 1) := by decide +kernel
abbrev cX1_looseColumns : ByteArray := prog_3_method_12_code
def yX1_looseColumns : MethodName := ⟨RX1, "looseColumns", "()I"⟩
theorem dX1_looseColumns_0 : decode cX1_looseColumns 0 = .ok (.aload_n 0, 1) := by decide +kernel
theorem dX1_looseColumns_1 : decode cX1_looseColumns 1 = .ok (.invokevirtual 43, 3) := by decide +kernel
theorem dX1_looseColumns_4 : decode cX1_looseColumns 4 = .ok (.istore_n 1, 1) := by decide +kernel
theorem dX1_looseColumns_5 : decode cX1_looseColumns 5 = .ok (.iconst 0, 1) := by decide +kernel
theorem dX1_looseColumns_6 : decode cX1_looseColumns 6 = .ok (.istore_n 2, 1) := by decide +kernel
theorem dX1_looseColumns_7 : decode cX1_looseColumns 7 = .ok (.iconst 0, 1) := by decide +kernel
theorem dX1_looseColumns_8 : decode cX1_looseColumns 8 = .ok (.istore_n 3, 1) := by decide +kernel
theorem dX1_looseColumns_9 : decode cX1_looseColumns 9 = .ok (.iload_n 3, 1) := by decide +kernel
theorem dX1_looseColumns_10 : decode cX1_looseColumns 10 = .ok (.bipush 7, 2) := by decide +kernel
theorem dX1_looseColumns_12 : decode cX1_looseColumns 12 = .ok (.if_icmp .ge 30, 3) := by decide +kernel
theorem dX1_looseColumns_15 : decode cX1_looseColumns 15 = .ok (.aload_n 0, 1) := by decide +kernel
theorem dX1_looseColumns_16 : decode cX1_looseColumns 16 = .ok (.bipush 7, 2) := by decide +kernel
theorem dX1_looseColumns_18 : decode cX1_looseColumns 18 = .ok (.iload_n 3, 1) := by decide +kernel
theorem dX1_looseColumns_19 : decode cX1_looseColumns 19 = .ok (.bipush 7, 2) := by decide +kernel
theorem dX1_looseColumns_21 : decode cX1_looseColumns 21 = .ok (.bipush 7, 2) := by decide +kernel
theorem dX1_looseColumns_23 : decode cX1_looseColumns 23 = .ok (.invokevirtual 39, 3) := by decide +kernel
theorem dX1_looseColumns_26 : decode cX1_looseColumns 26 = .ok (.iload_n 1, 1) := by decide +kernel
theorem dX1_looseColumns_27 : decode cX1_looseColumns 27 = .ok (.if_icmp .ne 9, 3) := by decide +kernel
theorem dX1_looseColumns_30 : decode cX1_looseColumns 30 = .ok (.iload_n 2, 1) := by decide +kernel
theorem dX1_looseColumns_31 : decode cX1_looseColumns 31 = .ok (.iconst 1, 1) := by decide +kernel
theorem dX1_looseColumns_32 : decode cX1_looseColumns 32 = .ok (.iload_n 3, 1) := by decide +kernel
theorem dX1_looseColumns_33 : decode cX1_looseColumns 33 = .ok (.ishl, 1) := by decide +kernel
theorem dX1_looseColumns_34 : decode cX1_looseColumns 34 = .ok (.ior, 1) := by decide +kernel
theorem dX1_looseColumns_35 : decode cX1_looseColumns 35 = .ok (.istore_n 2, 1) := by decide +kernel
theorem dX1_looseColumns_36 : decode cX1_looseColumns 36 = .ok (.iinc 3 1, 3) := by decide +kernel
theorem dX1_looseColumns_39 : decode cX1_looseColumns 39 = .ok (.goto (-30), 3) := by decide +kernel
theorem dX1_looseColumns_42 : decode cX1_looseColumns 42 = .ok (.iload_n 2, 1) := by decide +kernel
theorem dX1_looseColumns_43 : decode cX1_looseColumns 43 = .ok (.ireturn, 1) := by decide +kernel
abbrev cX1_usable : ByteArray := prog_3_method_14_code
def yX1_usable : MethodName := ⟨RX1, "usable", "(I)I"⟩
theorem dX1_usable_0 : decode cX1_usable 0 = .ok (.aload_n 0, 1) := by decide +kernel
theorem dX1_usable_1 : decode cX1_usable 1 = .ok (.iload_n 1, 1) := by decide +kernel
theorem dX1_usable_2 : decode cX1_usable 2 = .ok (.invokevirtual 23, 3) := by decide +kernel
theorem dX1_usable_5 : decode cX1_usable 5 = .ok (.ifCond .ne 5, 3) := by decide +kernel
theorem dX1_usable_8 : decode cX1_usable 8 = .ok (.iconst (-1), 1) := by decide +kernel
theorem dX1_usable_9 : decode cX1_usable 9 = .ok (.ireturn, 1) := by decide +kernel
theorem dX1_usable_10 : decode cX1_usable 10 = .ok (.aload_n 0, 1) := by decide +kernel
theorem dX1_usable_11 : decode cX1_usable 11 = .ok (.invokevirtual 43, 3) := by decide +kernel
theorem dX1_usable_14 : decode cX1_usable 14 = .ok (.istore_n 2, 1) := by decide +kernel
theorem dX1_usable_15 : decode cX1_usable 15 = .ok (.aload_n 0, 1) := by decide +kernel
theorem dX1_usable_16 : decode cX1_usable 16 = .ok (.iload_n 1, 1) := by decide +kernel
theorem dX1_usable_17 : decode cX1_usable 17 = .ok (.iload_n 2, 1) := by decide +kernel
theorem dX1_usable_18 : decode cX1_usable 18 = .ok (.invokevirtual 47, 3) := by decide +kernel
theorem dX1_usable_21 : decode cX1_usable 21 = .ok (.ireturn, 1) := by decide +kernel
abbrev cX1_usableOf : ByteArray := prog_3_method_13_code
def yX1_usableOf : MethodName := ⟨RX1, "usableOf", "(II)I"⟩
theorem dX1_usableOf_0 : decode cX1_usableOf 0 = .ok (.iconst 0, 1) := by decide +kernel
theorem dX1_usableOf_1 : decode cX1_usableOf 1 = .ok (.istore_n 3, 1) := by decide +kernel
theorem dX1_usableOf_2 : decode cX1_usableOf 2 = .ok (.iconst 0, 1) := by decide +kernel
theorem dX1_usableOf_3 : decode cX1_usableOf 3 = .ok (.istore 4, 2) := by decide +kernel
theorem dX1_usableOf_5 : decode cX1_usableOf 5 = .ok (.iload 4, 2) := by decide +kernel
theorem dX1_usableOf_7 : decode cX1_usableOf 7 = .ok (.bipush 7, 2) := by decide +kernel
theorem dX1_usableOf_9 : decode cX1_usableOf 9 = .ok (.if_icmp .ge 48, 3) := by decide +kernel
theorem dX1_usableOf_12 : decode cX1_usableOf 12 = .ok (.aload_n 0, 1) := by decide +kernel
theorem dX1_usableOf_13 : decode cX1_usableOf 13 = .ok (.aload_n 0, 1) := by decide +kernel
theorem dX1_usableOf_14 : decode cX1_usableOf 14 = .ok (.getfield 7, 3) := by decide +kernel
theorem dX1_usableOf_17 : decode cX1_usableOf 17 = .ok (.iload_n 1, 1) := by decide +kernel
theorem dX1_usableOf_18 : decode cX1_usableOf 18 = .ok (.iaload, 1) := by decide +kernel
theorem dX1_usableOf_19 : decode cX1_usableOf 19 = .ok (.iload 4, 2) := by decide +kernel
theorem dX1_usableOf_21 : decode cX1_usableOf 21 = .ok (.invokevirtual 27, 3) := by decide +kernel
theorem dX1_usableOf_24 : decode cX1_usableOf 24 = .ok (.ifCond .eq 27, 3) := by decide +kernel
theorem dX1_usableOf_27 : decode cX1_usableOf 27 = .ok (.aload_n 0, 1) := by decide +kernel
theorem dX1_usableOf_28 : decode cX1_usableOf 28 = .ok (.iload_n 1, 1) := by decide +kernel
theorem dX1_usableOf_29 : decode cX1_usableOf 29 = .ok (.iload 4, 2) := by decide +kernel
theorem dX1_usableOf_31 : decode cX1_usableOf 31 = .ok (.bipush 7, 2) := by decide +kernel
theorem dX1_usableOf_33 : decode cX1_usableOf 33 = .ok (.bipush 7, 2) := by decide +kernel
theorem dX1_usableOf_35 : decode cX1_usableOf 35 = .ok (.invokevirtual 39, 3) := by decide +kernel
theorem dX1_usableOf_38 : decode cX1_usableOf 38 = .ok (.iconst 1, 1) := by decide +kernel
theorem dX1_usableOf_39 : decode cX1_usableOf 39 = .ok (.iadd, 1) := by decide +kernel
theorem dX1_usableOf_40 : decode cX1_usableOf 40 = .ok (.iload_n 2, 1) := by decide +kernel
theorem dX1_usableOf_41 : decode cX1_usableOf 41 = .ok (.if_icmp .ne 10, 3) := by decide +kernel
theorem dX1_usableOf_44 : decode cX1_usableOf 44 = .ok (.iload_n 3, 1) := by decide +kernel
theorem dX1_usableOf_45 : decode cX1_usableOf 45 = .ok (.iconst 1, 1) := by decide +kernel
theorem dX1_usableOf_46 : decode cX1_usableOf 46 = .ok (.iload 4, 2) := by decide +kernel
theorem dX1_usableOf_48 : decode cX1_usableOf 48 = .ok (.ishl, 1) := by decide +kernel
theorem dX1_usableOf_49 : decode cX1_usableOf 49 = .ok (.ior, 1) := by decide +kernel
theorem dX1_usableOf_50 : decode cX1_usableOf 50 = .ok (.istore_n 3, 1) := by decide +kernel
theorem dX1_usableOf_51 : decode cX1_usableOf 51 = .ok (.iinc 4 1, 3) := by decide +kernel
theorem dX1_usableOf_54 : decode cX1_usableOf 54 = .ok (.goto (-49), 3) := by decide +kernel
theorem dX1_usableOf_57 : decode cX1_usableOf 57 = .ok (.iload_n 3, 1) := by decide +kernel
theorem dX1_usableOf_58 : decode cX1_usableOf 58 = .ok (.ireturn, 1) := by decide +kernel
abbrev cX1_forced : ByteArray := prog_3_method_15_code
def yX1_forced : MethodName := ⟨RX1, "forced", "(I)I"⟩
theorem dX1_forced_0 : decode cX1_forced 0 = .ok (.aload_n 0, 1) := by decide +kernel
theorem dX1_forced_1 : decode cX1_forced 1 = .ok (.iload_n 1, 1) := by decide +kernel
theorem dX1_forced_2 : decode cX1_forced 2 = .ok (.invokevirtual 23, 3) := by decide +kernel
theorem dX1_forced_5 : decode cX1_forced 5 = .ok (.ifCond .ne 5, 3) := by decide +kernel
theorem dX1_forced_8 : decode cX1_forced 8 = .ok (.iconst (-1), 1) := by decide +kernel
theorem dX1_forced_9 : decode cX1_forced 9 = .ok (.ireturn, 1) := by decide +kernel
theorem dX1_forced_10 : decode cX1_forced 10 = .ok (.aload_n 0, 1) := by decide +kernel
theorem dX1_forced_11 : decode cX1_forced 11 = .ok (.invokevirtual 43, 3) := by decide +kernel
theorem dX1_forced_14 : decode cX1_forced 14 = .ok (.istore_n 2, 1) := by decide +kernel
theorem dX1_forced_15 : decode cX1_forced 15 = .ok (.iconst 0, 1) := by decide +kernel
theorem dX1_forced_16 : decode cX1_forced 16 = .ok (.istore_n 3, 1) := by decide +kernel
theorem dX1_forced_17 : decode cX1_forced 17 = .ok (.iconst 0, 1) := by decide +kernel
theorem dX1_forced_18 : decode cX1_forced 18 = .ok (.istore 4, 2) := by decide +kernel
theorem dX1_forced_20 : decode cX1_forced 20 = .ok (.iload 4, 2) := by decide +kernel
theorem dX1_forced_22 : decode cX1_forced 22 = .ok (.bipush 7, 2) := by decide +kernel
theorem dX1_forced_24 : decode cX1_forced 24 = .ok (.if_icmp .ge 46, 3) := by decide +kernel
theorem dX1_forced_27 : decode cX1_forced 27 = .ok (.aload_n 0, 1) := by decide +kernel
theorem dX1_forced_28 : decode cX1_forced 28 = .ok (.aload_n 0, 1) := by decide +kernel
theorem dX1_forced_29 : decode cX1_forced 29 = .ok (.getfield 7, 3) := by decide +kernel
theorem dX1_forced_32 : decode cX1_forced 32 = .ok (.iload_n 1, 1) := by decide +kernel
theorem dX1_forced_33 : decode cX1_forced 33 = .ok (.iaload, 1) := by decide +kernel
theorem dX1_forced_34 : decode cX1_forced 34 = .ok (.iload 4, 2) := by decide +kernel
theorem dX1_forced_36 : decode cX1_forced 36 = .ok (.invokevirtual 27, 3) := by decide +kernel
theorem dX1_forced_39 : decode cX1_forced 39 = .ok (.ifCond .eq 25, 3) := by decide +kernel
theorem dX1_forced_42 : decode cX1_forced 42 = .ok (.aload_n 0, 1) := by decide +kernel
theorem dX1_forced_43 : decode cX1_forced 43 = .ok (.bipush 7, 2) := by decide +kernel
theorem dX1_forced_45 : decode cX1_forced 45 = .ok (.bipush 7, 2) := by decide +kernel
theorem dX1_forced_47 : decode cX1_forced 47 = .ok (.iload_n 1, 1) := by decide +kernel
theorem dX1_forced_48 : decode cX1_forced 48 = .ok (.iload 4, 2) := by decide +kernel
theorem dX1_forced_50 : decode cX1_forced 50 = .ok (.invokevirtual 39, 3) := by decide +kernel
theorem dX1_forced_53 : decode cX1_forced 53 = .ok (.iload_n 2, 1) := by decide +kernel
theorem dX1_forced_54 : decode cX1_forced 54 = .ok (.if_icmp .ge 10, 3) := by decide +kernel
theorem dX1_forced_57 : decode cX1_forced 57 = .ok (.iload_n 3, 1) := by decide +kernel
theorem dX1_forced_58 : decode cX1_forced 58 = .ok (.iconst 1, 1) := by decide +kernel
theorem dX1_forced_59 : decode cX1_forced 59 = .ok (.iload 4, 2) := by decide +kernel
theorem dX1_forced_61 : decode cX1_forced 61 = .ok (.ishl, 1) := by decide +kernel
theorem dX1_forced_62 : decode cX1_forced 62 = .ok (.ior, 1) := by decide +kernel
theorem dX1_forced_63 : decode cX1_forced 63 = .ok (.istore_n 3, 1) := by decide +kernel
theorem dX1_forced_64 : decode cX1_forced 64 = .ok (.iinc 4 1, 3) := by decide +kernel
theorem dX1_forced_67 : decode cX1_forced 67 = .ok (.goto (-47), 3) := by decide +kernel
theorem dX1_forced_70 : decode cX1_forced 70 = .ok (.iload_n 3, 1) := by decide +kernel
theorem dX1_forced_71 : decode cX1_forced 71 = .ok (.ireturn, 1) := by decide +kernel
abbrev cX1_blocks : ByteArray := prog_3_method_18_code
def yX1_blocks : MethodName := ⟨RX1, "blocks", "()I"⟩
theorem dX1_blocks_0 : decode cX1_blocks 0 = .ok (.aload_n 0, 1) := by decide +kernel
theorem dX1_blocks_1 : decode cX1_blocks 1 = .ok (.invokevirtual 51, 3) := by decide +kernel
theorem dX1_blocks_4 : decode cX1_blocks 4 = .ok (.iconst 0, 1) := by decide +kernel
theorem dX1_blocks_5 : decode cX1_blocks 5 = .ok (.istore_n 1, 1) := by decide +kernel
theorem dX1_blocks_6 : decode cX1_blocks 6 = .ok (.iconst 0, 1) := by decide +kernel
theorem dX1_blocks_7 : decode cX1_blocks 7 = .ok (.istore_n 2, 1) := by decide +kernel
theorem dX1_blocks_8 : decode cX1_blocks 8 = .ok (.iload_n 2, 1) := by decide +kernel
theorem dX1_blocks_9 : decode cX1_blocks 9 = .ok (.bipush 7, 2) := by decide +kernel
theorem dX1_blocks_11 : decode cX1_blocks 11 = .ok (.if_icmp .ge 37, 3) := by decide +kernel
theorem dX1_blocks_14 : decode cX1_blocks 14 = .ok (.aload_n 0, 1) := by decide +kernel
theorem dX1_blocks_15 : decode cX1_blocks 15 = .ok (.iload_n 2, 1) := by decide +kernel
theorem dX1_blocks_16 : decode cX1_blocks 16 = .ok (.invokevirtual 54, 3) := by decide +kernel
theorem dX1_blocks_19 : decode cX1_blocks 19 = .ok (.istore_n 3, 1) := by decide +kernel
theorem dX1_blocks_20 : decode cX1_blocks 20 = .ok (.aload_n 0, 1) := by decide +kernel
theorem dX1_blocks_21 : decode cX1_blocks 21 = .ok (.getfield 20, 3) := by decide +kernel
theorem dX1_blocks_24 : decode cX1_blocks 24 = .ok (.iload_n 2, 1) := by decide +kernel
theorem dX1_blocks_25 : decode cX1_blocks 25 = .ok (.iaload, 1) := by decide +kernel
theorem dX1_blocks_26 : decode cX1_blocks 26 = .ok (.ifCond .eq 16, 3) := by decide +kernel
theorem dX1_blocks_29 : decode cX1_blocks 29 = .ok (.iload_n 3, 1) := by decide +kernel
theorem dX1_blocks_30 : decode cX1_blocks 30 = .ok (.iconst 1, 1) := by decide +kernel
theorem dX1_blocks_31 : decode cX1_blocks 31 = .ok (.iload_n 2, 1) := by decide +kernel
theorem dX1_blocks_32 : decode cX1_blocks 32 = .ok (.ishl, 1) := by decide +kernel
theorem dX1_blocks_33 : decode cX1_blocks 33 = .ok (.iconst 1, 1) := by decide +kernel
theorem dX1_blocks_34 : decode cX1_blocks 34 = .ok (.isub, 1) := by decide +kernel
theorem dX1_blocks_35 : decode cX1_blocks 35 = .ok (.iand, 1) := by decide +kernel
theorem dX1_blocks_36 : decode cX1_blocks 36 = .ok (.ifCond .ne 6, 3) := by decide +kernel
theorem dX1_blocks_39 : decode cX1_blocks 39 = .ok (.iinc 1 1, 3) := by decide +kernel
theorem dX1_blocks_42 : decode cX1_blocks 42 = .ok (.iinc 2 1, 3) := by decide +kernel
theorem dX1_blocks_45 : decode cX1_blocks 45 = .ok (.goto (-37), 3) := by decide +kernel
theorem dX1_blocks_48 : decode cX1_blocks 48 = .ok (.iload_n 1, 1) := by decide +kernel
theorem dX1_blocks_49 : decode cX1_blocks 49 = .ok (.ireturn, 1) := by decide +kernel
abbrev cX1_findGood : ByteArray := prog_3_method_17_code
def yX1_findGood : MethodName := ⟨RX1, "findGood", "()V"⟩
theorem dX1_findGood_0 : decode cX1_findGood 0 = .ok (.aload_n 0, 1) := by decide +kernel
theorem dX1_findGood_1 : decode cX1_findGood 1 = .ok (.invokevirtual 43, 3) := by decide +kernel
theorem dX1_findGood_4 : decode cX1_findGood 4 = .ok (.istore_n 1, 1) := by decide +kernel
theorem dX1_findGood_5 : decode cX1_findGood 5 = .ok (.iconst 0, 1) := by decide +kernel
theorem dX1_findGood_6 : decode cX1_findGood 6 = .ok (.istore_n 2, 1) := by decide +kernel
theorem dX1_findGood_7 : decode cX1_findGood 7 = .ok (.iload_n 2, 1) := by decide +kernel
theorem dX1_findGood_8 : decode cX1_findGood 8 = .ok (.bipush 7, 2) := by decide +kernel
theorem dX1_findGood_10 : decode cX1_findGood 10 = .ok (.if_icmp .ge 21, 3) := by decide +kernel
theorem dX1_findGood_13 : decode cX1_findGood 13 = .ok (.aload_n 0, 1) := by decide +kernel
theorem dX1_findGood_14 : decode cX1_findGood 14 = .ok (.getfield 20, 3) := by decide +kernel
theorem dX1_findGood_17 : decode cX1_findGood 17 = .ok (.iload_n 2, 1) := by decide +kernel
theorem dX1_findGood_18 : decode cX1_findGood 18 = .ok (.aload_n 0, 1) := by decide +kernel
theorem dX1_findGood_19 : decode cX1_findGood 19 = .ok (.iload_n 2, 1) := by decide +kernel
theorem dX1_findGood_20 : decode cX1_findGood 20 = .ok (.iload_n 1, 1) := by decide +kernel
theorem dX1_findGood_21 : decode cX1_findGood 21 = .ok (.invokevirtual 47, 3) := by decide +kernel
theorem dX1_findGood_24 : decode cX1_findGood 24 = .ok (.iastore, 1) := by decide +kernel
theorem dX1_findGood_25 : decode cX1_findGood 25 = .ok (.iinc 2 1, 3) := by decide +kernel
theorem dX1_findGood_28 : decode cX1_findGood 28 = .ok (.goto (-21), 3) := by decide +kernel
theorem dX1_findGood_31 : decode cX1_findGood 31 = .ok (.return_, 1) := by decide +kernel
abbrev cX1_blockOf : ByteArray := prog_3_method_16_code
def yX1_blockOf : MethodName := ⟨RX1, "blockOf", "(I)I"⟩
theorem dX1_blockOf_0 : decode cX1_blockOf 0 = .ok (.iconst 1, 1) := by decide +kernel
theorem dX1_blockOf_1 : decode cX1_blockOf 1 = .ok (.iload_n 1, 1) := by decide +kernel
theorem dX1_blockOf_2 : decode cX1_blockOf 2 = .ok (.ishl, 1) := by decide +kernel
theorem dX1_blockOf_3 : decode cX1_blockOf 3 = .ok (.istore_n 2, 1) := by decide +kernel
theorem dX1_blockOf_4 : decode cX1_blockOf 4 = .ok (.iconst 0, 1) := by decide +kernel
theorem dX1_blockOf_5 : decode cX1_blockOf 5 = .ok (.istore_n 3, 1) := by decide +kernel
theorem dX1_blockOf_6 : decode cX1_blockOf 6 = .ok (.iload_n 3, 1) := by decide +kernel
theorem dX1_blockOf_7 : decode cX1_blockOf 7 = .ok (.bipush 7, 2) := by decide +kernel
theorem dX1_blockOf_9 : decode cX1_blockOf 9 = .ok (.if_icmp .ge 72, 3) := by decide +kernel
theorem dX1_blockOf_12 : decode cX1_blockOf 12 = .ok (.iconst 0, 1) := by decide +kernel
theorem dX1_blockOf_13 : decode cX1_blockOf 13 = .ok (.istore 4, 2) := by decide +kernel
theorem dX1_blockOf_15 : decode cX1_blockOf 15 = .ok (.iload 4, 2) := by decide +kernel
theorem dX1_blockOf_17 : decode cX1_blockOf 17 = .ok (.bipush 49, 2) := by decide +kernel
theorem dX1_blockOf_19 : decode cX1_blockOf 19 = .ok (.if_icmp .ge 56, 3) := by decide +kernel
theorem dX1_blockOf_22 : decode cX1_blockOf 22 = .ok (.aload_n 0, 1) := by decide +kernel
theorem dX1_blockOf_23 : decode cX1_blockOf 23 = .ok (.iload_n 2, 1) := by decide +kernel
theorem dX1_blockOf_24 : decode cX1_blockOf 24 = .ok (.iload 4, 2) := by decide +kernel
theorem dX1_blockOf_26 : decode cX1_blockOf 26 = .ok (.bipush 7, 2) := by decide +kernel
theorem dX1_blockOf_28 : decode cX1_blockOf 28 = .ok (.idiv, 1) := by decide +kernel
theorem dX1_blockOf_29 : decode cX1_blockOf 29 = .ok (.invokevirtual 27, 3) := by decide +kernel
theorem dX1_blockOf_32 : decode cX1_blockOf 32 = .ok (.ifCond .eq 37, 3) := by decide +kernel
theorem dX1_blockOf_35 : decode cX1_blockOf 35 = .ok (.aload_n 0, 1) := by decide +kernel
theorem dX1_blockOf_36 : decode cX1_blockOf 36 = .ok (.getfield 20, 3) := by decide +kernel
theorem dX1_blockOf_39 : decode cX1_blockOf 39 = .ok (.iload 4, 2) := by decide +kernel
theorem dX1_blockOf_41 : decode cX1_blockOf 41 = .ok (.bipush 7, 2) := by decide +kernel
theorem dX1_blockOf_43 : decode cX1_blockOf 43 = .ok (.idiv, 1) := by decide +kernel
theorem dX1_blockOf_44 : decode cX1_blockOf 44 = .ok (.iaload, 1) := by decide +kernel
theorem dX1_blockOf_45 : decode cX1_blockOf 45 = .ok (.aload_n 0, 1) := by decide +kernel
theorem dX1_blockOf_46 : decode cX1_blockOf 46 = .ok (.getfield 20, 3) := by decide +kernel
theorem dX1_blockOf_49 : decode cX1_blockOf 49 = .ok (.iload 4, 2) := by decide +kernel
theorem dX1_blockOf_51 : decode cX1_blockOf 51 = .ok (.bipush 7, 2) := by decide +kernel
theorem dX1_blockOf_53 : decode cX1_blockOf 53 = .ok (.irem, 1) := by decide +kernel
theorem dX1_blockOf_54 : decode cX1_blockOf 54 = .ok (.iaload, 1) := by decide +kernel
theorem dX1_blockOf_55 : decode cX1_blockOf 55 = .ok (.iand, 1) := by decide +kernel
theorem dX1_blockOf_56 : decode cX1_blockOf 56 = .ok (.ifCond .eq 13, 3) := by decide +kernel
theorem dX1_blockOf_59 : decode cX1_blockOf 59 = .ok (.iload_n 2, 1) := by decide +kernel
theorem dX1_blockOf_60 : decode cX1_blockOf 60 = .ok (.iconst 1, 1) := by decide +kernel
theorem dX1_blockOf_61 : decode cX1_blockOf 61 = .ok (.iload 4, 2) := by decide +kernel
theorem dX1_blockOf_63 : decode cX1_blockOf 63 = .ok (.bipush 7, 2) := by decide +kernel
theorem dX1_blockOf_65 : decode cX1_blockOf 65 = .ok (.irem, 1) := by decide +kernel
theorem dX1_blockOf_66 : decode cX1_blockOf 66 = .ok (.ishl, 1) := by decide +kernel
theorem dX1_blockOf_67 : decode cX1_blockOf 67 = .ok (.ior, 1) := by decide +kernel
theorem dX1_blockOf_68 : decode cX1_blockOf 68 = .ok (.istore_n 2, 1) := by decide +kernel
theorem dX1_blockOf_69 : decode cX1_blockOf 69 = .ok (.iinc 4 1, 3) := by decide +kernel
theorem dX1_blockOf_72 : decode cX1_blockOf 72 = .ok (.goto (-57), 3) := by decide +kernel
theorem dX1_blockOf_75 : decode cX1_blockOf 75 = .ok (.iinc 3 1, 3) := by decide +kernel
theorem dX1_blockOf_78 : decode cX1_blockOf 78 = .ok (.goto (-72), 3) := by decide +kernel
theorem dX1_blockOf_81 : decode cX1_blockOf 81 = .ok (.iload_n 2, 1) := by decide +kernel
theorem dX1_blockOf_82 : decode cX1_blockOf 82 = .ok (.ireturn, 1) := by decide +kernel
abbrev cX1_blockRows : ByteArray := prog_3_method_19_code
def yX1_blockRows : MethodName := ⟨RX1, "blockRows", "(I)I"⟩
theorem dX1_blockRows_0 : decode cX1_blockRows 0 = .ok (.aload_n 0, 1) := by decide +kernel
theorem dX1_blockRows_1 : decode cX1_blockRows 1 = .ok (.iload_n 1, 1) := by decide +kernel
theorem dX1_blockRows_2 : decode cX1_blockRows 2 = .ok (.invokevirtual 23, 3) := by decide +kernel
theorem dX1_blockRows_5 : decode cX1_blockRows 5 = .ok (.ifCond .ne 5, 3) := by decide +kernel
theorem dX1_blockRows_8 : decode cX1_blockRows 8 = .ok (.iconst (-1), 1) := by decide +kernel
theorem dX1_blockRows_9 : decode cX1_blockRows 9 = .ok (.ireturn, 1) := by decide +kernel
theorem dX1_blockRows_10 : decode cX1_blockRows 10 = .ok (.aload_n 0, 1) := by decide +kernel
theorem dX1_blockRows_11 : decode cX1_blockRows 11 = .ok (.invokevirtual 51, 3) := by decide +kernel
theorem dX1_blockRows_14 : decode cX1_blockRows 14 = .ok (.aload_n 0, 1) := by decide +kernel
theorem dX1_blockRows_15 : decode cX1_blockRows 15 = .ok (.getfield 20, 3) := by decide +kernel
theorem dX1_blockRows_18 : decode cX1_blockRows 18 = .ok (.iload_n 1, 1) := by decide +kernel
theorem dX1_blockRows_19 : decode cX1_blockRows 19 = .ok (.iaload, 1) := by decide +kernel
theorem dX1_blockRows_20 : decode cX1_blockRows 20 = .ok (.ifCond .ne 7, 3) := by decide +kernel
theorem dX1_blockRows_23 : decode cX1_blockRows 23 = .ok (.iconst 0, 1) := by decide +kernel
theorem dX1_blockRows_24 : decode cX1_blockRows 24 = .ok (.goto 8, 3) := by decide +kernel
theorem dX1_blockRows_27 : decode cX1_blockRows 27 = .ok (.aload_n 0, 1) := by decide +kernel
theorem dX1_blockRows_28 : decode cX1_blockRows 28 = .ok (.iload_n 1, 1) := by decide +kernel
theorem dX1_blockRows_29 : decode cX1_blockRows 29 = .ok (.invokevirtual 54, 3) := by decide +kernel
theorem dX1_blockRows_32 : decode cX1_blockRows 32 = .ok (.ireturn, 1) := by decide +kernel
abbrev cX1_cover : ByteArray := prog_3_method_20_code
def yX1_cover : MethodName := ⟨RX1, "cover", "()I"⟩
theorem dX1_cover_0 : decode cX1_cover 0 = .ok (.bipush 7, 2) := by decide +kernel
theorem dX1_cover_2 : decode cX1_cover 2 = .ok (.istore_n 1, 1) := by decide +kernel
theorem dX1_cover_3 : decode cX1_cover 3 = .ok (.iconst 0, 1) := by decide +kernel
theorem dX1_cover_4 : decode cX1_cover 4 = .ok (.istore_n 2, 1) := by decide +kernel
theorem dX1_cover_5 : decode cX1_cover 5 = .ok (.iload_n 2, 1) := by decide +kernel
theorem dX1_cover_6 : decode cX1_cover 6 = .ok (.sipush 128, 3) := by decide +kernel
theorem dX1_cover_9 : decode cX1_cover 9 = .ok (.if_icmp .ge 69, 3) := by decide +kernel
theorem dX1_cover_12 : decode cX1_cover 12 = .ok (.iconst 0, 1) := by decide +kernel
theorem dX1_cover_13 : decode cX1_cover 13 = .ok (.istore_n 3, 1) := by decide +kernel
theorem dX1_cover_14 : decode cX1_cover 14 = .ok (.iconst 0, 1) := by decide +kernel
theorem dX1_cover_15 : decode cX1_cover 15 = .ok (.istore 4, 2) := by decide +kernel
theorem dX1_cover_17 : decode cX1_cover 17 = .ok (.iload 4, 2) := by decide +kernel
theorem dX1_cover_19 : decode cX1_cover 19 = .ok (.bipush 7, 2) := by decide +kernel
theorem dX1_cover_21 : decode cX1_cover 21 = .ok (.if_icmp .ge 29, 3) := by decide +kernel
theorem dX1_cover_24 : decode cX1_cover 24 = .ok (.aload_n 0, 1) := by decide +kernel
theorem dX1_cover_25 : decode cX1_cover 25 = .ok (.iload_n 2, 1) := by decide +kernel
theorem dX1_cover_26 : decode cX1_cover 26 = .ok (.iload 4, 2) := by decide +kernel
theorem dX1_cover_28 : decode cX1_cover 28 = .ok (.invokevirtual 27, 3) := by decide +kernel
theorem dX1_cover_31 : decode cX1_cover 31 = .ok (.ifCond .ne 13, 3) := by decide +kernel
theorem dX1_cover_34 : decode cX1_cover 34 = .ok (.iload_n 3, 1) := by decide +kernel
theorem dX1_cover_35 : decode cX1_cover 35 = .ok (.aload_n 0, 1) := by decide +kernel
theorem dX1_cover_36 : decode cX1_cover 36 = .ok (.getfield 7, 3) := by decide +kernel
theorem dX1_cover_39 : decode cX1_cover 39 = .ok (.iload 4, 2) := by decide +kernel
theorem dX1_cover_41 : decode cX1_cover 41 = .ok (.iaload, 1) := by decide +kernel
theorem dX1_cover_42 : decode cX1_cover 42 = .ok (.ior, 1) := by decide +kernel
theorem dX1_cover_43 : decode cX1_cover 43 = .ok (.istore_n 3, 1) := by decide +kernel
theorem dX1_cover_44 : decode cX1_cover 44 = .ok (.iinc 4 1, 3) := by decide +kernel
theorem dX1_cover_47 : decode cX1_cover 47 = .ok (.goto (-30), 3) := by decide +kernel
theorem dX1_cover_50 : decode cX1_cover 50 = .ok (.aload_n 0, 1) := by decide +kernel
theorem dX1_cover_51 : decode cX1_cover 51 = .ok (.iload_n 2, 1) := by decide +kernel
theorem dX1_cover_52 : decode cX1_cover 52 = .ok (.invokevirtual 35, 3) := by decide +kernel
theorem dX1_cover_55 : decode cX1_cover 55 = .ok (.aload_n 0, 1) := by decide +kernel
theorem dX1_cover_56 : decode cX1_cover 56 = .ok (.iload_n 3, 1) := by decide +kernel
theorem dX1_cover_57 : decode cX1_cover 57 = .ok (.invokevirtual 35, 3) := by decide +kernel
theorem dX1_cover_60 : decode cX1_cover 60 = .ok (.iadd, 1) := by decide +kernel
theorem dX1_cover_61 : decode cX1_cover 61 = .ok (.istore 4, 2) := by decide +kernel
theorem dX1_cover_63 : decode cX1_cover 63 = .ok (.iload 4, 2) := by decide +kernel
theorem dX1_cover_65 : decode cX1_cover 65 = .ok (.iload_n 1, 1) := by decide +kernel
theorem dX1_cover_66 : decode cX1_cover 66 = .ok (.if_icmp .ge 6, 3) := by decide +kernel
theorem dX1_cover_69 : decode cX1_cover 69 = .ok (.iload 4, 2) := by decide +kernel
theorem dX1_cover_71 : decode cX1_cover 71 = .ok (.istore_n 1, 1) := by decide +kernel
theorem dX1_cover_72 : decode cX1_cover 72 = .ok (.iinc 2 1, 3) := by decide +kernel
theorem dX1_cover_75 : decode cX1_cover 75 = .ok (.goto (-70), 3) := by decide +kernel
theorem dX1_cover_78 : decode cX1_cover 78 = .ok (.iload_n 1, 1) := by decide +kernel
theorem dX1_cover_79 : decode cX1_cover 79 = .ok (.ireturn, 1) := by decide +kernel
theorem q24 : (Jvm.Cond.initialized "DmDecomposerModel") ∈ lw_all := lw_g (lw_at lw_m1 2 rfl) rfl
theorem q173 : (Jvm.Cond.instantiable "DmDecomposerModel" (4 : Nat)) ∈ lw_all := lw_g (lw_at lw_m1 151 rfl) rfl
theorem q175 : (Jvm.Cond.instanceMethod ({ cls := "DmDecomposerModel", name := "<init>", desc := "()V" } : Jvm.MethodName)) ∈ lw_all := lw_g (lw_at lw_m1 153 rfl) rfl
theorem q176 : (Jvm.Cond.code ({ cls := "DmDecomposerModel", name := "<init>", desc := "()V" } : Jvm.MethodName) prog_3_method_1_code (1 : Nat) (Option.none : Option Jvm.ClassFile.FieldType)) ∈ lw_all := lw_g (lw_at lw_m1 154 rfl) rfl
theorem q177 : (Jvm.Cond.methodLink "DmDecomposerModel" (1 : Nat) ({ cls := "java/lang/Object", name := "<init>", desc := "()V" } : Jvm.MethodName)) ∈ lw_all := lw_g (lw_at lw_m1 155 rfl) rfl
theorem q178 : (Jvm.Cond.fieldLink "DmDecomposerModel" (7 : Nat) "DmDecomposerModel" "rows" "[I") ∈ lw_all := lw_g (lw_at lw_m1 156 rfl) rfl
theorem q179 : (Jvm.Cond.fieldLink "DmDecomposerModel" (13 : Nat) "DmDecomposerModel" "can" "[Z") ∈ lw_all := lw_g (lw_at lw_m1 157 rfl) rfl
theorem q180 : (Jvm.Cond.fieldLink "DmDecomposerModel" (17 : Nat) "DmDecomposerModel" "then" "[Z") ∈ lw_all := lw_g (lw_at lw_m1 158 rfl) rfl
theorem q181 : (Jvm.Cond.fieldLink "DmDecomposerModel" (20 : Nat) "DmDecomposerModel" "good" "[I") ∈ lw_all := lw_g (lw_at lw_m1 159 rfl) rfl
theorem q182 : (Jvm.Cond.lays "DmDecomposerModel" "DmDecomposerModel" "rows" "[I") ∈ lw_all := lw_g (lw_at lw_m1 160 rfl) rfl
theorem q183 : (Jvm.Cond.soleField "DmDecomposerModel" "rows") ∈ lw_all := lw_g (lw_at lw_m1 161 rfl) rfl
theorem q184 : (Jvm.Cond.lays "DmDecomposerModel" "DmDecomposerModel" "can" "[Z") ∈ lw_all := lw_g (lw_at lw_m1 162 rfl) rfl
theorem q185 : (Jvm.Cond.soleField "DmDecomposerModel" "can") ∈ lw_all := lw_g (lw_at lw_m1 163 rfl) rfl
theorem q186 : (Jvm.Cond.lays "DmDecomposerModel" "DmDecomposerModel" "then" "[Z") ∈ lw_all := lw_g (lw_at lw_m1 164 rfl) rfl
theorem q187 : (Jvm.Cond.soleField "DmDecomposerModel" "then") ∈ lw_all := lw_g (lw_at lw_m1 165 rfl) rfl
theorem q188 : (Jvm.Cond.lays "DmDecomposerModel" "DmDecomposerModel" "good" "[I") ∈ lw_all := lw_g (lw_at lw_m1 166 rfl) rfl
theorem q189 : (Jvm.Cond.soleField "DmDecomposerModel" "good") ∈ lw_all := lw_g (lw_at lw_m1 167 rfl) rfl
theorem q190 : (Jvm.Cond.superclass "DmDecomposerModel" "java/lang/Object") ∈ lw_all := lw_g (lw_at lw_m1 168 rfl) rfl
theorem q193 : (Jvm.Cond.instanceMethod ({ cls := "DmDecomposerModel", name := "edge", desc := "(IIZ)Z" } : Jvm.MethodName)) ∈ lw_all := lw_g (lw_at lw_m1 171 rfl) rfl
theorem q194 : (Jvm.Cond.selects "DmDecomposerModel" ({ cls := "DmDecomposerModel", name := "edge", desc := "(IIZ)Z" } : Jvm.MethodName) ({ cls := "DmDecomposerModel", name := "edge", desc := "(IIZ)Z" } : Jvm.MethodName)) ∈ lw_all := lw_g (lw_at lw_m1 172 rfl) rfl
theorem q195 : (Jvm.Cond.code ({ cls := "DmDecomposerModel", name := "edge", desc := "(IIZ)Z" } : Jvm.MethodName) prog_3_method_4_code (4 : Nat) (Option.some Jvm.ClassFile.FieldType.boolean)) ∈ lw_all := lw_g (lw_at lw_m1 173 rfl) rfl
theorem q196 : (Jvm.Cond.methodLink "DmDecomposerModel" (23 : Nat) ({ cls := "DmDecomposerModel", name := "isPlace", desc := "(I)Z" } : Jvm.MethodName)) ∈ lw_all := lw_g (lw_at lw_m1 174 rfl) rfl
theorem q197 : (Jvm.Cond.privateMethod ({ cls := "DmDecomposerModel", name := "isPlace", desc := "(I)Z" } : Jvm.MethodName)) ∈ lw_tbl := lw_at lw_m1 175 rfl
theorem q198 : (Jvm.Cond.instanceMethod ({ cls := "DmDecomposerModel", name := "isPlace", desc := "(I)Z" } : Jvm.MethodName)) ∈ lw_all := lw_g (lw_at lw_m1 176 rfl) rfl
theorem q199 : (Jvm.Cond.code ({ cls := "DmDecomposerModel", name := "isPlace", desc := "(I)Z" } : Jvm.MethodName) prog_3_method_2_code (2 : Nat) (Option.some Jvm.ClassFile.FieldType.boolean)) ∈ lw_all := lw_g (lw_at lw_m1 177 rfl) rfl
theorem q201 : (Jvm.Cond.instanceMethod ({ cls := "DmDecomposerModel", name := "row", desc := "(II)Z" } : Jvm.MethodName)) ∈ lw_all := lw_g (lw_at lw_m1 179 rfl) rfl
theorem q202 : (Jvm.Cond.selects "DmDecomposerModel" ({ cls := "DmDecomposerModel", name := "row", desc := "(II)Z" } : Jvm.MethodName) ({ cls := "DmDecomposerModel", name := "row", desc := "(II)Z" } : Jvm.MethodName)) ∈ lw_all := lw_g (lw_at lw_m1 180 rfl) rfl
theorem q203 : (Jvm.Cond.code ({ cls := "DmDecomposerModel", name := "row", desc := "(II)Z" } : Jvm.MethodName) prog_3_method_5_code (3 : Nat) (Option.some Jvm.ClassFile.FieldType.boolean)) ∈ lw_all := lw_g (lw_at lw_m1 181 rfl) rfl
theorem q205 : (Jvm.Cond.instanceMethod ({ cls := "DmDecomposerModel", name := "columnsOf", desc := "(I)I" } : Jvm.MethodName)) ∈ lw_all := lw_g (lw_at lw_m1 183 rfl) rfl
theorem q206 : (Jvm.Cond.selects "DmDecomposerModel" ({ cls := "DmDecomposerModel", name := "columnsOf", desc := "(I)I" } : Jvm.MethodName) ({ cls := "DmDecomposerModel", name := "columnsOf", desc := "(I)I" } : Jvm.MethodName)) ∈ lw_all := lw_g (lw_at lw_m1 184 rfl) rfl
theorem q207 : (Jvm.Cond.code ({ cls := "DmDecomposerModel", name := "columnsOf", desc := "(I)I" } : Jvm.MethodName) prog_3_method_6_code (2 : Nat) (Option.some Jvm.ClassFile.FieldType.int)) ∈ lw_all := lw_g (lw_at lw_m1 185 rfl) rfl
theorem q209 : (Jvm.Cond.instanceMethod ({ cls := "DmDecomposerModel", name := "largest", desc := "()I" } : Jvm.MethodName)) ∈ lw_all := lw_g (lw_at lw_m1 187 rfl) rfl
theorem q210 : (Jvm.Cond.selects "DmDecomposerModel" ({ cls := "DmDecomposerModel", name := "largest", desc := "()I" } : Jvm.MethodName) ({ cls := "DmDecomposerModel", name := "largest", desc := "()I" } : Jvm.MethodName)) ∈ lw_all := lw_g (lw_at lw_m1 188 rfl) rfl
theorem q211 : (Jvm.Cond.code ({ cls := "DmDecomposerModel", name := "largest", desc := "()I" } : Jvm.MethodName) prog_3_method_10_code (1 : Nat) (Option.some Jvm.ClassFile.FieldType.int)) ∈ lw_all := lw_g (lw_at lw_m1 189 rfl) rfl
theorem q212 : (Jvm.Cond.methodLink "DmDecomposerModel" (39 : Nat) ({ cls := "DmDecomposerModel", name := "sizeWithout", desc := "(IIII)I" } : Jvm.MethodName)) ∈ lw_all := lw_g (lw_at lw_m1 190 rfl) rfl
theorem q213 : (Jvm.Cond.privateMethod ({ cls := "DmDecomposerModel", name := "sizeWithout", desc := "(IIII)I" } : Jvm.MethodName)) ∈ lw_tbl := lw_at lw_m1 191 rfl
theorem q214 : (Jvm.Cond.instanceMethod ({ cls := "DmDecomposerModel", name := "sizeWithout", desc := "(IIII)I" } : Jvm.MethodName)) ∈ lw_all := lw_g (lw_at lw_m1 192 rfl) rfl
theorem q215 : (Jvm.Cond.code ({ cls := "DmDecomposerModel", name := "sizeWithout", desc := "(IIII)I" } : Jvm.MethodName) prog_3_method_9_code (8 : Nat) (Option.some Jvm.ClassFile.FieldType.int)) ∈ lw_all := lw_g (lw_at lw_m1 193 rfl) rfl
theorem q216 : (Jvm.Cond.methodLink "DmDecomposerModel" (31 : Nat) ({ cls := "DmDecomposerModel", name := "takeRow", desc := "(I)V" } : Jvm.MethodName)) ∈ lw_all := lw_g (lw_at lw_m1 194 rfl) rfl
theorem q217 : (Jvm.Cond.privateMethod ({ cls := "DmDecomposerModel", name := "takeRow", desc := "(I)V" } : Jvm.MethodName)) ∈ lw_tbl := lw_at lw_m1 195 rfl
theorem q218 : (Jvm.Cond.instanceMethod ({ cls := "DmDecomposerModel", name := "takeRow", desc := "(I)V" } : Jvm.MethodName)) ∈ lw_all := lw_g (lw_at lw_m1 196 rfl) rfl
theorem q219 : (Jvm.Cond.code ({ cls := "DmDecomposerModel", name := "takeRow", desc := "(I)V" } : Jvm.MethodName) prog_3_method_8_code (4 : Nat) (Option.none : Option Jvm.ClassFile.FieldType)) ∈ lw_all := lw_g (lw_at lw_m1 197 rfl) rfl
theorem q220 : (Jvm.Cond.methodLink "DmDecomposerModel" (27 : Nat) ({ cls := "DmDecomposerModel", name := "in", desc := "(II)Z" } : Jvm.MethodName)) ∈ lw_all := lw_g (lw_at lw_m1 198 rfl) rfl
theorem q221 : (Jvm.Cond.privateMethod ({ cls := "DmDecomposerModel", name := "in", desc := "(II)Z" } : Jvm.MethodName)) ∈ lw_tbl := lw_at lw_m1 199 rfl
theorem q222 : (Jvm.Cond.instanceMethod ({ cls := "DmDecomposerModel", name := "in", desc := "(II)Z" } : Jvm.MethodName)) ∈ lw_all := lw_g (lw_at lw_m1 200 rfl) rfl
theorem q223 : (Jvm.Cond.code ({ cls := "DmDecomposerModel", name := "in", desc := "(II)Z" } : Jvm.MethodName) prog_3_method_3_code (3 : Nat) (Option.some Jvm.ClassFile.FieldType.boolean)) ∈ lw_all := lw_g (lw_at lw_m1 201 rfl) rfl
theorem q224 : (Jvm.Cond.methodLink "DmDecomposerModel" (35 : Nat) ({ cls := "DmDecomposerModel", name := "sizeOf", desc := "(I)I" } : Jvm.MethodName)) ∈ lw_all := lw_g (lw_at lw_m1 202 rfl) rfl
theorem q225 : (Jvm.Cond.privateMethod ({ cls := "DmDecomposerModel", name := "sizeOf", desc := "(I)I" } : Jvm.MethodName)) ∈ lw_tbl := lw_at lw_m1 203 rfl
theorem q226 : (Jvm.Cond.instanceMethod ({ cls := "DmDecomposerModel", name := "sizeOf", desc := "(I)I" } : Jvm.MethodName)) ∈ lw_all := lw_g (lw_at lw_m1 204 rfl) rfl
theorem q227 : (Jvm.Cond.code ({ cls := "DmDecomposerModel", name := "sizeOf", desc := "(I)I" } : Jvm.MethodName) prog_3_method_7_code (4 : Nat) (Option.some Jvm.ClassFile.FieldType.int)) ∈ lw_all := lw_g (lw_at lw_m1 205 rfl) rfl
theorem q229 : (Jvm.Cond.instanceMethod ({ cls := "DmDecomposerModel", name := "looseRows", desc := "()I" } : Jvm.MethodName)) ∈ lw_all := lw_g (lw_at lw_m1 207 rfl) rfl
theorem q230 : (Jvm.Cond.selects "DmDecomposerModel" ({ cls := "DmDecomposerModel", name := "looseRows", desc := "()I" } : Jvm.MethodName) ({ cls := "DmDecomposerModel", name := "looseRows", desc := "()I" } : Jvm.MethodName)) ∈ lw_all := lw_g (lw_at lw_m1 208 rfl) rfl
theorem q231 : (Jvm.Cond.code ({ cls := "DmDecomposerModel", name := "looseRows", desc := "()I" } : Jvm.MethodName) prog_3_method_11_code (4 : Nat) (Option.some Jvm.ClassFile.FieldType.int)) ∈ lw_all := lw_g (lw_at lw_m1 209 rfl) rfl
theorem q232 : (Jvm.Cond.methodLink "DmDecomposerModel" (43 : Nat) ({ cls := "DmDecomposerModel", name := "largest", desc := "()I" } : Jvm.MethodName)) ∈ lw_all := lw_g (lw_at lw_m1 210 rfl) rfl
theorem q234 : (Jvm.Cond.instanceMethod ({ cls := "DmDecomposerModel", name := "looseColumns", desc := "()I" } : Jvm.MethodName)) ∈ lw_all := lw_g (lw_at lw_m1 212 rfl) rfl
theorem q235 : (Jvm.Cond.selects "DmDecomposerModel" ({ cls := "DmDecomposerModel", name := "looseColumns", desc := "()I" } : Jvm.MethodName) ({ cls := "DmDecomposerModel", name := "looseColumns", desc := "()I" } : Jvm.MethodName)) ∈ lw_all := lw_g (lw_at lw_m1 213 rfl) rfl
theorem q236 : (Jvm.Cond.code ({ cls := "DmDecomposerModel", name := "looseColumns", desc := "()I" } : Jvm.MethodName) prog_3_method_12_code (4 : Nat) (Option.some Jvm.ClassFile.FieldType.int)) ∈ lw_all := lw_g (lw_at lw_m1 214 rfl) rfl
theorem q238 : (Jvm.Cond.instanceMethod ({ cls := "DmDecomposerModel", name := "usable", desc := "(I)I" } : Jvm.MethodName)) ∈ lw_all := lw_g (lw_at lw_m1 216 rfl) rfl
theorem q239 : (Jvm.Cond.selects "DmDecomposerModel" ({ cls := "DmDecomposerModel", name := "usable", desc := "(I)I" } : Jvm.MethodName) ({ cls := "DmDecomposerModel", name := "usable", desc := "(I)I" } : Jvm.MethodName)) ∈ lw_all := lw_g (lw_at lw_m1 217 rfl) rfl
theorem q240 : (Jvm.Cond.code ({ cls := "DmDecomposerModel", name := "usable", desc := "(I)I" } : Jvm.MethodName) prog_3_method_14_code (3 : Nat) (Option.some Jvm.ClassFile.FieldType.int)) ∈ lw_all := lw_g (lw_at lw_m1 218 rfl) rfl
theorem q241 : (Jvm.Cond.methodLink "DmDecomposerModel" (47 : Nat) ({ cls := "DmDecomposerModel", name := "usableOf", desc := "(II)I" } : Jvm.MethodName)) ∈ lw_all := lw_g (lw_at lw_m1 219 rfl) rfl
theorem q242 : (Jvm.Cond.privateMethod ({ cls := "DmDecomposerModel", name := "usableOf", desc := "(II)I" } : Jvm.MethodName)) ∈ lw_tbl := lw_at lw_m1 220 rfl
theorem q243 : (Jvm.Cond.instanceMethod ({ cls := "DmDecomposerModel", name := "usableOf", desc := "(II)I" } : Jvm.MethodName)) ∈ lw_all := lw_g (lw_at lw_m1 221 rfl) rfl
theorem q244 : (Jvm.Cond.code ({ cls := "DmDecomposerModel", name := "usableOf", desc := "(II)I" } : Jvm.MethodName) prog_3_method_13_code (5 : Nat) (Option.some Jvm.ClassFile.FieldType.int)) ∈ lw_all := lw_g (lw_at lw_m1 222 rfl) rfl
theorem q246 : (Jvm.Cond.instanceMethod ({ cls := "DmDecomposerModel", name := "forced", desc := "(I)I" } : Jvm.MethodName)) ∈ lw_all := lw_g (lw_at lw_m1 224 rfl) rfl
theorem q247 : (Jvm.Cond.selects "DmDecomposerModel" ({ cls := "DmDecomposerModel", name := "forced", desc := "(I)I" } : Jvm.MethodName) ({ cls := "DmDecomposerModel", name := "forced", desc := "(I)I" } : Jvm.MethodName)) ∈ lw_all := lw_g (lw_at lw_m1 225 rfl) rfl
theorem q248 : (Jvm.Cond.code ({ cls := "DmDecomposerModel", name := "forced", desc := "(I)I" } : Jvm.MethodName) prog_3_method_15_code (5 : Nat) (Option.some Jvm.ClassFile.FieldType.int)) ∈ lw_all := lw_g (lw_at lw_m1 226 rfl) rfl
theorem q250 : (Jvm.Cond.instanceMethod ({ cls := "DmDecomposerModel", name := "blocks", desc := "()I" } : Jvm.MethodName)) ∈ lw_all := lw_g (lw_at lw_m1 228 rfl) rfl
theorem q251 : (Jvm.Cond.selects "DmDecomposerModel" ({ cls := "DmDecomposerModel", name := "blocks", desc := "()I" } : Jvm.MethodName) ({ cls := "DmDecomposerModel", name := "blocks", desc := "()I" } : Jvm.MethodName)) ∈ lw_all := lw_g (lw_at lw_m1 229 rfl) rfl
theorem q252 : (Jvm.Cond.code ({ cls := "DmDecomposerModel", name := "blocks", desc := "()I" } : Jvm.MethodName) prog_3_method_18_code (4 : Nat) (Option.some Jvm.ClassFile.FieldType.int)) ∈ lw_all := lw_g (lw_at lw_m1 230 rfl) rfl
theorem q253 : (Jvm.Cond.methodLink "DmDecomposerModel" (51 : Nat) ({ cls := "DmDecomposerModel", name := "findGood", desc := "()V" } : Jvm.MethodName)) ∈ lw_all := lw_g (lw_at lw_m1 231 rfl) rfl
theorem q254 : (Jvm.Cond.privateMethod ({ cls := "DmDecomposerModel", name := "findGood", desc := "()V" } : Jvm.MethodName)) ∈ lw_tbl := lw_at lw_m1 232 rfl
theorem q255 : (Jvm.Cond.instanceMethod ({ cls := "DmDecomposerModel", name := "findGood", desc := "()V" } : Jvm.MethodName)) ∈ lw_all := lw_g (lw_at lw_m1 233 rfl) rfl
theorem q256 : (Jvm.Cond.code ({ cls := "DmDecomposerModel", name := "findGood", desc := "()V" } : Jvm.MethodName) prog_3_method_17_code (3 : Nat) (Option.none : Option Jvm.ClassFile.FieldType)) ∈ lw_all := lw_g (lw_at lw_m1 234 rfl) rfl
theorem q257 : (Jvm.Cond.methodLink "DmDecomposerModel" (54 : Nat) ({ cls := "DmDecomposerModel", name := "blockOf", desc := "(I)I" } : Jvm.MethodName)) ∈ lw_all := lw_g (lw_at lw_m1 235 rfl) rfl
theorem q258 : (Jvm.Cond.privateMethod ({ cls := "DmDecomposerModel", name := "blockOf", desc := "(I)I" } : Jvm.MethodName)) ∈ lw_tbl := lw_at lw_m1 236 rfl
theorem q259 : (Jvm.Cond.instanceMethod ({ cls := "DmDecomposerModel", name := "blockOf", desc := "(I)I" } : Jvm.MethodName)) ∈ lw_all := lw_g (lw_at lw_m1 237 rfl) rfl
theorem q260 : (Jvm.Cond.code ({ cls := "DmDecomposerModel", name := "blockOf", desc := "(I)I" } : Jvm.MethodName) prog_3_method_16_code (5 : Nat) (Option.some Jvm.ClassFile.FieldType.int)) ∈ lw_all := lw_g (lw_at lw_m1 238 rfl) rfl
theorem q262 : (Jvm.Cond.instanceMethod ({ cls := "DmDecomposerModel", name := "blockRows", desc := "(I)I" } : Jvm.MethodName)) ∈ lw_all := lw_g (lw_at lw_m2 0 rfl) rfl
theorem q263 : (Jvm.Cond.selects "DmDecomposerModel" ({ cls := "DmDecomposerModel", name := "blockRows", desc := "(I)I" } : Jvm.MethodName) ({ cls := "DmDecomposerModel", name := "blockRows", desc := "(I)I" } : Jvm.MethodName)) ∈ lw_all := lw_g (lw_at lw_m2 1 rfl) rfl
theorem q264 : (Jvm.Cond.code ({ cls := "DmDecomposerModel", name := "blockRows", desc := "(I)I" } : Jvm.MethodName) prog_3_method_19_code (2 : Nat) (Option.some Jvm.ClassFile.FieldType.int)) ∈ lw_all := lw_g (lw_at lw_m2 2 rfl) rfl
theorem q266 : (Jvm.Cond.instanceMethod ({ cls := "DmDecomposerModel", name := "cover", desc := "()I" } : Jvm.MethodName)) ∈ lw_all := lw_g (lw_at lw_m2 4 rfl) rfl
theorem q267 : (Jvm.Cond.selects "DmDecomposerModel" ({ cls := "DmDecomposerModel", name := "cover", desc := "()I" } : Jvm.MethodName) ({ cls := "DmDecomposerModel", name := "cover", desc := "()I" } : Jvm.MethodName)) ∈ lw_all := lw_g (lw_at lw_m2 5 rfl) rfl
theorem q268 : (Jvm.Cond.code ({ cls := "DmDecomposerModel", name := "cover", desc := "()I" } : Jvm.MethodName) prog_3_method_20_code (5 : Nat) (Option.some Jvm.ClassFile.FieldType.int)) ∈ lw_all := lw_g (lw_at lw_m2 6 rfl) rfl
theorem in_X1 : ∀ w ∈ wsX10, w ∈ lw_all := lw_in wsX10 [182, 184, 186, 188] (by decide +kernel) (by decide +kernel)
end
section
/-! java/lang/Object -/
set_option maxRecDepth 100000
def RJ0 : String := "java/lang/Object"
abbrev cJ0_init : ByteArray := object_method_1_code
def yJ0_init : MethodName := ⟨RJ0, "<init>", "()V"⟩
theorem dJ0_init_0 : decode cJ0_init 0 = .ok (.return_, 1) := by decide +kernel
theorem q31 : (Jvm.Cond.instanceMethod ({ cls := "java/lang/Object", name := "<init>", desc := "()V" } : Jvm.MethodName)) ∈ lw_all := lw_g (lw_at lw_m1 9 rfl) rfl
theorem q32 : (Jvm.Cond.code ({ cls := "java/lang/Object", name := "<init>", desc := "()V" } : Jvm.MethodName) object_method_1_code (1 : Nat) (Option.none : Option Jvm.ClassFile.FieldType)) ∈ lw_all := lw_g (lw_at lw_m1 10 rfl) rfl
theorem q70 : (Jvm.Cond.arrayClass Jvm.ClassFile.FieldType.int) ∈ lw_all := lw_g (lw_at lw_m1 48 rfl) rfl
set_option maxRecDepth 100000
theorem q71 : (Jvm.Cond.arrayClass Jvm.ClassFile.FieldType.byte) ∈ lw_all := lw_g (lw_at lw_m1 49 rfl) rfl
theorem q191 : (Jvm.Cond.arrayClass Jvm.ClassFile.FieldType.boolean) ∈ lw_all := lw_g (lw_at lw_m1 169 rfl) rfl
theorem q22 : (Jvm.Cond.initialized "DmDecomposerLaw") ∈ lw_all := lw_g (lw_at lw_m1 0 rfl) rfl
set_option maxRecDepth 100000
theorem q25 : (Jvm.Cond.classLink "DmDecomposerLaw" (7 : Nat) "DmDecomposer") ∈ lw_all := lw_g (lw_at lw_m1 3 rfl) rfl
theorem q27 : (Jvm.Cond.methodLink "DmDecomposerLaw" (9 : Nat) ({ cls := "DmDecomposer", name := "<init>", desc := "()V" } : Jvm.MethodName)) ∈ lw_all := lw_g (lw_at lw_m1 5 rfl) rfl
theorem q72 : (Jvm.Cond.methodLink "DmDecomposerLaw" (13 : Nat) ({ cls := "DmDecomposer", name := "edge", desc := "(IIZ)Z" } : Jvm.MethodName)) ∈ lw_all := lw_g (lw_at lw_m1 50 rfl) rfl
theorem q80 : (Jvm.Cond.methodLink "DmDecomposerLaw" (18 : Nat) ({ cls := "DmDecomposer", name := "row", desc := "(II)Z" } : Jvm.MethodName)) ∈ lw_all := lw_g (lw_at lw_m1 58 rfl) rfl
theorem q84 : (Jvm.Cond.methodLink "DmDecomposerLaw" (23 : Nat) ({ cls := "DmDecomposer", name := "columnsOf", desc := "(I)I" } : Jvm.MethodName)) ∈ lw_all := lw_g (lw_at lw_m1 62 rfl) rfl
theorem q88 : (Jvm.Cond.methodLink "DmDecomposerLaw" (28 : Nat) ({ cls := "DmDecomposer", name := "largest", desc := "()I" } : Jvm.MethodName)) ∈ lw_all := lw_g (lw_at lw_m1 66 rfl) rfl
theorem q136 : (Jvm.Cond.methodLink "DmDecomposerLaw" (33 : Nat) ({ cls := "DmDecomposer", name := "looseRows", desc := "()I" } : Jvm.MethodName)) ∈ lw_all := lw_g (lw_at lw_m1 114 rfl) rfl
theorem q140 : (Jvm.Cond.methodLink "DmDecomposerLaw" (37 : Nat) ({ cls := "DmDecomposer", name := "looseColumns", desc := "()I" } : Jvm.MethodName)) ∈ lw_all := lw_g (lw_at lw_m1 118 rfl) rfl
theorem q144 : (Jvm.Cond.methodLink "DmDecomposerLaw" (41 : Nat) ({ cls := "DmDecomposer", name := "usable", desc := "(I)I" } : Jvm.MethodName)) ∈ lw_all := lw_g (lw_at lw_m1 122 rfl) rfl
theorem q148 : (Jvm.Cond.methodLink "DmDecomposerLaw" (45 : Nat) ({ cls := "DmDecomposer", name := "forced", desc := "(I)I" } : Jvm.MethodName)) ∈ lw_all := lw_g (lw_at lw_m1 126 rfl) rfl
theorem q156 : (Jvm.Cond.methodLink "DmDecomposerLaw" (49 : Nat) ({ cls := "DmDecomposer", name := "blocks", desc := "()I" } : Jvm.MethodName)) ∈ lw_all := lw_g (lw_at lw_m1 134 rfl) rfl
theorem q164 : (Jvm.Cond.methodLink "DmDecomposerLaw" (53 : Nat) ({ cls := "DmDecomposer", name := "blockRows", desc := "(I)I" } : Jvm.MethodName)) ∈ lw_all := lw_g (lw_at lw_m1 142 rfl) rfl
theorem q168 : (Jvm.Cond.methodLink "DmDecomposerLaw" (57 : Nat) ({ cls := "DmDecomposer", name := "cover", desc := "()I" } : Jvm.MethodName)) ∈ lw_all := lw_g (lw_at lw_m1 146 rfl) rfl
theorem q172 : (Jvm.Cond.classLink "DmDecomposerLaw" (10 : Nat) "DmDecomposerModel") ∈ lw_all := lw_g (lw_at lw_m1 150 rfl) rfl
theorem q174 : (Jvm.Cond.methodLink "DmDecomposerLaw" (12 : Nat) ({ cls := "DmDecomposerModel", name := "<init>", desc := "()V" } : Jvm.MethodName)) ∈ lw_all := lw_g (lw_at lw_m1 152 rfl) rfl
theorem q192 : (Jvm.Cond.methodLink "DmDecomposerLaw" (17 : Nat) ({ cls := "DmDecomposerModel", name := "edge", desc := "(IIZ)Z" } : Jvm.MethodName)) ∈ lw_all := lw_g (lw_at lw_m1 170 rfl) rfl
theorem q200 : (Jvm.Cond.methodLink "DmDecomposerLaw" (22 : Nat) ({ cls := "DmDecomposerModel", name := "row", desc := "(II)Z" } : Jvm.MethodName)) ∈ lw_all := lw_g (lw_at lw_m1 178 rfl) rfl
theorem q204 : (Jvm.Cond.methodLink "DmDecomposerLaw" (27 : Nat) ({ cls := "DmDecomposerModel", name := "columnsOf", desc := "(I)I" } : Jvm.MethodName)) ∈ lw_all := lw_g (lw_at lw_m1 182 rfl) rfl
theorem q208 : (Jvm.Cond.methodLink "DmDecomposerLaw" (32 : Nat) ({ cls := "DmDecomposerModel", name := "largest", desc := "()I" } : Jvm.MethodName)) ∈ lw_all := lw_g (lw_at lw_m1 186 rfl) rfl
theorem q228 : (Jvm.Cond.methodLink "DmDecomposerLaw" (36 : Nat) ({ cls := "DmDecomposerModel", name := "looseRows", desc := "()I" } : Jvm.MethodName)) ∈ lw_all := lw_g (lw_at lw_m1 206 rfl) rfl
theorem q233 : (Jvm.Cond.methodLink "DmDecomposerLaw" (40 : Nat) ({ cls := "DmDecomposerModel", name := "looseColumns", desc := "()I" } : Jvm.MethodName)) ∈ lw_all := lw_g (lw_at lw_m1 211 rfl) rfl
theorem q237 : (Jvm.Cond.methodLink "DmDecomposerLaw" (44 : Nat) ({ cls := "DmDecomposerModel", name := "usable", desc := "(I)I" } : Jvm.MethodName)) ∈ lw_all := lw_g (lw_at lw_m1 215 rfl) rfl
theorem q245 : (Jvm.Cond.methodLink "DmDecomposerLaw" (48 : Nat) ({ cls := "DmDecomposerModel", name := "forced", desc := "(I)I" } : Jvm.MethodName)) ∈ lw_all := lw_g (lw_at lw_m1 223 rfl) rfl
theorem q249 : (Jvm.Cond.methodLink "DmDecomposerLaw" (52 : Nat) ({ cls := "DmDecomposerModel", name := "blocks", desc := "()I" } : Jvm.MethodName)) ∈ lw_all := lw_g (lw_at lw_m1 227 rfl) rfl
theorem q261 : (Jvm.Cond.methodLink "DmDecomposerLaw" (56 : Nat) ({ cls := "DmDecomposerModel", name := "blockRows", desc := "(I)I" } : Jvm.MethodName)) ∈ lw_all := lw_g (lw_at lw_m1 239 rfl) rfl
theorem q265 : (Jvm.Cond.methodLink "DmDecomposerLaw" (60 : Nat) ({ cls := "DmDecomposerModel", name := "cover", desc := "()I" } : Jvm.MethodName)) ∈ lw_all := lw_g (lw_at lw_m2 3 rfl) rfl
end
section
/-! NUMBERS of the machine: nI n is a small number, wI b a truth value, nB n a partner (-1 where n isn't below 7) -/
set_option maxRecDepth 100000
def wI (b : Bool) : Int32 := if b = true then 1 else 0
def nB (n : Nat) : Int32 := if n < 7 then nI n else -1
theorem n_and (a b : Nat) : nI a &&& nI b = nI (a &&& b) := by
  apply Int32.toBitVec_inj.mp
  rw [Int32.toBitVec_and]
  show BitVec.ofNat 32 a &&& BitVec.ofNat 32 b = BitVec.ofNat 32 (a &&& b)
  rw [BitVec.ofNat_and]
theorem n_or (a b : Nat) : nI a ||| nI b = nI (a ||| b) := by
  apply Int32.toBitVec_inj.mp
  rw [Int32.toBitVec_or]
  show BitVec.ofNat 32 a ||| BitVec.ofNat 32 b = BitVec.ofNat 32 (a ||| b)
  rw [BitVec.ofNat_or]
theorem n_nand (a b : Nat) : nI a &&& (nI b ^^^ (-1)) = nI (a ^^^ (a &&& b)) := by
  apply Int32.toBitVec_inj.mp
  rw [Int32.toBitVec_and, Int32.toBitVec_xor]
  show BitVec.ofNat 32 a &&& (BitVec.ofNat 32 b ^^^ BitVec.allOnes 32) = BitVec.ofNat 32 (a ^^^ (a &&& b))
  apply BitVec.eq_of_getLsbD_eq
  intro i hi
  rw [BitVec.getLsbD_and, BitVec.getLsbD_xor, BitVec.getLsbD_allOnes, BitVec.getLsbD_ofNat, BitVec.getLsbD_ofNat, BitVec.getLsbD_ofNat, Nat.testBit_xor, Nat.testBit_and]
  cases a.testBit i <;> cases b.testBit i <;> simp [hi]
theorem n_sh : ∀ c, c < 31 → ((nI c &&& 31).toBitVec.smod 32).toNat = c := by decide +kernel
theorem n_shl {n c : Nat} (hc : c < 31) (h : n * 2 ^ c < 2 ^ 32) : nI n <<< (nI c &&& 31) = nI (n * 2 ^ c) := pk_shlN _ c (n_sh c hc) h
theorem n_shl1 {c : Nat} (hc : c < 31) : nI 1 <<< (nI c &&& 31) = nI (2 ^ c) := by
  have : 2 ^ c < 2 ^ 31 := Nat.pow_lt_pow_right (by decide) hc
  rw [n_shl hc (by omega), Nat.one_mul]
theorem n_shr {n c : Nat} (hc : c < 31) (h : n < 2 ^ 31) : nI n >>> (nI c &&& 31) = nI (n / 2 ^ c) := pk_shrN h _ c (n_sh c hc)
theorem n_wI (b : Bool) : wI b = nI (if b = true then 1 else 0) := by
  cases b <;> rfl
theorem n_bit {x c : Nat} (hc : c < 31) (h : x < 2 ^ 31) : (nI x >>> (nI c &&& 31)) &&& nI 1 = wI (x.testBit c) := by
  rw [n_shr hc h, n_and, n_wI, Nat.testBit_eq_decide_div_mod_eq, Nat.and_one_is_mod]
  congr 1
  by_cases e : x / 2 ^ c % 2 = 1
  · simp [e]
  · simp only [e, decide_false]
    simp
    omega
theorem n_wI_0 {b : Bool} : wI b = 0 ↔ b = false := by cases b <;> decide
theorem n_wI_1 {b : Bool} : wI b = 1 ↔ b = true := by cases b <;> decide
theorem n_eq0 {n : Nat} (h : n < 2 ^ 31) : nI n = 0 ↔ n = 0 := by
  rw [← nI_0]
  exact nI_eq h (by decide)
theorem n_B {n : Nat} (h : n < 7) : nB n = nI n := if_pos h
theorem n_Bm {n : Nat} (h : ¬ n < 7) : nB n = -1 := if_neg h
theorem n_B_lt {n : Nat} : nB n < 0 ↔ ¬ n < 7 := by
  by_cases h : n < 7
  · rw [n_B h]
    exact ⟨fun q => absurd q (nI_pos (by omega)), fun q => absurd h q⟩
  · rw [n_Bm h]
    exact ⟨fun _ => h, fun _ => by decide⟩
theorem n_B_ge {n : Nat} : 0 ≤ nB n ↔ n < 7 := by
  by_cases h : n < 7
  · rw [n_B h]
    exact ⟨fun _ => h, fun _ => nI_pos' (by omega)⟩
  · rw [n_Bm h]
    exact ⟨fun q => absurd q (by decide), fun q => absurd q h⟩
theorem n_m1 {c : Nat} (hc : c < 2 ^ 31) : nI c ≠ -1 := fun e => by
  have h := nI_toInt hc
  rw [e] at h
  have : (-1 : Int32).toInt = -1 := by decide
  omega
theorem n_B_eq {n c : Nat} (hc : c < 7) : nB n = nI c ↔ n = c := by
  by_cases h : n < 7
  · rw [n_B h]
    exact nI_eq (by omega) (by omega)
  · rw [n_Bm h]
    constructor
    · intro e
      exact absurd e.symm (n_m1 (by omega))
    · intro e
      omega
theorem n_byte : ∀ n, n < 128 → (nI n).toInt8.toInt32 = nI n := by decide +kernel
theorem n_byteB (n : Nat) : (nB n).toInt8.toInt32 = nB n := by
  by_cases h : n < 7
  · rw [n_B h]
    exact n_byte n (by omega)
  · rw [n_Bm h]
    decide
theorem n_narB (n : Nat) : vp_nar .byte (nB n) = nB n := by rw [vp_nar_byte, n_byteB]
theorem n_nar {n : Nat} (h : n < 128) : vp_nar .byte (nI n) = nI n := by rw [vp_nar_byte, n_byte n h]
theorem n_narZ (b : Bool) : vp_nar .boolean (wI b) = wI b := by cases b <;> rfl
theorem n_B7 : nB 7 = -1 := rfl
theorem n_upd (f : Nat → Nat) (g : Nat → Int32) (k v : Nat) : upd (fun j => g (f j)) k (g v) = fun j => g (mm_up f k v j) := by
  funext j
  show (if j = k then g v else g (f j)) = g (if j = k then v else f j)
  split <;> rfl
theorem n_updw (f : Nat → Bool) (k : Nat) (v : Bool) : upd (fun j => wI (f j)) k (wI v) = fun j => wI (mm_up f k v j) := by
  funext j
  show (if j = k then wI v else wI (f j)) = wI (if j = k then v else f j)
  split <;> rfl
theorem n_updI (f : Nat → Nat) (k v : Nat) : upd (fun j => nI (f j)) k (nI v) = fun j => nI (mm_up f k v j) := n_upd f nI k v
theorem n_updB (f : Nat → Nat) (k v : Nat) : upd (fun j => nB (f j)) k (nB v) = fun j => nB (mm_up f k v j) := n_upd f nB k v
end
section
/-! ROWS over the kit's: contracts by one world, loops, bits -/
set_option maxRecDepth 100000
abbrev vwCl : List vw_C := [(RX0, TX0, 12), (RX1, TX1, 4)]
/-- a world in its place: the cells, apart, and nothing else changed since H0 -/
def XH (D : va_G) (A : Nat → Prop) (H0 H : Heap) (locs : List Loc) (w : va_W) : Prop := va_P D vwCl w H ∧ va_D A w ∧ va_S A H0 H locs
/-- what a method's body stands on -/
def CX (p : Program) (s : State) (m : MethodId) (args : Array Value) (meth : Method) (c : Code) (cc : ByteArray) (L : Nat) (rt : Option FieldType) (own : String) (D : va_G) (tys : List (ClassId × FieldType)) (A : Nat → Prop) : Prop :=
  p.tables.exec = Jvm.exec ∧ c.code = cc ∧ meth.sig.returnType = rt ∧ meth.locks = false ∧ c.maxLocals = L ∧ s.vm.findClass own = some m.cls ∧ (∀ w ∈ lw_all, w.before args s = true) ∧ va_K D vwCl tys s ∧ ∀ q : Nat, s.heap.size ≤ q → A q
/-- a contract: from the world w to a world w' with 'post answer w'' -/
def MtI (l : Launch) (y : MethodName) (b : ByteArray) (L : Nat) (rt : Option FieldType) (rm : Room) (D : va_G) (tys : List (ClassId × FieldType)) (av : List Value) (w : va_W) (post : Int32 → va_W → Prop) : Prop :=
  ∀ sz : Nat, Met l y (ws_ y b L rt) rm (va_Pc av (fun U => U.heap.size = sz ∧ va_P D vwCl w U.heap ∧ va_K D vwCl tys U ∧ va_D (fun _ => True) w)) (va_Qi post (fun w' t => va_P D vwCl w' t.heap ∧ va_K D vwCl tys t ∧ va_D (va_A w sz) w') (va_A w sz)) 0 0 (va_A w sz)
def MtV (l : Launch) (y : MethodName) (b : ByteArray) (L : Nat) (rm : Room) (D : va_G) (tys : List (ClassId × FieldType)) (av : List Value) (w : va_W) (post : va_W → Prop) : Prop :=
  ∀ sz : Nat, Met l y (ws_ y b L none) rm (va_Pc av (fun U => U.heap.size = sz ∧ va_P D vwCl w U.heap ∧ va_K D vwCl tys U ∧ va_D (fun _ => True) w)) (va_Qv post (fun w' t => va_P D vwCl w' t.heap ∧ va_K D vwCl tys t ∧ va_D (va_A w sz) w') (va_A w sz)) 0 0 (va_A w sz)
/-- where a method's body is to come -/
abbrev EndI (below : List Frame) (D : va_G) (tys : List (ClassId × FieldType)) (A : Nat → Prop) (args : Array Value) (s : State) (post : Int32 → va_W → Prop) : State → Prop := MQ below (va_Qi post (fun w' t => va_P D vwCl w' t.heap ∧ va_K D vwCl tys t ∧ va_D A w') A) args s 0 0 A
abbrev EndV (below : List Frame) (D : va_G) (tys : List (ClassId × FieldType)) (A : Nat → Prop) (args : Array Value) (s : State) (post : va_W → Prop) : State → Prop := MQ below (va_Qv post (fun w' t => va_P D vwCl w' t.heap ∧ va_K D vwCl tys t ∧ va_D A w') A) args s 0 0 A
theorem MtI.of {l : Launch} {y : MethodName} {b : ByteArray} {L : Nat} {rt : Option FieldType} {rm : Room} {D : va_G} {tys : List (ClassId × FieldType)} {av : List Value} {w : va_W} {post : Int32 → va_W → Prop} (hy : plainName y.cls = true) (hl : (lg_sl av).length ≤ L)
    (h : ∀ (p : Program) (e : Env) (s : State) (m : MethodId) (below : List Frame) (meth : Method) (c : Code) (A : Nat → Prop) (ls : Array Slot), CX p s m av.toArray meth c b L rt y.cls D tys A → XH D A s.heap s.heap [] w → lv_has ls L (lv_args 0 av) → W p l e rm s m av.toArray below meth c s.heap [] 0 0 (EndI below D tys A av.toArray s post) (F0 m 0 ls [])) : MtI l y b L rt rm D tys av w post := by
  intro sz
  refine Met.ofW (cc := b) (maxL := L) (ret := rt) hy rfl ?_
  intro p e s m args below meth c s₁ B hml hv
  obtain ⟨rfl, hsz, hP, hK, hD0⟩ := hv
  have hts := atoms_spec (ws := ws_ y b L rt) B.pre
  have hts : ∀ w ∈ lw_all, w.before _ s = true := fun w h => hts w (List.mem_cons_of_mem _ h)
  have hown : s.vm.findClass y.cls = some m.cls := findClass_of_methodNamed B.named
  subst hsz
  have hD := hD0.self (sz := s.heap.size)
  have hA : ∀ q : Nat, s.heap.size ≤ q → va_A w s.heap.size q := fun q h => Or.inr h
  have hS : va_S (va_A w s.heap.size) s.heap s.heap [] := va_S.rf
  have hl2 := lv_entry av (n := L) hl
  rw [lg_entry_eq]
  exact h p e s m below meth c (va_A w s.heap.size) _ ⟨B.exec, B.bytes, B.returns, B.notSynchronized, hml, hown, hts, hK, hA⟩ ⟨hP, hD, hS⟩ hl2
theorem MtV.of {l : Launch} {y : MethodName} {b : ByteArray} {L : Nat} {rm : Room} {D : va_G} {tys : List (ClassId × FieldType)} {av : List Value} {w : va_W} {post : va_W → Prop} (hy : plainName y.cls = true) (hl : (lg_sl av).length ≤ L)
    (h : ∀ (p : Program) (e : Env) (s : State) (m : MethodId) (below : List Frame) (meth : Method) (c : Code) (A : Nat → Prop) (ls : Array Slot), CX p s m av.toArray meth c b L none y.cls D tys A → XH D A s.heap s.heap [] w → lv_has ls L (lv_args 0 av) → W p l e rm s m av.toArray below meth c s.heap [] 0 0 (EndV below D tys A av.toArray s post) (F0 m 0 ls [])) : MtV l y b L rm D tys av w post := by
  intro sz
  refine Met.ofW (cc := b) (maxL := L) (ret := none) hy rfl ?_
  intro p e s m args below meth c s₁ B hml hv
  obtain ⟨rfl, hsz, hP, hK, hD0⟩ := hv
  have hts := atoms_spec (ws := ws_ y b L none) B.pre
  have hts : ∀ w ∈ lw_all, w.before _ s = true := fun w h => hts w (List.mem_cons_of_mem _ h)
  have hown : s.vm.findClass y.cls = some m.cls := findClass_of_methodNamed B.named
  subst hsz
  have hD := hD0.self (sz := s.heap.size)
  have hA : ∀ q : Nat, s.heap.size ≤ q → va_A w s.heap.size q := fun q h => Or.inr h
  have hS : va_S (va_A w s.heap.size) s.heap s.heap [] := va_S.rf
  have hl2 := lv_entry av (n := L) hl
  rw [lg_entry_eq]
  exact h p e s m below meth c (va_A w s.heap.size) _ ⟨B.exec, B.bytes, B.returns, B.notSynchronized, hml, hown, hts, hK, hA⟩ ⟨hP, hD, hS⟩ hl2
section WR
variable {p : Program} {l : Launch} {e : Env} {R : Room} {s : State} {m : MethodId} {args : Array Value} {below : List Frame} {meth : Method} {c : Code} {H : Heap} {locs : List Loc} {cells slots : Nat} {Q : State → Prop}
variable {cc : ByteArray} {pc : Nat} {ls : Array Slot} {rest : List Value}
/-- a loop that counts up to N at most -/
theorem wl_for {head : Nat} (N : Nat) (Φ : Nat → Heap → List Loc → Array Slot → Prop)
    (hs : ∀ k, k < N → ∀ H locs ls, Φ k H locs ls → (∀ H' locs' ls', Φ (k + 1) H' locs' ls' → W p l e R s m args below meth c H' locs' cells slots Q (F0 m head ls' [])) → W p l e R s m args below meth c H locs cells slots Q (F0 m head ls []))
    (hx : ∀ H locs ls, Φ N H locs ls → W p l e R s m args below meth c H locs cells slots Q (F0 m head ls [])) :
    ∀ k, k ≤ N → ∀ H locs ls, Φ k H locs ls → W p l e R s m args below meth c H locs cells slots Q (F0 m head ls []) := by
  have key : ∀ n k, k ≤ N → N - k = n → ∀ H locs ls, Φ k H locs ls → W p l e R s m args below meth c H locs cells slots Q (F0 m head ls []) := by
    intro n
    induction n with
    | zero =>
      intro k hk e H locs ls h
      have e2 : k = N := by omega
      subst e2
      exact hx H locs ls h
    | succ n ih =>
      intro k hk e H locs ls h
      exact hs k (by omega) H locs ls h (fun H' locs' ls' h' => ih (k + 1) (by omega) (by omega) H' locs' ls' h')
  intro k hk
  exact key (N - k) k hk rfl
theorem y_num (hexec : p.tables.exec = Jvm.exec) (hb : c.code = cc) {n : Int} (v : Nat) (hdg : decode cc pc = .ok (.iconst n, 1)) (hv : Int32.ofInt n = nI v)
    (k : W p l e R s m args below meth c H locs cells slots Q (F0 m (pc + 1) ls (.int (nI v) :: rest))) : W p l e R s m args below meth c H locs cells slots Q (F0 m pc ls rest) := lv_iconst hexec hb hdg hv k
theorem y_push (hexec : p.tables.exec = Jvm.exec) (hb : c.code = cc) {n : Int} (v : Nat) (hdg : decode cc pc = .ok (.bipush n, 2)) (hv : (Int8.ofInt n).toInt32 = nI v)
    (k : W p l e R s m args below meth c H locs cells slots Q (F0 m (pc + 2) ls (.int (nI v) :: rest))) : W p l e R s m args below meth c H locs cells slots Q (F0 m pc ls rest) := lv_bipush hexec hb hdg hv k
theorem y_and (hexec : p.tables.exec = Jvm.exec) (hb : c.code = cc) {a b : Nat} (hdg : decode cc pc = .ok (.iand, 1))
    (k : W p l e R s m args below meth c H locs cells slots Q (F0 m (pc + 1) ls (.int (nI (a &&& b)) :: rest))) : W p l e R s m args below meth c H locs cells slots Q (F0 m pc ls (.int (nI b) :: .int (nI a) :: rest)) := lv_iand hexec hb hdg (by rw [n_and]; exact k)
theorem y_or (hexec : p.tables.exec = Jvm.exec) (hb : c.code = cc) {a b : Nat} (hdg : decode cc pc = .ok (.ior, 1))
    (k : W p l e R s m args below meth c H locs cells slots Q (F0 m (pc + 1) ls (.int (nI (a ||| b)) :: rest))) : W p l e R s m args below meth c H locs cells slots Q (F0 m pc ls (.int (nI b) :: .int (nI a) :: rest)) := lv_ior hexec hb hdg (by rw [n_or]; exact k)
theorem y_add (hexec : p.tables.exec = Jvm.exec) (hb : c.code = cc) {a b : Nat} (hdg : decode cc pc = .ok (.iadd, 1))
    (k : W p l e R s m args below meth c H locs cells slots Q (F0 m (pc + 1) ls (.int (nI (a + b)) :: rest))) : W p l e R s m args below meth c H locs cells slots Q (F0 m pc ls (.int (nI b) :: .int (nI a) :: rest)) := lv_iadd hexec hb hdg (by rw [nI_add]; exact k)
theorem y_shl1 (hexec : p.tables.exec = Jvm.exec) (hb : c.code = cc) {a : Nat} (ha : a < 31) (hdg : decode cc pc = .ok (.ishl, 1))
    (k : W p l e R s m args below meth c H locs cells slots Q (F0 m (pc + 1) ls (.int (nI (2 ^ a)) :: rest))) : W p l e R s m args below meth c H locs cells slots Q (F0 m pc ls (.int (nI a) :: .int (nI 1) :: rest)) := lv_ishl hexec hb hdg (by rw [n_shl1 ha]; exact k)
/-- x >> c & 1 -/
theorem y_bit (hexec : p.tables.exec = Jvm.exec) (hb : c.code = cc) {x a : Nat} (ha : a < 31) (hx : x < 2 ^ 31) (d1 : decode cc pc = .ok (.ishr, 1)) (d2 : decode cc (pc + 1) = .ok (.iconst 1, 1)) (d3 : decode cc (pc + 2) = .ok (.iand, 1))
    (k : W p l e R s m args below meth c H locs cells slots Q (F0 m (pc + 3) ls (.int (wI (x.testBit a)) :: rest))) : W p l e R s m args below meth c H locs cells slots Q (F0 m pc ls (.int (nI a) :: .int (nI x) :: rest)) := by
  refine lv_ishr hexec hb d1 ?_
  refine lv_iconst (v := nI 1) hexec hb d2 rfl ?_
  refine lv_iand hexec hb d3 ?_
  rw [n_bit ha hx]
  exact k
/-- a & ~b -/
theorem y_nand (hexec : p.tables.exec = Jvm.exec) (hb : c.code = cc) {a b : Nat} (d1 : decode cc pc = .ok (.iconst (-1), 1)) (d2 : decode cc (pc + 1) = .ok (.ixor, 1)) (d3 : decode cc (pc + 2) = .ok (.iand, 1))
    (k : W p l e R s m args below meth c H locs cells slots Q (F0 m (pc + 3) ls (.int (nI (a ^^^ (a &&& b))) :: rest))) : W p l e R s m args below meth c H locs cells slots Q (F0 m pc ls (.int (nI b) :: .int (nI a) :: rest)) := by
  refine lv_iconst (v := -1) hexec hb d1 (by decide) ?_
  refine lv_ixor hexec hb d2 ?_
  refine lv_iand hexec hb d3 ?_
  rw [n_nand]
  exact k
theorem y_ifeq_w (hexec : p.tables.exec = Jvm.exec) (hb : c.code = cc) {b : Bool} {off : Int} {tgt : Nat} (hdg : decode cc pc = .ok (.ifCond .eq off, 3)) (ht : (pc : Int) + off = (tgt : Int))
    (kt : b = false → W p l e R s m args below meth c H locs cells slots Q (F0 m tgt ls rest)) (kf : b = true → W p l e R s m args below meth c H locs cells slots Q (F0 m (pc + 3) ls rest)) : W p l e R s m args below meth c H locs cells slots Q (F0 m pc ls (.int (wI b) :: rest)) :=
  lv_if_eq hexec hb hdg ht (fun h => kt (n_wI_0.mp h)) (fun h => kf (by cases b with | true => rfl | false => exact absurd (n_wI_0.mpr rfl) h))
theorem y_ifne_w (hexec : p.tables.exec = Jvm.exec) (hb : c.code = cc) {b : Bool} {off : Int} {tgt : Nat} (hdg : decode cc pc = .ok (.ifCond .ne off, 3)) (ht : (pc : Int) + off = (tgt : Int))
    (kt : b = true → W p l e R s m args below meth c H locs cells slots Q (F0 m tgt ls rest)) (kf : b = false → W p l e R s m args below meth c H locs cells slots Q (F0 m (pc + 3) ls rest)) : W p l e R s m args below meth c H locs cells slots Q (F0 m pc ls (.int (wI b) :: rest)) :=
  lv_if_ne hexec hb hdg ht (fun h => kt (by cases b with | true => rfl | false => exact absurd (n_wI_0.mpr rfl) h)) (fun h => kf (n_wI_0.mp h))
theorem y_ifeq_n (hexec : p.tables.exec = Jvm.exec) (hb : c.code = cc) {n : Nat} (hn : n < 2 ^ 31) {off : Int} {tgt : Nat} (hdg : decode cc pc = .ok (.ifCond .eq off, 3)) (ht : (pc : Int) + off = (tgt : Int))
    (kt : n = 0 → W p l e R s m args below meth c H locs cells slots Q (F0 m tgt ls rest)) (kf : n ≠ 0 → W p l e R s m args below meth c H locs cells slots Q (F0 m (pc + 3) ls rest)) : W p l e R s m args below meth c H locs cells slots Q (F0 m pc ls (.int (nI n) :: rest)) :=
  lv_if_eq hexec hb hdg ht (fun h => kt ((n_eq0 hn).mp h)) (fun h => kf (fun q => h ((n_eq0 hn).mpr q)))
theorem y_ifne_n (hexec : p.tables.exec = Jvm.exec) (hb : c.code = cc) {n : Nat} (hn : n < 2 ^ 31) {off : Int} {tgt : Nat} (hdg : decode cc pc = .ok (.ifCond .ne off, 3)) (ht : (pc : Int) + off = (tgt : Int))
    (kt : n ≠ 0 → W p l e R s m args below meth c H locs cells slots Q (F0 m tgt ls rest)) (kf : n = 0 → W p l e R s m args below meth c H locs cells slots Q (F0 m (pc + 3) ls rest)) : W p l e R s m args below meth c H locs cells slots Q (F0 m pc ls (.int (nI n) :: rest)) :=
  lv_if_ne hexec hb hdg ht (fun h => kt (fun q => h ((n_eq0 hn).mpr q))) (fun h => kf ((n_eq0 hn).mp h))
theorem y_iflt_B (hexec : p.tables.exec = Jvm.exec) (hb : c.code = cc) {n : Nat} {off : Int} {tgt : Nat} (hdg : decode cc pc = .ok (.ifCond .lt off, 3)) (ht : (pc : Int) + off = (tgt : Int))
    (kt : ¬ n < 7 → W p l e R s m args below meth c H locs cells slots Q (F0 m tgt ls rest)) (kf : n < 7 → W p l e R s m args below meth c H locs cells slots Q (F0 m (pc + 3) ls rest)) : W p l e R s m args below meth c H locs cells slots Q (F0 m pc ls (.int (nB n) :: rest)) :=
  lv_if_lt hexec hb hdg ht (fun h => kt (n_B_lt.mp h)) (fun h => kf (Classical.byContradiction fun q => h (n_B_lt.mpr q)))
theorem y_ifge_B (hexec : p.tables.exec = Jvm.exec) (hb : c.code = cc) {n : Nat} {off : Int} {tgt : Nat} (hdg : decode cc pc = .ok (.ifCond .ge off, 3)) (ht : (pc : Int) + off = (tgt : Int))
    (kt : n < 7 → W p l e R s m args below meth c H locs cells slots Q (F0 m tgt ls rest)) (kf : ¬ n < 7 → W p l e R s m args below meth c H locs cells slots Q (F0 m (pc + 3) ls rest)) : W p l e R s m args below meth c H locs cells slots Q (F0 m pc ls (.int (nB n) :: rest)) :=
  lv_if_ge hexec hb hdg ht (fun h => kt (n_B_ge.mp h)) (fun h => kf (fun q => h (n_B_ge.mpr q)))
/-- the loop's test: it goes on -/
theorem y_lt (hexec : p.tables.exec = Jvm.exec) (hb : c.code = cc) {a b : Nat} (h : a < b) (hbb : b < 2 ^ 31) {off : Int} {tgt : Nat} (hdg : decode cc pc = .ok (.if_icmp .ge off, 3)) (ht : (pc : Int) + off = (tgt : Int))
    (k : W p l e R s m args below meth c H locs cells slots Q (F0 m (pc + 3) ls rest)) : W p l e R s m args below meth c H locs cells slots Q (F0 m pc ls (.int (nI b) :: .int (nI a) :: rest)) := lv_icmp_ge hexec hb hdg ht (fun q => absurd q (nI_ge h hbb)) (fun _ => k)
/-- the loop's test: it ends -/
theorem y_ge (hexec : p.tables.exec = Jvm.exec) (hb : c.code = cc) {a b : Nat} (h : b ≤ a) (hbb : a < 2 ^ 31) {off : Int} {tgt : Nat} (hdg : decode cc pc = .ok (.if_icmp .ge off, 3)) (ht : (pc : Int) + off = (tgt : Int))
    (k : W p l e R s m args below meth c H locs cells slots Q (F0 m tgt ls rest)) : W p l e R s m args below meth c H locs cells slots Q (F0 m pc ls (.int (nI b) :: .int (nI a) :: rest)) := lv_icmp_ge hexec hb hdg ht (fun _ => k) (fun q => absurd (nI_le h hbb) q)
theorem y_icmpge (hexec : p.tables.exec = Jvm.exec) (hb : c.code = cc) {a b : Nat} (ha : a < 2 ^ 31) (hbb : b < 2 ^ 31) {off : Int} {tgt : Nat} (hdg : decode cc pc = .ok (.if_icmp .ge off, 3)) (ht : (pc : Int) + off = (tgt : Int))
    (kt : b ≤ a → W p l e R s m args below meth c H locs cells slots Q (F0 m tgt ls rest)) (kf : a < b → W p l e R s m args below meth c H locs cells slots Q (F0 m (pc + 3) ls rest)) : W p l e R s m args below meth c H locs cells slots Q (F0 m pc ls (.int (nI b) :: .int (nI a) :: rest)) :=
  lv_icmp_ge hexec hb hdg ht (fun q => kt ((nI_leI hbb ha).mp q)) (fun q => kf (Nat.lt_of_not_le fun w => q ((nI_leI hbb ha).mpr w)))
theorem y_icmple (hexec : p.tables.exec = Jvm.exec) (hb : c.code = cc) {a b : Nat} (ha : a < 2 ^ 31) (hbb : b < 2 ^ 31) {off : Int} {tgt : Nat} (hdg : decode cc pc = .ok (.if_icmp .le off, 3)) (ht : (pc : Int) + off = (tgt : Int))
    (kt : a ≤ b → W p l e R s m args below meth c H locs cells slots Q (F0 m tgt ls rest)) (kf : b < a → W p l e R s m args below meth c H locs cells slots Q (F0 m (pc + 3) ls rest)) : W p l e R s m args below meth c H locs cells slots Q (F0 m pc ls (.int (nI b) :: .int (nI a) :: rest)) :=
  lv_icmp_le hexec hb hdg ht (fun q => kt ((nI_leI ha hbb).mp q)) (fun q => kf (Nat.lt_of_not_le fun w => q ((nI_leI ha hbb).mpr w)))
theorem y_icmpne (hexec : p.tables.exec = Jvm.exec) (hb : c.code = cc) {a b : Nat} (ha : a < 2 ^ 31) (hbb : b < 2 ^ 31) {off : Int} {tgt : Nat} (hdg : decode cc pc = .ok (.if_icmp .ne off, 3)) (ht : (pc : Int) + off = (tgt : Int))
    (kt : a ≠ b → W p l e R s m args below meth c H locs cells slots Q (F0 m tgt ls rest)) (kf : a = b → W p l e R s m args below meth c H locs cells slots Q (F0 m (pc + 3) ls rest)) : W p l e R s m args below meth c H locs cells slots Q (F0 m pc ls (.int (nI b) :: .int (nI a) :: rest)) :=
  lv_icmp_ne hexec hb hdg ht (fun q => kt (fun w => q (by rw [w]))) (fun q => kf ((nI_eq ha hbb).mp q))
theorem y_icmpeq (hexec : p.tables.exec = Jvm.exec) (hb : c.code = cc) {a b : Nat} (ha : a < 2 ^ 31) (hbb : b < 2 ^ 31) {off : Int} {tgt : Nat} (hdg : decode cc pc = .ok (.if_icmp .eq off, 3)) (ht : (pc : Int) + off = (tgt : Int))
    (kt : a = b → W p l e R s m args below meth c H locs cells slots Q (F0 m tgt ls rest)) (kf : a ≠ b → W p l e R s m args below meth c H locs cells slots Q (F0 m (pc + 3) ls rest)) : W p l e R s m args below meth c H locs cells slots Q (F0 m pc ls (.int (nI b) :: .int (nI a) :: rest)) :=
  lv_icmp_eq hexec hb hdg ht (fun q => kt ((nI_eq ha hbb).mp q)) (fun q => kf (fun w => q (by rw [w])))
variable {L : Nat} {rt : Option FieldType} {own : String} {D : va_G} {tys : List (ClassId × FieldType)} {A : Nat → Prop} {w : va_W}
theorem y_iret {post : Int32 → va_W → Prop} {v : Int32} (C : CX p s m args meth c cc L (some .int) own D tys A) (hw : XH D A s.heap H locs w) (hp : post v w) (hdg : decode cc pc = .ok (.ireturn, 1)) : W p l e R s m args below meth c H locs 0 0 (EndI below D tys A args s post) (F0 m pc ls [.int v]) := by
  obtain ⟨hx, hb, hr, hlocks, hml, hown, hts, hK, hA⟩ := C
  exact W.iret hx hb hr (fun t ht hW => ⟨⟨v, w, rfl, hp, by rw [ht]; exact hw.1, va_K.moved hW.alike hK, hw.2.1⟩, hw.2.2.F ht⟩) hw.2.2.2.2 hdg
theorem y_zret {post : Int32 → va_W → Prop} {b : Bool} (C : CX p s m args meth c cc L (some .boolean) own D tys A) (hw : XH D A s.heap H locs w) (hp : post (wI b) w) (hdg : decode cc pc = .ok (.ireturn, 1)) : W p l e R s m args below meth c H locs 0 0 (EndI below D tys A args s post) (F0 m pc ls [.int (wI b)]) := by
  obtain ⟨hx, hb, hr, hlocks, hml, hown, hts, hK, hA⟩ := C
  exact W.zret hx hb hr (by cases b <;> rfl) (fun t ht hW => ⟨⟨wI b, w, rfl, hp, by rw [ht]; exact hw.1, va_K.moved hW.alike hK, hw.2.1⟩, hw.2.2.F ht⟩) hw.2.2.2.2 hdg
theorem y_vret {post : va_W → Prop} (C : CX p s m args meth c cc L none own D tys A) (hw : XH D A s.heap H locs w) (hp : post w) (hdg : decode cc pc = .ok (.return_, 1)) : W p l e R s m args below meth c H locs 0 0 (EndV below D tys A args s post) (F0 m pc ls []) := by
  obtain ⟨hx, hb, hr, hlocks, hml, hown, hts, hK, hA⟩ := C
  exact W.vret hx hb hr (fun t ht hW => ⟨⟨w, rfl, hp, by rw [ht]; exact hw.1, va_K.moved hW.alike hK, hw.2.1⟩, hw.2.2.F ht⟩) hw.2.2.2.2 hdg
/-- a call of an int (or boolean) method of an object: the callee's cells wc lie at isC, the rest wr at isR -/
theorem y_callF {y : MethodName} {b' : ByteArray} {L' : Nat} {rt' : Option FieldType} {rm : Room} {idx n a ci : Nat} {As : List Value} {fs : List Value} {wc wr : va_W} {post : Int32 → va_W → Prop} {Cn : String} {q : vw_C} (isC isR : List Nat) (C : CX p s m args meth c cc L rt own D tys A) (hw : XH D A s.heap H locs w) (hM : MtI l y b' L' rt' rm D tys (.ref a :: As) wc post)
    (cw : CallW R s args own Cn idx y b' L' rt' (ws_ y b' L' rt') rm 0 0 n) (hC1 : isC.map (fun i => w[i]?) = wc.map some) (hC2 : isC.filterMap (fun i => w[i]?) = wc) (hR1 : isR.map (fun i => w[i]?) = wr.map some) (hnC : va_nd isC = true) (hnR : va_nd isR = true) (hdis : ∀ i ∈ isR, i ∉ isC)
    (hc : vwCl[ci]? = some q) (hq : q.1 = Cn) (he : wc[0]? = some (a, .inr (ci, fs))) (hn : As.length = n) (hls : ls.size = L) (hrm : (rest.map fun v => v.category).sum ≤ 8) (hcap : cells ≤ R.cells ∧ slots ≤ R.slots) (hdg : decode cc pc = .ok (.invokevirtual idx, 3))
    (kk : ∀ (r : Int32) (w' : va_W) (H' : Heap) (locs' : List Loc), post r w' → XH D A s.heap H' locs' (wr ++ w') → W p l e R s m args below meth c H' locs' cells slots Q (F0 m (pc + 3) ls (.int r :: rest))) {st : List Value} (hst : st = As.reverse ++ .ref a :: rest) :
    W p l e R s m args below meth c H locs cells slots Q (F0 m pc ls st) := by
  obtain ⟨hx, hb, hr, hlocks, hml, hown, hts, hK, hA⟩ := C
  obtain ⟨hP, hD, hS⟩ := hw
  subst hst
  have hPc := hP.sub (ws' := wc) isC hC2
  have hDc := hD.sub (ws' := wc) isC hnC hC1
  have hFc := va_free (wc := wc) hD hS hA isC hC1
  refine va_calli (va_runV (As := As) (rest := rest) ⟨hx, hb, hml, hown, hts⟩ (hM H.size) cw ⟨fun a U g mk q => by obtain ⟨q0, q1, qP, qK, qD⟩ := q; exact ⟨q0, q1, qP, va_K.moved (u := U) (U := U.calling g mk a) (Vm.Alike.refl U.vm) qK, qD⟩, by rw [← hq]; exact va_recv hK hPc hc he, fun U hU hW => ⟨rfl, by rw [hU], by rw [hU]; exact hPc, va_K.moved hW.alike hK, hDc.weaken (fun _ _ _ _ => trivial)⟩⟩ rfl hn hls rfl (lv_room hrm) hdg hcap) hS (fun q _ h => hFc q h) hFc (fun r u t H1 locs1 ht hvm hw1 hB hz1 hk1 hS => ?_)
  obtain ⟨hP1, hK1, hD1⟩ := hB
  rw [ht] at hP1
  obtain ⟨hP, hD⟩ := va_join (wr := wr) (w1 := u) hP hD isC isR hC1 hR1 hnR hdis hk1 hFc hP1 hD1
  exact kk r u H1 locs1 hw1 ⟨hP, hD, hS⟩
theorem y_callFv {y : MethodName} {b' : ByteArray} {L' : Nat} {rm : Room} {idx n a ci : Nat} {As : List Value} {fs : List Value} {wc wr : va_W} {post : va_W → Prop} {Cn : String} {q : vw_C} (isC isR : List Nat) (C : CX p s m args meth c cc L rt own D tys A) (hw : XH D A s.heap H locs w) (hM : MtV l y b' L' rm D tys (.ref a :: As) wc post)
    (cw : CallW R s args own Cn idx y b' L' none (ws_ y b' L' none) rm 0 0 n) (hC1 : isC.map (fun i => w[i]?) = wc.map some) (hC2 : isC.filterMap (fun i => w[i]?) = wc) (hR1 : isR.map (fun i => w[i]?) = wr.map some) (hnC : va_nd isC = true) (hnR : va_nd isR = true) (hdis : ∀ i ∈ isR, i ∉ isC)
    (hc : vwCl[ci]? = some q) (hq : q.1 = Cn) (he : wc[0]? = some (a, .inr (ci, fs))) (hn : As.length = n) (hls : ls.size = L) (hrm : (rest.map fun v => v.category).sum ≤ 8) (hcap : cells ≤ R.cells ∧ slots ≤ R.slots) (hdg : decode cc pc = .ok (.invokevirtual idx, 3))
    (kk : ∀ (w' : va_W) (H' : Heap) (locs' : List Loc), post w' → XH D A s.heap H' locs' (wr ++ w') → W p l e R s m args below meth c H' locs' cells slots Q (F0 m (pc + 3) ls rest)) {st : List Value} (hst : st = As.reverse ++ .ref a :: rest) :
    W p l e R s m args below meth c H locs cells slots Q (F0 m pc ls st) := by
  obtain ⟨hx, hb, hr, hlocks, hml, hown, hts, hK, hA⟩ := C
  obtain ⟨hP, hD, hS⟩ := hw
  subst hst
  have hPc := hP.sub (ws' := wc) isC hC2
  have hDc := hD.sub (ws' := wc) isC hnC hC1
  have hFc := va_free (wc := wc) hD hS hA isC hC1
  refine va_callv (va_runV (As := As) (rest := rest) ⟨hx, hb, hml, hown, hts⟩ (hM H.size) cw ⟨fun a U g mk q => by obtain ⟨q0, q1, qP, qK, qD⟩ := q; exact ⟨q0, q1, qP, va_K.moved (u := U) (U := U.calling g mk a) (Vm.Alike.refl U.vm) qK, qD⟩, by rw [← hq]; exact va_recv hK hPc hc he, fun U hU hW => ⟨rfl, by rw [hU], by rw [hU]; exact hPc, va_K.moved hW.alike hK, hDc.weaken (fun _ _ _ _ => trivial)⟩⟩ rfl hn hls rfl (lv_room hrm) hdg hcap) hS (fun q _ h => hFc q h) hFc (fun u t H1 locs1 ht hvm hw1 hB hz1 hk1 hS => ?_)
  obtain ⟨hP1, hK1, hD1⟩ := hB
  rw [ht] at hP1
  obtain ⟨hP, hD⟩ := va_join (wr := wr) (w1 := u) hP hD isC isR hC1 hR1 hnR hdis hk1 hFc hP1 hD1
  exact kk u H1 locs1 hw1 ⟨hP, hD, hS⟩
end WR
end
section
/-! THE TWO WORLDS, and a row for every field and array of theirs (printed by gen_rows.py) -/
set_option maxRecDepth 100000
abbrev tyL (cI cB cZ : ClassId) : List (ClassId × FieldType) := [(cI, .int), (cB, .byte), (cZ, .boolean)]
/-- DmDecomposer's cells: h 0 the object, h 1 .. h 7 edges, partnerOfRow, partnerOfColumn, queue, cameFrom, reach, usableSet -/
def xW (cI cB : ClassId) (h : Nat → Nat) (rdy : Bool) (E pr pk qu cf : Nat → Nat) (rr cr rc ck : Nat) (re us : Nat → Nat) : va_W := [(h 0, .inr (0, [.ref (h 1), .int (wI rdy), .ref (h 2), .ref (h 3), .ref (h 4), .ref (h 5), .int (nI rr), .int (nI cr), .int (nI rc), .int (nI ck), .ref (h 6), .ref (h 7)])), (h 1, .inl (cI, 7, .inl (fun j => nI (E j)))), (h 2, .inl (cB, 7, .inl (fun j => nB (pr j)))), (h 3, .inl (cB, 7, .inl (fun j => nB (pk j)))), (h 4, .inl (cB, 7, .inl (fun j => nI (qu j)))), (h 5, .inl (cB, 7, .inl (fun j => nI (cf j)))), (h 6, .inl (cI, 7, .inl (fun j => nI (re j)))), (h 7, .inl (cI, 7, .inl (fun j => nI (us j))))]
/-- DmDecomposerModel's cells: g 0 the object, g 1 .. g 4 rows, can, then, good -/
def mW (cI cZ : ClassId) (g : Nat → Nat) (E : Nat → Nat) (ca th : Nat → Bool) (go : Nat → Nat) : va_W := [(g 0, .inr (1, [.ref (g 1), .ref (g 2), .ref (g 3), .ref (g 4)])), (g 1, .inl (cI, 7, .inl (fun j => nI (E j)))), (g 2, .inl (cZ, 128, .inl (fun j => wI (ca j)))), (g 3, .inl (cZ, 128, .inl (fun j => wI (th j)))), (g 4, .inl (cI, 7, .inl (fun j => nI (go j))))]
section XR
variable {p : Program} {l : Launch} {e : Env} {R : Room} {s : State} {m : MethodId} {args : Array Value} {below : List Frame} {meth : Method} {c : Code} {H : Heap} {locs : List Loc} {cells slots : Nat} {Q : State → Prop}
variable {cc : ByteArray} {pc : Nat} {ls : Array Slot} {rest : List Value} {L : Nat} {rt : Option FieldType} {D : va_G} {A : Nat → Prop} {H0 : Heap}
variable {cI cB cZ : ClassId} {h : Nat → Nat} {rdy : Bool} {E pr pk qu cf : Nat → Nat} {rr cr rc ck : Nat} {re us : Nat → Nat} {g : Nat → Nat} {ca th : Nat → Bool} {go : Nat → Nat}
theorem xg_E (C : CX p s m args meth c cc L rt RX0 D (tyL cI cB cZ) A) (hw : XH D A H0 H locs (xW cI cB h rdy E pr pk qu cf rr cr rc ck re us)) (hdg : decode cc pc = .ok (.getfield 7, 3)) (k : W p l e R s m args below meth c H locs cells slots Q (F0 m (pc + 3) ls (.ref (h 1) :: rest))) : W p l e R s m args below meth c H locs cells slots Q (F0 m pc ls (.ref (h 0) :: rest)) := by
  obtain ⟨hx, hb, hr, hlocks, hml, hown, hts, hK, hA⟩ := C
  exact va_get hx hb hts in_X0 hown hK hw.1 0 rfl rfl 0 (by decide) (hts _ q33) (fun _ h => h) rfl hdg k
theorem xg_rdy (C : CX p s m args meth c cc L rt RX0 D (tyL cI cB cZ) A) (hw : XH D A H0 H locs (xW cI cB h rdy E pr pk qu cf rr cr rc ck re us)) (hdg : decode cc pc = .ok (.getfield 36, 3)) (k : W p l e R s m args below meth c H locs cells slots Q (F0 m (pc + 3) ls (.int (wI rdy) :: rest))) : W p l e R s m args below meth c H locs cells slots Q (F0 m pc ls (.ref (h 0) :: rest)) := by
  obtain ⟨hx, hb, hr, hlocks, hml, hown, hts, hK, hA⟩ := C
  exact va_get hx hb hts in_X0 hown hK hw.1 0 rfl rfl 1 (by decide) (hts _ q34) (fun _ h => h) rfl hdg k
theorem xg_pr (C : CX p s m args meth c cc L rt RX0 D (tyL cI cB cZ) A) (hw : XH D A H0 H locs (xW cI cB h rdy E pr pk qu cf rr cr rc ck re us)) (hdg : decode cc pc = .ok (.getfield 13, 3)) (k : W p l e R s m args below meth c H locs cells slots Q (F0 m (pc + 3) ls (.ref (h 2) :: rest))) : W p l e R s m args below meth c H locs cells slots Q (F0 m pc ls (.ref (h 0) :: rest)) := by
  obtain ⟨hx, hb, hr, hlocks, hml, hown, hts, hK, hA⟩ := C
  exact va_get hx hb hts in_X0 hown hK hw.1 0 rfl rfl 2 (by decide) (hts _ q35) (fun _ h => h) rfl hdg k
theorem xg_pk (C : CX p s m args meth c cc L rt RX0 D (tyL cI cB cZ) A) (hw : XH D A H0 H locs (xW cI cB h rdy E pr pk qu cf rr cr rc ck re us)) (hdg : decode cc pc = .ok (.getfield 17, 3)) (k : W p l e R s m args below meth c H locs cells slots Q (F0 m (pc + 3) ls (.ref (h 3) :: rest))) : W p l e R s m args below meth c H locs cells slots Q (F0 m pc ls (.ref (h 0) :: rest)) := by
  obtain ⟨hx, hb, hr, hlocks, hml, hown, hts, hK, hA⟩ := C
  exact va_get hx hb hts in_X0 hown hK hw.1 0 rfl rfl 3 (by decide) (hts _ q36) (fun _ h => h) rfl hdg k
theorem xg_qu (C : CX p s m args meth c cc L rt RX0 D (tyL cI cB cZ) A) (hw : XH D A H0 H locs (xW cI cB h rdy E pr pk qu cf rr cr rc ck re us)) (hdg : decode cc pc = .ok (.getfield 20, 3)) (k : W p l e R s m args below meth c H locs cells slots Q (F0 m (pc + 3) ls (.ref (h 4) :: rest))) : W p l e R s m args below meth c H locs cells slots Q (F0 m pc ls (.ref (h 0) :: rest)) := by
  obtain ⟨hx, hb, hr, hlocks, hml, hown, hts, hK, hA⟩ := C
  exact va_get hx hb hts in_X0 hown hK hw.1 0 rfl rfl 4 (by decide) (hts _ q37) (fun _ h => h) rfl hdg k
theorem xg_cf (C : CX p s m args meth c cc L rt RX0 D (tyL cI cB cZ) A) (hw : XH D A H0 H locs (xW cI cB h rdy E pr pk qu cf rr cr rc ck re us)) (hdg : decode cc pc = .ok (.getfield 23, 3)) (k : W p l e R s m args below meth c H locs cells slots Q (F0 m (pc + 3) ls (.ref (h 5) :: rest))) : W p l e R s m args below meth c H locs cells slots Q (F0 m pc ls (.ref (h 0) :: rest)) := by
  obtain ⟨hx, hb, hr, hlocks, hml, hown, hts, hK, hA⟩ := C
  exact va_get hx hb hts in_X0 hown hK hw.1 0 rfl rfl 5 (by decide) (hts _ q38) (fun _ h => h) rfl hdg k
theorem xg_rr (C : CX p s m args meth c cc L rt RX0 D (tyL cI cB cZ) A) (hw : XH D A H0 H locs (xW cI cB h rdy E pr pk qu cf rr cr rc ck re us)) (hdg : decode cc pc = .ok (.getfield 43, 3)) (k : W p l e R s m args below meth c H locs cells slots Q (F0 m (pc + 3) ls (.int (nI rr) :: rest))) : W p l e R s m args below meth c H locs cells slots Q (F0 m pc ls (.ref (h 0) :: rest)) := by
  obtain ⟨hx, hb, hr, hlocks, hml, hown, hts, hK, hA⟩ := C
  exact va_get hx hb hts in_X0 hown hK hw.1 0 rfl rfl 6 (by decide) (hts _ q39) (fun _ h => h) rfl hdg k
theorem xg_cr (C : CX p s m args meth c cc L rt RX0 D (tyL cI cB cZ) A) (hw : XH D A H0 H locs (xW cI cB h rdy E pr pk qu cf rr cr rc ck re us)) (hdg : decode cc pc = .ok (.getfield 57, 3)) (k : W p l e R s m args below meth c H locs cells slots Q (F0 m (pc + 3) ls (.int (nI cr) :: rest))) : W p l e R s m args below meth c H locs cells slots Q (F0 m pc ls (.ref (h 0) :: rest)) := by
  obtain ⟨hx, hb, hr, hlocks, hml, hown, hts, hK, hA⟩ := C
  exact va_get hx hb hts in_X0 hown hK hw.1 0 rfl rfl 7 (by decide) (hts _ q40) (fun _ h => h) rfl hdg k
theorem xg_rc (C : CX p s m args meth c cc L rt RX0 D (tyL cI cB cZ) A) (hw : XH D A H0 H locs (xW cI cB h rdy E pr pk qu cf rr cr rc ck re us)) (hdg : decode cc pc = .ok (.getfield 85, 3)) (k : W p l e R s m args below meth c H locs cells slots Q (F0 m (pc + 3) ls (.int (nI rc) :: rest))) : W p l e R s m args below meth c H locs cells slots Q (F0 m pc ls (.ref (h 0) :: rest)) := by
  obtain ⟨hx, hb, hr, hlocks, hml, hown, hts, hK, hA⟩ := C
  exact va_get hx hb hts in_X0 hown hK hw.1 0 rfl rfl 8 (by decide) (hts _ q41) (fun _ h => h) rfl hdg k
theorem xg_ck (C : CX p s m args meth c cc L rt RX0 D (tyL cI cB cZ) A) (hw : XH D A H0 H locs (xW cI cB h rdy E pr pk qu cf rr cr rc ck re us)) (hdg : decode cc pc = .ok (.getfield 47, 3)) (k : W p l e R s m args below meth c H locs cells slots Q (F0 m (pc + 3) ls (.int (nI ck) :: rest))) : W p l e R s m args below meth c H locs cells slots Q (F0 m pc ls (.ref (h 0) :: rest)) := by
  obtain ⟨hx, hb, hr, hlocks, hml, hown, hts, hK, hA⟩ := C
  exact va_get hx hb hts in_X0 hown hK hw.1 0 rfl rfl 9 (by decide) (hts _ q42) (fun _ h => h) rfl hdg k
theorem xg_re (C : CX p s m args meth c cc L rt RX0 D (tyL cI cB cZ) A) (hw : XH D A H0 H locs (xW cI cB h rdy E pr pk qu cf rr cr rc ck re us)) (hdg : decode cc pc = .ok (.getfield 26, 3)) (k : W p l e R s m args below meth c H locs cells slots Q (F0 m (pc + 3) ls (.ref (h 6) :: rest))) : W p l e R s m args below meth c H locs cells slots Q (F0 m pc ls (.ref (h 0) :: rest)) := by
  obtain ⟨hx, hb, hr, hlocks, hml, hown, hts, hK, hA⟩ := C
  exact va_get hx hb hts in_X0 hown hK hw.1 0 rfl rfl 10 (by decide) (hts _ q43) (fun _ h => h) rfl hdg k
theorem xg_us (C : CX p s m args meth c cc L rt RX0 D (tyL cI cB cZ) A) (hw : XH D A H0 H locs (xW cI cB h rdy E pr pk qu cf rr cr rc ck re us)) (hdg : decode cc pc = .ok (.getfield 29, 3)) (k : W p l e R s m args below meth c H locs cells slots Q (F0 m (pc + 3) ls (.ref (h 7) :: rest))) : W p l e R s m args below meth c H locs cells slots Q (F0 m pc ls (.ref (h 0) :: rest)) := by
  obtain ⟨hx, hb, hr, hlocks, hml, hown, hts, hK, hA⟩ := C
  exact va_get hx hb hts in_X0 hown hK hw.1 0 rfl rfl 11 (by decide) (hts _ q44) (fun _ h => h) rfl hdg k
theorem xp_rdy {b : Bool} (C : CX p s m args meth c cc L rt RX0 D (tyL cI cB cZ) A) (hw : XH D A H0 H locs (xW cI cB h rdy E pr pk qu cf rr cr rc ck re us)) (hdg : decode cc pc = .ok (.putfield 36, 3)) (k : ∀ H1 locs1, XH D A H0 H1 locs1 (xW cI cB h b E pr pk qu cf rr cr rc ck re us) → W p l e R s m args below meth c H1 locs1 cells slots Q (F0 m (pc + 3) ls rest)) : W p l e R s m args below meth c H locs cells slots Q (F0 m pc ls (.int (wI b) :: .ref (h 0) :: rest)) := by
  obtain ⟨hx, hb, hr, hlocks, hml, hown, hts, hK, hA⟩ := C
  exact va_put (ty := .boolean) hx hb hts in_X0 tyX0 tyX0_ok nmX0 hown hK hw.1 hw.2.1 hw.2.2 0 rfl rfl 1 (by decide) (hts _ q34) (fun _ h => h) rfl (by decide +kernel) (by cases b <;> rfl) (by cases b <;> rfl) (Nat.le_of_ble_eq_true rfl) hdg (fun H1 locs1 h1 h2 h3 => k H1 locs1 ⟨h1, h2, h3⟩)
theorem xp_rr {x : Nat} (C : CX p s m args meth c cc L rt RX0 D (tyL cI cB cZ) A) (hw : XH D A H0 H locs (xW cI cB h rdy E pr pk qu cf rr cr rc ck re us)) (hdg : decode cc pc = .ok (.putfield 43, 3)) (k : ∀ H1 locs1, XH D A H0 H1 locs1 (xW cI cB h rdy E pr pk qu cf x cr rc ck re us) → W p l e R s m args below meth c H1 locs1 cells slots Q (F0 m (pc + 3) ls rest)) : W p l e R s m args below meth c H locs cells slots Q (F0 m pc ls (.int (nI x) :: .ref (h 0) :: rest)) := by
  obtain ⟨hx, hb, hr, hlocks, hml, hown, hts, hK, hA⟩ := C
  exact va_put (ty := .int) hx hb hts in_X0 tyX0 tyX0_ok nmX0 hown hK hw.1 hw.2.1 hw.2.2 0 rfl rfl 6 (by decide) (hts _ q39) (fun _ h => h) rfl (by decide +kernel) rfl rfl (Nat.le_of_ble_eq_true rfl) hdg (fun H1 locs1 h1 h2 h3 => k H1 locs1 ⟨h1, h2, h3⟩)
theorem xp_cr {x : Nat} (C : CX p s m args meth c cc L rt RX0 D (tyL cI cB cZ) A) (hw : XH D A H0 H locs (xW cI cB h rdy E pr pk qu cf rr cr rc ck re us)) (hdg : decode cc pc = .ok (.putfield 57, 3)) (k : ∀ H1 locs1, XH D A H0 H1 locs1 (xW cI cB h rdy E pr pk qu cf rr x rc ck re us) → W p l e R s m args below meth c H1 locs1 cells slots Q (F0 m (pc + 3) ls rest)) : W p l e R s m args below meth c H locs cells slots Q (F0 m pc ls (.int (nI x) :: .ref (h 0) :: rest)) := by
  obtain ⟨hx, hb, hr, hlocks, hml, hown, hts, hK, hA⟩ := C
  exact va_put (ty := .int) hx hb hts in_X0 tyX0 tyX0_ok nmX0 hown hK hw.1 hw.2.1 hw.2.2 0 rfl rfl 7 (by decide) (hts _ q40) (fun _ h => h) rfl (by decide +kernel) rfl rfl (Nat.le_of_ble_eq_true rfl) hdg (fun H1 locs1 h1 h2 h3 => k H1 locs1 ⟨h1, h2, h3⟩)
theorem xp_rc {x : Nat} (C : CX p s m args meth c cc L rt RX0 D (tyL cI cB cZ) A) (hw : XH D A H0 H locs (xW cI cB h rdy E pr pk qu cf rr cr rc ck re us)) (hdg : decode cc pc = .ok (.putfield 85, 3)) (k : ∀ H1 locs1, XH D A H0 H1 locs1 (xW cI cB h rdy E pr pk qu cf rr cr x ck re us) → W p l e R s m args below meth c H1 locs1 cells slots Q (F0 m (pc + 3) ls rest)) : W p l e R s m args below meth c H locs cells slots Q (F0 m pc ls (.int (nI x) :: .ref (h 0) :: rest)) := by
  obtain ⟨hx, hb, hr, hlocks, hml, hown, hts, hK, hA⟩ := C
  exact va_put (ty := .int) hx hb hts in_X0 tyX0 tyX0_ok nmX0 hown hK hw.1 hw.2.1 hw.2.2 0 rfl rfl 8 (by decide) (hts _ q41) (fun _ h => h) rfl (by decide +kernel) rfl rfl (Nat.le_of_ble_eq_true rfl) hdg (fun H1 locs1 h1 h2 h3 => k H1 locs1 ⟨h1, h2, h3⟩)
theorem xp_ck {x : Nat} (C : CX p s m args meth c cc L rt RX0 D (tyL cI cB cZ) A) (hw : XH D A H0 H locs (xW cI cB h rdy E pr pk qu cf rr cr rc ck re us)) (hdg : decode cc pc = .ok (.putfield 47, 3)) (k : ∀ H1 locs1, XH D A H0 H1 locs1 (xW cI cB h rdy E pr pk qu cf rr cr rc x re us) → W p l e R s m args below meth c H1 locs1 cells slots Q (F0 m (pc + 3) ls rest)) : W p l e R s m args below meth c H locs cells slots Q (F0 m pc ls (.int (nI x) :: .ref (h 0) :: rest)) := by
  obtain ⟨hx, hb, hr, hlocks, hml, hown, hts, hK, hA⟩ := C
  exact va_put (ty := .int) hx hb hts in_X0 tyX0 tyX0_ok nmX0 hown hK hw.1 hw.2.1 hw.2.2 0 rfl rfl 9 (by decide) (hts _ q42) (fun _ h => h) rfl (by decide +kernel) rfl rfl (Nat.le_of_ble_eq_true rfl) hdg (fun H1 locs1 h1 h2 h3 => k H1 locs1 ⟨h1, h2, h3⟩)
theorem xl_E {i : Nat} (hi : i < 7) (C : CX p s m args meth c cc L rt RX0 D (tyL cI cB cZ) A) (hw : XH D A H0 H locs (xW cI cB h rdy E pr pk qu cf rr cr rc ck re us)) (hdg : decode cc pc = .ok (.iaload, 1)) (k : W p l e R s m args below meth c H locs cells slots Q (F0 m (pc + 1) ls (.int (nI (E i)) :: rest))) : W p l e R s m args below meth c H locs cells slots Q (F0 m pc ls (.int (nI i) :: .ref (h 1) :: rest)) := by
  obtain ⟨hx, hb, hr, hlocks, hml, hown, hts, hK, hA⟩ := C
  refine va_iald hx hb hK hw.1 1 0 rfl rfl (vp_in_nI hi (by decide)) hdg ?_
  rw [nI_clamp (by omega)]
  exact k
theorem xs_E {i v : Nat} (hi : i < 7) (C : CX p s m args meth c cc L rt RX0 D (tyL cI cB cZ) A) (hw : XH D A H0 H locs (xW cI cB h rdy E pr pk qu cf rr cr rc ck re us)) (hdg : decode cc pc = .ok (.iastore, 1)) (k : ∀ H1 locs1, XH D A H0 H1 locs1 (xW cI cB h rdy (mm_up E i v) pr pk qu cf rr cr rc ck re us) → W p l e R s m args below meth c H1 locs1 cells slots Q (F0 m (pc + 1) ls rest)) : W p l e R s m args below meth c H locs cells slots Q (F0 m pc ls (.int (nI v) :: .int (nI i) :: .ref (h 1) :: rest)) := by
  obtain ⟨hx, hb, hr, hlocks, hml, hown, hts, hK, hA⟩ := C
  refine va_iast hx hb hK hw.1 hw.2.1 hw.2.2 1 0 rfl rfl (vp_in_nI hi (by decide)) hdg (fun H1 locs1 h1 h2 h3 => ?_)
  rw [nI_clamp (by omega), n_updI] at h1 h2
  exact k H1 locs1 ⟨h1, h2, h3⟩
theorem xl_pr {i : Nat} (hi : i < 7) (C : CX p s m args meth c cc L rt RX0 D (tyL cI cB cZ) A) (hw : XH D A H0 H locs (xW cI cB h rdy E pr pk qu cf rr cr rc ck re us)) (hdg : decode cc pc = .ok (.baload, 1)) (k : W p l e R s m args below meth c H locs cells slots Q (F0 m (pc + 1) ls (.int (nB (pr i)) :: rest))) : W p l e R s m args below meth c H locs cells slots Q (F0 m pc ls (.int (nI i) :: .ref (h 2) :: rest)) := by
  obtain ⟨hx, hb, hr, hlocks, hml, hown, hts, hK, hA⟩ := C
  refine va_bald hx hb hK hw.1 2 1 rfl rfl (vp_in_nI hi (by decide)) hdg ?_
  rw [nI_clamp (by omega)]
  exact k
theorem xs_pr {i v : Nat} (hi : i < 7) (C : CX p s m args meth c cc L rt RX0 D (tyL cI cB cZ) A) (hw : XH D A H0 H locs (xW cI cB h rdy E pr pk qu cf rr cr rc ck re us)) (hdg : decode cc pc = .ok (.bastore, 1)) (k : ∀ H1 locs1, XH D A H0 H1 locs1 (xW cI cB h rdy E (mm_up pr i v) pk qu cf rr cr rc ck re us) → W p l e R s m args below meth c H1 locs1 cells slots Q (F0 m (pc + 1) ls rest)) : W p l e R s m args below meth c H locs cells slots Q (F0 m pc ls (.int (nB v) :: .int (nI i) :: .ref (h 2) :: rest)) := by
  obtain ⟨hx, hb, hr, hlocks, hml, hown, hts, hK, hA⟩ := C
  refine va_bast hx hb hK hw.1 hw.2.1 hw.2.2 2 1 rfl rfl (vp_in_nI hi (by decide)) hdg (fun H1 locs1 h1 h2 h3 => ?_)
  rw [nI_clamp (by omega), n_narB, n_updB] at h1 h2
  exact k H1 locs1 ⟨h1, h2, h3⟩
theorem xl_pk {i : Nat} (hi : i < 7) (C : CX p s m args meth c cc L rt RX0 D (tyL cI cB cZ) A) (hw : XH D A H0 H locs (xW cI cB h rdy E pr pk qu cf rr cr rc ck re us)) (hdg : decode cc pc = .ok (.baload, 1)) (k : W p l e R s m args below meth c H locs cells slots Q (F0 m (pc + 1) ls (.int (nB (pk i)) :: rest))) : W p l e R s m args below meth c H locs cells slots Q (F0 m pc ls (.int (nI i) :: .ref (h 3) :: rest)) := by
  obtain ⟨hx, hb, hr, hlocks, hml, hown, hts, hK, hA⟩ := C
  refine va_bald hx hb hK hw.1 3 1 rfl rfl (vp_in_nI hi (by decide)) hdg ?_
  rw [nI_clamp (by omega)]
  exact k
theorem xs_pk {i v : Nat} (hi : i < 7) (C : CX p s m args meth c cc L rt RX0 D (tyL cI cB cZ) A) (hw : XH D A H0 H locs (xW cI cB h rdy E pr pk qu cf rr cr rc ck re us)) (hdg : decode cc pc = .ok (.bastore, 1)) (k : ∀ H1 locs1, XH D A H0 H1 locs1 (xW cI cB h rdy E pr (mm_up pk i v) qu cf rr cr rc ck re us) → W p l e R s m args below meth c H1 locs1 cells slots Q (F0 m (pc + 1) ls rest)) : W p l e R s m args below meth c H locs cells slots Q (F0 m pc ls (.int (nB v) :: .int (nI i) :: .ref (h 3) :: rest)) := by
  obtain ⟨hx, hb, hr, hlocks, hml, hown, hts, hK, hA⟩ := C
  refine va_bast hx hb hK hw.1 hw.2.1 hw.2.2 3 1 rfl rfl (vp_in_nI hi (by decide)) hdg (fun H1 locs1 h1 h2 h3 => ?_)
  rw [nI_clamp (by omega), n_narB, n_updB] at h1 h2
  exact k H1 locs1 ⟨h1, h2, h3⟩
theorem xl_qu {i : Nat} (hi : i < 7) (C : CX p s m args meth c cc L rt RX0 D (tyL cI cB cZ) A) (hw : XH D A H0 H locs (xW cI cB h rdy E pr pk qu cf rr cr rc ck re us)) (hdg : decode cc pc = .ok (.baload, 1)) (k : W p l e R s m args below meth c H locs cells slots Q (F0 m (pc + 1) ls (.int (nI (qu i)) :: rest))) : W p l e R s m args below meth c H locs cells slots Q (F0 m pc ls (.int (nI i) :: .ref (h 4) :: rest)) := by
  obtain ⟨hx, hb, hr, hlocks, hml, hown, hts, hK, hA⟩ := C
  refine va_bald hx hb hK hw.1 4 1 rfl rfl (vp_in_nI hi (by decide)) hdg ?_
  rw [nI_clamp (by omega)]
  exact k
theorem xs_qu {i v : Nat} (hi : i < 7) (hv : v < 128) (C : CX p s m args meth c cc L rt RX0 D (tyL cI cB cZ) A) (hw : XH D A H0 H locs (xW cI cB h rdy E pr pk qu cf rr cr rc ck re us)) (hdg : decode cc pc = .ok (.bastore, 1)) (k : ∀ H1 locs1, XH D A H0 H1 locs1 (xW cI cB h rdy E pr pk (mm_up qu i v) cf rr cr rc ck re us) → W p l e R s m args below meth c H1 locs1 cells slots Q (F0 m (pc + 1) ls rest)) : W p l e R s m args below meth c H locs cells slots Q (F0 m pc ls (.int (nI v) :: .int (nI i) :: .ref (h 4) :: rest)) := by
  obtain ⟨hx, hb, hr, hlocks, hml, hown, hts, hK, hA⟩ := C
  refine va_bast hx hb hK hw.1 hw.2.1 hw.2.2 4 1 rfl rfl (vp_in_nI hi (by decide)) hdg (fun H1 locs1 h1 h2 h3 => ?_)
  rw [nI_clamp (by omega), n_nar hv, n_updI] at h1 h2
  exact k H1 locs1 ⟨h1, h2, h3⟩
theorem xl_cf {i : Nat} (hi : i < 7) (C : CX p s m args meth c cc L rt RX0 D (tyL cI cB cZ) A) (hw : XH D A H0 H locs (xW cI cB h rdy E pr pk qu cf rr cr rc ck re us)) (hdg : decode cc pc = .ok (.baload, 1)) (k : W p l e R s m args below meth c H locs cells slots Q (F0 m (pc + 1) ls (.int (nI (cf i)) :: rest))) : W p l e R s m args below meth c H locs cells slots Q (F0 m pc ls (.int (nI i) :: .ref (h 5) :: rest)) := by
  obtain ⟨hx, hb, hr, hlocks, hml, hown, hts, hK, hA⟩ := C
  refine va_bald hx hb hK hw.1 5 1 rfl rfl (vp_in_nI hi (by decide)) hdg ?_
  rw [nI_clamp (by omega)]
  exact k
theorem xs_cf {i v : Nat} (hi : i < 7) (hv : v < 128) (C : CX p s m args meth c cc L rt RX0 D (tyL cI cB cZ) A) (hw : XH D A H0 H locs (xW cI cB h rdy E pr pk qu cf rr cr rc ck re us)) (hdg : decode cc pc = .ok (.bastore, 1)) (k : ∀ H1 locs1, XH D A H0 H1 locs1 (xW cI cB h rdy E pr pk qu (mm_up cf i v) rr cr rc ck re us) → W p l e R s m args below meth c H1 locs1 cells slots Q (F0 m (pc + 1) ls rest)) : W p l e R s m args below meth c H locs cells slots Q (F0 m pc ls (.int (nI v) :: .int (nI i) :: .ref (h 5) :: rest)) := by
  obtain ⟨hx, hb, hr, hlocks, hml, hown, hts, hK, hA⟩ := C
  refine va_bast hx hb hK hw.1 hw.2.1 hw.2.2 5 1 rfl rfl (vp_in_nI hi (by decide)) hdg (fun H1 locs1 h1 h2 h3 => ?_)
  rw [nI_clamp (by omega), n_nar hv, n_updI] at h1 h2
  exact k H1 locs1 ⟨h1, h2, h3⟩
theorem xl_re {i : Nat} (hi : i < 7) (C : CX p s m args meth c cc L rt RX0 D (tyL cI cB cZ) A) (hw : XH D A H0 H locs (xW cI cB h rdy E pr pk qu cf rr cr rc ck re us)) (hdg : decode cc pc = .ok (.iaload, 1)) (k : W p l e R s m args below meth c H locs cells slots Q (F0 m (pc + 1) ls (.int (nI (re i)) :: rest))) : W p l e R s m args below meth c H locs cells slots Q (F0 m pc ls (.int (nI i) :: .ref (h 6) :: rest)) := by
  obtain ⟨hx, hb, hr, hlocks, hml, hown, hts, hK, hA⟩ := C
  refine va_iald hx hb hK hw.1 6 0 rfl rfl (vp_in_nI hi (by decide)) hdg ?_
  rw [nI_clamp (by omega)]
  exact k
theorem xs_re {i v : Nat} (hi : i < 7) (C : CX p s m args meth c cc L rt RX0 D (tyL cI cB cZ) A) (hw : XH D A H0 H locs (xW cI cB h rdy E pr pk qu cf rr cr rc ck re us)) (hdg : decode cc pc = .ok (.iastore, 1)) (k : ∀ H1 locs1, XH D A H0 H1 locs1 (xW cI cB h rdy E pr pk qu cf rr cr rc ck (mm_up re i v) us) → W p l e R s m args below meth c H1 locs1 cells slots Q (F0 m (pc + 1) ls rest)) : W p l e R s m args below meth c H locs cells slots Q (F0 m pc ls (.int (nI v) :: .int (nI i) :: .ref (h 6) :: rest)) := by
  obtain ⟨hx, hb, hr, hlocks, hml, hown, hts, hK, hA⟩ := C
  refine va_iast hx hb hK hw.1 hw.2.1 hw.2.2 6 0 rfl rfl (vp_in_nI hi (by decide)) hdg (fun H1 locs1 h1 h2 h3 => ?_)
  rw [nI_clamp (by omega), n_updI] at h1 h2
  exact k H1 locs1 ⟨h1, h2, h3⟩
theorem xl_us {i : Nat} (hi : i < 7) (C : CX p s m args meth c cc L rt RX0 D (tyL cI cB cZ) A) (hw : XH D A H0 H locs (xW cI cB h rdy E pr pk qu cf rr cr rc ck re us)) (hdg : decode cc pc = .ok (.iaload, 1)) (k : W p l e R s m args below meth c H locs cells slots Q (F0 m (pc + 1) ls (.int (nI (us i)) :: rest))) : W p l e R s m args below meth c H locs cells slots Q (F0 m pc ls (.int (nI i) :: .ref (h 7) :: rest)) := by
  obtain ⟨hx, hb, hr, hlocks, hml, hown, hts, hK, hA⟩ := C
  refine va_iald hx hb hK hw.1 7 0 rfl rfl (vp_in_nI hi (by decide)) hdg ?_
  rw [nI_clamp (by omega)]
  exact k
theorem xs_us {i v : Nat} (hi : i < 7) (C : CX p s m args meth c cc L rt RX0 D (tyL cI cB cZ) A) (hw : XH D A H0 H locs (xW cI cB h rdy E pr pk qu cf rr cr rc ck re us)) (hdg : decode cc pc = .ok (.iastore, 1)) (k : ∀ H1 locs1, XH D A H0 H1 locs1 (xW cI cB h rdy E pr pk qu cf rr cr rc ck re (mm_up us i v)) → W p l e R s m args below meth c H1 locs1 cells slots Q (F0 m (pc + 1) ls rest)) : W p l e R s m args below meth c H locs cells slots Q (F0 m pc ls (.int (nI v) :: .int (nI i) :: .ref (h 7) :: rest)) := by
  obtain ⟨hx, hb, hr, hlocks, hml, hown, hts, hK, hA⟩ := C
  refine va_iast hx hb hK hw.1 hw.2.1 hw.2.2 7 0 rfl rfl (vp_in_nI hi (by decide)) hdg (fun H1 locs1 h1 h2 h3 => ?_)
  rw [nI_clamp (by omega), n_updI] at h1 h2
  exact k H1 locs1 ⟨h1, h2, h3⟩
theorem mg_E (C : CX p s m args meth c cc L rt RX1 D (tyL cI cB cZ) A) (hw : XH D A H0 H locs (mW cI cZ g E ca th go)) (hdg : decode cc pc = .ok (.getfield 7, 3)) (k : W p l e R s m args below meth c H locs cells slots Q (F0 m (pc + 3) ls (.ref (g 1) :: rest))) : W p l e R s m args below meth c H locs cells slots Q (F0 m pc ls (.ref (g 0) :: rest)) := by
  obtain ⟨hx, hb, hr, hlocks, hml, hown, hts, hK, hA⟩ := C
  exact va_get hx hb hts in_X1 hown hK hw.1 0 rfl rfl 0 (by decide) (hts _ q178) (fun _ h => h) rfl hdg k
theorem mg_ca (C : CX p s m args meth c cc L rt RX1 D (tyL cI cB cZ) A) (hw : XH D A H0 H locs (mW cI cZ g E ca th go)) (hdg : decode cc pc = .ok (.getfield 13, 3)) (k : W p l e R s m args below meth c H locs cells slots Q (F0 m (pc + 3) ls (.ref (g 2) :: rest))) : W p l e R s m args below meth c H locs cells slots Q (F0 m pc ls (.ref (g 0) :: rest)) := by
  obtain ⟨hx, hb, hr, hlocks, hml, hown, hts, hK, hA⟩ := C
  exact va_get hx hb hts in_X1 hown hK hw.1 0 rfl rfl 1 (by decide) (hts _ q179) (fun _ h => h) rfl hdg k
theorem mg_th (C : CX p s m args meth c cc L rt RX1 D (tyL cI cB cZ) A) (hw : XH D A H0 H locs (mW cI cZ g E ca th go)) (hdg : decode cc pc = .ok (.getfield 17, 3)) (k : W p l e R s m args below meth c H locs cells slots Q (F0 m (pc + 3) ls (.ref (g 3) :: rest))) : W p l e R s m args below meth c H locs cells slots Q (F0 m pc ls (.ref (g 0) :: rest)) := by
  obtain ⟨hx, hb, hr, hlocks, hml, hown, hts, hK, hA⟩ := C
  exact va_get hx hb hts in_X1 hown hK hw.1 0 rfl rfl 2 (by decide) (hts _ q180) (fun _ h => h) rfl hdg k
theorem mg_go (C : CX p s m args meth c cc L rt RX1 D (tyL cI cB cZ) A) (hw : XH D A H0 H locs (mW cI cZ g E ca th go)) (hdg : decode cc pc = .ok (.getfield 20, 3)) (k : W p l e R s m args below meth c H locs cells slots Q (F0 m (pc + 3) ls (.ref (g 4) :: rest))) : W p l e R s m args below meth c H locs cells slots Q (F0 m pc ls (.ref (g 0) :: rest)) := by
  obtain ⟨hx, hb, hr, hlocks, hml, hown, hts, hK, hA⟩ := C
  exact va_get hx hb hts in_X1 hown hK hw.1 0 rfl rfl 3 (by decide) (hts _ q181) (fun _ h => h) rfl hdg k
theorem ml_E {i : Nat} (hi : i < 7) (C : CX p s m args meth c cc L rt RX1 D (tyL cI cB cZ) A) (hw : XH D A H0 H locs (mW cI cZ g E ca th go)) (hdg : decode cc pc = .ok (.iaload, 1)) (k : W p l e R s m args below meth c H locs cells slots Q (F0 m (pc + 1) ls (.int (nI (E i)) :: rest))) : W p l e R s m args below meth c H locs cells slots Q (F0 m pc ls (.int (nI i) :: .ref (g 1) :: rest)) := by
  obtain ⟨hx, hb, hr, hlocks, hml, hown, hts, hK, hA⟩ := C
  refine va_iald hx hb hK hw.1 1 0 rfl rfl (vp_in_nI hi (by decide)) hdg ?_
  rw [nI_clamp (by omega)]
  exact k
theorem ms_E {i : Nat} {v : Nat} (hi : i < 7) (C : CX p s m args meth c cc L rt RX1 D (tyL cI cB cZ) A) (hw : XH D A H0 H locs (mW cI cZ g E ca th go)) (hdg : decode cc pc = .ok (.iastore, 1)) (k : ∀ H1 locs1, XH D A H0 H1 locs1 (mW cI cZ g (mm_up E i v) ca th go) → W p l e R s m args below meth c H1 locs1 cells slots Q (F0 m (pc + 1) ls rest)) : W p l e R s m args below meth c H locs cells slots Q (F0 m pc ls (.int (nI v) :: .int (nI i) :: .ref (g 1) :: rest)) := by
  obtain ⟨hx, hb, hr, hlocks, hml, hown, hts, hK, hA⟩ := C
  refine va_iast hx hb hK hw.1 hw.2.1 hw.2.2 1 0 rfl rfl (vp_in_nI hi (by decide)) hdg (fun H1 locs1 h1 h2 h3 => ?_)
  rw [nI_clamp (by omega), n_updI] at h1 h2
  exact k H1 locs1 ⟨h1, h2, h3⟩
theorem ml_ca {i : Nat} (hi : i < 128) (C : CX p s m args meth c cc L rt RX1 D (tyL cI cB cZ) A) (hw : XH D A H0 H locs (mW cI cZ g E ca th go)) (hdg : decode cc pc = .ok (.baload, 1)) (k : W p l e R s m args below meth c H locs cells slots Q (F0 m (pc + 1) ls (.int (wI (ca i)) :: rest))) : W p l e R s m args below meth c H locs cells slots Q (F0 m pc ls (.int (nI i) :: .ref (g 2) :: rest)) := by
  obtain ⟨hx, hb, hr, hlocks, hml, hown, hts, hK, hA⟩ := C
  refine va_zald hx hb hK hw.1 2 2 rfl rfl (vp_in_nI hi (by decide)) hdg ?_
  rw [nI_clamp (by omega)]
  exact k
theorem ms_ca {i : Nat} {v : Bool} (hi : i < 128) (C : CX p s m args meth c cc L rt RX1 D (tyL cI cB cZ) A) (hw : XH D A H0 H locs (mW cI cZ g E ca th go)) (hdg : decode cc pc = .ok (.bastore, 1)) (k : ∀ H1 locs1, XH D A H0 H1 locs1 (mW cI cZ g E (mm_up ca i v) th go) → W p l e R s m args below meth c H1 locs1 cells slots Q (F0 m (pc + 1) ls rest)) : W p l e R s m args below meth c H locs cells slots Q (F0 m pc ls (.int (wI v) :: .int (nI i) :: .ref (g 2) :: rest)) := by
  obtain ⟨hx, hb, hr, hlocks, hml, hown, hts, hK, hA⟩ := C
  refine va_zast hx hb hK hw.1 hw.2.1 hw.2.2 2 2 rfl rfl (vp_in_nI hi (by decide)) hdg (fun H1 locs1 h1 h2 h3 => ?_)
  rw [nI_clamp (by omega), n_narZ, n_updw] at h1 h2
  exact k H1 locs1 ⟨h1, h2, h3⟩
theorem ml_th {i : Nat} (hi : i < 128) (C : CX p s m args meth c cc L rt RX1 D (tyL cI cB cZ) A) (hw : XH D A H0 H locs (mW cI cZ g E ca th go)) (hdg : decode cc pc = .ok (.baload, 1)) (k : W p l e R s m args below meth c H locs cells slots Q (F0 m (pc + 1) ls (.int (wI (th i)) :: rest))) : W p l e R s m args below meth c H locs cells slots Q (F0 m pc ls (.int (nI i) :: .ref (g 3) :: rest)) := by
  obtain ⟨hx, hb, hr, hlocks, hml, hown, hts, hK, hA⟩ := C
  refine va_zald hx hb hK hw.1 3 2 rfl rfl (vp_in_nI hi (by decide)) hdg ?_
  rw [nI_clamp (by omega)]
  exact k
theorem ms_th {i : Nat} {v : Bool} (hi : i < 128) (C : CX p s m args meth c cc L rt RX1 D (tyL cI cB cZ) A) (hw : XH D A H0 H locs (mW cI cZ g E ca th go)) (hdg : decode cc pc = .ok (.bastore, 1)) (k : ∀ H1 locs1, XH D A H0 H1 locs1 (mW cI cZ g E ca (mm_up th i v) go) → W p l e R s m args below meth c H1 locs1 cells slots Q (F0 m (pc + 1) ls rest)) : W p l e R s m args below meth c H locs cells slots Q (F0 m pc ls (.int (wI v) :: .int (nI i) :: .ref (g 3) :: rest)) := by
  obtain ⟨hx, hb, hr, hlocks, hml, hown, hts, hK, hA⟩ := C
  refine va_zast hx hb hK hw.1 hw.2.1 hw.2.2 3 2 rfl rfl (vp_in_nI hi (by decide)) hdg (fun H1 locs1 h1 h2 h3 => ?_)
  rw [nI_clamp (by omega), n_narZ, n_updw] at h1 h2
  exact k H1 locs1 ⟨h1, h2, h3⟩
theorem ml_go {i : Nat} (hi : i < 7) (C : CX p s m args meth c cc L rt RX1 D (tyL cI cB cZ) A) (hw : XH D A H0 H locs (mW cI cZ g E ca th go)) (hdg : decode cc pc = .ok (.iaload, 1)) (k : W p l e R s m args below meth c H locs cells slots Q (F0 m (pc + 1) ls (.int (nI (go i)) :: rest))) : W p l e R s m args below meth c H locs cells slots Q (F0 m pc ls (.int (nI i) :: .ref (g 4) :: rest)) := by
  obtain ⟨hx, hb, hr, hlocks, hml, hown, hts, hK, hA⟩ := C
  refine va_iald hx hb hK hw.1 4 0 rfl rfl (vp_in_nI hi (by decide)) hdg ?_
  rw [nI_clamp (by omega)]
  exact k
theorem ms_go {i : Nat} {v : Nat} (hi : i < 7) (C : CX p s m args meth c cc L rt RX1 D (tyL cI cB cZ) A) (hw : XH D A H0 H locs (mW cI cZ g E ca th go)) (hdg : decode cc pc = .ok (.iastore, 1)) (k : ∀ H1 locs1, XH D A H0 H1 locs1 (mW cI cZ g E ca th (mm_up go i v)) → W p l e R s m args below meth c H1 locs1 cells slots Q (F0 m (pc + 1) ls rest)) : W p l e R s m args below meth c H locs cells slots Q (F0 m pc ls (.int (nI v) :: .int (nI i) :: .ref (g 4) :: rest)) := by
  obtain ⟨hx, hb, hr, hlocks, hml, hown, hts, hK, hA⟩ := C
  refine va_iast hx hb hK hw.1 hw.2.1 hw.2.2 4 0 rfl rfl (vp_in_nI hi (by decide)) hdg (fun H1 locs1 h1 h2 h3 => ?_)
  rw [nI_clamp (by omega), n_updI] at h1 h2
  exact k H1 locs1 ⟨h1, h2, h3⟩
end XR
end
section
/-! CALLS on the object itself, with the whole world -/
set_option maxRecDepth 100000
theorem b31 {x : Nat} (h : x < 128) : x < 2 ^ 31 := Nat.lt_trans h (by decide)
theorem rg_some {α : Type} : ∀ (w : List α), (List.range w.length).map (fun i => w[i]?) = w.map some := by
  intro w
  apply List.ext_getElem
  · simp
  · intro i h1 h2
    simp at h1 h2 ⊢
theorem rg_fm {α : Type} (w : List α) : (List.range w.length).filterMap (fun i => w[i]?) = w := by
  have h := rg_some w
  have e : List.filterMap (fun i => w[i]?) (List.range w.length) = List.filterMap id (List.map (fun i => w[i]?) (List.range w.length)) := by
    rw [List.filterMap_map]
    rfl
  rw [e, h]
  simp
theorem rg_nd : ∀ n, va_nd (List.range n) = true := by
  have key : ∀ l : List Nat, l.Nodup → va_nd l = true := by
    intro l
    induction l with
    | nil => intro _; rfl
    | cons a l ih =>
      intro h
      obtain ⟨h1, h2⟩ := List.nodup_cons.mp h
      show (decide (a ∉ l) && va_nd l) = true
      rw [ih h2]
      simp [h1]
  exact fun n => key _ List.nodup_range
section WC
variable {p : Program} {l : Launch} {e : Env} {R : Room} {s : State} {m : MethodId} {args : Array Value} {below : List Frame} {meth : Method} {c : Code} {H : Heap} {locs : List Loc} {cells slots : Nat} {Q : State → Prop}
variable {cc : ByteArray} {pc : Nat} {ls : Array Slot} {rest : List Value}
variable {L : Nat} {rt : Option FieldType} {own : String} {D : va_G} {tys : List (ClassId × FieldType)} {A : Nat → Prop} {w : va_W}
theorem y_cI {y : MethodName} {b' : ByteArray} {L' : Nat} {rt' : Option FieldType} {rm : Room} {idx n a ci : Nat} {As : List Value} {fs : List Value} {post : Int32 → va_W → Prop} {Cn : String} {q : vw_C} (C : CX p s m args meth c cc L rt own D tys A) (hw : XH D A s.heap H locs w) (hM : MtI l y b' L' rt' rm D tys (.ref a :: As) w post)
    (cw : CallW R s args own Cn idx y b' L' rt' (ws_ y b' L' rt') rm 0 0 n)
    (hc : vwCl[ci]? = some q) (hq : q.1 = Cn) (he : w[0]? = some (a, .inr (ci, fs))) (hn : As.length = n) (hls : ls.size = L) (hrm : (rest.map fun v => v.category).sum ≤ 8) (hcap : cells ≤ R.cells ∧ slots ≤ R.slots) (hdg : decode cc pc = .ok (.invokevirtual idx, 3))
    (kk : ∀ (r : Int32) (w' : va_W) (H' : Heap) (locs' : List Loc), post r w' → XH D A s.heap H' locs' w' → W p l e R s m args below meth c H' locs' cells slots Q (F0 m (pc + 3) ls (.int r :: rest))) {st : List Value} (hst : st = As.reverse ++ .ref a :: rest) :
    W p l e R s m args below meth c H locs cells slots Q (F0 m pc ls st) :=
  y_callF (wr := []) (List.range w.length) [] C hw hM cw (rg_some w) (rg_fm w) rfl (rg_nd _) rfl (fun _ h => absurd h List.not_mem_nil) hc hq he hn hls hrm hcap hdg kk hst
theorem y_cV {y : MethodName} {b' : ByteArray} {L' : Nat} {rm : Room} {idx n a ci : Nat} {As : List Value} {fs : List Value} {post : va_W → Prop} {Cn : String} {q : vw_C} (C : CX p s m args meth c cc L rt own D tys A) (hw : XH D A s.heap H locs w) (hM : MtV l y b' L' rm D tys (.ref a :: As) w post)
    (cw : CallW R s args own Cn idx y b' L' none (ws_ y b' L' none) rm 0 0 n)
    (hc : vwCl[ci]? = some q) (hq : q.1 = Cn) (he : w[0]? = some (a, .inr (ci, fs))) (hn : As.length = n) (hls : ls.size = L) (hrm : (rest.map fun v => v.category).sum ≤ 8) (hcap : cells ≤ R.cells ∧ slots ≤ R.slots) (hdg : decode cc pc = .ok (.invokevirtual idx, 3))
    (kk : ∀ (w' : va_W) (H' : Heap) (locs' : List Loc), post w' → XH D A s.heap H' locs' w' → W p l e R s m args below meth c H' locs' cells slots Q (F0 m (pc + 3) ls rest)) {st : List Value} (hst : st = As.reverse ++ .ref a :: rest) :
    W p l e R s m args below meth c H locs cells slots Q (F0 m pc ls st) :=
  y_callFv (wr := []) (List.range w.length) [] C hw hM cw (rg_some w) (rg_fm w) rfl (rg_nd _) rfl (fun _ h => absurd h List.not_mem_nil) hc hq he hn hls hrm hcap hdg kk hst
end WC
/-- a number of a row or column, 0 to 6 -/
def isN (i : Int32) : Bool := decide (¬ i < 0 ∧ ¬ 6 < i)
theorem isN_nI {j : Nat} (h : j < 7) : isN (nI j) = true := by
  have h6 : (6 : Int32) = nI 6 := rfl
  rw [isN, decide_eq_true_eq, h6, nI_ltI (by decide) (by omega)]
  exact ⟨nI_pos (by omega), by omega⟩
theorem isN_of {i : Int32} (h : isN i = true) : ∃ j : Nat, j < 7 ∧ i = nI j := by
  rw [isN, decide_eq_true_eq] at h
  obtain ⟨j, hj, e⟩ := nI_of h.1
  refine ⟨j, ?_, e⟩
  have h6 : (6 : Int32) = nI 6 := rfl
  rw [e, h6, nI_ltI (by decide) hj] at h
  omega
theorem pf_or_t {p : Nat → Bool} {g : Nat → Nat} {n : Nat} (h : p n = true) : pf_or p g (n + 1) = pf_or p g n ||| g n := if_pos h
theorem pf_or_f {p : Nat → Bool} {g : Nat → Nat} {n : Nat} (h : p n = false) : pf_or p g (n + 1) = pf_or p g n := if_neg (by rw [h]; exact Bool.false_ne_true)
theorem mm_cnt_t {p : Nat → Bool} {n : Nat} (h : p n = true) : mm_cnt p (n + 1) = mm_cnt p n + 1 := by rw [mm_cnt, if_pos h]
theorem mm_cnt_f {p : Nat → Bool} {n : Nat} (h : p n = false) : mm_cnt p (n + 1) = mm_cnt p n := by rw [mm_cnt, if_neg (by rw [h]; exact Bool.false_ne_true), Nat.add_zero]
end
section
/-! DmDecomposer: the leaves' contracts (printed by gen_x0a.py) -/
set_option maxRecDepth 100000
section X0A
variable {cI cB cZ : ClassId} {h : Nat → Nat} {rdy : Bool} {E pr pk qu cf : Nat → Nat} {rr cr rc ck : Nat} {re us : Nat → Nat}
set_option maxHeartbeats 4000000 in
/-- 0 to 6 -/
theorem mx_isNumber (l : Launch) (D : va_G) (i : Int32) : MtI l yX0_isNumber cX0_isNumber 2 (some .boolean) ({ frames := 0, cells := 0, slots := 0, locals := 0 }) D (tyL cI cB cZ) [.ref (h 0), .int i] (xW cI cB h rdy E pr pk qu cf rr cr rc ck re us) (fun r w => r = wI (isN i) ∧ w = (xW cI cB h rdy E pr pk qu cf rr cr rc ck re us)) := by
  refine MtI.of (by decide) (Nat.le_of_ble_eq_true rfl) ?_
  intro p e s m below meth c A ls C hw hl
  obtain ⟨hx, hb, hr, hlk, hml, hown, hts, hK, hA⟩ := id C
  have hl : lv_has ls 2 [(0, .ref (h 0)), (1, .int i)] := hl
  refine lv_iload_n hx hb dX0_isNumber_0 rfl (lv_at hl 1 rfl) ?_
  refine lv_if_lt hx hb dX0_isNumber_1 (tgt := 14) (by decide) (fun hc => ?_) (fun hc => ?_)
  · have hi : isN i = false := by rw [isN, decide_eq_false_iff_not]; exact fun q => q.1 hc
    refine lv_iconst (v := wI false) hx hb dX0_isNumber_14 rfl ?_
    exact y_zret C hw ⟨by rw [hi], rfl⟩ dX0_isNumber_15
  · refine lv_iload_n hx hb dX0_isNumber_4 rfl (lv_at hl 1 rfl) ?_
    refine lv_bipush (v := 6) hx hb dX0_isNumber_5 rfl ?_
    refine lv_icmp_gt hx hb dX0_isNumber_7 (tgt := 14) (by decide) (fun hc2 => ?_) (fun hc2 => ?_)
    · have hi : isN i = false := by rw [isN, decide_eq_false_iff_not]; exact fun q => q.2 hc2
      refine lv_iconst (v := wI false) hx hb dX0_isNumber_14 rfl ?_
      exact y_zret C hw ⟨by rw [hi], rfl⟩ dX0_isNumber_15
    · have hi : isN i = true := by rw [isN, decide_eq_true_eq]; exact ⟨hc, hc2⟩
      refine lv_iconst (v := wI true) hx hb dX0_isNumber_10 rfl ?_
      refine lv_goto (tgt := 15) hx hb dX0_isNumber_11 (by decide) ?_
      exact y_zret C hw ⟨by rw [hi], rfl⟩ dX0_isNumber_15
set_option maxHeartbeats 4000000 in
/-- the partners of a set -/
theorem mx_partnersOfColumns (l : Launch) (D : va_G) (set : Nat) (hset : set < 128) : MtI l yX0_partnersOfColumns cX0_partnersOfColumns 4 (some .int) ({ frames := 0, cells := 0, slots := 0, locals := 0 }) D (tyL cI cB cZ) [.ref (h 0), .int (nI set)] (xW cI cB h rdy E pr pk qu cf rr cr rc ck re us) (fun r w => r = nI (pf_pc pk set) ∧ w = (xW cI cB h rdy E pr pk qu cf rr cr rc ck re us)) := by
  refine MtI.of (by decide) (Nat.le_of_ble_eq_true rfl) ?_
  intro p e s m below meth c A ls C hw hl
  obtain ⟨hx, hb, hr, hlk, hml, hown, hts, hK, hA⟩ := id C
  have hl : lv_has ls 4 [(0, .ref (h 0)), (1, .int (nI set))] := hl
  refine y_num hx hb 0 dX0_partnersOfColumns_0 rfl ?_
  refine lv_istore_n (lv' := [(2, .int (nI 0)), (0, .ref (h 0)), (1, .int (nI set))]) hx hb dX0_partnersOfColumns_1 rfl hl (by decide) rfl (fun ls hl => ?_)
  refine y_num hx hb 0 dX0_partnersOfColumns_2 rfl ?_
  refine lv_istore_n (lv' := [(3, .int (nI 0)), (2, .int (nI 0)), (0, .ref (h 0)), (1, .int (nI set))]) hx hb dX0_partnersOfColumns_3 rfl hl (by decide) rfl (fun ls hl => ?_)
  refine wl_for 7 (fun k H locs ls => XH D A s.heap H locs (xW cI cB h rdy E pr pk qu cf rr cr rc ck re us) ∧ lv_has ls 4 [(0, .ref (h 0)), (1, .int (nI set)), (2, .int (nI (pf_or (fun c => set.testBit c && decide (pk c < 7)) (fun c => 2 ^ pk c) k))), (3, .int (nI k))]) ?_ ?_ 0 (by decide) _ _ _ ⟨hw, lv_sub hl [2, 3, 1, 0] rfl⟩
  · intro k hk H locs ls hI ih
    obtain ⟨hw, hl⟩ := hI
    refine lv_iload_n hx hb dX0_partnersOfColumns_4 rfl (lv_at hl 3 rfl) ?_
    refine y_push hx hb 7 dX0_partnersOfColumns_5 rfl ?_
    refine y_lt hx hb hk (by decide) dX0_partnersOfColumns_7 (tgt := 44) (by decide) ?_
    refine lv_iload_n hx hb dX0_partnersOfColumns_10 rfl (lv_at hl 1 rfl) ?_
    refine lv_iload_n hx hb dX0_partnersOfColumns_11 rfl (lv_at hl 3 rfl) ?_
    refine y_bit hx hb (by omega) (b31 hset) dX0_partnersOfColumns_12 dX0_partnersOfColumns_13 dX0_partnersOfColumns_14 ?_
    refine y_ifeq_w hx hb dX0_partnersOfColumns_15 (tgt := 38) (by decide) (fun hc => ?_) (fun hc => ?_)
    · refine lv_iinc (v := nI (k + 1)) (lv' := [(3, .int (nI (k + 1))), (0, .ref (h 0)), (1, .int (nI set)), (2, .int (nI (pf_or (fun c => set.testBit c && decide (pk c < 7)) (fun c => 2 ^ pk c) k)))]) hx hb dX0_partnersOfColumns_38 hl (k := 3) rfl (nI_1 _) (by decide) rfl (fun ls hl => ?_)
      refine lv_goto (tgt := 4) hx hb dX0_partnersOfColumns_41 (by decide) ?_
      exact ih _ _ _ ⟨hw, by rw [pf_or_f (p := (fun c => set.testBit c && decide (pk c < 7))) (g := (fun c => 2 ^ pk c)) (n := k) (by simp [hc])]; exact lv_sub hl [1, 2, 3, 0] rfl⟩
    · refine lv_aload_n hx hb dX0_partnersOfColumns_18 rfl (lv_at hl 0 rfl) ?_
      refine xg_pk C hw dX0_partnersOfColumns_19 ?_
      refine lv_iload_n hx hb dX0_partnersOfColumns_22 rfl (lv_at hl 3 rfl) ?_
      refine xl_pk (by omega) C hw dX0_partnersOfColumns_23 ?_
      refine y_iflt_B hx hb dX0_partnersOfColumns_24 (tgt := 38) (by decide) (fun hd => ?_) (fun hd => ?_)
      · refine lv_iinc (v := nI (k + 1)) (lv' := [(3, .int (nI (k + 1))), (0, .ref (h 0)), (1, .int (nI set)), (2, .int (nI (pf_or (fun c => set.testBit c && decide (pk c < 7)) (fun c => 2 ^ pk c) k)))]) hx hb dX0_partnersOfColumns_38 hl (k := 3) rfl (nI_1 _) (by decide) rfl (fun ls hl => ?_)
        refine lv_goto (tgt := 4) hx hb dX0_partnersOfColumns_41 (by decide) ?_
        exact ih _ _ _ ⟨hw, by rw [pf_or_f (p := (fun c => set.testBit c && decide (pk c < 7))) (g := (fun c => 2 ^ pk c)) (n := k) (by simp [hd])]; exact lv_sub hl [1, 2, 3, 0] rfl⟩
      · refine lv_iload_n hx hb dX0_partnersOfColumns_27 rfl (lv_at hl 2 rfl) ?_
        refine y_num hx hb 1 dX0_partnersOfColumns_28 rfl ?_
        refine lv_aload_n hx hb dX0_partnersOfColumns_29 rfl (lv_at hl 0 rfl) ?_
        refine xg_pk C hw dX0_partnersOfColumns_30 ?_
        refine lv_iload_n hx hb dX0_partnersOfColumns_33 rfl (lv_at hl 3 rfl) ?_
        refine xl_pk (by omega) C hw dX0_partnersOfColumns_34 ?_
        rw [n_B hd]
        refine y_shl1 hx hb (by omega) dX0_partnersOfColumns_35 ?_
        refine y_or hx hb dX0_partnersOfColumns_36 ?_
        refine lv_istore_n (lv' := [(2, .int (nI ((pf_or (fun c => set.testBit c && decide (pk c < 7)) (fun c => 2 ^ pk c) k) ||| (2 ^ (pk k))))), (0, .ref (h 0)), (1, .int (nI set)), (3, .int (nI k))]) hx hb dX0_partnersOfColumns_37 rfl hl (by decide) rfl (fun ls hl => ?_)
        refine lv_iinc (v := nI (k + 1)) (lv' := [(3, .int (nI (k + 1))), (2, .int (nI ((pf_or (fun c => set.testBit c && decide (pk c < 7)) (fun c => 2 ^ pk c) k) ||| (2 ^ (pk k))))), (0, .ref (h 0)), (1, .int (nI set))]) hx hb dX0_partnersOfColumns_38 hl (k := 3) rfl (nI_1 _) (by decide) rfl (fun ls hl => ?_)
        refine lv_goto (tgt := 4) hx hb dX0_partnersOfColumns_41 (by decide) ?_
        exact ih _ _ _ ⟨hw, by rw [pf_or_t (p := (fun c => set.testBit c && decide (pk c < 7))) (g := (fun c => 2 ^ pk c)) (n := k) (by simp [hc, hd])]; exact lv_sub hl [2, 3, 1, 0] rfl⟩
  · intro H locs ls hI
    obtain ⟨hw, hl⟩ := hI
    refine lv_iload_n hx hb dX0_partnersOfColumns_4 rfl (lv_at hl 3 rfl) ?_
    refine y_push hx hb 7 dX0_partnersOfColumns_5 rfl ?_
    refine y_ge hx hb (Nat.le_refl _) (by decide) dX0_partnersOfColumns_7 (tgt := 44) (by decide) ?_
    refine lv_iload_n hx hb dX0_partnersOfColumns_44 rfl (lv_at hl 2 rfl) ?_
    exact y_iret C hw ⟨rfl, rfl⟩ dX0_partnersOfColumns_45
set_option maxHeartbeats 4000000 in
/-- the partners of a set -/
theorem mx_partnersOfRows (l : Launch) (D : va_G) (set : Nat) (hset : set < 128) : MtI l yX0_partnersOfRows cX0_partnersOfRows 4 (some .int) ({ frames := 0, cells := 0, slots := 0, locals := 0 }) D (tyL cI cB cZ) [.ref (h 0), .int (nI set)] (xW cI cB h rdy E pr pk qu cf rr cr rc ck re us) (fun r w => r = nI (pf_pc pr set) ∧ w = (xW cI cB h rdy E pr pk qu cf rr cr rc ck re us)) := by
  refine MtI.of (by decide) (Nat.le_of_ble_eq_true rfl) ?_
  intro p e s m below meth c A ls C hw hl
  obtain ⟨hx, hb, hr, hlk, hml, hown, hts, hK, hA⟩ := id C
  have hl : lv_has ls 4 [(0, .ref (h 0)), (1, .int (nI set))] := hl
  refine y_num hx hb 0 dX0_partnersOfRows_0 rfl ?_
  refine lv_istore_n (lv' := [(2, .int (nI 0)), (0, .ref (h 0)), (1, .int (nI set))]) hx hb dX0_partnersOfRows_1 rfl hl (by decide) rfl (fun ls hl => ?_)
  refine y_num hx hb 0 dX0_partnersOfRows_2 rfl ?_
  refine lv_istore_n (lv' := [(3, .int (nI 0)), (2, .int (nI 0)), (0, .ref (h 0)), (1, .int (nI set))]) hx hb dX0_partnersOfRows_3 rfl hl (by decide) rfl (fun ls hl => ?_)
  refine wl_for 7 (fun k H locs ls => XH D A s.heap H locs (xW cI cB h rdy E pr pk qu cf rr cr rc ck re us) ∧ lv_has ls 4 [(0, .ref (h 0)), (1, .int (nI set)), (2, .int (nI (pf_or (fun c => set.testBit c && decide (pr c < 7)) (fun c => 2 ^ pr c) k))), (3, .int (nI k))]) ?_ ?_ 0 (by decide) _ _ _ ⟨hw, lv_sub hl [2, 3, 1, 0] rfl⟩
  · intro k hk H locs ls hI ih
    obtain ⟨hw, hl⟩ := hI
    refine lv_iload_n hx hb dX0_partnersOfRows_4 rfl (lv_at hl 3 rfl) ?_
    refine y_push hx hb 7 dX0_partnersOfRows_5 rfl ?_
    refine y_lt hx hb hk (by decide) dX0_partnersOfRows_7 (tgt := 44) (by decide) ?_
    refine lv_iload_n hx hb dX0_partnersOfRows_10 rfl (lv_at hl 1 rfl) ?_
    refine lv_iload_n hx hb dX0_partnersOfRows_11 rfl (lv_at hl 3 rfl) ?_
    refine y_bit hx hb (by omega) (b31 hset) dX0_partnersOfRows_12 dX0_partnersOfRows_13 dX0_partnersOfRows_14 ?_
    refine y_ifeq_w hx hb dX0_partnersOfRows_15 (tgt := 38) (by decide) (fun hc => ?_) (fun hc => ?_)
    · refine lv_iinc (v := nI (k + 1)) (lv' := [(3, .int (nI (k + 1))), (0, .ref (h 0)), (1, .int (nI set)), (2, .int (nI (pf_or (fun c => set.testBit c && decide (pr c < 7)) (fun c => 2 ^ pr c) k)))]) hx hb dX0_partnersOfRows_38 hl (k := 3) rfl (nI_1 _) (by decide) rfl (fun ls hl => ?_)
      refine lv_goto (tgt := 4) hx hb dX0_partnersOfRows_41 (by decide) ?_
      exact ih _ _ _ ⟨hw, by rw [pf_or_f (p := (fun c => set.testBit c && decide (pr c < 7))) (g := (fun c => 2 ^ pr c)) (n := k) (by simp [hc])]; exact lv_sub hl [1, 2, 3, 0] rfl⟩
    · refine lv_aload_n hx hb dX0_partnersOfRows_18 rfl (lv_at hl 0 rfl) ?_
      refine xg_pr C hw dX0_partnersOfRows_19 ?_
      refine lv_iload_n hx hb dX0_partnersOfRows_22 rfl (lv_at hl 3 rfl) ?_
      refine xl_pr (by omega) C hw dX0_partnersOfRows_23 ?_
      refine y_iflt_B hx hb dX0_partnersOfRows_24 (tgt := 38) (by decide) (fun hd => ?_) (fun hd => ?_)
      · refine lv_iinc (v := nI (k + 1)) (lv' := [(3, .int (nI (k + 1))), (0, .ref (h 0)), (1, .int (nI set)), (2, .int (nI (pf_or (fun c => set.testBit c && decide (pr c < 7)) (fun c => 2 ^ pr c) k)))]) hx hb dX0_partnersOfRows_38 hl (k := 3) rfl (nI_1 _) (by decide) rfl (fun ls hl => ?_)
        refine lv_goto (tgt := 4) hx hb dX0_partnersOfRows_41 (by decide) ?_
        exact ih _ _ _ ⟨hw, by rw [pf_or_f (p := (fun c => set.testBit c && decide (pr c < 7))) (g := (fun c => 2 ^ pr c)) (n := k) (by simp [hd])]; exact lv_sub hl [1, 2, 3, 0] rfl⟩
      · refine lv_iload_n hx hb dX0_partnersOfRows_27 rfl (lv_at hl 2 rfl) ?_
        refine y_num hx hb 1 dX0_partnersOfRows_28 rfl ?_
        refine lv_aload_n hx hb dX0_partnersOfRows_29 rfl (lv_at hl 0 rfl) ?_
        refine xg_pr C hw dX0_partnersOfRows_30 ?_
        refine lv_iload_n hx hb dX0_partnersOfRows_33 rfl (lv_at hl 3 rfl) ?_
        refine xl_pr (by omega) C hw dX0_partnersOfRows_34 ?_
        rw [n_B hd]
        refine y_shl1 hx hb (by omega) dX0_partnersOfRows_35 ?_
        refine y_or hx hb dX0_partnersOfRows_36 ?_
        refine lv_istore_n (lv' := [(2, .int (nI ((pf_or (fun c => set.testBit c && decide (pr c < 7)) (fun c => 2 ^ pr c) k) ||| (2 ^ (pr k))))), (0, .ref (h 0)), (1, .int (nI set)), (3, .int (nI k))]) hx hb dX0_partnersOfRows_37 rfl hl (by decide) rfl (fun ls hl => ?_)
        refine lv_iinc (v := nI (k + 1)) (lv' := [(3, .int (nI (k + 1))), (2, .int (nI ((pf_or (fun c => set.testBit c && decide (pr c < 7)) (fun c => 2 ^ pr c) k) ||| (2 ^ (pr k))))), (0, .ref (h 0)), (1, .int (nI set))]) hx hb dX0_partnersOfRows_38 hl (k := 3) rfl (nI_1 _) (by decide) rfl (fun ls hl => ?_)
        refine lv_goto (tgt := 4) hx hb dX0_partnersOfRows_41 (by decide) ?_
        exact ih _ _ _ ⟨hw, by rw [pf_or_t (p := (fun c => set.testBit c && decide (pr c < 7))) (g := (fun c => 2 ^ pr c)) (n := k) (by simp [hc, hd])]; exact lv_sub hl [2, 3, 1, 0] rfl⟩
  · intro H locs ls hI
    obtain ⟨hw, hl⟩ := hI
    refine lv_iload_n hx hb dX0_partnersOfRows_4 rfl (lv_at hl 3 rfl) ?_
    refine y_push hx hb 7 dX0_partnersOfRows_5 rfl ?_
    refine y_ge hx hb (Nat.le_refl _) (by decide) dX0_partnersOfRows_7 (tgt := 44) (by decide) ?_
    refine lv_iload_n hx hb dX0_partnersOfRows_44 rfl (lv_at hl 2 rfl) ?_
    exact y_iret C hw ⟨rfl, rfl⟩ dX0_partnersOfRows_45
set_option maxHeartbeats 4000000 in
/-- the columns next to a set of rows -/
theorem mx_columnsNextTo (l : Launch) (D : va_G) (rows : Nat) (hrows : rows < 128) : MtI l yX0_columnsNextTo cX0_columnsNextTo 4 (some .int) ({ frames := 0, cells := 0, slots := 0, locals := 0 }) D (tyL cI cB cZ) [.ref (h 0), .int (nI rows)] (xW cI cB h rdy E pr pk qu cf rr cr rc ck re us) (fun r w => r = nI (pf_cn E rows) ∧ w = (xW cI cB h rdy E pr pk qu cf rr cr rc ck re us)) := by
  refine MtI.of (by decide) (Nat.le_of_ble_eq_true rfl) ?_
  intro p e s m below meth c A ls C hw hl
  obtain ⟨hx, hb, hr, hlk, hml, hown, hts, hK, hA⟩ := id C
  have hl : lv_has ls 4 [(0, .ref (h 0)), (1, .int (nI rows))] := hl
  refine y_num hx hb 0 dX0_columnsNextTo_0 rfl ?_
  refine lv_istore_n (lv' := [(2, .int (nI 0)), (0, .ref (h 0)), (1, .int (nI rows))]) hx hb dX0_columnsNextTo_1 rfl hl (by decide) rfl (fun ls hl => ?_)
  refine y_num hx hb 0 dX0_columnsNextTo_2 rfl ?_
  refine lv_istore_n (lv' := [(3, .int (nI 0)), (2, .int (nI 0)), (0, .ref (h 0)), (1, .int (nI rows))]) hx hb dX0_columnsNextTo_3 rfl hl (by decide) rfl (fun ls hl => ?_)
  refine wl_for 7 (fun k H locs ls => XH D A s.heap H locs (xW cI cB h rdy E pr pk qu cf rr cr rc ck re us) ∧ lv_has ls 4 [(0, .ref (h 0)), (1, .int (nI rows)), (2, .int (nI (pf_or (fun r => rows.testBit r) E k))), (3, .int (nI k))]) ?_ ?_ 0 (by decide) _ _ _ ⟨hw, lv_sub hl [2, 3, 1, 0] rfl⟩
  · intro k hk H locs ls hI ih
    obtain ⟨hw, hl⟩ := hI
    refine lv_iload_n hx hb dX0_columnsNextTo_4 rfl (lv_at hl 3 rfl) ?_
    refine y_push hx hb 7 dX0_columnsNextTo_5 rfl ?_
    refine y_lt hx hb hk (by decide) dX0_columnsNextTo_7 (tgt := 33) (by decide) ?_
    refine lv_iload_n hx hb dX0_columnsNextTo_10 rfl (lv_at hl 1 rfl) ?_
    refine lv_iload_n hx hb dX0_columnsNextTo_11 rfl (lv_at hl 3 rfl) ?_
    refine y_bit hx hb (by omega) (b31 hrows) dX0_columnsNextTo_12 dX0_columnsNextTo_13 dX0_columnsNextTo_14 ?_
    refine y_ifeq_w hx hb dX0_columnsNextTo_15 (tgt := 27) (by decide) (fun hc => ?_) (fun hc => ?_)
    · refine lv_iinc (v := nI (k + 1)) (lv' := [(3, .int (nI (k + 1))), (0, .ref (h 0)), (1, .int (nI rows)), (2, .int (nI (pf_or (fun r => rows.testBit r) E k)))]) hx hb dX0_columnsNextTo_27 hl (k := 3) rfl (nI_1 _) (by decide) rfl (fun ls hl => ?_)
      refine lv_goto (tgt := 4) hx hb dX0_columnsNextTo_30 (by decide) ?_
      exact ih _ _ _ ⟨hw, by rw [pf_or_f (p := (fun r => rows.testBit r)) (g := E) (n := k) hc]; exact lv_sub hl [1, 2, 3, 0] rfl⟩
    · refine lv_iload_n hx hb dX0_columnsNextTo_18 rfl (lv_at hl 2 rfl) ?_
      refine lv_aload_n hx hb dX0_columnsNextTo_19 rfl (lv_at hl 0 rfl) ?_
      refine xg_E C hw dX0_columnsNextTo_20 ?_
      refine lv_iload_n hx hb dX0_columnsNextTo_23 rfl (lv_at hl 3 rfl) ?_
      refine xl_E (by omega) C hw dX0_columnsNextTo_24 ?_
      refine y_or hx hb dX0_columnsNextTo_25 ?_
      refine lv_istore_n (lv' := [(2, .int (nI ((pf_or (fun r => rows.testBit r) E k) ||| (E k)))), (0, .ref (h 0)), (1, .int (nI rows)), (3, .int (nI k))]) hx hb dX0_columnsNextTo_26 rfl hl (by decide) rfl (fun ls hl => ?_)
      refine lv_iinc (v := nI (k + 1)) (lv' := [(3, .int (nI (k + 1))), (2, .int (nI ((pf_or (fun r => rows.testBit r) E k) ||| (E k)))), (0, .ref (h 0)), (1, .int (nI rows))]) hx hb dX0_columnsNextTo_27 hl (k := 3) rfl (nI_1 _) (by decide) rfl (fun ls hl => ?_)
      refine lv_goto (tgt := 4) hx hb dX0_columnsNextTo_30 (by decide) ?_
      exact ih _ _ _ ⟨hw, by rw [pf_or_t (p := (fun r => rows.testBit r)) (g := E) (n := k) hc]; exact lv_sub hl [2, 3, 1, 0] rfl⟩
  · intro H locs ls hI
    obtain ⟨hw, hl⟩ := hI
    refine lv_iload_n hx hb dX0_columnsNextTo_4 rfl (lv_at hl 3 rfl) ?_
    refine y_push hx hb 7 dX0_columnsNextTo_5 rfl ?_
    refine y_ge hx hb (Nat.le_refl _) (by decide) dX0_columnsNextTo_7 (tgt := 33) (by decide) ?_
    refine lv_iload_n hx hb dX0_columnsNextTo_33 rfl (lv_at hl 2 rfl) ?_
    exact y_iret C hw ⟨rfl, rfl⟩ dX0_columnsNextTo_34
set_option maxHeartbeats 4000000 in
/-- the rows with an edge to a column -/
theorem mx_rowsWithEdgeTo (l : Launch) (D : va_G) (hE : ∀ r, E r < 128) (x : Nat) (hx7 : x < 7) : MtI l yX0_rowsWithEdgeTo cX0_rowsWithEdgeTo 4 (some .int) ({ frames := 0, cells := 0, slots := 0, locals := 0 }) D (tyL cI cB cZ) [.ref (h 0), .int (nI x)] (xW cI cB h rdy E pr pk qu cf rr cr rc ck re us) (fun r w => r = nI (pf_re E x) ∧ w = (xW cI cB h rdy E pr pk qu cf rr cr rc ck re us)) := by
  refine MtI.of (by decide) (Nat.le_of_ble_eq_true rfl) ?_
  intro p e s m below meth c A ls C hw hl
  obtain ⟨hx, hb, hr, hlk, hml, hown, hts, hK, hA⟩ := id C
  have hl : lv_has ls 4 [(0, .ref (h 0)), (1, .int (nI x))] := hl
  refine y_num hx hb 0 dX0_rowsWithEdgeTo_0 rfl ?_
  refine lv_istore_n (lv' := [(2, .int (nI 0)), (0, .ref (h 0)), (1, .int (nI x))]) hx hb dX0_rowsWithEdgeTo_1 rfl hl (by decide) rfl (fun ls hl => ?_)
  refine y_num hx hb 0 dX0_rowsWithEdgeTo_2 rfl ?_
  refine lv_istore_n (lv' := [(3, .int (nI 0)), (2, .int (nI 0)), (0, .ref (h 0)), (1, .int (nI x))]) hx hb dX0_rowsWithEdgeTo_3 rfl hl (by decide) rfl (fun ls hl => ?_)
  refine wl_for 7 (fun k H locs ls => XH D A s.heap H locs (xW cI cB h rdy E pr pk qu cf rr cr rc ck re us) ∧ lv_has ls 4 [(0, .ref (h 0)), (1, .int (nI x)), (2, .int (nI (pf_or (fun r => (E r).testBit x) (fun r => 2 ^ r) k))), (3, .int (nI k))]) ?_ ?_ 0 (by decide) _ _ _ ⟨hw, lv_sub hl [2, 3, 1, 0] rfl⟩
  · intro k hk H locs ls hI ih
    obtain ⟨hw, hl⟩ := hI
    refine lv_iload_n hx hb dX0_rowsWithEdgeTo_4 rfl (lv_at hl 3 rfl) ?_
    refine y_push hx hb 7 dX0_rowsWithEdgeTo_5 rfl ?_
    refine y_lt hx hb hk (by decide) dX0_rowsWithEdgeTo_7 (tgt := 31) (by decide) ?_
    refine lv_iload_n hx hb dX0_rowsWithEdgeTo_10 rfl (lv_at hl 2 rfl) ?_
    refine lv_aload_n hx hb dX0_rowsWithEdgeTo_11 rfl (lv_at hl 0 rfl) ?_
    refine xg_E C hw dX0_rowsWithEdgeTo_12 ?_
    refine lv_iload_n hx hb dX0_rowsWithEdgeTo_15 rfl (lv_at hl 3 rfl) ?_
    refine xl_E (by omega) C hw dX0_rowsWithEdgeTo_16 ?_
    refine lv_iload_n hx hb dX0_rowsWithEdgeTo_17 rfl (lv_at hl 1 rfl) ?_
    refine y_bit hx hb (by omega) (b31 (hE _)) dX0_rowsWithEdgeTo_18 dX0_rowsWithEdgeTo_19 dX0_rowsWithEdgeTo_20 ?_
    refine lv_iload_n hx hb dX0_rowsWithEdgeTo_21 rfl (lv_at hl 3 rfl) ?_
    cases hc : (E k).testBit x with
    | true =>
        refine W.eq (g2 := F0 m 22 ls [.int (nI k), .int (nI 1), .int (nI (pf_or (fun r => (E r).testBit x) (fun r => 2 ^ r) k))]) rfl ?_
        refine y_shl1 hx hb (by omega) dX0_rowsWithEdgeTo_22 ?_
        refine y_or hx hb dX0_rowsWithEdgeTo_23 ?_
        refine lv_istore_n (lv' := [(2, .int (nI ((pf_or (fun r => (E r).testBit x) (fun r => 2 ^ r) k) ||| (2 ^ k)))), (0, .ref (h 0)), (1, .int (nI x)), (3, .int (nI k))]) hx hb dX0_rowsWithEdgeTo_24 rfl hl (by decide) rfl (fun ls hl => ?_)
        refine lv_iinc (v := nI (k + 1)) (lv' := [(3, .int (nI (k + 1))), (2, .int (nI ((pf_or (fun r => (E r).testBit x) (fun r => 2 ^ r) k) ||| (2 ^ k)))), (0, .ref (h 0)), (1, .int (nI x))]) hx hb dX0_rowsWithEdgeTo_25 hl (k := 3) rfl (nI_1 _) (by decide) rfl (fun ls hl => ?_)
        refine lv_goto (tgt := 4) hx hb dX0_rowsWithEdgeTo_28 (by decide) ?_
        exact ih _ _ _ ⟨hw, by rw [pf_or_t (p := (fun r => (E r).testBit x)) (g := (fun r => 2 ^ r)) (n := k) hc]; exact lv_sub hl [2, 3, 1, 0] rfl⟩
    | false =>
        refine lv_ishl hx hb dX0_rowsWithEdgeTo_22 ?_
        rw [show wI false <<< (nI k &&& 31) = nI 0 from by rw [show wI false = nI 0 from rfl, n_shl (by omega) (by omega), Nat.zero_mul]]
        refine y_or hx hb dX0_rowsWithEdgeTo_23 ?_
        rw [Nat.or_zero]
        refine lv_istore_n (lv' := [(2, .int (nI (pf_or (fun r => (E r).testBit x) (fun r => 2 ^ r) k))), (0, .ref (h 0)), (1, .int (nI x)), (3, .int (nI k))]) hx hb dX0_rowsWithEdgeTo_24 rfl hl (by decide) rfl (fun ls hl => ?_)
        refine lv_iinc (v := nI (k + 1)) (lv' := [(3, .int (nI (k + 1))), (2, .int (nI (pf_or (fun r => (E r).testBit x) (fun r => 2 ^ r) k))), (0, .ref (h 0)), (1, .int (nI x))]) hx hb dX0_rowsWithEdgeTo_25 hl (k := 3) rfl (nI_1 _) (by decide) rfl (fun ls hl => ?_)
        refine lv_goto (tgt := 4) hx hb dX0_rowsWithEdgeTo_28 (by decide) ?_
        exact ih _ _ _ ⟨hw, by rw [pf_or_f (p := (fun r => (E r).testBit x)) (g := (fun r => 2 ^ r)) (n := k) hc]; exact lv_sub hl [2, 3, 1, 0] rfl⟩
  · intro H locs ls hI
    obtain ⟨hw, hl⟩ := hI
    refine lv_iload_n hx hb dX0_rowsWithEdgeTo_4 rfl (lv_at hl 3 rfl) ?_
    refine y_push hx hb 7 dX0_rowsWithEdgeTo_5 rfl ?_
    refine y_ge hx hb (Nat.le_refl _) (by decide) dX0_rowsWithEdgeTo_7 (tgt := 31) (by decide) ?_
    refine lv_iload_n hx hb dX0_rowsWithEdgeTo_31 rfl (lv_at hl 2 rfl) ?_
    exact y_iret C hw ⟨rfl, rfl⟩ dX0_rowsWithEdgeTo_32
set_option maxHeartbeats 4000000 in
/-- the rows next to a set of columns -/
theorem mx_rowsNextTo (l : Launch) (D : va_G) (hE : ∀ r, E r < 128) (cols : Nat) (hcols : cols < 128) : MtI l yX0_rowsNextTo cX0_rowsNextTo 4 (some .int) ({ frames := 1, cells := 0, slots := 0, locals := 23 }) D (tyL cI cB cZ) [.ref (h 0), .int (nI cols)] (xW cI cB h rdy E pr pk qu cf rr cr rc ck re us) (fun r w => r = nI (pf_rn E cols) ∧ w = (xW cI cB h rdy E pr pk qu cf rr cr rc ck re us)) := by
  refine MtI.of (by decide) (Nat.le_of_ble_eq_true rfl) ?_
  intro p e s m below meth c A ls C hw hl
  obtain ⟨hx, hb, hr, hlk, hml, hown, hts, hK, hA⟩ := id C
  have hl : lv_has ls 4 [(0, .ref (h 0)), (1, .int (nI cols))] := hl
  refine y_num hx hb 0 dX0_rowsNextTo_0 rfl ?_
  refine lv_istore_n (lv' := [(2, .int (nI 0)), (0, .ref (h 0)), (1, .int (nI cols))]) hx hb dX0_rowsNextTo_1 rfl hl (by decide) rfl (fun ls hl => ?_)
  refine y_num hx hb 0 dX0_rowsNextTo_2 rfl ?_
  refine lv_istore_n (lv' := [(3, .int (nI 0)), (2, .int (nI 0)), (0, .ref (h 0)), (1, .int (nI cols))]) hx hb dX0_rowsNextTo_3 rfl hl (by decide) rfl (fun ls hl => ?_)
  refine wl_for 7 (fun k H locs ls => XH D A s.heap H locs (xW cI cB h rdy E pr pk qu cf rr cr rc ck re us) ∧ lv_has ls 4 [(0, .ref (h 0)), (1, .int (nI cols)), (2, .int (nI (pf_or (fun c => cols.testBit c) (pf_re E) k))), (3, .int (nI k))]) ?_ ?_ 0 (by decide) _ _ _ ⟨hw, lv_sub hl [2, 3, 1, 0] rfl⟩
  · intro k hk H locs ls hI ih
    obtain ⟨hw, hl⟩ := hI
    refine lv_iload_n hx hb dX0_rowsNextTo_4 rfl (lv_at hl 3 rfl) ?_
    refine y_push hx hb 7 dX0_rowsNextTo_5 rfl ?_
    refine y_lt hx hb hk (by decide) dX0_rowsNextTo_7 (tgt := 32) (by decide) ?_
    refine lv_iload_n hx hb dX0_rowsNextTo_10 rfl (lv_at hl 1 rfl) ?_
    refine lv_iload_n hx hb dX0_rowsNextTo_11 rfl (lv_at hl 3 rfl) ?_
    refine y_bit hx hb (by omega) (b31 hcols) dX0_rowsNextTo_12 dX0_rowsNextTo_13 dX0_rowsNextTo_14 ?_
    refine y_ifeq_w hx hb dX0_rowsNextTo_15 (tgt := 26) (by decide) (fun hc => ?_) (fun hc => ?_)
    · refine lv_iinc (v := nI (k + 1)) (lv' := [(3, .int (nI (k + 1))), (0, .ref (h 0)), (1, .int (nI cols)), (2, .int (nI (pf_or (fun c => cols.testBit c) (pf_re E) k)))]) hx hb dX0_rowsNextTo_26 hl (k := 3) rfl (nI_1 _) (by decide) rfl (fun ls hl => ?_)
      refine lv_goto (tgt := 4) hx hb dX0_rowsNextTo_29 (by decide) ?_
      exact ih _ _ _ ⟨hw, by rw [pf_or_f (p := (fun c => cols.testBit c)) (g := (pf_re E)) (n := k) hc]; exact lv_sub hl [1, 2, 3, 0] rfl⟩
    · refine lv_iload_n hx hb dX0_rowsNextTo_18 rfl (lv_at hl 2 rfl) ?_
      refine lv_aload_n hx hb dX0_rowsNextTo_19 rfl (lv_at hl 0 rfl) ?_
      refine lv_iload_n hx hb dX0_rowsNextTo_20 rfl (lv_at hl 3 rfl) ?_
      refine y_cI (As := [.int (nI k)]) (rest := [.int (nI (pf_or (fun c => cols.testBit c) (pf_re E) k))]) C hw (mx_rowsWithEdgeTo l D hE k hk) (cwV 1 hts (lw_V q120 q122 qs8 q23 q123) rfl rfl rfl (by decide +kernel) ⟨Nat.le_of_ble_eq_true rfl, Nat.le_of_ble_eq_true rfl⟩) rfl rfl rfl rfl hl.1 (Nat.le_of_ble_eq_true rfl) ⟨Nat.zero_le _, Nat.zero_le _⟩ dX0_rowsNextTo_21 (fun r w1 H locs hp hw => ?_) rfl
      obtain ⟨rfl, rfl⟩ := hp
      refine y_or hx hb dX0_rowsNextTo_24 ?_
      refine lv_istore_n (lv' := [(2, .int (nI ((pf_or (fun c => cols.testBit c) (pf_re E) k) ||| (pf_re E k)))), (0, .ref (h 0)), (1, .int (nI cols)), (3, .int (nI k))]) hx hb dX0_rowsNextTo_25 rfl hl (by decide) rfl (fun ls hl => ?_)
      refine lv_iinc (v := nI (k + 1)) (lv' := [(3, .int (nI (k + 1))), (2, .int (nI ((pf_or (fun c => cols.testBit c) (pf_re E) k) ||| (pf_re E k)))), (0, .ref (h 0)), (1, .int (nI cols))]) hx hb dX0_rowsNextTo_26 hl (k := 3) rfl (nI_1 _) (by decide) rfl (fun ls hl => ?_)
      refine lv_goto (tgt := 4) hx hb dX0_rowsNextTo_29 (by decide) ?_
      exact ih _ _ _ ⟨hw, by rw [pf_or_t (p := (fun c => cols.testBit c)) (g := (pf_re E)) (n := k) hc]; exact lv_sub hl [2, 3, 1, 0] rfl⟩
  · intro H locs ls hI
    obtain ⟨hw, hl⟩ := hI
    refine lv_iload_n hx hb dX0_rowsNextTo_4 rfl (lv_at hl 3 rfl) ?_
    refine y_push hx hb 7 dX0_rowsNextTo_5 rfl ?_
    refine y_ge hx hb (Nat.le_refl _) (by decide) dX0_rowsNextTo_7 (tgt := 32) (by decide) ?_
    refine lv_iload_n hx hb dX0_rowsNextTo_32 rfl (lv_at hl 2 rfl) ?_
    exact y_iret C hw ⟨rfl, rfl⟩ dX0_rowsNextTo_33
set_option maxHeartbeats 4000000 in
/-- an edge is usable -/
theorem mx_isUsable (l : Launch) (D : va_G) (hrr : rr < 128) (hck : ck < 128) (hre : ∀ r, r < 7 → re r < 128) (x y : Nat) (hx7 : x < 7) (hy7 : y < 7) : MtI l yX0_isUsable cX0_isUsable 4 (some .boolean) ({ frames := 0, cells := 0, slots := 0, locals := 0 }) D (tyL cI cB cZ) [.ref (h 0), .int (nI x), .int (nI y)] (xW cI cB h rdy E pr pk qu cf rr cr rc ck re us) (fun r w => r = wI (pf_u1 pr pk rr ck re x y) ∧ w = (xW cI cB h rdy E pr pk qu cf rr cr rc ck re us)) := by
  refine MtI.of (by decide) (Nat.le_of_ble_eq_true rfl) ?_
  intro p e s m below meth c A ls C hw hl
  obtain ⟨hx, hb, hr, hlk, hml, hown, hts, hK, hA⟩ := id C
  have hl : lv_has ls 4 [(0, .ref (h 0)), (1, .int (nI x)), (2, .int (nI y))] := hl
  refine lv_aload_n hx hb dX0_isUsable_0 rfl (lv_at hl 0 rfl) ?_
  refine xg_pr C hw dX0_isUsable_1 ?_
  refine lv_iload_n hx hb dX0_isUsable_4 rfl (lv_at hl 1 rfl) ?_
  refine xl_pr (by omega) C hw dX0_isUsable_5 ?_
  refine lv_iload_n hx hb dX0_isUsable_6 rfl (lv_at hl 2 rfl) ?_
  refine lv_icmp_ne hx hb dX0_isUsable_7 (tgt := 12) (by decide) (fun hc => ?_) (fun hc => ?_)
  · have hc1 : (pr x == y) = false := by rw [beq_eq_false_iff_ne]; exact fun q => hc ((n_B_eq hy7).mpr q)
    refine lv_aload_n hx hb dX0_isUsable_12 rfl (lv_at hl 0 rfl) ?_
    refine xg_rr C hw dX0_isUsable_13 ?_
    refine lv_iload_n hx hb dX0_isUsable_16 rfl (lv_at hl 1 rfl) ?_
    refine y_bit hx hb (by omega) (b31 hrr) dX0_isUsable_17 dX0_isUsable_18 dX0_isUsable_19 ?_
    refine y_ifne_w hx hb dX0_isUsable_20 (tgt := 34) (by decide) (fun hc2 => ?_) (fun hc2 => ?_)
    · refine lv_iconst (v := wI true) hx hb dX0_isUsable_34 rfl ?_
      exact y_zret C hw ⟨by rw [show pf_u1 pr pk rr ck re x y = true from by simp [pf_u1, hc2]], rfl⟩ dX0_isUsable_35
    · refine lv_aload_n hx hb dX0_isUsable_23 rfl (lv_at hl 0 rfl) ?_
      refine xg_ck C hw dX0_isUsable_24 ?_
      refine lv_iload_n hx hb dX0_isUsable_27 rfl (lv_at hl 2 rfl) ?_
      refine y_bit hx hb (by omega) (b31 hck) dX0_isUsable_28 dX0_isUsable_29 dX0_isUsable_30 ?_
      refine y_ifeq_w hx hb dX0_isUsable_31 (tgt := 36) (by decide) (fun hc3 => ?_) (fun hc3 => ?_)
      · refine lv_aload_n hx hb dX0_isUsable_36 rfl (lv_at hl 0 rfl) ?_
        refine xg_pk C hw dX0_isUsable_37 ?_
        refine lv_iload_n hx hb dX0_isUsable_40 rfl (lv_at hl 2 rfl) ?_
        refine xl_pk (by omega) C hw dX0_isUsable_41 ?_
        refine lv_istore_n (lv' := [(3, .int (nB (pk y))), (0, .ref (h 0)), (1, .int (nI x)), (2, .int (nI y))]) hx hb dX0_isUsable_42 rfl hl (by decide) rfl (fun ls hl => ?_)
        refine lv_iload_n hx hb dX0_isUsable_43 rfl (lv_at hl 0 rfl) ?_
        refine y_iflt_B hx hb dX0_isUsable_44 (tgt := 64) (by decide) (fun hc4 => ?_) (fun hc4 => ?_)
        · refine lv_iconst (v := wI false) hx hb dX0_isUsable_64 rfl ?_
          exact y_zret C hw ⟨by rw [show pf_u1 pr pk rr ck re x y = false from by simp [pf_u1, hc1, hc2, hc3, hc4]], rfl⟩ dX0_isUsable_65
        · refine lv_aload_n hx hb dX0_isUsable_47 rfl (lv_at hl 1 rfl) ?_
          refine xg_re C hw dX0_isUsable_48 ?_
          refine lv_iload_n hx hb dX0_isUsable_51 rfl (lv_at hl 0 rfl) ?_
          rw [n_B hc4]
          refine xl_re hc4 C hw dX0_isUsable_52 ?_
          refine lv_iload_n hx hb dX0_isUsable_53 rfl (lv_at hl 2 rfl) ?_
          refine y_bit hx hb (by omega) (b31 (hre _ hc4)) dX0_isUsable_54 dX0_isUsable_55 dX0_isUsable_56 ?_
          refine y_ifeq_w hx hb dX0_isUsable_57 (tgt := 64) (by decide) (fun hc5 => ?_) (fun hc5 => ?_)
          · refine lv_iconst (v := wI false) hx hb dX0_isUsable_64 rfl ?_
            exact y_zret C hw ⟨by rw [show pf_u1 pr pk rr ck re x y = false from by simp [pf_u1, hc1, hc2, hc3, hc4, hc5]], rfl⟩ dX0_isUsable_65
          · refine lv_iconst (v := wI true) hx hb dX0_isUsable_60 rfl ?_
            refine lv_goto (tgt := 65) hx hb dX0_isUsable_61 (by decide) ?_
            exact y_zret C hw ⟨by rw [show pf_u1 pr pk rr ck re x y = true from by simp [pf_u1, hc4, hc5]], rfl⟩ dX0_isUsable_65
      · refine lv_iconst (v := wI true) hx hb dX0_isUsable_34 rfl ?_
        exact y_zret C hw ⟨by rw [show pf_u1 pr pk rr ck re x y = true from by simp [pf_u1, hc3]], rfl⟩ dX0_isUsable_35
  · have hc1 : pr x = y := (n_B_eq hy7).mp hc
    refine lv_iconst (v := wI true) hx hb dX0_isUsable_10 rfl ?_
    exact y_zret C hw ⟨by rw [show pf_u1 pr pk rr ck re x y = true from by simp [pf_u1, hc1]], rfl⟩ dX0_isUsable_11
set_option maxHeartbeats 4000000 in
/-- a matched edge is forced -/
theorem mx_isForced (l : Launch) (D : va_G) (hrr : rr < 128) (hck : ck < 128) (hus : ∀ r, r < 7 → us r < 128) (x : Nat) (hx7 : x < 7) : MtI l yX0_isForced cX0_isForced 3 (some .boolean) ({ frames := 0, cells := 0, slots := 0, locals := 0 }) D (tyL cI cB cZ) [.ref (h 0), .int (nI x)] (xW cI cB h rdy E pr pk qu cf rr cr rc ck re us) (fun r w => r = wI (pf_fo pr rr ck us x) ∧ w = (xW cI cB h rdy E pr pk qu cf rr cr rc ck re us)) := by
  refine MtI.of (by decide) (Nat.le_of_ble_eq_true rfl) ?_
  intro p e s m below meth c A ls C hw hl
  obtain ⟨hx, hb, hr, hlk, hml, hown, hts, hK, hA⟩ := id C
  have hl : lv_has ls 3 [(0, .ref (h 0)), (1, .int (nI x))] := hl
  refine lv_aload_n hx hb dX0_isForced_0 rfl (lv_at hl 0 rfl) ?_
  refine xg_pr C hw dX0_isForced_1 ?_
  refine lv_iload_n hx hb dX0_isForced_4 rfl (lv_at hl 1 rfl) ?_
  refine xl_pr (by omega) C hw dX0_isForced_5 ?_
  refine lv_istore_n (lv' := [(2, .int (nB (pr x))), (0, .ref (h 0)), (1, .int (nI x))]) hx hb dX0_isForced_6 rfl hl (by decide) rfl (fun ls hl => ?_)
  refine lv_iload_n hx hb dX0_isForced_7 rfl (lv_at hl 0 rfl) ?_
  refine y_iflt_B hx hb dX0_isForced_8 (tgt := 33) (by decide) (fun hc1 => ?_) (fun hc1 => ?_)
  · refine lv_iconst (v := wI false) hx hb dX0_isForced_33 rfl ?_
    exact y_zret C hw ⟨by rw [show pf_fo pr rr ck us x = false from by simp [pf_fo, hc1]], rfl⟩ dX0_isForced_34
  · refine lv_aload_n hx hb dX0_isForced_11 rfl (lv_at hl 1 rfl) ?_
    refine xg_rr C hw dX0_isForced_12 ?_
    refine lv_iload_n hx hb dX0_isForced_15 rfl (lv_at hl 2 rfl) ?_
    refine y_bit hx hb (by omega) (b31 hrr) dX0_isForced_16 dX0_isForced_17 dX0_isForced_18 ?_
    refine y_ifne_w hx hb dX0_isForced_19 (tgt := 33) (by decide) (fun hc2 => ?_) (fun hc2 => ?_)
    · refine lv_iconst (v := wI false) hx hb dX0_isForced_33 rfl ?_
      exact y_zret C hw ⟨by rw [show pf_fo pr rr ck us x = false from by simp [pf_fo, hc2]], rfl⟩ dX0_isForced_34
    · refine lv_aload_n hx hb dX0_isForced_22 rfl (lv_at hl 1 rfl) ?_
      refine xg_ck C hw dX0_isForced_23 ?_
      refine lv_iload_n hx hb dX0_isForced_26 rfl (lv_at hl 0 rfl) ?_
      rw [n_B hc1]
      refine y_bit hx hb (by omega) (b31 hck) dX0_isForced_27 dX0_isForced_28 dX0_isForced_29 ?_
      refine y_ifeq_w hx hb dX0_isForced_30 (tgt := 35) (by decide) (fun hc3 => ?_) (fun hc3 => ?_)
      · refine lv_aload_n hx hb dX0_isForced_35 rfl (lv_at hl 1 rfl) ?_
        refine xg_us C hw dX0_isForced_36 ?_
        refine lv_iload_n hx hb dX0_isForced_39 rfl (lv_at hl 2 rfl) ?_
        refine xl_us (by omega) C hw dX0_isForced_40 ?_
        refine y_num hx hb 1 dX0_isForced_41 rfl ?_
        refine lv_iload_n hx hb dX0_isForced_42 rfl (lv_at hl 0 rfl) ?_
        rw [n_B hc1]
        refine y_shl1 hx hb (by omega) dX0_isForced_43 ?_
        refine y_icmpne hx hb (b31 (hus _ hx7)) (b31 (mm_two_lt hc1)) dX0_isForced_44 (tgt := 51) (by decide) (fun hc4 => ?_) (fun hc4 => ?_)
        · refine lv_iconst (v := wI false) hx hb dX0_isForced_51 rfl ?_
          exact y_zret C hw ⟨by rw [show pf_fo pr rr ck us x = false from by simp [pf_fo, hc4]], rfl⟩ dX0_isForced_52
        · refine lv_iconst (v := wI true) hx hb dX0_isForced_47 rfl ?_
          refine lv_goto (tgt := 52) hx hb dX0_isForced_48 (by decide) ?_
          exact y_zret C hw ⟨by rw [show pf_fo pr rr ck us x = true from by simp [pf_fo, hc1, hc2, hc3, hc4]], rfl⟩ dX0_isForced_52
      · refine lv_iconst (v := wI false) hx hb dX0_isForced_33 rfl ?_
        exact y_zret C hw ⟨by rw [show pf_fo pr rr ck us x = false from by simp [pf_fo, hc3]], rfl⟩ dX0_isForced_34
end X0A
end
section
/-! DmDecomposer: findReach, findUsable, rowsOfBlock (printed by gen_x0b.py) -/
set_option maxRecDepth 100000
section X0B
variable {cI cB cZ : ClassId} {h : Nat → Nat} {rdy : Bool} {E pr pk qu cf : Nat → Nat} {rr cr rc ck : Nat} {re us : Nat → Nat}
set_option maxHeartbeats 4000000 in
/-- what alternating paths lead to -/
theorem mx_findReach (l : Launch) (D : va_G) (hE : ∀ r, E r < 128) : MtV l yX0_findReach cX0_findReach 3 ({ frames := 2, cells := 0, slots := 0, locals := 46 }) D (tyL cI cB cZ) [.ref (h 0)] (xW cI cB h rdy E pr pk qu cf rr cr rc ck re us) (fun w => ∃ (rc' : Nat) (re' : Nat → Nat), w = (xW cI cB h rdy E pr pk qu cf (pf_R E pr pk 8) (pf_cn E (pf_R E pr pk 7)) rc' (pf_C E pr pk 8) re' us) ∧ ∀ r, r < 7 → re' r = pf_W E pk 7 r) := by
  refine MtV.of (by decide) (Nat.le_of_ble_eq_true rfl) ?_
  intro p e s m below meth c A ls C hw hl
  obtain ⟨hx, hb, hr, hlk, hml, hown, hts, hK, hA⟩ := id C
  have hl : lv_has ls 3 [(0, .ref (h 0))] := hl
  refine lv_aload_n hx hb dX0_findReach_0 rfl (lv_at hl 0 rfl) ?_
  refine y_num hx hb 0 dX0_findReach_1 rfl ?_
  refine xp_rr C hw dX0_findReach_2 (fun H locs hw => ?_)
  refine lv_aload_n hx hb dX0_findReach_5 rfl (lv_at hl 0 rfl) ?_
  refine y_num hx hb 0 dX0_findReach_6 rfl ?_
  refine xp_ck C hw dX0_findReach_7 (fun H locs hw => ?_)
  refine y_num hx hb 0 dX0_findReach_10 rfl ?_
  refine lv_istore_n (lv' := [(1, .int (nI 0)), (0, .ref (h 0))]) hx hb dX0_findReach_11 rfl hl (by decide) rfl (fun ls hl => ?_)
  refine wl_for 7 (fun k H locs ls => XH D A s.heap H locs (xW cI cB h rdy E pr pk qu cf (pf_or (fun i => decide (¬ pr i < 7)) (fun k => 2 ^ k) k) cr rc (pf_or (fun i => decide (¬ pk i < 7)) (fun k => 2 ^ k) k) re us) ∧ lv_has ls 3 [(0, .ref (h 0)), (1, .int (nI k))]) ?_ ?_ 0 (by omega) _ _ _ ⟨hw, lv_sub hl [1, 0] rfl⟩
  · intro k hk H locs ls hI ih
    obtain ⟨hw, hl⟩ := hI
    refine lv_iload_n hx hb dX0_findReach_12 rfl (lv_at hl 1 rfl) ?_
    refine y_push hx hb 7 dX0_findReach_13 rfl ?_
    refine y_lt hx hb hk (by decide) dX0_findReach_15 (tgt := 66) (by decide) ?_
    refine lv_aload_n hx hb dX0_findReach_18 rfl (lv_at hl 0 rfl) ?_
    refine xg_pr C hw dX0_findReach_19 ?_
    refine lv_iload_n hx hb dX0_findReach_22 rfl (lv_at hl 1 rfl) ?_
    refine xl_pr (by omega) C hw dX0_findReach_23 ?_
    refine y_ifge_B hx hb dX0_findReach_24 (tgt := 39) (by decide) (fun hc => ?_) (fun hc => ?_)
    · refine lv_aload_n hx hb dX0_findReach_39 rfl (lv_at hl 0 rfl) ?_
      refine xg_pk C hw dX0_findReach_40 ?_
      refine lv_iload_n hx hb dX0_findReach_43 rfl (lv_at hl 1 rfl) ?_
      refine xl_pk (by omega) C hw dX0_findReach_44 ?_
      refine y_ifge_B hx hb dX0_findReach_45 (tgt := 60) (by decide) (fun hd => ?_) (fun hd => ?_)
      · refine lv_iinc (v := nI (k + 1)) (lv' := [(1, .int (nI (k + 1))), (0, .ref (h 0))]) hx hb dX0_findReach_60 hl (k := 1) rfl (nI_1 _) (by decide) rfl (fun ls hl => ?_)
        refine lv_goto (tgt := 12) hx hb dX0_findReach_63 (by decide) ?_
        have e1 := pf_or_f (p := (fun i => decide (¬ pr i < 7))) (g := (fun k => 2 ^ k)) (n := k) (by simp [hc])
        have e2 := pf_or_f (p := (fun i => decide (¬ pk i < 7))) (g := (fun k => 2 ^ k)) (n := k) (by simp [hd])
        exact ih _ _ _ ⟨by rw [e1, e2]; exact hw, lv_sub hl [1, 0] rfl⟩
      · refine lv_aload_n hx hb dX0_findReach_48 rfl (lv_at hl 0 rfl) ?_
        refine lv_dup hx hb dX0_findReach_49 rfl ?_
        refine xg_ck C hw dX0_findReach_50 ?_
        refine y_num hx hb 1 dX0_findReach_53 rfl ?_
        refine lv_iload_n hx hb dX0_findReach_54 rfl (lv_at hl 1 rfl) ?_
        refine y_shl1 hx hb (by omega) dX0_findReach_55 ?_
        refine y_or hx hb dX0_findReach_56 ?_
        refine xp_ck C hw dX0_findReach_57 (fun H locs hw => ?_)
        refine lv_iinc (v := nI (k + 1)) (lv' := [(1, .int (nI (k + 1))), (0, .ref (h 0))]) hx hb dX0_findReach_60 hl (k := 1) rfl (nI_1 _) (by decide) rfl (fun ls hl => ?_)
        refine lv_goto (tgt := 12) hx hb dX0_findReach_63 (by decide) ?_
        have e1 := pf_or_f (p := (fun i => decide (¬ pr i < 7))) (g := (fun k => 2 ^ k)) (n := k) (by simp [hc])
        have e2 := pf_or_t (p := (fun i => decide (¬ pk i < 7))) (g := (fun k => 2 ^ k)) (n := k) (by simp [hd])
        exact ih _ _ _ ⟨by rw [e1, e2]; exact hw, lv_sub hl [1, 0] rfl⟩
    · refine lv_aload_n hx hb dX0_findReach_27 rfl (lv_at hl 0 rfl) ?_
      refine lv_dup hx hb dX0_findReach_28 rfl ?_
      refine xg_rr C hw dX0_findReach_29 ?_
      refine y_num hx hb 1 dX0_findReach_32 rfl ?_
      refine lv_iload_n hx hb dX0_findReach_33 rfl (lv_at hl 1 rfl) ?_
      refine y_shl1 hx hb (by omega) dX0_findReach_34 ?_
      refine y_or hx hb dX0_findReach_35 ?_
      refine xp_rr C hw dX0_findReach_36 (fun H locs hw => ?_)
      refine lv_aload_n hx hb dX0_findReach_39 rfl (lv_at hl 0 rfl) ?_
      refine xg_pk C hw dX0_findReach_40 ?_
      refine lv_iload_n hx hb dX0_findReach_43 rfl (lv_at hl 1 rfl) ?_
      refine xl_pk (by omega) C hw dX0_findReach_44 ?_
      refine y_ifge_B hx hb dX0_findReach_45 (tgt := 60) (by decide) (fun hd => ?_) (fun hd => ?_)
      · refine lv_iinc (v := nI (k + 1)) (lv' := [(1, .int (nI (k + 1))), (0, .ref (h 0))]) hx hb dX0_findReach_60 hl (k := 1) rfl (nI_1 _) (by decide) rfl (fun ls hl => ?_)
        refine lv_goto (tgt := 12) hx hb dX0_findReach_63 (by decide) ?_
        have e1 := pf_or_t (p := (fun i => decide (¬ pr i < 7))) (g := (fun k => 2 ^ k)) (n := k) (by simp [hc])
        have e2 := pf_or_f (p := (fun i => decide (¬ pk i < 7))) (g := (fun k => 2 ^ k)) (n := k) (by simp [hd])
        exact ih _ _ _ ⟨by rw [e1, e2]; exact hw, lv_sub hl [1, 0] rfl⟩
      · refine lv_aload_n hx hb dX0_findReach_48 rfl (lv_at hl 0 rfl) ?_
        refine lv_dup hx hb dX0_findReach_49 rfl ?_
        refine xg_ck C hw dX0_findReach_50 ?_
        refine y_num hx hb 1 dX0_findReach_53 rfl ?_
        refine lv_iload_n hx hb dX0_findReach_54 rfl (lv_at hl 1 rfl) ?_
        refine y_shl1 hx hb (by omega) dX0_findReach_55 ?_
        refine y_or hx hb dX0_findReach_56 ?_
        refine xp_ck C hw dX0_findReach_57 (fun H locs hw => ?_)
        refine lv_iinc (v := nI (k + 1)) (lv' := [(1, .int (nI (k + 1))), (0, .ref (h 0))]) hx hb dX0_findReach_60 hl (k := 1) rfl (nI_1 _) (by decide) rfl (fun ls hl => ?_)
        refine lv_goto (tgt := 12) hx hb dX0_findReach_63 (by decide) ?_
        have e1 := pf_or_t (p := (fun i => decide (¬ pr i < 7))) (g := (fun k => 2 ^ k)) (n := k) (by simp [hc])
        have e2 := pf_or_t (p := (fun i => decide (¬ pk i < 7))) (g := (fun k => 2 ^ k)) (n := k) (by simp [hd])
        exact ih _ _ _ ⟨by rw [e1, e2]; exact hw, lv_sub hl [1, 0] rfl⟩
  · intro H locs ls hI
    obtain ⟨hw, hl⟩ := hI
    refine lv_iload_n hx hb dX0_findReach_12 rfl (lv_at hl 1 rfl) ?_
    refine y_push hx hb 7 dX0_findReach_13 rfl ?_
    refine y_ge hx hb (Nat.le_refl _) (by decide) dX0_findReach_15 (tgt := 66) (by decide) ?_
    refine y_num hx hb 0 dX0_findReach_66 rfl ?_
    refine lv_istore_n (lv' := [(1, .int (nI 0)), (0, .ref (h 0))]) hx hb dX0_findReach_67 rfl hl (by decide) rfl (fun ls hl => ?_)
    refine wl_for 8 (fun k H locs ls => ∃ (cr' : Nat), ∃ (rc' : Nat), XH D A s.heap H locs (xW cI cB h rdy E pr pk qu cf (pf_R E pr pk k) cr' rc' (pf_C E pr pk k) re us) ∧ lv_has ls 3 [(0, .ref (h 0)), (1, .int (nI k))] ∧ (∀ j, k = j + 1 → cr' = pf_cn E (pf_R E pr pk j))) ?_ ?_ 0 (by omega) _ _ _ ⟨cr, rc, hw, lv_sub hl [1, 0] rfl, fun j hj => by omega⟩
    · intro k hk H locs ls hI ih
      obtain ⟨cr', rc', hw, hl, hcr⟩ := hI
      refine lv_iload_n hx hb dX0_findReach_68 rfl (lv_at hl 1 rfl) ?_
      refine y_push hx hb 8 dX0_findReach_69 rfl ?_
      refine y_lt hx hb hk (by decide) dX0_findReach_71 (tgt := 138) (by decide) ?_
      refine lv_aload_n hx hb dX0_findReach_74 rfl (lv_at hl 0 rfl) ?_
      refine lv_aload_n hx hb dX0_findReach_75 rfl (lv_at hl 0 rfl) ?_
      refine lv_aload_n hx hb dX0_findReach_76 rfl (lv_at hl 0 rfl) ?_
      refine xg_rr C hw dX0_findReach_77 ?_
      refine y_cI (As := [.int (nI (pf_R E pr pk k))]) (rest := [.ref (h 0)]) C hw (mx_columnsNextTo l D (pf_R E pr pk k) (pf_R_lt _ _ _ _)) (cwV 1 hts (lw_V q108 q110 qs5 q23 q111) rfl rfl rfl (by decide +kernel) ⟨Nat.le_of_ble_eq_true rfl, Nat.le_of_ble_eq_true rfl⟩) rfl rfl rfl rfl hl.1 (Nat.le_of_ble_eq_true rfl) ⟨Nat.zero_le _, Nat.zero_le _⟩ dX0_findReach_80 (fun r w1 H locs hp hw => ?_) rfl
      obtain ⟨rfl, rfl⟩ := hp
      refine xp_cr C hw dX0_findReach_83 (fun H locs hw => ?_)
      refine lv_aload_n hx hb dX0_findReach_86 rfl (lv_at hl 0 rfl) ?_
      refine lv_dup hx hb dX0_findReach_87 rfl ?_
      refine xg_rr C hw dX0_findReach_88 ?_
      refine lv_aload_n hx hb dX0_findReach_91 rfl (lv_at hl 0 rfl) ?_
      refine lv_aload_n hx hb dX0_findReach_92 rfl (lv_at hl 0 rfl) ?_
      refine xg_cr C hw dX0_findReach_93 ?_
      refine y_cI (As := [.int (nI (pf_cn E (pf_R E pr pk k)))]) (rest := [.int (nI (pf_R E pr pk k)), .ref (h 0)]) C hw (mx_partnersOfColumns l D (pf_cn E (pf_R E pr pk k)) (pf_cn_lt hE _)) (cwV 1 hts (lw_V q112 q114 qs6 q23 q115) rfl rfl rfl (by decide +kernel) ⟨Nat.le_of_ble_eq_true rfl, Nat.le_of_ble_eq_true rfl⟩) rfl rfl rfl rfl hl.1 (Nat.le_of_ble_eq_true rfl) ⟨Nat.zero_le _, Nat.zero_le _⟩ dX0_findReach_96 (fun r w1 H locs hp hw => ?_) rfl
      obtain ⟨rfl, rfl⟩ := hp
      refine y_or hx hb dX0_findReach_99 ?_
      refine xp_rr C hw dX0_findReach_100 (fun H locs hw => ?_)
      refine lv_aload_n hx hb dX0_findReach_103 rfl (lv_at hl 0 rfl) ?_
      refine lv_aload_n hx hb dX0_findReach_104 rfl (lv_at hl 0 rfl) ?_
      refine lv_aload_n hx hb dX0_findReach_105 rfl (lv_at hl 0 rfl) ?_
      refine xg_ck C hw dX0_findReach_106 ?_
      refine y_cI (As := [.int (nI (pf_C E pr pk k))]) (rest := [.ref (h 0)]) C hw (mx_rowsNextTo l D hE (pf_C E pr pk k) (pf_C_lt _ _ _ _)) (cwV 1 hts (lw_V q116 q118 qs7 q23 q119) rfl rfl rfl (by decide +kernel) ⟨Nat.le_of_ble_eq_true rfl, Nat.le_of_ble_eq_true rfl⟩) rfl rfl rfl rfl hl.1 (Nat.le_of_ble_eq_true rfl) ⟨Nat.zero_le _, Nat.zero_le _⟩ dX0_findReach_109 (fun r w1 H locs hp hw => ?_) rfl
      obtain ⟨rfl, rfl⟩ := hp
      refine xp_rc C hw dX0_findReach_112 (fun H locs hw => ?_)
      refine lv_aload_n hx hb dX0_findReach_115 rfl (lv_at hl 0 rfl) ?_
      refine lv_dup hx hb dX0_findReach_116 rfl ?_
      refine xg_ck C hw dX0_findReach_117 ?_
      refine lv_aload_n hx hb dX0_findReach_120 rfl (lv_at hl 0 rfl) ?_
      refine lv_aload_n hx hb dX0_findReach_121 rfl (lv_at hl 0 rfl) ?_
      refine xg_rc C hw dX0_findReach_122 ?_
      refine y_cI (As := [.int (nI (pf_rn E (pf_C E pr pk k)))]) (rest := [.int (nI (pf_C E pr pk k)), .ref (h 0)]) C hw (mx_partnersOfRows l D (pf_rn E (pf_C E pr pk k)) (pf_rn_lt _ _)) (cwV 1 hts (lw_V q124 q126 qs9 q23 q127) rfl rfl rfl (by decide +kernel) ⟨Nat.le_of_ble_eq_true rfl, Nat.le_of_ble_eq_true rfl⟩) rfl rfl rfl rfl hl.1 (Nat.le_of_ble_eq_true rfl) ⟨Nat.zero_le _, Nat.zero_le _⟩ dX0_findReach_125 (fun r w1 H locs hp hw => ?_) rfl
      obtain ⟨rfl, rfl⟩ := hp
      refine y_or hx hb dX0_findReach_128 ?_
      refine xp_ck C hw dX0_findReach_129 (fun H locs hw => ?_)
      refine lv_iinc (v := nI (k + 1)) (lv' := [(1, .int (nI (k + 1))), (0, .ref (h 0))]) hx hb dX0_findReach_132 hl (k := 1) rfl (nI_1 _) (by decide) rfl (fun ls hl => ?_)
      refine lv_goto (tgt := 68) hx hb dX0_findReach_135 (by decide) ?_
      exact ih _ _ _ ⟨_, _, hw, lv_sub hl [1, 0] rfl, fun j hj => by rw [show k = j by omega]⟩
    · intro H locs ls hI
      obtain ⟨cr', rc', hw, hl, hcr⟩ := hI
      have hcr := hcr 7 rfl
      subst hcr
      refine lv_iload_n hx hb dX0_findReach_68 rfl (lv_at hl 1 rfl) ?_
      refine y_push hx hb 8 dX0_findReach_69 rfl ?_
      refine y_ge hx hb (Nat.le_refl _) (by decide) dX0_findReach_71 (tgt := 138) (by decide) ?_
      refine y_num hx hb 0 dX0_findReach_138 rfl ?_
      refine lv_istore_n (lv' := [(1, .int (nI 0)), (0, .ref (h 0))]) hx hb dX0_findReach_139 rfl hl (by decide) rfl (fun ls hl => ?_)
      refine wl_for 7 (fun k H locs ls => ∃ (re' : Nat → Nat), XH D A s.heap H locs (xW cI cB h rdy E pr pk qu cf (pf_R E pr pk 8) (pf_cn E (pf_R E pr pk 7)) rc' (pf_C E pr pk 8) re' us) ∧ lv_has ls 3 [(0, .ref (h 0)), (1, .int (nI k))] ∧ (∀ x, x < k → re' x = pf_pc pk (E x))) ?_ ?_ 0 (by omega) _ _ _ ⟨re, hw, lv_sub hl [1, 0] rfl, fun x hx => absurd hx (Nat.not_lt_zero x)⟩
      · intro k hk H locs ls hI ih
        obtain ⟨re', hw, hl, hre⟩ := hI
        refine lv_iload_n hx hb dX0_findReach_140 rfl (lv_at hl 1 rfl) ?_
        refine y_push hx hb 7 dX0_findReach_141 rfl ?_
        refine y_lt hx hb hk (by decide) dX0_findReach_143 (tgt := 168) (by decide) ?_
        refine lv_aload_n hx hb dX0_findReach_146 rfl (lv_at hl 0 rfl) ?_
        refine xg_re C hw dX0_findReach_147 ?_
        refine lv_iload_n hx hb dX0_findReach_150 rfl (lv_at hl 1 rfl) ?_
        refine lv_aload_n hx hb dX0_findReach_151 rfl (lv_at hl 0 rfl) ?_
        refine lv_aload_n hx hb dX0_findReach_152 rfl (lv_at hl 0 rfl) ?_
        refine xg_E C hw dX0_findReach_153 ?_
        refine lv_iload_n hx hb dX0_findReach_156 rfl (lv_at hl 1 rfl) ?_
        refine xl_E (by omega) C hw dX0_findReach_157 ?_
        refine y_cI (As := [.int (nI (E k))]) (rest := [.int (nI k), .ref (h 6)]) C hw (mx_partnersOfColumns l D (E k) (hE _)) (cwV 1 hts (lw_V q112 q114 qs6 q23 q115) rfl rfl rfl (by decide +kernel) ⟨Nat.le_of_ble_eq_true rfl, Nat.le_of_ble_eq_true rfl⟩) rfl rfl rfl rfl hl.1 (Nat.le_of_ble_eq_true rfl) ⟨Nat.zero_le _, Nat.zero_le _⟩ dX0_findReach_158 (fun r w1 H locs hp hw => ?_) rfl
        obtain ⟨rfl, rfl⟩ := hp
        refine xs_re (by omega) C hw dX0_findReach_161 (fun H locs hw => ?_)
        refine lv_iinc (v := nI (k + 1)) (lv' := [(1, .int (nI (k + 1))), (0, .ref (h 0))]) hx hb dX0_findReach_162 hl (k := 1) rfl (nI_1 _) (by decide) rfl (fun ls hl => ?_)
        refine lv_goto (tgt := 140) hx hb dX0_findReach_165 (by decide) ?_
        exact ih _ _ _ ⟨_, hw, lv_sub hl [1, 0] rfl, fun x hx => by
          by_cases ex : x = k
          · rw [ex, mm_up_s]
          · rw [mm_up_n ex]
            exact hre x (by omega)⟩
      · intro H locs ls hI
        obtain ⟨re', hw, hl, hre⟩ := hI
        refine lv_iload_n hx hb dX0_findReach_140 rfl (lv_at hl 1 rfl) ?_
        refine y_push hx hb 7 dX0_findReach_141 rfl ?_
        refine y_ge hx hb (Nat.le_refl _) (by decide) dX0_findReach_143 (tgt := 168) (by decide) ?_
        refine y_num hx hb 0 dX0_findReach_168 rfl ?_
        refine lv_istore_n (lv' := [(1, .int (nI 0)), (0, .ref (h 0))]) hx hb dX0_findReach_169 rfl hl (by decide) rfl (fun ls hl => ?_)
        refine wl_for 7 (fun k H locs ls => ∃ (re' : Nat → Nat), XH D A s.heap H locs (xW cI cB h rdy E pr pk qu cf (pf_R E pr pk 8) (pf_cn E (pf_R E pr pk 7)) rc' (pf_C E pr pk 8) re' us) ∧ lv_has ls 3 [(0, .ref (h 0)), (1, .int (nI k))] ∧ (∀ x, x < 7 → re' x = pf_W E pk k x)) ?_ ?_ 0 (by omega) _ _ _ ⟨re', hw, lv_sub hl [1, 0] rfl, fun x hx => hre x hx⟩
        · intro k hk H locs ls hI ih
          obtain ⟨re', hw, hl, hre⟩ := hI
          refine lv_iload_n hx hb dX0_findReach_170 rfl (lv_at hl 1 rfl) ?_
          refine y_push hx hb 7 dX0_findReach_171 rfl ?_
          refine y_lt hx hb hk (by decide) dX0_findReach_173 (tgt := 224) (by decide) ?_
          refine y_num hx hb 0 dX0_findReach_176 rfl ?_
          refine lv_istore_n (lv' := [(2, .int (nI 0)), (0, .ref (h 0)), (1, .int (nI k))]) hx hb dX0_findReach_177 rfl hl (by decide) rfl (fun ls hl => ?_)
          refine wl_for 7 (fun j H locs ls => ∃ (re' : Nat → Nat), XH D A s.heap H locs (xW cI cB h rdy E pr pk qu cf (pf_R E pr pk 8) (pf_cn E (pf_R E pr pk 7)) rc' (pf_C E pr pk 8) re' us) ∧ lv_has ls 3 [(0, .ref (h 0)), (1, .int (nI k)), (2, .int (nI j))] ∧ (∀ x, x < 7 → re' x = if x < j then pf_W E pk (k + 1) x else pf_W E pk k x)) ?_ ?_ 0 (by omega) _ _ _ ⟨re', hw, lv_sub hl [1, 2, 0] rfl, fun x hx => by rw [hre x hx, if_neg (Nat.not_lt_zero x)]⟩
          · intro j hj H locs ls hI ih2
            obtain ⟨re', hw, hl, hre⟩ := hI
            have hbd : ∀ x, x < 7 → re' x < 128 := fun x hx => by
              rw [hre x hx]
              split
              · exact pf_W_lt _ _ _ _
              · exact pf_W_lt _ _ _ _
            refine lv_iload_n hx hb dX0_findReach_178 rfl (lv_at hl 2 rfl) ?_
            refine y_push hx hb 7 dX0_findReach_179 rfl ?_
            refine y_lt hx hb hj (by decide) dX0_findReach_181 (tgt := 218) (by decide) ?_
            refine lv_aload_n hx hb dX0_findReach_184 rfl (lv_at hl 0 rfl) ?_
            refine xg_re C hw dX0_findReach_185 ?_
            refine lv_iload_n hx hb dX0_findReach_188 rfl (lv_at hl 2 rfl) ?_
            refine xl_re (by omega) C hw dX0_findReach_189 ?_
            refine lv_iload_n hx hb dX0_findReach_190 rfl (lv_at hl 1 rfl) ?_
            refine y_bit hx hb (by omega) (b31 (hbd _ hj)) dX0_findReach_191 dX0_findReach_192 dX0_findReach_193 ?_
            refine y_ifeq_w hx hb dX0_findReach_194 (tgt := 212) (by decide) (fun hc => ?_) (fun hc => ?_)
            · refine lv_iinc (v := nI (j + 1)) (lv' := [(2, .int (nI (j + 1))), (0, .ref (h 0)), (1, .int (nI k))]) hx hb dX0_findReach_212 hl (k := 2) rfl (nI_1 _) (by decide) rfl (fun ls hl => ?_)
              refine lv_goto (tgt := 178) hx hb dX0_findReach_215 (by decide) ?_
              have e0 := hre j hj
              rw [if_neg (Nat.lt_irrefl j)] at e0
              rw [e0] at hc
              exact ih2 _ _ _ ⟨_, hw, lv_sub hl [1, 2, 0] rfl, fun x hx => by
                by_cases ex : x = j
                · rw [ex, if_pos (by omega), e0, pf_W]
                  dsimp only
                  rw [if_neg (by rw [hc]; exact Bool.false_ne_true)]
                · rw [hre x hx]
                  by_cases q : x < j
                  · rw [if_pos q, if_pos (by omega)]
                  · rw [if_neg q, if_neg (by omega)]⟩
            · refine lv_aload_n hx hb dX0_findReach_197 rfl (lv_at hl 0 rfl) ?_
              refine xg_re C hw dX0_findReach_198 ?_
              refine lv_iload_n hx hb dX0_findReach_201 rfl (lv_at hl 2 rfl) ?_
              refine lv_dup2_11 hx hb dX0_findReach_202 rfl rfl ?_
              refine xl_re (by omega) C hw dX0_findReach_203 ?_
              refine lv_aload_n hx hb dX0_findReach_204 rfl (lv_at hl 0 rfl) ?_
              refine xg_re C hw dX0_findReach_205 ?_
              refine lv_iload_n hx hb dX0_findReach_208 rfl (lv_at hl 1 rfl) ?_
              refine xl_re (by omega) C hw dX0_findReach_209 ?_
              refine y_or hx hb dX0_findReach_210 ?_
              refine xs_re (by omega) C hw dX0_findReach_211 (fun H locs hw => ?_)
              refine lv_iinc (v := nI (j + 1)) (lv' := [(2, .int (nI (j + 1))), (0, .ref (h 0)), (1, .int (nI k))]) hx hb dX0_findReach_212 hl (k := 2) rfl (nI_1 _) (by decide) rfl (fun ls hl => ?_)
              refine lv_goto (tgt := 178) hx hb dX0_findReach_215 (by decide) ?_
              have e0 := hre j hj
              rw [if_neg (Nat.lt_irrefl j)] at e0
              rw [e0] at hc
              have em : re' k = pf_W E pk k k := by
                rw [hre k hk]
                split
                · exact pf_W_self E pk k
                · rfl
              exact ih2 _ _ _ ⟨_, hw, lv_sub hl [1, 2, 0] rfl, fun x hx => by
                by_cases ex : x = j
                · rw [ex, mm_up_s, if_pos (by omega), e0, em, pf_W]
                  dsimp only
                  rw [if_pos hc]
                · rw [mm_up_n ex, hre x hx]
                  by_cases q : x < j
                  · rw [if_pos q, if_pos (by omega)]
                  · rw [if_neg q, if_neg (by omega)]⟩
          · intro H locs ls hI
            obtain ⟨re', hw, hl, hre⟩ := hI
            refine lv_iload_n hx hb dX0_findReach_178 rfl (lv_at hl 2 rfl) ?_
            refine y_push hx hb 7 dX0_findReach_179 rfl ?_
            refine y_ge hx hb (Nat.le_refl _) (by decide) dX0_findReach_181 (tgt := 218) (by decide) ?_
            refine lv_iinc (v := nI (k + 1)) (lv' := [(1, .int (nI (k + 1))), (0, .ref (h 0)), (2, .int (nI 7))]) hx hb dX0_findReach_218 hl (k := 1) rfl (nI_1 _) (by decide) rfl (fun ls hl => ?_)
            refine lv_goto (tgt := 170) hx hb dX0_findReach_221 (by decide) ?_
            exact ih _ _ _ ⟨_, hw, lv_sub hl [1, 0] rfl, fun x hx => by rw [hre x hx, if_pos hx]⟩
        · intro H locs ls hI
          obtain ⟨re', hw, hl, hre⟩ := hI
          refine lv_iload_n hx hb dX0_findReach_170 rfl (lv_at hl 1 rfl) ?_
          refine y_push hx hb 7 dX0_findReach_171 rfl ?_
          refine y_ge hx hb (Nat.le_refl _) (by decide) dX0_findReach_173 (tgt := 224) (by decide) ?_
          exact y_vret C hw ⟨_, re', rfl, hre⟩ dX0_findReach_224
set_option maxHeartbeats 4000000 in
/-- the usable edges -/
theorem mx_findUsable (l : Launch) (D : va_G) (hE : ∀ r, E r < 128) (hrr : rr < 128) (hck : ck < 128) (hre : ∀ r, r < 7 → re r < 128) : MtV l yX0_findUsable cX0_findUsable 3 ({ frames := 1, cells := 0, slots := 0, locals := 23 }) D (tyL cI cB cZ) [.ref (h 0)] (xW cI cB h rdy E pr pk qu cf rr cr rc ck re us) (fun w => ∃ us' : Nat → Nat, w = (xW cI cB h rdy E pr pk qu cf rr cr rc ck re us') ∧ ∀ r, r < 7 → us' r = pf_us E pr pk rr ck re r) := by
  refine MtV.of (by decide) (Nat.le_of_ble_eq_true rfl) ?_
  intro p e s m below meth c A ls C hw hl
  obtain ⟨hx, hb, hr, hlk, hml, hown, hts, hK, hA⟩ := id C
  have hl : lv_has ls 3 [(0, .ref (h 0))] := hl
  refine y_num hx hb 0 dX0_findUsable_0 rfl ?_
  refine lv_istore_n (lv' := [(1, .int (nI 0)), (0, .ref (h 0))]) hx hb dX0_findUsable_1 rfl hl (by decide) rfl (fun ls hl => ?_)
  refine wl_for 7 (fun k H locs ls => ∃ (us' : Nat → Nat), XH D A s.heap H locs (xW cI cB h rdy E pr pk qu cf rr cr rc ck re us') ∧ lv_has ls 3 [(0, .ref (h 0)), (1, .int (nI k))] ∧ (∀ x, x < k → us' x = pf_us E pr pk rr ck re x)) ?_ ?_ 0 (by omega) _ _ _ ⟨us, hw, lv_sub hl [1, 0] rfl, fun x hx => absurd hx (Nat.not_lt_zero x)⟩
  · intro k hk H locs ls hI ih
    obtain ⟨us', hw, hl, hus⟩ := hI
    refine lv_iload_n hx hb dX0_findUsable_2 rfl (lv_at hl 1 rfl) ?_
    refine y_push hx hb 7 dX0_findUsable_3 rfl ?_
    refine y_lt hx hb hk (by decide) dX0_findUsable_5 (tgt := 69) (by decide) ?_
    refine lv_aload_n hx hb dX0_findUsable_8 rfl (lv_at hl 0 rfl) ?_
    refine xg_us C hw dX0_findUsable_9 ?_
    refine lv_iload_n hx hb dX0_findUsable_12 rfl (lv_at hl 1 rfl) ?_
    refine y_num hx hb 0 dX0_findUsable_13 rfl ?_
    refine xs_us (by omega) C hw dX0_findUsable_14 (fun H locs hw => ?_)
    refine y_num hx hb 0 dX0_findUsable_15 rfl ?_
    refine lv_istore_n (lv' := [(2, .int (nI 0)), (0, .ref (h 0)), (1, .int (nI k))]) hx hb dX0_findUsable_16 rfl hl (by decide) rfl (fun ls hl => ?_)
    generalize hz : mm_up us' k 0 = us2 at hw
    have hu1 : us2 k = 0 := by rw [← hz, mm_up_s]
    have hu2 : ∀ x, x < k → us2 x = pf_us E pr pk rr ck re x := fun x hx => by rw [← hz, mm_up_n (by omega)]; exact hus x hx
    refine wl_for 7 (fun j H locs ls => ∃ (us3 : Nat → Nat), XH D A s.heap H locs (xW cI cB h rdy E pr pk qu cf rr cr rc ck re us3) ∧ lv_has ls 3 [(0, .ref (h 0)), (1, .int (nI k)), (2, .int (nI j))] ∧ (us3 k = pf_or (fun c => (E k).testBit c && pf_u1 pr pk rr ck re k c) (fun k => 2 ^ k) j) ∧ (∀ x, x < k → us3 x = pf_us E pr pk rr ck re x)) ?_ ?_ 0 (by omega) _ _ _ ⟨us2, hw, lv_sub hl [1, 2, 0] rfl, hu1, hu2⟩
    · intro j hj H locs ls hI ih2
      obtain ⟨us3, hw, hl, hv1, hv2⟩ := hI
      refine lv_iload_n hx hb dX0_findUsable_17 rfl (lv_at hl 2 rfl) ?_
      refine y_push hx hb 7 dX0_findUsable_18 rfl ?_
      refine y_lt hx hb hj (by decide) dX0_findUsable_20 (tgt := 63) (by decide) ?_
      refine lv_aload_n hx hb dX0_findUsable_23 rfl (lv_at hl 0 rfl) ?_
      refine xg_E C hw dX0_findUsable_24 ?_
      refine lv_iload_n hx hb dX0_findUsable_27 rfl (lv_at hl 1 rfl) ?_
      refine xl_E (by omega) C hw dX0_findUsable_28 ?_
      refine lv_iload_n hx hb dX0_findUsable_29 rfl (lv_at hl 2 rfl) ?_
      refine y_bit hx hb (by omega) (b31 (hE _)) dX0_findUsable_30 dX0_findUsable_31 dX0_findUsable_32 ?_
      refine y_ifeq_w hx hb dX0_findUsable_33 (tgt := 57) (by decide) (fun hc => ?_) (fun hc => ?_)
      · refine lv_iinc (v := nI (j + 1)) (lv' := [(2, .int (nI (j + 1))), (0, .ref (h 0)), (1, .int (nI k))]) hx hb dX0_findUsable_57 hl (k := 2) rfl (nI_1 _) (by decide) rfl (fun ls hl => ?_)
        refine lv_goto (tgt := 17) hx hb dX0_findUsable_60 (by decide) ?_
        exact ih2 _ _ _ ⟨_, hw, lv_sub hl [1, 2, 0] rfl, by rw [pf_or_f (p := (fun c => (E k).testBit c && pf_u1 pr pk rr ck re k c)) (by simp [hc])]; exact hv1, hv2⟩
      · refine lv_aload_n hx hb dX0_findUsable_36 rfl (lv_at hl 0 rfl) ?_
        refine lv_iload_n hx hb dX0_findUsable_37 rfl (lv_at hl 1 rfl) ?_
        refine lv_iload_n hx hb dX0_findUsable_38 rfl (lv_at hl 2 rfl) ?_
        refine y_cI (As := [.int (nI k), .int (nI j)]) (rest := []) C hw (mx_isUsable l D hrr hck hre k j hk hj) (cwV 2 hts (lw_V q132 q134 qs11 q23 q135) rfl rfl rfl (by decide +kernel) ⟨Nat.le_of_ble_eq_true rfl, Nat.le_of_ble_eq_true rfl⟩) rfl rfl rfl rfl hl.1 (Nat.le_of_ble_eq_true rfl) ⟨Nat.zero_le _, Nat.zero_le _⟩ dX0_findUsable_39 (fun r w1 H locs hp hw => ?_) rfl
        obtain ⟨rfl, rfl⟩ := hp
        refine y_ifeq_w hx hb dX0_findUsable_42 (tgt := 57) (by decide) (fun hd => ?_) (fun hd => ?_)
        · refine lv_iinc (v := nI (j + 1)) (lv' := [(2, .int (nI (j + 1))), (0, .ref (h 0)), (1, .int (nI k))]) hx hb dX0_findUsable_57 hl (k := 2) rfl (nI_1 _) (by decide) rfl (fun ls hl => ?_)
          refine lv_goto (tgt := 17) hx hb dX0_findUsable_60 (by decide) ?_
          exact ih2 _ _ _ ⟨_, hw, lv_sub hl [1, 2, 0] rfl, by rw [pf_or_f (p := (fun c => (E k).testBit c && pf_u1 pr pk rr ck re k c)) (by simp [hd])]; exact hv1, hv2⟩
        · refine lv_aload_n hx hb dX0_findUsable_45 rfl (lv_at hl 0 rfl) ?_
          refine xg_us C hw dX0_findUsable_46 ?_
          refine lv_iload_n hx hb dX0_findUsable_49 rfl (lv_at hl 1 rfl) ?_
          refine lv_dup2_11 hx hb dX0_findUsable_50 rfl rfl ?_
          refine xl_us (by omega) C hw dX0_findUsable_51 ?_
          refine y_num hx hb 1 dX0_findUsable_52 rfl ?_
          refine lv_iload_n hx hb dX0_findUsable_53 rfl (lv_at hl 2 rfl) ?_
          refine y_shl1 hx hb (by omega) dX0_findUsable_54 ?_
          refine y_or hx hb dX0_findUsable_55 ?_
          refine xs_us (by omega) C hw dX0_findUsable_56 (fun H locs hw => ?_)
          refine lv_iinc (v := nI (j + 1)) (lv' := [(2, .int (nI (j + 1))), (0, .ref (h 0)), (1, .int (nI k))]) hx hb dX0_findUsable_57 hl (k := 2) rfl (nI_1 _) (by decide) rfl (fun ls hl => ?_)
          refine lv_goto (tgt := 17) hx hb dX0_findUsable_60 (by decide) ?_
          exact ih2 _ _ _ ⟨_, hw, lv_sub hl [1, 2, 0] rfl, by rw [mm_up_s, hv1, pf_or_t (p := (fun c => (E k).testBit c && pf_u1 pr pk rr ck re k c)) (by simp [hc, hd])], fun x hx => by rw [mm_up_n (by omega)]; exact hv2 x hx⟩
    · intro H locs ls hI
      obtain ⟨us3, hw, hl, hv1, hv2⟩ := hI
      refine lv_iload_n hx hb dX0_findUsable_17 rfl (lv_at hl 2 rfl) ?_
      refine y_push hx hb 7 dX0_findUsable_18 rfl ?_
      refine y_ge hx hb (Nat.le_refl _) (by decide) dX0_findUsable_20 (tgt := 63) (by decide) ?_
      refine lv_iinc (v := nI (k + 1)) (lv' := [(1, .int (nI (k + 1))), (0, .ref (h 0)), (2, .int (nI 7))]) hx hb dX0_findUsable_63 hl (k := 1) rfl (nI_1 _) (by decide) rfl (fun ls hl => ?_)
      refine lv_goto (tgt := 2) hx hb dX0_findUsable_66 (by decide) ?_
      exact ih _ _ _ ⟨_, hw, lv_sub hl [1, 0] rfl, fun x hx => by
        by_cases ex : x = k
        · rw [ex, hv1]; rfl
        · exact hv2 x (by omega)⟩
  · intro H locs ls hI
    obtain ⟨us', hw, hl, hus⟩ := hI
    refine lv_iload_n hx hb dX0_findUsable_2 rfl (lv_at hl 1 rfl) ?_
    refine y_push hx hb 7 dX0_findUsable_3 rfl ?_
    refine y_ge hx hb (Nat.le_refl _) (by decide) dX0_findUsable_5 (tgt := 69) (by decide) ?_
    exact y_vret C hw ⟨us', rfl, hus⟩ dX0_findUsable_69
set_option maxHeartbeats 4000000 in
/-- the rows of a block -/
theorem mx_rowsOfBlock (l : Launch) (D : va_G) (hus : ∀ r, r < 7 → us r < 128) (x : Nat) (hx7 : x < 7) : MtI l yX0_rowsOfBlock cX0_rowsOfBlock 6 (some .int) ({ frames := 0, cells := 0, slots := 0, locals := 0 }) D (tyL cI cB cZ) [.ref (h 0), .int (nI x)] (xW cI cB h rdy E pr pk qu cf rr cr rc ck re us) (fun r w => r = nI (pf_B us x 7) ∧ w = (xW cI cB h rdy E pr pk qu cf rr cr rc ck re us)) := by
  refine MtI.of (by decide) (Nat.le_of_ble_eq_true rfl) ?_
  intro p e s m below meth c A ls C hw hl
  obtain ⟨hx, hb, hr, hlk, hml, hown, hts, hK, hA⟩ := id C
  have hl : lv_has ls 6 [(0, .ref (h 0)), (1, .int (nI x))] := hl
  refine y_num hx hb 1 dX0_rowsOfBlock_0 rfl ?_
  refine lv_iload_n hx hb dX0_rowsOfBlock_1 rfl (lv_at hl 1 rfl) ?_
  refine y_shl1 hx hb (by omega) dX0_rowsOfBlock_2 ?_
  refine lv_istore_n (lv' := [(2, .int (nI (2 ^ x))), (0, .ref (h 0)), (1, .int (nI x))]) hx hb dX0_rowsOfBlock_3 rfl hl (by decide) rfl (fun ls hl => ?_)
  refine y_num hx hb 0 dX0_rowsOfBlock_4 rfl ?_
  refine lv_istore_n (lv' := [(3, .int (nI 0)), (2, .int (nI (2 ^ x))), (0, .ref (h 0)), (1, .int (nI x))]) hx hb dX0_rowsOfBlock_5 rfl hl (by decide) rfl (fun ls hl => ?_)
  refine wl_for 7 (fun k H locs ls => XH D A s.heap H locs (xW cI cB h rdy E pr pk qu cf rr cr rc ck re us) ∧ lv_has ls 6 [(0, .ref (h 0)), (1, .int (nI x)), (2, .int (nI (pf_B us x k))), (3, .int (nI k))]) ?_ ?_ 0 (by omega) _ _ _ ⟨hw, lv_sub hl [2, 3, 1, 0] rfl⟩
  · intro k hk H locs ls hI ih
    obtain ⟨hw, hl⟩ := hI
    have hB : pf_B us x k < 128 := pf_B_lt hx7 k
    refine lv_iload_n hx hb dX0_rowsOfBlock_6 rfl (lv_at hl 3 rfl) ?_
    refine y_push hx hb 7 dX0_rowsOfBlock_7 rfl ?_
    refine y_lt hx hb hk (by decide) dX0_rowsOfBlock_9 (tgt := 94) (by decide) ?_
    refine y_num hx hb 0 dX0_rowsOfBlock_12 rfl ?_
    refine lv_istore (lv' := [(4, .int (nI 0)), (0, .ref (h 0)), (1, .int (nI x)), (2, .int (nI (pf_B us x k))), (3, .int (nI k))]) hx hb dX0_rowsOfBlock_13 hl (by decide) rfl (fun ls hl => ?_)
    refine y_num hx hb 0 dX0_rowsOfBlock_15 rfl ?_
    refine lv_istore (lv' := [(5, .int (nI 0)), (4, .int (nI 0)), (0, .ref (h 0)), (1, .int (nI x)), (2, .int (nI (pf_B us x k))), (3, .int (nI k))]) hx hb dX0_rowsOfBlock_16 hl (by decide) rfl (fun ls hl => ?_)
    refine wl_for 7 (fun j H locs ls => XH D A s.heap H locs (xW cI cB h rdy E pr pk qu cf rr cr rc ck re us) ∧ lv_has ls 6 [(0, .ref (h 0)), (1, .int (nI x)), (2, .int (nI (pf_B us x k))), (3, .int (nI k)), (4, .int (nI (pf_or (fun k_1 => (pf_B us x k).testBit k_1) us j))), (5, .int (nI j))]) ?_ ?_ 0 (by omega) _ _ _ ⟨hw, lv_sub hl [2, 3, 4, 5, 1, 0] rfl⟩
    · intro j hj H locs ls hI ih2
      obtain ⟨hw, hl⟩ := hI
      refine lv_iload hx hb dX0_rowsOfBlock_18 (lv_at hl 5 rfl) ?_
      refine y_push hx hb 7 dX0_rowsOfBlock_20 rfl ?_
      refine y_lt hx hb hj (by decide) dX0_rowsOfBlock_22 (tgt := 52) (by decide) ?_
      refine lv_iload_n hx hb dX0_rowsOfBlock_25 rfl (lv_at hl 2 rfl) ?_
      refine lv_iload hx hb dX0_rowsOfBlock_26 (lv_at hl 5 rfl) ?_
      refine y_bit hx hb (by omega) (b31 hB) dX0_rowsOfBlock_28 dX0_rowsOfBlock_29 dX0_rowsOfBlock_30 ?_
      refine y_ifeq_w hx hb dX0_rowsOfBlock_31 (tgt := 46) (by decide) (fun hc => ?_) (fun hc => ?_)
      · refine lv_iinc (v := nI (j + 1)) (lv' := [(5, .int (nI (j + 1))), (0, .ref (h 0)), (1, .int (nI x)), (2, .int (nI (pf_B us x k))), (3, .int (nI k)), (4, .int (nI (pf_or (fun k_1 => (pf_B us x k).testBit k_1) us j)))]) hx hb dX0_rowsOfBlock_46 hl (k := 5) rfl (nI_1 _) (by decide) rfl (fun ls hl => ?_)
        refine lv_goto (tgt := 18) hx hb dX0_rowsOfBlock_49 (by decide) ?_
        exact ih2 _ _ _ ⟨hw, by rw [pf_or_f (p := (fun k_1 => (pf_B us x k).testBit k_1)) (g := us) (n := j) hc]; exact lv_sub hl [1, 2, 3, 4, 5, 0] rfl⟩
      · refine lv_iload hx hb dX0_rowsOfBlock_34 (lv_at hl 4 rfl) ?_
        refine lv_aload_n hx hb dX0_rowsOfBlock_36 rfl (lv_at hl 0 rfl) ?_
        refine xg_us C hw dX0_rowsOfBlock_37 ?_
        refine lv_iload hx hb dX0_rowsOfBlock_40 (lv_at hl 5 rfl) ?_
        refine xl_us (by omega) C hw dX0_rowsOfBlock_42 ?_
        refine y_or hx hb dX0_rowsOfBlock_43 ?_
        refine lv_istore (lv' := [(4, .int (nI ((pf_or (fun k_1 => (pf_B us x k).testBit k_1) us j) ||| (us j)))), (0, .ref (h 0)), (1, .int (nI x)), (2, .int (nI (pf_B us x k))), (3, .int (nI k)), (5, .int (nI j))]) hx hb dX0_rowsOfBlock_44 hl (by decide) rfl (fun ls hl => ?_)
        refine lv_iinc (v := nI (j + 1)) (lv' := [(5, .int (nI (j + 1))), (4, .int (nI ((pf_or (fun k_1 => (pf_B us x k).testBit k_1) us j) ||| (us j)))), (0, .ref (h 0)), (1, .int (nI x)), (2, .int (nI (pf_B us x k))), (3, .int (nI k))]) hx hb dX0_rowsOfBlock_46 hl (k := 5) rfl (nI_1 _) (by decide) rfl (fun ls hl => ?_)
        refine lv_goto (tgt := 18) hx hb dX0_rowsOfBlock_49 (by decide) ?_
        exact ih2 _ _ _ ⟨hw, by rw [pf_or_t (p := (fun k_1 => (pf_B us x k).testBit k_1)) (g := us) (n := j) hc]; exact lv_sub hl [2, 3, 4, 5, 1, 0] rfl⟩
    · intro H locs ls hI
      obtain ⟨hw, hl⟩ := hI
      refine lv_iload hx hb dX0_rowsOfBlock_18 (lv_at hl 5 rfl) ?_
      refine y_push hx hb 7 dX0_rowsOfBlock_20 rfl ?_
      refine y_ge hx hb (Nat.le_refl _) (by decide) dX0_rowsOfBlock_22 (tgt := 52) (by decide) ?_
      refine y_num hx hb 0 dX0_rowsOfBlock_52 rfl ?_
      refine lv_istore (lv' := [(5, .int (nI 0)), (0, .ref (h 0)), (1, .int (nI x)), (2, .int (nI (pf_B us x k))), (3, .int (nI k)), (4, .int (nI (pf_or (fun k_1 => (pf_B us x k).testBit k_1) us 7)))]) hx hb dX0_rowsOfBlock_53 hl (by decide) rfl (fun ls hl => ?_)
      have hbc : pf_bc us (pf_B us x k) < 128 := pf_or_lt 7 (fun i hi _ => hus i hi)
      have hl : lv_has ls 6 [(0, .ref (h 0)), (1, .int (nI x)), (2, .int (nI (pf_B us x k ||| pf_or (fun k_1 => decide (us k_1 &&& pf_bc us (pf_B us x k) ≠ 0)) (fun k => 2 ^ k) 0))), (3, .int (nI k)), (4, .int (nI (pf_bc us (pf_B us x k)))), (5, .int (nI 0))] := by rw [pf_or, Nat.or_zero]; exact lv_sub hl [1, 2, 3, 4, 5, 0] rfl
      refine wl_for 7 (fun i H locs ls => XH D A s.heap H locs (xW cI cB h rdy E pr pk qu cf rr cr rc ck re us) ∧ lv_has ls 6 [(0, .ref (h 0)), (1, .int (nI x)), (2, .int (nI (pf_B us x k ||| pf_or (fun k_1 => decide (us k_1 &&& pf_bc us (pf_B us x k) ≠ 0)) (fun k => 2 ^ k) i))), (3, .int (nI k)), (4, .int (nI (pf_bc us (pf_B us x k)))), (5, .int (nI i))]) ?_ ?_ 0 (by omega) _ _ _ ⟨hw, lv_sub hl [0, 1, 2, 3, 4, 5] rfl⟩
      · intro i hi H locs ls hI ih3
        obtain ⟨hw, hl⟩ := hI
        refine lv_iload hx hb dX0_rowsOfBlock_55 (lv_at hl 5 rfl) ?_
        refine y_push hx hb 7 dX0_rowsOfBlock_57 rfl ?_
        refine y_lt hx hb hi (by decide) dX0_rowsOfBlock_59 (tgt := 88) (by decide) ?_
        refine lv_aload_n hx hb dX0_rowsOfBlock_62 rfl (lv_at hl 0 rfl) ?_
        refine xg_us C hw dX0_rowsOfBlock_63 ?_
        refine lv_iload hx hb dX0_rowsOfBlock_66 (lv_at hl 5 rfl) ?_
        refine xl_us (by omega) C hw dX0_rowsOfBlock_68 ?_
        refine lv_iload hx hb dX0_rowsOfBlock_69 (lv_at hl 4 rfl) ?_
        refine y_and hx hb dX0_rowsOfBlock_71 ?_
        refine y_ifeq_n hx hb (b31 (Nat.lt_of_le_of_lt Nat.and_le_left (hus i hi))) dX0_rowsOfBlock_72 (tgt := 82) (by decide) (fun hc => ?_) (fun hc => ?_)
        · refine lv_iinc (v := nI (i + 1)) (lv' := [(5, .int (nI (i + 1))), (0, .ref (h 0)), (1, .int (nI x)), (2, .int (nI (pf_B us x k ||| pf_or (fun k_1 => decide (us k_1 &&& pf_bc us (pf_B us x k) ≠ 0)) (fun k => 2 ^ k) i))), (3, .int (nI k)), (4, .int (nI (pf_bc us (pf_B us x k))))]) hx hb dX0_rowsOfBlock_82 hl (k := 5) rfl (nI_1 _) (by decide) rfl (fun ls hl => ?_)
          refine lv_goto (tgt := 55) hx hb dX0_rowsOfBlock_85 (by decide) ?_
          exact ih3 _ _ _ ⟨hw, by rw [pf_or_f (p := (fun k_1 => decide (us k_1 &&& pf_bc us (pf_B us x k) ≠ 0))) (g := fun k => 2 ^ k) (n := i) (by simp [hc])]; exact lv_sub hl [1, 2, 3, 4, 5, 0] rfl⟩
        · refine lv_iload_n hx hb dX0_rowsOfBlock_75 rfl (lv_at hl 2 rfl) ?_
          refine y_num hx hb 1 dX0_rowsOfBlock_76 rfl ?_
          refine lv_iload hx hb dX0_rowsOfBlock_77 (lv_at hl 5 rfl) ?_
          refine y_shl1 hx hb (by omega) dX0_rowsOfBlock_79 ?_
          refine y_or hx hb dX0_rowsOfBlock_80 ?_
          refine lv_istore_n (lv' := [(2, .int (nI ((pf_B us x k ||| pf_or (fun k_1 => decide (us k_1 &&& pf_bc us (pf_B us x k) ≠ 0)) (fun k => 2 ^ k) i) ||| (2 ^ i)))), (0, .ref (h 0)), (1, .int (nI x)), (3, .int (nI k)), (4, .int (nI (pf_bc us (pf_B us x k)))), (5, .int (nI i))]) hx hb dX0_rowsOfBlock_81 rfl hl (by decide) rfl (fun ls hl => ?_)
          refine lv_iinc (v := nI (i + 1)) (lv' := [(5, .int (nI (i + 1))), (2, .int (nI ((pf_B us x k ||| pf_or (fun k_1 => decide (us k_1 &&& pf_bc us (pf_B us x k) ≠ 0)) (fun k => 2 ^ k) i) ||| (2 ^ i)))), (0, .ref (h 0)), (1, .int (nI x)), (3, .int (nI k)), (4, .int (nI (pf_bc us (pf_B us x k))))]) hx hb dX0_rowsOfBlock_82 hl (k := 5) rfl (nI_1 _) (by decide) rfl (fun ls hl => ?_)
          refine lv_goto (tgt := 55) hx hb dX0_rowsOfBlock_85 (by decide) ?_
          exact ih3 _ _ _ ⟨hw, by rw [pf_or_t (p := (fun k_1 => decide (us k_1 &&& pf_bc us (pf_B us x k) ≠ 0))) (g := fun k => 2 ^ k) (n := i) (by simp [hc]), ← Nat.or_assoc]; exact lv_sub hl [2, 3, 1, 4, 5, 0] rfl⟩
      · intro H locs ls hI
        obtain ⟨hw, hl⟩ := hI
        refine lv_iload hx hb dX0_rowsOfBlock_55 (lv_at hl 5 rfl) ?_
        refine y_push hx hb 7 dX0_rowsOfBlock_57 rfl ?_
        refine y_ge hx hb (Nat.le_refl _) (by decide) dX0_rowsOfBlock_59 (tgt := 88) (by decide) ?_
        refine lv_iinc (v := nI (k + 1)) (lv' := [(3, .int (nI (k + 1))), (0, .ref (h 0)), (1, .int (nI x)), (2, .int (nI (pf_B us x k ||| pf_or (fun k_1 => decide (us k_1 &&& pf_bc us (pf_B us x k) ≠ 0)) (fun k => 2 ^ k) 7))), (4, .int (nI (pf_bc us (pf_B us x k)))), (5, .int (nI 7))]) hx hb dX0_rowsOfBlock_88 hl (k := 3) rfl (nI_1 _) (by decide) rfl (fun ls hl => ?_)
        refine lv_goto (tgt := 6) hx hb dX0_rowsOfBlock_91 (by decide) ?_
        exact ih _ _ _ ⟨hw, lv_sub hl [1, 2, 3, 0] rfl⟩
  · intro H locs ls hI
    obtain ⟨hw, hl⟩ := hI
    refine lv_iload_n hx hb dX0_rowsOfBlock_6 rfl (lv_at hl 3 rfl) ?_
    refine y_push hx hb 7 dX0_rowsOfBlock_7 rfl ?_
    refine y_ge hx hb (Nat.le_refl _) (by decide) dX0_rowsOfBlock_9 (tgt := 94) (by decide) ?_
    refine lv_iload_n hx hb dX0_rowsOfBlock_94 rfl (lv_at hl 2 rfl) ?_
    exact y_iret C hw ⟨rfl, rfl⟩ dX0_rowsOfBlock_95
end X0B
end
section
/-! PURE PART 6: turning a path, the search, giving couples up -/
/-- a path back from a column to the start, by cameFrom and the partners of rows -/
def tp_P (G : Nat → Nat → Bool) (pr cf : Nat → Nat) (start last : Nat) (K : Nat → Prop) (rk : Nat → Nat) : Prop :=
  last < 7 ∧ K last ∧ ∀ c, c < 7 → K c → cf c < 7 ∧ G (cf c) c = true ∧ rk (cf c) < 7 ∧ (cf c = start ∨ (pr (cf c) < 7 ∧ K (pr (cf c)) ∧ rk (cf (pr (cf c))) < rk (cf c)))
/-- while it is turned: column c is free, all else is a matching of the old size -/
def tp_J (G : Nat → Nat → Bool) (pr cf : Nat → Nat) (start : Nat) (K : Nat → Prop) (rk : Nat → Nat) (k c : Nat) (pr' pk' : Nat → Nat) : Prop :=
  c < 7 ∧ K c ∧ mm_M G pr' ∧ (∀ x, x < 7 → pr' x ≠ c) ∧ (∀ r, r < 7 → pr' r < 7 → pk' (pr' r) = r) ∧ (∀ d, d < 7 → d ≠ c → pk' d < 7 → pr' (pk' d) = d) ∧ (∀ x, x < 7 → rk x ≤ rk (cf c) → pr' x = pr x) ∧ mm_S pr' = mm_S pr ∧ ¬ pr' start < 7 ∧ rk (cf c) + k < 7
theorem tp_end {G : Nat → Nat → Bool} {pr cf : Nat → Nat} {start last : Nat} {K : Nat → Prop} {rk : Nat → Nat} {k c : Nat} {pr' pk' : Nat → Nat} (hP : tp_P G pr cf start last K rk) (hs : start < 7) (hJ : tp_J G pr cf start K rk k c pr' pk') (he : cf c = start) :
    mm_M G (mm_up pr' (cf c) c) ∧ mm_I (mm_up pr' (cf c) c) (mm_up pk' c (cf c)) ∧ mm_S (mm_up pr' (cf c) c) = mm_S pr + 1 := by
  obtain ⟨hc, hK, j1, j2, j3, j3', j4, j5, j6, j7⟩ := hJ
  obtain ⟨g1, g2, g3, -⟩ := hP.2.2 c hc hK
  rw [he] at g1 g2 ⊢
  refine ⟨mm_M_put j1 g2 j2, ⟨fun x hx hf => ?_, fun d hd hf => ?_⟩, by rw [mm_S_new hs j6 hc, j5]⟩
  · by_cases ex : x = start
    · rw [ex, mm_up_s, mm_up_s]
    · rw [mm_up_n ex] at hf ⊢
      rw [mm_up_n (j2 x hx)]
      exact j3 x hx hf
  · by_cases ed : d = c
    · rw [ed, mm_up_s, mm_up_s]
    · rw [mm_up_n ed] at hf ⊢
      have e := j3' d hd ed hf
      have ey : pk' d ≠ start := fun q => by
        rw [q] at e
        exact j6 (by rw [e]; exact hd)
      rw [mm_up_n ey]
      exact e
theorem tp_go {G : Nat → Nat → Bool} {pr cf : Nat → Nat} {start last : Nat} {K : Nat → Prop} {rk : Nat → Nat} {k c : Nat} {pr' pk' : Nat → Nat} (hP : tp_P G pr cf start last K rk) (hJ : tp_J G pr cf start K rk k c pr' pk') (he : cf c ≠ start) :
    pr' (cf c) < 7 ∧ tp_J G pr cf start K rk (k + 1) (pr' (cf c)) (mm_up pr' (cf c) c) (mm_up pk' c (cf c)) := by
  obtain ⟨hc, hK, j1, j2, j3, j3', j4, j5, j6, j7⟩ := hJ
  obtain ⟨g1, g2, g3, g4⟩ := hP.2.2 c hc hK
  obtain ⟨g5, g6, g7⟩ := g4.resolve_left he
  have eb : pr' (cf c) = pr (cf c) := j4 (cf c) g1 (Nat.le_refl _)
  rw [← eb] at g5 g6 g7
  have hne : c ≠ pr' (cf c) := fun q => j2 (cf c) g1 q.symm
  refine ⟨g5, g5, g6, mm_M_put j1 g2 j2, fun x hx e => ?_, fun x hx hf => ?_, fun d hd hdn hf => ?_, fun x hx hk => ?_, by rw [mm_S_same g5 hc, j5], ?_, by omega⟩
  · by_cases ex : x = cf c
    · rw [ex, mm_up_s] at e
      exact hne e
    · rw [mm_up_n ex] at e
      exact ex (j1.2 x (cf c) hx g1 (by rw [e]; exact g5) e)
  · by_cases ex : x = cf c
    · rw [ex, mm_up_s, mm_up_s]
    · rw [mm_up_n ex] at hf ⊢
      rw [mm_up_n (j2 x hx)]
      exact j3 x hx hf
  · by_cases ed : d = c
    · rw [ed, mm_up_s, mm_up_s]
    · rw [mm_up_n ed] at hf ⊢
      have e := j3' d hd ed hf
      have ey : pk' d ≠ cf c := fun q => by
        rw [q] at e
        exact hdn e.symm
      rw [mm_up_n ey]
      exact e
  · have ex : x ≠ cf c := fun q => by
      rw [q] at hk
      omega
    rw [mm_up_n ex]
    exact j4 x hx (by omega)
  · rw [mm_up_n (fun q => he q.symm)]
    exact j6
theorem tp_start {G : Nat → Nat → Bool} {pr pk cf : Nat → Nat} {start last : Nat} {K : Nat → Prop} {rk : Nat → Nat} (hM : mm_M G pr) (hI : mm_I pr pk) (hs : ¬ pr start < 7) (hl : ¬ pk last < 7) (hP : tp_P G pr cf start last K rk) : tp_J G pr cf start K rk 0 last pr pk := by
  refine ⟨hP.1, hP.2.1, hM, fun x hx e => ?_, hI.1, fun d hd _ hf => hI.2 d hd hf, fun _ _ _ => rfl, rfl, hs, (hP.2.2 last hP.1 hP.2.1).2.2.1⟩
  have := hI.1 x hx (by rw [e]; exact hP.1)
  rw [e] at this
  exact hl (by rw [this]; exact hx)
/-- the search: rows in the queue up to en, those before a done; the columns seen -/
def ag_I (G : Nat → Nat → Bool) (pr pk : Nat → Nat) (start a en seen : Nat) (qu cf : Nat → Nat) : Prop :=
  1 ≤ en ∧ en ≤ 7 ∧ a ≤ en ∧ seen < 128 ∧ qu 0 = start ∧ (∀ i, i < en → qu i < 7) ∧ (∀ i j, i < en → j < en → qu i = qu j → i = j) ∧
  (∀ i, 0 < i → i < en → pr (qu i) < 7 ∧ seen.testBit (pr (qu i)) = true ∧ ∃ j, j < i ∧ qu j = cf (pr (qu i))) ∧
  (∀ c, c < 7 → seen.testBit c = true → pk c < 7 ∧ (∃ i, i < en ∧ qu i = pk c) ∧ G (cf c) c = true ∧ ∃ i, i < en ∧ qu i = cf c) ∧
  ∀ i, i < a → ∀ c, c < 7 → G (qu i) c = true → seen.testBit c = true
theorem ag_start {G : Nat → Nat → Bool} {pr pk : Nat → Nat} {start : Nat} (hs : start < 7) (qu cf : Nat → Nat) : ag_I G pr pk start 0 1 0 (mm_up qu 0 start) cf := by
  refine ⟨Nat.le_refl 1, by omega, by omega, by decide, mm_up_s _ _ _, fun i hi => ?_, fun i j hi hj _ => by omega, fun i h1 h2 => by omega, fun c _ h => ?_, fun i hi => by omega⟩
  · rw [show i = 0 by omega, mm_up_s]
    exact hs
  · rw [Nat.zero_testBit] at h
    cases h
theorem ag_next {G : Nat → Nat → Bool} {pr pk : Nat → Nat} {start a en seen : Nat} {qu cf : Nat → Nat} (h : ag_I G pr pk start a en seen qu cf) (ha : a < en) (hd : ∀ c, c < 7 → G (qu a) c = true → seen.testBit c = true) : ag_I G pr pk start (a + 1) en seen qu cf := by
  obtain ⟨h1, h2, h3, h4, h5, h6, h7, h8, h9, h10⟩ := h
  refine ⟨h1, h2, by omega, h4, h5, h6, h7, h8, h9, fun i hi => ?_⟩
  by_cases e : i = a
  · rw [e]; exact hd
  · exact h10 i (by omega)
theorem ag_or_bit {seen j c : Nat} : (seen ||| 2 ^ j).testBit c = true ↔ seen.testBit c = true ∨ c = j := by
  rw [Nat.testBit_or, Bool.or_eq_true, Nat.testBit_two_pow, decide_eq_true_eq]
  exact ⟨fun h => h.imp id Eq.symm, fun h => h.imp id Eq.symm⟩
theorem mm_cnt_true : ∀ n, mm_cnt (fun _ => true) n = n
  | 0 => rfl
  | n + 1 => by rw [mm_cnt, mm_cnt_true n, if_pos rfl]
/-- a column's partner isn't in the queue if the column wasn't seen -/
theorem ag_fresh {G : Nat → Nat → Bool} {pr pk : Nat → Nat} {start a en seen : Nat} {qu cf : Nat → Nat} (h : ag_I G pr pk start a en seen qu cf) (hI : mm_I pr pk) (hs : ¬ pr start < 7) {j : Nat} (hj : j < 7) (hn : seen.testBit j = false) (hp : pk j < 7) : ∀ i, i < en → qu i ≠ pk j := by
  obtain ⟨h1, h2, h3, h4, h5, h6, h7, h8, h9, h10⟩ := h
  intro i hi e
  have ej := hI.2 j hj hp
  by_cases e0 : i = 0
  · rw [e0, h5] at e
    rw [← e] at ej
    exact hs (by rw [ej]; exact hj)
  · have := (h8 i (by omega) hi).2.1
    rw [e, ej, hn] at this
    cases this
theorem ag_push {G : Nat → Nat → Bool} {pr pk : Nat → Nat} {start a en seen : Nat} {qu cf : Nat → Nat} (h : ag_I G pr pk start a en seen qu cf) (hI : mm_I pr pk) (hs : ¬ pr start < 7) (ha : a < en) {j : Nat} (hj : j < 7) (hg : G (qu a) j = true) (hn : seen.testBit j = false) (hp : pk j < 7) :
    en < 7 ∧ ag_I G pr pk start a (en + 1) (seen ||| 2 ^ j) (mm_up qu en (pk j)) (mm_up cf j (qu a)) := by
  have hf := ag_fresh h hI hs hj hn hp
  obtain ⟨h1, h2, h3, h4, h5, h6, h7, h8, h9, h10⟩ := h
  have q6 : ∀ i, i < en + 1 → mm_up qu en (pk j) i < 7 := fun i hi => by
    by_cases e : i = en
    · rw [e, mm_up_s]; exact hp
    · rw [mm_up_n e]; exact h6 i (by omega)
  have q7 : ∀ i k, i < en + 1 → k < en + 1 → mm_up qu en (pk j) i = mm_up qu en (pk j) k → i = k := fun i k hi hk e => by
    by_cases e1 : i = en <;> by_cases e2 : k = en
    · omega
    · rw [e1, mm_up_s, mm_up_n e2] at e
      exact absurd e.symm (hf k (by omega))
    · rw [e2, mm_up_s, mm_up_n e1] at e
      exact absurd e (hf i (by omega))
    · rw [mm_up_n e1, mm_up_n e2] at e
      exact h7 i k (by omega) (by omega) e
  have hen : en < 7 := by
    have := mm_inj (fun _ => true) (mm_up qu en (pk j)) 7 (en + 1) (fun _ => true) (fun i hi _ => ⟨q6 i hi, rfl⟩) (fun i k hi hk _ _ e => q7 i k hi hk e)
    rw [mm_cnt_true, mm_cnt_true] at this
    omega
  have ej := hI.2 j hj hp
  refine ⟨hen, by omega, by omega, by omega, Nat.or_lt_two_pow (n := 7) h4 (mm_two_lt hj), by rw [mm_up_n (by omega)]; exact h5, q6, q7, fun i hi0 hi => ?_, fun c hc hb => ?_, fun i hi c hc hgc => ?_⟩
  · by_cases e : i = en
    · rw [e, mm_up_s, ej]
      exact ⟨hj, ag_or_bit.mpr (Or.inr rfl), a, by omega, by rw [mm_up_s, mm_up_n (by omega)]⟩
    · rw [mm_up_n e]
      obtain ⟨b1, b2, k, b3, b4⟩ := h8 i hi0 (by omega)
      have hne : pr (qu i) ≠ j := fun q => by rw [q, hn] at b2; cases b2
      exact ⟨b1, ag_or_bit.mpr (Or.inl b2), k, b3, by rw [mm_up_n (by omega), mm_up_n hne]; exact b4⟩
  · by_cases e : c = j
    · rw [e, mm_up_s]
      exact ⟨hp, ⟨en, by omega, mm_up_s _ _ _⟩, hg, a, by omega, by rw [mm_up_n (by omega)]⟩
    · rw [mm_up_n e]
      obtain ⟨b1, ⟨k, b2, b3⟩, b4, k', b5, b6⟩ := h9 c hc ((ag_or_bit.mp hb).resolve_right e)
      exact ⟨b1, ⟨k, by omega, by rw [mm_up_n (by omega)]; exact b3⟩, b4, k', by omega, by rw [mm_up_n (by omega)]; exact b6⟩
  · rw [mm_up_n (by omega)] at hgc
    exact ag_or_bit.mpr (Or.inl (h10 i hi c hc hgc))
/-- a free column was found: there is a path back -/
theorem ag_found {G : Nat → Nat → Bool} {pr pk : Nat → Nat} {start a en seen : Nat} {qu cf : Nat → Nat} (h : ag_I G pr pk start a en seen qu cf) (ha : a < en) {j : Nat} (hj : j < 7) (hg : G (qu a) j = true) (hn : seen.testBit j = false) :
    ∃ (K : Nat → Prop) (rk : Nat → Nat), tp_P G pr (mm_up cf j (qu a)) start j K rk := by
  obtain ⟨h1, h2, h3, h4, h5, h6, h7, h8, h9, h10⟩ := h
  have key : ∀ x : Nat, ∃ i : Nat, (∃ k, k < en ∧ qu k = x) → i < en ∧ qu i = x := by
    intro x
    by_cases e : ∃ k, k < en ∧ qu k = x
    · obtain ⟨k, hk⟩ := e
      exact ⟨k, fun _ => hk⟩
    · exact ⟨0, fun q => absurd q e⟩
  obtain ⟨rk, hrk⟩ := Classical.axiomOfChoice key
  have hr : ∀ i, i < en → rk (qu i) = i := fun i hi => by
    obtain ⟨b1, b2⟩ := hrk (qu i) ⟨i, hi, rfl⟩
    exact h7 _ i b1 hi b2
  have row : ∀ i, i < en → qu i = start ∨ (pr (qu i) < 7 ∧ (seen.testBit (pr (qu i)) = true ∨ pr (qu i) = j) ∧ rk (mm_up cf j (qu a) (pr (qu i))) < rk (qu i)) := fun i hi => by
    by_cases e0 : i = 0
    · exact Or.inl (by rw [e0]; exact h5)
    · obtain ⟨b1, b2, k, b3, b4⟩ := h8 i (by omega) hi
      have hne : pr (qu i) ≠ j := fun q => by rw [q, hn] at b2; cases b2
      refine Or.inr ⟨b1, Or.inl b2, ?_⟩
      rw [mm_up_n hne, ← b4, hr k (by omega), hr i hi]
      exact b3
  refine ⟨fun c => seen.testBit c = true ∨ c = j, rk, hj, Or.inr rfl, fun c hc hK => ?_⟩
  by_cases e : c = j
  · rw [e, mm_up_s]
    exact ⟨h6 a ha, hg, by rw [hr a ha]; omega, row a ha⟩
  · rw [mm_up_n e]
    obtain ⟨b1, b2, b4, k', b5, b6⟩ := h9 c hc (hK.resolve_right e)
    rw [← b6] at b4 ⊢
    exact ⟨h6 k' b5, b4, by rw [hr k' b5]; omega, row k' b5⟩
theorem ag_done {G : Nat → Nat → Bool} {pr pk : Nat → Nat} {start a en seen : Nat} {qu cf : Nat → Nat} (h : ag_I G pr pk start a en seen qu cf) (he : en ≤ a) : ∃ Z : Nat → Prop, Z start ∧ ∀ x c, x < 7 → c < 7 → Z x → G x c = true → pk c < 7 ∧ Z (pk c) := by
  obtain ⟨h1, h2, h3, h4, h5, h6, h7, h8, h9, h10⟩ := h
  refine ⟨fun x => ∃ i, i < en ∧ qu i = x, ⟨0, by omega, h5⟩, fun x c hx hc hz hg => ?_⟩
  obtain ⟨i, hi, e⟩ := hz
  obtain ⟨b1, b2, -⟩ := h9 c hc (h10 i (by omega) c hc (by rw [e]; exact hg))
  exact ⟨b1, b2⟩
/-- the test of the search: an edge to a column not seen -/
theorem ag_test {x seen j : Nat} : ((x ^^^ (x &&& seen)) &&& 2 ^ j) ≠ 0 ↔ x.testBit j = true ∧ seen.testBit j = false := by
  rw [pf_and_ne]
  constructor
  · rintro ⟨i, h1, h2⟩
    rw [Nat.testBit_two_pow, decide_eq_true_eq] at h2
    rw [← h2, Nat.testBit_xor, Nat.testBit_and] at h1
    revert h1
    cases x.testBit j <;> cases seen.testBit j <;> simp
  · rintro ⟨h1, h2⟩
    exact ⟨j, by rw [Nat.testBit_xor, Nat.testBit_and, h1, h2]; rfl, pf_self_bit j⟩
/-- a couple is given up -/
theorem dr_I {pr pk : Nat → Nat} (h : mm_I pr pk) {k : Nat} (hk : k < 7) (hc : pr k < 7) : mm_I (mm_up pr k 7) (mm_up pk (pr k) 7) := by
  refine ⟨fun r hr hf => ?_, fun d hd hf => ?_⟩
  · have e : r ≠ k := fun q => by rw [q, mm_up_s] at hf; omega
    rw [mm_up_n e] at hf ⊢
    have hne : pr r ≠ pr k := fun q => by
      have a := h.1 r hr hf
      rw [q, h.1 k hk hc] at a
      exact e a.symm
    rw [mm_up_n hne]
    exact h.1 r hr hf
  · have e : d ≠ pr k := fun q => by rw [q, mm_up_s] at hf; omega
    rw [mm_up_n e] at hf ⊢
    have hne : pk d ≠ k := fun q => by
      have a := h.2 d hd hf
      rw [q] at a
      exact e a.symm
    rw [mm_up_n hne]
    exact h.2 d hd hf
theorem dr_M {G : Nat → Nat → Bool} {pr pk : Nat → Nat} (h : mm_I pr pk) (he : ∀ r, r < 7 → pr r < 7 → G r (pr r) = true) : mm_M G pr := ⟨he, fun r r' hr hr' hf e => by rw [← h.1 r hr hf, e]; exact h.1 r' hr' (by rw [← e]; exact hf)⟩
/-- what a search round that found nothing says -/
theorem dr_Mx {G : Nat → Nat → Bool} {pr pk : Nat → Nat} (h : ∀ r, r < 7 → ¬ pr r < 7 → ∃ Z : Nat → Prop, Z r ∧ ∀ x c, x < 7 → c < 7 → Z x → G x c = true → pk c < 7 ∧ Z (pk c)) : pf_Mx G pr pk := by
  refine ⟨fun x => ∃ r, r < 7 ∧ ∃ Z : Nat → Prop, Z r ∧ (∀ x c, x < 7 → c < 7 → Z x → G x c = true → pk c < 7 ∧ Z (pk c)) ∧ Z x, fun r hr hf => ?_, fun x c hx hc hz hg => ?_⟩
  · obtain ⟨Z, z1, z2⟩ := h r hr hf
    exact ⟨r, hr, Z, z1, z2, z1⟩
  · obtain ⟨r, hr, Z, z1, z2, z3⟩ := hz
    obtain ⟨a, b⟩ := z2 x c hx hc z3 hg
    exact ⟨a, r, hr, Z, z1, z2, b⟩
end
section
/-! DmDecomposer: turnPath, augment, prepare (printed by gen_x0c.py) -/
set_option maxRecDepth 100000
section X0C
variable {cI cB cZ : ClassId} {h : Nat → Nat} {rdy : Bool} {E pr pk qu cf : Nat → Nat} {rr cr rc ck : Nat} {re us : Nat → Nat}
set_option maxHeartbeats 4000000 in
/-- a path is turned: the matching is one larger -/
theorem mx_turnPath (l : Launch) (D : va_G) (hM : mm_M (pf_G E) pr) (hI : mm_I pr pk) (start last : Nat) (hs : start < 7) (hs2 : ¬ pr start < 7) (hl2 : ¬ pk last < 7) {K : Nat → Prop} {rk : Nat → Nat} (hP : tp_P (pf_G E) pr cf start last K rk) : MtV l yX0_turnPath cX0_turnPath 7 ({ frames := 0, cells := 0, slots := 0, locals := 0 }) D (tyL cI cB cZ) [.ref (h 0), .int (nI last), .int (nI start)] (xW cI cB h rdy E pr pk qu cf rr cr rc ck re us) (fun w => ∃ (pr' pk' : Nat → Nat), w = (xW cI cB h rdy E pr' pk' qu cf rr cr rc ck re us) ∧ mm_M (pf_G E) pr' ∧ mm_I pr' pk' ∧ mm_S pr' = mm_S pr + 1) := by
  refine MtV.of (by decide) (Nat.le_of_ble_eq_true rfl) ?_
  intro p e s m below meth c A ls C hw hl
  obtain ⟨hx, hb, hr, hlk, hml, hown, hts, hK, hA⟩ := id C
  have hl : lv_has ls 7 [(0, .ref (h 0)), (1, .int (nI last)), (2, .int (nI start))] := hl
  refine lv_iload_n hx hb dX0_turnPath_0 rfl (lv_at hl 1 rfl) ?_
  refine lv_istore_n (lv' := [(3, .int (nI last)), (0, .ref (h 0)), (1, .int (nI last)), (2, .int (nI start))]) hx hb dX0_turnPath_1 rfl hl (by decide) rfl (fun ls hl => ?_)
  refine y_num hx hb 0 dX0_turnPath_2 rfl ?_
  refine lv_istore (lv' := [(4, .int (nI 0)), (3, .int (nI last)), (0, .ref (h 0)), (1, .int (nI last)), (2, .int (nI start))]) hx hb dX0_turnPath_3 hl (by decide) rfl (fun ls hl => ?_)
  refine wl_for 7 (fun k H locs ls => ∃ (d : Nat), ∃ (pr' : Nat → Nat), ∃ (pk' : Nat → Nat), XH D A s.heap H locs (xW cI cB h rdy E pr' pk' qu cf rr cr rc ck re us) ∧ lv_has ls 7 [(0, .ref (h 0)), (1, .int (nI last)), (2, .int (nI start)), (3, .int (nI d)), (4, .int (nI k))] ∧ (tp_J (pf_G E) pr cf start K rk k d pr' pk')) ?_ ?_ 0 (by omega) _ _ _ ⟨last, pr, pk, hw, lv_sub hl [2, 3, 4, 1, 0] rfl, tp_start hM hI hs2 hl2 hP⟩
  · intro k hk H locs ls hI ih
    obtain ⟨d, pr', pk', hw, hl, hJ⟩ := hI
    have hc7 : d < 7 := hJ.1
    have hf7 : cf d < 7 := (hP.2.2 d hc7 hJ.2.1).1
    refine lv_iload hx hb dX0_turnPath_5 (lv_at hl 4 rfl) ?_
    refine y_push hx hb 7 dX0_turnPath_7 rfl ?_
    refine y_lt hx hb hk (by decide) dX0_turnPath_9 (tgt := 63) (by decide) ?_
    refine lv_aload_n hx hb dX0_turnPath_12 rfl (lv_at hl 0 rfl) ?_
    refine xg_cf C hw dX0_turnPath_13 ?_
    refine lv_iload_n hx hb dX0_turnPath_16 rfl (lv_at hl 3 rfl) ?_
    refine xl_cf (by omega) C hw dX0_turnPath_17 ?_
    refine lv_istore (lv' := [(5, .int (nI (cf d))), (0, .ref (h 0)), (1, .int (nI last)), (2, .int (nI start)), (3, .int (nI d)), (4, .int (nI k))]) hx hb dX0_turnPath_18 hl (by decide) rfl (fun ls hl => ?_)
    refine lv_aload_n hx hb dX0_turnPath_20 rfl (lv_at hl 1 rfl) ?_
    refine xg_pr C hw dX0_turnPath_21 ?_
    refine lv_iload hx hb dX0_turnPath_24 (lv_at hl 0 rfl) ?_
    refine xl_pr (by omega) C hw dX0_turnPath_26 ?_
    refine lv_istore (lv' := [(6, .int (nB (pr' (cf d)))), (5, .int (nI (cf d))), (0, .ref (h 0)), (1, .int (nI last)), (2, .int (nI start)), (3, .int (nI d)), (4, .int (nI k))]) hx hb dX0_turnPath_27 hl (by decide) rfl (fun ls hl => ?_)
    refine lv_aload_n hx hb dX0_turnPath_29 rfl (lv_at hl 2 rfl) ?_
    refine xg_pr C hw dX0_turnPath_30 ?_
    refine lv_iload hx hb dX0_turnPath_33 (lv_at hl 1 rfl) ?_
    refine lv_iload_n hx hb dX0_turnPath_35 rfl (lv_at hl 5 rfl) ?_
    refine lv_i2b (v := nB d) hx hb dX0_turnPath_36 (by rw [n_B (by omega)]; exact n_byte _ (by omega)) ?_
    refine xs_pr (by omega) C hw dX0_turnPath_37 (fun H locs hw => ?_)
    refine lv_aload_n hx hb dX0_turnPath_38 rfl (lv_at hl 2 rfl) ?_
    refine xg_pk C hw dX0_turnPath_39 ?_
    refine lv_iload_n hx hb dX0_turnPath_42 rfl (lv_at hl 5 rfl) ?_
    refine lv_iload hx hb dX0_turnPath_43 (lv_at hl 1 rfl) ?_
    refine lv_i2b (v := nB (cf d)) hx hb dX0_turnPath_45 (by rw [n_B (by omega)]; exact n_byte _ (by omega)) ?_
    refine xs_pk (by omega) C hw dX0_turnPath_46 (fun H locs hw => ?_)
    refine lv_iload hx hb dX0_turnPath_47 (lv_at hl 1 rfl) ?_
    refine lv_iload_n hx hb dX0_turnPath_49 rfl (lv_at hl 4 rfl) ?_
    refine y_icmpne hx hb (by omega) (by omega) dX0_turnPath_50 (tgt := 54) (by decide) (fun hc => ?_) (fun hc => ?_)
    · obtain ⟨hg7, hJ2⟩ := tp_go hP hJ hc
      refine lv_iload hx hb dX0_turnPath_54 (lv_at hl 0 rfl) ?_
      rw [n_B hg7]
      refine lv_istore_n (lv' := [(3, .int (nI (pr' (cf d)))), (6, .int (nB (pr' (cf d)))), (5, .int (nI (cf d))), (0, .ref (h 0)), (1, .int (nI last)), (2, .int (nI start)), (4, .int (nI k))]) hx hb dX0_turnPath_56 rfl hl (by decide) rfl (fun ls hl => ?_)
      refine lv_iinc (v := nI (k + 1)) (lv' := [(4, .int (nI (k + 1))), (3, .int (nI (pr' (cf d)))), (6, .int (nB (pr' (cf d)))), (5, .int (nI (cf d))), (0, .ref (h 0)), (1, .int (nI last)), (2, .int (nI start))]) hx hb dX0_turnPath_57 hl (k := 6) rfl (nI_1 _) (by decide) rfl (fun ls hl => ?_)
      refine lv_goto (tgt := 5) hx hb dX0_turnPath_60 (by decide) ?_
      exact ih _ _ _ ⟨_, _, _, hw, lv_sub hl [4, 5, 6, 1, 0] rfl, hJ2⟩
    · exact y_vret C hw ⟨_, _, rfl, tp_end hP hs hJ hc⟩ dX0_turnPath_53
  · intro H locs ls hI
    obtain ⟨d, pr', pk', hw, hl, hJ⟩ := hI
    have q := hJ.2.2.2.2.2.2.2.2.2
    exact absurd q (by omega)
set_option maxHeartbeats 4000000 in
/-- the search for a longer matching -/
theorem mx_augment (l : Launch) (D : va_G) (hE : ∀ r, E r < 128) (hM : mm_M (pf_G E) pr) (hI : mm_I pr pk) (start : Nat) (hs : start < 7) (hs2 : ¬ pr start < 7) : MtI l yX0_augment cX0_augment 7 (some .boolean) ({ frames := 1, cells := 0, slots := 0, locals := 26 }) D (tyL cI cB cZ) [.ref (h 0), .int (nI start)] (xW cI cB h rdy E pr pk qu cf rr cr rc ck re us) (fun r w => ∃ (b : Bool) (pr' pk' qu' cf' : Nat → Nat), r = wI b ∧ w = (xW cI cB h rdy E pr' pk' qu' cf' rr cr rc ck re us) ∧ (b = true → mm_M (pf_G E) pr' ∧ mm_I pr' pk' ∧ mm_S pr' = mm_S pr + 1) ∧ (b = false → pr' = pr ∧ pk' = pk ∧ ∃ Z : Nat → Prop, Z start ∧ ∀ x c, x < 7 → c < 7 → Z x → pf_G E x c = true → pk c < 7 ∧ Z (pk c))) := by
  refine MtI.of (by decide) (Nat.le_of_ble_eq_true rfl) ?_
  intro p e s m below meth c A ls C hw hl
  obtain ⟨hx, hb, hr, hlk, hml, hown, hts, hK, hA⟩ := id C
  have hl : lv_has ls 7 [(0, .ref (h 0)), (1, .int (nI start))] := hl
  refine y_num hx hb 1 dX0_augment_0 rfl ?_
  refine lv_istore_n (lv' := [(2, .int (nI 1)), (0, .ref (h 0)), (1, .int (nI start))]) hx hb dX0_augment_1 rfl hl (by decide) rfl (fun ls hl => ?_)
  refine y_num hx hb 0 dX0_augment_2 rfl ?_
  refine lv_istore_n (lv' := [(3, .int (nI 0)), (2, .int (nI 1)), (0, .ref (h 0)), (1, .int (nI start))]) hx hb dX0_augment_3 rfl hl (by decide) rfl (fun ls hl => ?_)
  refine lv_aload_n hx hb dX0_augment_4 rfl (lv_at hl 2 rfl) ?_
  refine xg_qu C hw dX0_augment_5 ?_
  refine y_num hx hb 0 dX0_augment_8 rfl ?_
  refine lv_iload_n hx hb dX0_augment_9 rfl (lv_at hl 3 rfl) ?_
  refine lv_i2b (v := nI start) hx hb dX0_augment_10 (n_byte _ (by omega)) ?_
  refine xs_qu (by omega) (by omega) C hw dX0_augment_11 (fun H locs hw => ?_)
  refine y_num hx hb 0 dX0_augment_12 rfl ?_
  refine lv_istore (lv' := [(4, .int (nI 0)), (3, .int (nI 0)), (2, .int (nI 1)), (0, .ref (h 0)), (1, .int (nI start))]) hx hb dX0_augment_13 hl (by decide) rfl (fun ls hl => ?_)
  refine wl_for 7 (fun a H locs ls => ∃ (en : Nat), ∃ (seen : Nat), ∃ (qu' : Nat → Nat), ∃ (cf' : Nat → Nat), XH D A s.heap H locs (xW cI cB h rdy E pr pk qu' cf' rr cr rc ck re us) ∧ lv_has ls 7 [(0, .ref (h 0)), (1, .int (nI start)), (2, .int (nI en)), (3, .int (nI seen)), (4, .int (nI a))] ∧ (ag_I (pf_G E) pr pk start a en seen qu' cf')) ?_ ?_ 0 (by omega) _ _ _ ⟨1, 0, _, _, hw, lv_sub hl [3, 4, 2, 1, 0] rfl, ag_start hs qu cf⟩
  · intro a ha H locs ls hI ih
    obtain ⟨en, seen, qu', cf', hw, hl, hG⟩ := hI
    have hen : en ≤ 7 := hG.2.1
    refine lv_iload hx hb dX0_augment_15 (lv_at hl 4 rfl) ?_
    refine lv_iload_n hx hb dX0_augment_17 rfl (lv_at hl 2 rfl) ?_
    refine y_icmpge hx hb (by omega) (by omega) dX0_augment_18 (tgt := 126) (by decide) (fun hc => ?_) (fun hc => ?_)
    · refine lv_iconst (v := wI false) hx hb dX0_augment_126 rfl ?_
      exact y_zret C hw ⟨false, _, _, _, _, rfl, rfl, fun q => absurd q Bool.false_ne_true, fun _ => ⟨rfl, rfl, ag_done hG hc⟩⟩ dX0_augment_127
    · have hr7 : qu' a < 7 := hG.2.2.2.2.2.1 a hc
      refine lv_aload_n hx hb dX0_augment_21 rfl (lv_at hl 0 rfl) ?_
      refine xg_qu C hw dX0_augment_22 ?_
      refine lv_iload hx hb dX0_augment_25 (lv_at hl 4 rfl) ?_
      refine xl_qu (by omega) C hw dX0_augment_27 ?_
      refine lv_istore (lv' := [(5, .int (nI (qu' a))), (0, .ref (h 0)), (1, .int (nI start)), (2, .int (nI en)), (3, .int (nI seen)), (4, .int (nI a))]) hx hb dX0_augment_28 hl (by decide) rfl (fun ls hl => ?_)
      refine y_num hx hb 0 dX0_augment_30 rfl ?_
      refine lv_istore (lv' := [(6, .int (nI 0)), (5, .int (nI (qu' a))), (0, .ref (h 0)), (1, .int (nI start)), (2, .int (nI en)), (3, .int (nI seen)), (4, .int (nI a))]) hx hb dX0_augment_31 hl (by decide) rfl (fun ls hl => ?_)
      refine wl_for 7 (fun j H locs ls => ∃ (en2 : Nat), ∃ (seen2 : Nat), ∃ (qu2 : Nat → Nat), ∃ (cf2 : Nat → Nat), XH D A s.heap H locs (xW cI cB h rdy E pr pk qu2 cf2 rr cr rc ck re us) ∧ lv_has ls 7 [(0, .ref (h 0)), (1, .int (nI start)), (2, .int (nI en2)), (3, .int (nI seen2)), (4, .int (nI a)), (5, .int (nI (qu' a))), (6, .int (nI j))] ∧ (ag_I (pf_G E) pr pk start a en2 seen2 qu2 cf2) ∧ (a < en2) ∧ (qu2 a = qu' a) ∧ (∀ x, x < j → pf_G E (qu' a) x = true → seen2.testBit x = true)) ?_ ?_ 0 (by omega) _ _ _ ⟨en, seen, qu', cf', hw, lv_sub hl [2, 3, 4, 5, 6, 1, 0] rfl, hG, hc, rfl, fun x hx => absurd hx (Nat.not_lt_zero x)⟩
      · intro j hj H locs ls hI ih2
        obtain ⟨en2, seen2, qu2, cf2, hw, hl, hG2, ha2, hqa, hdn⟩ := hI
        have hen2 : en2 ≤ 7 := hG2.2.1
        refine lv_iload hx hb dX0_augment_33 (lv_at hl 6 rfl) ?_
        refine y_push hx hb 7 dX0_augment_35 rfl ?_
        refine y_lt hx hb hj (by decide) dX0_augment_37 (tgt := 120) (by decide) ?_
        refine lv_aload_n hx hb dX0_augment_40 rfl (lv_at hl 0 rfl) ?_
        refine xg_E C hw dX0_augment_41 ?_
        refine lv_iload hx hb dX0_augment_44 (lv_at hl 5 rfl) ?_
        refine xl_E (by omega) C hw dX0_augment_46 ?_
        refine lv_iload_n hx hb dX0_augment_47 rfl (lv_at hl 3 rfl) ?_
        refine y_nand hx hb dX0_augment_48 dX0_augment_49 dX0_augment_50 ?_
        refine y_num hx hb 1 dX0_augment_51 rfl ?_
        refine lv_iload hx hb dX0_augment_52 (lv_at hl 6 rfl) ?_
        refine y_shl1 hx hb (by omega) dX0_augment_54 ?_
        refine y_and hx hb dX0_augment_55 ?_
        refine y_ifne_n hx hb (b31 (Nat.lt_of_le_of_lt Nat.and_le_right (mm_two_lt hj))) dX0_augment_56 (tgt := 62) (by decide) (fun hd => ?_) (fun hd => ?_)
        · obtain ⟨hg1, hg2⟩ := ag_test.mp hd
          have hg1 : pf_G E (qu2 a) j = true := by rw [hqa]; exact hg1
          refine lv_iload_n hx hb dX0_augment_62 rfl (lv_at hl 3 rfl) ?_
          refine y_num hx hb 1 dX0_augment_63 rfl ?_
          refine lv_iload hx hb dX0_augment_64 (lv_at hl 6 rfl) ?_
          refine y_shl1 hx hb (by omega) dX0_augment_66 ?_
          refine y_or hx hb dX0_augment_67 ?_
          refine lv_istore_n (lv' := [(3, .int (nI (seen2 ||| (2 ^ j)))), (0, .ref (h 0)), (1, .int (nI start)), (2, .int (nI en2)), (4, .int (nI a)), (5, .int (nI (qu' a))), (6, .int (nI j))]) hx hb dX0_augment_68 rfl hl (by decide) rfl (fun ls hl => ?_)
          refine lv_aload_n hx hb dX0_augment_69 rfl (lv_at hl 1 rfl) ?_
          refine xg_cf C hw dX0_augment_70 ?_
          refine lv_iload hx hb dX0_augment_73 (lv_at hl 6 rfl) ?_
          refine lv_iload hx hb dX0_augment_75 (lv_at hl 5 rfl) ?_
          refine lv_i2b (v := nI (qu' a)) hx hb dX0_augment_77 (n_byte _ (by omega)) ?_
          refine xs_cf (by omega) (by omega) C hw dX0_augment_78 (fun H locs hw => ?_)
          refine lv_aload_n hx hb dX0_augment_79 rfl (lv_at hl 1 rfl) ?_
          refine xg_pk C hw dX0_augment_80 ?_
          refine lv_iload hx hb dX0_augment_83 (lv_at hl 6 rfl) ?_
          refine xl_pk (by omega) C hw dX0_augment_85 ?_
          refine y_ifge_B hx hb dX0_augment_86 (tgt := 98) (by decide) (fun hp => ?_) (fun hp => ?_)
          · obtain ⟨hn7, hG3⟩ := ag_push hG2 hI hs2 ha2 hj hg1 hg2 hp
            refine lv_aload_n hx hb dX0_augment_98 rfl (lv_at hl 1 rfl) ?_
            refine xg_qu C hw dX0_augment_99 ?_
            refine lv_iload_n hx hb dX0_augment_102 rfl (lv_at hl 3 rfl) ?_
            refine lv_aload_n hx hb dX0_augment_103 rfl (lv_at hl 1 rfl) ?_
            refine xg_pk C hw dX0_augment_104 ?_
            refine lv_iload hx hb dX0_augment_107 (lv_at hl 6 rfl) ?_
            refine xl_pk (by omega) C hw dX0_augment_109 ?_
            rw [n_B hp]
            refine xs_qu (by omega) (by omega) C hw dX0_augment_110 (fun H locs hw => ?_)
            refine lv_iinc (v := nI (en2 + 1)) (lv' := [(2, .int (nI (en2 + 1))), (3, .int (nI (seen2 ||| (2 ^ j)))), (0, .ref (h 0)), (1, .int (nI start)), (4, .int (nI a)), (5, .int (nI (qu' a))), (6, .int (nI j))]) hx hb dX0_augment_111 hl (k := 3) rfl (nI_1 _) (by decide) rfl (fun ls hl => ?_)
            refine lv_iinc (v := nI (j + 1)) (lv' := [(6, .int (nI (j + 1))), (2, .int (nI (en2 + 1))), (3, .int (nI (seen2 ||| (2 ^ j)))), (0, .ref (h 0)), (1, .int (nI start)), (4, .int (nI a)), (5, .int (nI (qu' a)))]) hx hb dX0_augment_114 hl (k := 6) rfl (nI_1 _) (by decide) rfl (fun ls hl => ?_)
            refine lv_goto (tgt := 33) hx hb dX0_augment_117 (by decide) ?_
            rw [hqa] at hG3
            exact ih2 _ _ _ ⟨_, _, _, _, hw, lv_sub hl [3, 4, 1, 2, 5, 6, 0] rfl, hG3, by omega, by rw [mm_up_n (by omega)]; exact hqa, fun x hx hg => by
              by_cases e : x = j
              · exact ag_or_bit.mpr (Or.inr e)
              · exact ag_or_bit.mpr (Or.inl (hdn x (by omega) hg))⟩
          · obtain ⟨K, rk, hP⟩ := ag_found hG2 ha2 hj hg1 hg2
            rw [hqa] at hP
            refine lv_aload_n hx hb dX0_augment_89 rfl (lv_at hl 1 rfl) ?_
            refine lv_iload hx hb dX0_augment_90 (lv_at hl 6 rfl) ?_
            refine lv_iload_n hx hb dX0_augment_92 rfl (lv_at hl 2 rfl) ?_
            refine y_cV (As := [.int (nI j), .int (nI start)]) (rest := []) C hw (mx_turnPath l D hM hI start j hs hs2 hp hP) (cwV 2 hts (lw_V q100 q102 qs3 q23 q103) rfl rfl rfl (by decide +kernel) ⟨Nat.le_of_ble_eq_true rfl, Nat.le_of_ble_eq_true rfl⟩) rfl rfl rfl rfl hl.1 (Nat.le_of_ble_eq_true rfl) ⟨Nat.zero_le _, Nat.zero_le _⟩ dX0_augment_93 (fun w1 H locs hp hw => ?_) rfl
            obtain ⟨pr', pk', rfl, hq1⟩ := hp
            refine lv_iconst (v := wI true) hx hb dX0_augment_96 rfl ?_
            exact y_zret C hw ⟨true, _, _, _, _, rfl, rfl, fun _ => hq1, fun q => absurd q.symm Bool.false_ne_true⟩ dX0_augment_97
        · refine lv_goto (tgt := 114) hx hb dX0_augment_59 (by decide) ?_
          refine lv_iinc (v := nI (j + 1)) (lv' := [(6, .int (nI (j + 1))), (0, .ref (h 0)), (1, .int (nI start)), (2, .int (nI en2)), (3, .int (nI seen2)), (4, .int (nI a)), (5, .int (nI (qu' a)))]) hx hb dX0_augment_114 hl (k := 6) rfl (nI_1 _) (by decide) rfl (fun ls hl => ?_)
          refine lv_goto (tgt := 33) hx hb dX0_augment_117 (by decide) ?_
          exact ih2 _ _ _ ⟨_, _, _, _, hw, lv_sub hl [1, 2, 3, 4, 5, 6, 0] rfl, hG2, ha2, hqa, fun x hx hg => by
            by_cases e : x = j
            · rw [e]
              refine Classical.byContradiction fun q => absurd hd (ag_test.mpr ⟨by rw [← e]; exact hg, by simpa using q⟩)
            · exact hdn x (by omega) hg⟩
      · intro H locs ls hI
        obtain ⟨en2, seen2, qu2, cf2, hw, hl, hG2, ha2, hqa, hdn⟩ := hI
        refine lv_iload hx hb dX0_augment_33 (lv_at hl 6 rfl) ?_
        refine y_push hx hb 7 dX0_augment_35 rfl ?_
        refine y_ge hx hb (Nat.le_refl _) (by decide) dX0_augment_37 (tgt := 120) (by decide) ?_
        refine lv_iinc (v := nI (a + 1)) (lv' := [(4, .int (nI (a + 1))), (0, .ref (h 0)), (1, .int (nI start)), (2, .int (nI en2)), (3, .int (nI seen2)), (5, .int (nI (qu' a))), (6, .int (nI 7))]) hx hb dX0_augment_120 hl (k := 4) rfl (nI_1 _) (by decide) rfl (fun ls hl => ?_)
        refine lv_goto (tgt := 15) hx hb dX0_augment_123 (by decide) ?_
        exact ih _ _ _ ⟨_, _, _, _, hw, lv_sub hl [1, 2, 3, 4, 0] rfl, ag_next hG2 ha2 (fun x hx hg => hdn x hx (by rw [← hqa]; exact hg))⟩
  · intro H locs ls hI
    obtain ⟨en, seen, qu', cf', hw, hl, hG⟩ := hI
    have hc : en ≤ 7 := hG.2.1
    refine lv_iload hx hb dX0_augment_15 (lv_at hl 4 rfl) ?_
    refine lv_iload_n hx hb dX0_augment_17 rfl (lv_at hl 2 rfl) ?_
    refine y_ge hx hb hc (by decide) dX0_augment_18 (tgt := 126) (by decide) ?_
    refine lv_iconst (v := wI false) hx hb dX0_augment_126 rfl ?_
    exact y_zret C hw ⟨false, _, _, _, _, rfl, rfl, fun q => absurd q Bool.false_ne_true, fun _ => ⟨rfl, rfl, ag_done hG hc⟩⟩ dX0_augment_127
/-- what holds of the class between two calls -/
def xInv (rdy : Bool) (E pr pk : Nat → Nat) (rr cr ck : Nat) (re us : Nat → Nat) : Prop := (∀ r, E r < 128) ∧ mm_I pr pk ∧ (rdy = true → pf_Ok E pr pk rr cr ck re us)
set_option maxHeartbeats 4000000 in
/-- the largest matching and all that is read off it -/
theorem mx_prepare (l : Launch) (D : va_G) (hv : xInv rdy E pr pk rr cr ck re us) : MtV l yX0_prepare cX0_prepare 4 ({ frames := 3, cells := 0, slots := 0, locals := 68 }) D (tyL cI cB cZ) [.ref (h 0)] (xW cI cB h rdy E pr pk qu cf rr cr rc ck re us) (fun w => ∃ (pr' pk' qu' cf' : Nat → Nat) (rr' cr' rc' ck' : Nat) (re' us' : Nat → Nat), w = (xW cI cB h true E pr' pk' qu' cf' rr' cr' rc' ck' re' us') ∧ xInv true E pr' pk' rr' cr' ck' re' us') := by
  refine MtV.of (by decide) (Nat.le_of_ble_eq_true rfl) ?_
  intro p e s m below meth c A ls C hw hl
  obtain ⟨hx, hb, hr, hlk, hml, hown, hts, hK, hA⟩ := id C
  have hl : lv_has ls 4 [(0, .ref (h 0))] := hl
  obtain ⟨hE, hI, hok⟩ := id hv
  refine lv_aload_n hx hb dX0_prepare_0 rfl (lv_at hl 0 rfl) ?_
  refine xg_rdy C hw dX0_prepare_1 ?_
  refine y_ifeq_w hx hb dX0_prepare_4 (tgt := 8) (by decide) (fun hc => ?_) (fun hc => ?_)
  · refine lv_aload_n hx hb dX0_prepare_8 rfl (lv_at hl 0 rfl) ?_
    refine y_num hx hb 1 dX0_prepare_9 rfl ?_
    refine xp_rdy (b := true) C hw dX0_prepare_10 (fun H locs hw => ?_)
    refine y_num hx hb 0 dX0_prepare_13 rfl ?_
    refine lv_istore_n (lv' := [(1, .int (nI 0)), (0, .ref (h 0))]) hx hb dX0_prepare_14 rfl hl (by decide) rfl (fun ls hl => ?_)
    have tail : ∀ (pr2 pk2 qu2 cf2 : Nat → Nat) (H : Heap) (locs : List Loc) (ls : Array Slot), XH D A s.heap H locs (xW cI cB h true E pr2 pk2 qu2 cf2 rr cr rc ck re us) → mm_M (pf_G E) pr2 → mm_I pr2 pk2 → pf_Mx (pf_G E) pr2 pk2 → lv_has ls 4 [(0, .ref (h 0))] → W p l e ({ frames := 3, cells := 0, slots := 0, locals := 68 }) s m ([.ref (h 0)] : List Value).toArray below meth c H locs 0 0 (EndV below D (tyL cI cB cZ) A ([.ref (h 0)] : List Value).toArray s (fun w => ∃ (pr' pk' qu' cf' : Nat → Nat) (rr' cr' rc' ck' : Nat) (re' us' : Nat → Nat), w = (xW cI cB h true E pr' pk' qu' cf' rr' cr' rc' ck' re' us') ∧ xInv true E pr' pk' rr' cr' ck' re' us')) (F0 m 123 ls []) := by
      intro pr2 pk2 qu2 cf2 H locs ls hw hM2 hI2 hX2 hl
      refine lv_aload_n hx hb dX0_prepare_123 rfl (lv_at hl 0 rfl) ?_
      refine y_cV (As := []) (rest := []) C hw (mx_findReach l D hE) (cwV 0 hts (lw_V q104 q106 qs4 q23 q107) rfl rfl rfl (by decide +kernel) ⟨Nat.le_of_ble_eq_true rfl, Nat.le_of_ble_eq_true rfl⟩) rfl rfl rfl rfl hl.1 (Nat.le_of_ble_eq_true rfl) ⟨Nat.zero_le _, Nat.zero_le _⟩ dX0_prepare_124 (fun w1 H locs hp hw => ?_) rfl
      obtain ⟨rc', re', rfl, hre⟩ := hp
      refine lv_aload_n hx hb dX0_prepare_127 rfl (lv_at hl 0 rfl) ?_
      refine y_cV (As := []) (rest := []) C hw (mx_findUsable l D hE (pf_R_lt _ _ _ _) (pf_C_lt _ _ _ _) (fun r hr => by rw [hre r hr]; exact pf_W_lt _ _ _ _)) (cwV 0 hts (lw_V q128 q130 qs10 q23 q131) rfl rfl rfl (by decide +kernel) ⟨Nat.le_of_ble_eq_true rfl, Nat.le_of_ble_eq_true rfl⟩) rfl rfl rfl rfl hl.1 (Nat.le_of_ble_eq_true rfl) ⟨Nat.zero_le _, Nat.zero_le _⟩ dX0_prepare_128 (fun w1 H locs hp hw => ?_) rfl
      obtain ⟨us', rfl, hus⟩ := hp
      exact y_vret C hw ⟨_, _, _, _, _, _, _, _, _, _, rfl, hE, hI2, fun _ => ⟨hM2, hI2, hX2, rfl, rfl, rfl, hre, hus⟩⟩ dX0_prepare_131
    refine wl_for 7 (fun k H locs ls => ∃ (pr' : Nat → Nat), ∃ (pk' : Nat → Nat), XH D A s.heap H locs (xW cI cB h true E pr' pk' qu cf rr cr rc ck re us) ∧ lv_has ls 4 [(0, .ref (h 0)), (1, .int (nI k))] ∧ (mm_I pr' pk') ∧ (∀ x, x < k → pr' x < 7 → pf_G E x (pr' x) = true)) ?_ ?_ 0 (by omega) _ _ _ ⟨pr, pk, hw, lv_sub hl [1, 0] rfl, hI, fun x hx => absurd hx (Nat.not_lt_zero x)⟩
    · intro k hk H locs ls hI ih
      obtain ⟨pr', pk', hw, hl, hI', he⟩ := hI
      refine lv_iload_n hx hb dX0_prepare_15 rfl (lv_at hl 1 rfl) ?_
      refine y_push hx hb 7 dX0_prepare_16 rfl ?_
      refine y_lt hx hb hk (by decide) dX0_prepare_18 (tgt := 68) (by decide) ?_
      refine lv_aload_n hx hb dX0_prepare_21 rfl (lv_at hl 0 rfl) ?_
      refine xg_pr C hw dX0_prepare_22 ?_
      refine lv_iload_n hx hb dX0_prepare_25 rfl (lv_at hl 1 rfl) ?_
      refine xl_pr (by omega) C hw dX0_prepare_26 ?_
      refine lv_istore_n (lv' := [(2, .int (nB (pr' k))), (0, .ref (h 0)), (1, .int (nI k))]) hx hb dX0_prepare_27 rfl hl (by decide) rfl (fun ls hl => ?_)
      refine lv_iload_n hx hb dX0_prepare_28 rfl (lv_at hl 0 rfl) ?_
      refine y_iflt_B hx hb dX0_prepare_29 (tgt := 62) (by decide) (fun hc1 => ?_) (fun hc1 => ?_)
      · refine lv_iinc (v := nI (k + 1)) (lv' := [(1, .int (nI (k + 1))), (2, .int (nB (pr' k))), (0, .ref (h 0))]) hx hb dX0_prepare_62 hl (k := 2) rfl (nI_1 _) (by decide) rfl (fun ls hl => ?_)
        refine lv_goto (tgt := 15) hx hb dX0_prepare_65 (by decide) ?_
        exact ih _ _ _ ⟨_, _, hw, lv_sub hl [2, 0] rfl, hI', fun x hx hf => by
          by_cases e : x = k
          · rw [e] at hf; exact absurd hf hc1
          · exact he x (by omega) hf⟩
      · refine lv_aload_n hx hb dX0_prepare_32 rfl (lv_at hl 1 rfl) ?_
        refine xg_E C hw dX0_prepare_33 ?_
        refine lv_iload_n hx hb dX0_prepare_36 rfl (lv_at hl 2 rfl) ?_
        refine xl_E (by omega) C hw dX0_prepare_37 ?_
        refine lv_iload_n hx hb dX0_prepare_38 rfl (lv_at hl 0 rfl) ?_
        rw [n_B hc1]
        refine y_bit hx hb (by omega) (b31 (hE _)) dX0_prepare_39 dX0_prepare_40 dX0_prepare_41 ?_
        refine y_ifeq_w hx hb dX0_prepare_42 (tgt := 48) (by decide) (fun hc2 => ?_) (fun hc2 => ?_)
        · refine lv_aload_n hx hb dX0_prepare_48 rfl (lv_at hl 1 rfl) ?_
          refine xg_pr C hw dX0_prepare_49 ?_
          refine lv_iload_n hx hb dX0_prepare_52 rfl (lv_at hl 2 rfl) ?_
          refine lv_iconst (v := nB 7) hx hb dX0_prepare_53 (by decide) ?_
          refine xs_pr (by omega) C hw dX0_prepare_54 (fun H locs hw => ?_)
          refine lv_aload_n hx hb dX0_prepare_55 rfl (lv_at hl 1 rfl) ?_
          refine xg_pk C hw dX0_prepare_56 ?_
          refine lv_iload_n hx hb dX0_prepare_59 rfl (lv_at hl 0 rfl) ?_
          rw [n_B hc1]
          refine lv_iconst (v := nB 7) hx hb dX0_prepare_60 (by decide) ?_
          refine xs_pk (by omega) C hw dX0_prepare_61 (fun H locs hw => ?_)
          refine lv_iinc (v := nI (k + 1)) (lv' := [(1, .int (nI (k + 1))), (2, .int (nB (pr' k))), (0, .ref (h 0))]) hx hb dX0_prepare_62 hl (k := 2) rfl (nI_1 _) (by decide) rfl (fun ls hl => ?_)
          refine lv_goto (tgt := 15) hx hb dX0_prepare_65 (by decide) ?_
          exact ih _ _ _ ⟨_, _, hw, lv_sub hl [2, 0] rfl, dr_I hI' hk hc1, fun x hx hf => by
            by_cases e : x = k
            · rw [e, mm_up_s] at hf; omega
            · rw [mm_up_n e] at hf ⊢; exact he x (by omega) hf⟩
        · refine lv_goto (tgt := 62) hx hb dX0_prepare_45 (by decide) ?_
          refine lv_iinc (v := nI (k + 1)) (lv' := [(1, .int (nI (k + 1))), (2, .int (nB (pr' k))), (0, .ref (h 0))]) hx hb dX0_prepare_62 hl (k := 2) rfl (nI_1 _) (by decide) rfl (fun ls hl => ?_)
          refine lv_goto (tgt := 15) hx hb dX0_prepare_65 (by decide) ?_
          exact ih _ _ _ ⟨_, _, hw, lv_sub hl [2, 0] rfl, hI', fun x hx hf => by
            by_cases e : x = k
            · rw [e]; exact hc2
            · exact he x (by omega) hf⟩
    · intro H locs ls hI
      obtain ⟨pr', pk', hw, hl, hI', he⟩ := hI
      have hM' : mm_M (pf_G E) pr' := dr_M hI' he
      refine lv_iload_n hx hb dX0_prepare_15 rfl (lv_at hl 1 rfl) ?_
      refine y_push hx hb 7 dX0_prepare_16 rfl ?_
      refine y_ge hx hb (Nat.le_refl _) (by decide) dX0_prepare_18 (tgt := 68) (by decide) ?_
      refine lv_iconst (v := wI true) hx hb dX0_prepare_68 rfl ?_
      refine lv_istore_n (lv' := [(1, .int (wI true)), (0, .ref (h 0))]) hx hb dX0_prepare_69 rfl hl (by decide) rfl (fun ls hl => ?_)
      refine y_num hx hb 0 dX0_prepare_70 rfl ?_
      refine lv_istore_n (lv' := [(2, .int (nI 0)), (1, .int (wI true)), (0, .ref (h 0))]) hx hb dX0_prepare_71 rfl hl (by decide) rfl (fun ls hl => ?_)
      refine wl_for 8 (fun k H locs ls => ∃ (bb : Bool), ∃ (pr2 : Nat → Nat), ∃ (pk2 : Nat → Nat), ∃ (qu2 : Nat → Nat), ∃ (cf2 : Nat → Nat), XH D A s.heap H locs (xW cI cB h true E pr2 pk2 qu2 cf2 rr cr rc ck re us) ∧ lv_has ls 4 [(0, .ref (h 0)), (1, .int (wI bb)), (2, .int (nI k))] ∧ (mm_M (pf_G E) pr2) ∧ (mm_I pr2 pk2) ∧ (bb = true → k ≤ mm_S pr2) ∧ (bb = false → pf_Mx (pf_G E) pr2 pk2)) ?_ ?_ 0 (by omega) _ _ _ ⟨true, pr', pk', qu, cf, hw, lv_sub hl [2, 1, 0] rfl, hM', hI', fun _ => Nat.zero_le _, fun q => absurd q.symm Bool.false_ne_true⟩
      · intro k hk H locs ls hI ih
        obtain ⟨bb, pr2, pk2, qu2, cf2, hw, hl, hM2, hI2, h1, h0⟩ := hI
        refine lv_iload_n hx hb dX0_prepare_72 rfl (lv_at hl 2 rfl) ?_
        refine y_push hx hb 8 dX0_prepare_73 rfl ?_
        refine y_lt hx hb hk (by decide) dX0_prepare_75 (tgt := 123) (by decide) ?_
        refine lv_iload_n hx hb dX0_prepare_78 rfl (lv_at hl 1 rfl) ?_
        refine y_ifeq_w hx hb dX0_prepare_79 (tgt := 123) (by decide) (fun hb1 => ?_) (fun hb1 => ?_)
        · exact tail _ _ _ _ _ _ _ hw hM2 hI2 (h0 hb1) (lv_sub hl [0] rfl)
        · have hk1 := h1 hb1
          refine lv_iconst (v := wI false) hx hb dX0_prepare_82 rfl ?_
          refine lv_istore_n (lv' := [(1, .int (wI false)), (0, .ref (h 0)), (2, .int (nI k))]) hx hb dX0_prepare_83 rfl hl (by decide) rfl (fun ls hl => ?_)
          refine y_num hx hb 0 dX0_prepare_84 rfl ?_
          refine lv_istore_n (lv' := [(3, .int (nI 0)), (1, .int (wI false)), (0, .ref (h 0)), (2, .int (nI k))]) hx hb dX0_prepare_85 rfl hl (by decide) rfl (fun ls hl => ?_)
          refine wl_for 7 (fun j H locs ls => ∃ (b3 : Bool), ∃ (pr3 : Nat → Nat), ∃ (pk3 : Nat → Nat), ∃ (qu3 : Nat → Nat), ∃ (cf3 : Nat → Nat), XH D A s.heap H locs (xW cI cB h true E pr3 pk3 qu3 cf3 rr cr rc ck re us) ∧ lv_has ls 4 [(0, .ref (h 0)), (1, .int (wI b3)), (2, .int (nI k)), (3, .int (nI j))] ∧ (mm_M (pf_G E) pr3) ∧ (mm_I pr3 pk3) ∧ (b3 = true → mm_S pr2 + 1 ≤ mm_S pr3) ∧ (b3 = false → pr3 = pr2 ∧ pk3 = pk2 ∧ ∀ x, x < j → ¬ pr2 x < 7 → ∃ Z : Nat → Prop, Z x ∧ ∀ x c, x < 7 → c < 7 → Z x → pf_G E x c = true → pk2 c < 7 ∧ Z (pk2 c))) ?_ ?_ 0 (by omega) _ _ _ ⟨false, pr2, pk2, qu2, cf2, hw, lv_sub hl [2, 1, 3, 0] rfl, hM2, hI2, fun q => absurd q Bool.false_ne_true, fun _ => ⟨rfl, rfl, fun x hx => absurd hx (Nat.not_lt_zero x)⟩⟩
          · intro j hj H locs ls hI ih2
            obtain ⟨b3, pr3, pk3, qu3, cf3, hw, hl, hM3, hI3, g1, g0⟩ := hI
            refine lv_iload_n hx hb dX0_prepare_86 rfl (lv_at hl 3 rfl) ?_
            refine y_push hx hb 7 dX0_prepare_87 rfl ?_
            refine y_lt hx hb hj (by decide) dX0_prepare_89 (tgt := 117) (by decide) ?_
            refine lv_aload_n hx hb dX0_prepare_92 rfl (lv_at hl 0 rfl) ?_
            refine xg_pr C hw dX0_prepare_93 ?_
            refine lv_iload_n hx hb dX0_prepare_96 rfl (lv_at hl 3 rfl) ?_
            refine xl_pr (by omega) C hw dX0_prepare_97 ?_
            refine y_ifge_B hx hb dX0_prepare_98 (tgt := 111) (by decide) (fun hc1 => ?_) (fun hc1 => ?_)
            · refine lv_iinc (v := nI (j + 1)) (lv' := [(3, .int (nI (j + 1))), (0, .ref (h 0)), (1, .int (wI b3)), (2, .int (nI k))]) hx hb dX0_prepare_111 hl (k := 3) rfl (nI_1 _) (by decide) rfl (fun ls hl => ?_)
              refine lv_goto (tgt := 86) hx hb dX0_prepare_114 (by decide) ?_
              exact ih2 _ _ _ ⟨_, _, _, _, _, hw, lv_sub hl [1, 2, 3, 0] rfl, hM3, hI3, g1, fun q => ⟨(g0 q).1, (g0 q).2.1, fun x hx hf => by
                by_cases e : x = j
                · rw [e, ← (g0 q).1] at hf; exact absurd hc1 hf
                · exact (g0 q).2.2 x (by omega) hf⟩⟩
            · refine lv_aload_n hx hb dX0_prepare_101 rfl (lv_at hl 0 rfl) ?_
              refine lv_iload_n hx hb dX0_prepare_102 rfl (lv_at hl 3 rfl) ?_
              refine y_cI (As := [.int (nI j)]) (rest := []) C hw (mx_augment l D hE hM3 hI3 j hj hc1) (cwV 1 hts (lw_V q96 q98 qs2 q23 q99) rfl rfl rfl (by decide +kernel) ⟨Nat.le_of_ble_eq_true rfl, Nat.le_of_ble_eq_true rfl⟩) rfl rfl rfl rfl hl.1 (Nat.le_of_ble_eq_true rfl) ⟨Nat.zero_le _, Nat.zero_le _⟩ dX0_prepare_103 (fun r w1 H locs hp hw => ?_) rfl
              obtain ⟨b4, pr4, pk4, qu4, cf4, rfl, rfl, k1, k0⟩ := hp
              refine y_ifeq_w hx hb dX0_prepare_106 (tgt := 111) (by decide) (fun hb4 => ?_) (fun hb4 => ?_)
              · obtain ⟨e1, e2, hZ⟩ := k0 hb4
                rw [e1, e2] at hw
                refine lv_iinc (v := nI (j + 1)) (lv' := [(3, .int (nI (j + 1))), (0, .ref (h 0)), (1, .int (wI b3)), (2, .int (nI k))]) hx hb dX0_prepare_111 hl (k := 3) rfl (nI_1 _) (by decide) rfl (fun ls hl => ?_)
                refine lv_goto (tgt := 86) hx hb dX0_prepare_114 (by decide) ?_
                exact ih2 _ _ _ ⟨_, _, _, _, _, hw, lv_sub hl [1, 2, 3, 0] rfl, hM3, hI3, g1, fun q => ⟨(g0 q).1, (g0 q).2.1, fun x hx hf => by
                  by_cases e : x = j
                  · rw [e, ← (g0 q).2.1]; exact hZ
                  · exact (g0 q).2.2 x (by omega) hf⟩⟩
              · obtain ⟨m1, m2, m3⟩ := k1 hb4
                refine lv_iconst (v := wI true) hx hb dX0_prepare_109 rfl ?_
                refine lv_istore_n (lv' := [(1, .int (wI true)), (0, .ref (h 0)), (2, .int (nI k)), (3, .int (nI j))]) hx hb dX0_prepare_110 rfl hl (by decide) rfl (fun ls hl => ?_)
                refine lv_iinc (v := nI (j + 1)) (lv' := [(3, .int (nI (j + 1))), (1, .int (wI true)), (0, .ref (h 0)), (2, .int (nI k))]) hx hb dX0_prepare_111 hl (k := 3) rfl (nI_1 _) (by decide) rfl (fun ls hl => ?_)
                refine lv_goto (tgt := 86) hx hb dX0_prepare_114 (by decide) ?_
                exact ih2 _ _ _ ⟨_, _, _, _, _, hw, lv_sub hl [2, 1, 3, 0] rfl, m1, m2, fun _ => by
                  cases hb3 : b3 with
                  | true => have := g1 hb3; omega
                  | false => rw [m3, (g0 hb3).1]; omega, fun q => absurd q.symm Bool.false_ne_true⟩
          · intro H locs ls hI
            obtain ⟨b3, pr3, pk3, qu3, cf3, hw, hl, hM3, hI3, g1, g0⟩ := hI
            refine lv_iload_n hx hb dX0_prepare_86 rfl (lv_at hl 3 rfl) ?_
            refine y_push hx hb 7 dX0_prepare_87 rfl ?_
            refine y_ge hx hb (Nat.le_refl _) (by decide) dX0_prepare_89 (tgt := 117) (by decide) ?_
            refine lv_iinc (v := nI (k + 1)) (lv' := [(2, .int (nI (k + 1))), (0, .ref (h 0)), (1, .int (wI b3)), (3, .int (nI 7))]) hx hb dX0_prepare_117 hl (k := 2) rfl (nI_1 _) (by decide) rfl (fun ls hl => ?_)
            refine lv_goto (tgt := 72) hx hb dX0_prepare_120 (by decide) ?_
            exact ih _ _ _ ⟨_, _, _, _, _, hw, lv_sub hl [1, 2, 0] rfl, hM3, hI3, fun q => by have := g1 q; omega, fun q => dr_Mx (fun r hr hf => by
              rw [(g0 q).1] at hf
              rw [(g0 q).2.1]
              exact (g0 q).2.2 r hr hf)⟩
      · intro H locs ls hI
        obtain ⟨bb, pr2, pk2, qu2, cf2, hw, hl, hM2, hI2, h1, h0⟩ := hI
        have hbf : bb = false := by
          cases hb1 : bb with
          | true => have q1 := h1 hb1; have q2 := mm_S_le pr2; omega
          | false => rfl
        refine lv_iload_n hx hb dX0_prepare_72 rfl (lv_at hl 2 rfl) ?_
        refine y_push hx hb 8 dX0_prepare_73 rfl ?_
        refine y_ge hx hb (Nat.le_refl _) (by decide) dX0_prepare_75 (tgt := 123) (by decide) ?_
        exact tail _ _ _ _ _ _ _ hw hM2 hI2 (h0 hbf) (lv_sub hl [0] rfl)
  · subst hc
    exact y_vret C hw ⟨_, _, _, _, _, _, _, _, _, _, rfl, hv⟩ dX0_prepare_7
end X0C
end
section
/-! WHAT THE CALLS ANSWER, for class and reference alike -/
set_option maxRecDepth 100000
def okS (i : Int32) : Bool := decide (¬ i < 0 ∧ i ≤ 127)
theorem okS_of {i : Int32} (h : okS i = true) : ∃ j : Nat, j < 128 ∧ i = nI j := by
  rw [okS, decide_eq_true_eq] at h
  obtain ⟨j, hj, e⟩ := nI_of h.1
  refine ⟨j, ?_, e⟩
  have h6 : (127 : Int32) = nI 127 := rfl
  rw [e, h6, nI_leI hj (by decide)] at h
  omega
theorem okS_nI {j : Nat} (h : j < 128) : okS (nI j) = true := by
  have h6 : (127 : Int32) = nI 127 := rfl
  rw [okS, decide_eq_true_eq, h6, nI_leI (by omega) (by decide)]
  exact ⟨nI_pos (by omega), by omega⟩
def ix (i : Int32) : Nat := i.toNatClampNeg
theorem ix_nI {j : Nat} (h : j < 128) : ix (nI j) = j := nI_clamp (by omega)
def ed_E (E : Nat → Nat) (i j : Int32) (b : Bool) : Nat → Nat := if (isN i && isN j) = true then mm_up E (ix i) (if b = true then E (ix i) ||| 2 ^ ix j else pf_cl (E (ix i)) (ix j)) else E
def rw_E (E : Nat → Nat) (i j : Int32) : Nat → Nat := if (isN i && okS j) = true then mm_up E (ix i) (ix j) else E
/-- an answer for a row's number, -1 for another number -/
def at_N (i : Int32) (f : Nat → Nat) : Int32 := if isN i = true then nI (f (ix i)) else -1
theorem at_N_t {x : Nat} (hx : x < 7) (f : Nat → Nat) : at_N (nI x) f = nI (f x) := by rw [at_N, if_pos (isN_nI hx), ix_nI (by omega)]
theorem at_N_f {i : Int32} (h : isN i = false) (f : Nat → Nat) : at_N i f = -1 := by rw [at_N, if_neg (by rw [h]; exact Bool.false_ne_true)]
theorem ed_t {E : Nat → Nat} {x y : Nat} (hx : x < 7) (hy : y < 7) : ed_E E (nI x) (nI y) true = mm_up E x (E x ||| 2 ^ y) := by rw [ed_E, if_pos (by rw [isN_nI hx, isN_nI hy]; rfl), ix_nI (by omega), ix_nI (by omega), if_pos rfl]
theorem ed_f {E : Nat → Nat} {x y : Nat} (hx : x < 7) (hy : y < 7) : ed_E E (nI x) (nI y) false = mm_up E x (pf_cl (E x) y) := by rw [ed_E, if_pos (by rw [isN_nI hx, isN_nI hy]; rfl), ix_nI (by omega), ix_nI (by omega), if_neg Bool.false_ne_true]
theorem ed_n {E : Nat → Nat} {i j : Int32} {b : Bool} (h : (isN i && isN j) = false) : ed_E E i j b = E := by rw [ed_E, if_neg (by rw [h]; exact Bool.false_ne_true)]
theorem rw_t {E : Nat → Nat} {x y : Nat} (hx : x < 7) (hy : y < 128) : rw_E E (nI x) (nI y) = mm_up E x y := by rw [rw_E, if_pos (by rw [isN_nI hx, okS_nI hy]; rfl), ix_nI (by omega), ix_nI (by omega)]
theorem rw_n {E : Nat → Nat} {i j : Int32} (h : (isN i && okS j) = false) : rw_E E i j = E := by rw [rw_E, if_neg (by rw [h]; exact Bool.false_ne_true)]
theorem up_lt {E : Nat → Nat} (hE : ∀ r, E r < 128) (x : Nat) {v : Nat} (hv : v < 128) : ∀ r, mm_up E x v r < 128 := fun r => by
  by_cases e : r = x
  · rw [e, mm_up_s]; exact hv
  · rw [mm_up_n e]; exact hE r
def mb_r (E : Nat → Nat) (r : Nat) : Nat := if pf_mus E r = 0 then 0 else pf_BO (pf_mus E) r 7
def XOk (cI cB : ClassId) (h : Nat → Nat) (E : Nat → Nat) (w : va_W) : Prop := ∃ (rdy : Bool) (pr pk qu cf : Nat → Nat) (rr cr rc ck : Nat) (re us : Nat → Nat), w = xW cI cB h rdy E pr pk qu cf rr cr rc ck re us ∧ xInv rdy E pr pk rr cr ck re us
def MOk (cI cZ : ClassId) (g : Nat → Nat) (E : Nat → Nat) (w : va_W) : Prop := ∃ (ca th : Nat → Bool) (go : Nat → Nat), w = mW cI cZ g E ca th go ∧ ∀ r, E r < 128
theorem ok_rr {E pr pk : Nat → Nat} {rr cr ck : Nat} {re us : Nat → Nat} (h : pf_Ok E pr pk rr cr ck re us) : rr < 128 := by rw [h.2.2.2.1]; exact pf_R_lt _ _ _ _
theorem ok_cr {E pr pk : Nat → Nat} {rr cr ck : Nat} {re us : Nat → Nat} (hE : ∀ r, E r < 128) (h : pf_Ok E pr pk rr cr ck re us) : cr < 128 := by rw [h.2.2.2.2.1]; exact pf_cn_lt hE _
theorem ok_ck {E pr pk : Nat → Nat} {rr cr ck : Nat} {re us : Nat → Nat} (h : pf_Ok E pr pk rr cr ck re us) : ck < 128 := by rw [h.2.2.2.2.2.1]; exact pf_C_lt _ _ _ _
theorem ok_S {E pr pk : Nat → Nat} {rr cr ck : Nat} {re us : Nat → Nat} (h : pf_Ok E pr pk rr cr ck re us) : mm_S pr = pf_nu E 7 7 7 7 := (pf_nu_S h.1 h.2.1 h.2.2.1).symm
end
section
/-! DmDecomposer: the public calls (printed by gen_x0d.py) -/
set_option maxRecDepth 100000
section X0D
variable {cI cB cZ : ClassId} {h : Nat → Nat} {rdy : Bool} {E pr pk qu cf : Nat → Nat} {rr cr rc ck : Nat} {re us : Nat → Nat}
set_option maxHeartbeats 4000000 in
/-- an edge is put or taken away -/
theorem mx_edge (l : Launch) (D : va_G) (hv : xInv rdy E pr pk rr cr ck re us) (i j : Int32) (b : Bool) : MtI l yX0_edge cX0_edge 4 (some .boolean) ({ frames := 1, cells := 0, slots := 0, locals := 21 }) D (tyL cI cB cZ) [.ref (h 0), .int i, .int j, .int (wI b)] (xW cI cB h rdy E pr pk qu cf rr cr rc ck re us) (fun r w => r = wI (isN i && isN j) ∧ XOk cI cB h (ed_E E i j b) w) := by
  refine MtI.of (by decide) (Nat.le_of_ble_eq_true rfl) ?_
  intro p e s m below meth c A ls C hw hl
  obtain ⟨hx, hb, hr, hlk, hml, hown, hts, hK, hA⟩ := id C
  have hl : lv_has ls 4 [(0, .ref (h 0)), (1, .int i), (2, .int j), (3, .int (wI b))] := hl
  have hE := hv.1
  refine lv_aload_n hx hb dX0_edge_0 rfl (lv_at hl 0 rfl) ?_
  refine lv_iload_n hx hb dX0_edge_1 rfl (lv_at hl 1 rfl) ?_
  refine y_cI (As := [.int i]) (rest := []) C hw (mx_isNumber l D i) (cwV 1 hts (lw_V q76 q78 qs0 q23 q79) rfl rfl rfl (by decide +kernel) ⟨Nat.le_of_ble_eq_true rfl, Nat.le_of_ble_eq_true rfl⟩) rfl rfl rfl rfl hl.1 (Nat.le_of_ble_eq_true rfl) ⟨Nat.zero_le _, Nat.zero_le _⟩ dX0_edge_2 (fun r w1 H locs hp hw => ?_) rfl
  obtain ⟨rfl, rfl⟩ := hp
  refine y_ifeq_w hx hb dX0_edge_5 (tgt := 16) (by decide) (fun hi => ?_) (fun hi => ?_)
  · refine lv_iconst (v := wI false) hx hb dX0_edge_16 rfl ?_
    exact y_zret C hw ⟨by rw [hi]; rfl, by rw [ed_n (by rw [hi]; rfl)]; exact ⟨_, _, _, _, _, _, _, _, _, _, _, rfl, hv⟩⟩ dX0_edge_17
  · obtain ⟨x, hx7, rfl⟩ := isN_of hi
    refine lv_aload_n hx hb dX0_edge_8 rfl (lv_at hl 0 rfl) ?_
    refine lv_iload_n hx hb dX0_edge_9 rfl (lv_at hl 2 rfl) ?_
    refine y_cI (As := [.int j]) (rest := []) C hw (mx_isNumber l D j) (cwV 1 hts (lw_V q76 q78 qs0 q23 q79) rfl rfl rfl (by decide +kernel) ⟨Nat.le_of_ble_eq_true rfl, Nat.le_of_ble_eq_true rfl⟩) rfl rfl rfl rfl hl.1 (Nat.le_of_ble_eq_true rfl) ⟨Nat.zero_le _, Nat.zero_le _⟩ dX0_edge_10 (fun r w1 H locs hp hw => ?_) rfl
    obtain ⟨rfl, rfl⟩ := hp
    refine y_ifne_w hx hb dX0_edge_13 (tgt := 18) (by decide) (fun hj => ?_) (fun hj => ?_)
    · obtain ⟨y, hy7, rfl⟩ := isN_of hj
      refine lv_iload_n hx hb dX0_edge_18 rfl (lv_at hl 3 rfl) ?_
      refine y_ifeq_w hx hb dX0_edge_19 (tgt := 37) (by decide) (fun hb3 => ?_) (fun hb3 => ?_)
      · subst hb3
        refine lv_aload_n hx hb dX0_edge_37 rfl (lv_at hl 0 rfl) ?_
        refine xg_E C hw dX0_edge_38 ?_
        refine lv_iload_n hx hb dX0_edge_41 rfl (lv_at hl 1 rfl) ?_
        refine lv_dup2_11 hx hb dX0_edge_42 rfl rfl ?_
        refine xl_E (by omega) C hw dX0_edge_43 ?_
        refine y_num hx hb 1 dX0_edge_44 rfl ?_
        refine lv_iload_n hx hb dX0_edge_45 rfl (lv_at hl 2 rfl) ?_
        refine y_shl1 hx hb (by omega) dX0_edge_46 ?_
        refine y_nand hx hb dX0_edge_47 dX0_edge_48 dX0_edge_49 ?_
        refine xs_E (by omega) C hw dX0_edge_50 (fun H locs hw => ?_)
        refine lv_aload_n hx hb dX0_edge_51 rfl (lv_at hl 0 rfl) ?_
        refine y_num hx hb 0 dX0_edge_52 rfl ?_
        refine xp_rdy (b := false) C hw dX0_edge_53 (fun H locs hw => ?_)
        refine lv_iconst (v := wI true) hx hb dX0_edge_56 rfl ?_
        exact y_zret C hw ⟨by rw [isN_nI hx7, isN_nI hy7]; rfl, by
          rw [ed_f hx7 hy7]
          exact ⟨_, _, _, _, _, _, _, _, _, _, _, rfl, up_lt hE x (pf_cl_lt (hE x) y), hv.2.1, fun q => absurd q Bool.false_ne_true⟩⟩ dX0_edge_57
      · subst hb3
        refine lv_aload_n hx hb dX0_edge_22 rfl (lv_at hl 0 rfl) ?_
        refine xg_E C hw dX0_edge_23 ?_
        refine lv_iload_n hx hb dX0_edge_26 rfl (lv_at hl 1 rfl) ?_
        refine lv_dup2_11 hx hb dX0_edge_27 rfl rfl ?_
        refine xl_E (by omega) C hw dX0_edge_28 ?_
        refine y_num hx hb 1 dX0_edge_29 rfl ?_
        refine lv_iload_n hx hb dX0_edge_30 rfl (lv_at hl 2 rfl) ?_
        refine y_shl1 hx hb (by omega) dX0_edge_31 ?_
        refine y_or hx hb dX0_edge_32 ?_
        refine xs_E (by omega) C hw dX0_edge_33 (fun H locs hw => ?_)
        refine lv_goto (tgt := 51) hx hb dX0_edge_34 (by decide) ?_
        refine lv_aload_n hx hb dX0_edge_51 rfl (lv_at hl 0 rfl) ?_
        refine y_num hx hb 0 dX0_edge_52 rfl ?_
        refine xp_rdy (b := false) C hw dX0_edge_53 (fun H locs hw => ?_)
        refine lv_iconst (v := wI true) hx hb dX0_edge_56 rfl ?_
        exact y_zret C hw ⟨by rw [isN_nI hx7, isN_nI hy7]; rfl, by
          rw [ed_t hx7 hy7]
          exact ⟨_, _, _, _, _, _, _, _, _, _, _, rfl, up_lt hE x (Nat.or_lt_two_pow (n := 7) (hE x) (mm_two_lt hy7)), hv.2.1, fun q => absurd q Bool.false_ne_true⟩⟩ dX0_edge_57
    · refine lv_iconst (v := wI false) hx hb dX0_edge_16 rfl ?_
      exact y_zret C hw ⟨by rw [hj, Bool.and_false], by rw [ed_n (by rw [hj, Bool.and_false])]; exact ⟨_, _, _, _, _, _, _, _, _, _, _, rfl, hv⟩⟩ dX0_edge_17
set_option maxHeartbeats 4000000 in
/-- a row is set -/
theorem mx_row (l : Launch) (D : va_G) (hv : xInv rdy E pr pk rr cr ck re us) (i j : Int32) : MtI l yX0_row cX0_row 3 (some .boolean) ({ frames := 1, cells := 0, slots := 0, locals := 21 }) D (tyL cI cB cZ) [.ref (h 0), .int i, .int j] (xW cI cB h rdy E pr pk qu cf rr cr rc ck re us) (fun r w => r = wI (isN i && okS j) ∧ XOk cI cB h (rw_E E i j) w) := by
  refine MtI.of (by decide) (Nat.le_of_ble_eq_true rfl) ?_
  intro p e s m below meth c A ls C hw hl
  obtain ⟨hx, hb, hr, hlk, hml, hown, hts, hK, hA⟩ := id C
  have hl : lv_has ls 3 [(0, .ref (h 0)), (1, .int i), (2, .int j)] := hl
  have hE := hv.1
  refine lv_aload_n hx hb dX0_row_0 rfl (lv_at hl 0 rfl) ?_
  refine lv_iload_n hx hb dX0_row_1 rfl (lv_at hl 1 rfl) ?_
  refine y_cI (As := [.int i]) (rest := []) C hw (mx_isNumber l D i) (cwV 1 hts (lw_V q76 q78 qs0 q23 q79) rfl rfl rfl (by decide +kernel) ⟨Nat.le_of_ble_eq_true rfl, Nat.le_of_ble_eq_true rfl⟩) rfl rfl rfl rfl hl.1 (Nat.le_of_ble_eq_true rfl) ⟨Nat.zero_le _, Nat.zero_le _⟩ dX0_row_2 (fun r w1 H locs hp hw => ?_) rfl
  obtain ⟨rfl, rfl⟩ := hp
  refine y_ifeq_w hx hb dX0_row_5 (tgt := 18) (by decide) (fun hi => ?_) (fun hi => ?_)
  · refine lv_iconst (v := wI false) hx hb dX0_row_18 rfl ?_
    exact y_zret C hw ⟨by rw [hi]; rfl, by rw [rw_n (by rw [hi]; rfl)]; exact ⟨_, _, _, _, _, _, _, _, _, _, _, rfl, hv⟩⟩ dX0_row_19
  · obtain ⟨x, hx7, rfl⟩ := isN_of hi
    refine lv_iload_n hx hb dX0_row_8 rfl (lv_at hl 2 rfl) ?_
    refine lv_if_lt hx hb dX0_row_9 (tgt := 18) (by decide) (fun hc => ?_) (fun hc => ?_)
    · have hj : okS j = false := by rw [okS, decide_eq_false_iff_not]; exact fun q => q.1 hc
      refine lv_iconst (v := wI false) hx hb dX0_row_18 rfl ?_
      exact y_zret C hw ⟨by rw [hj, Bool.and_false], by rw [rw_n (by rw [hj, Bool.and_false])]; exact ⟨_, _, _, _, _, _, _, _, _, _, _, rfl, hv⟩⟩ dX0_row_19
    · refine lv_iload_n hx hb dX0_row_12 rfl (lv_at hl 2 rfl) ?_
      refine lv_bipush (v := 127) hx hb dX0_row_13 rfl ?_
      refine lv_icmp_le hx hb dX0_row_15 (tgt := 20) (by decide) (fun hc2 => ?_) (fun hc2 => ?_)
      · have hj : okS j = true := by rw [okS, decide_eq_true_eq]; exact ⟨hc, hc2⟩
        obtain ⟨y, hy7, rfl⟩ := okS_of hj
        refine lv_aload_n hx hb dX0_row_20 rfl (lv_at hl 0 rfl) ?_
        refine xg_E C hw dX0_row_21 ?_
        refine lv_iload_n hx hb dX0_row_24 rfl (lv_at hl 1 rfl) ?_
        refine lv_iload_n hx hb dX0_row_25 rfl (lv_at hl 2 rfl) ?_
        refine xs_E (by omega) C hw dX0_row_26 (fun H locs hw => ?_)
        refine lv_aload_n hx hb dX0_row_27 rfl (lv_at hl 0 rfl) ?_
        refine y_num hx hb 0 dX0_row_28 rfl ?_
        refine xp_rdy (b := false) C hw dX0_row_29 (fun H locs hw => ?_)
        refine lv_iconst (v := wI true) hx hb dX0_row_32 rfl ?_
        exact y_zret C hw ⟨by rw [isN_nI hx7, hj]; rfl, by
          rw [rw_t hx7 hy7]
          exact ⟨_, _, _, _, _, _, _, _, _, _, _, rfl, up_lt hE x hy7, hv.2.1, fun q => absurd q Bool.false_ne_true⟩⟩ dX0_row_33
      · have hj : okS j = false := by rw [okS, decide_eq_false_iff_not]; exact fun q => hc2 q.2
        refine lv_iconst (v := wI false) hx hb dX0_row_18 rfl ?_
        exact y_zret C hw ⟨by rw [hj, Bool.and_false], by rw [rw_n (by rw [hj, Bool.and_false])]; exact ⟨_, _, _, _, _, _, _, _, _, _, _, rfl, hv⟩⟩ dX0_row_19
set_option maxHeartbeats 4000000 in
/-- the columns of a row -/
theorem mx_columnsOf (l : Launch) (D : va_G) (hv : xInv rdy E pr pk rr cr ck re us) (i : Int32) : MtI l yX0_columnsOf cX0_columnsOf 2 (some .int) ({ frames := 1, cells := 0, slots := 0, locals := 21 }) D (tyL cI cB cZ) [.ref (h 0), .int i] (xW cI cB h rdy E pr pk qu cf rr cr rc ck re us) (fun r w => r = at_N i E ∧ XOk cI cB h E w) := by
  refine MtI.of (by decide) (Nat.le_of_ble_eq_true rfl) ?_
  intro p e s m below meth c A ls C hw hl
  obtain ⟨hx, hb, hr, hlk, hml, hown, hts, hK, hA⟩ := id C
  have hl : lv_has ls 2 [(0, .ref (h 0)), (1, .int i)] := hl
  have hE := hv.1
  refine lv_aload_n hx hb dX0_columnsOf_0 rfl (lv_at hl 0 rfl) ?_
  refine lv_iload_n hx hb dX0_columnsOf_1 rfl (lv_at hl 1 rfl) ?_
  refine y_cI (As := [.int i]) (rest := []) C hw (mx_isNumber l D i) (cwV 1 hts (lw_V q76 q78 qs0 q23 q79) rfl rfl rfl (by decide +kernel) ⟨Nat.le_of_ble_eq_true rfl, Nat.le_of_ble_eq_true rfl⟩) rfl rfl rfl rfl hl.1 (Nat.le_of_ble_eq_true rfl) ⟨Nat.zero_le _, Nat.zero_le _⟩ dX0_columnsOf_2 (fun r w1 H locs hp hw => ?_) rfl
  obtain ⟨rfl, rfl⟩ := hp
  refine y_ifeq_w hx hb dX0_columnsOf_5 (tgt := 17) (by decide) (fun hi => ?_) (fun hi => ?_)
  · refine lv_iconst (v := nB 7) hx hb dX0_columnsOf_17 (by decide) ?_
    exact y_iret C hw ⟨by rw [at_N_f hi]; rfl, ⟨_, _, _, _, _, _, _, _, _, _, _, rfl, hv⟩⟩ dX0_columnsOf_18
  · obtain ⟨x, hx7, rfl⟩ := isN_of hi
    refine lv_aload_n hx hb dX0_columnsOf_8 rfl (lv_at hl 0 rfl) ?_
    refine xg_E C hw dX0_columnsOf_9 ?_
    refine lv_iload_n hx hb dX0_columnsOf_12 rfl (lv_at hl 1 rfl) ?_
    refine xl_E (by omega) C hw dX0_columnsOf_13 ?_
    refine lv_goto (tgt := 18) hx hb dX0_columnsOf_14 (by decide) ?_
    exact y_iret C hw ⟨(at_N_t hx7 E).symm, ⟨_, _, _, _, _, _, _, _, _, _, _, rfl, hv⟩⟩ dX0_columnsOf_18
set_option maxHeartbeats 4000000 in
/-- the size of a largest matching -/
theorem mx_largest (l : Launch) (D : va_G) (hv : xInv rdy E pr pk rr cr ck re us)  : MtI l yX0_largest cX0_largest 3 (some .int) ({ frames := 4, cells := 0, slots := 0, locals := 91 }) D (tyL cI cB cZ) [.ref (h 0)] (xW cI cB h rdy E pr pk qu cf rr cr rc ck re us) (fun r w => r = nI (pf_nu E 7 7 7 7) ∧ XOk cI cB h E w) := by
  refine MtI.of (by decide) (Nat.le_of_ble_eq_true rfl) ?_
  intro p e s m below meth c A ls C hw hl
  obtain ⟨hx, hb, hr, hlk, hml, hown, hts, hK, hA⟩ := id C
  have hl : lv_has ls 3 [(0, .ref (h 0))] := hl
  have hE := hv.1
  refine lv_aload_n hx hb dX0_largest_0 rfl (lv_at hl 0 rfl) ?_
  refine y_cV (As := []) (rest := []) C hw (mx_prepare l D hv) (cwV 0 hts (lw_V q92 q94 qs1 q23 q95) rfl rfl rfl (by decide +kernel) ⟨Nat.le_of_ble_eq_true rfl, Nat.le_of_ble_eq_true rfl⟩) rfl rfl rfl rfl hl.1 (Nat.le_of_ble_eq_true rfl) ⟨Nat.zero_le _, Nat.zero_le _⟩ dX0_largest_1 (fun w1 H locs hp hw => ?_) rfl
  obtain ⟨pr', pk', qu', cf', rr', cr', rc', ck', re', us', rfl, hv'⟩ := hp
  have hok := hv'.2.2 rfl
  have hrr := ok_rr hok
  have hcr := ok_cr hE hok
  have hck := ok_ck hok
  refine y_num hx hb 0 dX0_largest_4 rfl ?_
  refine lv_istore_n (lv' := [(1, .int (nI 0)), (0, .ref (h 0))]) hx hb dX0_largest_5 rfl hl (by decide) rfl (fun ls hl => ?_)
  refine y_num hx hb 0 dX0_largest_6 rfl ?_
  refine lv_istore_n (lv' := [(2, .int (nI 0)), (1, .int (nI 0)), (0, .ref (h 0))]) hx hb dX0_largest_7 rfl hl (by decide) rfl (fun ls hl => ?_)
  refine wl_for 7 (fun k H locs ls => XH D A s.heap H locs (xW cI cB h true E pr' pk' qu' cf' rr' cr' rc' ck' re' us') ∧ lv_has ls 3 [(0, .ref (h 0)), (1, .int (nI (mm_cnt (fun r => decide (pr' r < 7)) k))), (2, .int (nI k))]) ?_ ?_ 0 (by omega) _ _ _ ⟨hw, lv_sub hl [2, 1, 0] rfl⟩
  · intro k hk H locs ls hI ih
    obtain ⟨hw, hl⟩ := hI
    refine lv_iload_n hx hb dX0_largest_8 rfl (lv_at hl 2 rfl) ?_
    refine y_push hx hb 7 dX0_largest_9 rfl ?_
    refine y_lt hx hb hk (by decide) dX0_largest_11 (tgt := 32) (by decide) ?_
    refine lv_aload_n hx hb dX0_largest_14 rfl (lv_at hl 0 rfl) ?_
    refine xg_pr C hw dX0_largest_15 ?_
    refine lv_iload_n hx hb dX0_largest_18 rfl (lv_at hl 2 rfl) ?_
    refine xl_pr (by omega) C hw dX0_largest_19 ?_
    refine y_iflt_B hx hb dX0_largest_20 (tgt := 26) (by decide) (fun hc => ?_) (fun hc => ?_)
    · refine lv_iinc (v := nI (k + 1)) (lv' := [(2, .int (nI (k + 1))), (0, .ref (h 0)), (1, .int (nI (mm_cnt (fun r => decide (pr' r < 7)) k)))]) hx hb dX0_largest_26 hl (k := 2) rfl (nI_1 _) (by decide) rfl (fun ls hl => ?_)
      refine lv_goto (tgt := 8) hx hb dX0_largest_29 (by decide) ?_
      exact ih _ _ _ ⟨hw, by rw [mm_cnt_f (p := (fun r => decide (pr' r < 7))) (n := k) (by simp [hc])]; exact lv_sub hl [1, 2, 0] rfl⟩
    · refine lv_iinc (v := nI ((mm_cnt (fun r => decide (pr' r < 7)) k) + 1)) (lv' := [(1, .int (nI ((mm_cnt (fun r => decide (pr' r < 7)) k) + 1))), (0, .ref (h 0)), (2, .int (nI k))]) hx hb dX0_largest_23 hl (k := 1) rfl (nI_1 _) (by decide) rfl (fun ls hl => ?_)
      refine lv_iinc (v := nI (k + 1)) (lv' := [(2, .int (nI (k + 1))), (1, .int (nI ((mm_cnt (fun r => decide (pr' r < 7)) k) + 1))), (0, .ref (h 0))]) hx hb dX0_largest_26 hl (k := 2) rfl (nI_1 _) (by decide) rfl (fun ls hl => ?_)
      refine lv_goto (tgt := 8) hx hb dX0_largest_29 (by decide) ?_
      exact ih _ _ _ ⟨hw, by rw [mm_cnt_t (p := (fun r => decide (pr' r < 7))) (n := k) (by simp [hc])]; exact lv_sub hl [2, 1, 0] rfl⟩
  · intro H locs ls hI
    obtain ⟨hw, hl⟩ := hI
    refine lv_iload_n hx hb dX0_largest_8 rfl (lv_at hl 2 rfl) ?_
    refine y_push hx hb 7 dX0_largest_9 rfl ?_
    refine y_ge hx hb (Nat.le_refl _) (by decide) dX0_largest_11 (tgt := 32) (by decide) ?_
    refine lv_iload_n hx hb dX0_largest_32 rfl (lv_at hl 1 rfl) ?_
    exact y_iret C hw ⟨by rw [← ok_S hok]; rfl, ⟨_, _, _, _, _, _, _, _, _, _, _, rfl, hv'⟩⟩ dX0_largest_33
set_option maxHeartbeats 4000000 in
/-- loose -/
theorem mx_looseRows (l : Launch) (D : va_G) (hv : xInv rdy E pr pk rr cr ck re us)  : MtI l yX0_looseRows cX0_looseRows 1 (some .int) ({ frames := 4, cells := 0, slots := 0, locals := 91 }) D (tyL cI cB cZ) [.ref (h 0)] (xW cI cB h rdy E pr pk qu cf rr cr rc ck re us) (fun r w => r = nI (pf_mlr E) ∧ XOk cI cB h E w) := by
  refine MtI.of (by decide) (Nat.le_of_ble_eq_true rfl) ?_
  intro p e s m below meth c A ls C hw hl
  obtain ⟨hx, hb, hr, hlk, hml, hown, hts, hK, hA⟩ := id C
  have hl : lv_has ls 1 [(0, .ref (h 0))] := hl
  have hE := hv.1
  refine lv_aload_n hx hb dX0_looseRows_0 rfl (lv_at hl 0 rfl) ?_
  refine y_cV (As := []) (rest := []) C hw (mx_prepare l D hv) (cwV 0 hts (lw_V q92 q94 qs1 q23 q95) rfl rfl rfl (by decide +kernel) ⟨Nat.le_of_ble_eq_true rfl, Nat.le_of_ble_eq_true rfl⟩) rfl rfl rfl rfl hl.1 (Nat.le_of_ble_eq_true rfl) ⟨Nat.zero_le _, Nat.zero_le _⟩ dX0_looseRows_1 (fun w1 H locs hp hw => ?_) rfl
  obtain ⟨pr', pk', qu', cf', rr', cr', rc', ck', re', us', rfl, hv'⟩ := hp
  have hok := hv'.2.2 rfl
  have hrr := ok_rr hok
  have hcr := ok_cr hE hok
  have hck := ok_ck hok
  refine lv_aload_n hx hb dX0_looseRows_4 rfl (lv_at hl 0 rfl) ?_
  refine xg_rr C hw dX0_looseRows_5 ?_
  exact y_iret C hw ⟨by rw [pf_a_lr hok], ⟨_, _, _, _, _, _, _, _, _, _, _, rfl, hv'⟩⟩ dX0_looseRows_8
set_option maxHeartbeats 4000000 in
/-- loose -/
theorem mx_looseColumns (l : Launch) (D : va_G) (hv : xInv rdy E pr pk rr cr ck re us)  : MtI l yX0_looseColumns cX0_looseColumns 1 (some .int) ({ frames := 4, cells := 0, slots := 0, locals := 91 }) D (tyL cI cB cZ) [.ref (h 0)] (xW cI cB h rdy E pr pk qu cf rr cr rc ck re us) (fun r w => r = nI (pf_mlc E) ∧ XOk cI cB h E w) := by
  refine MtI.of (by decide) (Nat.le_of_ble_eq_true rfl) ?_
  intro p e s m below meth c A ls C hw hl
  obtain ⟨hx, hb, hr, hlk, hml, hown, hts, hK, hA⟩ := id C
  have hl : lv_has ls 1 [(0, .ref (h 0))] := hl
  have hE := hv.1
  refine lv_aload_n hx hb dX0_looseColumns_0 rfl (lv_at hl 0 rfl) ?_
  refine y_cV (As := []) (rest := []) C hw (mx_prepare l D hv) (cwV 0 hts (lw_V q92 q94 qs1 q23 q95) rfl rfl rfl (by decide +kernel) ⟨Nat.le_of_ble_eq_true rfl, Nat.le_of_ble_eq_true rfl⟩) rfl rfl rfl rfl hl.1 (Nat.le_of_ble_eq_true rfl) ⟨Nat.zero_le _, Nat.zero_le _⟩ dX0_looseColumns_1 (fun w1 H locs hp hw => ?_) rfl
  obtain ⟨pr', pk', qu', cf', rr', cr', rc', ck', re', us', rfl, hv'⟩ := hp
  have hok := hv'.2.2 rfl
  have hrr := ok_rr hok
  have hcr := ok_cr hE hok
  have hck := ok_ck hok
  refine lv_aload_n hx hb dX0_looseColumns_4 rfl (lv_at hl 0 rfl) ?_
  refine xg_ck C hw dX0_looseColumns_5 ?_
  exact y_iret C hw ⟨by rw [pf_a_lc hok], ⟨_, _, _, _, _, _, _, _, _, _, _, rfl, hv'⟩⟩ dX0_looseColumns_8
set_option maxHeartbeats 4000000 in
/-- usable edges of a row -/
theorem mx_usable (l : Launch) (D : va_G) (hv : xInv rdy E pr pk rr cr ck re us) (i : Int32) : MtI l yX0_usable cX0_usable 2 (some .int) ({ frames := 4, cells := 0, slots := 0, locals := 91 }) D (tyL cI cB cZ) [.ref (h 0), .int i] (xW cI cB h rdy E pr pk qu cf rr cr rc ck re us) (fun r w => r = at_N i (pf_mus E) ∧ XOk cI cB h E w) := by
  refine MtI.of (by decide) (Nat.le_of_ble_eq_true rfl) ?_
  intro p e s m below meth c A ls C hw hl
  obtain ⟨hx, hb, hr, hlk, hml, hown, hts, hK, hA⟩ := id C
  have hl : lv_has ls 2 [(0, .ref (h 0)), (1, .int i)] := hl
  have hE := hv.1
  refine lv_aload_n hx hb dX0_usable_0 rfl (lv_at hl 0 rfl) ?_
  refine lv_iload_n hx hb dX0_usable_1 rfl (lv_at hl 1 rfl) ?_
  refine y_cI (As := [.int i]) (rest := []) C hw (mx_isNumber l D i) (cwV 1 hts (lw_V q76 q78 qs0 q23 q79) rfl rfl rfl (by decide +kernel) ⟨Nat.le_of_ble_eq_true rfl, Nat.le_of_ble_eq_true rfl⟩) rfl rfl rfl rfl hl.1 (Nat.le_of_ble_eq_true rfl) ⟨Nat.zero_le _, Nat.zero_le _⟩ dX0_usable_2 (fun r w1 H locs hp hw => ?_) rfl
  obtain ⟨rfl, rfl⟩ := hp
  refine y_ifne_w hx hb dX0_usable_5 (tgt := 10) (by decide) (fun hi => ?_) (fun hi => ?_)
  · obtain ⟨x, hx7, rfl⟩ := isN_of hi
    refine lv_aload_n hx hb dX0_usable_10 rfl (lv_at hl 0 rfl) ?_
    refine y_cV (As := []) (rest := []) C hw (mx_prepare l D hv) (cwV 0 hts (lw_V q92 q94 qs1 q23 q95) rfl rfl rfl (by decide +kernel) ⟨Nat.le_of_ble_eq_true rfl, Nat.le_of_ble_eq_true rfl⟩) rfl rfl rfl rfl hl.1 (Nat.le_of_ble_eq_true rfl) ⟨Nat.zero_le _, Nat.zero_le _⟩ dX0_usable_11 (fun w1 H locs hp hw => ?_) rfl
    obtain ⟨pr', pk', qu', cf', rr', cr', rc', ck', re', us', rfl, hv'⟩ := hp
    have hok := hv'.2.2 rfl
    have hrr := ok_rr hok
    have hcr := ok_cr hE hok
    have hck := ok_ck hok
    refine lv_aload_n hx hb dX0_usable_14 rfl (lv_at hl 0 rfl) ?_
    refine xg_us C hw dX0_usable_15 ?_
    refine lv_iload_n hx hb dX0_usable_18 rfl (lv_at hl 1 rfl) ?_
    refine xl_us (by omega) C hw dX0_usable_19 ?_
    exact y_iret C hw ⟨by rw [at_N_t hx7, pf_a_us hok hx7], ⟨_, _, _, _, _, _, _, _, _, _, _, rfl, hv'⟩⟩ dX0_usable_20
  · refine lv_iconst (v := nB 7) hx hb dX0_usable_8 (by decide) ?_
    exact y_iret C hw ⟨by rw [at_N_f hi]; rfl, ⟨_, _, _, _, _, _, _, _, _, _, _, rfl, hv⟩⟩ dX0_usable_9
set_option maxHeartbeats 4000000 in
/-- forced edges of a row -/
theorem mx_forced (l : Launch) (D : va_G) (hv : xInv rdy E pr pk rr cr ck re us) (i : Int32) : MtI l yX0_forced cX0_forced 2 (some .int) ({ frames := 4, cells := 0, slots := 0, locals := 91 }) D (tyL cI cB cZ) [.ref (h 0), .int i] (xW cI cB h rdy E pr pk qu cf rr cr rc ck re us) (fun r w => r = at_N i (pf_mfo E) ∧ XOk cI cB h E w) := by
  refine MtI.of (by decide) (Nat.le_of_ble_eq_true rfl) ?_
  intro p e s m below meth c A ls C hw hl
  obtain ⟨hx, hb, hr, hlk, hml, hown, hts, hK, hA⟩ := id C
  have hl : lv_has ls 2 [(0, .ref (h 0)), (1, .int i)] := hl
  have hE := hv.1
  refine lv_aload_n hx hb dX0_forced_0 rfl (lv_at hl 0 rfl) ?_
  refine lv_iload_n hx hb dX0_forced_1 rfl (lv_at hl 1 rfl) ?_
  refine y_cI (As := [.int i]) (rest := []) C hw (mx_isNumber l D i) (cwV 1 hts (lw_V q76 q78 qs0 q23 q79) rfl rfl rfl (by decide +kernel) ⟨Nat.le_of_ble_eq_true rfl, Nat.le_of_ble_eq_true rfl⟩) rfl rfl rfl rfl hl.1 (Nat.le_of_ble_eq_true rfl) ⟨Nat.zero_le _, Nat.zero_le _⟩ dX0_forced_2 (fun r w1 H locs hp hw => ?_) rfl
  obtain ⟨rfl, rfl⟩ := hp
  refine y_ifne_w hx hb dX0_forced_5 (tgt := 10) (by decide) (fun hi => ?_) (fun hi => ?_)
  · obtain ⟨x, hx7, rfl⟩ := isN_of hi
    refine lv_aload_n hx hb dX0_forced_10 rfl (lv_at hl 0 rfl) ?_
    refine y_cV (As := []) (rest := []) C hw (mx_prepare l D hv) (cwV 0 hts (lw_V q92 q94 qs1 q23 q95) rfl rfl rfl (by decide +kernel) ⟨Nat.le_of_ble_eq_true rfl, Nat.le_of_ble_eq_true rfl⟩) rfl rfl rfl rfl hl.1 (Nat.le_of_ble_eq_true rfl) ⟨Nat.zero_le _, Nat.zero_le _⟩ dX0_forced_11 (fun w1 H locs hp hw => ?_) rfl
    obtain ⟨pr', pk', qu', cf', rr', cr', rc', ck', re', us', rfl, hv'⟩ := hp
    have hok := hv'.2.2 rfl
    have hrr := ok_rr hok
    have hcr := ok_cr hE hok
    have hck := ok_ck hok
    refine lv_aload_n hx hb dX0_forced_14 rfl (lv_at hl 0 rfl) ?_
    refine lv_iload_n hx hb dX0_forced_15 rfl (lv_at hl 1 rfl) ?_
    refine y_cI (As := [.int (nI x)]) (rest := []) C hw (mx_isForced l D hrr hck (fun r hr => pf_us_lt hok hr) x hx7) (cwV 1 hts (lw_V q152 q154 qs12 q23 q155) rfl rfl rfl (by decide +kernel) ⟨Nat.le_of_ble_eq_true rfl, Nat.le_of_ble_eq_true rfl⟩) rfl rfl rfl rfl hl.1 (Nat.le_of_ble_eq_true rfl) ⟨Nat.zero_le _, Nat.zero_le _⟩ dX0_forced_16 (fun r w1 H locs hp hw => ?_) rfl
    obtain ⟨rfl, rfl⟩ := hp
    refine y_ifeq_w hx hb dX0_forced_19 (tgt := 33) (by decide) (fun hf => ?_) (fun hf => ?_)
    · refine y_num hx hb 0 dX0_forced_33 rfl ?_
      exact y_iret C hw ⟨by rw [at_N_t hx7, ← pf_a_fo hok hx7, if_neg (by rw [hf]; exact Bool.false_ne_true)], ⟨_, _, _, _, _, _, _, _, _, _, _, rfl, hv'⟩⟩ dX0_forced_34
    · have hp7 : pr' x < 7 := by
        have q := hf
        rw [pf_fo] at q
        simp only [Bool.and_eq_true, decide_eq_true_eq] at q
        exact q.1
      refine y_num hx hb 1 dX0_forced_22 rfl ?_
      refine lv_aload_n hx hb dX0_forced_23 rfl (lv_at hl 0 rfl) ?_
      refine xg_pr C hw dX0_forced_24 ?_
      refine lv_iload_n hx hb dX0_forced_27 rfl (lv_at hl 1 rfl) ?_
      refine xl_pr (by omega) C hw dX0_forced_28 ?_
      rw [n_B hp7]
      refine y_shl1 hx hb (by omega) dX0_forced_29 ?_
      refine lv_goto (tgt := 34) hx hb dX0_forced_30 (by decide) ?_
      exact y_iret C hw ⟨by rw [at_N_t hx7, ← pf_a_fo hok hx7, if_pos hf], ⟨_, _, _, _, _, _, _, _, _, _, _, rfl, hv'⟩⟩ dX0_forced_34
  · refine lv_iconst (v := nB 7) hx hb dX0_forced_8 (by decide) ?_
    exact y_iret C hw ⟨by rw [at_N_f hi]; rfl, ⟨_, _, _, _, _, _, _, _, _, _, _, rfl, hv⟩⟩ dX0_forced_9
set_option maxHeartbeats 4000000 in
/-- the number of blocks -/
theorem mx_blocks (l : Launch) (D : va_G) (hv : xInv rdy E pr pk rr cr ck re us)  : MtI l yX0_blocks cX0_blocks 4 (some .int) ({ frames := 4, cells := 0, slots := 0, locals := 91 }) D (tyL cI cB cZ) [.ref (h 0)] (xW cI cB h rdy E pr pk qu cf rr cr rc ck re us) (fun r w => r = nI (pf_mb (pf_mus E) 7) ∧ XOk cI cB h E w) := by
  refine MtI.of (by decide) (Nat.le_of_ble_eq_true rfl) ?_
  intro p e s m below meth c A ls C hw hl
  obtain ⟨hx, hb, hr, hlk, hml, hown, hts, hK, hA⟩ := id C
  have hl : lv_has ls 4 [(0, .ref (h 0))] := hl
  have hE := hv.1
  refine lv_aload_n hx hb dX0_blocks_0 rfl (lv_at hl 0 rfl) ?_
  refine y_cV (As := []) (rest := []) C hw (mx_prepare l D hv) (cwV 0 hts (lw_V q92 q94 qs1 q23 q95) rfl rfl rfl (by decide +kernel) ⟨Nat.le_of_ble_eq_true rfl, Nat.le_of_ble_eq_true rfl⟩) rfl rfl rfl rfl hl.1 (Nat.le_of_ble_eq_true rfl) ⟨Nat.zero_le _, Nat.zero_le _⟩ dX0_blocks_1 (fun w1 H locs hp hw => ?_) rfl
  obtain ⟨pr', pk', qu', cf', rr', cr', rc', ck', re', us', rfl, hv'⟩ := hp
  have hok := hv'.2.2 rfl
  have hrr := ok_rr hok
  have hcr := ok_cr hE hok
  have hck := ok_ck hok
  refine y_num hx hb 0 dX0_blocks_4 rfl ?_
  refine lv_istore_n (lv' := [(1, .int (nI 0)), (0, .ref (h 0))]) hx hb dX0_blocks_5 rfl hl (by decide) rfl (fun ls hl => ?_)
  refine y_num hx hb 0 dX0_blocks_6 rfl ?_
  refine lv_istore_n (lv' := [(2, .int (nI 0)), (1, .int (nI 0)), (0, .ref (h 0))]) hx hb dX0_blocks_7 rfl hl (by decide) rfl (fun ls hl => ?_)
  refine y_num hx hb 0 dX0_blocks_8 rfl ?_
  refine lv_istore_n (lv' := [(3, .int (nI 0)), (2, .int (nI 0)), (1, .int (nI 0)), (0, .ref (h 0))]) hx hb dX0_blocks_9 rfl hl (by decide) rfl (fun ls hl => ?_)
  have hus : ∀ r, r < 7 → us' r < 128 := fun r hr => pf_us_lt hok hr
  refine wl_for 7 (fun k H locs ls => XH D A s.heap H locs (xW cI cB h true E pr' pk' qu' cf' rr' cr' rc' ck' re' us') ∧ lv_has ls 4 [(0, .ref (h 0)), (1, .int (nI (pf_bl us' k).1)), (2, .int (nI (pf_bl us' k).2)), (3, .int (nI k))]) ?_ ?_ 0 (by omega) _ _ _ ⟨hw, lv_sub hl [3, 2, 1, 0] rfl⟩
  · intro k hk H locs ls hI ih
    obtain ⟨hw, hl⟩ := hI
    have hd7 : (pf_bl us' k).2 < 128 := pf_bl_lt us' k (by omega)
    refine lv_iload_n hx hb dX0_blocks_10 rfl (lv_at hl 3 rfl) ?_
    refine y_push hx hb 7 dX0_blocks_11 rfl ?_
    refine y_lt hx hb hk (by decide) dX0_blocks_13 (tgt := 53) (by decide) ?_
    refine lv_aload_n hx hb dX0_blocks_16 rfl (lv_at hl 0 rfl) ?_
    refine xg_us C hw dX0_blocks_17 ?_
    refine lv_iload_n hx hb dX0_blocks_20 rfl (lv_at hl 3 rfl) ?_
    refine xl_us (by omega) C hw dX0_blocks_21 ?_
    refine y_ifeq_n hx hb (b31 (hus _ hk)) dX0_blocks_22 (tgt := 47) (by decide) (fun hc => ?_) (fun hc => ?_)
    · refine lv_iinc (v := nI (k + 1)) (lv' := [(3, .int (nI (k + 1))), (0, .ref (h 0)), (1, .int (nI (pf_bl us' k).1)), (2, .int (nI (pf_bl us' k).2))]) hx hb dX0_blocks_47 hl (k := 3) rfl (nI_1 _) (by decide) rfl (fun ls hl => ?_)
      refine lv_goto (tgt := 10) hx hb dX0_blocks_50 (by decide) ?_
      exact ih _ _ _ ⟨hw, by rw [pf_bl, if_pos (Or.inl hc)]; exact lv_sub hl [1, 2, 3, 0] rfl⟩
    · refine lv_iload_n hx hb dX0_blocks_25 rfl (lv_at hl 2 rfl) ?_
      refine lv_iload_n hx hb dX0_blocks_26 rfl (lv_at hl 3 rfl) ?_
      refine y_bit hx hb (by omega) (b31 hd7) dX0_blocks_27 dX0_blocks_28 dX0_blocks_29 ?_
      refine y_ifeq_w hx hb dX0_blocks_30 (tgt := 36) (by decide) (fun hd => ?_) (fun hd => ?_)
      · refine lv_iload_n hx hb dX0_blocks_36 rfl (lv_at hl 2 rfl) ?_
        refine lv_aload_n hx hb dX0_blocks_37 rfl (lv_at hl 0 rfl) ?_
        refine lv_iload_n hx hb dX0_blocks_38 rfl (lv_at hl 3 rfl) ?_
        refine y_cI (As := [.int (nI k)]) (rest := [.int (nI (pf_bl us' k).2)]) C hw (mx_rowsOfBlock l D hus k hk) (cwV 1 hts (lw_V q160 q162 qs13 q23 q163) rfl rfl rfl (by decide +kernel) ⟨Nat.le_of_ble_eq_true rfl, Nat.le_of_ble_eq_true rfl⟩) rfl rfl rfl rfl hl.1 (Nat.le_of_ble_eq_true rfl) ⟨Nat.zero_le _, Nat.zero_le _⟩ dX0_blocks_39 (fun r w1 H locs hp hw => ?_) rfl
        obtain ⟨rfl, rfl⟩ := hp
        refine y_or hx hb dX0_blocks_42 ?_
        refine lv_istore_n (lv' := [(2, .int (nI (((pf_bl us' k).2) ||| (pf_B us' k 7)))), (0, .ref (h 0)), (1, .int (nI (pf_bl us' k).1)), (3, .int (nI k))]) hx hb dX0_blocks_43 rfl hl (by decide) rfl (fun ls hl => ?_)
        refine lv_iinc (v := nI (((pf_bl us' k).1) + 1)) (lv' := [(1, .int (nI (((pf_bl us' k).1) + 1))), (2, .int (nI (((pf_bl us' k).2) ||| (pf_B us' k 7)))), (0, .ref (h 0)), (3, .int (nI k))]) hx hb dX0_blocks_44 hl (k := 2) rfl (nI_1 _) (by decide) rfl (fun ls hl => ?_)
        refine lv_iinc (v := nI (k + 1)) (lv' := [(3, .int (nI (k + 1))), (1, .int (nI (((pf_bl us' k).1) + 1))), (2, .int (nI (((pf_bl us' k).2) ||| (pf_B us' k 7)))), (0, .ref (h 0))]) hx hb dX0_blocks_47 hl (k := 3) rfl (nI_1 _) (by decide) rfl (fun ls hl => ?_)
        refine lv_goto (tgt := 10) hx hb dX0_blocks_50 (by decide) ?_
        exact ih _ _ _ ⟨hw, by rw [pf_bl, if_neg (fun q => q.elim hc (fun q => by rw [hd] at q; cases q))]; exact lv_sub hl [3, 1, 2, 0] rfl⟩
      · refine lv_goto (tgt := 47) hx hb dX0_blocks_33 (by decide) ?_
        refine lv_iinc (v := nI (k + 1)) (lv' := [(3, .int (nI (k + 1))), (0, .ref (h 0)), (1, .int (nI (pf_bl us' k).1)), (2, .int (nI (pf_bl us' k).2))]) hx hb dX0_blocks_47 hl (k := 3) rfl (nI_1 _) (by decide) rfl (fun ls hl => ?_)
        refine lv_goto (tgt := 10) hx hb dX0_blocks_50 (by decide) ?_
        exact ih _ _ _ ⟨hw, by rw [pf_bl, if_pos (Or.inr hd)]; exact lv_sub hl [1, 2, 3, 0] rfl⟩
  · intro H locs ls hI
    obtain ⟨hw, hl⟩ := hI
    refine lv_iload_n hx hb dX0_blocks_10 rfl (lv_at hl 3 rfl) ?_
    refine y_push hx hb 7 dX0_blocks_11 rfl ?_
    refine y_ge hx hb (Nat.le_refl _) (by decide) dX0_blocks_13 (tgt := 53) (by decide) ?_
    refine lv_iload_n hx hb dX0_blocks_53 rfl (lv_at hl 1 rfl) ?_
    exact y_iret C hw ⟨by rw [pf_a_bl (fun r hr => pf_a_us hok hr)], ⟨_, _, _, _, _, _, _, _, _, _, _, rfl, hv'⟩⟩ dX0_blocks_54
set_option maxHeartbeats 4000000 in
/-- the rows of a block -/
theorem mx_blockRows (l : Launch) (D : va_G) (hv : xInv rdy E pr pk rr cr ck re us) (i : Int32) : MtI l yX0_blockRows cX0_blockRows 2 (some .int) ({ frames := 4, cells := 0, slots := 0, locals := 91 }) D (tyL cI cB cZ) [.ref (h 0), .int i] (xW cI cB h rdy E pr pk qu cf rr cr rc ck re us) (fun r w => r = at_N i (mb_r E) ∧ XOk cI cB h E w) := by
  refine MtI.of (by decide) (Nat.le_of_ble_eq_true rfl) ?_
  intro p e s m below meth c A ls C hw hl
  obtain ⟨hx, hb, hr, hlk, hml, hown, hts, hK, hA⟩ := id C
  have hl : lv_has ls 2 [(0, .ref (h 0)), (1, .int i)] := hl
  have hE := hv.1
  refine lv_aload_n hx hb dX0_blockRows_0 rfl (lv_at hl 0 rfl) ?_
  refine lv_iload_n hx hb dX0_blockRows_1 rfl (lv_at hl 1 rfl) ?_
  refine y_cI (As := [.int i]) (rest := []) C hw (mx_isNumber l D i) (cwV 1 hts (lw_V q76 q78 qs0 q23 q79) rfl rfl rfl (by decide +kernel) ⟨Nat.le_of_ble_eq_true rfl, Nat.le_of_ble_eq_true rfl⟩) rfl rfl rfl rfl hl.1 (Nat.le_of_ble_eq_true rfl) ⟨Nat.zero_le _, Nat.zero_le _⟩ dX0_blockRows_2 (fun r w1 H locs hp hw => ?_) rfl
  obtain ⟨rfl, rfl⟩ := hp
  refine y_ifne_w hx hb dX0_blockRows_5 (tgt := 10) (by decide) (fun hi => ?_) (fun hi => ?_)
  · obtain ⟨x, hx7, rfl⟩ := isN_of hi
    refine lv_aload_n hx hb dX0_blockRows_10 rfl (lv_at hl 0 rfl) ?_
    refine y_cV (As := []) (rest := []) C hw (mx_prepare l D hv) (cwV 0 hts (lw_V q92 q94 qs1 q23 q95) rfl rfl rfl (by decide +kernel) ⟨Nat.le_of_ble_eq_true rfl, Nat.le_of_ble_eq_true rfl⟩) rfl rfl rfl rfl hl.1 (Nat.le_of_ble_eq_true rfl) ⟨Nat.zero_le _, Nat.zero_le _⟩ dX0_blockRows_11 (fun w1 H locs hp hw => ?_) rfl
    obtain ⟨pr', pk', qu', cf', rr', cr', rc', ck', re', us', rfl, hv'⟩ := hp
    have hok := hv'.2.2 rfl
    have hrr := ok_rr hok
    have hcr := ok_cr hE hok
    have hck := ok_ck hok
    have hus : ∀ r, r < 7 → us' r < 128 := fun r hr => pf_us_lt hok hr
    have hbr := pf_a_br (us := us') (E := E) (fun r hr => pf_a_us hok hr) hx7
    refine lv_aload_n hx hb dX0_blockRows_14 rfl (lv_at hl 0 rfl) ?_
    refine xg_us C hw dX0_blockRows_15 ?_
    refine lv_iload_n hx hb dX0_blockRows_18 rfl (lv_at hl 1 rfl) ?_
    refine xl_us (by omega) C hw dX0_blockRows_19 ?_
    refine y_ifne_n hx hb (b31 (hus _ hx7)) dX0_blockRows_20 (tgt := 27) (by decide) (fun hc => ?_) (fun hc => ?_)
    · refine lv_aload_n hx hb dX0_blockRows_27 rfl (lv_at hl 0 rfl) ?_
      refine lv_iload_n hx hb dX0_blockRows_28 rfl (lv_at hl 1 rfl) ?_
      refine y_cI (As := [.int (nI x)]) (rest := []) C hw (mx_rowsOfBlock l D hus x hx7) (cwV 1 hts (lw_V q160 q162 qs13 q23 q163) rfl rfl rfl (by decide +kernel) ⟨Nat.le_of_ble_eq_true rfl, Nat.le_of_ble_eq_true rfl⟩) rfl rfl rfl rfl hl.1 (Nat.le_of_ble_eq_true rfl) ⟨Nat.zero_le _, Nat.zero_le _⟩ dX0_blockRows_29 (fun r w1 H locs hp hw => ?_) rfl
      obtain ⟨rfl, rfl⟩ := hp
      exact y_iret C hw ⟨by rw [at_N_t hx7, mb_r, ← hbr, if_neg hc], ⟨_, _, _, _, _, _, _, _, _, _, _, rfl, hv'⟩⟩ dX0_blockRows_32
    · refine y_num hx hb 0 dX0_blockRows_23 rfl ?_
      refine lv_goto (tgt := 32) hx hb dX0_blockRows_24 (by decide) ?_
      exact y_iret C hw ⟨by rw [at_N_t hx7, mb_r, ← hbr, if_pos hc], ⟨_, _, _, _, _, _, _, _, _, _, _, rfl, hv'⟩⟩ dX0_blockRows_32
  · refine lv_iconst (v := nB 7) hx hb dX0_blockRows_8 (by decide) ?_
    exact y_iret C hw ⟨by rw [at_N_f hi]; rfl, ⟨_, _, _, _, _, _, _, _, _, _, _, rfl, hv⟩⟩ dX0_blockRows_9
set_option maxHeartbeats 4000000 in
/-- the size of a smallest cover -/
theorem mx_cover (l : Launch) (D : va_G) (hv : xInv rdy E pr pk rr cr ck re us)  : MtI l yX0_cover cX0_cover 3 (some .int) ({ frames := 4, cells := 0, slots := 0, locals := 91 }) D (tyL cI cB cZ) [.ref (h 0)] (xW cI cB h rdy E pr pk qu cf rr cr rc ck re us) (fun r w => r = nI (pf_mc E 128) ∧ XOk cI cB h E w) := by
  refine MtI.of (by decide) (Nat.le_of_ble_eq_true rfl) ?_
  intro p e s m below meth c A ls C hw hl
  obtain ⟨hx, hb, hr, hlk, hml, hown, hts, hK, hA⟩ := id C
  have hl : lv_has ls 3 [(0, .ref (h 0))] := hl
  have hE := hv.1
  refine lv_aload_n hx hb dX0_cover_0 rfl (lv_at hl 0 rfl) ?_
  refine y_cV (As := []) (rest := []) C hw (mx_prepare l D hv) (cwV 0 hts (lw_V q92 q94 qs1 q23 q95) rfl rfl rfl (by decide +kernel) ⟨Nat.le_of_ble_eq_true rfl, Nat.le_of_ble_eq_true rfl⟩) rfl rfl rfl rfl hl.1 (Nat.le_of_ble_eq_true rfl) ⟨Nat.zero_le _, Nat.zero_le _⟩ dX0_cover_1 (fun w1 H locs hp hw => ?_) rfl
  obtain ⟨pr', pk', qu', cf', rr', cr', rc', ck', re', us', rfl, hv'⟩ := hp
  have hok := hv'.2.2 rfl
  have hrr := ok_rr hok
  have hcr := ok_cr hE hok
  have hck := ok_ck hok
  refine y_num hx hb 0 dX0_cover_4 rfl ?_
  refine lv_istore_n (lv' := [(1, .int (nI 0)), (0, .ref (h 0))]) hx hb dX0_cover_5 rfl hl (by decide) rfl (fun ls hl => ?_)
  refine y_num hx hb 0 dX0_cover_6 rfl ?_
  refine lv_istore_n (lv' := [(2, .int (nI 0)), (1, .int (nI 0)), (0, .ref (h 0))]) hx hb dX0_cover_7 rfl hl (by decide) rfl (fun ls hl => ?_)
  refine wl_for 7 (fun k H locs ls => XH D A s.heap H locs (xW cI cB h true E pr' pk' qu' cf' rr' cr' rc' ck' re' us') ∧ lv_has ls 3 [(0, .ref (h 0)), (1, .int (nI (pf_cov E rr' cr' k))), (2, .int (nI k))]) ?_ ?_ 0 (by omega) _ _ _ ⟨hw, lv_sub hl [2, 1, 0] rfl⟩
  · intro k hk H locs ls hI ih
    obtain ⟨hw, hl⟩ := hI
    refine lv_iload_n hx hb dX0_cover_8 rfl (lv_at hl 2 rfl) ?_
    refine y_push hx hb 7 dX0_cover_9 rfl ?_
    refine y_lt hx hb hk (by decide) dX0_cover_11 (tgt := 57) (by decide) ?_
    refine lv_aload_n hx hb dX0_cover_14 rfl (lv_at hl 0 rfl) ?_
    refine xg_E C hw dX0_cover_15 ?_
    refine lv_iload_n hx hb dX0_cover_18 rfl (lv_at hl 2 rfl) ?_
    refine xl_E (by omega) C hw dX0_cover_19 ?_
    refine y_ifeq_n hx hb (b31 (hE _)) dX0_cover_20 (tgt := 37) (by decide) (fun hc => ?_) (fun hc => ?_)
    · refine lv_aload_n hx hb dX0_cover_37 rfl (lv_at hl 0 rfl) ?_
      refine xg_cr C hw dX0_cover_38 ?_
      refine lv_iload_n hx hb dX0_cover_41 rfl (lv_at hl 2 rfl) ?_
      refine y_bit hx hb (by omega) (b31 hcr) dX0_cover_42 dX0_cover_43 dX0_cover_44 ?_
      refine y_ifeq_w hx hb dX0_cover_45 (tgt := 51) (by decide) (fun hd2 => ?_) (fun hd2 => ?_)
      · refine lv_iinc (v := nI (k + 1)) (lv' := [(2, .int (nI (k + 1))), (0, .ref (h 0)), (1, .int (nI (pf_cov E rr' cr' k)))]) hx hb dX0_cover_51 hl (k := 2) rfl (nI_1 _) (by decide) rfl (fun ls hl => ?_)
        refine lv_goto (tgt := 8) hx hb dX0_cover_54 (by decide) ?_
        have e1 : mm_cnt (fun i => decide (E i ≠ 0) && !rr'.testBit i) (k + 1) = mm_cnt (fun i => decide (E i ≠ 0) && !rr'.testBit i) k + 0 := mm_cnt_f (by simp [hc])
        have e2 : mm_cnt (fun i => cr'.testBit i) (k + 1) = mm_cnt (fun i => cr'.testBit i) k + 0 := mm_cnt_f hd2
        have e3 : pf_cov E rr' cr' (k + 1) = pf_cov E rr' cr' k := by
          rw [pf_cov, pf_cov]
          omega
        exact ih _ _ _ ⟨hw, by rw [e3]; exact lv_sub hl [1, 2, 0] rfl⟩
      · refine lv_iinc (v := nI ((pf_cov E rr' cr' k) + 1)) (lv' := [(1, .int (nI ((pf_cov E rr' cr' k) + 1))), (0, .ref (h 0)), (2, .int (nI k))]) hx hb dX0_cover_48 hl (k := 1) rfl (nI_1 _) (by decide) rfl (fun ls hl => ?_)
        refine lv_iinc (v := nI (k + 1)) (lv' := [(2, .int (nI (k + 1))), (1, .int (nI ((pf_cov E rr' cr' k) + 1))), (0, .ref (h 0))]) hx hb dX0_cover_51 hl (k := 2) rfl (nI_1 _) (by decide) rfl (fun ls hl => ?_)
        refine lv_goto (tgt := 8) hx hb dX0_cover_54 (by decide) ?_
        have e1 : mm_cnt (fun i => decide (E i ≠ 0) && !rr'.testBit i) (k + 1) = mm_cnt (fun i => decide (E i ≠ 0) && !rr'.testBit i) k + 0 := mm_cnt_f (by simp [hc])
        have e2 : mm_cnt (fun i => cr'.testBit i) (k + 1) = mm_cnt (fun i => cr'.testBit i) k + 1 := mm_cnt_t hd2
        have e3 : pf_cov E rr' cr' (k + 1) = pf_cov E rr' cr' k + 1 := by
          rw [pf_cov, pf_cov]
          omega
        exact ih _ _ _ ⟨hw, by rw [e3]; exact lv_sub hl [2, 1, 0] rfl⟩
    · refine lv_aload_n hx hb dX0_cover_23 rfl (lv_at hl 0 rfl) ?_
      refine xg_rr C hw dX0_cover_24 ?_
      refine lv_iload_n hx hb dX0_cover_27 rfl (lv_at hl 2 rfl) ?_
      refine y_bit hx hb (by omega) (b31 hrr) dX0_cover_28 dX0_cover_29 dX0_cover_30 ?_
      refine y_ifne_w hx hb dX0_cover_31 (tgt := 37) (by decide) (fun hd1 => ?_) (fun hd1 => ?_)
      · refine lv_aload_n hx hb dX0_cover_37 rfl (lv_at hl 0 rfl) ?_
        refine xg_cr C hw dX0_cover_38 ?_
        refine lv_iload_n hx hb dX0_cover_41 rfl (lv_at hl 2 rfl) ?_
        refine y_bit hx hb (by omega) (b31 hcr) dX0_cover_42 dX0_cover_43 dX0_cover_44 ?_
        refine y_ifeq_w hx hb dX0_cover_45 (tgt := 51) (by decide) (fun hd2 => ?_) (fun hd2 => ?_)
        · refine lv_iinc (v := nI (k + 1)) (lv' := [(2, .int (nI (k + 1))), (0, .ref (h 0)), (1, .int (nI (pf_cov E rr' cr' k)))]) hx hb dX0_cover_51 hl (k := 2) rfl (nI_1 _) (by decide) rfl (fun ls hl => ?_)
          refine lv_goto (tgt := 8) hx hb dX0_cover_54 (by decide) ?_
          have e1 : mm_cnt (fun i => decide (E i ≠ 0) && !rr'.testBit i) (k + 1) = mm_cnt (fun i => decide (E i ≠ 0) && !rr'.testBit i) k + 0 := mm_cnt_f (by simp [hd1])
          have e2 : mm_cnt (fun i => cr'.testBit i) (k + 1) = mm_cnt (fun i => cr'.testBit i) k + 0 := mm_cnt_f hd2
          have e3 : pf_cov E rr' cr' (k + 1) = pf_cov E rr' cr' k := by
            rw [pf_cov, pf_cov]
            omega
          exact ih _ _ _ ⟨hw, by rw [e3]; exact lv_sub hl [1, 2, 0] rfl⟩
        · refine lv_iinc (v := nI ((pf_cov E rr' cr' k) + 1)) (lv' := [(1, .int (nI ((pf_cov E rr' cr' k) + 1))), (0, .ref (h 0)), (2, .int (nI k))]) hx hb dX0_cover_48 hl (k := 1) rfl (nI_1 _) (by decide) rfl (fun ls hl => ?_)
          refine lv_iinc (v := nI (k + 1)) (lv' := [(2, .int (nI (k + 1))), (1, .int (nI ((pf_cov E rr' cr' k) + 1))), (0, .ref (h 0))]) hx hb dX0_cover_51 hl (k := 2) rfl (nI_1 _) (by decide) rfl (fun ls hl => ?_)
          refine lv_goto (tgt := 8) hx hb dX0_cover_54 (by decide) ?_
          have e1 : mm_cnt (fun i => decide (E i ≠ 0) && !rr'.testBit i) (k + 1) = mm_cnt (fun i => decide (E i ≠ 0) && !rr'.testBit i) k + 0 := mm_cnt_f (by simp [hd1])
          have e2 : mm_cnt (fun i => cr'.testBit i) (k + 1) = mm_cnt (fun i => cr'.testBit i) k + 1 := mm_cnt_t hd2
          have e3 : pf_cov E rr' cr' (k + 1) = pf_cov E rr' cr' k + 1 := by
            rw [pf_cov, pf_cov]
            omega
          exact ih _ _ _ ⟨hw, by rw [e3]; exact lv_sub hl [2, 1, 0] rfl⟩
      · refine lv_iinc (v := nI ((pf_cov E rr' cr' k) + 1)) (lv' := [(1, .int (nI ((pf_cov E rr' cr' k) + 1))), (0, .ref (h 0)), (2, .int (nI k))]) hx hb dX0_cover_34 hl (k := 1) rfl (nI_1 _) (by decide) rfl (fun ls hl => ?_)
        refine lv_aload_n hx hb dX0_cover_37 rfl (lv_at hl 1 rfl) ?_
        refine xg_cr C hw dX0_cover_38 ?_
        refine lv_iload_n hx hb dX0_cover_41 rfl (lv_at hl 2 rfl) ?_
        refine y_bit hx hb (by omega) (b31 hcr) dX0_cover_42 dX0_cover_43 dX0_cover_44 ?_
        refine y_ifeq_w hx hb dX0_cover_45 (tgt := 51) (by decide) (fun hd2 => ?_) (fun hd2 => ?_)
        · refine lv_iinc (v := nI (k + 1)) (lv' := [(2, .int (nI (k + 1))), (1, .int (nI ((pf_cov E rr' cr' k) + 1))), (0, .ref (h 0))]) hx hb dX0_cover_51 hl (k := 2) rfl (nI_1 _) (by decide) rfl (fun ls hl => ?_)
          refine lv_goto (tgt := 8) hx hb dX0_cover_54 (by decide) ?_
          have e1 : mm_cnt (fun i => decide (E i ≠ 0) && !rr'.testBit i) (k + 1) = mm_cnt (fun i => decide (E i ≠ 0) && !rr'.testBit i) k + 1 := mm_cnt_t (by simp [hc, hd1])
          have e2 : mm_cnt (fun i => cr'.testBit i) (k + 1) = mm_cnt (fun i => cr'.testBit i) k + 0 := mm_cnt_f hd2
          have e3 : pf_cov E rr' cr' (k + 1) = pf_cov E rr' cr' k + 1 := by
            rw [pf_cov, pf_cov]
            omega
          exact ih _ _ _ ⟨hw, by rw [e3]; exact lv_sub hl [2, 1, 0] rfl⟩
        · refine lv_iinc (v := nI (((pf_cov E rr' cr' k) + 1) + 1)) (lv' := [(1, .int (nI (((pf_cov E rr' cr' k) + 1) + 1))), (0, .ref (h 0)), (2, .int (nI k))]) hx hb dX0_cover_48 hl (k := 0) rfl (nI_1 _) (by decide) rfl (fun ls hl => ?_)
          refine lv_iinc (v := nI (k + 1)) (lv' := [(2, .int (nI (k + 1))), (1, .int (nI (((pf_cov E rr' cr' k) + 1) + 1))), (0, .ref (h 0))]) hx hb dX0_cover_51 hl (k := 2) rfl (nI_1 _) (by decide) rfl (fun ls hl => ?_)
          refine lv_goto (tgt := 8) hx hb dX0_cover_54 (by decide) ?_
          have e1 : mm_cnt (fun i => decide (E i ≠ 0) && !rr'.testBit i) (k + 1) = mm_cnt (fun i => decide (E i ≠ 0) && !rr'.testBit i) k + 1 := mm_cnt_t (by simp [hc, hd1])
          have e2 : mm_cnt (fun i => cr'.testBit i) (k + 1) = mm_cnt (fun i => cr'.testBit i) k + 1 := mm_cnt_t hd2
          have e3 : pf_cov E rr' cr' (k + 1) = pf_cov E rr' cr' k + 1 + 1 := by
            rw [pf_cov, pf_cov]
            omega
          exact ih _ _ _ ⟨hw, by rw [e3]; exact lv_sub hl [2, 1, 0] rfl⟩
  · intro H locs ls hI
    obtain ⟨hw, hl⟩ := hI
    refine lv_iload_n hx hb dX0_cover_8 rfl (lv_at hl 2 rfl) ?_
    refine y_push hx hb 7 dX0_cover_9 rfl ?_
    refine y_ge hx hb (Nat.le_refl _) (by decide) dX0_cover_11 (tgt := 57) (by decide) ?_
    refine lv_iload_n hx hb dX0_cover_57 rfl (lv_at hl 1 rfl) ?_
    exact y_iret C hw ⟨by rw [pf_a_cov hok], ⟨_, _, _, _, _, _, _, _, _, _, _, rfl, hv'⟩⟩ dX0_cover_58
end X0D
end
section
/-! PURE PART 7: one row more in the reference's table; rows of the machine for division -/
set_option maxRecDepth 100000
theorem pf_tk_congr {can can' : Nat → Bool} (h : ∀ S, S < 128 → can S = can' S) (cols : Nat) : ∀ S, S < 128 → pf_tk can cols S = pf_tk can' cols S := by
  intro S hS
  rw [Bool.eq_iff_iff, pf_tk_iff, pf_tk_iff, h S hS]
  have hx : ∀ c, c < 7 → S ^^^ 2 ^ c < 128 := fun c hc => Nat.xor_lt_two_pow (n := 7) hS (mm_two_lt hc)
  constructor
  · rintro (q | ⟨c, h1, h2, h3, h4⟩)
    · exact Or.inl q
    · exact Or.inr ⟨c, h1, h2, h3, by rw [← h _ (hx c h1)]; exact h4⟩
  · rintro (q | ⟨c, h1, h2, h3, h4⟩)
    · exact Or.inl q
    · exact Or.inr ⟨c, h1, h2, h3, by rw [h _ (hx c h1)]; exact h4⟩
theorem pf_tk_0 (can : Nat → Bool) (S : Nat) : pf_tk can 0 S = can S := by
  rw [Bool.eq_iff_iff, pf_tk_iff]
  constructor
  · rintro (q | ⟨c, h1, h2, _⟩)
    · exact q
    · rw [Nat.zero_testBit] at h2; cases h2
  · exact Or.inl
/-- 'then' while the sets below i, and of i the columns below j, are done -/
def tk_I (ca : Nat → Bool) (cols i j : Nat) (th : Nat → Bool) : Prop := ∀ S, S < 128 → (th S = true ↔ ca S = true ∨ ∃ s c, (s < i ∨ (s = i ∧ c < j)) ∧ c < 7 ∧ ca s = true ∧ cols.testBit c = true ∧ s.testBit c = false ∧ S = s ||| 2 ^ c)
theorem tk_start {ca th : Nat → Bool} {cols : Nat} (h : ∀ S, S < 128 → th S = ca S) : tk_I ca cols 0 0 th := by
  intro S hS
  rw [h S hS]
  constructor
  · exact Or.inl
  · rintro (q | ⟨s, c, h1, _⟩)
    · exact q
    · omega
theorem tk_row {ca th : Nat → Bool} {cols i : Nat} (h : tk_I ca cols i 7 th) : tk_I ca cols (i + 1) 0 th := by
  intro S hS
  rw [h S hS]
  constructor
  · rintro (q | ⟨s, c, h1, h2, h3⟩)
    · exact Or.inl q
    · exact Or.inr ⟨s, c, by omega, h2, h3⟩
  · rintro (q | ⟨s, c, h1, h2, h3⟩)
    · exact Or.inl q
    · exact Or.inr ⟨s, c, by omega, h2, h3⟩
theorem tk_no {ca th : Nat → Bool} {cols i j : Nat} (h : tk_I ca cols i j th) (hn : ¬ (ca i = true ∧ cols.testBit j = true ∧ i.testBit j = false)) : tk_I ca cols i (j + 1) th := by
  intro S hS
  rw [h S hS]
  constructor
  · rintro (q | ⟨s, c, h1, h2, h3⟩)
    · exact Or.inl q
    · exact Or.inr ⟨s, c, by omega, h2, h3⟩
  · rintro (q | ⟨s, c, h1, h2, h3, h4, h5, h6⟩)
    · exact Or.inl q
    · refine Or.inr ⟨s, c, ?_, h2, h3, h4, h5, h6⟩
      rcases h1 with q | ⟨q1, q2⟩
      · exact Or.inl q
      · by_cases e : c = j
        · rw [q1] at h3 h5
          rw [e] at h4 h5
          exact absurd ⟨h3, h4, h5⟩ hn
        · exact Or.inr ⟨q1, by omega⟩
theorem tk_yes {ca th : Nat → Bool} {cols i j : Nat} (h : tk_I ca cols i j th) (hj : j < 7) (h1 : ca i = true) (h2 : cols.testBit j = true) (h3 : i.testBit j = false) : tk_I ca cols i (j + 1) (mm_up th (i ||| 2 ^ j) true) := by
  intro S hS
  by_cases e : S = i ||| 2 ^ j
  · rw [e, mm_up_s]
    exact ⟨fun _ => Or.inr ⟨i, j, by omega, hj, h1, h2, h3, rfl⟩, fun _ => rfl⟩
  · rw [mm_up_n e, h S hS]
    constructor
    · rintro (q | ⟨s, c, a1, a2, a3⟩)
      · exact Or.inl q
      · exact Or.inr ⟨s, c, by omega, a2, a3⟩
    · rintro (q | ⟨s, c, a1, a2, a3, a4, a5, a6⟩)
      · exact Or.inl q
      · refine Or.inr ⟨s, c, ?_, a2, a3, a4, a5, a6⟩
        rcases a1 with q | ⟨q1, q2⟩
        · exact Or.inl q
        · refine Or.inr ⟨q1, ?_⟩
          have : c ≠ j := fun w => e (by rw [a6, q1, w])
          omega
theorem tk_end {ca th : Nat → Bool} {cols : Nat} (h : tk_I ca cols 128 0 th) : ∀ S, S < 128 → th S = pf_tk ca cols S := by
  intro S hS
  rw [Bool.eq_iff_iff, h S hS, pf_tk_iff]
  constructor
  · rintro (q | ⟨s, c, a1, a2, a3, a4, a5, a6⟩)
    · exact Or.inl q
    · refine Or.inr ⟨c, a2, a4, by rw [a6, ag_or_bit]; exact Or.inr rfl, ?_⟩
      have : S ^^^ 2 ^ c = s := Nat.eq_of_testBit_eq fun j => by
        rw [Bool.eq_iff_iff, pf_xor_bit, a6, ag_or_bit]
        constructor
        · rintro (⟨q | q, w⟩ | ⟨q, w⟩)
          · exact q
          · exact absurd q w
          · have : (s ||| 2 ^ c).testBit j = true := ag_or_bit.mpr (Or.inr w)
            rw [q] at this; cases this
        · intro q
          exact Or.inl ⟨Or.inl q, fun w => by rw [w, a5] at q; cases q⟩
      rw [this]; exact a3
  · rintro (q | ⟨c, a1, a2, a3, a4⟩)
    · exact Or.inl q
    · refine Or.inr ⟨S ^^^ 2 ^ c, c, Or.inl (Nat.xor_lt_two_pow (n := 7) hS (mm_two_lt a1)), a1, a4, a2, ?_, ?_⟩
      · cases hb : (S ^^^ 2 ^ c).testBit c with
        | false => rfl
        | true =>
          rw [pf_xor_bit] at hb
          rcases hb with ⟨_, q⟩ | ⟨q, _⟩
          · exact absurd rfl q
          · rw [a3] at q; cases q
      · refine Nat.eq_of_testBit_eq fun j => ?_
        rw [Bool.eq_iff_iff, ag_or_bit, pf_xor_bit]
        constructor
        · intro q
          by_cases e : j = c
          · exact Or.inr e
          · exact Or.inl (Or.inl ⟨q, e⟩)
        · rintro ((⟨q, _⟩ | ⟨_, q⟩) | q)
          · exact q
          · rw [q]; exact a3
          · rw [q]; exact a3
theorem pf_BO_congr {us us' : Nat → Nat} (h : ∀ k, k < 7 → us k = us' k) {r : Nat} (hr : r < 7) : pf_BO us r 7 = pf_BO us' r 7 := by
  rw [← pf_B_BO us hr, ← pf_B_BO us' hr, pf_B_congr h]
section WD
variable {p : Program} {l : Launch} {e : Env} {R : Room} {s : State} {m : MethodId} {args : Array Value} {below : List Frame} {meth : Method} {c : Code} {H : Heap} {locs : List Loc} {cells slots : Nat} {Q : State → Prop}
variable {cc : ByteArray} {pc : Nat} {ls : Array Slot} {rest : List Value}
theorem y_div7 (hexec : p.tables.exec = Jvm.exec) (hb : c.code = cc) {a : Nat} (ha : a < 2 ^ 31) (hdg : decode cc pc = .ok (.idiv, 1))
    (k : W p l e R s m args below meth c H locs cells slots Q (F0 m (pc + 1) ls (.int (nI (a / 7)) :: rest))) : W p l e R s m args below meth c H locs cells slots Q (F0 m pc ls (.int (nI 7) :: .int (nI a) :: rest)) := lv_idiv hexec hb hdg (by decide) (by rw [pk_div ha (by decide) (by decide)]; exact k)
theorem y_rem7 (hexec : p.tables.exec = Jvm.exec) (hb : c.code = cc) {a : Nat} (ha : a < 2 ^ 31) (hdg : decode cc pc = .ok (.irem, 1))
    (k : W p l e R s m args below meth c H locs cells slots Q (F0 m (pc + 1) ls (.int (nI (a % 7)) :: rest))) : W p l e R s m args below meth c H locs cells slots Q (F0 m pc ls (.int (nI 7) :: .int (nI a) :: rest)) := lv_irem hexec hb hdg (by decide) (by rw [pk_rem ha (by decide) (by decide)]; exact k)
theorem y_sub (hexec : p.tables.exec = Jvm.exec) (hb : c.code = cc) {a b : Nat} (h : b ≤ a) (hdg : decode cc pc = .ok (.isub, 1))
    (k : W p l e R s m args below meth c H locs cells slots Q (F0 m (pc + 1) ls (.int (nI (a - b)) :: rest))) : W p l e R s m args below meth c H locs cells slots Q (F0 m pc ls (.int (nI b) :: .int (nI a) :: rest)) := lv_isub hexec hb hdg (by rw [pk_sub h]; exact k)
end WD
end
section
/-! DmDecomposerModel: isPlace, in, sizeOf, takeRow, sizeWithout, largest (printed by gen_x1a.py) -/
set_option maxRecDepth 100000
section X1A
variable {cI cB cZ : ClassId} {g : Nat → Nat} {E : Nat → Nat} {ca th : Nat → Bool} {go : Nat → Nat}
theorem pf_best_le (can : Nat → Bool) : ∀ n, pf_best can n ≤ 7
  | 0 => Nat.zero_le _
  | n + 1 => by
    have h1 := pf_best_le can n
    have h2 : pf_sz n ≤ 7 := mm_cnt_le _ 7
    rw [pf_best]
    by_cases hc : can n = true
    · rw [if_pos hc]
      split <;> omega
    · rw [if_neg hc]
      split <;> omega
set_option maxHeartbeats 4000000 in
/-- 0 to 6 -/
theorem mm_isPlace (l : Launch) (D : va_G) (i : Int32) : MtI l yX1_isPlace cX1_isPlace 2 (some .boolean) ({ frames := 0, cells := 0, slots := 0, locals := 0 }) D (tyL cI cB cZ) [.ref (g 0), .int i] (mW cI cZ g E ca th go) (fun r w => r = wI (isN i) ∧ w = (mW cI cZ g E ca th go)) := by
  refine MtI.of (by decide) (Nat.le_of_ble_eq_true rfl) ?_
  intro p e s m below meth c A ls C hw hl
  obtain ⟨hx, hb, hr, hlk, hml, hown, hts, hK, hA⟩ := id C
  have hl : lv_has ls 2 [(0, .ref (g 0)), (1, .int i)] := hl
  refine lv_iload_n hx hb dX1_isPlace_0 rfl (lv_at hl 1 rfl) ?_
  refine lv_if_lt hx hb dX1_isPlace_1 (tgt := 14) (by decide) (fun hc => ?_) (fun hc => ?_)
  · have hi : isN i = false := by rw [isN, decide_eq_false_iff_not]; exact fun q => q.1 hc
    refine lv_iconst (v := wI false) hx hb dX1_isPlace_14 rfl ?_
    exact y_zret C hw ⟨by rw [hi], rfl⟩ dX1_isPlace_15
  · refine lv_iload_n hx hb dX1_isPlace_4 rfl (lv_at hl 1 rfl) ?_
    refine lv_bipush (v := 6) hx hb dX1_isPlace_5 rfl ?_
    refine lv_icmp_gt hx hb dX1_isPlace_7 (tgt := 14) (by decide) (fun hc2 => ?_) (fun hc2 => ?_)
    · have hi : isN i = false := by rw [isN, decide_eq_false_iff_not]; exact fun q => q.2 hc2
      refine lv_iconst (v := wI false) hx hb dX1_isPlace_14 rfl ?_
      exact y_zret C hw ⟨by rw [hi], rfl⟩ dX1_isPlace_15
    · have hi : isN i = true := by rw [isN, decide_eq_true_eq]; exact ⟨hc, hc2⟩
      refine lv_iconst (v := wI true) hx hb dX1_isPlace_10 rfl ?_
      refine lv_goto (tgt := 15) hx hb dX1_isPlace_11 (by decide) ?_
      exact y_zret C hw ⟨by rw [hi], rfl⟩ dX1_isPlace_15
set_option maxHeartbeats 4000000 in
/-- in a set -/
theorem mm_in (l : Launch) (D : va_G) (set k : Nat) (hset : set < 128) (hk : k < 7) : MtI l yX1_in cX1_in 3 (some .boolean) ({ frames := 0, cells := 0, slots := 0, locals := 0 }) D (tyL cI cB cZ) [.ref (g 0), .int (nI set), .int (nI k)] (mW cI cZ g E ca th go) (fun r w => r = wI (set.testBit k) ∧ w = (mW cI cZ g E ca th go)) := by
  refine MtI.of (by decide) (Nat.le_of_ble_eq_true rfl) ?_
  intro p e s m below meth c A ls C hw hl
  obtain ⟨hx, hb, hr, hlk, hml, hown, hts, hK, hA⟩ := id C
  have hl : lv_has ls 3 [(0, .ref (g 0)), (1, .int (nI set)), (2, .int (nI k))] := hl
  refine lv_iload_n hx hb dX1_in_0 rfl (lv_at hl 1 rfl) ?_
  refine lv_iload_n hx hb dX1_in_1 rfl (lv_at hl 2 rfl) ?_
  refine y_bit hx hb (by omega) (b31 hset) dX1_in_2 dX1_in_3 dX1_in_4 ?_
  refine y_num hx hb 1 dX1_in_5 rfl ?_
  refine lv_icmp_ne hx hb dX1_in_6 (tgt := 13) (by decide) (fun hc => ?_) (fun hc => ?_)
  · have hi : set.testBit k = false := by
      cases q : set.testBit k with
      | false => rfl
      | true => exact absurd (by rw [q]; rfl) hc
    refine lv_iconst (v := wI false) hx hb dX1_in_13 rfl ?_
    exact y_zret C hw ⟨by rw [hi], rfl⟩ dX1_in_14
  · have hi : set.testBit k = true := n_wI_1.mp hc
    refine lv_iconst (v := wI true) hx hb dX1_in_9 rfl ?_
    refine lv_goto (tgt := 14) hx hb dX1_in_10 (by decide) ?_
    exact y_zret C hw ⟨by rw [hi], rfl⟩ dX1_in_14
set_option maxHeartbeats 4000000 in
/-- how many are in a set -/
theorem mm_sizeOf (l : Launch) (D : va_G) (set : Nat) (hset : set < 128) : MtI l yX1_sizeOf cX1_sizeOf 4 (some .int) ({ frames := 1, cells := 0, slots := 0, locals := 22 }) D (tyL cI cB cZ) [.ref (g 0), .int (nI set)] (mW cI cZ g E ca th go) (fun r w => r = nI (pf_sz set) ∧ w = (mW cI cZ g E ca th go)) := by
  refine MtI.of (by decide) (Nat.le_of_ble_eq_true rfl) ?_
  intro p e s m below meth c A ls C hw hl
  obtain ⟨hx, hb, hr, hlk, hml, hown, hts, hK, hA⟩ := id C
  have hl : lv_has ls 4 [(0, .ref (g 0)), (1, .int (nI set))] := hl
  refine y_num hx hb 0 dX1_sizeOf_0 rfl ?_
  refine lv_istore_n (lv' := [(2, .int (nI 0)), (0, .ref (g 0)), (1, .int (nI set))]) hx hb dX1_sizeOf_1 rfl hl (by decide) rfl (fun ls hl => ?_)
  refine y_num hx hb 0 dX1_sizeOf_2 rfl ?_
  refine lv_istore_n (lv' := [(3, .int (nI 0)), (2, .int (nI 0)), (0, .ref (g 0)), (1, .int (nI set))]) hx hb dX1_sizeOf_3 rfl hl (by decide) rfl (fun ls hl => ?_)
  refine wl_for 7 (fun k H locs ls => XH D A s.heap H locs (mW cI cZ g E ca th go) ∧ lv_has ls 4 [(0, .ref (g 0)), (1, .int (nI set)), (2, .int (nI (mm_cnt (fun k => set.testBit k) k))), (3, .int (nI k))]) ?_ ?_ 0 (by omega) _ _ _ ⟨hw, lv_sub hl [2, 3, 1, 0] rfl⟩
  · intro k hk H locs ls hI ih
    obtain ⟨hw, hl⟩ := hI
    refine lv_iload_n hx hb dX1_sizeOf_4 rfl (lv_at hl 3 rfl) ?_
    refine y_push hx hb 7 dX1_sizeOf_5 rfl ?_
    refine y_lt hx hb hk (by decide) dX1_sizeOf_7 (tgt := 28) (by decide) ?_
    refine lv_aload_n hx hb dX1_sizeOf_10 rfl (lv_at hl 0 rfl) ?_
    refine lv_iload_n hx hb dX1_sizeOf_11 rfl (lv_at hl 1 rfl) ?_
    refine lv_iload_n hx hb dX1_sizeOf_12 rfl (lv_at hl 3 rfl) ?_
    refine y_cI (As := [.int (nI set), .int (nI k)]) (rest := []) C hw (mm_in l D set k hset hk) (cwV 2 hts (lw_V q220 q222 qs17 q24 q223) rfl rfl rfl (by decide +kernel) ⟨Nat.le_of_ble_eq_true rfl, Nat.le_of_ble_eq_true rfl⟩) rfl rfl rfl rfl hl.1 (Nat.le_of_ble_eq_true rfl) ⟨Nat.zero_le _, Nat.zero_le _⟩ dX1_sizeOf_13 (fun r w1 H locs hp hw => ?_) rfl
    obtain ⟨rfl, rfl⟩ := hp
    refine y_ifeq_w hx hb dX1_sizeOf_16 (tgt := 22) (by decide) (fun hc => ?_) (fun hc => ?_)
    · refine lv_iinc (v := nI (k + 1)) (lv' := [(3, .int (nI (k + 1))), (0, .ref (g 0)), (1, .int (nI set)), (2, .int (nI (mm_cnt (fun k => set.testBit k) k)))]) hx hb dX1_sizeOf_22 hl (k := 3) rfl (nI_1 _) (by decide) rfl (fun ls hl => ?_)
      refine lv_goto (tgt := 4) hx hb dX1_sizeOf_25 (by decide) ?_
      exact ih _ _ _ ⟨hw, by rw [mm_cnt_f (p := fun k => set.testBit k) (n := k) hc]; exact lv_sub hl [1, 2, 3, 0] rfl⟩
    · refine lv_iinc (v := nI ((mm_cnt (fun k => set.testBit k) k) + 1)) (lv' := [(2, .int (nI ((mm_cnt (fun k => set.testBit k) k) + 1))), (0, .ref (g 0)), (1, .int (nI set)), (3, .int (nI k))]) hx hb dX1_sizeOf_19 hl (k := 2) rfl (nI_1 _) (by decide) rfl (fun ls hl => ?_)
      refine lv_iinc (v := nI (k + 1)) (lv' := [(3, .int (nI (k + 1))), (2, .int (nI ((mm_cnt (fun k => set.testBit k) k) + 1))), (0, .ref (g 0)), (1, .int (nI set))]) hx hb dX1_sizeOf_22 hl (k := 3) rfl (nI_1 _) (by decide) rfl (fun ls hl => ?_)
      refine lv_goto (tgt := 4) hx hb dX1_sizeOf_25 (by decide) ?_
      exact ih _ _ _ ⟨hw, by rw [mm_cnt_t (p := fun k => set.testBit k) (n := k) hc]; exact lv_sub hl [2, 3, 1, 0] rfl⟩
  · intro H locs ls hI
    obtain ⟨hw, hl⟩ := hI
    refine lv_iload_n hx hb dX1_sizeOf_4 rfl (lv_at hl 3 rfl) ?_
    refine y_push hx hb 7 dX1_sizeOf_5 rfl ?_
    refine y_ge hx hb (Nat.le_refl _) (by decide) dX1_sizeOf_7 (tgt := 28) (by decide) ?_
    refine lv_iload_n hx hb dX1_sizeOf_28 rfl (lv_at hl 2 rfl) ?_
    exact y_iret C hw ⟨rfl, rfl⟩ dX1_sizeOf_29
set_option maxHeartbeats 4000000 in
/-- one more row -/
theorem mm_takeRow (l : Launch) (D : va_G) (cols : Nat) (hcols : cols < 128) : MtV l yX1_takeRow cX1_takeRow 4 ({ frames := 1, cells := 0, slots := 0, locals := 22 }) D (tyL cI cB cZ) [.ref (g 0), .int (nI cols)] (mW cI cZ g E ca th go) (fun w => ∃ (ca' th' : Nat → Bool), w = (mW cI cZ g E ca' th' go) ∧ ∀ S, S < 128 → ca' S = pf_tk ca cols S) := by
  refine MtV.of (by decide) (Nat.le_of_ble_eq_true rfl) ?_
  intro p e s m below meth c A ls C hw hl
  obtain ⟨hx, hb, hr, hlk, hml, hown, hts, hK, hA⟩ := id C
  have hl : lv_has ls 4 [(0, .ref (g 0)), (1, .int (nI cols))] := hl
  refine y_num hx hb 0 dX1_takeRow_0 rfl ?_
  refine lv_istore_n (lv' := [(2, .int (nI 0)), (0, .ref (g 0)), (1, .int (nI cols))]) hx hb dX1_takeRow_1 rfl hl (by decide) rfl (fun ls hl => ?_)
  refine wl_for 128 (fun k H locs ls => ∃ (th1 : Nat → Bool), XH D A s.heap H locs (mW cI cZ g E ca th1 go) ∧ lv_has ls 4 [(0, .ref (g 0)), (1, .int (nI cols)), (2, .int (nI k))] ∧ (∀ S, S < k → th1 S = ca S)) ?_ ?_ 0 (by omega) _ _ _ ⟨th, hw, lv_sub hl [1, 2, 0] rfl, fun S hS => absurd hS (Nat.not_lt_zero S)⟩
  · intro k hk H locs ls hI ih
    obtain ⟨th1, hw, hl, h1⟩ := hI
    refine lv_iload_n hx hb dX1_takeRow_2 rfl (lv_at hl 2 rfl) ?_
    refine lv_sipush (v := nI 128) hx hb dX1_takeRow_3 (by decide) ?_
    refine y_lt hx hb hk (by decide) dX1_takeRow_6 (tgt := 27) (by decide) ?_
    refine lv_aload_n hx hb dX1_takeRow_9 rfl (lv_at hl 0 rfl) ?_
    refine mg_th C hw dX1_takeRow_10 ?_
    refine lv_iload_n hx hb dX1_takeRow_13 rfl (lv_at hl 2 rfl) ?_
    refine lv_aload_n hx hb dX1_takeRow_14 rfl (lv_at hl 0 rfl) ?_
    refine mg_ca C hw dX1_takeRow_15 ?_
    refine lv_iload_n hx hb dX1_takeRow_18 rfl (lv_at hl 2 rfl) ?_
    refine ml_ca (by omega) C hw dX1_takeRow_19 ?_
    refine ms_th (by omega) C hw dX1_takeRow_20 (fun H locs hw => ?_)
    refine lv_iinc (v := nI (k + 1)) (lv' := [(2, .int (nI (k + 1))), (0, .ref (g 0)), (1, .int (nI cols))]) hx hb dX1_takeRow_21 hl (k := 2) rfl (nI_1 _) (by decide) rfl (fun ls hl => ?_)
    refine lv_goto (tgt := 2) hx hb dX1_takeRow_24 (by decide) ?_
    exact ih _ _ _ ⟨_, hw, lv_sub hl [1, 2, 0] rfl, fun S hS => by
      by_cases e : S = k
      · rw [e, mm_up_s]
      · rw [mm_up_n e]; exact h1 S (by omega)⟩
  · intro H locs ls hI
    obtain ⟨th1, hw, hl, h1⟩ := hI
    refine lv_iload_n hx hb dX1_takeRow_2 rfl (lv_at hl 2 rfl) ?_
    refine lv_sipush (v := nI 128) hx hb dX1_takeRow_3 (by decide) ?_
    refine y_ge hx hb (Nat.le_refl _) (by decide) dX1_takeRow_6 (tgt := 27) (by decide) ?_
    refine y_num hx hb 0 dX1_takeRow_27 rfl ?_
    refine lv_istore_n (lv' := [(2, .int (nI 0)), (0, .ref (g 0)), (1, .int (nI cols))]) hx hb dX1_takeRow_28 rfl hl (by decide) rfl (fun ls hl => ?_)
    refine wl_for 128 (fun i H locs ls => ∃ (th2 : Nat → Bool), XH D A s.heap H locs (mW cI cZ g E ca th2 go) ∧ lv_has ls 4 [(0, .ref (g 0)), (1, .int (nI cols)), (2, .int (nI i))] ∧ (tk_I ca cols i 0 th2)) ?_ ?_ 0 (by omega) _ _ _ ⟨th1, hw, lv_sub hl [1, 2, 0] rfl, tk_start h1⟩
    · intro i hi H locs ls hI ih2
      obtain ⟨th2, hw, hl, hT2⟩ := hI
      refine lv_iload_n hx hb dX1_takeRow_29 rfl (lv_at hl 2 rfl) ?_
      refine lv_sipush (v := nI 128) hx hb dX1_takeRow_30 (by decide) ?_
      refine y_lt hx hb hi (by decide) dX1_takeRow_33 (tgt := 94) (by decide) ?_
      refine y_num hx hb 0 dX1_takeRow_36 rfl ?_
      refine lv_istore_n (lv' := [(3, .int (nI 0)), (0, .ref (g 0)), (1, .int (nI cols)), (2, .int (nI i))]) hx hb dX1_takeRow_37 rfl hl (by decide) rfl (fun ls hl => ?_)
      refine wl_for 7 (fun j H locs ls => ∃ (th3 : Nat → Bool), XH D A s.heap H locs (mW cI cZ g E ca th3 go) ∧ lv_has ls 4 [(0, .ref (g 0)), (1, .int (nI cols)), (2, .int (nI i)), (3, .int (nI j))] ∧ (tk_I ca cols i j th3)) ?_ ?_ 0 (by omega) _ _ _ ⟨th2, hw, lv_sub hl [1, 2, 3, 0] rfl, hT2⟩
      · intro j hj H locs ls hI ih3
        obtain ⟨th3, hw, hl, hT3⟩ := hI
        refine lv_iload_n hx hb dX1_takeRow_38 rfl (lv_at hl 3 rfl) ?_
        refine y_push hx hb 7 dX1_takeRow_39 rfl ?_
        refine y_lt hx hb hj (by decide) dX1_takeRow_41 (tgt := 88) (by decide) ?_
        refine lv_aload_n hx hb dX1_takeRow_44 rfl (lv_at hl 0 rfl) ?_
        refine mg_ca C hw dX1_takeRow_45 ?_
        refine lv_iload_n hx hb dX1_takeRow_48 rfl (lv_at hl 2 rfl) ?_
        refine ml_ca (by omega) C hw dX1_takeRow_49 ?_
        refine y_ifeq_w hx hb dX1_takeRow_50 (tgt := 82) (by decide) (fun h3 => ?_) (fun h3 => ?_)
        · refine lv_iinc (v := nI (j + 1)) (lv' := [(3, .int (nI (j + 1))), (0, .ref (g 0)), (1, .int (nI cols)), (2, .int (nI i))]) hx hb dX1_takeRow_82 hl (k := 3) rfl (nI_1 _) (by decide) rfl (fun ls hl => ?_)
          refine lv_goto (tgt := 38) hx hb dX1_takeRow_85 (by decide) ?_
          exact ih3 _ _ _ ⟨_, hw, lv_sub hl [1, 2, 3, 0] rfl, tk_no hT3 (fun q => by rw [h3] at q; cases q.1)⟩
        · refine lv_aload_n hx hb dX1_takeRow_53 rfl (lv_at hl 0 rfl) ?_
          refine lv_iload_n hx hb dX1_takeRow_54 rfl (lv_at hl 1 rfl) ?_
          refine lv_iload_n hx hb dX1_takeRow_55 rfl (lv_at hl 3 rfl) ?_
          refine y_cI (As := [.int (nI cols), .int (nI j)]) (rest := []) C hw (mm_in l D cols j hcols hj) (cwV 2 hts (lw_V q220 q222 qs17 q24 q223) rfl rfl rfl (by decide +kernel) ⟨Nat.le_of_ble_eq_true rfl, Nat.le_of_ble_eq_true rfl⟩) rfl rfl rfl rfl hl.1 (Nat.le_of_ble_eq_true rfl) ⟨Nat.zero_le _, Nat.zero_le _⟩ dX1_takeRow_56 (fun r w1 H locs hp hw => ?_) rfl
          obtain ⟨rfl, rfl⟩ := hp
          refine y_ifeq_w hx hb dX1_takeRow_59 (tgt := 82) (by decide) (fun h4 => ?_) (fun h4 => ?_)
          · refine lv_iinc (v := nI (j + 1)) (lv' := [(3, .int (nI (j + 1))), (0, .ref (g 0)), (1, .int (nI cols)), (2, .int (nI i))]) hx hb dX1_takeRow_82 hl (k := 3) rfl (nI_1 _) (by decide) rfl (fun ls hl => ?_)
            refine lv_goto (tgt := 38) hx hb dX1_takeRow_85 (by decide) ?_
            exact ih3 _ _ _ ⟨_, hw, lv_sub hl [1, 2, 3, 0] rfl, tk_no hT3 (fun q => by rw [h4] at q; cases q.2.1)⟩
          · refine lv_aload_n hx hb dX1_takeRow_62 rfl (lv_at hl 0 rfl) ?_
            refine lv_iload_n hx hb dX1_takeRow_63 rfl (lv_at hl 2 rfl) ?_
            refine lv_iload_n hx hb dX1_takeRow_64 rfl (lv_at hl 3 rfl) ?_
            refine y_cI (As := [.int (nI i), .int (nI j)]) (rest := []) C hw (mm_in l D i j hi hj) (cwV 2 hts (lw_V q220 q222 qs17 q24 q223) rfl rfl rfl (by decide +kernel) ⟨Nat.le_of_ble_eq_true rfl, Nat.le_of_ble_eq_true rfl⟩) rfl rfl rfl rfl hl.1 (Nat.le_of_ble_eq_true rfl) ⟨Nat.zero_le _, Nat.zero_le _⟩ dX1_takeRow_65 (fun r w1 H locs hp hw => ?_) rfl
            obtain ⟨rfl, rfl⟩ := hp
            refine y_ifne_w hx hb dX1_takeRow_68 (tgt := 82) (by decide) (fun h5 => ?_) (fun h5 => ?_)
            · refine lv_iinc (v := nI (j + 1)) (lv' := [(3, .int (nI (j + 1))), (0, .ref (g 0)), (1, .int (nI cols)), (2, .int (nI i))]) hx hb dX1_takeRow_82 hl (k := 3) rfl (nI_1 _) (by decide) rfl (fun ls hl => ?_)
              refine lv_goto (tgt := 38) hx hb dX1_takeRow_85 (by decide) ?_
              exact ih3 _ _ _ ⟨_, hw, lv_sub hl [1, 2, 3, 0] rfl, tk_no hT3 (fun q => by rw [h5] at q; cases q.2.2)⟩
            · refine lv_aload_n hx hb dX1_takeRow_71 rfl (lv_at hl 0 rfl) ?_
              refine mg_th C hw dX1_takeRow_72 ?_
              refine lv_iload_n hx hb dX1_takeRow_75 rfl (lv_at hl 2 rfl) ?_
              refine y_num hx hb 1 dX1_takeRow_76 rfl ?_
              refine lv_iload_n hx hb dX1_takeRow_77 rfl (lv_at hl 3 rfl) ?_
              refine y_shl1 hx hb (by omega) dX1_takeRow_78 ?_
              refine y_or hx hb dX1_takeRow_79 ?_
              refine lv_iconst (v := wI true) hx hb dX1_takeRow_80 rfl ?_
              have ho : i ||| 2 ^ j < 128 := Nat.or_lt_two_pow (n := 7) hi (mm_two_lt hj)
              refine ms_th ho C hw dX1_takeRow_81 (fun H locs hw => ?_)
              refine lv_iinc (v := nI (j + 1)) (lv' := [(3, .int (nI (j + 1))), (0, .ref (g 0)), (1, .int (nI cols)), (2, .int (nI i))]) hx hb dX1_takeRow_82 hl (k := 3) rfl (nI_1 _) (by decide) rfl (fun ls hl => ?_)
              refine lv_goto (tgt := 38) hx hb dX1_takeRow_85 (by decide) ?_
              exact ih3 _ _ _ ⟨_, hw, lv_sub hl [1, 2, 3, 0] rfl, tk_yes hT3 hj h3 h4 h5⟩
      · intro H locs ls hI
        obtain ⟨th3, hw, hl, hT3⟩ := hI
        refine lv_iload_n hx hb dX1_takeRow_38 rfl (lv_at hl 3 rfl) ?_
        refine y_push hx hb 7 dX1_takeRow_39 rfl ?_
        refine y_ge hx hb (Nat.le_refl _) (by decide) dX1_takeRow_41 (tgt := 88) (by decide) ?_
        refine lv_iinc (v := nI (i + 1)) (lv' := [(2, .int (nI (i + 1))), (0, .ref (g 0)), (1, .int (nI cols)), (3, .int (nI 7))]) hx hb dX1_takeRow_88 hl (k := 2) rfl (nI_1 _) (by decide) rfl (fun ls hl => ?_)
        refine lv_goto (tgt := 29) hx hb dX1_takeRow_91 (by decide) ?_
        exact ih2 _ _ _ ⟨_, hw, lv_sub hl [1, 2, 0] rfl, tk_row hT3⟩
    · intro H locs ls hI
      obtain ⟨th2, hw, hl, hT2⟩ := hI
      refine lv_iload_n hx hb dX1_takeRow_29 rfl (lv_at hl 2 rfl) ?_
      refine lv_sipush (v := nI 128) hx hb dX1_takeRow_30 (by decide) ?_
      refine y_ge hx hb (Nat.le_refl _) (by decide) dX1_takeRow_33 (tgt := 94) (by decide) ?_
      refine y_num hx hb 0 dX1_takeRow_94 rfl ?_
      refine lv_istore_n (lv' := [(2, .int (nI 0)), (0, .ref (g 0)), (1, .int (nI cols))]) hx hb dX1_takeRow_95 rfl hl (by decide) rfl (fun ls hl => ?_)
      refine wl_for 128 (fun k H locs ls => ∃ (ca4 : Nat → Bool), XH D A s.heap H locs (mW cI cZ g E ca4 th2 go) ∧ lv_has ls 4 [(0, .ref (g 0)), (1, .int (nI cols)), (2, .int (nI k))] ∧ (∀ S, S < k → ca4 S = th2 S)) ?_ ?_ 0 (by omega) _ _ _ ⟨ca, hw, lv_sub hl [1, 2, 0] rfl, fun S hS => absurd hS (Nat.not_lt_zero S)⟩
      · intro k hk H locs ls hI ih4
        obtain ⟨ca4, hw, hl, h4⟩ := hI
        refine lv_iload_n hx hb dX1_takeRow_96 rfl (lv_at hl 2 rfl) ?_
        refine lv_sipush (v := nI 128) hx hb dX1_takeRow_97 (by decide) ?_
        refine y_lt hx hb hk (by decide) dX1_takeRow_100 (tgt := 121) (by decide) ?_
        refine lv_aload_n hx hb dX1_takeRow_103 rfl (lv_at hl 0 rfl) ?_
        refine mg_ca C hw dX1_takeRow_104 ?_
        refine lv_iload_n hx hb dX1_takeRow_107 rfl (lv_at hl 2 rfl) ?_
        refine lv_aload_n hx hb dX1_takeRow_108 rfl (lv_at hl 0 rfl) ?_
        refine mg_th C hw dX1_takeRow_109 ?_
        refine lv_iload_n hx hb dX1_takeRow_112 rfl (lv_at hl 2 rfl) ?_
        refine ml_th (by omega) C hw dX1_takeRow_113 ?_
        refine ms_ca (by omega) C hw dX1_takeRow_114 (fun H locs hw => ?_)
        refine lv_iinc (v := nI (k + 1)) (lv' := [(2, .int (nI (k + 1))), (0, .ref (g 0)), (1, .int (nI cols))]) hx hb dX1_takeRow_115 hl (k := 2) rfl (nI_1 _) (by decide) rfl (fun ls hl => ?_)
        refine lv_goto (tgt := 96) hx hb dX1_takeRow_118 (by decide) ?_
        exact ih4 _ _ _ ⟨_, hw, lv_sub hl [1, 2, 0] rfl, fun S hS => by
          by_cases e : S = k
          · rw [e, mm_up_s]
          · rw [mm_up_n e]; exact h4 S (by omega)⟩
      · intro H locs ls hI
        obtain ⟨ca4, hw, hl, h4⟩ := hI
        refine lv_iload_n hx hb dX1_takeRow_96 rfl (lv_at hl 2 rfl) ?_
        refine lv_sipush (v := nI 128) hx hb dX1_takeRow_97 (by decide) ?_
        refine y_ge hx hb (Nat.le_refl _) (by decide) dX1_takeRow_100 (tgt := 121) (by decide) ?_
        exact y_vret C hw ⟨_, _, rfl, fun S hS => by rw [h4 S hS]; exact tk_end hT2 S hS⟩ dX1_takeRow_121
set_option maxHeartbeats 4000000 in
/-- the size of a largest matching without some -/
theorem mm_sizeWithout (l : Launch) (D : va_G) (hE : ∀ r, E r < 128) (a b x y : Nat) (ha : a ≤ 7) (hb7 : b ≤ 7) (hx7 : x ≤ 7) (hy7 : y ≤ 7) : MtI l yX1_sizeWithout cX1_sizeWithout 8 (some .int) ({ frames := 2, cells := 0, slots := 0, locals := 45 }) D (tyL cI cB cZ) [.ref (g 0), .int (nI a), .int (nI b), .int (nI x), .int (nI y)] (mW cI cZ g E ca th go) (fun r w => r = nI (pf_nu E a b x y) ∧ ∃ (ca' th' : Nat → Bool), w = (mW cI cZ g E ca' th' go)) := by
  refine MtI.of (by decide) (Nat.le_of_ble_eq_true rfl) ?_
  intro p e s m below meth c A ls C hw hl
  obtain ⟨hx, hb, hr, hlk, hml, hown, hts, hK, hA⟩ := id C
  have hl : lv_has ls 8 [(0, .ref (g 0)), (1, .int (nI a)), (2, .int (nI b)), (3, .int (nI x)), (4, .int (nI y))] := hl
  refine y_num hx hb 0 dX1_sizeWithout_0 rfl ?_
  refine lv_istore (lv' := [(5, .int (nI 0)), (0, .ref (g 0)), (1, .int (nI a)), (2, .int (nI b)), (3, .int (nI x)), (4, .int (nI y))]) hx hb dX1_sizeWithout_1 hl (by decide) rfl (fun ls hl => ?_)
  refine wl_for 128 (fun k H locs ls => ∃ (ca1 : Nat → Bool), XH D A s.heap H locs (mW cI cZ g E ca1 th go) ∧ lv_has ls 8 [(0, .ref (g 0)), (1, .int (nI a)), (2, .int (nI b)), (3, .int (nI x)), (4, .int (nI y)), (5, .int (nI k))] ∧ (∀ S, S < k → ca1 S = (S == 0))) ?_ ?_ 0 (by omega) _ _ _ ⟨ca, hw, lv_sub hl [1, 2, 3, 4, 5, 0] rfl, fun S hS => absurd hS (Nat.not_lt_zero S)⟩
  · intro k hk H locs ls hI ih
    obtain ⟨ca1, hw, hl, h1⟩ := hI
    refine lv_iload hx hb dX1_sizeWithout_3 (lv_at hl 5 rfl) ?_
    refine lv_sipush (v := nI 128) hx hb dX1_sizeWithout_5 (by decide) ?_
    refine y_lt hx hb hk (by decide) dX1_sizeWithout_8 (tgt := 34) (by decide) ?_
    refine lv_aload_n hx hb dX1_sizeWithout_11 rfl (lv_at hl 0 rfl) ?_
    refine mg_ca C hw dX1_sizeWithout_12 ?_
    refine lv_iload hx hb dX1_sizeWithout_15 (lv_at hl 5 rfl) ?_
    refine lv_iload hx hb dX1_sizeWithout_17 (lv_at hl 5 rfl) ?_
    refine y_ifne_n hx hb (by omega) dX1_sizeWithout_19 (tgt := 26) (by decide) (fun hc => ?_) (fun hc => ?_)
    · refine lv_iconst (v := wI false) hx hb dX1_sizeWithout_26 rfl ?_
      refine ms_ca (by omega) C hw dX1_sizeWithout_27 (fun H locs hw => ?_)
      refine lv_iinc (v := nI (k + 1)) (lv' := [(5, .int (nI (k + 1))), (0, .ref (g 0)), (1, .int (nI a)), (2, .int (nI b)), (3, .int (nI x)), (4, .int (nI y))]) hx hb dX1_sizeWithout_28 hl (k := 5) rfl (nI_1 _) (by decide) rfl (fun ls hl => ?_)
      refine lv_goto (tgt := 3) hx hb dX1_sizeWithout_31 (by decide) ?_
      exact ih _ _ _ ⟨_, hw, lv_sub hl [1, 2, 3, 4, 5, 0] rfl, fun S hS => by
        by_cases e : S = k
        · exact (by rw [e, mm_up_s]; show false = (k == 0); simp [hc])
        · rw [mm_up_n e]; exact h1 S (by omega)⟩
    · refine lv_iconst (v := wI true) hx hb dX1_sizeWithout_22 rfl ?_
      refine lv_goto (tgt := 27) hx hb dX1_sizeWithout_23 (by decide) ?_
      refine ms_ca (by omega) C hw dX1_sizeWithout_27 (fun H locs hw => ?_)
      refine lv_iinc (v := nI (k + 1)) (lv' := [(5, .int (nI (k + 1))), (0, .ref (g 0)), (1, .int (nI a)), (2, .int (nI b)), (3, .int (nI x)), (4, .int (nI y))]) hx hb dX1_sizeWithout_28 hl (k := 5) rfl (nI_1 _) (by decide) rfl (fun ls hl => ?_)
      refine lv_goto (tgt := 3) hx hb dX1_sizeWithout_31 (by decide) ?_
      exact ih _ _ _ ⟨_, hw, lv_sub hl [1, 2, 3, 4, 5, 0] rfl, fun S hS => by
        by_cases e : S = k
        · exact (by rw [e, mm_up_s]; show true = (k == 0); simp [hc])
        · rw [mm_up_n e]; exact h1 S (by omega)⟩
  · intro H locs ls hI
    obtain ⟨ca1, hw, hl, h1⟩ := hI
    refine lv_iload hx hb dX1_sizeWithout_3 (lv_at hl 5 rfl) ?_
    refine lv_sipush (v := nI 128) hx hb dX1_sizeWithout_5 (by decide) ?_
    refine y_ge hx hb (Nat.le_refl _) (by decide) dX1_sizeWithout_8 (tgt := 34) (by decide) ?_
    refine y_num hx hb 0 dX1_sizeWithout_34 rfl ?_
    refine lv_istore (lv' := [(5, .int (nI 0)), (0, .ref (g 0)), (1, .int (nI a)), (2, .int (nI b)), (3, .int (nI x)), (4, .int (nI y))]) hx hb dX1_sizeWithout_35 hl (by decide) rfl (fun ls hl => ?_)
    refine wl_for 7 (fun k H locs ls => ∃ (ca2 : Nat → Bool), ∃ (th2 : Nat → Bool), XH D A s.heap H locs (mW cI cZ g E ca2 th2 go) ∧ lv_has ls 8 [(0, .ref (g 0)), (1, .int (nI a)), (2, .int (nI b)), (3, .int (nI x)), (4, .int (nI y)), (5, .int (nI k))] ∧ (∀ S, S < 128 → ca2 S = pf_dp (pf_cols E a b x y) k S)) ?_ ?_ 0 (by omega) _ _ _ ⟨ca1, th, hw, lv_sub hl [1, 2, 3, 4, 5, 0] rfl, h1⟩
    · intro k hk H locs ls hI ih2
      obtain ⟨ca2, th2, hw, hl, h2⟩ := hI
      have hcl : pf_cl (E k) b < 128 := pf_cl_lt (hE k) b
      have hcl2 : pf_cl (pf_cl (E k) b) y < 128 := pf_cl_lt hcl y
      refine lv_iload hx hb dX1_sizeWithout_37 (lv_at hl 5 rfl) ?_
      refine y_push hx hb 7 dX1_sizeWithout_39 rfl ?_
      refine y_lt hx hb hk (by decide) dX1_sizeWithout_41 (tgt := 99) (by decide) ?_
      refine lv_aload_n hx hb dX1_sizeWithout_44 rfl (lv_at hl 0 rfl) ?_
      refine mg_E C hw dX1_sizeWithout_45 ?_
      refine lv_iload hx hb dX1_sizeWithout_48 (lv_at hl 5 rfl) ?_
      refine ml_E (by omega) C hw dX1_sizeWithout_50 ?_
      refine y_num hx hb 1 dX1_sizeWithout_51 rfl ?_
      refine lv_iload_n hx hb dX1_sizeWithout_52 rfl (lv_at hl 2 rfl) ?_
      refine y_shl1 hx hb (by omega) dX1_sizeWithout_53 ?_
      refine y_nand hx hb dX1_sizeWithout_54 dX1_sizeWithout_55 dX1_sizeWithout_56 ?_
      refine W.eq (g2 := F0 m 57 ls [.int (nI (pf_cl (E k) b))]) rfl ?_
      refine lv_istore (lv' := [(6, .int (nI (pf_cl (E k) b))), (0, .ref (g 0)), (1, .int (nI a)), (2, .int (nI b)), (3, .int (nI x)), (4, .int (nI y)), (5, .int (nI k))]) hx hb dX1_sizeWithout_57 hl (by decide) rfl (fun ls hl => ?_)
      refine lv_iload hx hb dX1_sizeWithout_59 (lv_at hl 6 rfl) ?_
      refine lv_iload_n hx hb dX1_sizeWithout_61 rfl (lv_at hl 4 rfl) ?_
      refine y_icmpne hx hb (by omega) (by omega) dX1_sizeWithout_62 (tgt := 76) (by decide) (fun hkx => ?_) (fun hkx => ?_)
      · have hc1 : pf_c1 E b x y k = pf_cl (E k) b := if_neg hkx
        refine lv_iload hx hb dX1_sizeWithout_76 (lv_at hl 6 rfl) ?_
        refine lv_iload_n hx hb dX1_sizeWithout_78 rfl (lv_at hl 2 rfl) ?_
        refine y_icmpeq hx hb (by omega) (by omega) dX1_sizeWithout_79 (tgt := 93) (by decide) (fun hka => ?_) (fun hka => ?_)
        · refine lv_iinc (v := nI (k + 1)) (lv' := [(5, .int (nI (k + 1))), (6, .int (nI (pf_cl (E k) b))), (0, .ref (g 0)), (1, .int (nI a)), (2, .int (nI b)), (3, .int (nI x)), (4, .int (nI y))]) hx hb dX1_sizeWithout_93 hl (k := 6) rfl (nI_1 _) (by decide) rfl (fun ls hl => ?_)
          refine lv_goto (tgt := 37) hx hb dX1_sizeWithout_96 (by decide) ?_
          exact ih2 _ _ _ ⟨_, _, hw, lv_sub hl [2, 3, 4, 5, 6, 0] rfl, fun S hS => by rw [h2 S hS, pf_dp, pf_cols, if_pos hka, pf_tk_0]⟩
        · refine lv_iload hx hb dX1_sizeWithout_82 (lv_at hl 0 rfl) ?_
          refine y_ifeq_n hx hb (b31 hcl) dX1_sizeWithout_84 (tgt := 93) (by decide) (fun hz => ?_) (fun hz => ?_)
          · refine lv_iinc (v := nI (k + 1)) (lv' := [(5, .int (nI (k + 1))), (6, .int (nI (pf_cl (E k) b))), (0, .ref (g 0)), (1, .int (nI a)), (2, .int (nI b)), (3, .int (nI x)), (4, .int (nI y))]) hx hb dX1_sizeWithout_93 hl (k := 6) rfl (nI_1 _) (by decide) rfl (fun ls hl => ?_)
            refine lv_goto (tgt := 37) hx hb dX1_sizeWithout_96 (by decide) ?_
            exact ih2 _ _ _ ⟨_, _, hw, lv_sub hl [2, 3, 4, 5, 6, 0] rfl, fun S hS => by rw [h2 S hS, pf_dp, pf_cols, if_neg hka, hc1, hz, pf_tk_0]⟩
          · refine lv_aload_n hx hb dX1_sizeWithout_87 rfl (lv_at hl 1 rfl) ?_
            refine lv_iload hx hb dX1_sizeWithout_88 (lv_at hl 0 rfl) ?_
            refine y_cV (As := [.int (nI (pf_cl (E k) b))]) (rest := []) C hw (mm_takeRow l D (pf_cl (E k) b) hcl) (cwV 1 hts (lw_V q216 q218 qs16 q24 q219) rfl rfl rfl (by decide +kernel) ⟨Nat.le_of_ble_eq_true rfl, Nat.le_of_ble_eq_true rfl⟩) rfl rfl rfl rfl hl.1 (Nat.le_of_ble_eq_true rfl) ⟨Nat.zero_le _, Nat.zero_le _⟩ dX1_sizeWithout_90 (fun w1 H locs hp hw => ?_) rfl
            obtain ⟨ca3, th3, rfl, h3⟩ := hp
            refine lv_iinc (v := nI (k + 1)) (lv' := [(5, .int (nI (k + 1))), (6, .int (nI (pf_cl (E k) b))), (0, .ref (g 0)), (1, .int (nI a)), (2, .int (nI b)), (3, .int (nI x)), (4, .int (nI y))]) hx hb dX1_sizeWithout_93 hl (k := 6) rfl (nI_1 _) (by decide) rfl (fun ls hl => ?_)
            refine lv_goto (tgt := 37) hx hb dX1_sizeWithout_96 (by decide) ?_
            exact ih2 _ _ _ ⟨_, _, hw, lv_sub hl [2, 3, 4, 5, 6, 0] rfl, fun S hS => by rw [h3 S hS, pf_dp, pf_cols, if_neg hka, hc1]; exact pf_tk_congr h2 _ S hS⟩
      · have hc1 : pf_c1 E b x y k = pf_cl (pf_cl (E k) b) y := if_pos hkx
        refine lv_iload hx hb dX1_sizeWithout_65 (lv_at hl 0 rfl) ?_
        refine y_num hx hb 1 dX1_sizeWithout_67 rfl ?_
        refine lv_iload hx hb dX1_sizeWithout_68 (lv_at hl 5 rfl) ?_
        refine y_shl1 hx hb (by omega) dX1_sizeWithout_70 ?_
        refine y_nand hx hb dX1_sizeWithout_71 dX1_sizeWithout_72 dX1_sizeWithout_73 ?_
        refine W.eq (g2 := F0 m 74 ls [.int (nI (pf_cl (pf_cl (E k) b) y))]) rfl ?_
        refine lv_istore (lv' := [(6, .int (nI (pf_cl (pf_cl (E k) b) y))), (0, .ref (g 0)), (1, .int (nI a)), (2, .int (nI b)), (3, .int (nI x)), (4, .int (nI y)), (5, .int (nI k))]) hx hb dX1_sizeWithout_74 hl (by decide) rfl (fun ls hl => ?_)
        refine lv_iload hx hb dX1_sizeWithout_76 (lv_at hl 6 rfl) ?_
        refine lv_iload_n hx hb dX1_sizeWithout_78 rfl (lv_at hl 2 rfl) ?_
        refine y_icmpeq hx hb (by omega) (by omega) dX1_sizeWithout_79 (tgt := 93) (by decide) (fun hka => ?_) (fun hka => ?_)
        · refine lv_iinc (v := nI (k + 1)) (lv' := [(5, .int (nI (k + 1))), (6, .int (nI (pf_cl (pf_cl (E k) b) y))), (0, .ref (g 0)), (1, .int (nI a)), (2, .int (nI b)), (3, .int (nI x)), (4, .int (nI y))]) hx hb dX1_sizeWithout_93 hl (k := 6) rfl (nI_1 _) (by decide) rfl (fun ls hl => ?_)
          refine lv_goto (tgt := 37) hx hb dX1_sizeWithout_96 (by decide) ?_
          exact ih2 _ _ _ ⟨_, _, hw, lv_sub hl [2, 3, 4, 5, 6, 0] rfl, fun S hS => by rw [h2 S hS, pf_dp, pf_cols, if_pos hka, pf_tk_0]⟩
        · refine lv_iload hx hb dX1_sizeWithout_82 (lv_at hl 0 rfl) ?_
          refine y_ifeq_n hx hb (b31 hcl2) dX1_sizeWithout_84 (tgt := 93) (by decide) (fun hz => ?_) (fun hz => ?_)
          · refine lv_iinc (v := nI (k + 1)) (lv' := [(5, .int (nI (k + 1))), (6, .int (nI (pf_cl (pf_cl (E k) b) y))), (0, .ref (g 0)), (1, .int (nI a)), (2, .int (nI b)), (3, .int (nI x)), (4, .int (nI y))]) hx hb dX1_sizeWithout_93 hl (k := 6) rfl (nI_1 _) (by decide) rfl (fun ls hl => ?_)
            refine lv_goto (tgt := 37) hx hb dX1_sizeWithout_96 (by decide) ?_
            exact ih2 _ _ _ ⟨_, _, hw, lv_sub hl [2, 3, 4, 5, 6, 0] rfl, fun S hS => by rw [h2 S hS, pf_dp, pf_cols, if_neg hka, hc1, hz, pf_tk_0]⟩
          · refine lv_aload_n hx hb dX1_sizeWithout_87 rfl (lv_at hl 1 rfl) ?_
            refine lv_iload hx hb dX1_sizeWithout_88 (lv_at hl 0 rfl) ?_
            refine y_cV (As := [.int (nI (pf_cl (pf_cl (E k) b) y))]) (rest := []) C hw (mm_takeRow l D (pf_cl (pf_cl (E k) b) y) hcl2) (cwV 1 hts (lw_V q216 q218 qs16 q24 q219) rfl rfl rfl (by decide +kernel) ⟨Nat.le_of_ble_eq_true rfl, Nat.le_of_ble_eq_true rfl⟩) rfl rfl rfl rfl hl.1 (Nat.le_of_ble_eq_true rfl) ⟨Nat.zero_le _, Nat.zero_le _⟩ dX1_sizeWithout_90 (fun w1 H locs hp hw => ?_) rfl
            obtain ⟨ca3, th3, rfl, h3⟩ := hp
            refine lv_iinc (v := nI (k + 1)) (lv' := [(5, .int (nI (k + 1))), (6, .int (nI (pf_cl (pf_cl (E k) b) y))), (0, .ref (g 0)), (1, .int (nI a)), (2, .int (nI b)), (3, .int (nI x)), (4, .int (nI y))]) hx hb dX1_sizeWithout_93 hl (k := 6) rfl (nI_1 _) (by decide) rfl (fun ls hl => ?_)
            refine lv_goto (tgt := 37) hx hb dX1_sizeWithout_96 (by decide) ?_
            exact ih2 _ _ _ ⟨_, _, hw, lv_sub hl [2, 3, 4, 5, 6, 0] rfl, fun S hS => by rw [h3 S hS, pf_dp, pf_cols, if_neg hka, hc1]; exact pf_tk_congr h2 _ S hS⟩
    · intro H locs ls hI
      obtain ⟨ca2, th2, hw, hl, h2⟩ := hI
      refine lv_iload hx hb dX1_sizeWithout_37 (lv_at hl 5 rfl) ?_
      refine y_push hx hb 7 dX1_sizeWithout_39 rfl ?_
      refine y_ge hx hb (Nat.le_refl _) (by decide) dX1_sizeWithout_41 (tgt := 99) (by decide) ?_
      refine y_num hx hb 0 dX1_sizeWithout_99 rfl ?_
      refine lv_istore (lv' := [(5, .int (nI 0)), (0, .ref (g 0)), (1, .int (nI a)), (2, .int (nI b)), (3, .int (nI x)), (4, .int (nI y))]) hx hb dX1_sizeWithout_100 hl (by decide) rfl (fun ls hl => ?_)
      refine y_num hx hb 0 dX1_sizeWithout_102 rfl ?_
      refine lv_istore (lv' := [(6, .int (nI 0)), (5, .int (nI 0)), (0, .ref (g 0)), (1, .int (nI a)), (2, .int (nI b)), (3, .int (nI x)), (4, .int (nI y))]) hx hb dX1_sizeWithout_103 hl (by decide) rfl (fun ls hl => ?_)
      refine wl_for 128 (fun k H locs ls => XH D A s.heap H locs (mW cI cZ g E ca2 th2 go) ∧ lv_has ls 8 [(0, .ref (g 0)), (1, .int (nI a)), (2, .int (nI b)), (3, .int (nI x)), (4, .int (nI y)), (5, .int (nI (pf_best ca2 k))), (6, .int (nI k))]) ?_ ?_ 0 (by omega) _ _ _ ⟨hw, lv_sub hl [2, 3, 4, 5, 6, 1, 0] rfl⟩
      · intro k hk H locs ls hI ih3
        obtain ⟨hw, hl⟩ := hI
        have hbest : pf_best ca2 k ≤ 7 := pf_best_le ca2 k
        have hsz : pf_sz k ≤ 7 := mm_cnt_le _ 7
        refine lv_iload hx hb dX1_sizeWithout_105 (lv_at hl 6 rfl) ?_
        refine lv_sipush (v := nI 128) hx hb dX1_sizeWithout_107 (by decide) ?_
        refine y_lt hx hb hk (by decide) dX1_sizeWithout_110 (tgt := 152) (by decide) ?_
        refine lv_aload_n hx hb dX1_sizeWithout_113 rfl (lv_at hl 0 rfl) ?_
        refine mg_ca C hw dX1_sizeWithout_114 ?_
        refine lv_iload hx hb dX1_sizeWithout_117 (lv_at hl 6 rfl) ?_
        refine ml_ca (by omega) C hw dX1_sizeWithout_119 ?_
        refine y_ifeq_w hx hb dX1_sizeWithout_120 (tgt := 132) (by decide) (fun hc => ?_) (fun hc => ?_)
        · refine y_num hx hb 0 dX1_sizeWithout_132 rfl ?_
          refine lv_istore (lv' := [(7, .int (nI 0)), (0, .ref (g 0)), (1, .int (nI a)), (2, .int (nI b)), (3, .int (nI x)), (4, .int (nI y)), (5, .int (nI (pf_best ca2 k))), (6, .int (nI k))]) hx hb dX1_sizeWithout_133 hl (by decide) rfl (fun ls hl => ?_)
          refine lv_iload hx hb dX1_sizeWithout_135 (lv_at hl 0 rfl) ?_
          refine lv_iload hx hb dX1_sizeWithout_137 (lv_at hl 6 rfl) ?_
          refine y_icmple hx hb (by decide) (by omega) dX1_sizeWithout_139 (tgt := 146) (by decide) (fun hle => ?_) (fun hle => ?_)
          · refine lv_iinc (v := nI (k + 1)) (lv' := [(6, .int (nI (k + 1))), (7, .int (nI 0)), (0, .ref (g 0)), (1, .int (nI a)), (2, .int (nI b)), (3, .int (nI x)), (4, .int (nI y)), (5, .int (nI (pf_best ca2 k)))]) hx hb dX1_sizeWithout_146 hl (k := 7) rfl (nI_1 _) (by decide) rfl (fun ls hl => ?_)
            refine lv_goto (tgt := 105) hx hb dX1_sizeWithout_149 (by decide) ?_
            exact ih3 _ _ _ ⟨hw, by rw [pf_best, if_neg (c := ca2 k = true) (by rw [hc]; exact Bool.false_ne_true), if_neg (by omega)]; exact lv_sub hl [2, 3, 4, 5, 6, 7, 0] rfl⟩
          · refine lv_iload hx hb dX1_sizeWithout_142 (lv_at hl 0 rfl) ?_
            refine lv_istore (lv' := [(5, .int (nI 0)), (7, .int (nI 0)), (0, .ref (g 0)), (1, .int (nI a)), (2, .int (nI b)), (3, .int (nI x)), (4, .int (nI y)), (6, .int (nI k))]) hx hb dX1_sizeWithout_144 hl (by decide) rfl (fun ls hl => ?_)
            refine lv_iinc (v := nI (k + 1)) (lv' := [(6, .int (nI (k + 1))), (5, .int (nI 0)), (7, .int (nI 0)), (0, .ref (g 0)), (1, .int (nI a)), (2, .int (nI b)), (3, .int (nI x)), (4, .int (nI y))]) hx hb dX1_sizeWithout_146 hl (k := 7) rfl (nI_1 _) (by decide) rfl (fun ls hl => ?_)
            refine lv_goto (tgt := 105) hx hb dX1_sizeWithout_149 (by decide) ?_
            exact ih3 _ _ _ ⟨hw, by rw [pf_best, if_neg (c := ca2 k = true) (by rw [hc]; exact Bool.false_ne_true), if_pos (by omega)]; exact lv_sub hl [3, 4, 5, 6, 7, 1, 0] rfl⟩
        · refine lv_aload_n hx hb dX1_sizeWithout_123 rfl (lv_at hl 0 rfl) ?_
          refine lv_iload hx hb dX1_sizeWithout_124 (lv_at hl 6 rfl) ?_
          refine y_cI (As := [.int (nI k)]) (rest := []) C hw (mm_sizeOf l D k hk) (cwV 1 hts (lw_V q224 q226 qs18 q24 q227) rfl rfl rfl (by decide +kernel) ⟨Nat.le_of_ble_eq_true rfl, Nat.le_of_ble_eq_true rfl⟩) rfl rfl rfl rfl hl.1 (Nat.le_of_ble_eq_true rfl) ⟨Nat.zero_le _, Nat.zero_le _⟩ dX1_sizeWithout_126 (fun r w1 H locs hp hw => ?_) rfl
          obtain ⟨rfl, rfl⟩ := hp
          refine lv_goto (tgt := 133) hx hb dX1_sizeWithout_129 (by decide) ?_
          refine lv_istore (lv' := [(7, .int (nI (pf_sz k))), (0, .ref (g 0)), (1, .int (nI a)), (2, .int (nI b)), (3, .int (nI x)), (4, .int (nI y)), (5, .int (nI (pf_best ca2 k))), (6, .int (nI k))]) hx hb dX1_sizeWithout_133 hl (by decide) rfl (fun ls hl => ?_)
          refine lv_iload hx hb dX1_sizeWithout_135 (lv_at hl 0 rfl) ?_
          refine lv_iload hx hb dX1_sizeWithout_137 (lv_at hl 6 rfl) ?_
          refine y_icmple hx hb (by omega) (by omega) dX1_sizeWithout_139 (tgt := 146) (by decide) (fun hle => ?_) (fun hle => ?_)
          · refine lv_iinc (v := nI (k + 1)) (lv' := [(6, .int (nI (k + 1))), (7, .int (nI (pf_sz k))), (0, .ref (g 0)), (1, .int (nI a)), (2, .int (nI b)), (3, .int (nI x)), (4, .int (nI y)), (5, .int (nI (pf_best ca2 k)))]) hx hb dX1_sizeWithout_146 hl (k := 7) rfl (nI_1 _) (by decide) rfl (fun ls hl => ?_)
            refine lv_goto (tgt := 105) hx hb dX1_sizeWithout_149 (by decide) ?_
            exact ih3 _ _ _ ⟨hw, by rw [pf_best, if_pos (c := ca2 k = true) hc, if_neg (by omega)]; exact lv_sub hl [2, 3, 4, 5, 6, 7, 0] rfl⟩
          · refine lv_iload hx hb dX1_sizeWithout_142 (lv_at hl 0 rfl) ?_
            refine lv_istore (lv' := [(5, .int (nI (pf_sz k))), (7, .int (nI (pf_sz k))), (0, .ref (g 0)), (1, .int (nI a)), (2, .int (nI b)), (3, .int (nI x)), (4, .int (nI y)), (6, .int (nI k))]) hx hb dX1_sizeWithout_144 hl (by decide) rfl (fun ls hl => ?_)
            refine lv_iinc (v := nI (k + 1)) (lv' := [(6, .int (nI (k + 1))), (5, .int (nI (pf_sz k))), (7, .int (nI (pf_sz k))), (0, .ref (g 0)), (1, .int (nI a)), (2, .int (nI b)), (3, .int (nI x)), (4, .int (nI y))]) hx hb dX1_sizeWithout_146 hl (k := 7) rfl (nI_1 _) (by decide) rfl (fun ls hl => ?_)
            refine lv_goto (tgt := 105) hx hb dX1_sizeWithout_149 (by decide) ?_
            exact ih3 _ _ _ ⟨hw, by rw [pf_best, if_pos (c := ca2 k = true) hc, if_pos (by omega)]; exact lv_sub hl [3, 4, 5, 6, 7, 1, 0] rfl⟩
      · intro H locs ls hI
        obtain ⟨hw, hl⟩ := hI
        refine lv_iload hx hb dX1_sizeWithout_105 (lv_at hl 6 rfl) ?_
        refine lv_sipush (v := nI 128) hx hb dX1_sizeWithout_107 (by decide) ?_
        refine y_ge hx hb (Nat.le_refl _) (by decide) dX1_sizeWithout_110 (tgt := 152) (by decide) ?_
        refine lv_iload hx hb dX1_sizeWithout_152 (lv_at hl 5 rfl) ?_
        exact y_iret C hw ⟨by rw [pf_nu, pf_best_congr 128 h2], _, _, rfl⟩ dX1_sizeWithout_154
set_option maxHeartbeats 4000000 in
/-- the size of a largest matching -/
theorem mm_largest (l : Launch) (D : va_G) (hE : ∀ r, E r < 128) : MtI l yX1_largest cX1_largest 1 (some .int) ({ frames := 3, cells := 0, slots := 0, locals := 72 }) D (tyL cI cB cZ) [.ref (g 0)] (mW cI cZ g E ca th go) (fun r w => r = nI (pf_nu E 7 7 7 7) ∧ ∃ (ca' th' : Nat → Bool), w = (mW cI cZ g E ca' th' go)) := by
  refine MtI.of (by decide) (Nat.le_of_ble_eq_true rfl) ?_
  intro p e s m below meth c A ls C hw hl
  obtain ⟨hx, hb, hr, hlk, hml, hown, hts, hK, hA⟩ := id C
  have hl : lv_has ls 1 [(0, .ref (g 0))] := hl
  refine lv_aload_n hx hb dX1_largest_0 rfl (lv_at hl 0 rfl) ?_
  refine y_push hx hb 7 dX1_largest_1 rfl ?_
  refine y_push hx hb 7 dX1_largest_3 rfl ?_
  refine y_push hx hb 7 dX1_largest_5 rfl ?_
  refine y_push hx hb 7 dX1_largest_7 rfl ?_
  refine y_cI (As := [.int (nI 7), .int (nI 7), .int (nI 7), .int (nI 7)]) (rest := []) C hw (mm_sizeWithout l D hE 7 7 7 7 (by decide) (by decide) (by decide) (by decide)) (cwV 4 hts (lw_V q212 q214 qs15 q24 q215) rfl rfl rfl (by decide +kernel) ⟨Nat.le_of_ble_eq_true rfl, Nat.le_of_ble_eq_true rfl⟩) rfl rfl rfl rfl hl.1 (Nat.le_of_ble_eq_true rfl) ⟨Nat.zero_le _, Nat.zero_le _⟩ dX1_largest_9 (fun r w1 H locs hp hw => ?_) rfl
  obtain ⟨rfl, ca', th', rfl⟩ := hp
  exact y_iret C hw ⟨rfl, _, _, rfl⟩ dX1_largest_12
end X1A
end
section
/-! DmDecomposerModel: the other methods (printed by gen_x1b.py) -/
set_option maxRecDepth 100000
section X1B
variable {cI cB cZ : ClassId} {g : Nat → Nat} {E : Nat → Nat} {ca th : Nat → Bool} {go : Nat → Nat}
set_option maxHeartbeats 4000000 in
/-- an edge is put or taken away -/
theorem mm_edge (l : Launch) (D : va_G) (hE : ∀ r, E r < 128) (i j : Int32) (b : Bool) : MtI l yX1_edge cX1_edge 4 (some .boolean) ({ frames := 1, cells := 0, slots := 0, locals := 21 }) D (tyL cI cB cZ) [.ref (g 0), .int i, .int j, .int (wI b)] (mW cI cZ g E ca th go) (fun r w => r = wI (isN i && isN j) ∧ MOk cI cZ g (ed_E E i j b) w) := by
  refine MtI.of (by decide) (Nat.le_of_ble_eq_true rfl) ?_
  intro p e s m below meth c A ls C hw hl
  obtain ⟨hx, hb, hr, hlk, hml, hown, hts, hK, hA⟩ := id C
  have hl : lv_has ls 4 [(0, .ref (g 0)), (1, .int i), (2, .int j), (3, .int (wI b))] := hl
  refine lv_aload_n hx hb dX1_edge_0 rfl (lv_at hl 0 rfl) ?_
  refine lv_iload_n hx hb dX1_edge_1 rfl (lv_at hl 1 rfl) ?_
  refine y_cI (As := [.int i]) (rest := []) C hw (mm_isPlace l D i) (cwV 1 hts (lw_V q196 q198 qs14 q24 q199) rfl rfl rfl (by decide +kernel) ⟨Nat.le_of_ble_eq_true rfl, Nat.le_of_ble_eq_true rfl⟩) rfl rfl rfl rfl hl.1 (Nat.le_of_ble_eq_true rfl) ⟨Nat.zero_le _, Nat.zero_le _⟩ dX1_edge_2 (fun r w1 H locs hp hw => ?_) rfl
  obtain ⟨rfl, rfl⟩ := hp
  refine y_ifeq_w hx hb dX1_edge_5 (tgt := 16) (by decide) (fun hi => ?_) (fun hi => ?_)
  · refine lv_iconst (v := wI false) hx hb dX1_edge_16 rfl ?_
    exact y_zret C hw ⟨by rw [hi]; rfl, by rw [ed_n (by rw [hi]; rfl)]; exact ⟨_, _, _, rfl, hE⟩⟩ dX1_edge_17
  · obtain ⟨x, hx7, rfl⟩ := isN_of hi
    refine lv_aload_n hx hb dX1_edge_8 rfl (lv_at hl 0 rfl) ?_
    refine lv_iload_n hx hb dX1_edge_9 rfl (lv_at hl 2 rfl) ?_
    refine y_cI (As := [.int j]) (rest := []) C hw (mm_isPlace l D j) (cwV 1 hts (lw_V q196 q198 qs14 q24 q199) rfl rfl rfl (by decide +kernel) ⟨Nat.le_of_ble_eq_true rfl, Nat.le_of_ble_eq_true rfl⟩) rfl rfl rfl rfl hl.1 (Nat.le_of_ble_eq_true rfl) ⟨Nat.zero_le _, Nat.zero_le _⟩ dX1_edge_10 (fun r w1 H locs hp hw => ?_) rfl
    obtain ⟨rfl, rfl⟩ := hp
    refine y_ifne_w hx hb dX1_edge_13 (tgt := 18) (by decide) (fun hj => ?_) (fun hj => ?_)
    · obtain ⟨y, hy7, rfl⟩ := isN_of hj
      refine lv_aload_n hx hb dX1_edge_18 rfl (lv_at hl 0 rfl) ?_
      refine mg_E C hw dX1_edge_19 ?_
      refine lv_iload_n hx hb dX1_edge_22 rfl (lv_at hl 1 rfl) ?_
      refine lv_iload_n hx hb dX1_edge_23 rfl (lv_at hl 3 rfl) ?_
      refine y_ifeq_w hx hb dX1_edge_24 (tgt := 40) (by decide) (fun hb3 => ?_) (fun hb3 => ?_)
      · subst hb3
        refine lv_aload_n hx hb dX1_edge_40 rfl (lv_at hl 0 rfl) ?_
        refine mg_E C hw dX1_edge_41 ?_
        refine lv_iload_n hx hb dX1_edge_44 rfl (lv_at hl 1 rfl) ?_
        refine ml_E (by omega) C hw dX1_edge_45 ?_
        refine y_num hx hb 1 dX1_edge_46 rfl ?_
        refine lv_iload_n hx hb dX1_edge_47 rfl (lv_at hl 2 rfl) ?_
        refine y_shl1 hx hb (by omega) dX1_edge_48 ?_
        refine y_nand hx hb dX1_edge_49 dX1_edge_50 dX1_edge_51 ?_
        refine W.eq (g2 := F0 m 52 ls [.int (nI (pf_cl (E x) y)), .int (nI x), .ref (g 1)]) rfl ?_
        refine ms_E (by omega) C hw dX1_edge_52 (fun H locs hw => ?_)
        refine lv_iconst (v := wI true) hx hb dX1_edge_53 rfl ?_
        exact y_zret C hw ⟨by rw [isN_nI hx7, isN_nI hy7]; rfl, by
          rw [ed_f hx7 hy7]
          exact ⟨_, _, _, rfl, up_lt hE x (pf_cl_lt (hE x) y)⟩⟩ dX1_edge_54
      · subst hb3
        refine lv_aload_n hx hb dX1_edge_27 rfl (lv_at hl 0 rfl) ?_
        refine mg_E C hw dX1_edge_28 ?_
        refine lv_iload_n hx hb dX1_edge_31 rfl (lv_at hl 1 rfl) ?_
        refine ml_E (by omega) C hw dX1_edge_32 ?_
        refine y_num hx hb 1 dX1_edge_33 rfl ?_
        refine lv_iload_n hx hb dX1_edge_34 rfl (lv_at hl 2 rfl) ?_
        refine y_shl1 hx hb (by omega) dX1_edge_35 ?_
        refine y_or hx hb dX1_edge_36 ?_
        refine lv_goto (tgt := 52) hx hb dX1_edge_37 (by decide) ?_
        refine ms_E (by omega) C hw dX1_edge_52 (fun H locs hw => ?_)
        refine lv_iconst (v := wI true) hx hb dX1_edge_53 rfl ?_
        exact y_zret C hw ⟨by rw [isN_nI hx7, isN_nI hy7]; rfl, by
          rw [ed_t hx7 hy7]
          exact ⟨_, _, _, rfl, up_lt hE x (Nat.or_lt_two_pow (n := 7) (hE x) (mm_two_lt hy7))⟩⟩ dX1_edge_54
    · refine lv_iconst (v := wI false) hx hb dX1_edge_16 rfl ?_
      exact y_zret C hw ⟨by rw [hj, Bool.and_false], by rw [ed_n (by rw [hj, Bool.and_false])]; exact ⟨_, _, _, rfl, hE⟩⟩ dX1_edge_17
set_option maxHeartbeats 4000000 in
/-- a row is set -/
theorem mm_row (l : Launch) (D : va_G) (hE : ∀ r, E r < 128) (i j : Int32) : MtI l yX1_row cX1_row 3 (some .boolean) ({ frames := 1, cells := 0, slots := 0, locals := 21 }) D (tyL cI cB cZ) [.ref (g 0), .int i, .int j] (mW cI cZ g E ca th go) (fun r w => r = wI (isN i && okS j) ∧ MOk cI cZ g (rw_E E i j) w) := by
  refine MtI.of (by decide) (Nat.le_of_ble_eq_true rfl) ?_
  intro p e s m below meth c A ls C hw hl
  obtain ⟨hx, hb, hr, hlk, hml, hown, hts, hK, hA⟩ := id C
  have hl : lv_has ls 3 [(0, .ref (g 0)), (1, .int i), (2, .int j)] := hl
  refine lv_aload_n hx hb dX1_row_0 rfl (lv_at hl 0 rfl) ?_
  refine lv_iload_n hx hb dX1_row_1 rfl (lv_at hl 1 rfl) ?_
  refine y_cI (As := [.int i]) (rest := []) C hw (mm_isPlace l D i) (cwV 1 hts (lw_V q196 q198 qs14 q24 q199) rfl rfl rfl (by decide +kernel) ⟨Nat.le_of_ble_eq_true rfl, Nat.le_of_ble_eq_true rfl⟩) rfl rfl rfl rfl hl.1 (Nat.le_of_ble_eq_true rfl) ⟨Nat.zero_le _, Nat.zero_le _⟩ dX1_row_2 (fun r w1 H locs hp hw => ?_) rfl
  obtain ⟨rfl, rfl⟩ := hp
  refine y_ifeq_w hx hb dX1_row_5 (tgt := 18) (by decide) (fun hi => ?_) (fun hi => ?_)
  · refine lv_iconst (v := wI false) hx hb dX1_row_18 rfl ?_
    exact y_zret C hw ⟨by rw [hi]; rfl, by rw [rw_n (by rw [hi]; rfl)]; exact ⟨_, _, _, rfl, hE⟩⟩ dX1_row_19
  · obtain ⟨x, hx7, rfl⟩ := isN_of hi
    refine lv_iload_n hx hb dX1_row_8 rfl (lv_at hl 2 rfl) ?_
    refine lv_if_lt hx hb dX1_row_9 (tgt := 18) (by decide) (fun hc => ?_) (fun hc => ?_)
    · have hj : okS j = false := by rw [okS, decide_eq_false_iff_not]; exact fun q => q.1 hc
      refine lv_iconst (v := wI false) hx hb dX1_row_18 rfl ?_
      exact y_zret C hw ⟨by rw [hj, Bool.and_false], by rw [rw_n (by rw [hj, Bool.and_false])]; exact ⟨_, _, _, rfl, hE⟩⟩ dX1_row_19
    · refine lv_iload_n hx hb dX1_row_12 rfl (lv_at hl 2 rfl) ?_
      refine lv_bipush (v := 127) hx hb dX1_row_13 rfl ?_
      refine lv_icmp_le hx hb dX1_row_15 (tgt := 20) (by decide) (fun hc2 => ?_) (fun hc2 => ?_)
      · have hj : okS j = true := by rw [okS, decide_eq_true_eq]; exact ⟨hc, hc2⟩
        obtain ⟨y, hy7, rfl⟩ := okS_of hj
        refine lv_aload_n hx hb dX1_row_20 rfl (lv_at hl 0 rfl) ?_
        refine mg_E C hw dX1_row_21 ?_
        refine lv_iload_n hx hb dX1_row_24 rfl (lv_at hl 1 rfl) ?_
        refine lv_iload_n hx hb dX1_row_25 rfl (lv_at hl 2 rfl) ?_
        refine ms_E (by omega) C hw dX1_row_26 (fun H locs hw => ?_)
        refine lv_iconst (v := wI true) hx hb dX1_row_27 rfl ?_
        exact y_zret C hw ⟨by rw [isN_nI hx7, hj]; rfl, by
          rw [rw_t hx7 hy7]
          exact ⟨_, _, _, rfl, up_lt hE x hy7⟩⟩ dX1_row_28
      · have hj : okS j = false := by rw [okS, decide_eq_false_iff_not]; exact fun q => hc2 q.2
        refine lv_iconst (v := wI false) hx hb dX1_row_18 rfl ?_
        exact y_zret C hw ⟨by rw [hj, Bool.and_false], by rw [rw_n (by rw [hj, Bool.and_false])]; exact ⟨_, _, _, rfl, hE⟩⟩ dX1_row_19
set_option maxHeartbeats 4000000 in
/-- the columns of a row -/
theorem mm_columnsOf (l : Launch) (D : va_G) (hE : ∀ r, E r < 128) (i : Int32) : MtI l yX1_columnsOf cX1_columnsOf 2 (some .int) ({ frames := 1, cells := 0, slots := 0, locals := 21 }) D (tyL cI cB cZ) [.ref (g 0), .int i] (mW cI cZ g E ca th go) (fun r w => r = at_N i E ∧ MOk cI cZ g E w) := by
  refine MtI.of (by decide) (Nat.le_of_ble_eq_true rfl) ?_
  intro p e s m below meth c A ls C hw hl
  obtain ⟨hx, hb, hr, hlk, hml, hown, hts, hK, hA⟩ := id C
  have hl : lv_has ls 2 [(0, .ref (g 0)), (1, .int i)] := hl
  refine lv_aload_n hx hb dX1_columnsOf_0 rfl (lv_at hl 0 rfl) ?_
  refine lv_iload_n hx hb dX1_columnsOf_1 rfl (lv_at hl 1 rfl) ?_
  refine y_cI (As := [.int i]) (rest := []) C hw (mm_isPlace l D i) (cwV 1 hts (lw_V q196 q198 qs14 q24 q199) rfl rfl rfl (by decide +kernel) ⟨Nat.le_of_ble_eq_true rfl, Nat.le_of_ble_eq_true rfl⟩) rfl rfl rfl rfl hl.1 (Nat.le_of_ble_eq_true rfl) ⟨Nat.zero_le _, Nat.zero_le _⟩ dX1_columnsOf_2 (fun r w1 H locs hp hw => ?_) rfl
  obtain ⟨rfl, rfl⟩ := hp
  refine y_ifeq_w hx hb dX1_columnsOf_5 (tgt := 17) (by decide) (fun hi => ?_) (fun hi => ?_)
  · refine lv_iconst (v := nB 7) hx hb dX1_columnsOf_17 (by decide) ?_
    exact y_iret C hw ⟨by rw [at_N_f hi]; rfl, ⟨_, _, _, rfl, hE⟩⟩ dX1_columnsOf_18
  · obtain ⟨x, hx7, rfl⟩ := isN_of hi
    refine lv_aload_n hx hb dX1_columnsOf_8 rfl (lv_at hl 0 rfl) ?_
    refine mg_E C hw dX1_columnsOf_9 ?_
    refine lv_iload_n hx hb dX1_columnsOf_12 rfl (lv_at hl 1 rfl) ?_
    refine ml_E (by omega) C hw dX1_columnsOf_13 ?_
    refine lv_goto (tgt := 18) hx hb dX1_columnsOf_14 (by decide) ?_
    exact y_iret C hw ⟨(at_N_t hx7 E).symm, ⟨_, _, _, rfl, hE⟩⟩ dX1_columnsOf_18
set_option maxHeartbeats 4000000 in
/-- loose -/
theorem mm_looseRows (l : Launch) (D : va_G) (hE : ∀ r, E r < 128)  : MtI l yX1_looseRows cX1_looseRows 4 (some .int) ({ frames := 4, cells := 0, slots := 0, locals := 92 }) D (tyL cI cB cZ) [.ref (g 0)] (mW cI cZ g E ca th go) (fun r w => r = nI (pf_mlr E) ∧ MOk cI cZ g E w) := by
  refine MtI.of (by decide) (Nat.le_of_ble_eq_true rfl) ?_
  intro p e s m below meth c A ls C hw hl
  obtain ⟨hx, hb, hr, hlk, hml, hown, hts, hK, hA⟩ := id C
  have hl : lv_has ls 4 [(0, .ref (g 0))] := hl
  refine lv_aload_n hx hb dX1_looseRows_0 rfl (lv_at hl 0 rfl) ?_
  refine y_cI (As := []) (rest := []) C hw (mm_largest l D hE) (cwV 0 hts (lw_V q232 q209 q210 q24 q211) rfl rfl rfl (by decide +kernel) ⟨Nat.le_of_ble_eq_true rfl, Nat.le_of_ble_eq_true rfl⟩) rfl rfl rfl rfl hl.1 (Nat.le_of_ble_eq_true rfl) ⟨Nat.zero_le _, Nat.zero_le _⟩ dX1_looseRows_1 (fun r w1 H locs hp hw => ?_) rfl
  obtain ⟨rfl, ca1, th1, rfl⟩ := hp
  refine lv_istore_n (lv' := [(1, .int (nI (pf_nu E 7 7 7 7))), (0, .ref (g 0))]) hx hb dX1_looseRows_4 rfl hl (by decide) rfl (fun ls hl => ?_)
  refine y_num hx hb 0 dX1_looseRows_5 rfl ?_
  refine lv_istore_n (lv' := [(2, .int (nI 0)), (1, .int (nI (pf_nu E 7 7 7 7))), (0, .ref (g 0))]) hx hb dX1_looseRows_6 rfl hl (by decide) rfl (fun ls hl => ?_)
  refine y_num hx hb 0 dX1_looseRows_7 rfl ?_
  refine lv_istore_n (lv' := [(3, .int (nI 0)), (2, .int (nI 0)), (1, .int (nI (pf_nu E 7 7 7 7))), (0, .ref (g 0))]) hx hb dX1_looseRows_8 rfl hl (by decide) rfl (fun ls hl => ?_)
  refine wl_for 7 (fun k H locs ls => ∃ (ca2 : Nat → Bool), ∃ (th2 : Nat → Bool), XH D A s.heap H locs (mW cI cZ g E ca2 th2 go) ∧ lv_has ls 4 [(0, .ref (g 0)), (1, .int (nI (pf_nu E 7 7 7 7))), (2, .int (nI (pf_or (fun k => pf_nu E k 7 7 7 == pf_nu E 7 7 7 7) (fun k => 2 ^ k) k))), (3, .int (nI k))]) ?_ ?_ 0 (by omega) _ _ _ ⟨ca1, th1, hw, lv_sub hl [3, 2, 1, 0] rfl⟩
  · intro k hk H locs ls hI ih
    obtain ⟨ca2, th2, hw, hl⟩ := hI
    refine lv_iload_n hx hb dX1_looseRows_9 rfl (lv_at hl 3 rfl) ?_
    refine y_push hx hb 7 dX1_looseRows_10 rfl ?_
    refine y_lt hx hb hk (by decide) dX1_looseRows_12 (tgt := 42) (by decide) ?_
    refine lv_aload_n hx hb dX1_looseRows_15 rfl (lv_at hl 0 rfl) ?_
    refine lv_iload_n hx hb dX1_looseRows_16 rfl (lv_at hl 3 rfl) ?_
    refine y_push hx hb 7 dX1_looseRows_17 rfl ?_
    refine y_push hx hb 7 dX1_looseRows_19 rfl ?_
    refine y_push hx hb 7 dX1_looseRows_21 rfl ?_
    refine y_cI (As := [.int (nI k), .int (nI 7), .int (nI 7), .int (nI 7)]) (rest := []) C hw (mm_sizeWithout l D hE k 7 7 7 (by omega) (by omega) (by omega) (by omega)) (cwV 4 hts (lw_V q212 q214 qs15 q24 q215) rfl rfl rfl (by decide +kernel) ⟨Nat.le_of_ble_eq_true rfl, Nat.le_of_ble_eq_true rfl⟩) rfl rfl rfl rfl hl.1 (Nat.le_of_ble_eq_true rfl) ⟨Nat.zero_le _, Nat.zero_le _⟩ dX1_looseRows_23 (fun r w1 H locs hp hw => ?_) rfl
    obtain ⟨rfl, ca3, th3, rfl⟩ := hp
    refine lv_iload_n hx hb dX1_looseRows_26 rfl (lv_at hl 1 rfl) ?_
    refine y_icmpne hx hb (Nat.lt_of_le_of_lt (pf_nu_le _ _ _ _ _) (by decide)) (Nat.lt_of_le_of_lt (pf_nu_le _ _ _ _ _) (by decide)) dX1_looseRows_27 (tgt := 36) (by decide) (fun hc => ?_) (fun hc => ?_)
    · refine lv_iinc (v := nI (k + 1)) (lv' := [(3, .int (nI (k + 1))), (0, .ref (g 0)), (1, .int (nI (pf_nu E 7 7 7 7))), (2, .int (nI (pf_or (fun k => pf_nu E k 7 7 7 == pf_nu E 7 7 7 7) (fun k => 2 ^ k) k)))]) hx hb dX1_looseRows_36 hl (k := 3) rfl (nI_1 _) (by decide) rfl (fun ls hl => ?_)
      refine lv_goto (tgt := 9) hx hb dX1_looseRows_39 (by decide) ?_
      exact ih _ _ _ ⟨_, _, hw, by rw [pf_or_f (p := (fun k => pf_nu E k 7 7 7 == pf_nu E 7 7 7 7)) (g := fun k => 2 ^ k) (n := k) (by simp [hc])]; exact lv_sub hl [1, 2, 3, 0] rfl⟩
    · refine lv_iload_n hx hb dX1_looseRows_30 rfl (lv_at hl 2 rfl) ?_
      refine y_num hx hb 1 dX1_looseRows_31 rfl ?_
      refine lv_iload_n hx hb dX1_looseRows_32 rfl (lv_at hl 3 rfl) ?_
      refine y_shl1 hx hb (by omega) dX1_looseRows_33 ?_
      refine y_or hx hb dX1_looseRows_34 ?_
      refine lv_istore_n (lv' := [(2, .int (nI ((pf_or (fun k => pf_nu E k 7 7 7 == pf_nu E 7 7 7 7) (fun k => 2 ^ k) k) ||| (2 ^ k)))), (0, .ref (g 0)), (1, .int (nI (pf_nu E 7 7 7 7))), (3, .int (nI k))]) hx hb dX1_looseRows_35 rfl hl (by decide) rfl (fun ls hl => ?_)
      refine lv_iinc (v := nI (k + 1)) (lv' := [(3, .int (nI (k + 1))), (2, .int (nI ((pf_or (fun k => pf_nu E k 7 7 7 == pf_nu E 7 7 7 7) (fun k => 2 ^ k) k) ||| (2 ^ k)))), (0, .ref (g 0)), (1, .int (nI (pf_nu E 7 7 7 7)))]) hx hb dX1_looseRows_36 hl (k := 3) rfl (nI_1 _) (by decide) rfl (fun ls hl => ?_)
      refine lv_goto (tgt := 9) hx hb dX1_looseRows_39 (by decide) ?_
      exact ih _ _ _ ⟨_, _, hw, by rw [pf_or_t (p := (fun k => pf_nu E k 7 7 7 == pf_nu E 7 7 7 7)) (g := fun k => 2 ^ k) (n := k) (by simp [hc])]; exact lv_sub hl [2, 3, 1, 0] rfl⟩
  · intro H locs ls hI
    obtain ⟨ca2, th2, hw, hl⟩ := hI
    refine lv_iload_n hx hb dX1_looseRows_9 rfl (lv_at hl 3 rfl) ?_
    refine y_push hx hb 7 dX1_looseRows_10 rfl ?_
    refine y_ge hx hb (Nat.le_refl _) (by decide) dX1_looseRows_12 (tgt := 42) (by decide) ?_
    refine lv_iload_n hx hb dX1_looseRows_42 rfl (lv_at hl 2 rfl) ?_
    exact y_iret C hw ⟨rfl, ⟨_, _, _, rfl, hE⟩⟩ dX1_looseRows_43
set_option maxHeartbeats 4000000 in
/-- loose -/
theorem mm_looseColumns (l : Launch) (D : va_G) (hE : ∀ r, E r < 128)  : MtI l yX1_looseColumns cX1_looseColumns 4 (some .int) ({ frames := 4, cells := 0, slots := 0, locals := 92 }) D (tyL cI cB cZ) [.ref (g 0)] (mW cI cZ g E ca th go) (fun r w => r = nI (pf_mlc E) ∧ MOk cI cZ g E w) := by
  refine MtI.of (by decide) (Nat.le_of_ble_eq_true rfl) ?_
  intro p e s m below meth c A ls C hw hl
  obtain ⟨hx, hb, hr, hlk, hml, hown, hts, hK, hA⟩ := id C
  have hl : lv_has ls 4 [(0, .ref (g 0))] := hl
  refine lv_aload_n hx hb dX1_looseColumns_0 rfl (lv_at hl 0 rfl) ?_
  refine y_cI (As := []) (rest := []) C hw (mm_largest l D hE) (cwV 0 hts (lw_V q232 q209 q210 q24 q211) rfl rfl rfl (by decide +kernel) ⟨Nat.le_of_ble_eq_true rfl, Nat.le_of_ble_eq_true rfl⟩) rfl rfl rfl rfl hl.1 (Nat.le_of_ble_eq_true rfl) ⟨Nat.zero_le _, Nat.zero_le _⟩ dX1_looseColumns_1 (fun r w1 H locs hp hw => ?_) rfl
  obtain ⟨rfl, ca1, th1, rfl⟩ := hp
  refine lv_istore_n (lv' := [(1, .int (nI (pf_nu E 7 7 7 7))), (0, .ref (g 0))]) hx hb dX1_looseColumns_4 rfl hl (by decide) rfl (fun ls hl => ?_)
  refine y_num hx hb 0 dX1_looseColumns_5 rfl ?_
  refine lv_istore_n (lv' := [(2, .int (nI 0)), (1, .int (nI (pf_nu E 7 7 7 7))), (0, .ref (g 0))]) hx hb dX1_looseColumns_6 rfl hl (by decide) rfl (fun ls hl => ?_)
  refine y_num hx hb 0 dX1_looseColumns_7 rfl ?_
  refine lv_istore_n (lv' := [(3, .int (nI 0)), (2, .int (nI 0)), (1, .int (nI (pf_nu E 7 7 7 7))), (0, .ref (g 0))]) hx hb dX1_looseColumns_8 rfl hl (by decide) rfl (fun ls hl => ?_)
  refine wl_for 7 (fun k H locs ls => ∃ (ca2 : Nat → Bool), ∃ (th2 : Nat → Bool), XH D A s.heap H locs (mW cI cZ g E ca2 th2 go) ∧ lv_has ls 4 [(0, .ref (g 0)), (1, .int (nI (pf_nu E 7 7 7 7))), (2, .int (nI (pf_or (fun k => pf_nu E 7 k 7 7 == pf_nu E 7 7 7 7) (fun k => 2 ^ k) k))), (3, .int (nI k))]) ?_ ?_ 0 (by omega) _ _ _ ⟨ca1, th1, hw, lv_sub hl [3, 2, 1, 0] rfl⟩
  · intro k hk H locs ls hI ih
    obtain ⟨ca2, th2, hw, hl⟩ := hI
    refine lv_iload_n hx hb dX1_looseColumns_9 rfl (lv_at hl 3 rfl) ?_
    refine y_push hx hb 7 dX1_looseColumns_10 rfl ?_
    refine y_lt hx hb hk (by decide) dX1_looseColumns_12 (tgt := 42) (by decide) ?_
    refine lv_aload_n hx hb dX1_looseColumns_15 rfl (lv_at hl 0 rfl) ?_
    refine y_push hx hb 7 dX1_looseColumns_16 rfl ?_
    refine lv_iload_n hx hb dX1_looseColumns_18 rfl (lv_at hl 3 rfl) ?_
    refine y_push hx hb 7 dX1_looseColumns_19 rfl ?_
    refine y_push hx hb 7 dX1_looseColumns_21 rfl ?_
    refine y_cI (As := [.int (nI 7), .int (nI k), .int (nI 7), .int (nI 7)]) (rest := []) C hw (mm_sizeWithout l D hE 7 k 7 7 (by omega) (by omega) (by omega) (by omega)) (cwV 4 hts (lw_V q212 q214 qs15 q24 q215) rfl rfl rfl (by decide +kernel) ⟨Nat.le_of_ble_eq_true rfl, Nat.le_of_ble_eq_true rfl⟩) rfl rfl rfl rfl hl.1 (Nat.le_of_ble_eq_true rfl) ⟨Nat.zero_le _, Nat.zero_le _⟩ dX1_looseColumns_23 (fun r w1 H locs hp hw => ?_) rfl
    obtain ⟨rfl, ca3, th3, rfl⟩ := hp
    refine lv_iload_n hx hb dX1_looseColumns_26 rfl (lv_at hl 1 rfl) ?_
    refine y_icmpne hx hb (Nat.lt_of_le_of_lt (pf_nu_le _ _ _ _ _) (by decide)) (Nat.lt_of_le_of_lt (pf_nu_le _ _ _ _ _) (by decide)) dX1_looseColumns_27 (tgt := 36) (by decide) (fun hc => ?_) (fun hc => ?_)
    · refine lv_iinc (v := nI (k + 1)) (lv' := [(3, .int (nI (k + 1))), (0, .ref (g 0)), (1, .int (nI (pf_nu E 7 7 7 7))), (2, .int (nI (pf_or (fun k => pf_nu E 7 k 7 7 == pf_nu E 7 7 7 7) (fun k => 2 ^ k) k)))]) hx hb dX1_looseColumns_36 hl (k := 3) rfl (nI_1 _) (by decide) rfl (fun ls hl => ?_)
      refine lv_goto (tgt := 9) hx hb dX1_looseColumns_39 (by decide) ?_
      exact ih _ _ _ ⟨_, _, hw, by rw [pf_or_f (p := (fun k => pf_nu E 7 k 7 7 == pf_nu E 7 7 7 7)) (g := fun k => 2 ^ k) (n := k) (by simp [hc])]; exact lv_sub hl [1, 2, 3, 0] rfl⟩
    · refine lv_iload_n hx hb dX1_looseColumns_30 rfl (lv_at hl 2 rfl) ?_
      refine y_num hx hb 1 dX1_looseColumns_31 rfl ?_
      refine lv_iload_n hx hb dX1_looseColumns_32 rfl (lv_at hl 3 rfl) ?_
      refine y_shl1 hx hb (by omega) dX1_looseColumns_33 ?_
      refine y_or hx hb dX1_looseColumns_34 ?_
      refine lv_istore_n (lv' := [(2, .int (nI ((pf_or (fun k => pf_nu E 7 k 7 7 == pf_nu E 7 7 7 7) (fun k => 2 ^ k) k) ||| (2 ^ k)))), (0, .ref (g 0)), (1, .int (nI (pf_nu E 7 7 7 7))), (3, .int (nI k))]) hx hb dX1_looseColumns_35 rfl hl (by decide) rfl (fun ls hl => ?_)
      refine lv_iinc (v := nI (k + 1)) (lv' := [(3, .int (nI (k + 1))), (2, .int (nI ((pf_or (fun k => pf_nu E 7 k 7 7 == pf_nu E 7 7 7 7) (fun k => 2 ^ k) k) ||| (2 ^ k)))), (0, .ref (g 0)), (1, .int (nI (pf_nu E 7 7 7 7)))]) hx hb dX1_looseColumns_36 hl (k := 3) rfl (nI_1 _) (by decide) rfl (fun ls hl => ?_)
      refine lv_goto (tgt := 9) hx hb dX1_looseColumns_39 (by decide) ?_
      exact ih _ _ _ ⟨_, _, hw, by rw [pf_or_t (p := (fun k => pf_nu E 7 k 7 7 == pf_nu E 7 7 7 7)) (g := fun k => 2 ^ k) (n := k) (by simp [hc])]; exact lv_sub hl [2, 3, 1, 0] rfl⟩
  · intro H locs ls hI
    obtain ⟨ca2, th2, hw, hl⟩ := hI
    refine lv_iload_n hx hb dX1_looseColumns_9 rfl (lv_at hl 3 rfl) ?_
    refine y_push hx hb 7 dX1_looseColumns_10 rfl ?_
    refine y_ge hx hb (Nat.le_refl _) (by decide) dX1_looseColumns_12 (tgt := 42) (by decide) ?_
    refine lv_iload_n hx hb dX1_looseColumns_42 rfl (lv_at hl 2 rfl) ?_
    exact y_iret C hw ⟨rfl, ⟨_, _, _, rfl, hE⟩⟩ dX1_looseColumns_43
set_option maxHeartbeats 4000000 in
/-- usable edges of a row -/
theorem mm_usableOf (l : Launch) (D : va_G) (hE : ∀ r, E r < 128) (x al : Nat) (hx7 : x < 7) (hal : al ≤ 7) : MtI l yX1_usableOf cX1_usableOf 5 (some .int) ({ frames := 3, cells := 0, slots := 0, locals := 72 }) D (tyL cI cB cZ) [.ref (g 0), .int (nI x), .int (nI al)] (mW cI cZ g E ca th go) (fun r w => r = nI (pf_or (fun c => (E x).testBit c && (pf_nu E x c 7 7 + 1 == al)) (fun k => 2 ^ k) 7) ∧ ∃ (ca' th' : Nat → Bool), w = (mW cI cZ g E ca' th' go)) := by
  refine MtI.of (by decide) (Nat.le_of_ble_eq_true rfl) ?_
  intro p e s m below meth c A ls C hw hl
  obtain ⟨hx, hb, hr, hlk, hml, hown, hts, hK, hA⟩ := id C
  have hl : lv_has ls 5 [(0, .ref (g 0)), (1, .int (nI x)), (2, .int (nI al))] := hl
  refine y_num hx hb 0 dX1_usableOf_0 rfl ?_
  refine lv_istore_n (lv' := [(3, .int (nI 0)), (0, .ref (g 0)), (1, .int (nI x)), (2, .int (nI al))]) hx hb dX1_usableOf_1 rfl hl (by decide) rfl (fun ls hl => ?_)
  refine y_num hx hb 0 dX1_usableOf_2 rfl ?_
  refine lv_istore (lv' := [(4, .int (nI 0)), (3, .int (nI 0)), (0, .ref (g 0)), (1, .int (nI x)), (2, .int (nI al))]) hx hb dX1_usableOf_3 hl (by decide) rfl (fun ls hl => ?_)
  refine wl_for 7 (fun k H locs ls => ∃ (ca2 : Nat → Bool), ∃ (th2 : Nat → Bool), XH D A s.heap H locs (mW cI cZ g E ca2 th2 go) ∧ lv_has ls 5 [(0, .ref (g 0)), (1, .int (nI x)), (2, .int (nI al)), (3, .int (nI (pf_or (fun c => (E x).testBit c && (pf_nu E x c 7 7 + 1 == al)) (fun k => 2 ^ k) k))), (4, .int (nI k))]) ?_ ?_ 0 (by omega) _ _ _ ⟨ca, th, hw, lv_sub hl [2, 3, 4, 1, 0] rfl⟩
  · intro k hk H locs ls hI ih
    obtain ⟨ca2, th2, hw, hl⟩ := hI
    refine lv_iload hx hb dX1_usableOf_5 (lv_at hl 4 rfl) ?_
    refine y_push hx hb 7 dX1_usableOf_7 rfl ?_
    refine y_lt hx hb hk (by decide) dX1_usableOf_9 (tgt := 57) (by decide) ?_
    refine lv_aload_n hx hb dX1_usableOf_12 rfl (lv_at hl 0 rfl) ?_
    refine lv_aload_n hx hb dX1_usableOf_13 rfl (lv_at hl 0 rfl) ?_
    refine mg_E C hw dX1_usableOf_14 ?_
    refine lv_iload_n hx hb dX1_usableOf_17 rfl (lv_at hl 1 rfl) ?_
    refine ml_E (by omega) C hw dX1_usableOf_18 ?_
    refine lv_iload hx hb dX1_usableOf_19 (lv_at hl 4 rfl) ?_
    refine y_cI (As := [.int (nI (E x)), .int (nI k)]) (rest := []) C hw (mm_in l D (E x) k (hE x) hk) (cwV 2 hts (lw_V q220 q222 qs17 q24 q223) rfl rfl rfl (by decide +kernel) ⟨Nat.le_of_ble_eq_true rfl, Nat.le_of_ble_eq_true rfl⟩) rfl rfl rfl rfl hl.1 (Nat.le_of_ble_eq_true rfl) ⟨Nat.zero_le _, Nat.zero_le _⟩ dX1_usableOf_21 (fun r w1 H locs hp hw => ?_) rfl
    obtain ⟨rfl, rfl⟩ := hp
    refine y_ifeq_w hx hb dX1_usableOf_24 (tgt := 51) (by decide) (fun hc => ?_) (fun hc => ?_)
    · refine lv_iinc (v := nI (k + 1)) (lv' := [(4, .int (nI (k + 1))), (0, .ref (g 0)), (1, .int (nI x)), (2, .int (nI al)), (3, .int (nI (pf_or (fun c => (E x).testBit c && (pf_nu E x c 7 7 + 1 == al)) (fun k => 2 ^ k) k)))]) hx hb dX1_usableOf_51 hl (k := 4) rfl (nI_1 _) (by decide) rfl (fun ls hl => ?_)
      refine lv_goto (tgt := 5) hx hb dX1_usableOf_54 (by decide) ?_
      exact ih _ _ _ ⟨_, _, hw, by rw [pf_or_f (p := (fun c => (E x).testBit c && (pf_nu E x c 7 7 + 1 == al))) (g := fun k => 2 ^ k) (n := k) (by simp [hc])]; exact lv_sub hl [1, 2, 3, 4, 0] rfl⟩
    · refine lv_aload_n hx hb dX1_usableOf_27 rfl (lv_at hl 0 rfl) ?_
      refine lv_iload_n hx hb dX1_usableOf_28 rfl (lv_at hl 1 rfl) ?_
      refine lv_iload hx hb dX1_usableOf_29 (lv_at hl 4 rfl) ?_
      refine y_push hx hb 7 dX1_usableOf_31 rfl ?_
      refine y_push hx hb 7 dX1_usableOf_33 rfl ?_
      refine y_cI (As := [.int (nI x), .int (nI k), .int (nI 7), .int (nI 7)]) (rest := []) C hw (mm_sizeWithout l D hE x k 7 7 (by omega) (by omega) (by omega) (by omega)) (cwV 4 hts (lw_V q212 q214 qs15 q24 q215) rfl rfl rfl (by decide +kernel) ⟨Nat.le_of_ble_eq_true rfl, Nat.le_of_ble_eq_true rfl⟩) rfl rfl rfl rfl hl.1 (Nat.le_of_ble_eq_true rfl) ⟨Nat.zero_le _, Nat.zero_le _⟩ dX1_usableOf_35 (fun r w1 H locs hp hw => ?_) rfl
      obtain ⟨rfl, ca3, th3, rfl⟩ := hp
      refine y_num hx hb 1 dX1_usableOf_38 rfl ?_
      refine y_add hx hb dX1_usableOf_39 ?_
      refine lv_iload_n hx hb dX1_usableOf_40 rfl (lv_at hl 2 rfl) ?_
      refine y_icmpne hx hb (by have := pf_nu_le E x k 7 7; omega) (by omega) dX1_usableOf_41 (tgt := 51) (by decide) (fun hd => ?_) (fun hd => ?_)
      · refine lv_iinc (v := nI (k + 1)) (lv' := [(4, .int (nI (k + 1))), (0, .ref (g 0)), (1, .int (nI x)), (2, .int (nI al)), (3, .int (nI (pf_or (fun c => (E x).testBit c && (pf_nu E x c 7 7 + 1 == al)) (fun k => 2 ^ k) k)))]) hx hb dX1_usableOf_51 hl (k := 4) rfl (nI_1 _) (by decide) rfl (fun ls hl => ?_)
        refine lv_goto (tgt := 5) hx hb dX1_usableOf_54 (by decide) ?_
        exact ih _ _ _ ⟨_, _, hw, by rw [pf_or_f (p := (fun c => (E x).testBit c && (pf_nu E x c 7 7 + 1 == al))) (g := fun k => 2 ^ k) (n := k) (by simp [hd])]; exact lv_sub hl [1, 2, 3, 4, 0] rfl⟩
      · refine lv_iload_n hx hb dX1_usableOf_44 rfl (lv_at hl 3 rfl) ?_
        refine y_num hx hb 1 dX1_usableOf_45 rfl ?_
        refine lv_iload hx hb dX1_usableOf_46 (lv_at hl 4 rfl) ?_
        refine y_shl1 hx hb (by omega) dX1_usableOf_48 ?_
        refine y_or hx hb dX1_usableOf_49 ?_
        refine lv_istore_n (lv' := [(3, .int (nI ((pf_or (fun c => (E x).testBit c && (pf_nu E x c 7 7 + 1 == al)) (fun k => 2 ^ k) k) ||| (2 ^ k)))), (0, .ref (g 0)), (1, .int (nI x)), (2, .int (nI al)), (4, .int (nI k))]) hx hb dX1_usableOf_50 rfl hl (by decide) rfl (fun ls hl => ?_)
        refine lv_iinc (v := nI (k + 1)) (lv' := [(4, .int (nI (k + 1))), (3, .int (nI ((pf_or (fun c => (E x).testBit c && (pf_nu E x c 7 7 + 1 == al)) (fun k => 2 ^ k) k) ||| (2 ^ k)))), (0, .ref (g 0)), (1, .int (nI x)), (2, .int (nI al))]) hx hb dX1_usableOf_51 hl (k := 4) rfl (nI_1 _) (by decide) rfl (fun ls hl => ?_)
        refine lv_goto (tgt := 5) hx hb dX1_usableOf_54 (by decide) ?_
        exact ih _ _ _ ⟨_, _, hw, by rw [pf_or_t (p := (fun c => (E x).testBit c && (pf_nu E x c 7 7 + 1 == al))) (g := fun k => 2 ^ k) (n := k) (by simp [hc, hd])]; exact lv_sub hl [2, 3, 4, 1, 0] rfl⟩
  · intro H locs ls hI
    obtain ⟨ca2, th2, hw, hl⟩ := hI
    refine lv_iload hx hb dX1_usableOf_5 (lv_at hl 4 rfl) ?_
    refine y_push hx hb 7 dX1_usableOf_7 rfl ?_
    refine y_ge hx hb (Nat.le_refl _) (by decide) dX1_usableOf_9 (tgt := 57) (by decide) ?_
    refine lv_iload_n hx hb dX1_usableOf_57 rfl (lv_at hl 3 rfl) ?_
    exact y_iret C hw ⟨rfl, _, _, rfl⟩ dX1_usableOf_58
set_option maxHeartbeats 4000000 in
/-- usable edges of a row -/
theorem mm_usable (l : Launch) (D : va_G) (hE : ∀ r, E r < 128) (i : Int32) : MtI l yX1_usable cX1_usable 3 (some .int) ({ frames := 4, cells := 0, slots := 0, locals := 96 }) D (tyL cI cB cZ) [.ref (g 0), .int i] (mW cI cZ g E ca th go) (fun r w => r = at_N i (pf_mus E) ∧ MOk cI cZ g E w) := by
  refine MtI.of (by decide) (Nat.le_of_ble_eq_true rfl) ?_
  intro p e s m below meth c A ls C hw hl
  obtain ⟨hx, hb, hr, hlk, hml, hown, hts, hK, hA⟩ := id C
  have hl : lv_has ls 3 [(0, .ref (g 0)), (1, .int i)] := hl
  refine lv_aload_n hx hb dX1_usable_0 rfl (lv_at hl 0 rfl) ?_
  refine lv_iload_n hx hb dX1_usable_1 rfl (lv_at hl 1 rfl) ?_
  refine y_cI (As := [.int i]) (rest := []) C hw (mm_isPlace l D i) (cwV 1 hts (lw_V q196 q198 qs14 q24 q199) rfl rfl rfl (by decide +kernel) ⟨Nat.le_of_ble_eq_true rfl, Nat.le_of_ble_eq_true rfl⟩) rfl rfl rfl rfl hl.1 (Nat.le_of_ble_eq_true rfl) ⟨Nat.zero_le _, Nat.zero_le _⟩ dX1_usable_2 (fun r w1 H locs hp hw => ?_) rfl
  obtain ⟨rfl, rfl⟩ := hp
  refine y_ifne_w hx hb dX1_usable_5 (tgt := 10) (by decide) (fun hi => ?_) (fun hi => ?_)
  · obtain ⟨x, hx7, rfl⟩ := isN_of hi
    refine lv_aload_n hx hb dX1_usable_10 rfl (lv_at hl 0 rfl) ?_
    refine y_cI (As := []) (rest := []) C hw (mm_largest l D hE) (cwV 0 hts (lw_V q232 q209 q210 q24 q211) rfl rfl rfl (by decide +kernel) ⟨Nat.le_of_ble_eq_true rfl, Nat.le_of_ble_eq_true rfl⟩) rfl rfl rfl rfl hl.1 (Nat.le_of_ble_eq_true rfl) ⟨Nat.zero_le _, Nat.zero_le _⟩ dX1_usable_11 (fun r w1 H locs hp hw => ?_) rfl
    obtain ⟨rfl, ca1, th1, rfl⟩ := hp
    refine lv_istore_n (lv' := [(2, .int (nI (pf_nu E 7 7 7 7))), (0, .ref (g 0)), (1, .int (nI x))]) hx hb dX1_usable_14 rfl hl (by decide) rfl (fun ls hl => ?_)
    refine lv_aload_n hx hb dX1_usable_15 rfl (lv_at hl 1 rfl) ?_
    refine lv_iload_n hx hb dX1_usable_16 rfl (lv_at hl 2 rfl) ?_
    refine lv_iload_n hx hb dX1_usable_17 rfl (lv_at hl 0 rfl) ?_
    refine y_cI (As := [.int (nI x), .int (nI (pf_nu E 7 7 7 7))]) (rest := []) C hw (mm_usableOf l D hE x (pf_nu E 7 7 7 7) hx7 (pf_nu_le _ _ _ _ _)) (cwV 2 hts (lw_V q241 q243 qs19 q24 q244) rfl rfl rfl (by decide +kernel) ⟨Nat.le_of_ble_eq_true rfl, Nat.le_of_ble_eq_true rfl⟩) rfl rfl rfl rfl hl.1 (Nat.le_of_ble_eq_true rfl) ⟨Nat.zero_le _, Nat.zero_le _⟩ dX1_usable_18 (fun r w1 H locs hp hw => ?_) rfl
    obtain ⟨rfl, ca2, th2, rfl⟩ := hp
    exact y_iret C hw ⟨by rw [at_N_t hx7]; rfl, ⟨_, _, _, rfl, hE⟩⟩ dX1_usable_21
  · refine lv_iconst (v := nB 7) hx hb dX1_usable_8 (by decide) ?_
    exact y_iret C hw ⟨by rw [at_N_f hi]; rfl, ⟨_, _, _, rfl, hE⟩⟩ dX1_usable_9
set_option maxHeartbeats 4000000 in
/-- forced edges of a row -/
theorem mm_forced (l : Launch) (D : va_G) (hE : ∀ r, E r < 128) (i : Int32) : MtI l yX1_forced cX1_forced 5 (some .int) ({ frames := 4, cells := 0, slots := 0, locals := 92 }) D (tyL cI cB cZ) [.ref (g 0), .int i] (mW cI cZ g E ca th go) (fun r w => r = at_N i (pf_mfo E) ∧ MOk cI cZ g E w) := by
  refine MtI.of (by decide) (Nat.le_of_ble_eq_true rfl) ?_
  intro p e s m below meth c A ls C hw hl
  obtain ⟨hx, hb, hr, hlk, hml, hown, hts, hK, hA⟩ := id C
  have hl : lv_has ls 5 [(0, .ref (g 0)), (1, .int i)] := hl
  refine lv_aload_n hx hb dX1_forced_0 rfl (lv_at hl 0 rfl) ?_
  refine lv_iload_n hx hb dX1_forced_1 rfl (lv_at hl 1 rfl) ?_
  refine y_cI (As := [.int i]) (rest := []) C hw (mm_isPlace l D i) (cwV 1 hts (lw_V q196 q198 qs14 q24 q199) rfl rfl rfl (by decide +kernel) ⟨Nat.le_of_ble_eq_true rfl, Nat.le_of_ble_eq_true rfl⟩) rfl rfl rfl rfl hl.1 (Nat.le_of_ble_eq_true rfl) ⟨Nat.zero_le _, Nat.zero_le _⟩ dX1_forced_2 (fun r w1 H locs hp hw => ?_) rfl
  obtain ⟨rfl, rfl⟩ := hp
  refine y_ifne_w hx hb dX1_forced_5 (tgt := 10) (by decide) (fun hi => ?_) (fun hi => ?_)
  · obtain ⟨x, hx7, rfl⟩ := isN_of hi
    refine lv_aload_n hx hb dX1_forced_10 rfl (lv_at hl 0 rfl) ?_
    refine y_cI (As := []) (rest := []) C hw (mm_largest l D hE) (cwV 0 hts (lw_V q232 q209 q210 q24 q211) rfl rfl rfl (by decide +kernel) ⟨Nat.le_of_ble_eq_true rfl, Nat.le_of_ble_eq_true rfl⟩) rfl rfl rfl rfl hl.1 (Nat.le_of_ble_eq_true rfl) ⟨Nat.zero_le _, Nat.zero_le _⟩ dX1_forced_11 (fun r w1 H locs hp hw => ?_) rfl
    obtain ⟨rfl, ca1, th1, rfl⟩ := hp
    refine lv_istore_n (lv' := [(2, .int (nI (pf_nu E 7 7 7 7))), (0, .ref (g 0)), (1, .int (nI x))]) hx hb dX1_forced_14 rfl hl (by decide) rfl (fun ls hl => ?_)
    refine y_num hx hb 0 dX1_forced_15 rfl ?_
    refine lv_istore_n (lv' := [(3, .int (nI 0)), (2, .int (nI (pf_nu E 7 7 7 7))), (0, .ref (g 0)), (1, .int (nI x))]) hx hb dX1_forced_16 rfl hl (by decide) rfl (fun ls hl => ?_)
    refine y_num hx hb 0 dX1_forced_17 rfl ?_
    refine lv_istore (lv' := [(4, .int (nI 0)), (3, .int (nI 0)), (2, .int (nI (pf_nu E 7 7 7 7))), (0, .ref (g 0)), (1, .int (nI x))]) hx hb dX1_forced_18 hl (by decide) rfl (fun ls hl => ?_)
    refine wl_for 7 (fun k H locs ls => ∃ (ca2 : Nat → Bool), ∃ (th2 : Nat → Bool), XH D A s.heap H locs (mW cI cZ g E ca2 th2 go) ∧ lv_has ls 5 [(0, .ref (g 0)), (1, .int (nI x)), (2, .int (nI (pf_nu E 7 7 7 7))), (3, .int (nI (pf_or (fun c => (E x).testBit c && decide (pf_nu E 7 7 x c < pf_nu E 7 7 7 7)) (fun k => 2 ^ k) k))), (4, .int (nI k))]) ?_ ?_ 0 (by omega) _ _ _ ⟨ca1, th1, hw, lv_sub hl [3, 4, 2, 1, 0] rfl⟩
    · intro k hk H locs ls hI ih
      obtain ⟨ca2, th2, hw, hl⟩ := hI
      refine lv_iload hx hb dX1_forced_20 (lv_at hl 4 rfl) ?_
      refine y_push hx hb 7 dX1_forced_22 rfl ?_
      refine y_lt hx hb hk (by decide) dX1_forced_24 (tgt := 70) (by decide) ?_
      refine lv_aload_n hx hb dX1_forced_27 rfl (lv_at hl 0 rfl) ?_
      refine lv_aload_n hx hb dX1_forced_28 rfl (lv_at hl 0 rfl) ?_
      refine mg_E C hw dX1_forced_29 ?_
      refine lv_iload_n hx hb dX1_forced_32 rfl (lv_at hl 1 rfl) ?_
      refine ml_E (by omega) C hw dX1_forced_33 ?_
      refine lv_iload hx hb dX1_forced_34 (lv_at hl 4 rfl) ?_
      refine y_cI (As := [.int (nI (E x)), .int (nI k)]) (rest := []) C hw (mm_in l D (E x) k (hE x) hk) (cwV 2 hts (lw_V q220 q222 qs17 q24 q223) rfl rfl rfl (by decide +kernel) ⟨Nat.le_of_ble_eq_true rfl, Nat.le_of_ble_eq_true rfl⟩) rfl rfl rfl rfl hl.1 (Nat.le_of_ble_eq_true rfl) ⟨Nat.zero_le _, Nat.zero_le _⟩ dX1_forced_36 (fun r w1 H locs hp hw => ?_) rfl
      obtain ⟨rfl, rfl⟩ := hp
      refine y_ifeq_w hx hb dX1_forced_39 (tgt := 64) (by decide) (fun hc => ?_) (fun hc => ?_)
      · refine lv_iinc (v := nI (k + 1)) (lv' := [(4, .int (nI (k + 1))), (0, .ref (g 0)), (1, .int (nI x)), (2, .int (nI (pf_nu E 7 7 7 7))), (3, .int (nI (pf_or (fun c => (E x).testBit c && decide (pf_nu E 7 7 x c < pf_nu E 7 7 7 7)) (fun k => 2 ^ k) k)))]) hx hb dX1_forced_64 hl (k := 4) rfl (nI_1 _) (by decide) rfl (fun ls hl => ?_)
        refine lv_goto (tgt := 20) hx hb dX1_forced_67 (by decide) ?_
        exact ih _ _ _ ⟨_, _, hw, by rw [pf_or_f (p := (fun c => (E x).testBit c && decide (pf_nu E 7 7 x c < pf_nu E 7 7 7 7))) (g := fun k => 2 ^ k) (n := k) (by simp [hc])]; exact lv_sub hl [1, 2, 3, 4, 0] rfl⟩
      · refine lv_aload_n hx hb dX1_forced_42 rfl (lv_at hl 0 rfl) ?_
        refine y_push hx hb 7 dX1_forced_43 rfl ?_
        refine y_push hx hb 7 dX1_forced_45 rfl ?_
        refine lv_iload_n hx hb dX1_forced_47 rfl (lv_at hl 1 rfl) ?_
        refine lv_iload hx hb dX1_forced_48 (lv_at hl 4 rfl) ?_
        refine y_cI (As := [.int (nI 7), .int (nI 7), .int (nI x), .int (nI k)]) (rest := []) C hw (mm_sizeWithout l D hE 7 7 x k (by omega) (by omega) (by omega) (by omega)) (cwV 4 hts (lw_V q212 q214 qs15 q24 q215) rfl rfl rfl (by decide +kernel) ⟨Nat.le_of_ble_eq_true rfl, Nat.le_of_ble_eq_true rfl⟩) rfl rfl rfl rfl hl.1 (Nat.le_of_ble_eq_true rfl) ⟨Nat.zero_le _, Nat.zero_le _⟩ dX1_forced_50 (fun r w1 H locs hp hw => ?_) rfl
        obtain ⟨rfl, ca3, th3, rfl⟩ := hp
        refine lv_iload_n hx hb dX1_forced_53 rfl (lv_at hl 2 rfl) ?_
        refine y_icmpge hx hb (Nat.lt_of_le_of_lt (pf_nu_le _ _ _ _ _) (by decide)) (Nat.lt_of_le_of_lt (pf_nu_le _ _ _ _ _) (by decide)) dX1_forced_54 (tgt := 64) (by decide) (fun hd => ?_) (fun hd => ?_)
        · refine lv_iinc (v := nI (k + 1)) (lv' := [(4, .int (nI (k + 1))), (0, .ref (g 0)), (1, .int (nI x)), (2, .int (nI (pf_nu E 7 7 7 7))), (3, .int (nI (pf_or (fun c => (E x).testBit c && decide (pf_nu E 7 7 x c < pf_nu E 7 7 7 7)) (fun k => 2 ^ k) k)))]) hx hb dX1_forced_64 hl (k := 4) rfl (nI_1 _) (by decide) rfl (fun ls hl => ?_)
          refine lv_goto (tgt := 20) hx hb dX1_forced_67 (by decide) ?_
          exact ih _ _ _ ⟨_, _, hw, by rw [pf_or_f (p := (fun c => (E x).testBit c && decide (pf_nu E 7 7 x c < pf_nu E 7 7 7 7))) (g := fun k => 2 ^ k) (n := k) (by simp [hd])]; exact lv_sub hl [1, 2, 3, 4, 0] rfl⟩
        · refine lv_iload_n hx hb dX1_forced_57 rfl (lv_at hl 3 rfl) ?_
          refine y_num hx hb 1 dX1_forced_58 rfl ?_
          refine lv_iload hx hb dX1_forced_59 (lv_at hl 4 rfl) ?_
          refine y_shl1 hx hb (by omega) dX1_forced_61 ?_
          refine y_or hx hb dX1_forced_62 ?_
          refine lv_istore_n (lv' := [(3, .int (nI ((pf_or (fun c => (E x).testBit c && decide (pf_nu E 7 7 x c < pf_nu E 7 7 7 7)) (fun k => 2 ^ k) k) ||| (2 ^ k)))), (0, .ref (g 0)), (1, .int (nI x)), (2, .int (nI (pf_nu E 7 7 7 7))), (4, .int (nI k))]) hx hb dX1_forced_63 rfl hl (by decide) rfl (fun ls hl => ?_)
          refine lv_iinc (v := nI (k + 1)) (lv' := [(4, .int (nI (k + 1))), (3, .int (nI ((pf_or (fun c => (E x).testBit c && decide (pf_nu E 7 7 x c < pf_nu E 7 7 7 7)) (fun k => 2 ^ k) k) ||| (2 ^ k)))), (0, .ref (g 0)), (1, .int (nI x)), (2, .int (nI (pf_nu E 7 7 7 7)))]) hx hb dX1_forced_64 hl (k := 4) rfl (nI_1 _) (by decide) rfl (fun ls hl => ?_)
          refine lv_goto (tgt := 20) hx hb dX1_forced_67 (by decide) ?_
          exact ih _ _ _ ⟨_, _, hw, by rw [pf_or_t (p := (fun c => (E x).testBit c && decide (pf_nu E 7 7 x c < pf_nu E 7 7 7 7))) (g := fun k => 2 ^ k) (n := k) (by simp [hc, hd])]; exact lv_sub hl [2, 3, 4, 1, 0] rfl⟩
    · intro H locs ls hI
      obtain ⟨ca2, th2, hw, hl⟩ := hI
      refine lv_iload hx hb dX1_forced_20 (lv_at hl 4 rfl) ?_
      refine y_push hx hb 7 dX1_forced_22 rfl ?_
      refine y_ge hx hb (Nat.le_refl _) (by decide) dX1_forced_24 (tgt := 70) (by decide) ?_
      refine lv_iload_n hx hb dX1_forced_70 rfl (lv_at hl 3 rfl) ?_
      exact y_iret C hw ⟨by rw [at_N_t hx7]; rfl, ⟨_, _, _, rfl, hE⟩⟩ dX1_forced_71
  · refine lv_iconst (v := nB 7) hx hb dX1_forced_8 (by decide) ?_
    exact y_iret C hw ⟨by rw [at_N_f hi]; rfl, ⟨_, _, _, rfl, hE⟩⟩ dX1_forced_9
set_option maxHeartbeats 4000000 in
/-- the rows of a block -/
theorem mm_blockOf (l : Launch) (D : va_G) (hgo : ∀ r, r < 7 → go r < 128) (x : Nat) (hx7 : x < 7) : MtI l yX1_blockOf cX1_blockOf 5 (some .int) ({ frames := 1, cells := 0, slots := 0, locals := 22 }) D (tyL cI cB cZ) [.ref (g 0), .int (nI x)] (mW cI cZ g E ca th go) (fun r w => r = nI (pf_BO go x 7) ∧ w = (mW cI cZ g E ca th go)) := by
  refine MtI.of (by decide) (Nat.le_of_ble_eq_true rfl) ?_
  intro p e s m below meth c A ls C hw hl
  obtain ⟨hx, hb, hr, hlk, hml, hown, hts, hK, hA⟩ := id C
  have hl : lv_has ls 5 [(0, .ref (g 0)), (1, .int (nI x))] := hl
  refine y_num hx hb 1 dX1_blockOf_0 rfl ?_
  refine lv_iload_n hx hb dX1_blockOf_1 rfl (lv_at hl 1 rfl) ?_
  refine y_shl1 hx hb (by omega) dX1_blockOf_2 ?_
  refine lv_istore_n (lv' := [(2, .int (nI (2 ^ x))), (0, .ref (g 0)), (1, .int (nI x))]) hx hb dX1_blockOf_3 rfl hl (by decide) rfl (fun ls hl => ?_)
  refine y_num hx hb 0 dX1_blockOf_4 rfl ?_
  refine lv_istore_n (lv' := [(3, .int (nI 0)), (2, .int (nI (2 ^ x))), (0, .ref (g 0)), (1, .int (nI x))]) hx hb dX1_blockOf_5 rfl hl (by decide) rfl (fun ls hl => ?_)
  refine wl_for 7 (fun k H locs ls => XH D A s.heap H locs (mW cI cZ g E ca th go) ∧ lv_has ls 5 [(0, .ref (g 0)), (1, .int (nI x)), (2, .int (nI (pf_BO go x k))), (3, .int (nI k))]) ?_ ?_ 0 (by omega) _ _ _ ⟨hw, lv_sub hl [2, 3, 1, 0] rfl⟩
  · intro k hk H locs ls hI ih
    obtain ⟨hw, hl⟩ := hI
    refine lv_iload_n hx hb dX1_blockOf_6 rfl (lv_at hl 3 rfl) ?_
    refine y_push hx hb 7 dX1_blockOf_7 rfl ?_
    refine y_lt hx hb hk (by decide) dX1_blockOf_9 (tgt := 81) (by decide) ?_
    refine y_num hx hb 0 dX1_blockOf_12 rfl ?_
    refine lv_istore (lv' := [(4, .int (nI 0)), (0, .ref (g 0)), (1, .int (nI x)), (2, .int (nI (pf_BO go x k))), (3, .int (nI k))]) hx hb dX1_blockOf_13 hl (by decide) rfl (fun ls hl => ?_)
    have hB : pf_BO go x k < 128 := pf_BO_lt hx7 k
    refine wl_for 49 (fun j H locs ls => XH D A s.heap H locs (mW cI cZ g E ca th go) ∧ lv_has ls 5 [(0, .ref (g 0)), (1, .int (nI x)), (2, .int (nI (pf_b1 go (pf_BO go x k) j))), (3, .int (nI k)), (4, .int (nI j))]) ?_ ?_ 0 (by omega) _ _ _ ⟨hw, lv_sub hl [1, 2, 3, 4, 0] rfl⟩
    · intro j hj H locs ls hI ih2
      obtain ⟨hw, hl⟩ := hI
      have hs : pf_b1 go (pf_BO go x k) j < 128 := pf_b1_lt hB j
      have hd7 : j / 7 < 7 := by omega
      have hm7 : j % 7 < 7 := by omega
      refine lv_iload hx hb dX1_blockOf_15 (lv_at hl 4 rfl) ?_
      refine y_push hx hb 49 dX1_blockOf_17 rfl ?_
      refine y_lt hx hb hj (by decide) dX1_blockOf_19 (tgt := 75) (by decide) ?_
      refine lv_aload_n hx hb dX1_blockOf_22 rfl (lv_at hl 0 rfl) ?_
      refine lv_iload_n hx hb dX1_blockOf_23 rfl (lv_at hl 2 rfl) ?_
      refine lv_iload hx hb dX1_blockOf_24 (lv_at hl 4 rfl) ?_
      refine y_push hx hb 7 dX1_blockOf_26 rfl ?_
      refine y_div7 hx hb (by omega) dX1_blockOf_28 ?_
      refine y_cI (As := [.int (nI (pf_b1 go (pf_BO go x k) j)), .int (nI (j / 7))]) (rest := []) C hw (mm_in l D (pf_b1 go (pf_BO go x k) j) (j / 7) hs hd7) (cwV 2 hts (lw_V q220 q222 qs17 q24 q223) rfl rfl rfl (by decide +kernel) ⟨Nat.le_of_ble_eq_true rfl, Nat.le_of_ble_eq_true rfl⟩) rfl rfl rfl rfl hl.1 (Nat.le_of_ble_eq_true rfl) ⟨Nat.zero_le _, Nat.zero_le _⟩ dX1_blockOf_29 (fun r w1 H locs hp hw => ?_) rfl
      obtain ⟨rfl, rfl⟩ := hp
      refine y_ifeq_w hx hb dX1_blockOf_32 (tgt := 69) (by decide) (fun hc => ?_) (fun hc => ?_)
      · refine lv_iinc (v := nI (j + 1)) (lv' := [(4, .int (nI (j + 1))), (0, .ref (g 0)), (1, .int (nI x)), (2, .int (nI (pf_b1 go (pf_BO go x k) j))), (3, .int (nI k))]) hx hb dX1_blockOf_69 hl (k := 4) rfl (nI_1 _) (by decide) rfl (fun ls hl => ?_)
        refine lv_goto (tgt := 15) hx hb dX1_blockOf_72 (by decide) ?_
        exact ih2 _ _ _ ⟨hw, by rw [pf_b1, if_neg (fun q => by rw [hc] at q; cases q.1)]; exact lv_sub hl [1, 2, 3, 4, 0] rfl⟩
      · refine lv_aload_n hx hb dX1_blockOf_35 rfl (lv_at hl 0 rfl) ?_
        refine mg_go C hw dX1_blockOf_36 ?_
        refine lv_iload hx hb dX1_blockOf_39 (lv_at hl 4 rfl) ?_
        refine y_push hx hb 7 dX1_blockOf_41 rfl ?_
        refine y_div7 hx hb (by omega) dX1_blockOf_43 ?_
        refine ml_go (by omega) C hw dX1_blockOf_44 ?_
        refine lv_aload_n hx hb dX1_blockOf_45 rfl (lv_at hl 0 rfl) ?_
        refine mg_go C hw dX1_blockOf_46 ?_
        refine lv_iload hx hb dX1_blockOf_49 (lv_at hl 4 rfl) ?_
        refine y_push hx hb 7 dX1_blockOf_51 rfl ?_
        refine y_rem7 hx hb (by omega) dX1_blockOf_53 ?_
        refine ml_go (by omega) C hw dX1_blockOf_54 ?_
        refine y_and hx hb dX1_blockOf_55 ?_
        refine y_ifeq_n hx hb (b31 (Nat.lt_of_le_of_lt Nat.and_le_left (hgo _ hd7))) dX1_blockOf_56 (tgt := 69) (by decide) (fun hd => ?_) (fun hd => ?_)
        · refine lv_iinc (v := nI (j + 1)) (lv' := [(4, .int (nI (j + 1))), (0, .ref (g 0)), (1, .int (nI x)), (2, .int (nI (pf_b1 go (pf_BO go x k) j))), (3, .int (nI k))]) hx hb dX1_blockOf_69 hl (k := 4) rfl (nI_1 _) (by decide) rfl (fun ls hl => ?_)
          refine lv_goto (tgt := 15) hx hb dX1_blockOf_72 (by decide) ?_
          exact ih2 _ _ _ ⟨hw, by rw [pf_b1, if_neg (fun q => q.2 hd)]; exact lv_sub hl [1, 2, 3, 4, 0] rfl⟩
        · refine lv_iload_n hx hb dX1_blockOf_59 rfl (lv_at hl 2 rfl) ?_
          refine y_num hx hb 1 dX1_blockOf_60 rfl ?_
          refine lv_iload hx hb dX1_blockOf_61 (lv_at hl 4 rfl) ?_
          refine y_push hx hb 7 dX1_blockOf_63 rfl ?_
          refine y_rem7 hx hb (by omega) dX1_blockOf_65 ?_
          refine y_shl1 hx hb (by omega) dX1_blockOf_66 ?_
          refine y_or hx hb dX1_blockOf_67 ?_
          refine lv_istore_n (lv' := [(2, .int (nI ((pf_b1 go (pf_BO go x k) j) ||| (2 ^ (j % 7))))), (0, .ref (g 0)), (1, .int (nI x)), (3, .int (nI k)), (4, .int (nI j))]) hx hb dX1_blockOf_68 rfl hl (by decide) rfl (fun ls hl => ?_)
          refine lv_iinc (v := nI (j + 1)) (lv' := [(4, .int (nI (j + 1))), (2, .int (nI ((pf_b1 go (pf_BO go x k) j) ||| (2 ^ (j % 7))))), (0, .ref (g 0)), (1, .int (nI x)), (3, .int (nI k))]) hx hb dX1_blockOf_69 hl (k := 4) rfl (nI_1 _) (by decide) rfl (fun ls hl => ?_)
          refine lv_goto (tgt := 15) hx hb dX1_blockOf_72 (by decide) ?_
          exact ih2 _ _ _ ⟨hw, by rw [pf_b1, if_pos ⟨hc, hd⟩]; exact lv_sub hl [2, 3, 1, 4, 0] rfl⟩
    · intro H locs ls hI
      obtain ⟨hw, hl⟩ := hI
      refine lv_iload hx hb dX1_blockOf_15 (lv_at hl 4 rfl) ?_
      refine y_push hx hb 49 dX1_blockOf_17 rfl ?_
      refine y_ge hx hb (Nat.le_refl _) (by decide) dX1_blockOf_19 (tgt := 75) (by decide) ?_
      refine lv_iinc (v := nI (k + 1)) (lv' := [(3, .int (nI (k + 1))), (0, .ref (g 0)), (1, .int (nI x)), (2, .int (nI (pf_b1 go (pf_BO go x k) 49))), (4, .int (nI 49))]) hx hb dX1_blockOf_75 hl (k := 3) rfl (nI_1 _) (by decide) rfl (fun ls hl => ?_)
      refine lv_goto (tgt := 6) hx hb dX1_blockOf_78 (by decide) ?_
      exact ih _ _ _ ⟨hw, lv_sub hl [1, 2, 3, 0] rfl⟩
  · intro H locs ls hI
    obtain ⟨hw, hl⟩ := hI
    refine lv_iload_n hx hb dX1_blockOf_6 rfl (lv_at hl 3 rfl) ?_
    refine y_push hx hb 7 dX1_blockOf_7 rfl ?_
    refine y_ge hx hb (Nat.le_refl _) (by decide) dX1_blockOf_9 (tgt := 81) (by decide) ?_
    refine lv_iload_n hx hb dX1_blockOf_81 rfl (lv_at hl 2 rfl) ?_
    exact y_iret C hw ⟨rfl, rfl⟩ dX1_blockOf_82
set_option maxHeartbeats 4000000 in
/-- the usable edges of all rows -/
theorem mm_findGood (l : Launch) (D : va_G) (hE : ∀ r, E r < 128)  : MtV l yX1_findGood cX1_findGood 3 ({ frames := 4, cells := 0, slots := 0, locals := 96 }) D (tyL cI cB cZ) [.ref (g 0)] (mW cI cZ g E ca th go) (fun w => ∃ (ca' th' : Nat → Bool) (go' : Nat → Nat), w = (mW cI cZ g E ca' th' go') ∧ ∀ r, r < 7 → go' r = pf_mus E r) := by
  refine MtV.of (by decide) (Nat.le_of_ble_eq_true rfl) ?_
  intro p e s m below meth c A ls C hw hl
  obtain ⟨hx, hb, hr, hlk, hml, hown, hts, hK, hA⟩ := id C
  have hl : lv_has ls 3 [(0, .ref (g 0))] := hl
  refine lv_aload_n hx hb dX1_findGood_0 rfl (lv_at hl 0 rfl) ?_
  refine y_cI (As := []) (rest := []) C hw (mm_largest l D hE) (cwV 0 hts (lw_V q232 q209 q210 q24 q211) rfl rfl rfl (by decide +kernel) ⟨Nat.le_of_ble_eq_true rfl, Nat.le_of_ble_eq_true rfl⟩) rfl rfl rfl rfl hl.1 (Nat.le_of_ble_eq_true rfl) ⟨Nat.zero_le _, Nat.zero_le _⟩ dX1_findGood_1 (fun r w1 H locs hp hw => ?_) rfl
  obtain ⟨rfl, ca1, th1, rfl⟩ := hp
  refine lv_istore_n (lv' := [(1, .int (nI (pf_nu E 7 7 7 7))), (0, .ref (g 0))]) hx hb dX1_findGood_4 rfl hl (by decide) rfl (fun ls hl => ?_)
  refine y_num hx hb 0 dX1_findGood_5 rfl ?_
  refine lv_istore_n (lv' := [(2, .int (nI 0)), (1, .int (nI (pf_nu E 7 7 7 7))), (0, .ref (g 0))]) hx hb dX1_findGood_6 rfl hl (by decide) rfl (fun ls hl => ?_)
  refine wl_for 7 (fun k H locs ls => ∃ (ca2 : Nat → Bool), ∃ (th2 : Nat → Bool), ∃ (go2 : Nat → Nat), XH D A s.heap H locs (mW cI cZ g E ca2 th2 go2) ∧ lv_has ls 3 [(0, .ref (g 0)), (1, .int (nI (pf_nu E 7 7 7 7))), (2, .int (nI k))] ∧ (∀ z, z < k → go2 z = pf_mus E z)) ?_ ?_ 0 (by omega) _ _ _ ⟨ca1, th1, go, hw, lv_sub hl [2, 1, 0] rfl, fun z hz => absurd hz (Nat.not_lt_zero z)⟩
  · intro k hk H locs ls hI ih
    obtain ⟨ca2, th2, go2, hw, hl, hgo⟩ := hI
    refine lv_iload_n hx hb dX1_findGood_7 rfl (lv_at hl 2 rfl) ?_
    refine y_push hx hb 7 dX1_findGood_8 rfl ?_
    refine y_lt hx hb hk (by decide) dX1_findGood_10 (tgt := 31) (by decide) ?_
    refine lv_aload_n hx hb dX1_findGood_13 rfl (lv_at hl 0 rfl) ?_
    refine mg_go C hw dX1_findGood_14 ?_
    refine lv_iload_n hx hb dX1_findGood_17 rfl (lv_at hl 2 rfl) ?_
    refine lv_aload_n hx hb dX1_findGood_18 rfl (lv_at hl 0 rfl) ?_
    refine lv_iload_n hx hb dX1_findGood_19 rfl (lv_at hl 2 rfl) ?_
    refine lv_iload_n hx hb dX1_findGood_20 rfl (lv_at hl 1 rfl) ?_
    refine y_cI (As := [.int (nI k), .int (nI (pf_nu E 7 7 7 7))]) (rest := [.int (nI k), .ref (g 4)]) C hw (mm_usableOf l D hE k (pf_nu E 7 7 7 7) hk (pf_nu_le _ _ _ _ _)) (cwV 2 hts (lw_V q241 q243 qs19 q24 q244) rfl rfl rfl (by decide +kernel) ⟨Nat.le_of_ble_eq_true rfl, Nat.le_of_ble_eq_true rfl⟩) rfl rfl rfl rfl hl.1 (Nat.le_of_ble_eq_true rfl) ⟨Nat.zero_le _, Nat.zero_le _⟩ dX1_findGood_21 (fun r w1 H locs hp hw => ?_) rfl
    obtain ⟨rfl, ca3, th3, rfl⟩ := hp
    refine ms_go (by omega) C hw dX1_findGood_24 (fun H locs hw => ?_)
    refine lv_iinc (v := nI (k + 1)) (lv' := [(2, .int (nI (k + 1))), (0, .ref (g 0)), (1, .int (nI (pf_nu E 7 7 7 7)))]) hx hb dX1_findGood_25 hl (k := 2) rfl (nI_1 _) (by decide) rfl (fun ls hl => ?_)
    refine lv_goto (tgt := 7) hx hb dX1_findGood_28 (by decide) ?_
    exact ih _ _ _ ⟨_, _, _, hw, lv_sub hl [1, 2, 0] rfl, fun z hz => by
      by_cases e : z = k
      · rw [e, mm_up_s]; rfl
      · rw [mm_up_n e]; exact hgo z (by omega)⟩
  · intro H locs ls hI
    obtain ⟨ca2, th2, go2, hw, hl, hgo⟩ := hI
    refine lv_iload_n hx hb dX1_findGood_7 rfl (lv_at hl 2 rfl) ?_
    refine y_push hx hb 7 dX1_findGood_8 rfl ?_
    refine y_ge hx hb (Nat.le_refl _) (by decide) dX1_findGood_10 (tgt := 31) (by decide) ?_
    exact y_vret C hw ⟨_, _, _, rfl, hgo⟩ dX1_findGood_31
set_option maxHeartbeats 4000000 in
/-- the number of blocks -/
theorem mm_blocks (l : Launch) (D : va_G) (hE : ∀ r, E r < 128)  : MtI l yX1_blocks cX1_blocks 4 (some .int) ({ frames := 5, cells := 0, slots := 0, locals := 118 }) D (tyL cI cB cZ) [.ref (g 0)] (mW cI cZ g E ca th go) (fun r w => r = nI (pf_mb (pf_mus E) 7) ∧ MOk cI cZ g E w) := by
  refine MtI.of (by decide) (Nat.le_of_ble_eq_true rfl) ?_
  intro p e s m below meth c A ls C hw hl
  obtain ⟨hx, hb, hr, hlk, hml, hown, hts, hK, hA⟩ := id C
  have hl : lv_has ls 4 [(0, .ref (g 0))] := hl
  refine lv_aload_n hx hb dX1_blocks_0 rfl (lv_at hl 0 rfl) ?_
  refine y_cV (As := []) (rest := []) C hw (mm_findGood l D hE) (cwV 0 hts (lw_V q253 q255 qs20 q24 q256) rfl rfl rfl (by decide +kernel) ⟨Nat.le_of_ble_eq_true rfl, Nat.le_of_ble_eq_true rfl⟩) rfl rfl rfl rfl hl.1 (Nat.le_of_ble_eq_true rfl) ⟨Nat.zero_le _, Nat.zero_le _⟩ dX1_blocks_1 (fun w1 H locs hp hw => ?_) rfl
  obtain ⟨ca1, th1, go1, rfl, hgo⟩ := hp
  have hg7 : ∀ r, r < 7 → go1 r < 128 := fun r hr => by rw [hgo r hr]; exact pf_two_lt _
  refine y_num hx hb 0 dX1_blocks_4 rfl ?_
  refine lv_istore_n (lv' := [(1, .int (nI 0)), (0, .ref (g 0))]) hx hb dX1_blocks_5 rfl hl (by decide) rfl (fun ls hl => ?_)
  refine y_num hx hb 0 dX1_blocks_6 rfl ?_
  refine lv_istore_n (lv' := [(2, .int (nI 0)), (1, .int (nI 0)), (0, .ref (g 0))]) hx hb dX1_blocks_7 rfl hl (by decide) rfl (fun ls hl => ?_)
  refine wl_for 7 (fun k H locs ls => XH D A s.heap H locs (mW cI cZ g E ca1 th1 go1) ∧ lv_has ls 4 [(0, .ref (g 0)), (1, .int (nI (pf_mb go1 k))), (2, .int (nI k))]) ?_ ?_ 0 (by omega) _ _ _ ⟨hw, lv_sub hl [2, 1, 0] rfl⟩
  · intro k hk H locs ls hI ih
    obtain ⟨hw, hl⟩ := hI
    have hB : pf_BO go1 k 7 < 128 := pf_BO_lt hk 7
    refine lv_iload_n hx hb dX1_blocks_8 rfl (lv_at hl 2 rfl) ?_
    refine y_push hx hb 7 dX1_blocks_9 rfl ?_
    refine y_lt hx hb hk (by decide) dX1_blocks_11 (tgt := 48) (by decide) ?_
    refine lv_aload_n hx hb dX1_blocks_14 rfl (lv_at hl 0 rfl) ?_
    refine lv_iload_n hx hb dX1_blocks_15 rfl (lv_at hl 2 rfl) ?_
    refine y_cI (As := [.int (nI k)]) (rest := []) C hw (mm_blockOf l D hg7 k hk) (cwV 1 hts (lw_V q257 q259 qs21 q24 q260) rfl rfl rfl (by decide +kernel) ⟨Nat.le_of_ble_eq_true rfl, Nat.le_of_ble_eq_true rfl⟩) rfl rfl rfl rfl hl.1 (Nat.le_of_ble_eq_true rfl) ⟨Nat.zero_le _, Nat.zero_le _⟩ dX1_blocks_16 (fun r w1 H locs hp hw => ?_) rfl
    obtain ⟨rfl, rfl⟩ := hp
    refine lv_istore_n (lv' := [(3, .int (nI (pf_BO go1 k 7))), (0, .ref (g 0)), (1, .int (nI (pf_mb go1 k))), (2, .int (nI k))]) hx hb dX1_blocks_19 rfl hl (by decide) rfl (fun ls hl => ?_)
    refine lv_aload_n hx hb dX1_blocks_20 rfl (lv_at hl 1 rfl) ?_
    refine mg_go C hw dX1_blocks_21 ?_
    refine lv_iload_n hx hb dX1_blocks_24 rfl (lv_at hl 3 rfl) ?_
    refine ml_go (by omega) C hw dX1_blocks_25 ?_
    refine y_ifeq_n hx hb (b31 (hg7 _ hk)) dX1_blocks_26 (tgt := 42) (by decide) (fun hc => ?_) (fun hc => ?_)
    · refine lv_iinc (v := nI (k + 1)) (lv' := [(2, .int (nI (k + 1))), (3, .int (nI (pf_BO go1 k 7))), (0, .ref (g 0)), (1, .int (nI (pf_mb go1 k)))]) hx hb dX1_blocks_42 hl (k := 3) rfl (nI_1 _) (by decide) rfl (fun ls hl => ?_)
      refine lv_goto (tgt := 8) hx hb dX1_blocks_45 (by decide) ?_
      exact ih _ _ _ ⟨hw, by rw [pf_mb, if_neg (fun q => q.1 hc)]; exact lv_sub hl [2, 3, 0] rfl⟩
    · refine lv_iload_n hx hb dX1_blocks_29 rfl (lv_at hl 0 rfl) ?_
      refine y_num hx hb 1 dX1_blocks_30 rfl ?_
      refine lv_iload_n hx hb dX1_blocks_31 rfl (lv_at hl 3 rfl) ?_
      refine y_shl1 hx hb (by omega) dX1_blocks_32 ?_
      refine y_num hx hb 1 dX1_blocks_33 rfl ?_
      refine y_sub hx hb (Nat.two_pow_pos k) dX1_blocks_34 ?_
      refine y_and hx hb dX1_blocks_35 ?_
      refine y_ifne_n hx hb (b31 (Nat.lt_of_le_of_lt Nat.and_le_left hB)) dX1_blocks_36 (tgt := 42) (by decide) (fun hd => ?_) (fun hd => ?_)
      · refine lv_iinc (v := nI (k + 1)) (lv' := [(2, .int (nI (k + 1))), (3, .int (nI (pf_BO go1 k 7))), (0, .ref (g 0)), (1, .int (nI (pf_mb go1 k)))]) hx hb dX1_blocks_42 hl (k := 3) rfl (nI_1 _) (by decide) rfl (fun ls hl => ?_)
        refine lv_goto (tgt := 8) hx hb dX1_blocks_45 (by decide) ?_
        exact ih _ _ _ ⟨hw, by rw [pf_mb, if_neg (fun q => hd q.2)]; exact lv_sub hl [2, 3, 0] rfl⟩
      · refine lv_iinc (v := nI ((pf_mb go1 k) + 1)) (lv' := [(1, .int (nI ((pf_mb go1 k) + 1))), (3, .int (nI (pf_BO go1 k 7))), (0, .ref (g 0)), (2, .int (nI k))]) hx hb dX1_blocks_39 hl (k := 2) rfl (nI_1 _) (by decide) rfl (fun ls hl => ?_)
        refine lv_iinc (v := nI (k + 1)) (lv' := [(2, .int (nI (k + 1))), (1, .int (nI ((pf_mb go1 k) + 1))), (3, .int (nI (pf_BO go1 k 7))), (0, .ref (g 0))]) hx hb dX1_blocks_42 hl (k := 3) rfl (nI_1 _) (by decide) rfl (fun ls hl => ?_)
        refine lv_goto (tgt := 8) hx hb dX1_blocks_45 (by decide) ?_
        exact ih _ _ _ ⟨hw, by rw [pf_mb, if_pos ⟨hc, hd⟩]; exact lv_sub hl [3, 1, 0] rfl⟩
  · intro H locs ls hI
    obtain ⟨hw, hl⟩ := hI
    refine lv_iload_n hx hb dX1_blocks_8 rfl (lv_at hl 2 rfl) ?_
    refine y_push hx hb 7 dX1_blocks_9 rfl ?_
    refine y_ge hx hb (Nat.le_refl _) (by decide) dX1_blocks_11 (tgt := 48) (by decide) ?_
    refine lv_iload_n hx hb dX1_blocks_48 rfl (lv_at hl 1 rfl) ?_
    exact y_iret C hw ⟨by rw [pf_mb_congr hgo 7 (Nat.le_refl 7)], ⟨_, _, _, rfl, hE⟩⟩ dX1_blocks_49
set_option maxHeartbeats 4000000 in
/-- the rows of a block -/
theorem mm_blockRows (l : Launch) (D : va_G) (hE : ∀ r, E r < 128) (i : Int32) : MtI l yX1_blockRows cX1_blockRows 2 (some .int) ({ frames := 5, cells := 0, slots := 0, locals := 118 }) D (tyL cI cB cZ) [.ref (g 0), .int i] (mW cI cZ g E ca th go) (fun r w => r = at_N i (mb_r E) ∧ MOk cI cZ g E w) := by
  refine MtI.of (by decide) (Nat.le_of_ble_eq_true rfl) ?_
  intro p e s m below meth c A ls C hw hl
  obtain ⟨hx, hb, hr, hlk, hml, hown, hts, hK, hA⟩ := id C
  have hl : lv_has ls 2 [(0, .ref (g 0)), (1, .int i)] := hl
  refine lv_aload_n hx hb dX1_blockRows_0 rfl (lv_at hl 0 rfl) ?_
  refine lv_iload_n hx hb dX1_blockRows_1 rfl (lv_at hl 1 rfl) ?_
  refine y_cI (As := [.int i]) (rest := []) C hw (mm_isPlace l D i) (cwV 1 hts (lw_V q196 q198 qs14 q24 q199) rfl rfl rfl (by decide +kernel) ⟨Nat.le_of_ble_eq_true rfl, Nat.le_of_ble_eq_true rfl⟩) rfl rfl rfl rfl hl.1 (Nat.le_of_ble_eq_true rfl) ⟨Nat.zero_le _, Nat.zero_le _⟩ dX1_blockRows_2 (fun r w1 H locs hp hw => ?_) rfl
  obtain ⟨rfl, rfl⟩ := hp
  refine y_ifne_w hx hb dX1_blockRows_5 (tgt := 10) (by decide) (fun hi => ?_) (fun hi => ?_)
  · obtain ⟨x, hx7, rfl⟩ := isN_of hi
    refine lv_aload_n hx hb dX1_blockRows_10 rfl (lv_at hl 0 rfl) ?_
    refine y_cV (As := []) (rest := []) C hw (mm_findGood l D hE) (cwV 0 hts (lw_V q253 q255 qs20 q24 q256) rfl rfl rfl (by decide +kernel) ⟨Nat.le_of_ble_eq_true rfl, Nat.le_of_ble_eq_true rfl⟩) rfl rfl rfl rfl hl.1 (Nat.le_of_ble_eq_true rfl) ⟨Nat.zero_le _, Nat.zero_le _⟩ dX1_blockRows_11 (fun w1 H locs hp hw => ?_) rfl
    obtain ⟨ca1, th1, go1, rfl, hgo⟩ := hp
    have hg7 : ∀ r, r < 7 → go1 r < 128 := fun r hr => by rw [hgo r hr]; exact pf_two_lt _
    refine lv_aload_n hx hb dX1_blockRows_14 rfl (lv_at hl 0 rfl) ?_
    refine mg_go C hw dX1_blockRows_15 ?_
    refine lv_iload_n hx hb dX1_blockRows_18 rfl (lv_at hl 1 rfl) ?_
    refine ml_go (by omega) C hw dX1_blockRows_19 ?_
    refine y_ifne_n hx hb (b31 (hg7 _ hx7)) dX1_blockRows_20 (tgt := 27) (by decide) (fun hc => ?_) (fun hc => ?_)
    · refine lv_aload_n hx hb dX1_blockRows_27 rfl (lv_at hl 0 rfl) ?_
      refine lv_iload_n hx hb dX1_blockRows_28 rfl (lv_at hl 1 rfl) ?_
      refine y_cI (As := [.int (nI x)]) (rest := []) C hw (mm_blockOf l D hg7 x hx7) (cwV 1 hts (lw_V q257 q259 qs21 q24 q260) rfl rfl rfl (by decide +kernel) ⟨Nat.le_of_ble_eq_true rfl, Nat.le_of_ble_eq_true rfl⟩) rfl rfl rfl rfl hl.1 (Nat.le_of_ble_eq_true rfl) ⟨Nat.zero_le _, Nat.zero_le _⟩ dX1_blockRows_29 (fun r w1 H locs hp hw => ?_) rfl
      obtain ⟨rfl, rfl⟩ := hp
      exact y_iret C hw ⟨by rw [at_N_t hx7, mb_r, if_neg (by rw [← hgo x hx7]; exact hc), pf_BO_congr hgo hx7], ⟨_, _, _, rfl, hE⟩⟩ dX1_blockRows_32
    · refine y_num hx hb 0 dX1_blockRows_23 rfl ?_
      refine lv_goto (tgt := 32) hx hb dX1_blockRows_24 (by decide) ?_
      exact y_iret C hw ⟨by rw [at_N_t hx7, mb_r, if_pos (by rw [← hgo x hx7]; exact hc)], ⟨_, _, _, rfl, hE⟩⟩ dX1_blockRows_32
  · refine lv_iconst (v := nB 7) hx hb dX1_blockRows_8 (by decide) ?_
    exact y_iret C hw ⟨by rw [at_N_f hi]; rfl, ⟨_, _, _, rfl, hE⟩⟩ dX1_blockRows_9
set_option maxHeartbeats 4000000 in
/-- the size of a smallest cover -/
theorem mm_cover (l : Launch) (D : va_G) (hE : ∀ r, E r < 128)  : MtI l yX1_cover cX1_cover 5 (some .int) ({ frames := 2, cells := 0, slots := 0, locals := 45 }) D (tyL cI cB cZ) [.ref (g 0)] (mW cI cZ g E ca th go) (fun r w => r = nI (pf_mc E 128) ∧ MOk cI cZ g E w) := by
  refine MtI.of (by decide) (Nat.le_of_ble_eq_true rfl) ?_
  intro p e s m below meth c A ls C hw hl
  obtain ⟨hx, hb, hr, hlk, hml, hown, hts, hK, hA⟩ := id C
  have hl : lv_has ls 5 [(0, .ref (g 0))] := hl
  refine y_push hx hb 7 dX1_cover_0 rfl ?_
  refine lv_istore_n (lv' := [(1, .int (nI 7)), (0, .ref (g 0))]) hx hb dX1_cover_2 rfl hl (by decide) rfl (fun ls hl => ?_)
  refine y_num hx hb 0 dX1_cover_3 rfl ?_
  refine lv_istore_n (lv' := [(2, .int (nI 0)), (1, .int (nI 7)), (0, .ref (g 0))]) hx hb dX1_cover_4 rfl hl (by decide) rfl (fun ls hl => ?_)
  refine wl_for 128 (fun k H locs ls => XH D A s.heap H locs (mW cI cZ g E ca th go) ∧ lv_has ls 5 [(0, .ref (g 0)), (1, .int (nI (pf_mc E k))), (2, .int (nI k))]) ?_ ?_ 0 (by omega) _ _ _ ⟨hw, lv_sub hl [2, 1, 0] rfl⟩
  · intro k hk H locs ls hI ih
    obtain ⟨hw, hl⟩ := hI
    refine lv_iload_n hx hb dX1_cover_5 rfl (lv_at hl 2 rfl) ?_
    refine lv_sipush (v := nI 128) hx hb dX1_cover_6 (by decide) ?_
    refine y_lt hx hb hk (by decide) dX1_cover_9 (tgt := 78) (by decide) ?_
    refine y_num hx hb 0 dX1_cover_12 rfl ?_
    refine lv_istore_n (lv' := [(3, .int (nI 0)), (0, .ref (g 0)), (1, .int (nI (pf_mc E k))), (2, .int (nI k))]) hx hb dX1_cover_13 rfl hl (by decide) rfl (fun ls hl => ?_)
    refine y_num hx hb 0 dX1_cover_14 rfl ?_
    refine lv_istore (lv' := [(4, .int (nI 0)), (3, .int (nI 0)), (0, .ref (g 0)), (1, .int (nI (pf_mc E k))), (2, .int (nI k))]) hx hb dX1_cover_15 hl (by decide) rfl (fun ls hl => ?_)
    refine wl_for 7 (fun j H locs ls => XH D A s.heap H locs (mW cI cZ g E ca th go) ∧ lv_has ls 5 [(0, .ref (g 0)), (1, .int (nI (pf_mc E k))), (2, .int (nI k)), (3, .int (nI (pf_cu E k j))), (4, .int (nI j))]) ?_ ?_ 0 (by omega) _ _ _ ⟨hw, lv_sub hl [2, 3, 4, 1, 0] rfl⟩
    · intro j hj H locs ls hI ih2
      obtain ⟨hw, hl⟩ := hI
      refine lv_iload hx hb dX1_cover_17 (lv_at hl 4 rfl) ?_
      refine y_push hx hb 7 dX1_cover_19 rfl ?_
      refine y_lt hx hb hj (by decide) dX1_cover_21 (tgt := 50) (by decide) ?_
      refine lv_aload_n hx hb dX1_cover_24 rfl (lv_at hl 0 rfl) ?_
      refine lv_iload_n hx hb dX1_cover_25 rfl (lv_at hl 2 rfl) ?_
      refine lv_iload hx hb dX1_cover_26 (lv_at hl 4 rfl) ?_
      refine y_cI (As := [.int (nI k), .int (nI j)]) (rest := []) C hw (mm_in l D k j hk hj) (cwV 2 hts (lw_V q220 q222 qs17 q24 q223) rfl rfl rfl (by decide +kernel) ⟨Nat.le_of_ble_eq_true rfl, Nat.le_of_ble_eq_true rfl⟩) rfl rfl rfl rfl hl.1 (Nat.le_of_ble_eq_true rfl) ⟨Nat.zero_le _, Nat.zero_le _⟩ dX1_cover_28 (fun r w1 H locs hp hw => ?_) rfl
      obtain ⟨rfl, rfl⟩ := hp
      refine y_ifne_w hx hb dX1_cover_31 (tgt := 44) (by decide) (fun hc => ?_) (fun hc => ?_)
      · refine lv_iinc (v := nI (j + 1)) (lv' := [(4, .int (nI (j + 1))), (0, .ref (g 0)), (1, .int (nI (pf_mc E k))), (2, .int (nI k)), (3, .int (nI (pf_cu E k j)))]) hx hb dX1_cover_44 hl (k := 4) rfl (nI_1 _) (by decide) rfl (fun ls hl => ?_)
        refine lv_goto (tgt := 17) hx hb dX1_cover_47 (by decide) ?_
        exact ih2 _ _ _ ⟨hw, by rw [pf_cu, pf_or_f (p := (fun r => !k.testBit r)) (g := E) (n := j) (by simp [hc])]; exact lv_sub hl [1, 2, 3, 4, 0] rfl⟩
      · refine lv_iload_n hx hb dX1_cover_34 rfl (lv_at hl 3 rfl) ?_
        refine lv_aload_n hx hb dX1_cover_35 rfl (lv_at hl 0 rfl) ?_
        refine mg_E C hw dX1_cover_36 ?_
        refine lv_iload hx hb dX1_cover_39 (lv_at hl 4 rfl) ?_
        refine ml_E (by omega) C hw dX1_cover_41 ?_
        refine y_or hx hb dX1_cover_42 ?_
        refine lv_istore_n (lv' := [(3, .int (nI ((pf_cu E k j) ||| (E j)))), (0, .ref (g 0)), (1, .int (nI (pf_mc E k))), (2, .int (nI k)), (4, .int (nI j))]) hx hb dX1_cover_43 rfl hl (by decide) rfl (fun ls hl => ?_)
        refine lv_iinc (v := nI (j + 1)) (lv' := [(4, .int (nI (j + 1))), (3, .int (nI ((pf_cu E k j) ||| (E j)))), (0, .ref (g 0)), (1, .int (nI (pf_mc E k))), (2, .int (nI k))]) hx hb dX1_cover_44 hl (k := 4) rfl (nI_1 _) (by decide) rfl (fun ls hl => ?_)
        refine lv_goto (tgt := 17) hx hb dX1_cover_47 (by decide) ?_
        exact ih2 _ _ _ ⟨hw, by rw [pf_cu, pf_or_t (p := (fun r => !k.testBit r)) (g := E) (n := j) (by simp [hc])]; exact lv_sub hl [2, 3, 4, 1, 0] rfl⟩
    · intro H locs ls hI
      obtain ⟨hw, hl⟩ := hI
      have hcu : pf_cu E k 7 < 128 := pf_or_lt 7 (fun i _ _ => hE i)
      have hs1 : pf_sz k ≤ 7 := mm_cnt_le _ 7
      have hs2 : pf_sz (pf_cu E k 7) ≤ 7 := mm_cnt_le _ 7
      have hmc : pf_mc E k ≤ 7 := (pf_mc_le E k).1
      refine lv_iload hx hb dX1_cover_17 (lv_at hl 4 rfl) ?_
      refine y_push hx hb 7 dX1_cover_19 rfl ?_
      refine y_ge hx hb (Nat.le_refl _) (by decide) dX1_cover_21 (tgt := 50) (by decide) ?_
      refine lv_aload_n hx hb dX1_cover_50 rfl (lv_at hl 0 rfl) ?_
      refine lv_iload_n hx hb dX1_cover_51 rfl (lv_at hl 2 rfl) ?_
      refine y_cI (As := [.int (nI k)]) (rest := []) C hw (mm_sizeOf l D k hk) (cwV 1 hts (lw_V q224 q226 qs18 q24 q227) rfl rfl rfl (by decide +kernel) ⟨Nat.le_of_ble_eq_true rfl, Nat.le_of_ble_eq_true rfl⟩) rfl rfl rfl rfl hl.1 (Nat.le_of_ble_eq_true rfl) ⟨Nat.zero_le _, Nat.zero_le _⟩ dX1_cover_52 (fun r w1 H locs hp hw => ?_) rfl
      obtain ⟨rfl, rfl⟩ := hp
      refine lv_aload_n hx hb dX1_cover_55 rfl (lv_at hl 0 rfl) ?_
      refine lv_iload_n hx hb dX1_cover_56 rfl (lv_at hl 3 rfl) ?_
      refine y_cI (As := [.int (nI (pf_cu E k 7))]) (rest := [.int (nI (pf_sz k))]) C hw (mm_sizeOf l D (pf_cu E k 7) hcu) (cwV 1 hts (lw_V q224 q226 qs18 q24 q227) rfl rfl rfl (by decide +kernel) ⟨Nat.le_of_ble_eq_true rfl, Nat.le_of_ble_eq_true rfl⟩) rfl rfl rfl rfl hl.1 (Nat.le_of_ble_eq_true rfl) ⟨Nat.zero_le _, Nat.zero_le _⟩ dX1_cover_57 (fun r w1 H locs hp hw => ?_) rfl
      obtain ⟨rfl, rfl⟩ := hp
      refine y_add hx hb dX1_cover_60 ?_
      refine lv_istore (lv' := [(4, .int (nI ((pf_sz k) + (pf_sz (pf_cu E k 7))))), (0, .ref (g 0)), (1, .int (nI (pf_mc E k))), (2, .int (nI k)), (3, .int (nI (pf_cu E k 7)))]) hx hb dX1_cover_61 hl (by decide) rfl (fun ls hl => ?_)
      refine lv_iload hx hb dX1_cover_63 (lv_at hl 0 rfl) ?_
      refine lv_iload_n hx hb dX1_cover_65 rfl (lv_at hl 2 rfl) ?_
      refine y_icmpge hx hb (by omega) (by omega) dX1_cover_66 (tgt := 72) (by decide) (fun hd => ?_) (fun hd => ?_)
      · refine lv_iinc (v := nI (k + 1)) (lv' := [(2, .int (nI (k + 1))), (4, .int (nI ((pf_sz k) + (pf_sz (pf_cu E k 7))))), (0, .ref (g 0)), (1, .int (nI (pf_mc E k))), (3, .int (nI (pf_cu E k 7)))]) hx hb dX1_cover_72 hl (k := 3) rfl (nI_1 _) (by decide) rfl (fun ls hl => ?_)
        refine lv_goto (tgt := 5) hx hb dX1_cover_75 (by decide) ?_
        exact ih _ _ _ ⟨hw, by rw [pf_mc, if_neg (by rw [pf_cv]; omega)]; exact lv_sub hl [2, 3, 0] rfl⟩
      · refine lv_iload hx hb dX1_cover_69 (lv_at hl 0 rfl) ?_
        refine lv_istore_n (lv' := [(1, .int (nI ((pf_sz k) + (pf_sz (pf_cu E k 7))))), (4, .int (nI ((pf_sz k) + (pf_sz (pf_cu E k 7))))), (0, .ref (g 0)), (2, .int (nI k)), (3, .int (nI (pf_cu E k 7)))]) hx hb dX1_cover_71 rfl hl (by decide) rfl (fun ls hl => ?_)
        refine lv_iinc (v := nI (k + 1)) (lv' := [(2, .int (nI (k + 1))), (1, .int (nI ((pf_sz k) + (pf_sz (pf_cu E k 7))))), (4, .int (nI ((pf_sz k) + (pf_sz (pf_cu E k 7))))), (0, .ref (g 0)), (3, .int (nI (pf_cu E k 7)))]) hx hb dX1_cover_72 hl (k := 3) rfl (nI_1 _) (by decide) rfl (fun ls hl => ?_)
        refine lv_goto (tgt := 5) hx hb dX1_cover_75 (by decide) ?_
        exact ih _ _ _ ⟨hw, by rw [pf_mc, if_pos (by rw [pf_cv]; omega)]; exact lv_sub hl [3, 1, 0] rfl⟩
  · intro H locs ls hI
    obtain ⟨hw, hl⟩ := hI
    refine lv_iload_n hx hb dX1_cover_5 rfl (lv_at hl 2 rfl) ?_
    refine lv_sipush (v := nI 128) hx hb dX1_cover_6 (by decide) ?_
    refine y_ge hx hb (Nat.le_refl _) (by decide) dX1_cover_9 (tgt := 78) (by decide) ?_
    refine lv_iload_n hx hb dX1_cover_78 rfl (lv_at hl 1 rfl) ?_
    exact y_iret C hw ⟨rfl, ⟨_, _, _, rfl, hE⟩⟩ dX1_cover_79
end X1B
end
section
/-! THE CONSTRUCTORS (printed by gen_init.py) -/
set_option maxRecDepth 100000
/-- a constructor's contract: mc cells of ms slots come -/
def MtC (l : Launch) (y : MethodName) (b : ByteArray) (L : Nat) (rm : Room) (D : va_G) (tys : List (ClassId × FieldType)) (av : List Value) (w : va_W) (mc ms : Nat) (post : va_W → Prop) : Prop :=
  ∀ sz : Nat, Met l y (ws_ y b L none) rm (va_Pc av (fun U => U.heap.size = sz ∧ va_P D vwCl w U.heap ∧ va_K D vwCl tys U ∧ va_D (fun _ => True) w)) (va_Qv post (fun w' t => va_P D vwCl w' t.heap ∧ va_K D vwCl tys t ∧ va_D (va_A w sz) w') (va_A w sz)) mc ms (va_A w sz)
abbrev EndC (below : List Frame) (D : va_G) (tys : List (ClassId × FieldType)) (A : Nat → Prop) (args : Array Value) (s : State) (mc ms : Nat) (post : va_W → Prop) : State → Prop := MQ below (va_Qv post (fun w' t => va_P D vwCl w' t.heap ∧ va_K D vwCl tys t ∧ va_D A w') A) args s mc ms A
theorem MtC.of {l : Launch} {y : MethodName} {b : ByteArray} {L : Nat} {rm : Room} {D : va_G} {tys : List (ClassId × FieldType)} {av : List Value} {w : va_W} {mc ms : Nat} {post : va_W → Prop} (hy : plainName y.cls = true) (hl : (lg_sl av).length ≤ L)
    (h : ∀ (p : Program) (e : Env) (s : State) (m : MethodId) (below : List Frame) (meth : Method) (c : Code) (A : Nat → Prop) (ls : Array Slot), CX p s m av.toArray meth c b L none y.cls D tys A → meth.name = y.name → XH D A s.heap s.heap [] w → lv_has ls L (lv_args 0 av) → W p l e rm s m av.toArray below meth c s.heap [] 0 0 (EndC below D tys A av.toArray s mc ms post) (F0 m 0 ls [])) : MtC l y b L rm D tys av w mc ms post := by
  intro sz
  refine Met.ofW (cc := b) (maxL := L) (ret := none) hy rfl ?_
  intro p e s m args below meth c s₁ B hml hv
  obtain ⟨rfl, hsz, hP, hK, hD0⟩ := hv
  have hts := atoms_spec (ws := ws_ y b L none) B.pre
  have hts : ∀ w ∈ lw_all, w.before _ s = true := fun w h => hts w (List.mem_cons_of_mem _ h)
  have hown : s.vm.findClass y.cls = some m.cls := findClass_of_methodNamed B.named
  have hin : meth.name = y.name := (name_of_methodNamed B.named B.method).1
  subst hsz
  have hD := hD0.self (sz := s.heap.size)
  have hA : ∀ q : Nat, s.heap.size ≤ q → va_A w s.heap.size q := fun q h => Or.inr h
  have hS : va_S (va_A w s.heap.size) s.heap s.heap [] := va_S.rf
  have hl2 := lv_entry av (n := L) hl
  rw [lg_entry_eq]
  exact h p e s m below meth c (va_A w s.heap.size) _ ⟨B.exec, B.bytes, B.returns, B.notSynchronized, hml, hown, hts, hK, hA⟩ hin ⟨hP, hD, hS⟩ hl2
section WN
variable {p : Program} {l : Launch} {e : Env} {R : Room} {s : State} {m : MethodId} {args : Array Value} {below : List Frame} {meth : Method} {c : Code} {H : Heap} {locs : List Loc} {cells slots : Nat} {Q : State → Prop}
variable {cc : ByteArray} {pc : Nat} {ls : Array Slot} {rest : List Value}
variable {L : Nat} {rt : Option FieldType} {own : String} {D : va_G} {tys : List (ClassId × FieldType)} {A : Nat → Prop} {w : va_W}
/-- a new array of a class that the tables know -/
theorem y_newa {atype : ArrayType} {ty : FieldType} {k0 : Nat} {cA0 : ClassId} {n : Nat} {a0 : vp_A} (C : CX p s m args meth c cc L rt own D tys A) (hw : XH D A s.heap H locs w) (harr : Cond.arrayClass (newarray.typeOf atype) ∈ lw_all) (hty : newarray.typeOf atype = ty) (hk : tys[k0]? = some (cA0, ty)) (hR : ∀ (U : State) (q : ClassId), va_RA U q ty → U.vm.findClass ("[" ++ ty.toString) = some q)
    (ha : ∀ cA : ClassId, vp_cell cA a0 = arrV cA n (fun _ => defaultValue ty)) (hn : n < 2 ^ 31) (hbytes : n * componentBytes ty ≤ 536870912) (hcells : cells + 1 ≤ R.cells) (hslots : slots + n ≤ R.slots) (hdg : decode cc pc = .ok (.newarray atype, 2))
    (kk : ∀ (q : Nat) (H1 : Heap), XH D A s.heap H1 locs (w ++ [(q, .inl (cA0, a0))]) → W p l e R s m args below meth c H1 locs (cells + 1) (slots + n) Q (F0 m (pc + 2) ls (.ref q :: rest))) : W p l e R s m args below meth c H locs cells slots Q (F0 m pc ls (.int (nI n) :: rest)) := by
  obtain ⟨hx, hb, hr, hlocks, hml, hown, hts, hK, hA⟩ := C
  refine va_newa hx hb (hts _ harr) hty hK hw.1 hw.2.1 hw.2.2 hA ha (nI_pos hn) (nI_clamp hn) hbytes hcells hslots hdg (fun q cA H1 hK1 hP hD hS => ?_)
  have e1 := hR s cA0 (hK.2 k0 _ hk).2
  have e2 := hR s cA (hK1.2 tys.length (cA, ty) (by simp)).2
  have e : cA = cA0 := Option.some.inj (e2.symm.trans e1)
  subst e
  exact kk q H1 ⟨hP, hD, hS⟩
theorem y_vretC {post : va_W → Prop} (C : CX p s m args meth c cc L none own D tys A) (hw : XH D A s.heap H locs w) (hp : post w) (hdg : decode cc pc = .ok (.return_, 1)) : W p l e R s m args below meth c H locs cells slots (EndC below D tys A args s cells slots post) (F0 m pc ls []) := by
  obtain ⟨hx, hb, hr, hlocks, hml, hown, hts, hK, hA⟩ := C
  exact W.vret hx hb hr (fun t ht hW => ⟨⟨w, rfl, hp, by rw [ht]; exact hw.1, va_K.moved hW.alike hK, hw.2.1⟩, hw.2.2.F ht⟩) hw.2.2.2.2 hdg
/-- a constructor's call: the new object lies at isC, the rest wr at isR -/
theorem y_ctor {y : MethodName} {b' : ByteArray} {L' : Nat} {rm : Room} {idx a mc ms : Nat} {wc wr : va_W} {post : va_W → Prop} (isC isR : List Nat) (C : CX p s m args meth c cc L rt own D tys A) (hw : XH D A s.heap H locs w) (hM : MtC l y b' L' rm D tys [.ref a] wc mc ms post)
    (cw : CallB R s args own idx y b' L' none (ws_ y b' L' none) rm mc ms 0 ∧ y.name = "<init>" ∧ (Cond.instanceMethod y).before args s = true) (hC1 : isC.map (fun i => w[i]?) = wc.map some) (hC2 : isC.filterMap (fun i => w[i]?) = wc) (hR1 : isR.map (fun i => w[i]?) = wr.map some) (hnC : va_nd isC = true) (hnR : va_nd isR = true) (hdis : ∀ i ∈ isR, i ∉ isC)
    (hls : ls.size = L) (hrm : (rest.map fun v => v.category).sum ≤ 8) (hcap : cells + mc ≤ R.cells ∧ slots + ms ≤ R.slots) (hdg : decode cc pc = .ok (.invokespecial idx, 3))
    (kk : ∀ (w' : va_W) (H' : Heap) (locs' : List Loc), post w' → XH D A s.heap H' locs' (wr ++ w') → W p l e R s m args below meth c H' locs' (cells + mc) (slots + ms) Q (F0 m (pc + 3) ls rest)) :
    W p l e R s m args below meth c H locs cells slots Q (F0 m pc ls (.ref a :: rest)) := by
  obtain ⟨hx, hb, hr, hlocks, hml, hown, hts, hK, hA⟩ := C
  obtain ⟨hP, hD, hS⟩ := hw
  have hPc := hP.sub (ws' := wc) isC hC2
  have hDc := hD.sub (ws' := wc) isC hnC hC1
  have hFc := va_free (wc := wc) hD hS hA isC hC1
  refine va_callv (va_runI (As := []) (rest := rest) ⟨hx, hb, hml, hown, hts⟩ (hM H.size) cw ⟨fun a U g mk q => by obtain ⟨q0, q1, qP, qK, qD⟩ := q; exact ⟨q0, q1, qP, va_K.moved (u := U) (U := U.calling g mk a) (Vm.Alike.refl U.vm) qK, qD⟩, fun U hU hW => ⟨rfl, by rw [hU], by rw [hU]; exact hPc, va_K.moved hW.alike hK, hDc.weaken (fun _ _ _ _ => trivial)⟩⟩ rfl rfl hls rfl (lv_room hrm) hdg hcap) hS (fun q _ h => hFc q h) hFc (fun u t H1 locs1 ht hvm hw1 hB hz1 hk1 hS => ?_)
  obtain ⟨hP1, hK1, hD1⟩ := hB
  rw [ht] at hP1
  obtain ⟨hP, hD⟩ := va_join (wr := wr) (w1 := u) hP hD isC isR hC1 hR1 hnR hdis hk1 hFc hP1 hD1
  exact kk u H1 locs1 hw1 ⟨hP, hD, hS⟩
end WN
/-- DmDecomposer's and DmDecomposerModel's fields at their birth -/
abbrev xF0 : List Value := [.null, .int (wI false), .null, .null, .null, .null, .int (nI 0), .int (nI 0), .int (nI 0), .int (nI 0), .null, .null]
abbrev mF0 : List Value := [.null, .null, .null, .null]
def hh8 (a b c d e f g i : Nat) : Nat → Nat := fun j => match j with
  | 0 => a
  | 1 => b
  | 2 => c
  | 3 => d
  | 4 => e
  | 5 => f
  | 6 => g
  | _ => i
def gg5 (a b c d e : Nat) : Nat → Nat := fun j => match j with
  | 0 => a
  | 1 => b
  | 2 => c
  | 3 => d
  | _ => e
theorem in_I7 {f g : Nat → Nat} (hf : ∀ j, j < 7 → f j = 7) (hg : ∀ j, j < 7 → g j = 7) : mm_I f g := ⟨fun r hr h => absurd h (by rw [hf r hr]; omega), fun r hr h => absurd h (by rw [hg r hr]; omega)⟩
theorem in_up {f : Nat → Nat} {k : Nat} (hf : ∀ j, j < k → f j = 7) : ∀ j, j < k + 1 → mm_up f k 7 j = 7 := fun j hj => by
  by_cases e : j = k
  · rw [e, mm_up_s]
  · rw [mm_up_n e]; exact hf j (by omega)
section XC
variable {cI cB cZ : ClassId}
set_option maxHeartbeats 4000000 in
/-- DmDecomposer(): an empty table, nobody coupled -/
theorem mx_init (l : Launch) (D : va_G) (a : Nat) : MtC l yX0_init cX0_init 2 ({ frames := 1, cells := 7, slots := 49, locals := 12 }) D (tyL cI cB cZ) [.ref a] [(a, .inr (0, xF0))] 7 49 (fun w => ∃ h : Nat → Nat, h 0 = a ∧ XOk cI cB h (fun _ => 0) w) := by
  refine MtC.of (by decide) (Nat.le_of_ble_eq_true rfl) ?_
  intro p e s m below meth c A ls C hin hw hl
  obtain ⟨hx, hb, hr, hlk, hml, hown, hts, hK, hA⟩ := id C
  have hl : lv_has ls 2 [(0, .ref a)] := hl
  refine lv_aload_n hx hb dX0_init_0 rfl (lv_at hl 0 rfl) ?_
  refine W.objInit hx hb hown (hts _ q30) (hts _ q31) (hts _ q32) rfl (by rw [hml]; exact hl.1) rfl dX0_init_1 (Nat.le_of_ble_eq_true rfl) (Nat.le_of_ble_eq_true rfl) ?_
  refine W.eq (g2 := F0 m 4 ls []) rfl ?_
  refine lv_aload_n hx hb dX0_init_4 rfl (lv_at hl 0 rfl) ?_
  refine y_push hx hb 7 dX0_init_5 rfl ?_
  refine y_newa (atype := .int) (ty := .int) (k0 := 0) (a0 := (7, .inl (fun _ => nI 0))) C hw q70 rfl rfl (fun _ _ h => h) (fun _ => rfl) (by decide) (by decide) (Nat.le_of_ble_eq_true rfl) (Nat.le_of_ble_eq_true rfl) dX0_init_7 (fun q_1 H hw => ?_)
  have hw : XH D A s.heap H _ [(a, .inr (0, [.null, .int (wI false), .null, .null, .null, .null, .int (nI 0), .int (nI 0), .int (nI 0), .int (nI 0), .null, .null])), (q_1, .inl (cI, 7, .inl (fun _ => nI 0)))] := hw
  refine W.widen (k := 1) (n := 7) (by omega) (by omega) ?_
  refine va_putF (v := .ref q_1) (ty := .array .int) hx hb hts in_X0 tyX0 tyX0_ok nmX0 hown hK hw.1 hw.2.1 hw.2.2 0 rfl rfl 0 (by decide) (hts _ q33) (fun _ h => h) rfl hin rfl (by decide +kernel) rfl rfl (Nat.le_of_ble_eq_true rfl) dX0_init_9 (fun H locs h1 h2 h3 => ?_)
  have hw : XH D A s.heap H locs [(a, .inr (0, [.ref q_1, .int (wI false), .null, .null, .null, .null, .int (nI 0), .int (nI 0), .int (nI 0), .int (nI 0), .null, .null])), (q_1, .inl (cI, 7, .inl (fun _ => nI 0)))] := ⟨h1, h2, h3⟩
  refine lv_aload_n hx hb dX0_init_12 rfl (lv_at hl 0 rfl) ?_
  refine y_push hx hb 7 dX0_init_13 rfl ?_
  refine y_newa (atype := .byte) (ty := .byte) (k0 := 1) (a0 := (7, .inl (fun _ => nB 0))) C hw q71 rfl rfl (fun _ _ h => h) (fun _ => rfl) (by decide) (by decide) (Nat.le_of_ble_eq_true rfl) (Nat.le_of_ble_eq_true rfl) dX0_init_15 (fun q_2 H hw => ?_)
  have hw : XH D A s.heap H _ [(a, .inr (0, [.ref q_1, .int (wI false), .null, .null, .null, .null, .int (nI 0), .int (nI 0), .int (nI 0), .int (nI 0), .null, .null])), (q_1, .inl (cI, 7, .inl (fun _ => nI 0))), (q_2, .inl (cB, 7, .inl (fun _ => nB 0)))] := hw
  refine W.widen (k := 2) (n := 14) (by omega) (by omega) ?_
  refine va_putF (v := .ref q_2) (ty := .array .byte) hx hb hts in_X0 tyX0 tyX0_ok nmX0 hown hK hw.1 hw.2.1 hw.2.2 0 rfl rfl 2 (by decide) (hts _ q35) (fun _ h => h) rfl hin rfl (by decide +kernel) rfl rfl (Nat.le_of_ble_eq_true rfl) dX0_init_17 (fun H locs h1 h2 h3 => ?_)
  have hw : XH D A s.heap H locs [(a, .inr (0, [.ref q_1, .int (wI false), .ref q_2, .null, .null, .null, .int (nI 0), .int (nI 0), .int (nI 0), .int (nI 0), .null, .null])), (q_1, .inl (cI, 7, .inl (fun _ => nI 0))), (q_2, .inl (cB, 7, .inl (fun _ => nB 0)))] := ⟨h1, h2, h3⟩
  refine lv_aload_n hx hb dX0_init_20 rfl (lv_at hl 0 rfl) ?_
  refine y_push hx hb 7 dX0_init_21 rfl ?_
  refine y_newa (atype := .byte) (ty := .byte) (k0 := 1) (a0 := (7, .inl (fun _ => nB 0))) C hw q71 rfl rfl (fun _ _ h => h) (fun _ => rfl) (by decide) (by decide) (Nat.le_of_ble_eq_true rfl) (Nat.le_of_ble_eq_true rfl) dX0_init_23 (fun q_3 H hw => ?_)
  have hw : XH D A s.heap H _ [(a, .inr (0, [.ref q_1, .int (wI false), .ref q_2, .null, .null, .null, .int (nI 0), .int (nI 0), .int (nI 0), .int (nI 0), .null, .null])), (q_1, .inl (cI, 7, .inl (fun _ => nI 0))), (q_2, .inl (cB, 7, .inl (fun _ => nB 0))), (q_3, .inl (cB, 7, .inl (fun _ => nB 0)))] := hw
  refine W.widen (k := 3) (n := 21) (by omega) (by omega) ?_
  refine va_putF (v := .ref q_3) (ty := .array .byte) hx hb hts in_X0 tyX0 tyX0_ok nmX0 hown hK hw.1 hw.2.1 hw.2.2 0 rfl rfl 3 (by decide) (hts _ q36) (fun _ h => h) rfl hin rfl (by decide +kernel) rfl rfl (Nat.le_of_ble_eq_true rfl) dX0_init_25 (fun H locs h1 h2 h3 => ?_)
  have hw : XH D A s.heap H locs [(a, .inr (0, [.ref q_1, .int (wI false), .ref q_2, .ref q_3, .null, .null, .int (nI 0), .int (nI 0), .int (nI 0), .int (nI 0), .null, .null])), (q_1, .inl (cI, 7, .inl (fun _ => nI 0))), (q_2, .inl (cB, 7, .inl (fun _ => nB 0))), (q_3, .inl (cB, 7, .inl (fun _ => nB 0)))] := ⟨h1, h2, h3⟩
  refine lv_aload_n hx hb dX0_init_28 rfl (lv_at hl 0 rfl) ?_
  refine y_push hx hb 7 dX0_init_29 rfl ?_
  refine y_newa (atype := .byte) (ty := .byte) (k0 := 1) (a0 := (7, .inl (fun _ => nI 0))) C hw q71 rfl rfl (fun _ _ h => h) (fun _ => rfl) (by decide) (by decide) (Nat.le_of_ble_eq_true rfl) (Nat.le_of_ble_eq_true rfl) dX0_init_31 (fun q_4 H hw => ?_)
  have hw : XH D A s.heap H _ [(a, .inr (0, [.ref q_1, .int (wI false), .ref q_2, .ref q_3, .null, .null, .int (nI 0), .int (nI 0), .int (nI 0), .int (nI 0), .null, .null])), (q_1, .inl (cI, 7, .inl (fun _ => nI 0))), (q_2, .inl (cB, 7, .inl (fun _ => nB 0))), (q_3, .inl (cB, 7, .inl (fun _ => nB 0))), (q_4, .inl (cB, 7, .inl (fun _ => nI 0)))] := hw
  refine W.widen (k := 4) (n := 28) (by omega) (by omega) ?_
  refine va_putF (v := .ref q_4) (ty := .array .byte) hx hb hts in_X0 tyX0 tyX0_ok nmX0 hown hK hw.1 hw.2.1 hw.2.2 0 rfl rfl 4 (by decide) (hts _ q37) (fun _ h => h) rfl hin rfl (by decide +kernel) rfl rfl (Nat.le_of_ble_eq_true rfl) dX0_init_33 (fun H locs h1 h2 h3 => ?_)
  have hw : XH D A s.heap H locs [(a, .inr (0, [.ref q_1, .int (wI false), .ref q_2, .ref q_3, .ref q_4, .null, .int (nI 0), .int (nI 0), .int (nI 0), .int (nI 0), .null, .null])), (q_1, .inl (cI, 7, .inl (fun _ => nI 0))), (q_2, .inl (cB, 7, .inl (fun _ => nB 0))), (q_3, .inl (cB, 7, .inl (fun _ => nB 0))), (q_4, .inl (cB, 7, .inl (fun _ => nI 0)))] := ⟨h1, h2, h3⟩
  refine lv_aload_n hx hb dX0_init_36 rfl (lv_at hl 0 rfl) ?_
  refine y_push hx hb 7 dX0_init_37 rfl ?_
  refine y_newa (atype := .byte) (ty := .byte) (k0 := 1) (a0 := (7, .inl (fun _ => nI 0))) C hw q71 rfl rfl (fun _ _ h => h) (fun _ => rfl) (by decide) (by decide) (Nat.le_of_ble_eq_true rfl) (Nat.le_of_ble_eq_true rfl) dX0_init_39 (fun q_5 H hw => ?_)
  have hw : XH D A s.heap H _ [(a, .inr (0, [.ref q_1, .int (wI false), .ref q_2, .ref q_3, .ref q_4, .null, .int (nI 0), .int (nI 0), .int (nI 0), .int (nI 0), .null, .null])), (q_1, .inl (cI, 7, .inl (fun _ => nI 0))), (q_2, .inl (cB, 7, .inl (fun _ => nB 0))), (q_3, .inl (cB, 7, .inl (fun _ => nB 0))), (q_4, .inl (cB, 7, .inl (fun _ => nI 0))), (q_5, .inl (cB, 7, .inl (fun _ => nI 0)))] := hw
  refine W.widen (k := 5) (n := 35) (by omega) (by omega) ?_
  refine va_putF (v := .ref q_5) (ty := .array .byte) hx hb hts in_X0 tyX0 tyX0_ok nmX0 hown hK hw.1 hw.2.1 hw.2.2 0 rfl rfl 5 (by decide) (hts _ q38) (fun _ h => h) rfl hin rfl (by decide +kernel) rfl rfl (Nat.le_of_ble_eq_true rfl) dX0_init_41 (fun H locs h1 h2 h3 => ?_)
  have hw : XH D A s.heap H locs [(a, .inr (0, [.ref q_1, .int (wI false), .ref q_2, .ref q_3, .ref q_4, .ref q_5, .int (nI 0), .int (nI 0), .int (nI 0), .int (nI 0), .null, .null])), (q_1, .inl (cI, 7, .inl (fun _ => nI 0))), (q_2, .inl (cB, 7, .inl (fun _ => nB 0))), (q_3, .inl (cB, 7, .inl (fun _ => nB 0))), (q_4, .inl (cB, 7, .inl (fun _ => nI 0))), (q_5, .inl (cB, 7, .inl (fun _ => nI 0)))] := ⟨h1, h2, h3⟩
  refine lv_aload_n hx hb dX0_init_44 rfl (lv_at hl 0 rfl) ?_
  refine y_push hx hb 7 dX0_init_45 rfl ?_
  refine y_newa (atype := .int) (ty := .int) (k0 := 0) (a0 := (7, .inl (fun _ => nI 0))) C hw q70 rfl rfl (fun _ _ h => h) (fun _ => rfl) (by decide) (by decide) (Nat.le_of_ble_eq_true rfl) (Nat.le_of_ble_eq_true rfl) dX0_init_47 (fun q_6 H hw => ?_)
  have hw : XH D A s.heap H _ [(a, .inr (0, [.ref q_1, .int (wI false), .ref q_2, .ref q_3, .ref q_4, .ref q_5, .int (nI 0), .int (nI 0), .int (nI 0), .int (nI 0), .null, .null])), (q_1, .inl (cI, 7, .inl (fun _ => nI 0))), (q_2, .inl (cB, 7, .inl (fun _ => nB 0))), (q_3, .inl (cB, 7, .inl (fun _ => nB 0))), (q_4, .inl (cB, 7, .inl (fun _ => nI 0))), (q_5, .inl (cB, 7, .inl (fun _ => nI 0))), (q_6, .inl (cI, 7, .inl (fun _ => nI 0)))] := hw
  refine W.widen (k := 6) (n := 42) (by omega) (by omega) ?_
  refine va_putF (v := .ref q_6) (ty := .array .int) hx hb hts in_X0 tyX0 tyX0_ok nmX0 hown hK hw.1 hw.2.1 hw.2.2 0 rfl rfl 10 (by decide) (hts _ q43) (fun _ h => h) rfl hin rfl (by decide +kernel) rfl rfl (Nat.le_of_ble_eq_true rfl) dX0_init_49 (fun H locs h1 h2 h3 => ?_)
  have hw : XH D A s.heap H locs [(a, .inr (0, [.ref q_1, .int (wI false), .ref q_2, .ref q_3, .ref q_4, .ref q_5, .int (nI 0), .int (nI 0), .int (nI 0), .int (nI 0), .ref q_6, .null])), (q_1, .inl (cI, 7, .inl (fun _ => nI 0))), (q_2, .inl (cB, 7, .inl (fun _ => nB 0))), (q_3, .inl (cB, 7, .inl (fun _ => nB 0))), (q_4, .inl (cB, 7, .inl (fun _ => nI 0))), (q_5, .inl (cB, 7, .inl (fun _ => nI 0))), (q_6, .inl (cI, 7, .inl (fun _ => nI 0)))] := ⟨h1, h2, h3⟩
  refine lv_aload_n hx hb dX0_init_52 rfl (lv_at hl 0 rfl) ?_
  refine y_push hx hb 7 dX0_init_53 rfl ?_
  refine y_newa (atype := .int) (ty := .int) (k0 := 0) (a0 := (7, .inl (fun _ => nI 0))) C hw q70 rfl rfl (fun _ _ h => h) (fun _ => rfl) (by decide) (by decide) (Nat.le_of_ble_eq_true rfl) (Nat.le_of_ble_eq_true rfl) dX0_init_55 (fun q_7 H hw => ?_)
  have hw : XH D A s.heap H _ [(a, .inr (0, [.ref q_1, .int (wI false), .ref q_2, .ref q_3, .ref q_4, .ref q_5, .int (nI 0), .int (nI 0), .int (nI 0), .int (nI 0), .ref q_6, .null])), (q_1, .inl (cI, 7, .inl (fun _ => nI 0))), (q_2, .inl (cB, 7, .inl (fun _ => nB 0))), (q_3, .inl (cB, 7, .inl (fun _ => nB 0))), (q_4, .inl (cB, 7, .inl (fun _ => nI 0))), (q_5, .inl (cB, 7, .inl (fun _ => nI 0))), (q_6, .inl (cI, 7, .inl (fun _ => nI 0))), (q_7, .inl (cI, 7, .inl (fun _ => nI 0)))] := hw
  refine W.widen (k := 7) (n := 49) (by omega) (by omega) ?_
  refine va_putF (v := .ref q_7) (ty := .array .int) hx hb hts in_X0 tyX0 tyX0_ok nmX0 hown hK hw.1 hw.2.1 hw.2.2 0 rfl rfl 11 (by decide) (hts _ q44) (fun _ h => h) rfl hin rfl (by decide +kernel) rfl rfl (Nat.le_of_ble_eq_true rfl) dX0_init_57 (fun H locs h1 h2 h3 => ?_)
  have hw : XH D A s.heap H locs [(a, .inr (0, [.ref q_1, .int (wI false), .ref q_2, .ref q_3, .ref q_4, .ref q_5, .int (nI 0), .int (nI 0), .int (nI 0), .int (nI 0), .ref q_6, .ref q_7])), (q_1, .inl (cI, 7, .inl (fun _ => nI 0))), (q_2, .inl (cB, 7, .inl (fun _ => nB 0))), (q_3, .inl (cB, 7, .inl (fun _ => nB 0))), (q_4, .inl (cB, 7, .inl (fun _ => nI 0))), (q_5, .inl (cB, 7, .inl (fun _ => nI 0))), (q_6, .inl (cI, 7, .inl (fun _ => nI 0))), (q_7, .inl (cI, 7, .inl (fun _ => nI 0)))] := ⟨h1, h2, h3⟩
  obtain ⟨h, e0, hw⟩ : ∃ h : Nat → Nat, h 0 = a ∧ XH D A s.heap H locs (xW cI cB h false (fun _ => 0) (fun _ => 0) (fun _ => 0) (fun _ => 0) (fun _ => 0) 0 0 0 0 (fun _ => 0) (fun _ => 0)) := ⟨hh8 a q_1 q_2 q_3 q_4 q_5 q_6 q_7, rfl, hw⟩
  have hl : lv_has ls 2 [(0, .ref (h 0))] := by rw [e0]; exact hl
  refine y_num hx hb 0 dX0_init_60 rfl ?_
  refine lv_istore_n (lv' := [(1, .int (nI 0)), (0, .ref (h 0))]) hx hb dX0_init_61 rfl hl (by decide) rfl (fun ls hl => ?_)
  refine wl_for 7 (fun k H locs ls => ∃ (pr : Nat → Nat), ∃ (pk : Nat → Nat), XH D A s.heap H locs (xW cI cB h false (fun _ => 0) pr pk (fun _ => 0) (fun _ => 0) 0 0 0 0 (fun _ => 0) (fun _ => 0)) ∧ lv_has ls 2 [(0, .ref (h 0)), (1, .int (nI k))] ∧ (∀ j, j < k → pr j = 7) ∧ (∀ j, j < k → pk j = 7)) ?_ ?_ 0 (by omega) _ _ _ ⟨_, _, hw, lv_sub hl [1, 0] rfl, fun j hj => absurd hj (Nat.not_lt_zero j), fun j hj => absurd hj (Nat.not_lt_zero j)⟩
  · intro k hk H locs ls hI ih
    obtain ⟨pr, pk, hw, hl, h1, h2⟩ := hI
    refine lv_iload_n hx hb dX0_init_62 rfl (lv_at hl 1 rfl) ?_
    refine y_push hx hb 7 dX0_init_63 rfl ?_
    refine y_lt hx hb hk (by decide) dX0_init_65 (tgt := 88) (by decide) ?_
    refine lv_aload_n hx hb dX0_init_68 rfl (lv_at hl 0 rfl) ?_
    refine xg_pr C hw dX0_init_69 ?_
    refine lv_iload_n hx hb dX0_init_72 rfl (lv_at hl 1 rfl) ?_
    refine lv_iconst (v := nB 7) hx hb dX0_init_73 (by decide) ?_
    refine xs_pr (by omega) C hw dX0_init_74 (fun H locs hw => ?_)
    refine lv_aload_n hx hb dX0_init_75 rfl (lv_at hl 0 rfl) ?_
    refine xg_pk C hw dX0_init_76 ?_
    refine lv_iload_n hx hb dX0_init_79 rfl (lv_at hl 1 rfl) ?_
    refine lv_iconst (v := nB 7) hx hb dX0_init_80 (by decide) ?_
    refine xs_pk (by omega) C hw dX0_init_81 (fun H locs hw => ?_)
    refine lv_iinc (v := nI (k + 1)) (lv' := [(1, .int (nI (k + 1))), (0, .ref (h 0))]) hx hb dX0_init_82 hl (k := 1) rfl (nI_1 _) (by decide) rfl (fun ls hl => ?_)
    refine lv_goto (tgt := 62) hx hb dX0_init_85 (by decide) ?_
    exact ih _ _ _ ⟨_, _, hw, lv_sub hl [1, 0] rfl, in_up h1, in_up h2⟩
  · intro H locs ls hI
    obtain ⟨pr, pk, hw, hl, h1, h2⟩ := hI
    refine lv_iload_n hx hb dX0_init_62 rfl (lv_at hl 1 rfl) ?_
    refine y_push hx hb 7 dX0_init_63 rfl ?_
    refine y_ge hx hb (Nat.le_refl _) (by decide) dX0_init_65 (tgt := 88) (by decide) ?_
    exact y_vretC C hw ⟨h, e0, _, _, _, _, _, _, _, _, _, _, _, rfl, fun _ => Nat.le_of_ble_eq_true rfl, in_I7 h1 h2, fun q => absurd q Bool.false_ne_true⟩ dX0_init_88
set_option maxHeartbeats 4000000 in
/-- DmDecomposerModel(): an empty table -/
theorem mm_init (l : Launch) (D : va_G) (a : Nat) : MtC l yX1_init cX1_init 1 ({ frames := 1, cells := 4, slots := 270, locals := 12 }) D (tyL cI cB cZ) [.ref a] [(a, .inr (1, mF0))] 4 270 (fun w => ∃ g : Nat → Nat, g 0 = a ∧ MOk cI cZ g (fun _ => 0) w) := by
  refine MtC.of (by decide) (Nat.le_of_ble_eq_true rfl) ?_
  intro p e s m below meth c A ls C hin hw hl
  obtain ⟨hx, hb, hr, hlk, hml, hown, hts, hK, hA⟩ := id C
  have hl : lv_has ls 1 [(0, .ref a)] := hl
  refine lv_aload_n hx hb dX1_init_0 rfl (lv_at hl 0 rfl) ?_
  refine W.objInit hx hb hown (hts _ q177) (hts _ q31) (hts _ q32) rfl (by rw [hml]; exact hl.1) rfl dX1_init_1 (Nat.le_of_ble_eq_true rfl) (Nat.le_of_ble_eq_true rfl) ?_
  refine W.eq (g2 := F0 m 4 ls []) rfl ?_
  refine lv_aload_n hx hb dX1_init_4 rfl (lv_at hl 0 rfl) ?_
  refine y_push hx hb 7 dX1_init_5 rfl ?_
  refine y_newa (atype := .int) (ty := .int) (k0 := 0) (a0 := (7, .inl (fun _ => nI 0))) C hw q70 rfl rfl (fun _ _ h => h) (fun _ => rfl) (by decide) (by decide) (Nat.le_of_ble_eq_true rfl) (Nat.le_of_ble_eq_true rfl) dX1_init_7 (fun q_1 H hw => ?_)
  have hw : XH D A s.heap H _ [(a, .inr (1, [.null, .null, .null, .null])), (q_1, .inl (cI, 7, .inl (fun _ => nI 0)))] := hw
  refine W.widen (k := 1) (n := 7) (by omega) (by omega) ?_
  refine va_put (v := .ref q_1) (ty := .array .int) hx hb hts in_X1 tyX1 tyX1_ok nmX1 hown hK hw.1 hw.2.1 hw.2.2 0 rfl rfl 0 (by decide) (hts _ q178) (fun _ h => h) rfl (by decide +kernel) rfl rfl (Nat.le_of_ble_eq_true rfl) dX1_init_9 (fun H locs h1 h2 h3 => ?_)
  have hw : XH D A s.heap H locs [(a, .inr (1, [.ref q_1, .null, .null, .null])), (q_1, .inl (cI, 7, .inl (fun _ => nI 0)))] := ⟨h1, h2, h3⟩
  refine lv_aload_n hx hb dX1_init_12 rfl (lv_at hl 0 rfl) ?_
  refine lv_sipush (v := nI 128) hx hb dX1_init_13 (by decide) ?_
  refine y_newa (atype := .boolean) (ty := .boolean) (k0 := 2) (a0 := (128, .inl (fun _ => wI false))) C hw q191 rfl rfl (fun _ _ h => h) (fun _ => rfl) (by decide) (by decide) (Nat.le_of_ble_eq_true rfl) (Nat.le_of_ble_eq_true rfl) dX1_init_16 (fun q_2 H hw => ?_)
  have hw : XH D A s.heap H _ [(a, .inr (1, [.ref q_1, .null, .null, .null])), (q_1, .inl (cI, 7, .inl (fun _ => nI 0))), (q_2, .inl (cZ, 128, .inl (fun _ => wI false)))] := hw
  refine W.widen (k := 2) (n := 135) (by omega) (by omega) ?_
  refine va_put (v := .ref q_2) (ty := .array .boolean) hx hb hts in_X1 tyX1 tyX1_ok nmX1 hown hK hw.1 hw.2.1 hw.2.2 0 rfl rfl 1 (by decide) (hts _ q179) (fun _ h => h) rfl (by decide +kernel) rfl rfl (Nat.le_of_ble_eq_true rfl) dX1_init_18 (fun H locs h1 h2 h3 => ?_)
  have hw : XH D A s.heap H locs [(a, .inr (1, [.ref q_1, .ref q_2, .null, .null])), (q_1, .inl (cI, 7, .inl (fun _ => nI 0))), (q_2, .inl (cZ, 128, .inl (fun _ => wI false)))] := ⟨h1, h2, h3⟩
  refine lv_aload_n hx hb dX1_init_21 rfl (lv_at hl 0 rfl) ?_
  refine lv_sipush (v := nI 128) hx hb dX1_init_22 (by decide) ?_
  refine y_newa (atype := .boolean) (ty := .boolean) (k0 := 2) (a0 := (128, .inl (fun _ => wI false))) C hw q191 rfl rfl (fun _ _ h => h) (fun _ => rfl) (by decide) (by decide) (Nat.le_of_ble_eq_true rfl) (Nat.le_of_ble_eq_true rfl) dX1_init_25 (fun q_3 H hw => ?_)
  have hw : XH D A s.heap H _ [(a, .inr (1, [.ref q_1, .ref q_2, .null, .null])), (q_1, .inl (cI, 7, .inl (fun _ => nI 0))), (q_2, .inl (cZ, 128, .inl (fun _ => wI false))), (q_3, .inl (cZ, 128, .inl (fun _ => wI false)))] := hw
  refine W.widen (k := 3) (n := 263) (by omega) (by omega) ?_
  refine va_put (v := .ref q_3) (ty := .array .boolean) hx hb hts in_X1 tyX1 tyX1_ok nmX1 hown hK hw.1 hw.2.1 hw.2.2 0 rfl rfl 2 (by decide) (hts _ q180) (fun _ h => h) rfl (by decide +kernel) rfl rfl (Nat.le_of_ble_eq_true rfl) dX1_init_27 (fun H locs h1 h2 h3 => ?_)
  have hw : XH D A s.heap H locs [(a, .inr (1, [.ref q_1, .ref q_2, .ref q_3, .null])), (q_1, .inl (cI, 7, .inl (fun _ => nI 0))), (q_2, .inl (cZ, 128, .inl (fun _ => wI false))), (q_3, .inl (cZ, 128, .inl (fun _ => wI false)))] := ⟨h1, h2, h3⟩
  refine lv_aload_n hx hb dX1_init_30 rfl (lv_at hl 0 rfl) ?_
  refine y_push hx hb 7 dX1_init_31 rfl ?_
  refine y_newa (atype := .int) (ty := .int) (k0 := 0) (a0 := (7, .inl (fun _ => nI 0))) C hw q70 rfl rfl (fun _ _ h => h) (fun _ => rfl) (by decide) (by decide) (Nat.le_of_ble_eq_true rfl) (Nat.le_of_ble_eq_true rfl) dX1_init_33 (fun q_4 H hw => ?_)
  have hw : XH D A s.heap H _ [(a, .inr (1, [.ref q_1, .ref q_2, .ref q_3, .null])), (q_1, .inl (cI, 7, .inl (fun _ => nI 0))), (q_2, .inl (cZ, 128, .inl (fun _ => wI false))), (q_3, .inl (cZ, 128, .inl (fun _ => wI false))), (q_4, .inl (cI, 7, .inl (fun _ => nI 0)))] := hw
  refine W.widen (k := 4) (n := 270) (by omega) (by omega) ?_
  refine va_put (v := .ref q_4) (ty := .array .int) hx hb hts in_X1 tyX1 tyX1_ok nmX1 hown hK hw.1 hw.2.1 hw.2.2 0 rfl rfl 3 (by decide) (hts _ q181) (fun _ h => h) rfl (by decide +kernel) rfl rfl (Nat.le_of_ble_eq_true rfl) dX1_init_35 (fun H locs h1 h2 h3 => ?_)
  have hw : XH D A s.heap H locs [(a, .inr (1, [.ref q_1, .ref q_2, .ref q_3, .ref q_4])), (q_1, .inl (cI, 7, .inl (fun _ => nI 0))), (q_2, .inl (cZ, 128, .inl (fun _ => wI false))), (q_3, .inl (cZ, 128, .inl (fun _ => wI false))), (q_4, .inl (cI, 7, .inl (fun _ => nI 0)))] := ⟨h1, h2, h3⟩
  exact y_vretC C hw ⟨gg5 a q_1 q_2 q_3 q_4, rfl, (fun _ => false), (fun _ => false), (fun _ => 0), rfl, fun _ => Nat.le_of_ble_eq_true rfl⟩ dX1_init_38
end XC
end
section
/-! the law's own entry -/
set_option maxRecDepth 100000
abbrev cL_law : ByteArray := code
theorem dL_law_0 : decode cL_law 0 = .ok (.new 7, 3) := by decide +kernel
theorem dL_law_3 : decode cL_law 3 = .ok (.dup, 1) := by decide +kernel
theorem dL_law_4 : decode cL_law 4 = .ok (.invokespecial 9, 3) := by decide +kernel
theorem dL_law_7 : decode cL_law 7 = .ok (.astore_n 1, 1) := by decide +kernel
theorem dL_law_8 : decode cL_law 8 = .ok (.new 10, 3) := by decide +kernel
theorem dL_law_11 : decode cL_law 11 = .ok (.dup, 1) := by decide +kernel
theorem dL_law_12 : decode cL_law 12 = .ok (.invokespecial 12, 3) := by decide +kernel
theorem dL_law_15 : decode cL_law 15 = .ok (.astore_n 2, 1) := by decide +kernel
theorem dL_law_16 : decode cL_law 16 = .ok (.iconst 0, 1) := by decide +kernel
theorem dL_law_17 : decode cL_law 17 = .ok (.istore_n 3, 1) := by decide +kernel
theorem dL_law_18 : decode cL_law 18 = .ok (.iload_n 3, 1) := by decide +kernel
theorem dL_law_19 : decode cL_law 19 = .ok (.aload_n 0, 1) := by decide +kernel
theorem dL_law_20 : decode cL_law 20 = .ok (.arraylength, 1) := by decide +kernel
theorem dL_law_21 : decode cL_law 21 = .ok (.iconst 4, 1) := by decide +kernel
theorem dL_law_22 : decode cL_law 22 = .ok (.isub, 1) := by decide +kernel
theorem dL_law_23 : decode cL_law 23 = .ok (.if_icmp .gt 324, 3) := by decide +kernel
theorem dL_law_26 : decode cL_law 26 = .ok (.aload_n 0, 1) := by decide +kernel
theorem dL_law_27 : decode cL_law 27 = .ok (.iload_n 3, 1) := by decide +kernel
theorem dL_law_28 : decode cL_law 28 = .ok (.iaload, 1) := by decide +kernel
theorem dL_law_29 : decode cL_law 29 = .ok (.bipush 15, 2) := by decide +kernel
theorem dL_law_31 : decode cL_law 31 = .ok (.iand, 1) := by decide +kernel
theorem dL_law_32 : decode cL_law 32 = .ok (.tableswitch 309 0 10 #[60, 119, 152, 175, 188, 201, 214, 237, 260, 273, 296], 60) := by decide +kernel
theorem dL_law_92 : decode cL_law 92 = .ok (.aload_n 1, 1) := by decide +kernel
theorem dL_law_93 : decode cL_law 93 = .ok (.aload_n 0, 1) := by decide +kernel
theorem dL_law_94 : decode cL_law 94 = .ok (.iload_n 3, 1) := by decide +kernel
theorem dL_law_95 : decode cL_law 95 = .ok (.iconst 1, 1) := by decide +kernel
theorem dL_law_96 : decode cL_law 96 = .ok (.iadd, 1) := by decide +kernel
theorem dL_law_97 : decode cL_law 97 = .ok (.iaload, 1) := by decide +kernel
theorem dL_law_98 : decode cL_law 98 = .ok (.aload_n 0, 1) := by decide +kernel
theorem dL_law_99 : decode cL_law 99 = .ok (.iload_n 3, 1) := by decide +kernel
theorem dL_law_100 : decode cL_law 100 = .ok (.iconst 2, 1) := by decide +kernel
theorem dL_law_101 : decode cL_law 101 = .ok (.iadd, 1) := by decide +kernel
theorem dL_law_102 : decode cL_law 102 = .ok (.iaload, 1) := by decide +kernel
theorem dL_law_103 : decode cL_law 103 = .ok (.aload_n 0, 1) := by decide +kernel
theorem dL_law_104 : decode cL_law 104 = .ok (.iload_n 3, 1) := by decide +kernel
theorem dL_law_105 : decode cL_law 105 = .ok (.iconst 3, 1) := by decide +kernel
theorem dL_law_106 : decode cL_law 106 = .ok (.iadd, 1) := by decide +kernel
theorem dL_law_107 : decode cL_law 107 = .ok (.iaload, 1) := by decide +kernel
theorem dL_law_108 : decode cL_law 108 = .ok (.ifCond .eq 7, 3) := by decide +kernel
theorem dL_law_111 : decode cL_law 111 = .ok (.iconst 1, 1) := by decide +kernel
theorem dL_law_112 : decode cL_law 112 = .ok (.goto 4, 3) := by decide +kernel
theorem dL_law_115 : decode cL_law 115 = .ok (.iconst 0, 1) := by decide +kernel
theorem dL_law_116 : decode cL_law 116 = .ok (.invokevirtual 13, 3) := by decide +kernel
theorem dL_law_119 : decode cL_law 119 = .ok (.aload_n 2, 1) := by decide +kernel
theorem dL_law_120 : decode cL_law 120 = .ok (.aload_n 0, 1) := by decide +kernel
theorem dL_law_121 : decode cL_law 121 = .ok (.iload_n 3, 1) := by decide +kernel
theorem dL_law_122 : decode cL_law 122 = .ok (.iconst 1, 1) := by decide +kernel
theorem dL_law_123 : decode cL_law 123 = .ok (.iadd, 1) := by decide +kernel
theorem dL_law_124 : decode cL_law 124 = .ok (.iaload, 1) := by decide +kernel
theorem dL_law_125 : decode cL_law 125 = .ok (.aload_n 0, 1) := by decide +kernel
theorem dL_law_126 : decode cL_law 126 = .ok (.iload_n 3, 1) := by decide +kernel
theorem dL_law_127 : decode cL_law 127 = .ok (.iconst 2, 1) := by decide +kernel
theorem dL_law_128 : decode cL_law 128 = .ok (.iadd, 1) := by decide +kernel
theorem dL_law_129 : decode cL_law 129 = .ok (.iaload, 1) := by decide +kernel
theorem dL_law_130 : decode cL_law 130 = .ok (.aload_n 0, 1) := by decide +kernel
theorem dL_law_131 : decode cL_law 131 = .ok (.iload_n 3, 1) := by decide +kernel
theorem dL_law_132 : decode cL_law 132 = .ok (.iconst 3, 1) := by decide +kernel
theorem dL_law_133 : decode cL_law 133 = .ok (.iadd, 1) := by decide +kernel
theorem dL_law_134 : decode cL_law 134 = .ok (.iaload, 1) := by decide +kernel
theorem dL_law_135 : decode cL_law 135 = .ok (.ifCond .eq 7, 3) := by decide +kernel
theorem dL_law_138 : decode cL_law 138 = .ok (.iconst 1, 1) := by decide +kernel
theorem dL_law_139 : decode cL_law 139 = .ok (.goto 4, 3) := by decide +kernel
theorem dL_law_142 : decode cL_law 142 = .ok (.iconst 0, 1) := by decide +kernel
theorem dL_law_143 : decode cL_law 143 = .ok (.invokevirtual 17, 3) := by decide +kernel
theorem dL_law_146 : decode cL_law 146 = .ok (.if_icmp .eq 195, 3) := by decide +kernel
theorem dL_law_149 : decode cL_law 149 = .ok (.iconst 0, 1) := by decide +kernel
theorem dL_law_150 : decode cL_law 150 = .ok (.ireturn, 1) := by decide +kernel
theorem dL_law_151 : decode cL_law 151 = .ok (.aload_n 1, 1) := by decide +kernel
theorem dL_law_152 : decode cL_law 152 = .ok (.aload_n 0, 1) := by decide +kernel
theorem dL_law_153 : decode cL_law 153 = .ok (.iload_n 3, 1) := by decide +kernel
theorem dL_law_154 : decode cL_law 154 = .ok (.iconst 1, 1) := by decide +kernel
theorem dL_law_155 : decode cL_law 155 = .ok (.iadd, 1) := by decide +kernel
theorem dL_law_156 : decode cL_law 156 = .ok (.iaload, 1) := by decide +kernel
theorem dL_law_157 : decode cL_law 157 = .ok (.aload_n 0, 1) := by decide +kernel
theorem dL_law_158 : decode cL_law 158 = .ok (.iload_n 3, 1) := by decide +kernel
theorem dL_law_159 : decode cL_law 159 = .ok (.iconst 2, 1) := by decide +kernel
theorem dL_law_160 : decode cL_law 160 = .ok (.iadd, 1) := by decide +kernel
theorem dL_law_161 : decode cL_law 161 = .ok (.iaload, 1) := by decide +kernel
theorem dL_law_162 : decode cL_law 162 = .ok (.invokevirtual 18, 3) := by decide +kernel
theorem dL_law_165 : decode cL_law 165 = .ok (.aload_n 2, 1) := by decide +kernel
theorem dL_law_166 : decode cL_law 166 = .ok (.aload_n 0, 1) := by decide +kernel
theorem dL_law_167 : decode cL_law 167 = .ok (.iload_n 3, 1) := by decide +kernel
theorem dL_law_168 : decode cL_law 168 = .ok (.iconst 1, 1) := by decide +kernel
theorem dL_law_169 : decode cL_law 169 = .ok (.iadd, 1) := by decide +kernel
theorem dL_law_170 : decode cL_law 170 = .ok (.iaload, 1) := by decide +kernel
theorem dL_law_171 : decode cL_law 171 = .ok (.aload_n 0, 1) := by decide +kernel
theorem dL_law_172 : decode cL_law 172 = .ok (.iload_n 3, 1) := by decide +kernel
theorem dL_law_173 : decode cL_law 173 = .ok (.iconst 2, 1) := by decide +kernel
theorem dL_law_174 : decode cL_law 174 = .ok (.iadd, 1) := by decide +kernel
theorem dL_law_175 : decode cL_law 175 = .ok (.iaload, 1) := by decide +kernel
theorem dL_law_176 : decode cL_law 176 = .ok (.invokevirtual 22, 3) := by decide +kernel
theorem dL_law_179 : decode cL_law 179 = .ok (.if_icmp .eq 162, 3) := by decide +kernel
theorem dL_law_182 : decode cL_law 182 = .ok (.iconst 0, 1) := by decide +kernel
theorem dL_law_183 : decode cL_law 183 = .ok (.ireturn, 1) := by decide +kernel
theorem dL_law_184 : decode cL_law 184 = .ok (.aload_n 1, 1) := by decide +kernel
theorem dL_law_185 : decode cL_law 185 = .ok (.aload_n 0, 1) := by decide +kernel
theorem dL_law_186 : decode cL_law 186 = .ok (.iload_n 3, 1) := by decide +kernel
theorem dL_law_187 : decode cL_law 187 = .ok (.iconst 1, 1) := by decide +kernel
theorem dL_law_188 : decode cL_law 188 = .ok (.iadd, 1) := by decide +kernel
theorem dL_law_189 : decode cL_law 189 = .ok (.iaload, 1) := by decide +kernel
theorem dL_law_190 : decode cL_law 190 = .ok (.invokevirtual 23, 3) := by decide +kernel
theorem dL_law_193 : decode cL_law 193 = .ok (.aload_n 2, 1) := by decide +kernel
theorem dL_law_194 : decode cL_law 194 = .ok (.aload_n 0, 1) := by decide +kernel
theorem dL_law_195 : decode cL_law 195 = .ok (.iload_n 3, 1) := by decide +kernel
theorem dL_law_196 : decode cL_law 196 = .ok (.iconst 1, 1) := by decide +kernel
theorem dL_law_197 : decode cL_law 197 = .ok (.iadd, 1) := by decide +kernel
theorem dL_law_198 : decode cL_law 198 = .ok (.iaload, 1) := by decide +kernel
theorem dL_law_199 : decode cL_law 199 = .ok (.invokevirtual 27, 3) := by decide +kernel
theorem dL_law_202 : decode cL_law 202 = .ok (.if_icmp .eq 139, 3) := by decide +kernel
theorem dL_law_205 : decode cL_law 205 = .ok (.iconst 0, 1) := by decide +kernel
theorem dL_law_206 : decode cL_law 206 = .ok (.ireturn, 1) := by decide +kernel
theorem dL_law_207 : decode cL_law 207 = .ok (.aload_n 1, 1) := by decide +kernel
theorem dL_law_208 : decode cL_law 208 = .ok (.invokevirtual 28, 3) := by decide +kernel
theorem dL_law_211 : decode cL_law 211 = .ok (.aload_n 2, 1) := by decide +kernel
theorem dL_law_212 : decode cL_law 212 = .ok (.invokevirtual 32, 3) := by decide +kernel
theorem dL_law_215 : decode cL_law 215 = .ok (.if_icmp .eq 126, 3) := by decide +kernel
theorem dL_law_218 : decode cL_law 218 = .ok (.iconst 0, 1) := by decide +kernel
theorem dL_law_219 : decode cL_law 219 = .ok (.ireturn, 1) := by decide +kernel
theorem dL_law_220 : decode cL_law 220 = .ok (.aload_n 1, 1) := by decide +kernel
theorem dL_law_221 : decode cL_law 221 = .ok (.invokevirtual 33, 3) := by decide +kernel
theorem dL_law_224 : decode cL_law 224 = .ok (.aload_n 2, 1) := by decide +kernel
theorem dL_law_225 : decode cL_law 225 = .ok (.invokevirtual 36, 3) := by decide +kernel
theorem dL_law_228 : decode cL_law 228 = .ok (.if_icmp .eq 113, 3) := by decide +kernel
theorem dL_law_231 : decode cL_law 231 = .ok (.iconst 0, 1) := by decide +kernel
theorem dL_law_232 : decode cL_law 232 = .ok (.ireturn, 1) := by decide +kernel
theorem dL_law_233 : decode cL_law 233 = .ok (.aload_n 1, 1) := by decide +kernel
theorem dL_law_234 : decode cL_law 234 = .ok (.invokevirtual 37, 3) := by decide +kernel
theorem dL_law_237 : decode cL_law 237 = .ok (.aload_n 2, 1) := by decide +kernel
theorem dL_law_238 : decode cL_law 238 = .ok (.invokevirtual 40, 3) := by decide +kernel
theorem dL_law_241 : decode cL_law 241 = .ok (.if_icmp .eq 100, 3) := by decide +kernel
theorem dL_law_244 : decode cL_law 244 = .ok (.iconst 0, 1) := by decide +kernel
theorem dL_law_245 : decode cL_law 245 = .ok (.ireturn, 1) := by decide +kernel
theorem dL_law_246 : decode cL_law 246 = .ok (.aload_n 1, 1) := by decide +kernel
theorem dL_law_247 : decode cL_law 247 = .ok (.aload_n 0, 1) := by decide +kernel
theorem dL_law_248 : decode cL_law 248 = .ok (.iload_n 3, 1) := by decide +kernel
theorem dL_law_249 : decode cL_law 249 = .ok (.iconst 1, 1) := by decide +kernel
theorem dL_law_250 : decode cL_law 250 = .ok (.iadd, 1) := by decide +kernel
theorem dL_law_251 : decode cL_law 251 = .ok (.iaload, 1) := by decide +kernel
theorem dL_law_252 : decode cL_law 252 = .ok (.invokevirtual 41, 3) := by decide +kernel
theorem dL_law_255 : decode cL_law 255 = .ok (.aload_n 2, 1) := by decide +kernel
theorem dL_law_256 : decode cL_law 256 = .ok (.aload_n 0, 1) := by decide +kernel
theorem dL_law_257 : decode cL_law 257 = .ok (.iload_n 3, 1) := by decide +kernel
theorem dL_law_258 : decode cL_law 258 = .ok (.iconst 1, 1) := by decide +kernel
theorem dL_law_259 : decode cL_law 259 = .ok (.iadd, 1) := by decide +kernel
theorem dL_law_260 : decode cL_law 260 = .ok (.iaload, 1) := by decide +kernel
theorem dL_law_261 : decode cL_law 261 = .ok (.invokevirtual 44, 3) := by decide +kernel
theorem dL_law_264 : decode cL_law 264 = .ok (.if_icmp .eq 77, 3) := by decide +kernel
theorem dL_law_267 : decode cL_law 267 = .ok (.iconst 0, 1) := by decide +kernel
theorem dL_law_268 : decode cL_law 268 = .ok (.ireturn, 1) := by decide +kernel
theorem dL_law_269 : decode cL_law 269 = .ok (.aload_n 1, 1) := by decide +kernel
theorem dL_law_270 : decode cL_law 270 = .ok (.aload_n 0, 1) := by decide +kernel
theorem dL_law_271 : decode cL_law 271 = .ok (.iload_n 3, 1) := by decide +kernel
theorem dL_law_272 : decode cL_law 272 = .ok (.iconst 1, 1) := by decide +kernel
theorem dL_law_273 : decode cL_law 273 = .ok (.iadd, 1) := by decide +kernel
theorem dL_law_274 : decode cL_law 274 = .ok (.iaload, 1) := by decide +kernel
theorem dL_law_275 : decode cL_law 275 = .ok (.invokevirtual 45, 3) := by decide +kernel
theorem dL_law_278 : decode cL_law 278 = .ok (.aload_n 2, 1) := by decide +kernel
theorem dL_law_279 : decode cL_law 279 = .ok (.aload_n 0, 1) := by decide +kernel
theorem dL_law_280 : decode cL_law 280 = .ok (.iload_n 3, 1) := by decide +kernel
theorem dL_law_281 : decode cL_law 281 = .ok (.iconst 1, 1) := by decide +kernel
theorem dL_law_282 : decode cL_law 282 = .ok (.iadd, 1) := by decide +kernel
theorem dL_law_283 : decode cL_law 283 = .ok (.iaload, 1) := by decide +kernel
theorem dL_law_284 : decode cL_law 284 = .ok (.invokevirtual 48, 3) := by decide +kernel
theorem dL_law_287 : decode cL_law 287 = .ok (.if_icmp .eq 54, 3) := by decide +kernel
theorem dL_law_290 : decode cL_law 290 = .ok (.iconst 0, 1) := by decide +kernel
theorem dL_law_291 : decode cL_law 291 = .ok (.ireturn, 1) := by decide +kernel
theorem dL_law_292 : decode cL_law 292 = .ok (.aload_n 1, 1) := by decide +kernel
theorem dL_law_293 : decode cL_law 293 = .ok (.invokevirtual 49, 3) := by decide +kernel
theorem dL_law_296 : decode cL_law 296 = .ok (.aload_n 2, 1) := by decide +kernel
theorem dL_law_297 : decode cL_law 297 = .ok (.invokevirtual 52, 3) := by decide +kernel
theorem dL_law_300 : decode cL_law 300 = .ok (.if_icmp .eq 41, 3) := by decide +kernel
theorem dL_law_303 : decode cL_law 303 = .ok (.iconst 0, 1) := by decide +kernel
theorem dL_law_304 : decode cL_law 304 = .ok (.ireturn, 1) := by decide +kernel
theorem dL_law_305 : decode cL_law 305 = .ok (.aload_n 1, 1) := by decide +kernel
theorem dL_law_306 : decode cL_law 306 = .ok (.aload_n 0, 1) := by decide +kernel
theorem dL_law_307 : decode cL_law 307 = .ok (.iload_n 3, 1) := by decide +kernel
theorem dL_law_308 : decode cL_law 308 = .ok (.iconst 1, 1) := by decide +kernel
theorem dL_law_309 : decode cL_law 309 = .ok (.iadd, 1) := by decide +kernel
theorem dL_law_310 : decode cL_law 310 = .ok (.iaload, 1) := by decide +kernel
theorem dL_law_311 : decode cL_law 311 = .ok (.invokevirtual 53, 3) := by decide +kernel
theorem dL_law_314 : decode cL_law 314 = .ok (.aload_n 2, 1) := by decide +kernel
theorem dL_law_315 : decode cL_law 315 = .ok (.aload_n 0, 1) := by decide +kernel
theorem dL_law_316 : decode cL_law 316 = .ok (.iload_n 3, 1) := by decide +kernel
theorem dL_law_317 : decode cL_law 317 = .ok (.iconst 1, 1) := by decide +kernel
theorem dL_law_318 : decode cL_law 318 = .ok (.iadd, 1) := by decide +kernel
theorem dL_law_319 : decode cL_law 319 = .ok (.iaload, 1) := by decide +kernel
theorem dL_law_320 : decode cL_law 320 = .ok (.invokevirtual 56, 3) := by decide +kernel
theorem dL_law_323 : decode cL_law 323 = .ok (.if_icmp .eq 18, 3) := by decide +kernel
theorem dL_law_326 : decode cL_law 326 = .ok (.iconst 0, 1) := by decide +kernel
theorem dL_law_327 : decode cL_law 327 = .ok (.ireturn, 1) := by decide +kernel
theorem dL_law_328 : decode cL_law 328 = .ok (.aload_n 1, 1) := by decide +kernel
theorem dL_law_329 : decode cL_law 329 = .ok (.invokevirtual 57, 3) := by decide +kernel
theorem dL_law_332 : decode cL_law 332 = .ok (.aload_n 2, 1) := by decide +kernel
theorem dL_law_333 : decode cL_law 333 = .ok (.invokevirtual 60, 3) := by decide +kernel
theorem dL_law_336 : decode cL_law 336 = .ok (.if_icmp .eq 5, 3) := by decide +kernel
theorem dL_law_339 : decode cL_law 339 = .ok (.iconst 0, 1) := by decide +kernel
theorem dL_law_340 : decode cL_law 340 = .ok (.ireturn, 1) := by decide +kernel
theorem dL_law_341 : decode cL_law 341 = .ok (.iinc 3 4, 3) := by decide +kernel
theorem dL_law_344 : decode cL_law 344 = .ok (.goto (-326), 3) := by decide +kernel
theorem dL_law_347 : decode cL_law 347 = .ok (.iconst 1, 1) := by decide +kernel
theorem dL_law_348 : decode cL_law 348 = .ok (.ireturn, 1) := by decide +kernel
end
section
/-! THE CLAIM OUT OF ONE WALK OF THE LAW'S BODY. Your part is whole_start (and what it stands on); all else here is the same for every law, but numbers. -/
def R_law : String := "DmDecomposerLaw"
def lw_P (b : Addr) (xs : List Int32) (args : Array Value) (s : State) : Prop := args = #[.ref b] ∧ s.IntsAt b xs ∧ xs.length ≤ 256 ∧ (Jvm.Cond.and given_1 narrow_1).before args s = true
def lw_Q (_ : Array Value) (s : State) (o : Outcome) (t : State) : Prop := o = .returned (some (.int 1)) ∧ Framed s o t [] 600000 7290000
def lw_Z (below : List Frame) (a : Array Value) (s : State) : State → Prop := fun t => ∃ o, t.status = .running ∧ Ended t below o ∧ lw_Q a s o t
/-- the law's own end, with 1 on the stack, nothing written that was there before, its room as the claim has it -/
theorem lw_ret {p : Program} {l : Launch} {e : Env} {s : State} {m : MethodId} {below : List Frame} {meth : Method} {c : Code} {b : Nat} (hx : p.tables.exec = Jvm.exec) (hb : c.code = code) (hr : meth.sig.returnType = ret) (hlocks : meth.locks = false) {pc : Nat} {H : Heap} {ls : Array Slot} (hdg : decode code pc = .ok (.ireturn, 1)) : W p l e room_1 s m #[Value.ref b] below meth c H [] 600000 7290000 (lw_Z below #[Value.ref b] s) (F0 m pc ls [.int 1]) := by
  intro T hT X
  obtain ⟨fs, hret, hrun, hended, hW, hframe⟩ := X.leave (v := some (.int 1)) (hlocks := hlocks) (fun h => by rw [hr] at h; cases h)
  have hmeth' : T.vm.method? m = some meth := X.method'
  refine ⟨T.setFrames fs, ?_, .returned (some (.int 1)), hrun, hended, rfl, ⟨_, rfl⟩, hW, hframe⟩
  jvm_step X.here [X.here.top, hx, hb, hdg, hmeth', hr, ret, narrow_b1]
  (try refine ⟨rfl, ?_⟩); (try refine ⟨rfl, ?_⟩)
  first | (intro acts; rw [hret _ acts rfl rfl rfl]) | rw [hret _ _ rfl rfl rfl]
  exact Steps.refl _
/-- what holds at the law's entry: the machine, the code, the tables' words (any of lw_tbl by 'hts w (by decide +kernel)'), the script of L ints xs at the cell b, what the Statement gives of the start (any of its parts by flat_of_before) -/
def lw_At (p : Program) (s : State) (m : MethodId) (meth : Method) (c : Code) (b L : Nat) (xs : Nat → Int32) : Prop :=
  p.tables.exec = Jvm.exec ∧ c.code = code ∧ meth.sig.returnType = ret ∧ c.maxLocals = 4 ∧ s.vm.findClass R_law = some m.cls ∧ (∀ w ∈ lw_tbl, w.before #[Value.ref b] s = true) ∧ va_X b L xs s s.heap ∧ b < s.heap.size ∧ meth.locks = false ∧ (Jvm.Cond.and given_1 narrow_1).before #[Value.ref b] s = true
/-! THE LAW: rows, cases, loop (printed by gen_law.py) -/
set_option maxRecDepth 100000
theorem lw_4 : ∀ n : Nat, n < 257 → (Int32.ofNat n - 4).toInt = (n : Int) - 4 := by decide +kernel
theorem lw_gt {n i : Nat} (hn : n ≤ 256) (hi : i < 2 ^ 31) : Int32.ofNat n - 4 < nI i ↔ n < i + 4 := by
  rw [Int32.lt_iff_toInt_lt, lw_4 n (by omega), nI_toInt hi]
  omega
theorem lw_i4 (a : Nat) : nI a + Int32.ofInt 4 = nI (a + 4) := nI_add a 4
theorem lw_arr {t : FieldType} {args : Array Value} {s : State} (h : (Cond.arrayClass t).before args s = true) : ∃ cA : ClassId, ArrOfT s cA t ∧ s.vm.findClass ("[" ++ t.toString) = some cA := by
  obtain ⟨cA, kA, comp, h1, h2, h3⟩ := Cond.arrayClass_spec h
  exact ⟨cA, fun n z => ⟨fun k h => (by cases h), kA, h2, comp, h3⟩, h1⟩
section LAW
variable {p : Program} {l : Launch} {e : Env} {s : State} {m : MethodId} {below : List Frame} {meth : Method} {c : Code} {H : Heap} {locs : List Loc} {cells slots : Nat} {Q : State → Prop}
variable {pc : Nat} {ls : Array Slot} {rest : List Value} {D : va_G} {A : Nat → Prop} {cI cB cZ : ClassId} {h g : Nat → Nat} {E E1 E2 : Nat → Nat} {wx wm w : va_W} {b L k : Nat} {xs : Nat → Int32}
/-- a number of the script -/
theorem lw_ld {i : Nat} (hi : i < L) (hL : L ≤ 256) (hx : p.tables.exec = Jvm.exec) (hb : c.code = code) (hX : va_X b L xs s s.heap) (hbl : b < s.heap.size) (hbA : ¬ A b) (hw : XH D A s.heap H locs w) (hdg : decode code pc = .ok (.iaload, 1))
    (kk : W p l e room_1 s m #[Value.ref b] below meth c H locs cells slots Q (F0 m (pc + 1) ls (.int (xs i) :: rest))) : W p l e room_1 s m #[Value.ref b] below meth c H locs cells slots Q (F0 m pc ls (.int (nI i) :: .ref b :: rest)) := by
  refine va_sld hx hb hX hbl hbA hw.2.2 (vp_in_nI hi (by omega)) hdg ?_
  rw [nI_clamp (by omega)]
  exact kk
/-- a call on DmDecomposer -/
theorem lw_cX {y : MethodName} {b' : ByteArray} {L' : Nat} {rt' : Option FieldType} {rm : Room} {idx n : Nat} {v : Int32} (As : List Value) (C : CX p s m #[Value.ref b] meth c code 4 ret R_law D (tyL cI cB cZ) A) (hxo : XOk cI cB h E wx) (hmo : MOk cI cZ g E1 wm) (hw : XH D A s.heap H locs (wx ++ wm))
    (hM : ∀ {rdy : Bool} {pr pk qu cf : Nat → Nat} {rr cr rc ck : Nat} {re us : Nat → Nat}, xInv rdy E pr pk rr cr ck re us → MtI l y b' L' rt' rm D (tyL cI cB cZ) (.ref (h 0) :: As) (xW cI cB h rdy E pr pk qu cf rr cr rc ck re us) (fun r w => r = v ∧ XOk cI cB h E2 w))
    (cw : CallW room_1 s #[Value.ref b] R_law RX0 idx y b' L' rt' (ws_ y b' L' rt') rm 0 0 n) (hn : As.length = n) (hls : ls.size = 4) (hrm : (rest.map fun v => v.category).sum ≤ 8) (hcap : cells ≤ room_1.cells ∧ slots ≤ room_1.slots) (hdg : decode code pc = .ok (.invokevirtual idx, 3))
    (kk : ∀ (wx' : va_W) (H' : Heap) (locs' : List Loc), XOk cI cB h E2 wx' → XH D A s.heap H' locs' (wm ++ wx') → W p l e room_1 s m #[Value.ref b] below meth c H' locs' cells slots Q (F0 m (pc + 3) ls (.int v :: rest))) {st : List Value} (hst : st = As.reverse ++ .ref (h 0) :: rest) :
    W p l e room_1 s m #[Value.ref b] below meth c H locs cells slots Q (F0 m pc ls st) := by
  obtain ⟨rdy, pr, pk, qu, cf, rr, cr, rc, ck, re, us, rfl, hv⟩ := hxo
  obtain ⟨ca, th, go, rfl, hE⟩ := hmo
  refine y_callF (ci := 0) (wr := mW cI cZ g E1 ca th go) [0, 1, 2, 3, 4, 5, 6, 7] [8, 9, 10, 11, 12] C hw (hM hv) cw rfl rfl rfl (by decide) (by decide) (by decide) rfl rfl rfl hn hls hrm hcap hdg (fun r w' H' locs' hp hw' => ?_) hst
  obtain ⟨rfl, hx2⟩ := hp
  exact kk w' H' locs' hx2 hw'
/-- a call on DmDecomposerModel -/
theorem lw_cM {y : MethodName} {b' : ByteArray} {L' : Nat} {rt' : Option FieldType} {rm : Room} {idx n : Nat} {v : Int32} (As : List Value) (C : CX p s m #[Value.ref b] meth c code 4 ret R_law D (tyL cI cB cZ) A) (hxo : XOk cI cB h E1 wx) (hmo : MOk cI cZ g E wm) (hw : XH D A s.heap H locs (wm ++ wx))
    (hM : ∀ {ca th : Nat → Bool} {go : Nat → Nat}, (∀ r, E r < 128) → ∃ post : Int32 → va_W → Prop, MtI l y b' L' rt' rm D (tyL cI cB cZ) (.ref (g 0) :: As) (mW cI cZ g E ca th go) post ∧ ∀ r w, post r w → r = v ∧ MOk cI cZ g E2 w)
    (cw : CallW room_1 s #[Value.ref b] R_law RX1 idx y b' L' rt' (ws_ y b' L' rt') rm 0 0 n) (hn : As.length = n) (hls : ls.size = 4) (hrm : (rest.map fun v => v.category).sum ≤ 8) (hcap : cells ≤ room_1.cells ∧ slots ≤ room_1.slots) (hdg : decode code pc = .ok (.invokevirtual idx, 3))
    (kk : ∀ (wm' : va_W) (H' : Heap) (locs' : List Loc), MOk cI cZ g E2 wm' → XH D A s.heap H' locs' (wx ++ wm') → W p l e room_1 s m #[Value.ref b] below meth c H' locs' cells slots Q (F0 m (pc + 3) ls (.int v :: rest))) {st : List Value} (hst : st = As.reverse ++ .ref (g 0) :: rest) :
    W p l e room_1 s m #[Value.ref b] below meth c H locs cells slots Q (F0 m pc ls st) := by
  obtain ⟨rdy, pr, pk, qu, cf, rr, cr, rc, ck, re, us, rfl, hv⟩ := hxo
  obtain ⟨ca, th, go, rfl, hE⟩ := hmo
  obtain ⟨post, hMt, hpost⟩ := hM (ca := ca) (th := th) (go := go) hE
  refine y_callF (ci := 1) (wr := xW cI cB h rdy E1 pr pk qu cf rr cr rc ck re us) [0, 1, 2, 3, 4] [5, 6, 7, 8, 9, 10, 11, 12] C hw hMt cw rfl rfl rfl (by decide) (by decide) (by decide) rfl rfl rfl hn hls hrm hcap hdg (fun r w' H' locs' hp hw' => ?_) hst
  obtain ⟨rfl, hx2⟩ := hpost r w' hp
  exact kk w' H' locs' hx2 hw'
/-- what is owed behind a case: from the loop's end on -/
abbrev LN (p : Program) (l : Launch) (e : Env) (s : State) (m : MethodId) (below : List Frame) (meth : Method) (c : Code) (cells slots : Nat) (Q : State → Prop) (ls : Array Slot) (D : va_G) (A : Nat → Prop) (cI cB cZ : ClassId) (h g : Nat → Nat) (b : Nat) : Prop :=
  ∀ (E : Nat → Nat) (wx wm : va_W) (H : Heap) (locs : List Loc), XOk cI cB h E wx → MOk cI cZ g E wm → XH D A s.heap H locs (wx ++ wm) → W p l e room_1 s m #[Value.ref b] below meth c H locs cells slots Q (F0 m 341 ls [])
set_option maxHeartbeats 4000000 in
theorem lw_case0 (C : CX p s m #[Value.ref b] meth c code 4 ret R_law D (tyL cI cB cZ) A) (hX : va_X b L xs s s.heap) (hbl : b < s.heap.size) (hbA : ¬ A b) (hL : L ≤ 256) (hk : 4 * k + 4 ≤ L) (hxo : XOk cI cB h E wx) (hmo : MOk cI cZ g E wm) (hw : XH D A s.heap H locs (wx ++ wm)) (hl : lv_has ls 4 [(0, .ref b), (1, .ref (h 0)), (2, .ref (g 0)), (3, .int (nI (4 * k)))]) (hcap : cells ≤ room_1.cells ∧ slots ≤ room_1.slots) (nx : LN p l e s m below meth c cells slots Q ls D A cI cB cZ h g b) : W p l e room_1 s m #[Value.ref b] below meth c H locs cells slots Q (F0 m 92 ls []) := by
  obtain ⟨hx, hb, hr, hlk, hml, hown, hts, hK, hA⟩ := id C
  by_cases hz : xs (4 * k + 3) = 0
  · refine lv_aload_n hx hb dL_law_92 rfl (lv_at hl 1 rfl) ?_
    refine lv_aload_n hx hb dL_law_93 rfl (lv_at hl 0 rfl) ?_
    refine lv_iload_n hx hb dL_law_94 rfl (lv_at hl 3 rfl) ?_
    refine y_num hx hb 1 dL_law_95 rfl ?_
    refine y_add hx hb dL_law_96 ?_
    refine lw_ld (by omega) hL hx hb hX hbl hbA hw dL_law_97 ?_
    refine lv_aload_n hx hb dL_law_98 rfl (lv_at hl 0 rfl) ?_
    refine lv_iload_n hx hb dL_law_99 rfl (lv_at hl 3 rfl) ?_
    refine y_num hx hb 2 dL_law_100 rfl ?_
    refine y_add hx hb dL_law_101 ?_
    refine lw_ld (by omega) hL hx hb hX hbl hbA hw dL_law_102 ?_
    refine lv_aload_n hx hb dL_law_103 rfl (lv_at hl 0 rfl) ?_
    refine lv_iload_n hx hb dL_law_104 rfl (lv_at hl 3 rfl) ?_
    refine y_num hx hb 3 dL_law_105 rfl ?_
    refine y_add hx hb dL_law_106 ?_
    refine lw_ld (by omega) hL hx hb hX hbl hbA hw dL_law_107 ?_
    refine lv_if_eq hx hb dL_law_108 (tgt := 115) (by decide) (fun _ => ?_) (fun q => absurd hz q)
    refine lv_iconst (v := wI false) hx hb dL_law_115 rfl ?_
    refine lw_cX (rest := []) [.int (xs (4 * k + 1)), .int (xs (4 * k + 2)), .int (wI false)] C hxo hmo hw (fun hv => mx_edge l D hv (xs (4 * k + 1)) (xs (4 * k + 2)) false) (cwV 3 hts (lw_V q72 q73 q74 q23 q75) rfl rfl rfl (by decide +kernel) ⟨Nat.le_of_ble_eq_true rfl, Nat.le_of_ble_eq_true rfl⟩) rfl hl.1 (Nat.le_of_ble_eq_true rfl) hcap dL_law_116 (fun wx H locs hxo hw => ?_) rfl
    refine lv_aload_n hx hb dL_law_119 rfl (lv_at hl 2 rfl) ?_
    refine lv_aload_n hx hb dL_law_120 rfl (lv_at hl 0 rfl) ?_
    refine lv_iload_n hx hb dL_law_121 rfl (lv_at hl 3 rfl) ?_
    refine y_num hx hb 1 dL_law_122 rfl ?_
    refine y_add hx hb dL_law_123 ?_
    refine lw_ld (by omega) hL hx hb hX hbl hbA hw dL_law_124 ?_
    refine lv_aload_n hx hb dL_law_125 rfl (lv_at hl 0 rfl) ?_
    refine lv_iload_n hx hb dL_law_126 rfl (lv_at hl 3 rfl) ?_
    refine y_num hx hb 2 dL_law_127 rfl ?_
    refine y_add hx hb dL_law_128 ?_
    refine lw_ld (by omega) hL hx hb hX hbl hbA hw dL_law_129 ?_
    refine lv_aload_n hx hb dL_law_130 rfl (lv_at hl 0 rfl) ?_
    refine lv_iload_n hx hb dL_law_131 rfl (lv_at hl 3 rfl) ?_
    refine y_num hx hb 3 dL_law_132 rfl ?_
    refine y_add hx hb dL_law_133 ?_
    refine lw_ld (by omega) hL hx hb hX hbl hbA hw dL_law_134 ?_
    refine lv_if_eq hx hb dL_law_135 (tgt := 142) (by decide) (fun _ => ?_) (fun q => absurd hz q)
    refine lv_iconst (v := wI false) hx hb dL_law_142 rfl ?_
    refine lw_cM (rest := [.int _]) [.int (xs (4 * k + 1)), .int (xs (4 * k + 2)), .int (wI false)] C hxo hmo hw (fun hE => ⟨_, mm_edge l D hE (xs (4 * k + 1)) (xs (4 * k + 2)) false, fun _ _ q => q⟩) (cwV 3 hts (lw_V q192 q193 q194 q24 q195) rfl rfl rfl (by decide +kernel) ⟨Nat.le_of_ble_eq_true rfl, Nat.le_of_ble_eq_true rfl⟩) rfl hl.1 (Nat.le_of_ble_eq_true rfl) hcap dL_law_143 (fun wm H locs hmo hw => ?_) rfl
    exact lv_icmp_eq hx hb dL_law_146 (tgt := 341) (by decide) (fun _ => nx _ wx wm H locs hxo hmo hw) (fun q => absurd rfl q)
  · refine lv_aload_n hx hb dL_law_92 rfl (lv_at hl 1 rfl) ?_
    refine lv_aload_n hx hb dL_law_93 rfl (lv_at hl 0 rfl) ?_
    refine lv_iload_n hx hb dL_law_94 rfl (lv_at hl 3 rfl) ?_
    refine y_num hx hb 1 dL_law_95 rfl ?_
    refine y_add hx hb dL_law_96 ?_
    refine lw_ld (by omega) hL hx hb hX hbl hbA hw dL_law_97 ?_
    refine lv_aload_n hx hb dL_law_98 rfl (lv_at hl 0 rfl) ?_
    refine lv_iload_n hx hb dL_law_99 rfl (lv_at hl 3 rfl) ?_
    refine y_num hx hb 2 dL_law_100 rfl ?_
    refine y_add hx hb dL_law_101 ?_
    refine lw_ld (by omega) hL hx hb hX hbl hbA hw dL_law_102 ?_
    refine lv_aload_n hx hb dL_law_103 rfl (lv_at hl 0 rfl) ?_
    refine lv_iload_n hx hb dL_law_104 rfl (lv_at hl 3 rfl) ?_
    refine y_num hx hb 3 dL_law_105 rfl ?_
    refine y_add hx hb dL_law_106 ?_
    refine lw_ld (by omega) hL hx hb hX hbl hbA hw dL_law_107 ?_
    refine lv_if_eq hx hb dL_law_108 (tgt := 115) (by decide) (fun q => absurd q hz) (fun _ => ?_)
    refine lv_iconst (v := wI true) hx hb dL_law_111 rfl ?_
    refine lv_goto (tgt := 116) hx hb dL_law_112 (by decide) ?_
    refine lw_cX (rest := []) [.int (xs (4 * k + 1)), .int (xs (4 * k + 2)), .int (wI true)] C hxo hmo hw (fun hv => mx_edge l D hv (xs (4 * k + 1)) (xs (4 * k + 2)) true) (cwV 3 hts (lw_V q72 q73 q74 q23 q75) rfl rfl rfl (by decide +kernel) ⟨Nat.le_of_ble_eq_true rfl, Nat.le_of_ble_eq_true rfl⟩) rfl hl.1 (Nat.le_of_ble_eq_true rfl) hcap dL_law_116 (fun wx H locs hxo hw => ?_) rfl
    refine lv_aload_n hx hb dL_law_119 rfl (lv_at hl 2 rfl) ?_
    refine lv_aload_n hx hb dL_law_120 rfl (lv_at hl 0 rfl) ?_
    refine lv_iload_n hx hb dL_law_121 rfl (lv_at hl 3 rfl) ?_
    refine y_num hx hb 1 dL_law_122 rfl ?_
    refine y_add hx hb dL_law_123 ?_
    refine lw_ld (by omega) hL hx hb hX hbl hbA hw dL_law_124 ?_
    refine lv_aload_n hx hb dL_law_125 rfl (lv_at hl 0 rfl) ?_
    refine lv_iload_n hx hb dL_law_126 rfl (lv_at hl 3 rfl) ?_
    refine y_num hx hb 2 dL_law_127 rfl ?_
    refine y_add hx hb dL_law_128 ?_
    refine lw_ld (by omega) hL hx hb hX hbl hbA hw dL_law_129 ?_
    refine lv_aload_n hx hb dL_law_130 rfl (lv_at hl 0 rfl) ?_
    refine lv_iload_n hx hb dL_law_131 rfl (lv_at hl 3 rfl) ?_
    refine y_num hx hb 3 dL_law_132 rfl ?_
    refine y_add hx hb dL_law_133 ?_
    refine lw_ld (by omega) hL hx hb hX hbl hbA hw dL_law_134 ?_
    refine lv_if_eq hx hb dL_law_135 (tgt := 142) (by decide) (fun q => absurd q hz) (fun _ => ?_)
    refine lv_iconst (v := wI true) hx hb dL_law_138 rfl ?_
    refine lv_goto (tgt := 143) hx hb dL_law_139 (by decide) ?_
    refine lw_cM (rest := [.int _]) [.int (xs (4 * k + 1)), .int (xs (4 * k + 2)), .int (wI true)] C hxo hmo hw (fun hE => ⟨_, mm_edge l D hE (xs (4 * k + 1)) (xs (4 * k + 2)) true, fun _ _ q => q⟩) (cwV 3 hts (lw_V q192 q193 q194 q24 q195) rfl rfl rfl (by decide +kernel) ⟨Nat.le_of_ble_eq_true rfl, Nat.le_of_ble_eq_true rfl⟩) rfl hl.1 (Nat.le_of_ble_eq_true rfl) hcap dL_law_143 (fun wm H locs hmo hw => ?_) rfl
    exact lv_icmp_eq hx hb dL_law_146 (tgt := 341) (by decide) (fun _ => nx _ wx wm H locs hxo hmo hw) (fun q => absurd rfl q)
set_option maxHeartbeats 4000000 in
theorem lw_case1 (C : CX p s m #[Value.ref b] meth c code 4 ret R_law D (tyL cI cB cZ) A) (hX : va_X b L xs s s.heap) (hbl : b < s.heap.size) (hbA : ¬ A b) (hL : L ≤ 256) (hk : 4 * k + 4 ≤ L) (hxo : XOk cI cB h E wx) (hmo : MOk cI cZ g E wm) (hw : XH D A s.heap H locs (wx ++ wm)) (hl : lv_has ls 4 [(0, .ref b), (1, .ref (h 0)), (2, .ref (g 0)), (3, .int (nI (4 * k)))]) (hcap : cells ≤ room_1.cells ∧ slots ≤ room_1.slots) (nx : LN p l e s m below meth c cells slots Q ls D A cI cB cZ h g b) : W p l e room_1 s m #[Value.ref b] below meth c H locs cells slots Q (F0 m 151 ls []) := by
  obtain ⟨hx, hb, hr, hlk, hml, hown, hts, hK, hA⟩ := id C
  refine lv_aload_n hx hb dL_law_151 rfl (lv_at hl 1 rfl) ?_
  refine lv_aload_n hx hb dL_law_152 rfl (lv_at hl 0 rfl) ?_
  refine lv_iload_n hx hb dL_law_153 rfl (lv_at hl 3 rfl) ?_
  refine y_num hx hb 1 dL_law_154 rfl ?_
  refine y_add hx hb dL_law_155 ?_
  refine lw_ld (by omega) hL hx hb hX hbl hbA hw dL_law_156 ?_
  refine lv_aload_n hx hb dL_law_157 rfl (lv_at hl 0 rfl) ?_
  refine lv_iload_n hx hb dL_law_158 rfl (lv_at hl 3 rfl) ?_
  refine y_num hx hb 2 dL_law_159 rfl ?_
  refine y_add hx hb dL_law_160 ?_
  refine lw_ld (by omega) hL hx hb hX hbl hbA hw dL_law_161 ?_
  refine lw_cX (rest := []) [.int (xs (4 * k + 1)), .int (xs (4 * k + 2))] C hxo hmo hw (fun hv => mx_row l D hv (xs (4 * k + 1)) (xs (4 * k + 2))) (cwV 2 hts (lw_V q80 q81 q82 q23 q83) rfl rfl rfl (by decide +kernel) ⟨Nat.le_of_ble_eq_true rfl, Nat.le_of_ble_eq_true rfl⟩) rfl hl.1 (Nat.le_of_ble_eq_true rfl) hcap dL_law_162 (fun wx H locs hxo hw => ?_) rfl
  refine lv_aload_n hx hb dL_law_165 rfl (lv_at hl 2 rfl) ?_
  refine lv_aload_n hx hb dL_law_166 rfl (lv_at hl 0 rfl) ?_
  refine lv_iload_n hx hb dL_law_167 rfl (lv_at hl 3 rfl) ?_
  refine y_num hx hb 1 dL_law_168 rfl ?_
  refine y_add hx hb dL_law_169 ?_
  refine lw_ld (by omega) hL hx hb hX hbl hbA hw dL_law_170 ?_
  refine lv_aload_n hx hb dL_law_171 rfl (lv_at hl 0 rfl) ?_
  refine lv_iload_n hx hb dL_law_172 rfl (lv_at hl 3 rfl) ?_
  refine y_num hx hb 2 dL_law_173 rfl ?_
  refine y_add hx hb dL_law_174 ?_
  refine lw_ld (by omega) hL hx hb hX hbl hbA hw dL_law_175 ?_
  refine lw_cM (rest := [.int _]) [.int (xs (4 * k + 1)), .int (xs (4 * k + 2))] C hxo hmo hw (fun hE => ⟨_, mm_row l D hE (xs (4 * k + 1)) (xs (4 * k + 2)), fun _ _ q => q⟩) (cwV 2 hts (lw_V q200 q201 q202 q24 q203) rfl rfl rfl (by decide +kernel) ⟨Nat.le_of_ble_eq_true rfl, Nat.le_of_ble_eq_true rfl⟩) rfl hl.1 (Nat.le_of_ble_eq_true rfl) hcap dL_law_176 (fun wm H locs hmo hw => ?_) rfl
  exact lv_icmp_eq hx hb dL_law_179 (tgt := 341) (by decide) (fun _ => nx _ wx wm H locs hxo hmo hw) (fun q => absurd rfl q)
set_option maxHeartbeats 4000000 in
theorem lw_case2 (C : CX p s m #[Value.ref b] meth c code 4 ret R_law D (tyL cI cB cZ) A) (hX : va_X b L xs s s.heap) (hbl : b < s.heap.size) (hbA : ¬ A b) (hL : L ≤ 256) (hk : 4 * k + 4 ≤ L) (hxo : XOk cI cB h E wx) (hmo : MOk cI cZ g E wm) (hw : XH D A s.heap H locs (wx ++ wm)) (hl : lv_has ls 4 [(0, .ref b), (1, .ref (h 0)), (2, .ref (g 0)), (3, .int (nI (4 * k)))]) (hcap : cells ≤ room_1.cells ∧ slots ≤ room_1.slots) (nx : LN p l e s m below meth c cells slots Q ls D A cI cB cZ h g b) : W p l e room_1 s m #[Value.ref b] below meth c H locs cells slots Q (F0 m 184 ls []) := by
  obtain ⟨hx, hb, hr, hlk, hml, hown, hts, hK, hA⟩ := id C
  refine lv_aload_n hx hb dL_law_184 rfl (lv_at hl 1 rfl) ?_
  refine lv_aload_n hx hb dL_law_185 rfl (lv_at hl 0 rfl) ?_
  refine lv_iload_n hx hb dL_law_186 rfl (lv_at hl 3 rfl) ?_
  refine y_num hx hb 1 dL_law_187 rfl ?_
  refine y_add hx hb dL_law_188 ?_
  refine lw_ld (by omega) hL hx hb hX hbl hbA hw dL_law_189 ?_
  refine lw_cX (rest := []) [.int (xs (4 * k + 1))] C hxo hmo hw (fun hv => mx_columnsOf l D hv (xs (4 * k + 1))) (cwV 1 hts (lw_V q84 q85 q86 q23 q87) rfl rfl rfl (by decide +kernel) ⟨Nat.le_of_ble_eq_true rfl, Nat.le_of_ble_eq_true rfl⟩) rfl hl.1 (Nat.le_of_ble_eq_true rfl) hcap dL_law_190 (fun wx H locs hxo hw => ?_) rfl
  refine lv_aload_n hx hb dL_law_193 rfl (lv_at hl 2 rfl) ?_
  refine lv_aload_n hx hb dL_law_194 rfl (lv_at hl 0 rfl) ?_
  refine lv_iload_n hx hb dL_law_195 rfl (lv_at hl 3 rfl) ?_
  refine y_num hx hb 1 dL_law_196 rfl ?_
  refine y_add hx hb dL_law_197 ?_
  refine lw_ld (by omega) hL hx hb hX hbl hbA hw dL_law_198 ?_
  refine lw_cM (rest := [.int _]) [.int (xs (4 * k + 1))] C hxo hmo hw (fun hE => ⟨_, mm_columnsOf l D hE (xs (4 * k + 1)), fun _ _ q => q⟩) (cwV 1 hts (lw_V q204 q205 q206 q24 q207) rfl rfl rfl (by decide +kernel) ⟨Nat.le_of_ble_eq_true rfl, Nat.le_of_ble_eq_true rfl⟩) rfl hl.1 (Nat.le_of_ble_eq_true rfl) hcap dL_law_199 (fun wm H locs hmo hw => ?_) rfl
  exact lv_icmp_eq hx hb dL_law_202 (tgt := 341) (by decide) (fun _ => nx _ wx wm H locs hxo hmo hw) (fun q => absurd rfl q)
set_option maxHeartbeats 4000000 in
theorem lw_case3 (C : CX p s m #[Value.ref b] meth c code 4 ret R_law D (tyL cI cB cZ) A) (hX : va_X b L xs s s.heap) (hbl : b < s.heap.size) (hbA : ¬ A b) (hL : L ≤ 256) (hk : 4 * k + 4 ≤ L) (hxo : XOk cI cB h E wx) (hmo : MOk cI cZ g E wm) (hw : XH D A s.heap H locs (wx ++ wm)) (hl : lv_has ls 4 [(0, .ref b), (1, .ref (h 0)), (2, .ref (g 0)), (3, .int (nI (4 * k)))]) (hcap : cells ≤ room_1.cells ∧ slots ≤ room_1.slots) (nx : LN p l e s m below meth c cells slots Q ls D A cI cB cZ h g b) : W p l e room_1 s m #[Value.ref b] below meth c H locs cells slots Q (F0 m 207 ls []) := by
  obtain ⟨hx, hb, hr, hlk, hml, hown, hts, hK, hA⟩ := id C
  refine lv_aload_n hx hb dL_law_207 rfl (lv_at hl 1 rfl) ?_
  refine lw_cX (rest := []) [] C hxo hmo hw (fun hv => mx_largest l D hv ) (cwV 0 hts (lw_V q88 q89 q90 q23 q91) rfl rfl rfl (by decide +kernel) ⟨Nat.le_of_ble_eq_true rfl, Nat.le_of_ble_eq_true rfl⟩) rfl hl.1 (Nat.le_of_ble_eq_true rfl) hcap dL_law_208 (fun wx H locs hxo hw => ?_) rfl
  refine lv_aload_n hx hb dL_law_211 rfl (lv_at hl 2 rfl) ?_
  refine lw_cM (rest := [.int _]) [] C hxo hmo hw (fun hE => ⟨_, mm_largest l D hE, fun r w q => ⟨q.1, by obtain ⟨_, ca, th, rfl⟩ := q; exact ⟨ca, th, _, rfl, hE⟩⟩⟩) (cwV 0 hts (lw_V q208 q209 q210 q24 q211) rfl rfl rfl (by decide +kernel) ⟨Nat.le_of_ble_eq_true rfl, Nat.le_of_ble_eq_true rfl⟩) rfl hl.1 (Nat.le_of_ble_eq_true rfl) hcap dL_law_212 (fun wm H locs hmo hw => ?_) rfl
  exact lv_icmp_eq hx hb dL_law_215 (tgt := 341) (by decide) (fun _ => nx _ wx wm H locs hxo hmo hw) (fun q => absurd rfl q)
set_option maxHeartbeats 4000000 in
theorem lw_case4 (C : CX p s m #[Value.ref b] meth c code 4 ret R_law D (tyL cI cB cZ) A) (hX : va_X b L xs s s.heap) (hbl : b < s.heap.size) (hbA : ¬ A b) (hL : L ≤ 256) (hk : 4 * k + 4 ≤ L) (hxo : XOk cI cB h E wx) (hmo : MOk cI cZ g E wm) (hw : XH D A s.heap H locs (wx ++ wm)) (hl : lv_has ls 4 [(0, .ref b), (1, .ref (h 0)), (2, .ref (g 0)), (3, .int (nI (4 * k)))]) (hcap : cells ≤ room_1.cells ∧ slots ≤ room_1.slots) (nx : LN p l e s m below meth c cells slots Q ls D A cI cB cZ h g b) : W p l e room_1 s m #[Value.ref b] below meth c H locs cells slots Q (F0 m 220 ls []) := by
  obtain ⟨hx, hb, hr, hlk, hml, hown, hts, hK, hA⟩ := id C
  refine lv_aload_n hx hb dL_law_220 rfl (lv_at hl 1 rfl) ?_
  refine lw_cX (rest := []) [] C hxo hmo hw (fun hv => mx_looseRows l D hv ) (cwV 0 hts (lw_V q136 q137 q138 q23 q139) rfl rfl rfl (by decide +kernel) ⟨Nat.le_of_ble_eq_true rfl, Nat.le_of_ble_eq_true rfl⟩) rfl hl.1 (Nat.le_of_ble_eq_true rfl) hcap dL_law_221 (fun wx H locs hxo hw => ?_) rfl
  refine lv_aload_n hx hb dL_law_224 rfl (lv_at hl 2 rfl) ?_
  refine lw_cM (rest := [.int _]) [] C hxo hmo hw (fun hE => ⟨_, mm_looseRows l D hE , fun _ _ q => q⟩) (cwV 0 hts (lw_V q228 q229 q230 q24 q231) rfl rfl rfl (by decide +kernel) ⟨Nat.le_of_ble_eq_true rfl, Nat.le_of_ble_eq_true rfl⟩) rfl hl.1 (Nat.le_of_ble_eq_true rfl) hcap dL_law_225 (fun wm H locs hmo hw => ?_) rfl
  exact lv_icmp_eq hx hb dL_law_228 (tgt := 341) (by decide) (fun _ => nx _ wx wm H locs hxo hmo hw) (fun q => absurd rfl q)
set_option maxHeartbeats 4000000 in
theorem lw_case5 (C : CX p s m #[Value.ref b] meth c code 4 ret R_law D (tyL cI cB cZ) A) (hX : va_X b L xs s s.heap) (hbl : b < s.heap.size) (hbA : ¬ A b) (hL : L ≤ 256) (hk : 4 * k + 4 ≤ L) (hxo : XOk cI cB h E wx) (hmo : MOk cI cZ g E wm) (hw : XH D A s.heap H locs (wx ++ wm)) (hl : lv_has ls 4 [(0, .ref b), (1, .ref (h 0)), (2, .ref (g 0)), (3, .int (nI (4 * k)))]) (hcap : cells ≤ room_1.cells ∧ slots ≤ room_1.slots) (nx : LN p l e s m below meth c cells slots Q ls D A cI cB cZ h g b) : W p l e room_1 s m #[Value.ref b] below meth c H locs cells slots Q (F0 m 233 ls []) := by
  obtain ⟨hx, hb, hr, hlk, hml, hown, hts, hK, hA⟩ := id C
  refine lv_aload_n hx hb dL_law_233 rfl (lv_at hl 1 rfl) ?_
  refine lw_cX (rest := []) [] C hxo hmo hw (fun hv => mx_looseColumns l D hv ) (cwV 0 hts (lw_V q140 q141 q142 q23 q143) rfl rfl rfl (by decide +kernel) ⟨Nat.le_of_ble_eq_true rfl, Nat.le_of_ble_eq_true rfl⟩) rfl hl.1 (Nat.le_of_ble_eq_true rfl) hcap dL_law_234 (fun wx H locs hxo hw => ?_) rfl
  refine lv_aload_n hx hb dL_law_237 rfl (lv_at hl 2 rfl) ?_
  refine lw_cM (rest := [.int _]) [] C hxo hmo hw (fun hE => ⟨_, mm_looseColumns l D hE , fun _ _ q => q⟩) (cwV 0 hts (lw_V q233 q234 q235 q24 q236) rfl rfl rfl (by decide +kernel) ⟨Nat.le_of_ble_eq_true rfl, Nat.le_of_ble_eq_true rfl⟩) rfl hl.1 (Nat.le_of_ble_eq_true rfl) hcap dL_law_238 (fun wm H locs hmo hw => ?_) rfl
  exact lv_icmp_eq hx hb dL_law_241 (tgt := 341) (by decide) (fun _ => nx _ wx wm H locs hxo hmo hw) (fun q => absurd rfl q)
set_option maxHeartbeats 4000000 in
theorem lw_case6 (C : CX p s m #[Value.ref b] meth c code 4 ret R_law D (tyL cI cB cZ) A) (hX : va_X b L xs s s.heap) (hbl : b < s.heap.size) (hbA : ¬ A b) (hL : L ≤ 256) (hk : 4 * k + 4 ≤ L) (hxo : XOk cI cB h E wx) (hmo : MOk cI cZ g E wm) (hw : XH D A s.heap H locs (wx ++ wm)) (hl : lv_has ls 4 [(0, .ref b), (1, .ref (h 0)), (2, .ref (g 0)), (3, .int (nI (4 * k)))]) (hcap : cells ≤ room_1.cells ∧ slots ≤ room_1.slots) (nx : LN p l e s m below meth c cells slots Q ls D A cI cB cZ h g b) : W p l e room_1 s m #[Value.ref b] below meth c H locs cells slots Q (F0 m 246 ls []) := by
  obtain ⟨hx, hb, hr, hlk, hml, hown, hts, hK, hA⟩ := id C
  refine lv_aload_n hx hb dL_law_246 rfl (lv_at hl 1 rfl) ?_
  refine lv_aload_n hx hb dL_law_247 rfl (lv_at hl 0 rfl) ?_
  refine lv_iload_n hx hb dL_law_248 rfl (lv_at hl 3 rfl) ?_
  refine y_num hx hb 1 dL_law_249 rfl ?_
  refine y_add hx hb dL_law_250 ?_
  refine lw_ld (by omega) hL hx hb hX hbl hbA hw dL_law_251 ?_
  refine lw_cX (rest := []) [.int (xs (4 * k + 1))] C hxo hmo hw (fun hv => mx_usable l D hv (xs (4 * k + 1))) (cwV 1 hts (lw_V q144 q145 q146 q23 q147) rfl rfl rfl (by decide +kernel) ⟨Nat.le_of_ble_eq_true rfl, Nat.le_of_ble_eq_true rfl⟩) rfl hl.1 (Nat.le_of_ble_eq_true rfl) hcap dL_law_252 (fun wx H locs hxo hw => ?_) rfl
  refine lv_aload_n hx hb dL_law_255 rfl (lv_at hl 2 rfl) ?_
  refine lv_aload_n hx hb dL_law_256 rfl (lv_at hl 0 rfl) ?_
  refine lv_iload_n hx hb dL_law_257 rfl (lv_at hl 3 rfl) ?_
  refine y_num hx hb 1 dL_law_258 rfl ?_
  refine y_add hx hb dL_law_259 ?_
  refine lw_ld (by omega) hL hx hb hX hbl hbA hw dL_law_260 ?_
  refine lw_cM (rest := [.int _]) [.int (xs (4 * k + 1))] C hxo hmo hw (fun hE => ⟨_, mm_usable l D hE (xs (4 * k + 1)), fun _ _ q => q⟩) (cwV 1 hts (lw_V q237 q238 q239 q24 q240) rfl rfl rfl (by decide +kernel) ⟨Nat.le_of_ble_eq_true rfl, Nat.le_of_ble_eq_true rfl⟩) rfl hl.1 (Nat.le_of_ble_eq_true rfl) hcap dL_law_261 (fun wm H locs hmo hw => ?_) rfl
  exact lv_icmp_eq hx hb dL_law_264 (tgt := 341) (by decide) (fun _ => nx _ wx wm H locs hxo hmo hw) (fun q => absurd rfl q)
set_option maxHeartbeats 4000000 in
theorem lw_case7 (C : CX p s m #[Value.ref b] meth c code 4 ret R_law D (tyL cI cB cZ) A) (hX : va_X b L xs s s.heap) (hbl : b < s.heap.size) (hbA : ¬ A b) (hL : L ≤ 256) (hk : 4 * k + 4 ≤ L) (hxo : XOk cI cB h E wx) (hmo : MOk cI cZ g E wm) (hw : XH D A s.heap H locs (wx ++ wm)) (hl : lv_has ls 4 [(0, .ref b), (1, .ref (h 0)), (2, .ref (g 0)), (3, .int (nI (4 * k)))]) (hcap : cells ≤ room_1.cells ∧ slots ≤ room_1.slots) (nx : LN p l e s m below meth c cells slots Q ls D A cI cB cZ h g b) : W p l e room_1 s m #[Value.ref b] below meth c H locs cells slots Q (F0 m 269 ls []) := by
  obtain ⟨hx, hb, hr, hlk, hml, hown, hts, hK, hA⟩ := id C
  refine lv_aload_n hx hb dL_law_269 rfl (lv_at hl 1 rfl) ?_
  refine lv_aload_n hx hb dL_law_270 rfl (lv_at hl 0 rfl) ?_
  refine lv_iload_n hx hb dL_law_271 rfl (lv_at hl 3 rfl) ?_
  refine y_num hx hb 1 dL_law_272 rfl ?_
  refine y_add hx hb dL_law_273 ?_
  refine lw_ld (by omega) hL hx hb hX hbl hbA hw dL_law_274 ?_
  refine lw_cX (rest := []) [.int (xs (4 * k + 1))] C hxo hmo hw (fun hv => mx_forced l D hv (xs (4 * k + 1))) (cwV 1 hts (lw_V q148 q149 q150 q23 q151) rfl rfl rfl (by decide +kernel) ⟨Nat.le_of_ble_eq_true rfl, Nat.le_of_ble_eq_true rfl⟩) rfl hl.1 (Nat.le_of_ble_eq_true rfl) hcap dL_law_275 (fun wx H locs hxo hw => ?_) rfl
  refine lv_aload_n hx hb dL_law_278 rfl (lv_at hl 2 rfl) ?_
  refine lv_aload_n hx hb dL_law_279 rfl (lv_at hl 0 rfl) ?_
  refine lv_iload_n hx hb dL_law_280 rfl (lv_at hl 3 rfl) ?_
  refine y_num hx hb 1 dL_law_281 rfl ?_
  refine y_add hx hb dL_law_282 ?_
  refine lw_ld (by omega) hL hx hb hX hbl hbA hw dL_law_283 ?_
  refine lw_cM (rest := [.int _]) [.int (xs (4 * k + 1))] C hxo hmo hw (fun hE => ⟨_, mm_forced l D hE (xs (4 * k + 1)), fun _ _ q => q⟩) (cwV 1 hts (lw_V q245 q246 q247 q24 q248) rfl rfl rfl (by decide +kernel) ⟨Nat.le_of_ble_eq_true rfl, Nat.le_of_ble_eq_true rfl⟩) rfl hl.1 (Nat.le_of_ble_eq_true rfl) hcap dL_law_284 (fun wm H locs hmo hw => ?_) rfl
  exact lv_icmp_eq hx hb dL_law_287 (tgt := 341) (by decide) (fun _ => nx _ wx wm H locs hxo hmo hw) (fun q => absurd rfl q)
set_option maxHeartbeats 4000000 in
theorem lw_case8 (C : CX p s m #[Value.ref b] meth c code 4 ret R_law D (tyL cI cB cZ) A) (hX : va_X b L xs s s.heap) (hbl : b < s.heap.size) (hbA : ¬ A b) (hL : L ≤ 256) (hk : 4 * k + 4 ≤ L) (hxo : XOk cI cB h E wx) (hmo : MOk cI cZ g E wm) (hw : XH D A s.heap H locs (wx ++ wm)) (hl : lv_has ls 4 [(0, .ref b), (1, .ref (h 0)), (2, .ref (g 0)), (3, .int (nI (4 * k)))]) (hcap : cells ≤ room_1.cells ∧ slots ≤ room_1.slots) (nx : LN p l e s m below meth c cells slots Q ls D A cI cB cZ h g b) : W p l e room_1 s m #[Value.ref b] below meth c H locs cells slots Q (F0 m 292 ls []) := by
  obtain ⟨hx, hb, hr, hlk, hml, hown, hts, hK, hA⟩ := id C
  refine lv_aload_n hx hb dL_law_292 rfl (lv_at hl 1 rfl) ?_
  refine lw_cX (rest := []) [] C hxo hmo hw (fun hv => mx_blocks l D hv ) (cwV 0 hts (lw_V q156 q157 q158 q23 q159) rfl rfl rfl (by decide +kernel) ⟨Nat.le_of_ble_eq_true rfl, Nat.le_of_ble_eq_true rfl⟩) rfl hl.1 (Nat.le_of_ble_eq_true rfl) hcap dL_law_293 (fun wx H locs hxo hw => ?_) rfl
  refine lv_aload_n hx hb dL_law_296 rfl (lv_at hl 2 rfl) ?_
  refine lw_cM (rest := [.int _]) [] C hxo hmo hw (fun hE => ⟨_, mm_blocks l D hE , fun _ _ q => q⟩) (cwV 0 hts (lw_V q249 q250 q251 q24 q252) rfl rfl rfl (by decide +kernel) ⟨Nat.le_of_ble_eq_true rfl, Nat.le_of_ble_eq_true rfl⟩) rfl hl.1 (Nat.le_of_ble_eq_true rfl) hcap dL_law_297 (fun wm H locs hmo hw => ?_) rfl
  exact lv_icmp_eq hx hb dL_law_300 (tgt := 341) (by decide) (fun _ => nx _ wx wm H locs hxo hmo hw) (fun q => absurd rfl q)
set_option maxHeartbeats 4000000 in
theorem lw_case9 (C : CX p s m #[Value.ref b] meth c code 4 ret R_law D (tyL cI cB cZ) A) (hX : va_X b L xs s s.heap) (hbl : b < s.heap.size) (hbA : ¬ A b) (hL : L ≤ 256) (hk : 4 * k + 4 ≤ L) (hxo : XOk cI cB h E wx) (hmo : MOk cI cZ g E wm) (hw : XH D A s.heap H locs (wx ++ wm)) (hl : lv_has ls 4 [(0, .ref b), (1, .ref (h 0)), (2, .ref (g 0)), (3, .int (nI (4 * k)))]) (hcap : cells ≤ room_1.cells ∧ slots ≤ room_1.slots) (nx : LN p l e s m below meth c cells slots Q ls D A cI cB cZ h g b) : W p l e room_1 s m #[Value.ref b] below meth c H locs cells slots Q (F0 m 305 ls []) := by
  obtain ⟨hx, hb, hr, hlk, hml, hown, hts, hK, hA⟩ := id C
  refine lv_aload_n hx hb dL_law_305 rfl (lv_at hl 1 rfl) ?_
  refine lv_aload_n hx hb dL_law_306 rfl (lv_at hl 0 rfl) ?_
  refine lv_iload_n hx hb dL_law_307 rfl (lv_at hl 3 rfl) ?_
  refine y_num hx hb 1 dL_law_308 rfl ?_
  refine y_add hx hb dL_law_309 ?_
  refine lw_ld (by omega) hL hx hb hX hbl hbA hw dL_law_310 ?_
  refine lw_cX (rest := []) [.int (xs (4 * k + 1))] C hxo hmo hw (fun hv => mx_blockRows l D hv (xs (4 * k + 1))) (cwV 1 hts (lw_V q164 q165 q166 q23 q167) rfl rfl rfl (by decide +kernel) ⟨Nat.le_of_ble_eq_true rfl, Nat.le_of_ble_eq_true rfl⟩) rfl hl.1 (Nat.le_of_ble_eq_true rfl) hcap dL_law_311 (fun wx H locs hxo hw => ?_) rfl
  refine lv_aload_n hx hb dL_law_314 rfl (lv_at hl 2 rfl) ?_
  refine lv_aload_n hx hb dL_law_315 rfl (lv_at hl 0 rfl) ?_
  refine lv_iload_n hx hb dL_law_316 rfl (lv_at hl 3 rfl) ?_
  refine y_num hx hb 1 dL_law_317 rfl ?_
  refine y_add hx hb dL_law_318 ?_
  refine lw_ld (by omega) hL hx hb hX hbl hbA hw dL_law_319 ?_
  refine lw_cM (rest := [.int _]) [.int (xs (4 * k + 1))] C hxo hmo hw (fun hE => ⟨_, mm_blockRows l D hE (xs (4 * k + 1)), fun _ _ q => q⟩) (cwV 1 hts (lw_V q261 q262 q263 q24 q264) rfl rfl rfl (by decide +kernel) ⟨Nat.le_of_ble_eq_true rfl, Nat.le_of_ble_eq_true rfl⟩) rfl hl.1 (Nat.le_of_ble_eq_true rfl) hcap dL_law_320 (fun wm H locs hmo hw => ?_) rfl
  exact lv_icmp_eq hx hb dL_law_323 (tgt := 341) (by decide) (fun _ => nx _ wx wm H locs hxo hmo hw) (fun q => absurd rfl q)
set_option maxHeartbeats 4000000 in
theorem lw_case10 (C : CX p s m #[Value.ref b] meth c code 4 ret R_law D (tyL cI cB cZ) A) (hX : va_X b L xs s s.heap) (hbl : b < s.heap.size) (hbA : ¬ A b) (hL : L ≤ 256) (hk : 4 * k + 4 ≤ L) (hxo : XOk cI cB h E wx) (hmo : MOk cI cZ g E wm) (hw : XH D A s.heap H locs (wx ++ wm)) (hl : lv_has ls 4 [(0, .ref b), (1, .ref (h 0)), (2, .ref (g 0)), (3, .int (nI (4 * k)))]) (hcap : cells ≤ room_1.cells ∧ slots ≤ room_1.slots) (nx : LN p l e s m below meth c cells slots Q ls D A cI cB cZ h g b) : W p l e room_1 s m #[Value.ref b] below meth c H locs cells slots Q (F0 m 328 ls []) := by
  obtain ⟨hx, hb, hr, hlk, hml, hown, hts, hK, hA⟩ := id C
  refine lv_aload_n hx hb dL_law_328 rfl (lv_at hl 1 rfl) ?_
  refine lw_cX (rest := []) [] C hxo hmo hw (fun hv => mx_cover l D hv ) (cwV 0 hts (lw_V q168 q169 q170 q23 q171) rfl rfl rfl (by decide +kernel) ⟨Nat.le_of_ble_eq_true rfl, Nat.le_of_ble_eq_true rfl⟩) rfl hl.1 (Nat.le_of_ble_eq_true rfl) hcap dL_law_329 (fun wx H locs hxo hw => ?_) rfl
  refine lv_aload_n hx hb dL_law_332 rfl (lv_at hl 2 rfl) ?_
  refine lw_cM (rest := [.int _]) [] C hxo hmo hw (fun hE => ⟨_, mm_cover l D hE , fun _ _ q => q⟩) (cwV 0 hts (lw_V q265 q266 q267 q24 q268) rfl rfl rfl (by decide +kernel) ⟨Nat.le_of_ble_eq_true rfl, Nat.le_of_ble_eq_true rfl⟩) rfl hl.1 (Nat.le_of_ble_eq_true rfl) hcap dL_law_333 (fun wm H locs hmo hw => ?_) rfl
  exact lv_icmp_eq hx hb dL_law_336 (tgt := 341) (by decide) (fun _ => nx _ wx wm H locs hxo hmo hw) (fun q => absurd rfl q)
set_option maxHeartbeats 4000000 in
/-- one turn of the loop -/
theorem lw_turn (C : CX p s m #[Value.ref b] meth c code 4 ret R_law D (tyL cI cB cZ) A) (hX : va_X b L xs s s.heap) (hbl : b < s.heap.size) (hbA : ¬ A b) (hL : L ≤ 256) (hk : 4 * k + 4 ≤ L) (hxo : XOk cI cB h E wx) (hmo : MOk cI cZ g E wm) (hw : XH D A s.heap H locs (wx ++ wm)) (hl : lv_has ls 4 [(0, .ref b), (1, .ref (h 0)), (2, .ref (g 0)), (3, .int (nI (4 * k)))]) (hcap : cells ≤ room_1.cells ∧ slots ≤ room_1.slots) (nx : LN p l e s m below meth c cells slots Q ls D A cI cB cZ h g b) : W p l e room_1 s m #[Value.ref b] below meth c H locs cells slots Q (F0 m 26 ls []) := by
  obtain ⟨hx, hb, hr, hlk, hml, hown, hts, hK, hA⟩ := id C
  refine lv_aload_n hx hb dL_law_26 rfl (lv_at hl 0 rfl) ?_
  refine lv_iload_n hx hb dL_law_27 rfl (lv_at hl 3 rfl) ?_
  refine lw_ld (by omega) hL hx hb hX hbl hbA hw dL_law_28 ?_
  refine lv_bipush (v := 15) hx hb dL_law_29 rfl ?_
  refine lv_iand hx hb dL_law_31 ?_
  generalize xs (4 * k) &&& 15 = v
  by_cases ho : v.toInt < 0 ∨ 10 < v.toInt
  · refine lv_tableOut hx hb dL_law_32 ho (tgt := 341) (by decide) ?_
    exact nx _ wx wm H locs hxo hmo hw
  · rcases (show v.toInt = 0 ∨ v.toInt = 1 ∨ v.toInt = 2 ∨ v.toInt = 3 ∨ v.toInt = 4 ∨ v.toInt = 5 ∨ v.toInt = 6 ∨ v.toInt = 7 ∨ v.toInt = 8 ∨ v.toInt = 9 ∨ v.toInt = 10 by omega) with hv | hv | hv | hv | hv | hv | hv | hv | hv | hv | hv
    · exact lv_tableIn hx hb dL_law_32 (by rw [hv]; decide) (by rw [hv]; decide) (off := 60) (by rw [hv]; rfl) (tgt := 92) (by decide) (lw_case0 C hX hbl hbA hL hk hxo hmo hw hl hcap nx)
    · exact lv_tableIn hx hb dL_law_32 (by rw [hv]; decide) (by rw [hv]; decide) (off := 119) (by rw [hv]; rfl) (tgt := 151) (by decide) (lw_case1 C hX hbl hbA hL hk hxo hmo hw hl hcap nx)
    · exact lv_tableIn hx hb dL_law_32 (by rw [hv]; decide) (by rw [hv]; decide) (off := 152) (by rw [hv]; rfl) (tgt := 184) (by decide) (lw_case2 C hX hbl hbA hL hk hxo hmo hw hl hcap nx)
    · exact lv_tableIn hx hb dL_law_32 (by rw [hv]; decide) (by rw [hv]; decide) (off := 175) (by rw [hv]; rfl) (tgt := 207) (by decide) (lw_case3 C hX hbl hbA hL hk hxo hmo hw hl hcap nx)
    · exact lv_tableIn hx hb dL_law_32 (by rw [hv]; decide) (by rw [hv]; decide) (off := 188) (by rw [hv]; rfl) (tgt := 220) (by decide) (lw_case4 C hX hbl hbA hL hk hxo hmo hw hl hcap nx)
    · exact lv_tableIn hx hb dL_law_32 (by rw [hv]; decide) (by rw [hv]; decide) (off := 201) (by rw [hv]; rfl) (tgt := 233) (by decide) (lw_case5 C hX hbl hbA hL hk hxo hmo hw hl hcap nx)
    · exact lv_tableIn hx hb dL_law_32 (by rw [hv]; decide) (by rw [hv]; decide) (off := 214) (by rw [hv]; rfl) (tgt := 246) (by decide) (lw_case6 C hX hbl hbA hL hk hxo hmo hw hl hcap nx)
    · exact lv_tableIn hx hb dL_law_32 (by rw [hv]; decide) (by rw [hv]; decide) (off := 237) (by rw [hv]; rfl) (tgt := 269) (by decide) (lw_case7 C hX hbl hbA hL hk hxo hmo hw hl hcap nx)
    · exact lv_tableIn hx hb dL_law_32 (by rw [hv]; decide) (by rw [hv]; decide) (off := 260) (by rw [hv]; rfl) (tgt := 292) (by decide) (lw_case8 C hX hbl hbA hL hk hxo hmo hw hl hcap nx)
    · exact lv_tableIn hx hb dL_law_32 (by rw [hv]; decide) (by rw [hv]; decide) (off := 273) (by rw [hv]; rfl) (tgt := 305) (by decide) (lw_case9 C hX hbl hbA hL hk hxo hmo hw hl hcap nx)
    · exact lv_tableIn hx hb dL_law_32 (by rw [hv]; decide) (by rw [hv]; decide) (off := 296) (by rw [hv]; rfl) (tgt := 328) (by decide) (lw_case10 C hX hbl hbA hL hk hxo hmo hw hl hcap nx)
end LAW
set_option maxHeartbeats 4000000 in
/-- the law's loop, from its head: i = 4 k -/
theorem lw_loop {p : Program} {l : Launch} {e : Env} {s : State} {m : MethodId} {below : List Frame} {meth : Method} {c : Code} {H : Heap} {locs : List Loc} {ls : Array Slot} {D : va_G} {A : Nat → Prop} {cI cB cZ : ClassId} {h g : Nat → Nat} {b L : Nat} {xs : Nat → Int32} {wx wm : va_W} (C : CX p s m #[Value.ref b] meth c code 4 ret R_law D (tyL cI cB cZ) A) (hX : va_X b L xs s s.heap) (hbl : b < s.heap.size) (hbA : ¬ A b) (hAs : ∀ q, A q → s.heap.size ≤ q) (hL : L ≤ 256) (hxo : XOk cI cB h (fun _ => 0) wx) (hmo : MOk cI cZ g (fun _ => 0) wm) (hw : XH D A s.heap H locs (wx ++ wm)) (hl : lv_has ls 4 [(0, .ref b), (1, .ref (h 0)), (2, .ref (g 0)), (3, .int (nI 0))]) :
    W p l e room_1 s m #[Value.ref b] below meth c H locs 13 335 (lw_Z below #[Value.ref b] s) (F0 m 18 ls []) := by
  obtain ⟨hx, hb, hr, hlk, hml, hown, hts, hK, hA⟩ := id C
  refine wl_for (L / 4) (fun k H locs ls => ∃ (E : Nat → Nat) (wx wm : va_W), XOk cI cB h E wx ∧ MOk cI cZ g E wm ∧ XH D A s.heap H locs (wx ++ wm) ∧ lv_has ls 4 [(0, .ref b), (1, .ref (h 0)), (2, .ref (g 0)), (3, .int (nI (4 * k)))]) ?_ ?_ 0 (Nat.zero_le _) _ _ _ ⟨_, wx, wm, hxo, hmo, hw, hl⟩
  · intro k hk H locs ls hI ih
    obtain ⟨E, wx, wm, hxo, hmo, hw, hl⟩ := hI
    refine lv_iload_n hx hb dL_law_18 rfl (lv_at hl 3 rfl) ?_
    refine lv_aload_n hx hb dL_law_19 rfl (lv_at hl 0 rfl) ?_
    refine va_slen hx hb hX hbl hbA hw.2.2 dL_law_20 ?_
    refine lv_iconst (v := 4) hx hb dL_law_21 (by decide) ?_
    refine lv_isub hx hb dL_law_22 ?_
    refine lv_icmp_gt hx hb dL_law_23 (tgt := 347) (by decide) (fun q => absurd ((lw_gt hL (by omega)).mp q) (by omega)) (fun _ => ?_)
    refine lw_turn C hX hbl hbA hL (k := k) (by omega) hxo hmo hw hl ⟨Nat.le_of_ble_eq_true rfl, Nat.le_of_ble_eq_true rfl⟩ (fun E wx wm H locs hxo hmo hw => ?_)
    refine lv_iinc (v := nI (4 * (k + 1))) (lv' := [(3, .int (nI (4 * (k + 1)))), (0, .ref b), (1, .ref (h 0)), (2, .ref (g 0))]) hx hb dL_law_341 hl (k := 3) rfl (lw_i4 _) (by decide) rfl (fun ls hl => ?_)
    refine lv_goto (tgt := 18) hx hb dL_law_344 (by decide) ?_
    exact ih _ _ _ ⟨E, wx, wm, hxo, hmo, hw, lv_sub hl [1, 2, 3, 0] rfl⟩
  · intro H locs ls hI
    obtain ⟨E, wx, wm, hxo, hmo, hw, hl⟩ := hI
    refine lv_iload_n hx hb dL_law_18 rfl (lv_at hl 3 rfl) ?_
    refine lv_aload_n hx hb dL_law_19 rfl (lv_at hl 0 rfl) ?_
    refine va_slen hx hb hX hbl hbA hw.2.2 dL_law_20 ?_
    refine lv_iconst (v := 4) hx hb dL_law_21 (by decide) ?_
    refine lv_isub hx hb dL_law_22 ?_
    refine lv_icmp_gt hx hb dL_law_23 (tgt := 347) (by decide) (fun _ => ?_) (fun q => absurd ((lw_gt hL (by omega)).mpr (by omega)) q)
    refine lv_iconst (v := 1) hx hb dL_law_347 (by decide) ?_
    refine va_forget (fun q hq => hAs _ (hw.2.2.2.2 q hq)) ?_
    refine W.widen (k := 600000) (n := 7290000) (Nat.le_of_ble_eq_true rfl) (Nat.le_of_ble_eq_true rfl) ?_
    exact lw_ret hx hb hr hlk dL_law_348
set_option maxHeartbeats 4000000 in
/-- THE LAW, from its entry -/
theorem whole_start {p : Program} {e : Env} {s : State} {m : MethodId} {below : List Frame} {meth : Method} {c : Code} (l : Launch) {b L : Nat} {xs : Nat → Int32} (hL : L ≤ 256) (C0 : lw_At p s m meth c b L xs) : W p l e room_1 s m #[Value.ref b] below meth c s.heap [] 0 0 (lw_Z below #[Value.ref b] s) (entryFrame m ([Value.ref b] : List Value).toArray 4) := by
  obtain ⟨hx, hb, hr, hml, hown, hts0, hX, hbl, hlocks, hgv⟩ := id C0
  have hts : ∀ w ∈ lw_all, w.before #[Value.ref b] s = true := fun w h => hts0 w (lw_all_tbl h)
  have hA : ∀ q : Nat, s.heap.size ≤ q → (fun q : Nat => s.heap.size ≤ q) q := fun _ h => h
  have hbA : ¬ (fun q : Nat => s.heap.size ≤ q) b := Nat.not_le.mpr hbl
  obtain ⟨c0, iS0, hKn0⟩ := u_known (C := RX0) (T := TX0) (N := 12) (n := 12) hts in_X0 (hts _ q26)
  obtain ⟨c1, iS1, hKn1⟩ := u_known (C := RX1) (T := TX1) (N := 4) (n := 4) hts in_X1 (hts _ q173)
  obtain ⟨cI, aI, nI_⟩ := lw_arr (hts _ q70)
  obtain ⟨cB, aB, nB_⟩ := lw_arr (hts _ q71)
  obtain ⟨cZ, aZ, nZ_⟩ := lw_arr (hts _ q191)
  obtain ⟨D, hKc⟩ : ∃ D : va_G, ∀ (k : Nat) (q : vw_C), vwCl[k]? = some q → u_Kn s q.1 q.2.1 q.2.2 (D.1 k) (D.2 k) := by
    refine ⟨(fun k => if k = 0 then c0 else c1, fun k => if k = 0 then iS0 else iS1), ?_⟩
    intro k q hq
    match k, hq with
    | 0, hq => cases hq; exact hKn0
    | 1, hq => cases hq; exact hKn1
    | k + 2, hq => simp [vwCl] at hq
  have hK : va_K D vwCl (tyL cI cB cZ) s := by
    refine ⟨hKc, fun k q h => ?_⟩
    match k, h with
    | 0, h => cases h; exact ⟨aI, nI_⟩
    | 1, h => cases h; exact ⟨aB, nB_⟩
    | 2, h => cases h; exact ⟨aZ, nZ_⟩
    | k + 3, h => simp [tyL] at h
  have C : CX p s m #[Value.ref b] meth c code 4 ret R_law D (tyL cI cB cZ) (fun q : Nat => s.heap.size ≤ q) := ⟨hx, hb, hr, hlocks, hml, hown, hts, hK, hA⟩
  have hS : va_S (fun q : Nat => s.heap.size ≤ q) s.heap s.heap [] := va_S.rf
  have hP : va_P D vwCl [] s.heap := fun k q h => by simp at h
  have hD : va_D (fun q : Nat => s.heap.size ≤ q) [] := ⟨fun i j p q h => by simp at h, fun k q h => by simp at h⟩
  have hl := lv_entry ([.ref b]) (n := 4) (Nat.le_of_ble_eq_true rfl)
  rw [lg_entry_eq]
  generalize (lg_sl ([.ref b]) ++ List.replicate (4 - (lg_sl ([.ref b])).length) Slot.unset).toArray = ls at hl ⊢
  have hl : lv_has ls 4 [(0, .ref b)] := hl
  refine va_new (ci := 0) (fs := xF0) (C := RX0) (T := TX0) (N := 12) hx hb hts in_X0 tyX0 tyX0_ok hown (hts _ q25) (hts _ q26) (hts _ q23) hK hP hD hS hA rfl (fun j hj => by rcases (show j = 0 ∨ j = 1 ∨ j = 2 ∨ j = 3 ∨ j = 4 ∨ j = 5 ∨ j = 6 ∨ j = 7 ∨ j = 8 ∨ j = 9 ∨ j = 10 ∨ j = 11 by omega) with rfl | rfl | rfl | rfl | rfl | rfl | rfl | rfl | rfl | rfl | rfl | rfl <;> rfl) (Nat.le_of_ble_eq_true rfl) (Nat.le_of_ble_eq_true rfl) dL_law_0 (fun a1 H hP hD hS => ?_)
  have hw : XH D (fun q : Nat => s.heap.size ≤ q) s.heap H [] [(a1, .inr (0, xF0))] := ⟨hP, hD, hS⟩
  refine W.widen (k := 1) (n := 12) (by omega) (by omega) ?_
  refine lv_dup hx hb dL_law_3 rfl ?_
  refine y_ctor (wr := []) [0] [] C hw (mx_init l D a1) (cwI 0 hts (lw_meth q29) rfl rfl rfl (hts _ q23) (hts _ q27) (hts _ q28) rfl (by decide +kernel) ⟨Nat.le_of_ble_eq_true rfl, Nat.le_of_ble_eq_true rfl⟩) rfl rfl rfl (by decide) (by decide) (by decide) hl.1 (Nat.le_of_ble_eq_true rfl) ⟨Nat.le_of_ble_eq_true rfl, Nat.le_of_ble_eq_true rfl⟩ dL_law_4 (fun wx H locs hp hwx => ?_)
  obtain ⟨h, e0, hxo⟩ := hp
  subst e0
  refine W.widen (k := 8) (n := 61) (by omega) (by omega) ?_
  refine lv_astore_n (lv' := [(1, .ref (h 0)), (0, .ref b)]) hx hb dL_law_7 rfl hl (by decide) rfl (fun ls hl => ?_)
  refine va_new (ci := 1) (fs := mF0) (C := RX1) (T := TX1) (N := 4) hx hb hts in_X1 tyX1 tyX1_ok hown (hts _ q172) (hts _ q173) (hts _ q24) hK hwx.1 hwx.2.1 hwx.2.2 hA rfl (fun j hj => by rcases (show j = 0 ∨ j = 1 ∨ j = 2 ∨ j = 3 by omega) with rfl | rfl | rfl | rfl <;> rfl) (Nat.le_of_ble_eq_true rfl) (Nat.le_of_ble_eq_true rfl) dL_law_8 (fun a2 H hP hD hS => ?_)
  obtain ⟨rdy, pr, pk, qu, cf, rr, cr, rc, ck, re, us, rfl, hv⟩ := hxo
  have hw : XH D (fun q : Nat => s.heap.size ≤ q) s.heap H locs (xW cI cB h rdy (fun _ => 0) pr pk qu cf rr cr rc ck re us ++ [(a2, .inr (1, mF0))]) := ⟨hP, hD, hS⟩
  have hxo : XOk cI cB h (fun _ => 0) (xW cI cB h rdy (fun _ => 0) pr pk qu cf rr cr rc ck re us) := ⟨rdy, pr, pk, qu, cf, rr, cr, rc, ck, re, us, rfl, hv⟩
  refine W.widen (k := 9) (n := 65) (by omega) (by omega) ?_
  refine lv_dup hx hb dL_law_11 rfl ?_
  refine y_ctor (wr := xW cI cB h rdy (fun _ => 0) pr pk qu cf rr cr rc ck re us) [8] [0, 1, 2, 3, 4, 5, 6, 7] C hw (mm_init l D a2) (cwI 0 hts (lw_meth q176) rfl rfl rfl (hts _ q24) (hts _ q174) (hts _ q175) rfl (by decide +kernel) ⟨Nat.le_of_ble_eq_true rfl, Nat.le_of_ble_eq_true rfl⟩) rfl rfl rfl (by decide) (by decide) (by decide) hl.1 (Nat.le_of_ble_eq_true rfl) ⟨Nat.le_of_ble_eq_true rfl, Nat.le_of_ble_eq_true rfl⟩ dL_law_12 (fun wm H locs hp hwm => ?_)
  obtain ⟨g, e0, hmo⟩ := hp
  subst e0
  refine W.widen (k := 13) (n := 335) (by omega) (by omega) ?_
  refine lv_astore_n (lv' := [(2, .ref (g 0)), (1, .ref (h 0)), (0, .ref b)]) hx hb dL_law_15 rfl hl (by decide) rfl (fun ls hl => ?_)
  refine lv_iconst (v := nI 0) hx hb dL_law_16 (by decide) ?_
  refine lv_istore_n (lv' := [(3, .int (nI 0)), (2, .ref (g 0)), (1, .ref (h 0)), (0, .ref b)]) hx hb dL_law_17 rfl hl (by decide) rfl (fun ls hl => ?_)
  exact lw_loop C hX hbl hbA (fun _ h => h) hL hxo hmo hwm (lv_sub hl [3, 2, 1, 0] rfl)
end
section
/-! THE CLAIM (the end of the kit's skeleton) -/
set_option maxRecDepth 100000
set_option maxHeartbeats 4000000 in
theorem lw_walk (l : Launch) (b : Addr) (xs : List Int32) : MetFree l x (headSpec (Jvm.Cond.code x code maxLocals ret :: tables_1) room_1) (lw_P b xs) (fun _ _ _ _ _ => True) lw_Q := by
  refine MetFree.of_bodyS (code := code) (maxLocals := maxLocals) (ret := ret) (by decide) ?_ ?_
  · intro args s m h hn
    obtain ⟨meth, c, h1, h2, h3, h4, h5, h6, -, -⟩ := Cond.code_spec hn (atoms_spec (ws := Jvm.Cond.code x code maxLocals ret :: tables_1) h _ List.mem_cons_self)
    exact ⟨meth, c, h1, h2, h3, h4, h5, h6⟩
  · intro p e s m args below meth c s₁ B hml0 hP _
    obtain ⟨rfl, hx, hbd, hgv⟩ := hP
    obtain ⟨scr, harrAt, hlist, hof, hsmall⟩ := hx
    obtain ⟨hcb, hkn, -, -⟩ := State.arrayAt?_spec harrAt
    have hown : s.vm.findClass R_law = some m.cls := findClass_of_methodNamed B.named
    have hts0 : ∀ c ∈ (Jvm.Cond.code x code maxLocals ret :: tables_1), c.before #[Value.ref b] s = true := atoms_spec (ws := Jvm.Cond.code x code maxLocals ret :: tables_1) B.pre
    have hts : ∀ w ∈ lw_tbl, w.before #[Value.ref b] s = true := k2_hts_sels lw_privs (fun w hw => hts0 w (List.mem_cons_of_mem _ hw)) lw_privs_ok
    have hml : c.maxLocals = 4 := B.maxLocals_eq (hts0 _ List.mem_cons_self)
    have X₀ : Stand p l e room_1 s m #[Value.ref b] below meth c s₁ [] 0 0 := Stand.of_body B
    have hh0 : s₁.heap = s.heap := by rw [B.state]; rfl
    have hsz : scr.slots.size = xs.length := by rw [← Array.length_toList, hlist, List.length_map]
    have hval : ∀ j : Nat, j < xs.length → scr.slots[j]? = some (.int (xs.getD j 0)) := fun j hj => by
      rw [← Array.getElem?_toList, hlist]
      simp [hj]
    have hbl : b < s.heap.size := (Array.getElem?_eq_some_iff.mp hcb).1
    have hX : va_X b xs.length (fun j => xs.getD j 0) s s.heap := ⟨scr, hcb, hof, hkn, hsz, hval⟩
    have K : W p l e room_1 s m #[Value.ref b] below meth c s₁.heap [] 0 0 (lw_Z below #[Value.ref b] s) (entryFrame m ([Value.ref b] : List Value).toArray 4) := by
      rw [hh0]
      exact whole_start l hbd ⟨B.exec, B.bytes, B.returns, hml, hown, hts, hX, hbl, B.notSynchronized, hgv⟩
    obtain ⟨t, a1, o, b1, b2, b3⟩ := K s₁ rfl X₀
    exact ⟨t, o, a1, b1, b2, b3⟩
theorem lw_pre_spec {args : Array Value} {s : State} (h : (Jvm.Cond.and given_1 narrow_1).before args s = true) (hr : rest_1_c.before args s = true) : ∃ (b : Addr) (xs : List Int32), lw_P b xs args s := by
  have hs := flat_of_before _ h
  have hq := flat_of_before _ hr
  have hc : (Cond.count 1).before args s = true := hs _ (by decide +kernel)
  have harr : (Cond.arrayOf (.arg 0) .int).before args s = true := hs _ (by decide +kernel)
  have hle : (Cond.le (.length (.arg 0)) (.int 256)).before args s = true := hs _ (by decide +kernel)
  have hlen : (Cond.isInt (.length (.arg 0))).before args s = true := hq _ (by decide +kernel)
  have hall : (Cond.all (.arg 0) (.isInt (.elem (.arg 0) (.index 0)))).before args s = true := hq _ (by decide +kernel)
  obtain ⟨b, xs, hb, hx⟩ := State.ints_of_pre rfl harr hlen hall
  have hsm : xs.length < 2 ^ 31 := hx.choose_spec.2.2.2
  have hev : (Term.length (.arg 0)).eval args s none [] s = some (.int xs.length.toInt32) := hx.length_eval hb
  have hv := Cond.le_ints hev (show (Term.int 256).eval args s none [] s = some (.int 256) from rfl)
  have hd : xs.length.toInt32 ≤ 256 := by
    simpa [Cond.before, Cond.holds, hv] using hle
  have hN : xs.length ≤ 256 := (Int32.ofNat_le_ofNat hsm (by decide)).mp (show Int32.ofNat xs.length ≤ Int32.ofNat 256 from hd)
  exact ⟨b, xs, Cond.one_arg hc (show args[0]? = some (.ref b) from hb), hx, hN, h⟩
theorem lw_comes (l : Launch) : Comes l x (Jvm.Cond.code x code maxLocals ret :: tables_1) room_1 (fun tb e args s => Calls_1 tb e args s ∧ rest_1 tb e args s ∧ Pre_1 tb e args s)
    (fun _ _ args s o t => lw_Q args s o t) := by
  intro p e ha hc hk s m args below hf hfit hheap happ hpre
  obtain ⟨b, xs, hP⟩ := lw_pre_spec hpre.2.2 hpre.2.1
  obtain ⟨k, o, h1, h2, h3, hQ⟩ := lw_walk l b xs p e ha hc hk s m args below hf ((Spec.applies_iff_loose hf).mp happ).1 hP trivial
  exact ⟨k, o, h1, h2, h3, hQ⟩
theorem lw_frame {s t : State} {o : Outcome} {args : Array Value} (h : Framed s o t [] 600000 7290000) :
    Framed s o t (fieldLocs frame_1_writes args s ++ arrayLocs frame_1_arrays args s ++ staticLocs frame_1_statics s) 600000 7290000 := h
theorem lw_limb (L : Cond) (hL : ∀ (args : Array Value) (s t : State), L.after args s (.returned (some (.int 1))) t = true) :
    ArmFor flags0 classFile x code maxLocals ret World_1 tables_1 room_1 Calls_1 rest_1 Pre_1
      (fun tb e a s o t => postC L tb e a s o t ∧ Framed s o t (fieldLocs frame_1_writes a s ++ arrayLocs frame_1_arrays a s ++ staticLocs frame_1_statics s) 600000 7290000) := by
  intro l _ _ _ p e ha hc hk s m args below hf hfit hheap happ hpre
  obtain ⟨k, o, h1, h2, h3, rfl, hF⟩ := lw_comes l p e ha hc hk s m args below hf hfit hheap happ hpre
  exact ⟨k, _, h1, h2, h3, hL args s _, lw_frame hF⟩
theorem i_vc : Claimed_1_1 ∧ Claimed_1_2 := ⟨lw_limb limb_1_1 (fun args s t => by simp [limb_1_1, Cond.after, Cond.holds, Cond.value]), lw_limb limb_1_2 (fun args s t => Cond.after_iff.mpr (by
  first | (rw [show limb_1_2 = Cond.eq .result (.int 1) from rfl, Cond.eq_ints (x := 1) (y := 1) rfl rfl]; simp; done) | (simp [limb_1_2, Cond.value, Term.eval]; done)))⟩
end
