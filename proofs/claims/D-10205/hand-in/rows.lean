section
/-! sums below n -/
def ip_S (f : Nat → Nat) : Nat → Nat
  | 0 => 0
  | n + 1 => ip_S f n + f n
theorem ip_S_0 (f : Nat → Nat) : ip_S f 0 = 0 := rfl
theorem ip_S_s (f : Nat → Nat) (n : Nat) : ip_S f (n + 1) = ip_S f n + f n := rfl
theorem ip_S_le {f g : Nat → Nat} : ∀ {n : Nat}, (∀ c, c < n → f c ≤ g c) → ip_S f n ≤ ip_S g n := by
  intro n
  induction n with
  | zero => intro _; exact Nat.le_refl _
  | succ n ih =>
    intro h
    have h1 := ih (fun c hc => h c (by omega))
    have h2 := h n (by omega)
    rw [ip_S_s, ip_S_s]
    omega
theorem ip_S_congr {f g : Nat → Nat} {n : Nat} (h : ∀ c, c < n → f c = g c) : ip_S f n = ip_S g n :=
  Nat.le_antisymm (ip_S_le (fun c hc => Nat.le_of_eq (h c hc))) (ip_S_le (fun c hc => Nat.le_of_eq (h c hc).symm))
theorem ip_S_lt {f g : Nat → Nat} {c : Nat} : ∀ {n : Nat}, (∀ c, c < n → f c ≤ g c) → c < n → f c < g c → ip_S f n < ip_S g n := by
  intro n
  induction n with
  | zero => intro _ h; omega
  | succ n ih =>
    intro h hc hlt
    rw [ip_S_s, ip_S_s]
    by_cases e : c = n
    · subst e
      have h1 : ip_S f c ≤ ip_S g c := ip_S_le (fun d hd => h d (by omega))
      omega
    · have h1 := ih (fun d hd => h d (by omega)) (by omega) hlt
      have h2 := h n (by omega)
      omega
theorem ip_S_ex {f g : Nat → Nat} {n c : Nat} (hs : ip_S f n ≤ ip_S g n) (hc : c < n) (h : g c < f c) : ∃ d, d < n ∧ f d < g d := by
  apply Classical.byContradiction
  intro hn
  have h1 : ∀ d, d < n → g d ≤ f d := fun d hd => by
    rcases Nat.lt_or_ge (f d) (g d) with z | z
    · exact absurd ⟨d, hd, z⟩ hn
    · exact z
  have h2 := ip_S_lt h1 hc h
  omega
theorem ip_S_ex' {f g : Nat → Nat} {n : Nat} (hs : ip_S f n < ip_S g n) : ∃ d, d < n ∧ f d < g d := by
  apply Classical.byContradiction
  intro hn
  have h1 : ∀ d, d < n → g d ≤ f d := fun d hd => by
    rcases Nat.lt_or_ge (f d) (g d) with z | z
    · exact absurd ⟨d, hd, z⟩ hn
    · exact z
  have h2 := ip_S_le h1
  omega
theorem ip_S_add (f g : Nat → Nat) (n : Nat) : ip_S (fun c => f c + g c) n = ip_S f n + ip_S g n := by
  induction n with
  | zero => rfl
  | succ n ih =>
    rw [ip_S_s, ip_S_s, ip_S_s, ih]
    omega
theorem ip_S_mul (k : Nat) (f : Nat → Nat) (n : Nat) : ip_S (fun c => k * f c) n = k * ip_S f n := by
  induction n with
  | zero => rfl
  | succ n ih =>
    rw [ip_S_s, ip_S_s, ih, Nat.mul_add]
theorem ip_S_bd {f : Nat → Nat} {k : Nat} : ∀ {n : Nat}, (∀ c, c < n → f c ≤ k) → ip_S f n ≤ n * k := by
  intro n
  induction n with
  | zero => intro _; exact Nat.zero_le _
  | succ n ih =>
    intro h
    have h1 := ih (fun c hc => h c (by omega))
    have h2 := h n (by omega)
    rw [ip_S_s, Nat.succ_mul]
    omega
theorem ip_S_zero {f : Nat → Nat} {n : Nat} (h : ∀ c, c < n → f c = 0) : ip_S f n = 0 := by
  have h1 : ip_S f n ≤ n * 0 := ip_S_bd (fun c hc => Nat.le_of_eq (h c hc))
  omega
theorem ip_S_zero' {f : Nat → Nat} {n c : Nat} (h : ip_S f n = 0) (hc : c < n) : f c = 0 := by
  apply Classical.byContradiction
  intro hn
  have h1 : ip_S (fun _ => 0) n < ip_S f n := ip_S_lt (f := fun _ => 0) (fun d _ => Nat.zero_le _) hc (Nat.pos_of_ne_zero hn)
  omega
theorem ip_S_one {f g : Nat → Nat} {n c : Nat} (h : ∀ c, c < n → f c ≤ g c) (hs : ip_S g n ≤ ip_S f n + 1) (hc : c < n) : g c ≤ f c + 1 := by
  apply Classical.byContradiction
  intro hn
  have h1 : ip_S (fun d => f d + (if d = c then 2 else 0)) n ≤ ip_S g n := ip_S_le (fun d hd => by
    show f d + (if d = c then 2 else 0) ≤ g d
    by_cases e : d = c
    · rw [if_pos e, e]; omega
    · rw [if_neg e]; exact h d hd)
  have h3 : ∀ m, c < m → ip_S (fun d => if d = c then 2 else 0) m = 2 := by
    intro m
    induction m with
    | zero => intro h; omega
    | succ m ih =>
      intro hm
      rw [ip_S_s]
      by_cases e : m = c
      · rw [if_pos e, ip_S_zero (fun d hd => if_neg (by omega))]
      · rw [if_neg e, ih (by omega)]
  rw [ip_S_add, h3 n hc] at h1
  omega
/-- the place of the least member, or none -/
theorem ip_S_min {f g : Nat → Nat} {n : Nat} (h : ∀ c, c < n → f c ≤ g c) : ip_S f n = ip_S g n → ∀ c, c < n → f c = g c := by
  intro hs c hc
  rcases Nat.lt_or_ge (f c) (g c) with z | z
  · have := ip_S_lt h hc z
    omega
  · have := h c hc
    omega

/-! units in an order: R c j d k: unit j of c goes ahead of unit k of d -/
def ip_T (R : Nat → Nat → Nat → Nat → Prop) (l g : Nat → Nat) (n : Nat) : Prop :=
  ∀ c d, c < n → d < n → c ≠ d → 0 < g c → g d < l d → R c (g c) d (g d + 1)
def ip_X (R : Nat → Nat → Nat → Nat → Prop) : Prop :=
  ∀ c d i i' j j', i ≤ i' → j ≤ j' → R c i' d j → R d j' c i → False
theorem ip_mono {R : Nat → Nat → Nat → Nat → Prop} {l g g' : Nat → Nat} {n : Nat} (hX : ip_X R) (hT : ip_T R l g n) (hT' : ip_T R l g' n)
    (hg : ∀ c, c < n → g c ≤ l c) (hg' : ∀ c, c < n → g' c ≤ l c) (hs : ip_S g n ≤ ip_S g' n) : ∀ c, c < n → g c ≤ g' c := by
  intro c hc
  rcases Nat.lt_or_ge (g' c) (g c) with z | z
  · obtain ⟨d, hd, hdg⟩ := ip_S_ex hs hc z
    have hne : c ≠ d := fun e => by rw [e] at z; omega
    have b1 := hg c hc
    have b2 := hg' d hd
    have h1 := hT c d hc hd hne (by omega) (by omega)
    have h2 := hT' d c hd hc (fun e => hne e.symm) (by omega) (by omega)
    exact (hX c d (g' c + 1) (g c) (g d + 1) (g' d) (by omega) (by omega) h1 h2).elim
  · exact z
theorem ip_uniq {R : Nat → Nat → Nat → Nat → Prop} {l g g' : Nat → Nat} {n : Nat} (hX : ip_X R) (hT : ip_T R l g n) (hT' : ip_T R l g' n)
    (hg : ∀ c, c < n → g c ≤ l c) (hg' : ∀ c, c < n → g' c ≤ l c) (hs : ip_S g n = ip_S g' n) : ∀ c, c < n → g c = g' c :=
  fun c hc => Nat.le_antisymm (ip_mono hX hT hT' hg hg' (Nat.le_of_eq hs) c hc) (ip_mono hX hT' hT hg' hg (Nat.le_of_eq hs.symm) c hc)
def ip_Re (c j d k : Nat) : Prop := j < k ∨ (j = k ∧ c < d)
def ip_Rl (l : Nat → Nat) (c j d k : Nat) : Prop := l d + j < l c + k ∨ (l d + j = l c + k ∧ c < d)
def ip_Rq (l : Nat → Nat) (c j d k : Nat) : Prop := l d * j < l c * k ∨ (l d * j = l c * k ∧ c < d)
theorem ip_Xe : ip_X ip_Re := by
  intro c d i i' j j' h1 h2 h3 h4
  unfold ip_Re at h3 h4
  omega
theorem ip_Xl (l : Nat → Nat) : ip_X (ip_Rl l) := by
  intro c d i i' j j' h1 h2 h3 h4
  unfold ip_Rl at h3 h4
  omega
theorem ip_Xq (l : Nat → Nat) : ip_X (ip_Rq l) := by
  intro c d i i' j j' h1 h2 h3 h4
  unfold ip_Rq at h3 h4
  have e1 : l d * i ≤ l d * i' := Nat.mul_le_mul_left _ h1
  have e2 : l c * j ≤ l c * j' := Nat.mul_le_mul_left _ h2
  omega
theorem ip_Tl_congr {l l' b : Nat → Nat} {n : Nat} (h : ∀ c, c < n → l c = l' c) (hT : ip_T (ip_Rl l) l b n) : ip_T (ip_Rl l') l' b n := by
  intro c d hc hd hne h1 h2
  have h3 := hT c d hc hd hne h1 (by rw [h d hd]; exact h2)
  unfold ip_Rl at h3 ⊢
  rw [h c hc, h d hd] at h3
  exact h3

/-! what one rank gets -/
def ip_H (l : Nat → Nat) : Nat → Nat := fun c => (l c + 1) / 2
def ip_D (l a : Nat → Nat) : Nat → Nat := fun c => l c - a c
def ip_HV (l : Nat → Nat) (n u : Nat) (g a b : Nat → Nat) : Prop :=
  (∀ c, c < n → g c = a c + b c) ∧ (∀ c, c < n → a c ≤ ip_H l c) ∧ (∀ c, c < n → b c ≤ ip_D l a c) ∧ ip_S a n = min u ((ip_S l n + 1) / 2) ∧
    ip_T ip_Re (ip_H l) a n ∧ ip_T (ip_Rl (ip_D l a)) (ip_D l a) b n
def ip_RK (ρ : Nat) (l : Nat → Nat) (n u : Nat) (g : Nat → Nat) : Prop :=
  (∀ c, c < n → g c ≤ l c) ∧ ip_S g n = u ∧ (ρ = 0 → ip_T ip_Re l g n) ∧ (ρ = 1 → ip_T (ip_Rl l) l g n) ∧ (ρ = 2 → ip_T (ip_Rq l) l g n) ∧
    (2 < ρ → ∃ a b, ip_HV l n u g a b)
theorem ip_RK_mono {ρ : Nat} {l : Nat → Nat} {n u u' : Nat} {g g' : Nat → Nat} (h : ip_RK ρ l n u g) (h' : ip_RK ρ l n u' g') (hu : u ≤ u') : ∀ c, c < n → g c ≤ g' c := by
  obtain ⟨b1, s1, e0, e1, e2, e3⟩ := h
  obtain ⟨b1', s1', e0', e1', e2', e3'⟩ := h'
  have hs : ip_S g n ≤ ip_S g' n := by omega
  by_cases c0 : ρ = 0
  · exact ip_mono ip_Xe (e0 c0) (e0' c0) b1 b1' hs
  by_cases c1 : ρ = 1
  · exact ip_mono (ip_Xl l) (e1 c1) (e1' c1) b1 b1' hs
  by_cases c2 : ρ = 2
  · exact ip_mono (ip_Xq l) (e2 c2) (e2' c2) b1 b1' hs
  obtain ⟨a, b, g1, g2, g3, g4, g5, g6⟩ := e3 (by omega)
  obtain ⟨a', b', g1', g2', g3', g4', g5', g6'⟩ := e3' (by omega)
  have gs : ip_S g n = ip_S a n + ip_S b n := by rw [← ip_S_add]; exact ip_S_congr g1
  have gs' : ip_S g' n = ip_S a' n + ip_S b' n := by rw [← ip_S_add]; exact ip_S_congr g1'
  have am : ∀ c, c < n → a c ≤ a' c := ip_mono ip_Xe g5 g5' g2 g2' (by rw [g4, g4']; omega)
  rcases Nat.lt_or_ge u ((ip_S l n + 1) / 2) with z | z
  · intro c hc
    have hb : ip_S b n = 0 := by omega
    have hb' := ip_S_zero' hb hc
    have := am c hc
    rw [g1 c hc, g1' c hc]
    omega
  · have ae : ∀ c, c < n → a c = a' c := ip_uniq ip_Xe g5 g5' g2 g2' (by rw [g4, g4']; omega)
    have de : ∀ c, c < n → ip_D l a' c = ip_D l a c := fun c hc => by unfold ip_D; rw [ae c hc]
    have bs : ip_S a n = ip_S a' n := ip_S_congr ae
    have bm : ∀ c, c < n → b c ≤ b' c := ip_mono (ip_Xl _) g6 (ip_Tl_congr de g6') g3 (fun c hc => by rw [← de c hc]; exact g3' c hc) (by omega)
    intro c hc
    have t1 := ae c hc
    have t2 := bm c hc
    rw [g1 c hc, g1' c hc]
    omega
end
section
/-! what everybody gets of A -/
/-- the claims of rank k -/
def ip_L (w r : Nat → Nat) (k : Nat) : Nat → Nat := fun c => if r c = k then w c else 0
def ip_Q (n : Nat) (w r : Nat → Nat) (k : Nat) : Nat := ip_S (ip_L w r k) n
def ip_P (n : Nat) (w r : Nat → Nat) : Nat → Nat := ip_S (ip_Q n w r)
/-- the part of rank k -/
def ip_U (n : Nat) (w r : Nat → Nat) (A k : Nat) : Nat := min (A - ip_P n w r k) (ip_Q n w r k)
def ip_RS (n : Nat) (w r ru : Nat → Nat) (A : Nat) (g : Nat → Nat) (k : Nat) : Prop :=
  ∃ x, ip_RK (ru k) (ip_L w r k) n (ip_U n w r A k) x ∧ ∀ c, c < n → r c = k → g c = x c
def ip_SH (n : Nat) (w r ru : Nat → Nat) (A : Nat) (g : Nat → Nat) : Prop := ∀ k, k < 4 → ip_RS n w r ru A g k
theorem ip_L_in {w r : Nat → Nat} {k c : Nat} (h : r c = k) : ip_L w r k c = w c := if_pos h
theorem ip_L_out {w r : Nat → Nat} {k c : Nat} (h : ¬ r c = k) : ip_L w r k c = 0 := if_neg h
theorem ip_L_le {w r : Nat → Nat} {k c : Nat} : ip_L w r k c ≤ w c := by
  by_cases h : r c = k
  · rw [ip_L_in h]; exact Nat.le_refl _
  · rw [ip_L_out h]; exact Nat.zero_le _
theorem ip_P_s (n : Nat) (w r : Nat → Nat) (k : Nat) : ip_P n w r (k + 1) = ip_P n w r k + ip_Q n w r k := rfl
theorem ip_U_le (n : Nat) (w r : Nat → Nat) (A k : Nat) : ip_U n w r A k ≤ ip_Q n w r k := Nat.min_le_right _ _
theorem ip_U_s (n : Nat) (w r : Nat → Nat) (A k : Nat) : A - ip_P n w r k - ip_U n w r A k = A - ip_P n w r (k + 1) := by
  rw [ip_P_s]; unfold ip_U; omega
theorem ip_SH_le {n : Nat} {w r ru g : Nat → Nat} {A c : Nat} (h : ip_SH n w r ru A g) (hr : r c < 4) (hc : c < n) : g c ≤ w c := by
  obtain ⟨x, hx, e⟩ := h (r c) hr
  have h1 := hx.1 c hc
  rw [ip_L_in rfl] at h1
  rw [e c hc rfl]
  exact h1
theorem ip_SH_mono {n : Nat} {w r ru g g' : Nat → Nat} {A A' c : Nat} (h : ip_SH n w r ru A g) (h' : ip_SH n w r ru A' g') (hA : A ≤ A') (hr : r c < 4) (hc : c < n) : g c ≤ g' c := by
  obtain ⟨x, hx, e⟩ := h (r c) hr
  obtain ⟨x', hx', e'⟩ := h' (r c) hr
  rw [e c hc rfl, e' c hc rfl]
  exact ip_RK_mono hx hx' (by unfold ip_U; omega) c hc
theorem ip_SH_uniq {n : Nat} {w r ru g g' : Nat → Nat} {A c : Nat} (h : ip_SH n w r ru A g) (h' : ip_SH n w r ru A g') (hr : r c < 4) (hc : c < n) : g c = g' c :=
  Nat.le_antisymm (ip_SH_mono h h' (Nat.le_refl _) hr hc) (ip_SH_mono h' h (Nat.le_refl _) hr hc)
theorem ip_SH_sum {n : Nat} {w r ru g : Nat → Nat} {A : Nat} (h : ip_SH n w r ru A g) (hr : ∀ c, r c < 4) : ip_S g n + (A - ip_P n w r 4) = A ∧ ip_S g n ≤ ip_P n w r 4 := by
  obtain ⟨x0, h0, e0⟩ := h 0 (by omega)
  obtain ⟨x1, h1, e1⟩ := h 1 (by omega)
  obtain ⟨x2, h2, e2⟩ := h 2 (by omega)
  obtain ⟨x3, h3, e3⟩ := h 3 (by omega)
  have z : ∀ {k : Nat} {x : Nat → Nat} {u : Nat} {ρ : Nat} (hx : ip_RK ρ (ip_L w r k) n u x) (c : Nat), c < n → ¬ r c = k → x c = 0 := by
    intro k x u ρ hx c hc hn
    have := hx.1 c hc
    rw [ip_L_out hn] at this
    omega
  have hg : ∀ c, c < n → g c = ((x0 c + x1 c) + x2 c) + x3 c := by
    intro c hc
    have hrc := hr c
    have t0 := z h0 c hc
    have t1 := z h1 c hc
    have t2 := z h2 c hc
    have t3 := z h3 c hc
    have q0 := e0 c hc
    have q1 := e1 c hc
    have q2 := e2 c hc
    have q3 := e3 c hc
    have cases4 : r c = 0 ∨ r c = 1 ∨ r c = 2 ∨ r c = 3 := by omega
    rcases cases4 with k | k | k | k
    · have := q0 k; have := t1 (by omega); have := t2 (by omega); have := t3 (by omega); omega
    · have := q1 k; have := t0 (by omega); have := t2 (by omega); have := t3 (by omega); omega
    · have := q2 k; have := t0 (by omega); have := t1 (by omega); have := t3 (by omega); omega
    · have := q3 k; have := t0 (by omega); have := t1 (by omega); have := t2 (by omega); omega
  have s0 := h0.2.1
  have s1 := h1.2.1
  have s2 := h2.2.1
  have s3 := h3.2.1
  have p0 : ip_P n w r 0 = 0 := rfl
  have p1 := ip_P_s n w r 0
  have p2 := ip_P_s n w r 1
  have p3 := ip_P_s n w r 2
  have p4 := ip_P_s n w r 3
  have hsum : ip_S g n = ((ip_S x0 n + ip_S x1 n) + ip_S x2 n) + ip_S x3 n := by
    rw [ip_S_congr hg, ip_S_add (fun c => (x0 c + x1 c) + x2 c) x3, ip_S_add (fun c => x0 c + x1 c) x2, ip_S_add]
  rw [hsum, s0, s1, s2, s3]
  unfold ip_U
  simp only [Nat.zero_add, Nat.reduceAdd] at p1 p2 p3 p4 ⊢
  omega
theorem ip_SH_one {n : Nat} {w r ru g g' : Nat → Nat} {A c : Nat} (h : ip_SH n w r ru A g) (h' : ip_SH n w r ru (A + 1) g') (hr : ∀ c, r c < 4) (hc : c < n) : g' c ≤ g c + 1 := by
  have s := ip_SH_sum h hr
  have s' := ip_SH_sum h' hr
  exact ip_S_one (fun d hd => ip_SH_mono h h' (by omega) (hr d) hd) (by omega) hc
theorem ip_P_mono (n : Nat) (w r : Nat → Nat) {i j : Nat} (h : i ≤ j) : ip_P n w r i ≤ ip_P n w r j := by
  induction j with
  | zero => rw [show i = 0 by omega]; exact Nat.le_refl _
  | succ j ih =>
    by_cases e : i = j + 1
    · rw [e]; exact Nat.le_refl _
    · have h1 := ih (by omega)
      rw [ip_P_s]
      omega
theorem ip_SH_prio {n : Nat} {w r ru g : Nat → Nat} {A c d : Nat} (h : ip_SH n w r ru A g) (hr : ∀ c, r c < 4) (hc : c < n) (hd : d < n) (h1 : g c < w c) (h2 : r c < r d) : g d = 0 := by
  obtain ⟨x, hx, e⟩ := h (r c) (hr c)
  obtain ⟨x', hx', e'⟩ := h (r d) (hr d)
  rw [e c hc rfl] at h1
  have s1 : ip_S x n < ip_Q n w r (r c) := ip_S_lt hx.1 hc (by rw [ip_L_in rfl]; exact h1)
  rw [hx.2.1] at s1
  have s2 : ip_U n w r A (r d) = 0 := by
    have m := ip_P_mono n w r (show r c + 1 ≤ r d from h2)
    rw [ip_P_s] at m
    unfold ip_U at s1 ⊢
    omega
  rw [e' d hd rfl]
  exact ip_S_zero' (by rw [hx'.2.1, s2]) hd
/-- one function for all calls -/
noncomputable def ip_G (n : Nat) (w r ru : Nat → Nat) (A : Nat) : Nat → Nat := Classical.epsilon (fun g => ip_SH n w r ru A g)
theorem ip_G_sh {n : Nat} {w r ru g : Nat → Nat} {A : Nat} (h : ip_SH n w r ru A g) : ip_SH n w r ru A (ip_G n w r ru A) := Classical.epsilon_spec (p := fun g => ip_SH n w r ru A g) ⟨g, h⟩
theorem ip_G_eq {n : Nat} {w r ru g : Nat → Nat} {A c : Nat} (h : ip_SH n w r ru A g) (hr : r c < 4) (hc : c < n) : g c = ip_G n w r ru A c := ip_SH_uniq h (ip_G_sh h) hr hc
end
section
/-! the units left over go to the first marked ones -/
def ip_rest (p : Nat → Bool) (s : Nat) : Nat → Nat
  | 0 => s
  | i + 1 => if p i = true ∧ 0 < ip_rest p s i then ip_rest p s i - 1 else ip_rest p s i
def ip_m (p : Nat → Bool) (s : Nat) : Nat → Nat := fun i => if p i = true ∧ 0 < ip_rest p s i then 1 else 0
theorem ip_rest_s (p : Nat → Bool) (s i : Nat) : ip_rest p s (i + 1) = if p i = true ∧ 0 < ip_rest p s i then ip_rest p s i - 1 else ip_rest p s i := rfl
theorem ip_rest_1 {p : Nat → Bool} {s i : Nat} (h : p i = true) (h2 : 0 < ip_rest p s i) : ip_rest p s (i + 1) = ip_rest p s i - 1 ∧ ip_m p s i = 1 := ⟨if_pos ⟨h, h2⟩, if_pos ⟨h, h2⟩⟩
theorem ip_rest_0 {p : Nat → Bool} {s i : Nat} (h : ¬ (p i = true ∧ 0 < ip_rest p s i)) : ip_rest p s (i + 1) = ip_rest p s i ∧ ip_m p s i = 0 := ⟨if_neg h, if_neg h⟩
theorem ip_rest_a {p : Nat → Bool} {s i : Nat} : ip_rest p s (i + 1) + ip_m p s i = ip_rest p s i := by
  by_cases h : p i = true ∧ 0 < ip_rest p s i
  · obtain ⟨e1, e2⟩ := ip_rest_1 h.1 h.2
    have := h.2
    omega
  · obtain ⟨e1, e2⟩ := ip_rest_0 h
    omega
theorem ip_rest_le {p : Nat → Bool} {s i j : Nat} (h : i ≤ j) : ip_rest p s j ≤ ip_rest p s i := by
  induction j with
  | zero => rw [show i = 0 by omega]; exact Nat.le_refl _
  | succ j ih =>
    by_cases e : i = j + 1
    · rw [e]; exact Nat.le_refl _
    · have h1 := ih (by omega)
      have h2 := ip_rest_a (p := p) (s := s) (i := j)
      omega
theorem ip_rest_sum (p : Nat → Bool) (s n : Nat) : ip_S (ip_m p s) n + ip_rest p s n = s := by
  induction n with
  | zero => exact Nat.zero_add _
  | succ n ih =>
    have h2 := ip_rest_a (p := p) (s := s) (i := n)
    rw [ip_S_s]
    omega
theorem ip_m_le (p : Nat → Bool) (s i : Nat) : ip_m p s i ≤ 1 := by
  unfold ip_m
  split <;> omega
theorem ip_m_p {p : Nat → Bool} {s i : Nat} (h : 0 < ip_m p s i) : p i = true ∧ 0 < ip_rest p s i := by
  by_cases e : p i = true ∧ 0 < ip_rest p s i
  · exact e
  · have := (ip_rest_0 e).2
    omega
theorem ip_m_first {p : Nat → Bool} {s i j : Nat} (hij : i < j) (h : 0 < ip_rest p s j) (hp : p i = true) : ip_m p s i = 1 :=
  (ip_rest_1 hp (Nat.lt_of_lt_of_le h (ip_rest_le (by omega)))).2

/-! award: the greatest level L that the units suffice for -/
def ip_A (l : Nat → Nat) (n L : Nat) : Nat := ip_S (fun c => min (l c) L) n
def ip_pa (l : Nat → Nat) (L : Nat) : Nat → Bool := fun c => decide (L < l c)
def ip_aw (l : Nat → Nat) (L s : Nat) : Nat → Nat := fun c => min (l c) L + ip_m (ip_pa l L) s c
theorem ip_pa_t {l : Nat → Nat} {L c : Nat} : ip_pa l L c = true ↔ L < l c := decide_eq_true_iff
theorem ip_aw_T (l : Nat → Nat) (L s n : Nat) : ip_T ip_Re l (ip_aw l L s) n := by
  intro c d hc hd hne h1 h2
  unfold ip_Re
  unfold ip_aw at h1 h2 ⊢
  have m1 := ip_m_le (ip_pa l L) s c
  have m2 := ip_m_le (ip_pa l L) s d
  have hd2 : L < l d := by
    rcases Nat.lt_or_ge L (l d) with z | z
    · exact z
    · rw [Nat.min_eq_left z] at h2
      omega
  rcases Nat.lt_or_ge c d with z | z
  · omega
  · by_cases e : ip_m (ip_pa l L) s c = 0
    · omega
    · have q := ip_m_first (show d < c by omega) (ip_m_p (show 0 < ip_m (ip_pa l L) s c by omega)).2 (ip_pa_t.mpr hd2)
      omega
theorem ip_aw_le (l : Nat → Nat) (L s c : Nat) : ip_aw l L s c ≤ l c := by
  unfold ip_aw
  by_cases e : ip_m (ip_pa l L) s c = 0
  · omega
  · have q := ip_pa_t.mp (ip_m_p (show 0 < ip_m (ip_pa l L) s c by omega)).1
    have m1 := ip_m_le (ip_pa l L) s c
    omega
theorem ip_A_mono (l : Nat → Nat) (n : Nat) {L L' : Nat} (h : L ≤ L') : ip_A l n L ≤ ip_A l n L' := ip_S_le (fun c _ => by show min (l c) L ≤ min (l c) L'; omega)
theorem ip_A_le (l : Nat → Nat) (n L : Nat) : ip_A l n L ≤ ip_S l n := ip_S_le (fun c _ => Nat.min_le_left _ _)
theorem ip_A_top {l : Nat → Nat} {n L : Nat} (h : ∀ c, c < n → l c ≤ L) : ip_A l n L = ip_S l n := ip_S_congr (fun c hc => Nat.min_eq_left (h c hc))
theorem ip_A_0 (l : Nat → Nat) (n : Nat) : ip_A l n 0 = 0 := ip_S_zero (fun c _ => Nat.min_zero _)
theorem ip_aw_sum {l : Nat → Nat} {n L u : Nat} (h1 : ip_A l n L ≤ u) (h2 : u ≤ ip_A l n (L + 1)) : ip_S (ip_aw l L (u - ip_A l n L)) n = u := by
  have e1 : ip_S (ip_aw l L (u - ip_A l n L)) n = ip_A l n L + ip_S (ip_m (ip_pa l L) (u - ip_A l n L)) n := ip_S_add _ _ _
  have e2 := ip_rest_sum (ip_pa l L) (u - ip_A l n L) n
  by_cases z : ip_rest (ip_pa l L) (u - ip_A l n L) n = 0
  · omega
  · have e3 : ip_S (ip_aw l L (u - ip_A l n L)) n = ip_A l n (L + 1) := ip_S_congr (fun c hc => by
      show min (l c) L + ip_m (ip_pa l L) (u - ip_A l n L) c = min (l c) (L + 1)
      have q := fun hp => ip_m_first (p := ip_pa l L) (s := u - ip_A l n L) hc (by omega) hp
      have m1 := ip_m_le (ip_pa l L) (u - ip_A l n L) c
      by_cases k : L < l c
      · have := q (ip_pa_t.mpr k)
        omega
      · have k2 : ip_m (ip_pa l L) (u - ip_A l n L) c = 0 := (ip_rest_0 (fun t => k (ip_pa_t.mp t.1))).2
        omega)
    omega

/-! lose: the least level L that the units suffice for -/
def ip_B (l : Nat → Nat) (n L : Nat) : Nat := ip_S (fun c => l c - L) n
def ip_pl (l : Nat → Nat) (L : Nat) : Nat → Bool := fun c => decide (L ≤ l c ∧ 0 < l c ∧ 0 < L)
def ip_lo (l : Nat → Nat) (L s : Nat) : Nat → Nat := fun c => (l c - L) + ip_m (ip_pl l L) s c
theorem ip_pl_t {l : Nat → Nat} {L c : Nat} : ip_pl l L c = true ↔ (L ≤ l c ∧ 0 < l c ∧ 0 < L) := decide_eq_true_iff
theorem ip_lo_T (l : Nat → Nat) (L s n : Nat) : ip_T (ip_Rl l) l (ip_lo l L s) n := by
  intro c d hc hd hne h1 h2
  unfold ip_Rl
  unfold ip_lo at h1 h2 ⊢
  have m1 := ip_m_le (ip_pl l L) s c
  have m2 := ip_m_le (ip_pl l L) s d
  have hL : 0 < L := by omega
  by_cases e : ip_m (ip_pl l L) s c = 0
  · omega
  · obtain ⟨q1, q2⟩ := ip_m_p (show 0 < ip_m (ip_pl l L) s c by omega)
    have q3 := ip_pl_t.mp q1
    rcases Nat.lt_or_ge c d with z | z
    · omega
    · by_cases k : L ≤ l d
      · have q := ip_m_first (show d < c by omega) q2 (ip_pl_t.mpr ⟨k, by omega, hL⟩)
        omega
      · omega
theorem ip_lo_le (l : Nat → Nat) (L s c : Nat) : ip_lo l L s c ≤ l c := by
  unfold ip_lo
  by_cases e : ip_m (ip_pl l L) s c = 0
  · omega
  · have q := ip_pl_t.mp (ip_m_p (show 0 < ip_m (ip_pl l L) s c by omega)).1
    have m1 := ip_m_le (ip_pl l L) s c
    omega
theorem ip_B_mono (l : Nat → Nat) (n : Nat) {L L' : Nat} (h : L ≤ L') : ip_B l n L' ≤ ip_B l n L := ip_S_le (fun c _ => by show l c - L' ≤ l c - L; omega)
theorem ip_B_le (l : Nat → Nat) (n L : Nat) : ip_B l n L ≤ ip_S l n := ip_S_le (fun c _ => Nat.sub_le _ _)
theorem ip_B_top {l : Nat → Nat} {n L : Nat} (h : ∀ c, c < n → l c ≤ L) : ip_B l n L = 0 := ip_S_zero (fun c hc => by have := h c hc; show l c - L = 0; omega)
theorem ip_B_0 (l : Nat → Nat) (n : Nat) : ip_B l n 0 = ip_S l n := ip_S_congr (fun c _ => Nat.sub_zero _)
theorem ip_lo_sum {l : Nat → Nat} {n L u : Nat} (h1 : ip_B l n L ≤ u) (h2 : 0 < L → u ≤ ip_B l n (L - 1)) (h3 : u ≤ ip_S l n) : ip_S (ip_lo l L (u - ip_B l n L)) n = u := by
  have e1 : ip_S (ip_lo l L (u - ip_B l n L)) n = ip_B l n L + ip_S (ip_m (ip_pl l L) (u - ip_B l n L)) n := ip_S_add _ _ _
  have e2 := ip_rest_sum (ip_pl l L) (u - ip_B l n L) n
  by_cases z : ip_rest (ip_pl l L) (u - ip_B l n L) n = 0
  · omega
  · by_cases k0 : L = 0
    · subst k0
      have hB := ip_B_0 l n
      omega
    · have e3 : ip_S (ip_lo l L (u - ip_B l n L)) n = ip_B l n (L - 1) := ip_S_congr (fun c hc => by
        show (l c - L) + ip_m (ip_pl l L) (u - ip_B l n L) c = l c - (L - 1)
        have q := fun hp => ip_m_first (p := ip_pl l L) (s := u - ip_B l n L) hc (by omega) hp
        by_cases k : L ≤ l c
        · have := q (ip_pl_t.mpr ⟨k, by omega, by omega⟩)
          omega
        · have k2 : ip_m (ip_pl l L) (u - ip_B l n L) c = 0 := (ip_rest_0 (fun t => k (ip_pl_t.mp t.1).1)).2
          omega)
      have := h2 (by omega)
      omega

/-! quotas: from the quotas rounded down, by the greatest quotients -/
def ip_q (l : Nat → Nat) (u s : Nat) : Nat → Nat := fun c => u * l c / s
theorem ip_q_T {l : Nat → Nat} {n u s : Nat} (hs : 0 < s) : ip_T (ip_Rq l) l (ip_q l u s) n := by
  intro c d hc hd hne h1 h2
  left
  unfold ip_q at h1 h2 ⊢
  have a1 : u * l c / s * s ≤ u * l c := Nat.div_mul_le_self _ _
  have a2 : u * l d < s * (u * l d / s + 1) := Nat.lt_mul_div_succ _ hs
  generalize ha : u * l c / s = a at *
  generalize hb : u * l d / s = b at *
  have hc0 : 0 < l c := by
    rcases Nat.eq_zero_or_pos (l c) with z | z
    · rw [z, Nat.mul_zero, Nat.zero_div] at ha
      omega
    · exact z
  have b1 : l d * (a * s) ≤ l d * (u * l c) := Nat.mul_le_mul_left _ a1
  have b2 : l c * (u * l d) < l c * (s * (b + 1)) := Nat.mul_lt_mul_of_pos_left a2 hc0
  have b3 : l d * (u * l c) = l c * (u * l d) := by
    rw [← Nat.mul_assoc, ← Nat.mul_assoc, Nat.mul_comm (l d) u, Nat.mul_comm (l c) u, Nat.mul_assoc, Nat.mul_assoc, Nat.mul_comm (l d)]
  have b4 : s * (l d * a) = l d * (a * s) := by rw [Nat.mul_comm a s, Nat.mul_left_comm]
  have b5 : s * (l c * (b + 1)) = l c * (s * (b + 1)) := Nat.mul_left_comm _ _ _
  exact Nat.lt_of_mul_lt_mul_left (a := s) (by omega)
theorem ip_q_le {l : Nat → Nat} {u s c : Nat} (hs : 0 < s) (hu : u ≤ s) : ip_q l u s c ≤ l c := by
  unfold ip_q
  have h1 : u * l c ≤ s * l c := Nat.mul_le_mul_right _ hu
  exact Nat.div_le_of_le_mul h1
theorem ip_q_sum1 {l : Nat → Nat} {n u : Nat} (hs : 0 < ip_S l n) : ip_S (ip_q l u (ip_S l n)) n ≤ u := by
  have h1 : ip_S (fun c => ip_S l n * ip_q l u (ip_S l n) c) n ≤ ip_S (fun c => u * l c) n := ip_S_le (fun c _ => Nat.mul_div_le _ _)
  rw [ip_S_mul, ip_S_mul, Nat.mul_comm u] at h1
  exact Nat.le_of_mul_le_mul_left h1 hs
theorem ip_S_const (k n : Nat) : ip_S (fun _ => k) n = n * k := by
  induction n with
  | zero => exact (Nat.zero_mul k).symm
  | succ n ih => rw [ip_S_s, ih, Nat.succ_mul]
theorem ip_q_sum2 {l : Nat → Nat} {n u : Nat} (hs : 0 < ip_S l n) : u ≤ ip_S (ip_q l u (ip_S l n)) n + n := by
  have h1 : ip_S (fun c => u * l c) n ≤ ip_S (fun c => ip_S l n * (ip_q l u (ip_S l n) c + 1)) n := ip_S_le (fun c _ => Nat.le_of_lt (Nat.lt_mul_div_succ _ hs))
  rw [ip_S_mul, ip_S_mul, Nat.mul_comm u, ip_S_add, ip_S_const, Nat.mul_one] at h1
  exact Nat.le_of_mul_le_mul_left h1 hs
/-- b is the best below i -/
def ip_best (l y : Nat → Nat) (i b : Nat) : Prop := b < i ∧ y b < l b ∧ ∀ d, d < i → d ≠ b → y d < l d → ip_Rq l b (y b + 1) d (y d + 1)
def ip_none (l y : Nat → Nat) (i : Nat) : Prop := ∀ d, d < i → ¬ y d < l d
def ip_inc (y : Nat → Nat) (b : Nat) : Nat → Nat := fun c => if c = b then y b + 1 else y c
theorem ip_inc_b (y : Nat → Nat) (b : Nat) : ip_inc y b b = y b + 1 := if_pos rfl
theorem ip_inc_n (y : Nat → Nat) {b c : Nat} (h : c ≠ b) : ip_inc y b c = y c := if_neg h
theorem ip_inc_sum (y : Nat → Nat) (b : Nat) : ∀ n, b < n → ip_S (ip_inc y b) n = ip_S y n + 1 := by
  intro n
  induction n with
  | zero => intro h; omega
  | succ n ih =>
    intro h
    rw [ip_S_s, ip_S_s]
    by_cases e : b = n
    · subst e
      have : ip_S (ip_inc y b) b = ip_S y b := ip_S_congr (fun c hc => ip_inc_n y (by omega))
      rw [this, ip_inc_b]
      omega
    · rw [ih (by omega), ip_inc_n y (show n ≠ b by omega)]
      omega
theorem ip_inc_T {l y : Nat → Nat} {n b : Nat} (hT : ip_T (ip_Rq l) l y n) (hb : ip_best l y n b) : ip_T (ip_Rq l) l (ip_inc y b) n := by
  obtain ⟨b1, b2, b3⟩ := hb
  intro c d hc hd hne h1 h2
  by_cases ec : c = b
  · subst ec
    have nd : d ≠ c := fun e => hne e.symm
    rw [ip_inc_n y nd] at h2 ⊢
    rw [ip_inc_b]
    exact b3 d hd nd h2
  · rw [ip_inc_n y ec] at h1 ⊢
    by_cases ed : d = b
    · subst ed
      rw [ip_inc_b]
      have h3 := hT c d hc hd hne h1 b2
      unfold ip_Rq at h3 ⊢
      have h4 : l c * (y d + 1) ≤ l c * (y d + 1 + 1) := Nat.mul_le_mul_left _ (by omega)
      omega
    · rw [ip_inc_n y ed] at h2 ⊢
      exact hT c d hc hd hne h1 h2
theorem ip_inc_le {l y : Nat → Nat} {n i b : Nat} (h : ∀ c, c < n → y c ≤ l c) (hb : ip_best l y i b) : ∀ c, c < n → ip_inc y b c ≤ l c := by
  intro c hc
  by_cases e : c = b
  · rw [e, ip_inc_b]
    exact hb.2.1
  · rw [ip_inc_n y e]
    exact h c hc
theorem ip_best_skip {l y : Nat → Nat} {i b : Nat} (h : ip_best l y i b) (hn : ¬ y i < l i) : ip_best l y (i + 1) b :=
  ⟨by have := h.1; omega, h.2.1, fun d hd hne hl => by
    by_cases e : d = i
    · rw [e] at hl; exact absurd hl hn
    · exact h.2.2 d (by omega) hne hl⟩
theorem ip_none_skip {l y : Nat → Nat} {i : Nat} (h : ip_none l y i) (hn : ¬ y i < l i) : ip_none l y (i + 1) := fun d hd => by
  by_cases e : d = i
  · rw [e]; exact hn
  · exact h d (by omega)
theorem ip_best_new {l y : Nat → Nat} {i : Nat} (h : ip_none l y i) (hn : y i < l i) : ip_best l y (i + 1) i :=
  ⟨by omega, hn, fun d hd hne hl => absurd hl (h d (by omega))⟩
theorem ip_best_stay {l y : Nat → Nat} {i b : Nat} (h : ip_best l y i b) (hn : l i * (y b + 1) ≤ l b * (y i + 1)) : ip_best l y (i + 1) b :=
  ⟨by have := h.1; omega, h.2.1, fun d hd hne hl => by
    by_cases e : d = i
    · rw [e]
      have := h.1
      unfold ip_Rq
      omega
    · exact h.2.2 d (by omega) hne hl⟩
theorem ip_tr {a b c x y z : Nat} (h1 : c * x ≤ b * z) (h2 : b * y < a * x) (hz : 0 < z) : c * y < a * z := by
  have e1 : (c * x) * y ≤ (b * z) * y := Nat.mul_le_mul_right _ h1
  have e2 : (b * y) * z < (a * x) * z := Nat.mul_lt_mul_of_pos_right h2 hz
  have e3 : (b * z) * y = (b * y) * z := Nat.mul_right_comm _ _ _
  have e4 : x * (c * y) = (c * x) * y := by rw [Nat.mul_right_comm, Nat.mul_comm]
  have e5 : x * (a * z) = (a * x) * z := by rw [Nat.mul_right_comm, Nat.mul_comm]
  exact Nat.lt_of_mul_lt_mul_left (a := x) (by omega)
theorem ip_best_take {l y : Nat → Nat} {i b : Nat} (h : ip_best l y i b) (hi : y i < l i) (hn : l b * (y i + 1) < l i * (y b + 1)) : ip_best l y (i + 1) i :=
  ⟨by omega, hi, fun d hd hne hl => by
    left
    by_cases e : d = b
    · rw [e]; exact hn
    · have h3 := h.2.2 d (by omega) e hl
      refine ip_tr (x := y b + 1) (b := l b) ?_ hn (by omega)
      unfold ip_Rq at h3
      omega⟩
end
section
/-! arrays of naturals -/
def ip_ar (f : Nat → Nat) : Nat → Int32 := fun j => nI (f j)
theorem ip_at (f : Nat → Nat) {i : Nat} (h : i < 2 ^ 31) : ip_ar f (nI i).toNatClampNeg = nI (f i) := by
  unfold ip_ar
  rw [nI_clamp h]
def ip_up (f : Nat → Nat) (k x : Nat) : Nat → Nat := fun j => if j = k then x else f j
theorem ip_up_s (f : Nat → Nat) (k x : Nat) : ip_up f k x k = x := if_pos rfl
theorem ip_up_n (f : Nat → Nat) {k x j : Nat} (h : j ≠ k) : ip_up f k x j = f j := if_neg h
theorem ip_upd (f : Nat → Nat) (k x : Nat) : upd (ip_ar f) k (nI x) = ip_ar (ip_up f k x) := funext (fun j => by
  show (if j = k then nI x else nI (f j)) = nI (if j = k then x else f j)
  by_cases e : j = k
  · rw [if_pos e, if_pos e]
  · rw [if_neg e, if_neg e])
theorem ip_uc {f : Nat → Nat} {k x : Nat} {v : Int32} (hk : k < 2 ^ 31) (hv : v = nI x) : upd (ip_ar f) (nI k).toNatClampNeg v = ip_ar (ip_up f k x) := by
  rw [nI_clamp hk, hv, ip_upd]
def ip_fill (F g : Nat → Nat) (i : Nat) : Nat → Nat := fun j => if j < i then F j else g j
theorem ip_fill_0 (F g : Nat → Nat) : ip_fill F g 0 = g := funext (fun j => if_neg (Nat.not_lt_zero j))
theorem ip_fill_at (F g : Nat → Nat) (i : Nat) : ip_fill F g i i = g i := if_neg (Nat.lt_irrefl i)
theorem ip_fill_lt {F g : Nat → Nat} {i j : Nat} (h : j < i) : ip_fill F g i j = F j := if_pos h
theorem ip_fill_s (F g : Nat → Nat) (i : Nat) : ip_up (ip_fill F g i) i (F i) = ip_fill F g (i + 1) := funext (fun j => by
  show (if j = i then F i else if j < i then F j else g j) = if j < i + 1 then F j else g j
  by_cases e : j = i
  · subst e
    rw [if_pos rfl, if_pos (Nat.lt_succ_self j)]
  · rw [if_neg e]
    by_cases h : j < i
    · rw [if_pos h, if_pos (by omega)]
    · rw [if_neg h, if_neg (by omega)])
theorem ip_fill_k {F g : Nat → Nat} {i : Nat} (h : F i = g i) : ip_fill F g (i + 1) = ip_fill F g i := funext (fun j => by
  show (if j < i + 1 then F j else g j) = if j < i then F j else g j
  by_cases e : j = i
  · subst e
    rw [if_pos (Nat.lt_succ_self j), if_neg (Nat.lt_irrefl j), h]
  · by_cases h : j < i
    · rw [if_pos h, if_pos (by omega)]
    · rw [if_neg h, if_neg (by omega)])
theorem ip_uf {F g : Nat → Nat} {i : Nat} {v : Int32} (hi : i < 2 ^ 31) (hv : v = nI (F i)) : upd (ip_ar (ip_fill F g i)) (nI i).toNatClampNeg v = ip_ar (ip_fill F g (i + 1)) := by
  rw [nI_clamp hi, hv, ip_upd, ip_fill_s]
theorem ip_loop (W : Nat → Nat → Prop) (e : Nat) (hx : ∀ n, W (n + 1) e) (hs : ∀ n i, i < e → W n (i + 1) → W (n + 1) i) : ∃ n, W n 0 :=
  pk_loop (σ := Unit) (fun n i _ => W n i) (fun _ _ => True) e 0 () (Nat.zero_le _) trivial (fun n _ _ => hx n) (fun n i _ hi _ hw => hs n i hi (hw () trivial))
/-! total -/
theorem ip_total {post : Int32 → Prop} {n k : Nat} {f1 f2 : Int32} {w r : Nat → Nat} {a3 a4 a5 a6 : Nat → Int32} (hn : n ≤ 8) (hr : ∀ c, r c < 4) (hk : k < 4) (H : post (nI (ip_Q n w r k))) :
    wpX_total post (nI n, f1, f2, ip_ar w, ip_ar r, a3, a4, a5, a6) (nI k) := by
  have h : ∃ m, wX_total_4 post (nI k) (nI n) f1 f2 (ip_ar w) (ip_ar r) a3 a4 a5 a6 m (nI (ip_S (ip_L w r k) 0)) (nI 0) :=
    ip_loop (fun m i => wX_total_4 post (nI k) (nI n) f1 f2 (ip_ar w) (ip_ar r) a3 a4 a5 a6 m (nI (ip_S (ip_L w r k) i)) (nI i)) n
      (fun m => pk_le n n (fun _ => H) (fun z => absurd z (by omega)))
      (fun m i hi hw => pk_le n i (fun z => absurd z (by omega)) (fun _ => ⟨pk_in i 8 (by omega), by
        have hri := hr i
        refine pk_eq (r i) k (fun e => ⟨pk_in i 8 (by omega), nm_r (e' := nI (ip_S (ip_L w r k) (i + 1))) ?_ (nm_r (nI_1 i) hw)⟩) (fun e => nm_r (e' := nI (ip_S (ip_L w r k) (i + 1))) ?_ (nm_r (nI_1 i) hw)) (ip_at r (by omega))
        · rw [ip_at w (by omega), nI_add, ip_S_s, ip_L_in e]
        · rw [ip_S_s, ip_L_out e]; exact nI_add _ 0⟩))
  exact h
/-! takeLimits -/
def ip_mo (h : Nat) (w : Nat → Nat) : Nat → Nat := fun c => if h = 0 then w c else (w c + 1) / 2
def ip_TL (h : Nat) (w r g : Nat → Nat) (k : Nat) : Nat → Nat := fun c => if r c = k then ip_mo h w c - g c else 0
theorem ip_tl_33 {post : St1 → Prop} {J : Int32 → (Nat → Int32) → (Nat → Int32) → (Nat → Int32) → (Nat → Int32) → (Nat → Int32) → (Nat → Int32) → Prop} {x2 f0 f1 f2 : Int32} {k i z h : Nat} {w r g l : Nat → Nat} {a1 a3 a6 : Nat → Int32}
    (hi : i < 8) (hr : ∀ c, r c < 4) (hk : k < 4) (hz : z = ip_mo h w i) (hg : r i = k → g i ≤ z)
    (H : J (nI (i + 1)) a1 (ip_ar r) a3 (ip_ar g) (ip_ar (ip_fill (ip_TL h w r g k) l (i + 1))) a6) :
    wX_takeLimits_33 post J (nI k) x2 (nI i) (nI z) f0 f1 f2 a1 (ip_ar r) a3 (ip_ar g) (ip_ar (ip_fill (ip_TL h w r g k) l i)) a6 := by
  have hri := hr i
  unfold wX_takeLimits_33
  refine ⟨pk_in i 8 hi, pk_eq (r i) k (fun e => ⟨pk_in i 8 hi, pk_in i 8 hi, nm_r (ip_uf (by omega) ?_) (nm_r (nI_1 i) H)⟩) (fun e => ⟨pk_in i 8 hi, nm_r (ip_uf (by omega) ?_) (nm_r (nI_1 i) H)⟩) (ip_at r (by omega))⟩
  · have e2 : ip_TL h w r g k i = z - g i := by rw [hz]; exact if_pos e
    rw [ip_at g (by omega), e2, pk_sub (hg e)]
  · have e2 : ip_TL h w r g k i = 0 := if_neg e
    rw [e2]; rfl
theorem ip_takeLimits {post : St1 → Prop} {n k h : Nat} {f1 f2 : Int32} {w r g l : Nat → Nat} {a3 a6 : Nat → Int32} (hn : n ≤ 8) (hw : ∀ c, w c ≤ 150) (hr : ∀ c, r c < 4) (hk : k < 4) (hh : h < 2)
    (hg : ∀ c, c < n → r c = k → g c ≤ ip_mo h w c)
    (H : post (nI n, f1, f2, ip_ar w, ip_ar r, a3, ip_ar g, ip_ar (ip_fill (ip_TL h w r g k) l n), a6)) :
    wpX_takeLimits post (nI n, f1, f2, ip_ar w, ip_ar r, a3, ip_ar g, ip_ar l, a6) (nI k) (nI h) := by
  have q : ∃ m, wX_takeLimits_2 post (nI k) (nI h) (nI n) f1 f2 m (nI 0) (ip_ar w) (ip_ar r) a3 (ip_ar g) (ip_ar (ip_fill (ip_TL h w r g k) l 0)) a6 :=
    ip_loop (fun m i => wX_takeLimits_2 post (nI k) (nI h) (nI n) f1 f2 m (nI i) (ip_ar w) (ip_ar r) a3 (ip_ar g) (ip_ar (ip_fill (ip_TL h w r g k) l i)) a6) n
      (fun m => pk_le n n (fun _ => H) (fun z => absurd z (by omega)))
      (fun m i hi hW => pk_le n i (fun z => absurd z (by omega)) (fun _ => by
        have hwi := hw i
        refine pk_eq h 0 (fun e => ⟨pk_in i 8 (by omega), ?_⟩) (fun e => ⟨pk_in i 8 (by omega), ?_⟩)
        · rw [ip_at w (by omega)]
          exact ip_tl_33 (z := w i) (by omega) hr hk (if_pos e).symm (fun e2 => by have := hg i hi e2; rw [show ip_mo h w i = w i from if_pos e] at this; exact this) hW
        · have e3 : (ip_ar w (nI i).toNatClampNeg + 1) >>> ((1 : Int32) &&& 31) = nI ((w i + 1) / 2) := by
            rw [ip_at w (by omega), nI_1]
            exact pk_shrN (by omega) _ 1 (by decide)
          rw [e3]
          exact ip_tl_33 (z := (w i + 1) / 2) (by omega) hr hk (if_neg e).symm (fun e2 => by have := hg i hi e2; rw [show ip_mo h w i = (w i + 1) / 2 from if_neg e] at this; exact this) hW))
  rw [ip_fill_0] at q
  exact q
end
section
/-! award -/
theorem ip_awarded {post : Int32 → Prop} {n L : Nat} {f1 f2 : Int32} {l : Nat → Nat} {a1 a2 a3 a4 a6 : Nat → Int32} (hn : n ≤ 8) (hl : ∀ c, c < n → l c ≤ 150) (hL : L ≤ 150) (H : post (nI (ip_A l n L))) :
    wpX_awarded post (nI n, f1, f2, a1, a2, a3, a4, ip_ar l, a6) (nI L) := by
  have h : ∃ m, wX_awarded_4 post (nI L) (nI n) f1 f2 a1 a2 a3 a4 (ip_ar l) a6 m (nI (ip_S (fun c => min (l c) L) 0)) (nI 0) :=
    ip_loop (fun m i => wX_awarded_4 post (nI L) (nI n) f1 f2 a1 a2 a3 a4 (ip_ar l) a6 m (nI (ip_S (fun c => min (l c) L) i)) (nI i)) n
      (fun m => pk_le n n (fun _ => H) (fun z => absurd z (by omega)))
      (fun m i hi hw => pk_le n i (fun z => absurd z (by omega)) (fun _ => ⟨pk_in i 8 (by omega), by
        have hli := hl i hi
        refine pk_le L (l i) (fun e => nm_r (e' := nI (ip_S (fun c => min (l c) L) (i + 1))) ?_ (nm_r (nI_1 i) hw)) (fun e => ⟨pk_in i 8 (by omega), nm_r (e' := nI (ip_S (fun c => min (l c) L) (i + 1))) ?_ (nm_r (nI_1 i) hw)⟩) rfl (ip_at l (by omega))
        · rw [nI_add, ip_S_s, Nat.min_eq_right e]
        · rw [ip_at l (by omega), nI_add, ip_S_s, Nat.min_eq_left (Nat.le_of_lt e)]⟩))
  exact h
theorem ip_award_131 {post : St1 → Prop} {J : Int32 → Int32 → (Nat → Int32) → (Nat → Int32) → (Nat → Int32) → (Nat → Int32) → (Nat → Int32) → (Nat → Int32) → Prop} {x2 f0 f1 f2 : Int32} {i mm z v t t' : Nat} {g : Nat → Nat} {a1 a2 a3 a5 a6 : Nat → Int32}
    (hi : i < 8) (hm : mm ≤ 1) (ht : t' + mm = t)
    (H : J (nI t') (nI (i + 1)) a1 a2 a3 (ip_ar (ip_up g i (v + (z + mm)))) a5 a6) :
    wX_award_131 post J x2 (nI t) (nI i) (nI mm) (nI z) (nI v) (nI i) f0 f1 f2 a1 a2 a3 (ip_ar g) a5 a6 := by
  unfold wX_award_131 wX_award_141
  refine pk_eq mm 0 (fun e => ⟨pk_in i 8 hi, nm_r (e' := ip_ar (ip_up g i (v + (z + mm)))) (ip_uc (by omega) ?_) (pk_eq mm 0 (fun _ => nm_r (e' := nI t') ?_ (nm_r (nI_1 i) H)) (fun q => absurd e q))⟩)
    (fun e => ⟨pk_in i 8 hi, nm_r (e' := ip_ar (ip_up g i (v + (z + mm)))) (ip_uc (by omega) ?_) (pk_eq mm 0 (fun q => absurd q e) (fun _ => nm_r (e' := nI t') ?_ (nm_r (nI_1 i) H)))⟩)
  · rw [e]
    show nI v + (nI z + nI 0) = _
    rw [nI_add, nI_add]
  · show nI t - nI 0 = nI t'
    rw [pk_sub (Nat.zero_le _)]
    exact congrArg nI (by omega)
  · have e1 : mm = 1 := by omega
    rw [e1]
    show nI v + (nI z + nI 1) = _
    rw [nI_add, nI_add]
  · show nI t - nI 1 = nI t'
    rw [pk_sub (by omega)]
    exact congrArg nI (by omega)
theorem ip_award_99 {post : St1 → Prop} {J : Int32 → Int32 → (Nat → Int32) → (Nat → Int32) → (Nat → Int32) → (Nat → Int32) → (Nat → Int32) → (Nat → Int32) → Prop} {f0 f1 f2 : Int32} {i mm L t t' : Nat} {g l : Nat → Nat} {a1 a2 a3 a6 : Nat → Int32}
    (hi : i < 8) (hm : mm ≤ 1) (ht : t' + mm = t) (hl : l i ≤ 150) (hL : L ≤ 150)
    (H : J (nI t') (nI (i + 1)) a1 a2 a3 (ip_ar (ip_up g i (g i + (min (l i) L + mm)))) (ip_ar l) a6) :
    wX_award_99 post J (nI L) (nI t) (nI i) (nI mm) f0 f1 f2 a1 a2 a3 (ip_ar g) (ip_ar l) a6 := by
  unfold wX_award_99
  rw [ip_at l (by omega), ip_at g (by omega)]
  refine ⟨pk_in i 8 hi, pk_in i 8 hi, pk_le L (l i) (fun e => ip_award_131 hi hm ht ?_) (fun e => ⟨pk_in i 8 hi, ip_award_131 hi hm ht ?_⟩)⟩
  · rw [Nat.min_eq_right e] at H
    exact H
  · rw [Nat.min_eq_left (Nat.le_of_lt e)] at H
    exact H
theorem ip_award_69 {post : St1 → Prop} {f1 f2 : Int32} {n L s : Nat} {g l : Nat → Nat} {a1 a2 a3 a6 : Nat → Int32} (hn : n ≤ 8) (hl : ∀ c, c < n → l c ≤ 150) (hL : L ≤ 150) (hs : s ≤ 100000)
    (H : post (nI n, f1, f2, a1, a2, a3, ip_ar (ip_fill (fun c => g c + ip_aw l L s c) g n), ip_ar l, a6)) :
    ∃ m, wX_award_69 post (nI L) (nI n) f1 f2 m (nI s) (nI 0) a1 a2 a3 (ip_ar g) (ip_ar l) a6 := by
  have q : ∃ m, wX_award_69 post (nI L) (nI n) f1 f2 m (nI (ip_rest (ip_pa l L) s 0)) (nI 0) a1 a2 a3 (ip_ar (ip_fill (fun c => g c + ip_aw l L s c) g 0)) (ip_ar l) a6 :=
    ip_loop (fun m i => wX_award_69 post (nI L) (nI n) f1 f2 m (nI (ip_rest (ip_pa l L) s i)) (nI i) a1 a2 a3 (ip_ar (ip_fill (fun c => g c + ip_aw l L s c) g i)) (ip_ar l) a6) n
      (fun m => pk_le n n (fun _ => H) (fun z => absurd z (by omega)))
      (fun m i hi hW => pk_le n i (fun z => absurd z (by omega)) (fun _ => ⟨pk_in i 8 (by omega), by
        have hli := hl i hi
        have hb : ip_rest (ip_pa l L) s i ≤ s := ip_rest_le (Nat.zero_le i)
        have key : ∀ mm, ip_m (ip_pa l L) s i = mm → wX_award_99 post (wX_award_69 post (nI L) (nI n) f1 f2 m) (nI L) (nI (ip_rest (ip_pa l L) s i)) (nI i) (nI mm) (nI n) f1 f2 a1 a2 a3 (ip_ar (ip_fill (fun c => g c + ip_aw l L s c) g i)) (ip_ar l) a6 := by
          intro mm hmm
          have h1 := ip_m_le (ip_pa l L) s i
          have h2 := ip_rest_a (p := ip_pa l L) (s := s) (i := i)
          refine ip_award_99 (t' := ip_rest (ip_pa l L) s (i + 1)) (by omega) (by omega) (by omega) hli hL ?_
          have e : ip_up (ip_fill (fun c => g c + ip_aw l L s c) g i) i (ip_fill (fun c => g c + ip_aw l L s c) g i i + (min (l i) L + mm)) = ip_fill (fun c => g c + ip_aw l L s c) g (i + 1) := by
            rw [ip_fill_at, ← hmm]
            exact ip_fill_s (fun c => g c + ip_aw l L s c) g i
          rw [e]
          exact hW
        refine pk_le (l i) L (fun e => ?_) (fun e => pk_le (ip_rest (ip_pa l L) s i) 0 (fun e2 => ?_) (fun e2 => ?_)) (ip_at l (by omega))
        · exact key 0 (ip_rest_0 (fun t => by have := ip_pa_t.mp t.1; omega)).2
        · exact key 0 (ip_rest_0 (fun t => by have := t.2; omega)).2
        · exact key 1 (ip_rest_1 (ip_pa_t.mpr e) e2).2⟩))
  rw [ip_fill_0] at q
  exact q
theorem ip_award_57 {post : St1 → Prop} {f1 f2 : Int32} {n L u : Nat} {g l : Nat → Nat} {a1 a2 a3 a6 : Nat → Int32} (hn : n ≤ 8) (hl : ∀ c, c < n → l c ≤ 150) (hL : L ≤ 150) (hu : u ≤ 100000) (h1 : ip_A l n L ≤ u)
    (H : post (nI n, f1, f2, a1, a2, a3, ip_ar (ip_fill (fun c => g c + ip_aw l L (u - ip_A l n L) c) g n), ip_ar l, a6)) :
    wX_award_57 post (nI u) (nI L) (nI n) f1 f2 a1 a2 a3 (ip_ar g) (ip_ar l) a6 := by
  unfold wX_award_57
  refine ip_awarded hn hl hL (nm_r (pk_sub h1) ?_)
  exact ip_award_69 hn hl hL (by omega) H
theorem ip_hv {a b k : Nat} (h : a * 2 ^ k ≤ 150) (hb : b * 2 ≤ a) : b * 2 ^ (k + 1) ≤ 150 := by
  have e : b * 2 ^ (k + 1) = (b * 2) * 2 ^ k := by rw [Nat.pow_succ, Nat.mul_assoc, Nat.mul_comm 2]
  rw [e]
  exact Nat.le_trans (Nat.mul_le_mul_right _ hb) h
theorem ip_award {post : St1 → Prop} {f1 f2 : Int32} {n u : Nat} {g l : Nat → Nat} {a1 a2 a3 a6 : Nat → Int32} (hn : n ≤ 8) (hl : ∀ c, c < n → l c ≤ 150) (hu : u ≤ ip_S l n)
    (H : ∀ x g', ip_T ip_Re l x n → (∀ c, c < n → x c ≤ l c) → ip_S x n = u → (∀ c, c < n → g' c = g c + x c) → post (nI n, f1, f2, a1, a2, a3, ip_ar g', ip_ar l, a6)) :
    wpX_award post (nI n, f1, f2, a1, a2, a3, ip_ar g, ip_ar l, a6) (nI u) := by
  have hS : ip_S l n ≤ n * 150 := ip_S_bd hl
  have hS2 : ip_S l n ≤ 1200 := by omega
  have h57 : ∀ L, L ≤ 150 → ip_A l n L ≤ u → (L < 150 → u < ip_A l n (L + 1)) → wX_award_57 post (nI u) (nI L) (nI n) f1 f2 a1 a2 a3 (ip_ar g) (ip_ar l) a6 := by
    intro L hL h1 h2
    refine ip_award_57 hn hl hL (by omega) h1 (H (ip_aw l L (u - ip_A l n L)) _ (ip_aw_T _ _ _ _) (fun c _ => ip_aw_le _ _ _ _) (ip_aw_sum h1 ?_) (fun c hc => ip_fill_lt hc))
    rcases Nat.lt_or_ge L 150 with z | z
    · exact Nat.le_of_lt (h2 z)
    · rw [ip_A_top (fun c hc => Nat.le_trans (hl c hc) (by omega))]
      exact hu
  have q : ∃ m, wX_award_9 post (nI u) (nI n) f1 f2 a1 a2 a3 (ip_ar g) (ip_ar l) a6 m (nI 0) (nI 150) (nI 0) :=
    pk_loop (σ := Nat × Nat) (fun m k s => wX_award_9 post (nI u) (nI n) f1 f2 a1 a2 a3 (ip_ar g) (ip_ar l) a6 m (nI s.1) (nI s.2) (nI k))
      (fun k s => s.1 ≤ s.2 ∧ s.2 ≤ 150 ∧ (s.2 - s.1) * 2 ^ k ≤ 150 ∧ ip_A l n s.1 ≤ u ∧ (s.2 < 150 → u < ip_A l n (s.2 + 1))) 9 0 (0, 150) (by omega)
      ⟨by decide, by decide, by decide, by rw [ip_A_0]; omega, fun z => absurd z (by decide)⟩
      (fun m s h => by
        obtain ⟨lo, hi⟩ := s
        obtain ⟨c1, c2, c3, c4, c5⟩ := h
        dsimp only at c1 c2 c3 c4 c5 ⊢
        have e : lo = hi := by omega
        subst e
        exact pk_le 9 9 (fun _ => h57 lo c2 c4 c5) (fun z => absurd z (by omega)))
      (fun m k s hk h hW => by
        obtain ⟨lo, hi⟩ := s
        obtain ⟨c1, c2, c3, c4, c5⟩ := h
        dsimp only at c1 c2 c3 c4 c5 ⊢
        refine pk_le 9 k (fun z => absurd z (by omega)) (fun _ => pk_le hi lo (fun z => ?_) (fun z => ?_))
        · have e : lo = hi := by omega
          subst e
          exact h57 lo c2 c4 c5
        · have e3 : (nI lo + nI hi + 1) >>> ((1 : Int32) &&& 31) = nI ((lo + hi + 1) / 2) := by
            rw [nI_add, nI_1]
            exact pk_shrN (by omega) _ 1 (by decide)
          refine nm_r e3 (ip_awarded hn hl (by omega) ?_)
          have hA := ip_A_le l n ((lo + hi + 1) / 2)
          refine pk_lt u (ip_A l n ((lo + hi + 1) / 2)) (fun z2 => nm_r (e' := nI ((lo + hi + 1) / 2 - 1)) (pk_sub (a := (lo + hi + 1) / 2) (b := 1) (by omega)) (nm_r (nI_1 k) ?_)) (fun z2 => nm_r (nI_1 k) ?_)
          · refine hW (lo, (lo + hi + 1) / 2 - 1) ⟨?_, ?_, ?_, c4, ?_⟩
            · show lo ≤ (lo + hi + 1) / 2 - 1; omega
            · show (lo + hi + 1) / 2 - 1 ≤ 150; omega
            · exact ip_hv c3 (by show ((lo + hi + 1) / 2 - 1 - lo) * 2 ≤ hi - lo; omega)
            · intro _
              show u < ip_A l n ((lo + hi + 1) / 2 - 1 + 1)
              rw [show (lo + hi + 1) / 2 - 1 + 1 = (lo + hi + 1) / 2 by omega]
              exact z2
          · refine hW ((lo + hi + 1) / 2, hi) ⟨?_, c2, ?_, z2, c5⟩
            · show (lo + hi + 1) / 2 ≤ hi; omega
            · exact ip_hv c3 (by show (hi - (lo + hi + 1) / 2) * 2 ≤ hi - lo; omega))
  exact q
end
section
/-! lose -/
theorem ip_lost {post : Int32 → Prop} {n L : Nat} {f1 f2 : Int32} {l : Nat → Nat} {a1 a2 a3 a4 a6 : Nat → Int32} (hn : n ≤ 8) (hl : ∀ c, c < n → l c ≤ 150) (hL : L ≤ 150) (H : post (nI (ip_B l n L))) :
    wpX_lost post (nI n, f1, f2, a1, a2, a3, a4, ip_ar l, a6) (nI L) := by
  have h : ∃ m, wX_lost_4 post (nI L) (nI n) f1 f2 a1 a2 a3 a4 (ip_ar l) a6 m (nI (ip_S (fun c => l c - L) 0)) (nI 0) :=
    ip_loop (fun m i => wX_lost_4 post (nI L) (nI n) f1 f2 a1 a2 a3 a4 (ip_ar l) a6 m (nI (ip_S (fun c => l c - L) i)) (nI i)) n
      (fun m => pk_le n n (fun _ => H) (fun z => absurd z (by omega)))
      (fun m i hi hw => pk_le n i (fun z => absurd z (by omega)) (fun _ => ⟨pk_in i 8 (by omega), by
        have hli := hl i hi
        refine pk_le (l i) L (fun e => nm_r (e' := nI (ip_S (fun c => l c - L) (i + 1))) ?_ (nm_r (nI_1 i) hw)) (fun e => ⟨pk_in i 8 (by omega), nm_r (e' := nI (ip_S (fun c => l c - L) (i + 1))) ?_ (nm_r (nI_1 i) hw)⟩) (ip_at l (by omega))
        · rw [ip_S_s, show l i - L = 0 by omega]; exact nI_add _ 0
        · rw [ip_at l (by omega), pk_sub (by omega), nI_add, ip_S_s]⟩))
  exact h
theorem ip_lose_145 {post : St1 → Prop} {J : Int32 → Int32 → (Nat → Int32) → (Nat → Int32) → (Nat → Int32) → (Nat → Int32) → (Nat → Int32) → (Nat → Int32) → Prop} {x2 f0 f1 f2 : Int32} {i mm z v t t' : Nat} {g : Nat → Nat} {a1 a2 a3 a5 a6 : Nat → Int32}
    (hi : i < 8) (hm : mm ≤ 1) (ht : t' + mm = t)
    (H : J (nI t') (nI (i + 1)) a1 a2 a3 (ip_ar (ip_up g i (v + (z + mm)))) a5 a6) :
    wX_lose_145 post J x2 (nI t) (nI i) (nI mm) (nI z) (nI v) (nI i) f0 f1 f2 a1 a2 a3 (ip_ar g) a5 a6 := by
  unfold wX_lose_145 wX_lose_155
  refine pk_eq mm 0 (fun e => ⟨pk_in i 8 hi, nm_r (e' := ip_ar (ip_up g i (v + (z + mm)))) (ip_uc (by omega) ?_) (pk_eq mm 0 (fun _ => nm_r (e' := nI t') ?_ (nm_r (nI_1 i) H)) (fun q => absurd e q))⟩)
    (fun e => ⟨pk_in i 8 hi, nm_r (e' := ip_ar (ip_up g i (v + (z + mm)))) (ip_uc (by omega) ?_) (pk_eq mm 0 (fun q => absurd q e) (fun _ => nm_r (e' := nI t') ?_ (nm_r (nI_1 i) H)))⟩)
  · rw [e]
    show nI v + (nI z + nI 0) = _
    rw [nI_add, nI_add]
  · show nI t - nI 0 = nI t'
    rw [pk_sub (Nat.zero_le _)]
    exact congrArg nI (by omega)
  · have e1 : mm = 1 := by omega
    rw [e1]
    show nI v + (nI z + nI 1) = _
    rw [nI_add, nI_add]
  · show nI t - nI 1 = nI t'
    rw [pk_sub (by omega)]
    exact congrArg nI (by omega)
theorem ip_lose_111 {post : St1 → Prop} {J : Int32 → Int32 → (Nat → Int32) → (Nat → Int32) → (Nat → Int32) → (Nat → Int32) → (Nat → Int32) → (Nat → Int32) → Prop} {f0 f1 f2 : Int32} {i mm L t t' : Nat} {g l : Nat → Nat} {a1 a2 a3 a6 : Nat → Int32}
    (hi : i < 8) (hm : mm ≤ 1) (ht : t' + mm = t) (hl : l i ≤ 150) (hL : L ≤ 150)
    (H : J (nI t') (nI (i + 1)) a1 a2 a3 (ip_ar (ip_up g i (g i + ((l i - L) + mm)))) (ip_ar l) a6) :
    wX_lose_111 post J (nI L) (nI t) (nI i) (nI mm) f0 f1 f2 a1 a2 a3 (ip_ar g) (ip_ar l) a6 := by
  unfold wX_lose_111
  rw [ip_at l (by omega), ip_at g (by omega)]
  refine ⟨pk_in i 8 hi, pk_in i 8 hi, pk_le (l i) L (fun e => ip_lose_145 (z := 0) hi hm ht ?_) (fun e => ⟨pk_in i 8 hi, ?_⟩)⟩
  · rw [show l i - L = 0 by omega] at H
    exact H
  · rw [pk_sub (by omega)]
    exact ip_lose_145 hi hm ht H
theorem ip_lose_67 {post : St1 → Prop} {f1 f2 : Int32} {n L s : Nat} {g l : Nat → Nat} {a1 a2 a3 a6 : Nat → Int32} (hn : n ≤ 8) (hl : ∀ c, c < n → l c ≤ 150) (hL : L ≤ 150) (hs : s ≤ 100000)
    (H : post (nI n, f1, f2, a1, a2, a3, ip_ar (ip_fill (fun c => g c + ip_lo l L s c) g n), ip_ar l, a6)) :
    ∃ m, wX_lose_67 post (nI L) (nI n) f1 f2 m (nI s) (nI 0) a1 a2 a3 (ip_ar g) (ip_ar l) a6 := by
  have q : ∃ m, wX_lose_67 post (nI L) (nI n) f1 f2 m (nI (ip_rest (ip_pl l L) s 0)) (nI 0) a1 a2 a3 (ip_ar (ip_fill (fun c => g c + ip_lo l L s c) g 0)) (ip_ar l) a6 :=
    ip_loop (fun m i => wX_lose_67 post (nI L) (nI n) f1 f2 m (nI (ip_rest (ip_pl l L) s i)) (nI i) a1 a2 a3 (ip_ar (ip_fill (fun c => g c + ip_lo l L s c) g i)) (ip_ar l) a6) n
      (fun m => pk_le n n (fun _ => H) (fun z => absurd z (by omega)))
      (fun m i hi hW => pk_le n i (fun z => absurd z (by omega)) (fun _ => ⟨pk_in i 8 (by omega), by
        have hli := hl i hi
        have hb : ip_rest (ip_pl l L) s i ≤ s := ip_rest_le (Nat.zero_le i)
        have key : ∀ mm, ip_m (ip_pl l L) s i = mm → wX_lose_111 post (wX_lose_67 post (nI L) (nI n) f1 f2 m) (nI L) (nI (ip_rest (ip_pl l L) s i)) (nI i) (nI mm) (nI n) f1 f2 a1 a2 a3 (ip_ar (ip_fill (fun c => g c + ip_lo l L s c) g i)) (ip_ar l) a6 := by
          intro mm hmm
          have h1 := ip_m_le (ip_pl l L) s i
          have h2 := ip_rest_a (p := ip_pl l L) (s := s) (i := i)
          refine ip_lose_111 (t' := ip_rest (ip_pl l L) s (i + 1)) (by omega) (by omega) (by omega) hli hL ?_
          have e : ip_up (ip_fill (fun c => g c + ip_lo l L s c) g i) i (ip_fill (fun c => g c + ip_lo l L s c) g i i + ((l i - L) + mm)) = ip_fill (fun c => g c + ip_lo l L s c) g (i + 1) := by
            rw [ip_fill_at, ← hmm]
            exact ip_fill_s (fun c => g c + ip_lo l L s c) g i
          rw [e]
          exact hW
        have k0 : ¬ (ip_pl l L i = true ∧ 0 < ip_rest (ip_pl l L) s i) → wX_lose_110 post (wX_lose_67 post (nI L) (nI n) f1 f2 m) (nI L) (nI (ip_rest (ip_pl l L) s i)) (nI i) (nI n) f1 f2 a1 a2 a3 (ip_ar (ip_fill (fun c => g c + ip_lo l L s c) g i)) (ip_ar l) a6 :=
          fun h => key 0 (ip_rest_0 h).2
        refine pk_lt (l i) L (fun e => k0 ?_) (fun e => ⟨pk_in i 8 (by omega), pk_le (l i) 0 (fun e1 => k0 ?_) (fun e1 => pk_le L 0 (fun e2 => k0 ?_) (fun e2 => pk_le (ip_rest (ip_pl l L) s i) 0 (fun e3 => k0 ?_) (fun e3 => ?_))) (ip_at l (by omega))⟩) (ip_at l (by omega))
        · exact fun t => by have := ip_pl_t.mp t.1; omega
        · exact fun t => by have := ip_pl_t.mp t.1; omega
        · exact fun t => by have := ip_pl_t.mp t.1; omega
        · exact fun t => by have := t.2; omega
        · exact key 1 (ip_rest_1 (ip_pl_t.mpr ⟨e, e1, e2⟩) e3).2⟩))
  rw [ip_fill_0] at q
  exact q
theorem ip_lose_55 {post : St1 → Prop} {f1 f2 : Int32} {n L u : Nat} {g l : Nat → Nat} {a1 a2 a3 a6 : Nat → Int32} (hn : n ≤ 8) (hl : ∀ c, c < n → l c ≤ 150) (hL : L ≤ 150) (hu : u ≤ 100000) (h1 : ip_B l n L ≤ u)
    (H : post (nI n, f1, f2, a1, a2, a3, ip_ar (ip_fill (fun c => g c + ip_lo l L (u - ip_B l n L) c) g n), ip_ar l, a6)) :
    wX_lose_55 post (nI u) (nI L) (nI n) f1 f2 a1 a2 a3 (ip_ar g) (ip_ar l) a6 := by
  unfold wX_lose_55
  refine ip_lost hn hl hL (nm_r (pk_sub h1) ?_)
  exact ip_lose_67 hn hl hL (by omega) H
theorem ip_lose {post : St1 → Prop} {f1 f2 : Int32} {n u : Nat} {g l : Nat → Nat} {a1 a2 a3 a6 : Nat → Int32} (hn : n ≤ 8) (hl : ∀ c, c < n → l c ≤ 150) (hu : u ≤ ip_S l n)
    (H : ∀ x g', ip_T (ip_Rl l) l x n → (∀ c, c < n → x c ≤ l c) → ip_S x n = u → (∀ c, c < n → g' c = g c + x c) → post (nI n, f1, f2, a1, a2, a3, ip_ar g', ip_ar l, a6)) :
    wpX_lose post (nI n, f1, f2, a1, a2, a3, ip_ar g, ip_ar l, a6) (nI u) := by
  have hS : ip_S l n ≤ n * 150 := ip_S_bd hl
  have hS2 : ip_S l n ≤ 1200 := by omega
  have h55 : ∀ L, L ≤ 150 → ip_B l n L ≤ u → (0 < L → u < ip_B l n (L - 1)) → wX_lose_55 post (nI u) (nI L) (nI n) f1 f2 a1 a2 a3 (ip_ar g) (ip_ar l) a6 := by
    intro L hL h1 h2
    exact ip_lose_55 hn hl hL (by omega) h1 (H (ip_lo l L (u - ip_B l n L)) _ (ip_lo_T _ _ _ _) (fun c _ => ip_lo_le _ _ _ _) (ip_lo_sum h1 (fun z => Nat.le_of_lt (h2 z)) hu) (fun c hc => ip_fill_lt hc))
  have q : ∃ m, wX_lose_9 post (nI u) (nI n) f1 f2 a1 a2 a3 (ip_ar g) (ip_ar l) a6 m (nI 0) (nI 150) (nI 0) :=
    pk_loop (σ := Nat × Nat) (fun m k s => wX_lose_9 post (nI u) (nI n) f1 f2 a1 a2 a3 (ip_ar g) (ip_ar l) a6 m (nI s.1) (nI s.2) (nI k))
      (fun k s => s.1 ≤ s.2 ∧ s.2 ≤ 150 ∧ (s.2 - s.1) * 2 ^ k ≤ 150 ∧ ip_B l n s.2 ≤ u ∧ (0 < s.1 → u < ip_B l n (s.1 - 1))) 9 0 (0, 150) (by omega)
      ⟨by decide, by decide, by decide, by rw [ip_B_top hl]; omega, fun z => absurd z (by decide)⟩
      (fun m s h => by
        obtain ⟨lo, hi⟩ := s
        obtain ⟨c1, c2, c3, c4, c5⟩ := h
        dsimp only at c1 c2 c3 c4 c5 ⊢
        have e : lo = hi := by omega
        subst e
        exact pk_le 9 9 (fun _ => h55 lo c2 c4 c5) (fun z => absurd z (by omega)))
      (fun m k s hk h hW => by
        obtain ⟨lo, hi⟩ := s
        obtain ⟨c1, c2, c3, c4, c5⟩ := h
        dsimp only at c1 c2 c3 c4 c5 ⊢
        refine pk_le 9 k (fun z => absurd z (by omega)) (fun _ => pk_le hi lo (fun z => ?_) (fun z => ?_))
        · have e : lo = hi := by omega
          subst e
          exact h55 lo c2 c4 c5
        · have e3 : (nI lo + nI hi) >>> ((1 : Int32) &&& 31) = nI ((lo + hi) / 2) := by
            rw [nI_add]
            exact pk_shrN (by omega) _ 1 (by decide)
          refine nm_r e3 (ip_lost hn hl (by omega) ?_)
          have hA := ip_B_le l n ((lo + hi) / 2)
          refine pk_lt u (ip_B l n ((lo + hi) / 2)) (fun z2 => nm_r (nI_1 ((lo + hi) / 2)) (nm_r (nI_1 k) ?_)) (fun z2 => nm_r (nI_1 k) ?_)
          · refine hW ((lo + hi) / 2 + 1, hi) ⟨?_, c2, ?_, c4, ?_⟩
            · show (lo + hi) / 2 + 1 ≤ hi; omega
            · exact ip_hv c3 (by show (hi - ((lo + hi) / 2 + 1)) * 2 ≤ hi - lo; omega)
            · intro _
              show u < ip_B l n ((lo + hi) / 2 + 1 - 1)
              rw [show (lo + hi) / 2 + 1 - 1 = (lo + hi) / 2 by omega]
              exact z2
          · refine hW (lo, (lo + hi) / 2) ⟨?_, ?_, ?_, z2, c5⟩
            · show lo ≤ (lo + hi) / 2; omega
            · show (lo + hi) / 2 ≤ 150; omega
            · exact ip_hv c3 (by show ((lo + hi) / 2 - lo) * 2 ≤ hi - lo; omega))
  exact q
end
section
/-! quotas -/
theorem ip_isGreater {post : Int32 → Prop} {f0 f1 f2 : Int32} {c b : Nat} {w g : Nat → Nat} {a2 a3 a5 a6 : Nat → Int32} (hc : c < 8) (hb : b < 8) (hw : ∀ j, w j ≤ 150) (gb : g b ≤ 150) (gc : g c ≤ 150)
    (H0 : w c * (g b + 1) ≤ w b * (g c + 1) → post 0) (H1 : w b * (g c + 1) < w c * (g b + 1) → post 1) :
    wpX_isGreater post (f0, f1, f2, ip_ar w, a2, a3, ip_ar g, a5, a6) (nI c) (nI b) := by
  unfold wpX_isGreater
  dsimp only
  rw [ip_at w (show c < 2 ^ 31 by omega), ip_at w (show b < 2 ^ 31 by omega), ip_at g (show c < 2 ^ 31 by omega), ip_at g (show b < 2 ^ 31 by omega)]
  have b1 : w c * (g b + 1) ≤ 150 * 151 := Nat.mul_le_mul (hw c) (by omega)
  have b2 : w b * (g c + 1) ≤ 150 * 151 := Nat.mul_le_mul (hw b) (by omega)
  exact ⟨pk_in c 8 hc, pk_in b 8 hb, pk_in b 8 hb, pk_in c 8 hc, pk_le (w c * (g b + 1)) (w b * (g c + 1)) H0 H1 (by rw [nI_1, pk_mul]) (by rw [nI_1, pk_mul]) (by omega) (by omega)⟩
def ip_bI : Option Nat → Int32
  | none => -1
  | some b => nI b
def ip_BI (l y : Nat → Nat) (i : Nat) : Option Nat → Prop
  | none => ip_none l y i
  | some b => ip_best l y i b
theorem ip_BI_skip {l y : Nat → Nat} {i : Nat} {s : Option Nat} (h : ip_BI l y i s) (hn : ¬ y i < l i) : ip_BI l y (i + 1) s := by
  cases s with
  | none => exact ip_none_skip h hn
  | some b => exact ip_best_skip h hn
theorem ip_quotas_87 {post : St1 → Prop} {J : Int32 → Int32 → (Nat → Int32) → (Nat → Int32) → (Nat → Int32) → (Nat → Int32) → (Nat → Int32) → (Nat → Int32) → Prop} {x4 x5 f1 f2 : Int32} {n k : Nat} {w r g : Nat → Nat} {a3 a5 a6 : Nat → Int32}
    (hn : n ≤ 8) (hw : ∀ c, w c ≤ 150) (hr : ∀ c, r c < 4) (hk : k < 4) (hg : ∀ c, c < n → r c = k → g c ≤ 150) (hex : ip_S (ip_L g r k) n < ip_S (ip_L w r k) n)
    (H : ∀ b, ip_best (ip_L w r k) (ip_L g r k) n b → J (x4 + (-1)) (x5 + 1) (ip_ar w) (ip_ar r) a3 (ip_ar (ip_up g b (g b + 1))) a5 a6) :
    ∃ m, wX_quotas_87 post J (nI k) x4 x5 (nI n) f1 f2 (ip_ar w) (ip_ar r) a3 (ip_ar g) a5 a6 m (-1) (nI 0) := by
  refine pk_loop (σ := Option Nat) (fun m i s => wX_quotas_87 post J (nI k) x4 x5 (nI n) f1 f2 (ip_ar w) (ip_ar r) a3 (ip_ar g) a5 a6 m (ip_bI s) (nI i)) (fun i s => ip_BI (ip_L w r k) (ip_L g r k) i s) n 0 none (by omega)
    (fun d hd => absurd hd (by omega)) ?_ ?_
  · intro m s h
    cases s with
    | none =>
      obtain ⟨d, hd, hlt⟩ := ip_S_ex' hex
      exact absurd hlt (h d hd)
    | some b =>
      have hb : b < n := h.1
      show wX_quotas_87 post J (nI k) x4 x5 (nI n) f1 f2 (ip_ar w) (ip_ar r) a3 (ip_ar g) a5 a6 (m + 1) (nI b) (nI n)
      exact pk_le n n (fun _ => pk_lt b 0 (fun z => absurd z (by omega)) (fun _ => ⟨pk_in b 8 (by omega), pk_in b 8 (by omega), nm_r (ip_uc (x := g b + 1) (by omega) (by rw [ip_at g (by omega), nI_1])) (nm_e (nm_e (H b h)))⟩)) (fun z => absurd z (by omega))
  · intro m i s hi h hW
    have hri := hr i
    have hwi := hw i
    refine pk_le n i (fun z => absurd z (by omega)) (fun _ => ⟨pk_in i 8 (by omega), ?_⟩)
    refine pk_eq (r i) k (fun e => ⟨pk_in i 8 (by omega), pk_in i 8 (by omega), ?_⟩) (fun e => nm_r (nI_1 i) (hW s (ip_BI_skip h ?_))) (ip_at r (by omega))
    · have hgi := hg i hi e
      have ey : ip_L g r k i = g i := ip_L_in e
      have el : ip_L w r k i = w i := ip_L_in e
      refine pk_le (w i) (g i) (fun z => nm_r (nI_1 i) (hW s (ip_BI_skip h (by rw [ey, el]; omega)))) (fun z => ?_) (ip_at w (by omega)) (ip_at g (by omega))
      have hyi : ip_L g r k i < ip_L w r k i := by rw [ey, el]; exact z
      cases s with
      | none => exact br_t (by decide) (nm_r (nI_1 i) (hW (some i) (ip_best_new h hyi)))
      | some b =>
        have hbi : b < i := h.1
        have hrb : r b = k := by
          apply Classical.byContradiction
          intro hne
          have := h.2.1
          rw [ip_L_out hne, ip_L_out hne] at this
          omega
        have eyb : ip_L g r k b = g b := ip_L_in hrb
        have elb : ip_L w r k b = w b := ip_L_in hrb
        have hgb := hg b (by omega) hrb
        refine br_f (nI_pos (n := b) (by omega)) (ip_isGreater (c := i) (b := b) (by omega) (by omega) hw hgb hgi (fun z0 => br_t rfl (nm_r (nI_1 i) (hW (some b) (ip_best_stay h ?_)))) (fun z1 => br_f (by decide) (nm_r (nI_1 i) (hW (some i) (ip_best_take h hyi ?_)))))
        · rw [ey, el, eyb, elb]; exact z0
        · rw [ey, el, eyb, elb]; exact z1
    · rw [ip_L_out (w := w) e]; omega
/-- what the turns of quotas keep -/
def ip_QI (n k u : Nat) (w r g0 : Nat → Nat) (t : Nat) (g : Nat → Nat) : Prop :=
  ip_T (ip_Rq (ip_L w r k)) (ip_L w r k) (ip_L g r k) n ∧ (∀ c, c < n → ip_L g r k c ≤ ip_L w r k c) ∧ ip_S (ip_L g r k) n + t = u ∧ (∀ c, c < n → ¬ r c = k → g c = g0 c)
theorem ip_L_up {r g : Nat → Nat} {k b : Nat} (h : r b = k) : ip_L (ip_up g b (g b + 1)) r k = ip_inc (ip_L g r k) b := funext (fun c => by
  by_cases e : c = b
  · subst e
    rw [ip_inc_b, ip_L_in h, ip_L_in h, ip_up_s]
  · rw [ip_inc_n _ e]
    unfold ip_L
    rw [ip_up_n g e])
theorem ip_quotas_69 {post : St1 → Prop} {f1 f2 : Int32} {n k u t : Nat} {w r g0 g : Nat → Nat} {a3 a5 a6 : Nat → Int32}
    (hn : n ≤ 8) (hw : ∀ c, w c ≤ 150) (hr : ∀ c, r c < 4) (hk : k < 4) (hu : u ≤ ip_S (ip_L w r k) n) (ht : t ≤ 8) (hQ : ip_QI n k u w r g0 t g)
    (H : ∀ g', ip_QI n k u w r g0 0 g' → post (nI n, f1, f2, ip_ar w, ip_ar r, a3, ip_ar g', a5, a6)) :
    ∃ m, wX_quotas_69 post (nI k) (nI n) f1 f2 m (nI t) (nI 0) (ip_ar w) (ip_ar r) a3 (ip_ar g) a5 a6 := by
  refine pk_loop (σ := Nat × (Nat → Nat)) (fun m i s => wX_quotas_69 post (nI k) (nI n) f1 f2 m (nI s.1) (nI i) (ip_ar w) (ip_ar r) a3 (ip_ar s.2) a5 a6) (fun i s => i + s.1 ≤ 8 ∧ ip_QI n k u w r g0 s.1 s.2) 8 0 (t, g) (by omega)
    ⟨by show 0 + t ≤ 8; omega, hQ⟩ ?_ ?_
  · intro m s h
    obtain ⟨t, g⟩ := s
    obtain ⟨h1, h2⟩ := h
    dsimp only at h1 h2 ⊢
    have e : t = 0 := by omega
    subst e
    exact pk_le 8 8 (fun _ => H g h2) (fun z => absurd z (by omega))
  · intro m i s hi h hW
    obtain ⟨t, g⟩ := s
    obtain ⟨h1, h2⟩ := h
    dsimp only at h1 h2 ⊢
    refine pk_le 8 i (fun z => absurd z (by omega)) (fun _ => pk_le t 0 (fun z => ?_) (fun z => ?_))
    · have e : t = 0 := by omega
      subst e
      exact H g h2
    · obtain ⟨q1, q2, q3, q4⟩ := h2
      refine ip_quotas_87 hn hw hr hk (fun c hc e => ?_) (by omega) (fun b hb => ?_)
      · have := q2 c hc
        rw [ip_L_in e, ip_L_in e] at this
        exact Nat.le_trans this (hw c)
      · have hrb : r b = k := by
          apply Classical.byContradiction
          intro hne
          have := hb.2.1
          rw [ip_L_out hne, ip_L_out hne] at this
          omega
        have et : nI t + (-1) = nI (t - 1) := sb_m1 z
        rw [et, nI_1]
        refine hW (t - 1, ip_up g b (g b + 1)) ⟨by show i + 1 + (t - 1) ≤ 8; omega, ?_⟩
        show ip_QI n k u w r g0 (t - 1) (ip_up g b (g b + 1))
        unfold ip_QI
        rw [ip_L_up hrb]
        refine ⟨ip_inc_T q1 hb, ip_inc_le q2 hb, ?_, fun c hc hne => ?_⟩
        · rw [ip_inc_sum _ _ n hb.1]
          omega
        · rw [ip_up_n g (fun e => hne (by rw [e]; exact hrb))]
          exact q4 c hc hne
theorem ip_S_up (f : Nat → Nat) {i n : Nat} (h : i ≤ n) : ip_S f i ≤ ip_S f n := by
  induction n with
  | zero => rw [show i = 0 by omega]; exact Nat.le_refl _
  | succ n ih =>
    by_cases e : i = n + 1
    · rw [e]; exact Nat.le_refl _
    · have h1 := ih (by omega)
      rw [ip_S_s]
      omega
theorem ip_T_congr {R : Nat → Nat → Nat → Nat → Prop} {l g g' : Nat → Nat} {n : Nat} (h : ∀ c, c < n → g c = g' c) (hT : ip_T R l g n) : ip_T R l g' n := by
  intro c d hc hd hne h1 h2
  rw [← h c hc] at h1 ⊢
  rw [← h d hd] at h2 ⊢
  exact hT c d hc hd hne h1 h2
theorem ip_q_s0 (l : Nat → Nat) (u c : Nat) : ip_q l u 0 c = 0 := Nat.div_zero _
theorem ip_q_l0 {l : Nat → Nat} {u s c : Nat} (h : l c = 0) : ip_q l u s c = 0 := by unfold ip_q; rw [h, Nat.mul_zero, Nat.zero_div]
theorem ip_quotas {post : St1 → Prop} {f1 f2 : Int32} {n k u : Nat} {w r g : Nat → Nat} {a3 a5 a6 : Nat → Int32}
    (hn : n ≤ 8) (hw : ∀ c, w c ≤ 150) (hr : ∀ c, r c < 4) (hk : k < 4) (hu : u ≤ ip_Q n w r k) (hg0 : ∀ c, c < n → r c = k → g c = 0)
    (H : ∀ x g', ip_T (ip_Rq (ip_L w r k)) (ip_L w r k) x n → (∀ c, c < n → x c ≤ ip_L w r k c) → ip_S x n = u → (∀ c, c < n → g' c = g c + x c) → post (nI n, f1, f2, ip_ar w, ip_ar r, a3, ip_ar g', a5, a6)) :
    wpX_quotas post (nI n, f1, f2, ip_ar w, ip_ar r, a3, ip_ar g, a5, a6) (nI k) (nI u) (nI (ip_Q n w r k)) := by
  have hQd : ip_Q n w r k = ip_S (ip_L w r k) n := rfl
  generalize hsm : ip_Q n w r k = sm at *
  have hS : ip_S (ip_L w r k) n ≤ n * 150 := ip_S_bd (fun c _ => Nat.le_trans ip_L_le (hw c))
  have hsm2 : sm ≤ 1200 := by omega
  let l := ip_L w r k
  let q := ip_q (ip_L w r k) u sm
  let F : Nat → Nat := fun c => if r c = k then ip_q (ip_L w r k) u sm c else g c
  have hq1 : ip_S q n ≤ u := by
    rcases Nat.eq_zero_or_pos sm with z | z
    · have : ip_S q n = 0 := ip_S_zero (fun c _ => by show ip_q (ip_L w r k) u sm c = 0; rw [z]; exact ip_q_s0 _ _ _)
      omega
    · show ip_S (ip_q (ip_L w r k) u sm) n ≤ u
      rw [hQd]
      exact ip_q_sum1 (by omega)
  have hq2 : u ≤ ip_S q n + n := by
    rcases Nat.eq_zero_or_pos sm with z | z
    · omega
    · show u ≤ ip_S (ip_q (ip_L w r k) u sm) n + n
      rw [hQd]
      exact ip_q_sum2 (by omega)
  have hqT : ip_T (ip_Rq l) l q n := by
    rcases Nat.eq_zero_or_pos sm with z | z
    · intro c d hc hd hne h1 h2
      have : q c = 0 := by show ip_q (ip_L w r k) u sm c = 0; rw [z]; exact ip_q_s0 _ _ _
      omega
    · exact ip_q_T z
  have hql : ∀ c, c < n → q c ≤ l c := by
    intro c hc
    rcases Nat.eq_zero_or_pos sm with z | z
    · have : q c = 0 := by show ip_q (ip_L w r k) u sm c = 0; rw [z]; exact ip_q_s0 _ _ _
      omega
    · exact ip_q_le z hu
  have hFi : ∀ c, r c = k → F c = q c := fun c e => if_pos e
  have hFo : ∀ c, ¬ r c = k → F c = g c := fun c e => if_neg e
  have hy : ∀ c, c < n → q c = ip_L (ip_fill F g n) r k c := by
    intro c hc
    by_cases e : r c = k
    · rw [ip_L_in e, ip_fill_lt hc, hFi c e]
    · rw [ip_L_out e]
      exact ip_q_l0 (ip_L_out e)
  have p : ∃ m, wX_quotas_6 post (nI k) (nI u) (nI sm) (nI n) f1 f2 m (nI (u - ip_S q 0)) (nI 0) (ip_ar w) (ip_ar r) a3 (ip_ar (ip_fill F g 0)) a5 a6 := by
    refine ip_loop (fun m i => wX_quotas_6 post (nI k) (nI u) (nI sm) (nI n) f1 f2 m (nI (u - ip_S q i)) (nI i) (ip_ar w) (ip_ar r) a3 (ip_ar (ip_fill F g i)) a5 a6) n ?_ ?_
    · intro m
      refine pk_le n n (fun _ => ?_) (fun z => absurd z (by omega))
      refine ip_quotas_69 (g0 := g) (u := u) hn hw hr hk (by omega) (by omega) ⟨ip_T_congr hy hqT, fun c hc => by rw [← hy c hc]; exact hql c hc, ?_, fun c hc e => by rw [ip_fill_lt hc, hFo c e]⟩ (fun g' hg' => ?_)
      · rw [← ip_S_congr hy]
        omega
      · obtain ⟨q1, q2, q3, q4⟩ := hg'
        refine H (ip_L g' r k) g' q1 q2 q3 (fun c hc => ?_)
        by_cases e : r c = k
        · rw [hg0 c hc e, ip_L_in e, Nat.zero_add]
        · rw [q4 c hc e, ip_L_out e, Nat.add_zero]
    · intro m i hi hW
      have hri := hr i
      have hwi := hw i
      have hS1 : ip_S q (i + 1) ≤ u := Nat.le_trans (ip_S_up q (by omega)) hq1
      have hS2 : ip_S q (i + 1) = ip_S q i + q i := rfl
      have skip : q i = 0 → F i = g i → wX_quotas_6 post (nI k) (nI u) (nI sm) (nI n) f1 f2 m (nI (u - ip_S q i)) (nI (i + 1)) (ip_ar w) (ip_ar r) a3 (ip_ar (ip_fill F g i)) a5 a6 := by
        intro e1 e2
        have hW' : wX_quotas_6 post (nI k) (nI u) (nI sm) (nI n) f1 f2 m (nI (u - ip_S q (i + 1))) (nI (i + 1)) (ip_ar w) (ip_ar r) a3 (ip_ar (ip_fill F g (i + 1))) a5 a6 := hW
        rw [ip_fill_k e2, hS2, e1, Nat.add_zero] at hW'
        exact hW'
      refine pk_le n i (fun z => absurd z (by omega)) (fun _ => ⟨pk_in i 8 (by omega), ?_⟩)
      refine pk_eq (r i) k (fun e => pk_le sm 0 (fun z => nm_r (nI_1 i) (skip ?_ ?_)) (fun z => ⟨pk_in i 8 (by omega), nI_ne0 z (by omega), pk_in i 8 (by omega), nm_r (ip_uf (F := F) (by omega) ?_) ⟨pk_in i 8 (by omega), nm_r (e' := nI (u - ip_S q (i + 1))) ?_ (nm_r (nI_1 i) hW)⟩⟩)) (fun e => nm_r (nI_1 i) (skip ?_ (hFo i e))) (ip_at r (by omega))
      · show ip_q (ip_L w r k) u sm i = 0
        rw [show sm = 0 by omega]
        exact ip_q_s0 _ _ _
      · rw [hFi i e, hg0 i hi e]
        show ip_q (ip_L w r k) u sm i = 0
        rw [show sm = 0 by omega]
        exact ip_q_s0 _ _ _
      · have hm : u * w i ≤ 1200 * 150 := Nat.mul_le_mul (by omega) hwi
        rw [ip_at w (by omega), pk_mul, pk_div (by omega) z (by omega), hFi i e]
        show nI (u * w i / sm) = nI (u * ip_L w r k i / sm)
        rw [ip_L_in e]
      · rw [ip_at _ (by omega), ip_fill_lt (Nat.lt_succ_self i), hFi i e, pk_sub (by omega)]
        exact congrArg nI (by omega)
      · exact ip_q_l0 (ip_L_out e)
  rw [ip_fill_0] at p
  exact p
end
section
/-! shareRank -/
theorem ip_T_congrl {R : Nat → Nat → Nat → Nat → Prop} {l l' g : Nat → Nat} {n : Nat} (h : ∀ c, c < n → l c = l' c) (hT : ip_T R l g n) : ip_T R l' g n := by
  intro c d hc hd hne h1 h2
  rw [← h d hd] at h2
  exact hT c d hc hd hne h1 h2
theorem ip_TL0 {n k : Nat} {w r g l : Nat → Nat} (hg0 : ∀ c, c < n → r c = k → g c = 0) : ∀ c, c < n → ip_fill (ip_TL 0 w r g k) l n c = ip_L w r k c := by
  intro c hc
  rw [ip_fill_lt hc]
  by_cases e : r c = k
  · rw [ip_L_in e, show ip_TL 0 w r g k c = ip_mo 0 w c - g c from if_pos e, hg0 c hc e, show ip_mo 0 w c = w c from if_pos rfl]
    rfl
  · rw [ip_L_out e]
    exact if_neg e
theorem ip_TL1 {n k : Nat} {w r g l : Nat → Nat} (hg0 : ∀ c, c < n → r c = k → g c = 0) : ∀ c, c < n → ip_fill (ip_TL 1 w r g k) l n c = ip_H (ip_L w r k) c := by
  intro c hc
  rw [ip_fill_lt hc]
  unfold ip_H
  by_cases e : r c = k
  · rw [ip_L_in e, show ip_TL 1 w r g k c = ip_mo 1 w c - g c from if_pos e, hg0 c hc e, show ip_mo 1 w c = (w c + 1) / 2 from if_neg (by decide)]
    rfl
  · rw [ip_L_out e]
    exact if_neg e
theorem ip_TLd {n k : Nat} {w r g x l : Nat → Nat} (hg : ∀ c, c < n → r c = k → g c = x c) : ∀ c, c < n → ip_fill (ip_TL 0 w r g k) l n c = ip_D (ip_L w r k) x c := by
  intro c hc
  rw [ip_fill_lt hc]
  unfold ip_D
  by_cases e : r c = k
  · rw [ip_L_in e, show ip_TL 0 w r g k c = ip_mo 0 w c - g c from if_pos e, hg c hc e, show ip_mo 0 w c = w c from if_pos rfl]
  · rw [ip_L_out e, Nat.zero_sub]
    exact if_neg e
theorem ip_shareRank_86 {post : St1 → Prop} {f1 f2 : Int32} {n k u f : Nat} {w r ru g l : Nat → Nat} {a6 : Nat → Int32}
    (hn : n ≤ 8) (hw : ∀ c, w c ≤ 150) (hr : ∀ c, r c < 4) (hk : k < 4) (hu : u ≤ ip_Q n w r k) (hf : f = min u ((ip_Q n w r k + 1) / 2)) (hru : 2 < ru k) (hg0 : ∀ c, c < n → r c = k → g c = 0)
    (H : ∀ x g' l', ip_RK (ru k) (ip_L w r k) n u x → (∀ c, c < n → g' c = g c + x c) → post (nI n, f1, f2, ip_ar w, ip_ar r, ip_ar ru, ip_ar g', ip_ar l', a6)) :
    wX_shareRank_86 post (nI k) (nI u) (nI f) (nI n) f1 f2 (ip_ar w) (ip_ar r) (ip_ar ru) (ip_ar g) (ip_ar l) a6 := by
  have hQ : ip_Q n w r k = ip_S (ip_L w r k) n := rfl
  unfold wX_shareRank_86
  refine ip_takeLimits (h := 1) hn hw hr hk (by omega) (fun c hc e => by rw [hg0 c hc e]; exact Nat.zero_le _) ?_
  have e1 := ip_TL1 (w := w) (l := l) hg0
  have hH2 : ip_S (ip_L w r k) n ≤ 2 * ip_S (ip_H (ip_L w r k)) n := by
    rw [← ip_S_mul]
    exact ip_S_le (fun c _ => by show ip_L w r k c ≤ 2 * ((ip_L w r k c + 1) / 2); omega)
  refine ip_award (u := f) hn (fun c hc => ?_) ?_ (fun x g1 xT xl xs hg1 => ?_)
  · rw [e1 c hc]
    have := hw c
    have := ip_L_le (w := w) (r := r) (k := k) (c := c)
    show (ip_L w r k c + 1) / 2 ≤ 150
    omega
  · rw [ip_S_congr e1]
    omega
  · have xl' : ∀ c, c < n → x c ≤ ip_H (ip_L w r k) c := fun c hc => by rw [← e1 c hc]; exact xl c hc
    have xl2 : ∀ c, c < n → x c ≤ ip_L w r k c := fun c hc => by
      have := xl' c hc
      unfold ip_H at this
      omega
    have hg1m : ∀ c, c < n → r c = k → g1 c = x c := fun c hc e => by rw [hg1 c hc, hg0 c hc e, Nat.zero_add]
    refine ip_takeLimits (h := 0) hn hw hr hk (by omega) (fun c hc e => ?_) ?_
    · rw [hg1m c hc e]
      have := xl2 c hc
      rw [ip_L_in e] at this
      exact this
    · have e2 := ip_TLd (w := w) (l := ip_fill (ip_TL 1 w r g k) l n) hg1m
      have hDs : ip_S (ip_D (ip_L w r k) x) n + ip_S x n = ip_S (ip_L w r k) n := by
        rw [← ip_S_add]
        exact ip_S_congr (fun c hc => by
          have := xl2 c hc
          show ip_L w r k c - x c + x c = ip_L w r k c
          omega)
      have eu : nI u - nI f = nI (u - f) := pk_sub (by omega)
      have goal : ∀ P : St1 → Prop, (∀ y g2, ip_T (ip_Rl (ip_fill (ip_TL 0 w r g1 k) (ip_fill (ip_TL 1 w r g k) l n) n)) (ip_fill (ip_TL 0 w r g1 k) (ip_fill (ip_TL 1 w r g k) l n) n) y n → (∀ c, c < n → y c ≤ ip_fill (ip_TL 0 w r g1 k) (ip_fill (ip_TL 1 w r g k) l n) n c) → ip_S y n = u - f → (∀ c, c < n → g2 c = g1 c + y c) → P (nI n, f1, f2, ip_ar w, ip_ar r, ip_ar ru, ip_ar g2, ip_ar (ip_fill (ip_TL 0 w r g1 k) (ip_fill (ip_TL 1 w r g k) l n) n), a6)) →
          wpX_lose P (nI n, f1, f2, ip_ar w, ip_ar r, ip_ar ru, ip_ar g1, ip_ar (ip_fill (ip_TL 0 w r g1 k) (ip_fill (ip_TL 1 w r g k) l n) n), a6) (nI u - nI f) := by
        intro P hP
        rw [eu]
        refine ip_lose hn (fun c hc => ?_) ?_ hP
        · rw [e2 c hc]
          have := hw c
          have := ip_L_le (w := w) (r := r) (k := k) (c := c)
          show ip_L w r k c - x c ≤ 150
          omega
        · rw [ip_S_congr e2]
          omega
      refine goal _ (fun y g2 yT yl ys hg2 => ?_)
      have yl' : ∀ c, c < n → y c ≤ ip_D (ip_L w r k) x c := fun c hc => by rw [← e2 c hc]; exact yl c hc
      have hg2' : ∀ c, c < n → g2 c = g c + (x c + y c) := fun c hc => by rw [hg2 c hc, hg1 c hc, Nat.add_assoc]
      refine H (fun c => x c + y c) g2 _ ⟨fun c hc => ?_, ?_, fun z => absurd z (by omega), fun z => absurd z (by omega), fun z => absurd z (by omega), fun _ => ⟨x, y, fun c _ => rfl, xl', yl', ?_, ip_T_congrl e1 xT, ip_Tl_congr e2 yT⟩⟩ hg2'
      · have t1 := yl' c hc
        have t2 := xl2 c hc
        unfold ip_D at t1
        show x c + y c ≤ ip_L w r k c
        omega
      · rw [ip_S_add, xs, ys]
        omega
      · rw [xs, hf, hQ]
theorem ip_shareRank {post : St1 → Prop} {f1 f2 : Int32} {n k u : Nat} {w r ru g l : Nat → Nat} {a6 : Nat → Int32}
    (hn : n ≤ 8) (hw : ∀ c, w c ≤ 150) (hr : ∀ c, r c < 4) (hru : ∀ c, ru c < 4) (hk : k < 4) (hu : u ≤ ip_Q n w r k) (hg0 : ∀ c, c < n → r c = k → g c = 0)
    (H : ∀ x g' l', ip_RK (ru k) (ip_L w r k) n u x → (∀ c, c < n → g' c = g c + x c) → post (nI n, f1, f2, ip_ar w, ip_ar r, ip_ar ru, ip_ar g', ip_ar l', a6)) :
    wpX_shareRank post (nI n, f1, f2, ip_ar w, ip_ar r, ip_ar ru, ip_ar g, ip_ar l, a6) (nI k) (nI u) (nI (ip_Q n w r k)) := by
  have hQ : ip_Q n w r k = ip_S (ip_L w r k) n := rfl
  have hS : ip_S (ip_L w r k) n ≤ n * 150 := ip_S_bd (fun c _ => Nat.le_trans ip_L_le (hw c))
  have hQ2 : ip_Q n w r k ≤ 1200 := by omega
  have hruk := hru k
  have hmo : ∀ c, c < n → r c = k → g c ≤ ip_mo 0 w c := fun c hc e => by rw [hg0 c hc e]; exact Nat.zero_le _
  have e1 := ip_TL0 (w := w) (l := l) hg0
  have hl1 : ∀ c, c < n → ip_fill (ip_TL 0 w r g k) l n c ≤ 150 := fun c hc => by rw [e1 c hc]; exact Nat.le_trans ip_L_le (hw c)
  have hu1 : u ≤ ip_S (ip_fill (ip_TL 0 w r g k) l n) n := by rw [ip_S_congr e1]; exact hu
  unfold wpX_shareRank
  refine ⟨pk_in k 4 hk, pk_eq (ru k) 0 (fun e => ?_) (fun e0 => ⟨pk_in k 4 hk, pk_eq (ru k) 1 (fun e => ?_) (fun e1 => ⟨pk_in k 4 hk, pk_eq (ru k) 2 (fun e => ?_) (fun e2 => ?_) (ip_at ru (by omega))⟩) (ip_at ru (by omega))⟩) (ip_at ru (by omega))⟩
  · refine ip_takeLimits (h := 0) hn hw hr hk (by omega) hmo (ip_award hn hl1 hu1 (fun x g' xT xl xs hg' => ?_))
    exact H x g' _ ⟨fun c hc => by rw [← e1 c hc]; exact xl c hc, xs, fun _ => ip_T_congrl e1 xT, fun z => absurd z (by omega), fun z => absurd z (by omega), fun z => absurd z (by omega)⟩ hg'
  · refine ip_takeLimits (h := 0) hn hw hr hk (by omega) hmo (ip_lose hn hl1 hu1 (fun x g' xT xl xs hg' => ?_))
    exact H x g' _ ⟨fun c hc => by rw [← e1 c hc]; exact xl c hc, xs, fun z => absurd z (by omega), fun _ => ip_Tl_congr e1 xT, fun z => absurd z (by omega), fun z => absurd z (by omega)⟩ hg'
  · refine ip_quotas hn hw hr hk hu hg0 (fun x g' xT xl xs hg' => ?_)
    exact H x g' _ ⟨xl, xs, fun z => absurd z (by omega), fun z => absurd z (by omega), fun _ => xT, fun z => absurd z (by omega)⟩ hg'
  · have e3 : (nI (ip_Q n w r k) + 1) >>> ((1 : Int32) &&& 31) = nI ((ip_Q n w r k + 1) / 2) := by
      rw [nI_1]
      exact pk_shrN (by omega) _ 1 (by decide)
    refine nm_r e3 (pk_le ((ip_Q n w r k + 1) / 2) u (fun z => ?_) (fun z => ?_))
    · exact ip_shareRank_86 hn hw hr hk hu (by omega) (by omega) hg0 H
    · exact ip_shareRank_86 hn hw hr hk hu (by omega) (by omega) hg0 H
/-! shareOut -/
theorem ip_so_51 {post : St1 → Prop} {J : Int32 → Int32 → Int32 → Int32 → Int32 → (Nat → Int32) → (Nat → Int32) → (Nat → Int32) → (Nat → Int32) → (Nat → Int32) → (Nat → Int32) → Prop} {f1 f2 : Int32} {n A i u : Nat} {w r ru g l : Nat → Nat} {a6 : Nat → Int32}
    (hn : n ≤ 8) (hw : ∀ c, w c ≤ 150) (hr : ∀ c, r c < 4) (hru : ∀ c, ru c < 4) (hi : i < 4) (hu : u = ip_U n w r A i)
    (h1 : ∀ k, k < i → ip_RS n w r ru A g k) (h2 : ∀ c, c < n → i ≤ r c → g c = 0)
    (H : ∀ g' l', (∀ k, k < i + 1 → ip_RS n w r ru A g' k) → (∀ c, c < n → i + 1 ≤ r c → g' c = 0) → J (nI (A - ip_P n w r (i + 1))) (nI (i + 1)) (nI n) f1 f2 (ip_ar w) (ip_ar r) (ip_ar ru) (ip_ar g') (ip_ar l') a6) :
    wX_shareOut_51 post J (nI (A - ip_P n w r i)) (nI i) (nI (ip_Q n w r i)) (nI u) (nI n) f1 f2 (ip_ar w) (ip_ar r) (ip_ar ru) (ip_ar g) (ip_ar l) a6 := by
  unfold wX_shareOut_51
  have hUle := ip_U_le n w r A i
  have hUle2 : ip_U n w r A i ≤ A - ip_P n w r i := Nat.min_le_left _ _
  refine ip_shareRank hn hw hr hru hi (by omega) (fun c hc e => h2 c hc (by omega)) (fun x g' l' hx hg' => ?_)
  refine nm_r (e' := nI (A - ip_P n w r (i + 1))) ?_ (nm_r (nI_1 i) (H g' l' (fun k hk => ?_) (fun c hc hrc => ?_)))
  · rw [hu, pk_sub hUle2, ip_U_s]
  · by_cases e : k = i
    · subst e
      rw [hu] at hx
      exact ⟨x, hx, fun c hc e2 => by rw [hg' c hc, h2 c hc (by omega), Nat.zero_add]⟩
    · obtain ⟨y, hy, ey⟩ := h1 k (by omega)
      refine ⟨y, hy, fun c hc e2 => ?_⟩
      have z := hx.1 c hc
      rw [ip_L_out (show ¬ r c = i by omega)] at z
      rw [hg' c hc, ey c hc e2, show x c = 0 by omega, Nat.add_zero]
  · have z := hx.1 c hc
    rw [ip_L_out (show ¬ r c = i by omega)] at z
    rw [hg' c hc, h2 c hc (by omega)]
    omega
theorem ip_shareOut {post : St1 → Prop} {f1 f2 : Int32} {n A : Nat} {w r ru g l : Nat → Nat} {a6 : Nat → Int32}
    (hn : n ≤ 8) (hw : ∀ c, w c ≤ 150) (hr : ∀ c, r c < 4) (hru : ∀ c, ru c < 4) (hA : A ≤ 1500)
    (H : ∀ g' l', ip_SH n w r ru A g' → post (nI n, f1, nI (A - ip_P n w r 4), ip_ar w, ip_ar r, ip_ar ru, ip_ar g', ip_ar l', a6)) :
    wpX_shareOut post (nI n, f1, f2, ip_ar w, ip_ar r, ip_ar ru, ip_ar g, ip_ar l, a6) (nI A) := by
  have hQ : ∀ k, ip_Q n w r k ≤ 1200 := fun k => by
    have h1 : ip_S (ip_L w r k) n ≤ n * 150 := ip_S_bd (fun c _ => Nat.le_trans ip_L_le (hw c))
    show ip_S (ip_L w r k) n ≤ 1200
    omega
  have h27 : ∀ g l, (∀ c, c < n → g c = 0) → ∃ m, wX_shareOut_27 post m (nI (A - ip_P n w r 0)) (nI 0) (nI n) f1 f2 (ip_ar w) (ip_ar r) (ip_ar ru) (ip_ar g) (ip_ar l) a6 := by
    intro g l hg
    refine pk_loop (σ := (Nat → Nat) × (Nat → Nat)) (fun m i s => wX_shareOut_27 post m (nI (A - ip_P n w r i)) (nI i) (nI n) f1 f2 (ip_ar w) (ip_ar r) (ip_ar ru) (ip_ar s.1) (ip_ar s.2) a6)
      (fun i s => (∀ k, k < i → ip_RS n w r ru A s.1 k) ∧ (∀ c, c < n → i ≤ r c → s.1 c = 0)) 4 0 (g, l) (by omega) ⟨fun k hk => absurd hk (by omega), fun c hc _ => hg c hc⟩ ?_ ?_
    · intro m s h
      exact pk_le 4 4 (fun _ => H s.1 s.2 h.1) (fun z => absurd z (by omega))
    · intro m i s hi h hW
      have hQi := hQ i
      refine pk_le 4 i (fun z => absurd z (by omega)) (fun _ => ip_total hn hr hi ?_)
      refine pk_le (ip_Q n w r i) (A - ip_P n w r i) (fun z => ?_) (fun z => ?_)
      · exact ip_so_51 hn hw hr hru hi (by unfold ip_U; omega) h.1 h.2 (fun g' l' q1 q2 => hW (g', l') ⟨q1, q2⟩)
      · exact ip_so_51 hn hw hr hru hi (by unfold ip_U; omega) h.1 h.2 (fun g' l' q1 q2 => hW (g', l') ⟨q1, q2⟩)
  have q : ∃ m, wX_shareOut_4 post (nI A) (nI n) f1 f2 m (nI 0) (ip_ar w) (ip_ar r) (ip_ar ru) (ip_ar (ip_fill (fun _ => 0) g 0)) (ip_ar l) a6 :=
    ip_loop (fun m i => wX_shareOut_4 post (nI A) (nI n) f1 f2 m (nI i) (ip_ar w) (ip_ar r) (ip_ar ru) (ip_ar (ip_fill (fun _ => 0) g i)) (ip_ar l) a6) n
      (fun m => pk_le n n (fun _ => h27 _ l (fun c hc => ip_fill_lt hc)) (fun z => absurd z (by omega)))
      (fun m i hi hW => pk_le n i (fun z => absurd z (by omega)) (fun _ => ⟨pk_in i 8 (by omega), nm_r (ip_uf (F := fun _ => 0) (by omega) rfl) (nm_r (nI_1 i) hW)⟩))
  rw [ip_fill_0] at q
  exact q
end
section
/-! the picture, and the calls that ask -/
def ip_K (n p : Nat) (w r ru : Nat → Nat) : Prop := n ≤ 8 ∧ p ≤ 1500 ∧ (∀ c, w c ≤ 150) ∧ (∀ c, r c < 4) ∧ (∀ c, ru c < 4)
/-- the word holds the ranks of the creditors below n -/
def ip_RW (x : Int32) (n : Nat) (r : Nat → Nat) : Prop := ∀ c, c < n → (x >>> ((4 * nI c) &&& 31)) &&& 3 = nI (r c)
theorem ip_isCred {post : Int32 → Prop} {f1 f2 : Int32} {n c : Nat} {a1 a2 a3 a4 a5 a6 : Nat → Int32} (hn : n ≤ 8) (hc : c < n) (H : post 1) : wpX_isCreditor post (nI n, f1, f2, a1, a2, a3, a4, a5, a6) (nI c) :=
  pk_lt c 0 (fun z => absurd z (by omega)) (fun _ => pk_le n c (fun z => absurd z (by omega)) (fun _ => H))
theorem ip_share {post : Int32 → St1 → Prop} {f2 : Int32} {n p c : Nat} {w r ru g l : Nat → Nat} {a6 : Nat → Int32} (hK : ip_K n p w r ru) (hc : c < n)
    (H : ∀ ov g' l', ip_SH n w r ru p g' → post (nI (g' c)) (nI n, nI p, ov, ip_ar w, ip_ar r, ip_ar ru, ip_ar g', ip_ar l', a6)) :
    wpX_share post (nI n, nI p, f2, ip_ar w, ip_ar r, ip_ar ru, ip_ar g, ip_ar l, a6) (nI c) := by
  obtain ⟨hn, hp, hw, hr, hru⟩ := hK
  unfold wpX_share
  refine ip_isCred hn hc (br_f (by decide) (ip_shareOut hn hw hr hru hp (fun g' l' h => ⟨pk_in c 8 (by omega), ?_⟩)))
  rw [ip_at g' (by omega)]
  exact H _ g' l' h
theorem ip_shareOf {post : Int32 → St1 → Prop} {f2 : Int32} {n p c e : Nat} {w r ru g l : Nat → Nat} {a6 : Nat → Int32} (hK : ip_K n p w r ru) (hc : c < n) (he : e ≤ 1500)
    (H : ∀ ov g' l', ip_SH n w r ru e g' → post (nI (g' c)) (nI n, nI p, ov, ip_ar w, ip_ar r, ip_ar ru, ip_ar g', ip_ar l', a6)) :
    wpX_shareOf post (nI n, nI p, f2, ip_ar w, ip_ar r, ip_ar ru, ip_ar g, ip_ar l, a6) (nI c) (nI e) := by
  obtain ⟨hn, hp, hw, hr, hru⟩ := hK
  unfold wpX_shareOf
  refine ip_isCred hn hc (br_f (by decide) (pk_lt e 0 (fun z => absurd z (by omega)) (fun _ => pk_le e 1500 (fun _ => ip_shareOut hn hw hr hru he (fun g' l' h => ⟨pk_in c 8 (by omega), ?_⟩)) (fun z => absurd z (by omega)))))
  rw [ip_at g' (by omega)]
  exact H _ g' l' h
theorem ip_left {post : Int32 → St1 → Prop} {f2 : Int32} {n p : Nat} {w r ru g l : Nat → Nat} {a6 : Nat → Int32} (hK : ip_K n p w r ru)
    (H : ∀ ov g' l', ip_SH n w r ru p g' → post (nI (p - ip_P n w r 4)) (nI n, nI p, ov, ip_ar w, ip_ar r, ip_ar ru, ip_ar g', ip_ar l', a6)) :
    wpX_left post (nI n, nI p, f2, ip_ar w, ip_ar r, ip_ar ru, ip_ar g, ip_ar l, a6) := by
  obtain ⟨hn, hp, hw, hr, hru⟩ := hK
  unfold wpX_left
  exact ip_shareOut hn hw hr hru hp (fun g' l' h => H _ g' l' h)
theorem ip_claimOf {post : Int32 → Prop} {f1 f2 : Int32} {n c : Nat} {w : Nat → Nat} {a2 a3 a4 a5 a6 : Nat → Int32} (hn : n ≤ 8) (hc : c < n) (H : post (nI (w c))) :
    wpX_claimOf post (nI n, f1, f2, ip_ar w, a2, a3, a4, a5, a6) (nI c) := by
  unfold wpX_claimOf
  refine ip_isCred hn hc (br_f (by decide) ⟨pk_in c 8 (by omega), ?_⟩)
  rw [ip_at w (by omega)]
  exact H
/-! holds -/
theorem ip_holds_134 {post : Int32 → St1 → Prop} {x1 f2 : Int32} {n p f : Nat} {w r ru g l : Nat → Nat} {a6 : Nat → Int32} (hK : ip_K n p w r ru) (hR : ip_RW x1 n r) (hf : f ≤ 4)
    (hF : f < 4 → ∃ j, j < n ∧ ip_G n w r ru p j < w j ∧ r j = f)
    (H : ∀ ov g' l', post 1 (nI n, nI p, ov, ip_ar w, ip_ar r, ip_ar ru, ip_ar g', ip_ar l', a6)) :
    ∃ m, wL_holds_134 post x1 (nI p) (nI n) (nI (ip_S (ip_G n w r ru p) n)) (nI f) m (nI 0) (nI n) (nI p) f2 (ip_ar w) (ip_ar r) (ip_ar ru) (ip_ar g) (ip_ar l) a6 := by
  have hn := hK.1
  have hp := hK.2.1
  have hr := hK.2.2.2.1
  refine pk_loop (σ := Int32 × (Nat → Nat) × (Nat → Nat)) (fun m i s => wL_holds_134 post x1 (nI p) (nI n) (nI (ip_S (ip_G n w r ru p) n)) (nI f) m (nI i) (nI n) (nI p) s.1 (ip_ar w) (ip_ar r) (ip_ar ru) (ip_ar s.2.1) (ip_ar s.2.2) a6)
    (fun i s => True) n 0 (f2, g, l) (by omega) trivial ?_ ?_
  · intro m s _
    refine pk_le n n (fun _ => ip_left hK (fun ov g' l' h => br_t ?_ (H ov g' l'))) (fun z => absurd z (by omega))
    have h2 := (ip_SH_sum (ip_G_sh h) hr).1
    rw [nI_add, h2]
  · intro m i s hi _ hW
    have hri := hr i
    refine pk_le n i (fun z => absurd z (by omega)) (fun _ => ?_)
    refine pk_le (r i) f (fun z => nm_r (nI_1 i) (hW s trivial)) (fun z => ?_) (hR i hi) rfl (by omega) (by omega)
    refine ip_share hK hi (fun ov g' l' h => ?_)
    obtain ⟨j, hj, h1, h2⟩ := hF (by omega)
    rw [← ip_G_eq h (hr j) hj] at h1
    have e : g' i = 0 := ip_SH_prio h hr hj hi h1 (by omega)
    exact br_t (by rw [e]; rfl) (nm_r (nI_1 i) (hW (ov, g', l') trivial))
theorem ip_holds_80 {post : Int32 → St1 → Prop} {J : Int32 → Int32 → Int32 → Int32 → Int32 → Int32 → (Nat → Int32) → (Nat → Int32) → (Nat → Int32) → (Nat → Int32) → (Nat → Int32) → (Nat → Int32) → Prop} {x1 x2 x4 x5 x6 x8 f2 y : Int32} {n p e i : Nat} {w r ru g l : Nat → Nat} {a6 : Nat → Int32}
    (hK : ip_K n p w r ru) (hi : i < n) (he : e < 1500) (hy : x5 + x8 = y)
    (H : ∀ ov g' l', J y x6 (nI (i + 1)) (nI n) (nI p) ov (ip_ar w) (ip_ar r) (ip_ar ru) (ip_ar g') (ip_ar l') a6) :
    wL_holds_80 post J x1 x2 (nI e) x4 x5 x6 (nI i) x8 (nI n) (nI p) f2 (ip_ar w) (ip_ar r) (ip_ar ru) (ip_ar g) (ip_ar l) a6 := by
  have hn := hK.1
  have hw := hK.2.2.1
  have hr := hK.2.2.2.1
  unfold wL_holds_80
  refine nm_r hy (ip_shareOf hK hi (by omega) (fun ov g1 l1 h1 => ?_))
  dsimp only
  rw [nI_1 e]
  refine ip_shareOf hK hi (by omega) (fun ov2 g2 l2 h2 => ?_)
  have t1 := ip_SH_mono h1 h2 (by omega) (hr i) hi
  have t2 := ip_SH_one h1 h2 hr hi
  have t3 := ip_SH_le h1 (hr i) hi
  have t4 := ip_SH_le h2 (hr i) hi
  have t5 := hw i
  refine pk_lt (g2 i) (g1 i) (fun z => absurd z (by omega)) (fun _ => pk_le (g2 i) (g1 i + 1) (fun _ => nm_r (nI_1 i) (H ov2 g2 l2)) (fun z => absurd z (by omega)) rfl (nI_1 _) (by omega) (by omega)) rfl rfl (by omega) (by omega)
theorem ip_holds {post : Int32 → St1 → Prop} {x1 f2 : Int32} {n p e : Nat} {w r ru g l : Nat → Nat} {a6 : Nat → Int32} (hK : ip_K n p w r ru) (hR : ip_RW x1 n r) (he : e < 1500)
    (H : ∀ ov g' l', post 1 (nI n, nI p, ov, ip_ar w, ip_ar r, ip_ar ru, ip_ar g', ip_ar l', a6)) :
    wpL_holds post (nI n, nI p, f2, ip_ar w, ip_ar r, ip_ar ru, ip_ar g, ip_ar l, a6) x1 (nI p) (nI e) := by
  have hn := hK.1
  have hw := hK.2.2.1
  have hr := hK.2.2.2.1
  have q : ∃ m, wL_holds_15 post x1 (nI p) (nI e) (nI n) m (nI (ip_S (ip_G n w r ru p) 0)) (nI 4) (nI 0) (nI n) (nI p) f2 (ip_ar w) (ip_ar r) (ip_ar ru) (ip_ar g) (ip_ar l) a6 := by
    refine pk_loop (σ := Nat × Int32 × (Nat → Nat) × (Nat → Nat)) (fun m i s => wL_holds_15 post x1 (nI p) (nI e) (nI n) m (nI (ip_S (ip_G n w r ru p) i)) (nI s.1) (nI i) (nI n) (nI p) s.2.1 (ip_ar w) (ip_ar r) (ip_ar ru) (ip_ar s.2.2.1) (ip_ar s.2.2.2) a6)
      (fun i s => s.1 ≤ 4 ∧ (s.1 < 4 → ∃ j, j < n ∧ ip_G n w r ru p j < w j ∧ r j = s.1)) n 0 (4, f2, g, l) (by omega) ⟨Nat.le_refl 4, fun z => absurd z (Nat.lt_irrefl 4)⟩ ?_ ?_
    · intro m s h
      exact pk_le n n (fun _ => ip_holds_134 hK hR h.1 h.2 H) (fun z => absurd z (by omega))
    · intro m i s hi h hW
      obtain ⟨f, ov0, g0, l0⟩ := s
      obtain ⟨h1, h2⟩ := h
      dsimp only at h1 h2 ⊢
      have hri := hr i
      have hwi := hw i
      refine pk_le n i (fun z => absurd z (by omega)) (fun _ => ip_share hK hi (fun ov g' l' hS => ?_))
      have t1 := ip_SH_le hS hri hi
      have t2 := ip_G_eq hS hri hi
      have hsum : nI (ip_S (ip_G n w r ru p) i) + nI (g' i) = nI (ip_S (ip_G n w r ru p) (i + 1)) := by rw [nI_add, ip_S_s, t2]
      refine ip_claimOf hn hi (nm_r (hR i hi) ?_)
      refine pk_lt (g' i) 0 (fun z => absurd z (by omega)) (fun _ => pk_le (g' i) (w i) (fun _ => ?_) (fun z => absurd z (by omega)) rfl rfl (by omega) (by omega)) rfl rfl (by omega) (by omega)
      refine pk_le (w i) (g' i) (fun z => ?_) (fun z => pk_le f (r i) (fun z2 => ?_) (fun z2 => ?_)) rfl rfl (by omega) (by omega)
      · exact ip_holds_80 hK hi he hsum (fun ov g' l' => hW (f, ov, g', l') ⟨h1, h2⟩)
      · exact ip_holds_80 hK hi he hsum (fun ov g' l' => hW (f, ov, g', l') ⟨h1, h2⟩)
      · exact ip_holds_80 hK hi he hsum (fun ov g' l' => hW (r i, ov, g', l') ⟨Nat.le_of_lt hri, fun _ => ⟨i, hi, by rw [← t2]; exact z, rfl⟩⟩)
  exact q
end
section
/-! Int32 by its bits (out of the kit's laws, renamed) -/
def ip_bt (x : Int32) (i : Nat) : Bool := x.toBitVec.getLsbD i
theorem ip_b_ext {x y : Int32} (h : ∀ i, i < 32 → ip_bt x i = ip_bt y i) : x = y := Int32.toBitVec_inj.mp (BitVec.eq_of_getLsbD_eq (fun i hi => h i hi))
theorem ip_b_or (x y : Int32) (i : Nat) : ip_bt (x ||| y) i = (ip_bt x i || ip_bt y i) := by unfold ip_bt; rw [Int32.toBitVec_or, BitVec.getLsbD_or]
theorem ip_b_and (x y : Int32) (i : Nat) : ip_bt (x &&& y) i = (ip_bt x i && ip_bt y i) := by unfold ip_bt; rw [Int32.toBitVec_and, BitVec.getLsbD_and]
theorem ip_b_xor (x y : Int32) (i : Nat) : ip_bt (x ^^^ y) i = (ip_bt x i ^^ ip_bt y i) := by unfold ip_bt; rw [Int32.toBitVec_xor, BitVec.getLsbD_xor]
theorem ip_b_m1 : ∀ i, i < 32 → ip_bt (-1) i = true := by decide +kernel
theorem ip_s_l : ∀ n, n < 32 → ((nI n &&& 31).toBitVec.smod 32).toNat = n := by decide +kernel
theorem ip_s_u : ∀ n, n < 32 → (((nI n).toUInt32 &&& Int32.toUInt32 31).toBitVec % 32).toNat = n := by decide +kernel
theorem ip_b_shl (n : Nat) (hn : n < 32) (x : Int32) {i : Nat} (hi : i < 32) : ip_bt (x <<< (nI n &&& 31)) i = (decide (n ≤ i) && ip_bt x (i - n)) := by
  unfold ip_bt
  rw [Int32.toBitVec_shiftLeft]
  show (x.toBitVec <<< ((nI n &&& 31).toBitVec.smod 32).toNat).getLsbD i = _
  rw [ip_s_l n hn, BitVec.getLsbD_shiftLeft]
  rcases Nat.lt_or_ge i n with h | h
  · simp [h, Nat.not_le.mpr h]
  · simp [hi, h, Nat.not_lt.mpr h]
theorem ip_b_ushr (n : Nat) (hn : n < 32) (x : Int32) (i : Nat) : ip_bt ((x.toUInt32 >>> ((nI n).toUInt32 &&& Int32.toUInt32 31)).toInt32) i = ip_bt x (n + i) := by
  show (x.toUInt32 >>> ((nI n).toUInt32 &&& Int32.toUInt32 31)).toBitVec.getLsbD i = x.toUInt32.toBitVec.getLsbD (n + i)
  rw [UInt32.toBitVec_shiftRight]
  show (x.toUInt32.toBitVec >>> (((nI n).toUInt32 &&& Int32.toUInt32 31).toBitVec % 32).toNat).getLsbD i = _
  rw [ip_s_u n hn, BitVec.getLsbD_ushiftRight]
theorem ip_b_sshr (n : Nat) (hn : n < 32) (x : Int32) {i : Nat} (hi : i < 32) : ip_bt (x >>> (nI n &&& 31)) i = if n + i < 32 then ip_bt x (n + i) else ip_bt x 31 := by
  unfold ip_bt
  rw [Int32.toBitVec_shiftRight]
  show (x.toBitVec.sshiftRight ((nI n &&& 31).toBitVec.smod 32).toNat).getLsbD i = _
  rw [ip_s_l n hn, BitVec.getLsbD_sshiftRight, BitVec.msb_eq_getLsbD_last]
  simp [hi]
/-! the word of the ranks -/
theorem ip_b_3 : ∀ i, i < 32 → ip_bt 3 i = decide (i < 2) := by decide +kernel
theorem ip_b_15 : ∀ i, i < 32 → ip_bt 15 i = decide (i < 4) := by decide +kernel
theorem ip_b_q : ∀ q, q < 4 → ∀ i, i < 32 → ip_bt (nI q) i = q.testBit i := by decide +kernel
theorem ip_b_q2 : ∀ q, q < 4 → ∀ i, i < 32 → 2 ≤ i → ip_bt (nI q) i = false := by decide +kernel
theorem ip_b_lo : ∀ c, c < 8 → ∀ i, i < 32 → ip_bt (((1 : Int32) <<< (nI (4 * c) &&& 31)) - 1) i = decide (i < 4 * c) := by decide +kernel
theorem ip_4 (c : Nat) : (4 : Int32) * nI c = nI (4 * c) := pk_mul 4 c
def ip_RB (x : Int32) (n : Nat) (r : Nat → Nat) : Prop := ∀ c, c < n → ∀ b, b < 2 → ip_bt x (4 * c + b) = (r c).testBit b
theorem ip_RB_RW {x : Int32} {n : Nat} {r : Nat → Nat} (hn : n ≤ 8) (hr : ∀ c, r c < 4) (h : ip_RB x n r) : ip_RW x n r := by
  intro c hc
  rw [ip_4]
  apply ip_b_ext
  intro i hi
  rw [ip_b_and, ip_b_sshr (4 * c) (by omega) x hi, ip_b_3 i hi]
  rcases Nat.lt_or_ge i 2 with z | z
  · rw [if_pos (by omega), h c hc i z, ip_b_q (r c) (hr c) i hi]
    simp [z]
  · rw [ip_b_q2 (r c) (hr c) i hi z]
    simp [Nat.not_lt.mpr z]
/-- one rank is set -/
theorem ip_set {x : Int32} {c q : Nat} (hc : c < 8) (hq : q < 4) {j b : Nat} (hj : j < 8) (hb : b < 2) :
    ip_bt ((x &&& (((15 : Int32) <<< ((4 * nI c) &&& 31)) ^^^ (-1))) ||| (nI q <<< ((4 * nI c) &&& 31))) (4 * j + b) = if j = c then q.testBit b else ip_bt x (4 * j + b) := by
  have hi : 4 * j + b < 32 := by omega
  rw [ip_4, ip_b_or, ip_b_and, ip_b_xor, ip_b_m1 _ hi, ip_b_shl (4 * c) (by omega) _ hi, ip_b_shl (4 * c) (by omega) _ hi]
  rcases Nat.lt_trichotomy j c with z | z | z
  · rw [if_neg (by omega), decide_eq_false (show ¬ 4 * c ≤ 4 * j + b by omega)]
    simp
  · subst z
    rw [if_pos rfl, decide_eq_true (show 4 * j ≤ 4 * j + b by omega), show 4 * j + b - 4 * j = b by omega, ip_b_15 b (by omega), decide_eq_true (show b < 4 by omega), ip_b_q q hq b (by omega)]
    simp
  · rw [if_neg (by omega), ip_b_15 _ (by omega), decide_eq_false (show ¬ 4 * j + b - 4 * c < 4 by omega), ip_b_q2 q hq _ (by omega) (by omega)]
    simp
theorem ip_RB_set {x : Int32} {n n' c q : Nat} {r : Nat → Nat} (hc : c < 8) (hq : q < 4) (hn' : n' ≤ 8) (hsub : ∀ j, j < n' → j ≠ c → j < n) (h : ip_RB x n r) :
    ip_RB ((x &&& (((15 : Int32) <<< ((4 * nI c) &&& 31)) ^^^ (-1))) ||| (nI q <<< ((4 * nI c) &&& 31))) n' (ip_up r c q) := by
  intro j hj b hb
  rw [ip_set hc hq (by omega) hb]
  by_cases e : j = c
  · rw [if_pos e, e, ip_up_s]
  · rw [if_neg e, ip_up_n r e]
    exact h j (hsub j hj e) b hb
/-- places from c on move down by one, up to i -/
def ip_sh (f : Nat → Nat) (c i : Nat) : Nat → Nat := fun j => if c ≤ j ∧ j + 1 < i then f (j + 1) else f j
theorem ip_sh_0 (f : Nat → Nat) (c : Nat) : ip_sh f c (c + 1) = f := funext (fun j => if_neg (by omega))
theorem ip_sh_at (f : Nat → Nat) (c i : Nat) : ip_sh f c i i = f i := if_neg (by omega)
theorem ip_sh_s {f : Nat → Nat} {c i : Nat} (h : c < i) : ip_up (ip_sh f c i) (i - 1) (f i) = ip_sh f c (i + 1) := funext (fun j => by
  by_cases e : j = i - 1
  · rw [e, ip_up_s]
    unfold ip_sh
    rw [if_pos (by omega)]
    exact congrArg f (by omega)
  · rw [ip_up_n _ e]
    unfold ip_sh
    by_cases z : c ≤ j ∧ j + 1 < i
    · rw [if_pos z, if_pos (by omega)]
    · rw [if_neg z, if_neg (by omega)])
theorem ip_RB_rem7 {x : Int32} {n : Nat} {r : Nat → Nat} (hn : n ≤ 8) (h : ip_RB x n r) : ip_RB (x &&& (((1 : Int32) <<< ((4 * nI 7) &&& 31)) - 1)) (n - 1) (ip_sh r 7 n) := by
  intro j hj b hb
  rw [ip_4, ip_b_and, ip_b_lo 7 (by omega) _ (by omega), decide_eq_true (show 4 * j + b < 4 * 7 by omega), Bool.and_true]
  unfold ip_sh
  rw [if_neg (by omega)]
  exact h j (by omega) b hb
theorem ip_RB_rem {x : Int32} {n c : Nat} {r : Nat → Nat} (hn : n ≤ 8) (hc : c < 7) (h : ip_RB x n r) :
    ip_RB ((x &&& (((1 : Int32) <<< ((4 * nI c) &&& 31)) - 1)) ||| (((x.toUInt32 >>> (((4 * nI c) + 4).toUInt32 &&& Int32.toUInt32 31)).toInt32) <<< ((4 * nI c) &&& 31))) (n - 1) (ip_sh r c n) := by
  intro j hj b hb
  have e4 : nI (4 * c) + 4 = nI (4 * c + 4) := nI_add (4 * c) 4
  rw [ip_4, e4, ip_b_or, ip_b_and, ip_b_lo c (by omega) _ (by omega), ip_b_shl (4 * c) (by omega) _ (by omega), ip_b_ushr (4 * c + 4) (by omega)]
  unfold ip_sh
  by_cases z : c ≤ j
  · rw [if_pos ⟨z, by omega⟩, decide_eq_false (show ¬ 4 * j + b < 4 * c by omega), decide_eq_true (show 4 * c ≤ 4 * j + b by omega), show 4 * c + 4 + (4 * j + b - 4 * c) = 4 * (j + 1) + b by omega, Bool.and_false, Bool.false_or, Bool.true_and]
    exact h (j + 1) (by omega) b hb
  · rw [if_neg (by omega), decide_eq_true (show 4 * j + b < 4 * c by omega), decide_eq_false (show ¬ 4 * c ≤ 4 * j + b by omega), Bool.and_true, Bool.false_and, Bool.or_false]
    exact h j (by omega) b hb
end
section
/-! the calls that change -/
theorem ip_isRank {post : Int32 → Prop} {a : Nat} (ha : a < 4) (H : post 1) : wpX_isRank post () (nI a) :=
  pk_lt a 0 (fun z => absurd z (by omega)) (fun _ => pk_le 4 a (fun z => absurd z (by omega)) (fun _ => H))
theorem ip_isRule {post : Int32 → Prop} {a : Nat} (ha : a < 4) (H : post 1) : wpX_isRule post () (nI a) :=
  pk_lt a 0 (fun z => absurd z (by omega)) (fun _ => pk_lt 3 a (fun z => absurd z (by omega)) (fun _ => H))
theorem ip_rule {post : Int32 → St1 → Prop} {f0 f1 f2 : Int32} {a b : Nat} {ru : Nat → Nat} {a1 a2 a4 a5 a6 : Nat → Int32} (ha : a < 4) (hb : b < 4) (H : ∀ v, post v (f0, f1, f2, a1, a2, ip_ar (ip_up ru a b), a4, a5, a6)) :
    wpX_rule post (f0, f1, f2, a1, a2, ip_ar ru, a4, a5, a6) (nI a) (nI b) := by
  unfold wpX_rule
  exact ip_isRank ha (br_f (by decide) (ip_isRule hb (br_f (by decide) ⟨pk_in a 4 ha, nm_e ⟨pk_in a 4 ha, nm_r (ip_uc (by omega) rfl) (H _)⟩⟩)))
theorem ip_move {post : Int32 → St1 → Prop} {f1 f2 : Int32} {n c b : Nat} {r : Nat → Nat} {a1 a3 a4 a5 a6 : Nat → Int32} (hn : n ≤ 8) (hc : c < n) (hb : b < 4) (H : ∀ v, post v (nI n, f1, f2, a1, ip_ar (ip_up r c b), a3, a4, a5, a6)) :
    wpX_move post (nI n, f1, f2, a1, ip_ar r, a3, a4, a5, a6) (nI c) (nI b) := by
  unfold wpX_move
  exact ip_isCred hn hc (br_f (by decide) (ip_isRank hb (br_f (by decide) ⟨pk_in c 8 (by omega), nm_e ⟨pk_in c 8 (by omega), nm_r (ip_uc (by omega) rfl) (H _)⟩⟩)))
theorem ip_change {post : Int32 → St1 → Prop} {f1 f2 : Int32} {n c b : Nat} {w : Nat → Nat} {a2 a3 a4 a5 a6 : Nat → Int32} (hn : n ≤ 8) (hc : c < 8) (hb : b ≤ 150)
    (H0 : ∀ v, post v (nI n, f1, f2, ip_ar w, a2, a3, a4, a5, a6)) (H : ∀ v, post v (nI n, f1, f2, ip_ar (ip_up w c b), a2, a3, a4, a5, a6)) :
    wpX_change post (nI n, f1, f2, ip_ar w, a2, a3, a4, a5, a6) (nI c) (nI b) := by
  unfold wpX_change
  rcases Nat.lt_or_ge c n with z | z
  · exact ip_isCred hn z (br_f (by decide) (pk_lt b 0 (fun z => absurd z (by omega)) (fun _ => pk_le b 150 (fun _ => ⟨pk_in c 8 (by omega), nm_e ⟨pk_in c 8 (by omega), nm_r (ip_uc (by omega) rfl) (H _)⟩⟩) (fun z => absurd z (by omega)))))
  · exact pk_lt c 0 (fun z => absurd z (by omega)) (fun _ => pk_le n c (fun _ => br_t rfl (H0 _)) (fun z => absurd z (by omega)))
theorem ip_add {post : Int32 → St1 → Prop} {f1 f2 : Int32} {n x b : Nat} {w r : Nat → Nat} {a3 a4 a5 a6 : Nat → Int32} (hn : n < 8) (hx : x ≤ 150) (hb : b < 4)
    (H : ∀ v, post v (nI (n + 1), f1, f2, ip_ar (ip_up w n x), ip_ar (ip_up r n b), a3, a4, a5, a6)) :
    wpX_add post (nI n, f1, f2, ip_ar w, ip_ar r, a3, a4, a5, a6) (nI x) (nI b) := by
  unfold wpX_add
  refine pk_lt x 0 (fun z => absurd z (by omega)) (fun _ => pk_le x 150 (fun _ => ip_isRank hb (br_f (by decide) (pk_eq n 8 (fun z => absurd z (by omega)) (fun _ => ⟨pk_in n 8 hn, nm_r (ip_uc (by omega) rfl) ⟨pk_in n 8 hn, nm_r (ip_uc (by omega) rfl) (nm_r (nI_1 n) (H _))⟩⟩)))) (fun z => absurd z (by omega)))
theorem ip_remove {post : Int32 → St1 → Prop} {f1 f2 : Int32} {n c : Nat} {w r : Nat → Nat} {a3 a4 a5 a6 : Nat → Int32} (hn : n ≤ 8) (hc : c < n)
    (H : ∀ v, post v (nI (n - 1), f1, f2, ip_ar (ip_sh w c n), ip_ar (ip_sh r c n), a3, a4, a5, a6)) :
    wpX_remove post (nI n, f1, f2, ip_ar w, ip_ar r, a3, a4, a5, a6) (nI c) := by
  unfold wpX_remove
  refine ip_isCred hn hc (br_f (by decide) (nm_r (nI_1 c) ?_))
  have q : ∃ m, wX_remove_14 post (nI n) f1 f2 m (nI (c + 1)) (ip_ar (ip_sh w c (c + 1))) (ip_ar (ip_sh r c (c + 1))) a3 a4 a5 a6 := by
    refine pk_loop (σ := Unit) (fun m i _ => wX_remove_14 post (nI n) f1 f2 m (nI i) (ip_ar (ip_sh w c i)) (ip_ar (ip_sh r c i)) a3 a4 a5 a6) (fun i _ => c < i) n (c + 1) () (by omega) (by omega) ?_ ?_
    · intro m _ _
      exact pk_le n n (fun _ => nm_r (e' := nI (n - 1)) (pk_sub (a := n) (b := 1) (by omega)) (H _)) (fun z => absurd z (by omega))
    · intro m i _ hi hci hW
      have e1 : nI i - 1 = nI (i - 1) := pk_sub (a := i) (b := 1) (by omega)
      refine pk_le n i (fun z => absurd z (by omega)) (fun _ => ?_)
      rw [e1]
      refine ⟨pk_in i 8 (by omega), pk_in (i - 1) 8 (by omega), nm_r (e' := ip_ar (ip_sh w c (i + 1))) ?_ ⟨pk_in i 8 (by omega), pk_in (i - 1) 8 (by omega), nm_r (e' := ip_ar (ip_sh r c (i + 1))) ?_ (nm_r (nI_1 i) (hW () (by omega)))⟩⟩
      · rw [ip_at _ (show i < 2 ^ 31 by omega), ip_sh_at, ip_uc (x := w i) (by omega) rfl, ip_sh_s hci]
      · rw [ip_at _ (show i < 2 ^ 31 by omega), ip_sh_at, ip_uc (x := r i) (by omega) rfl, ip_sh_s hci]
  rw [ip_sh_0, ip_sh_0] at q
  exact q
theorem ip_estate {post : Int32 → St1 → Prop} {f0 f2 : Int32} {p m : Nat} {a1 a2 a3 a4 a5 a6 : Nat → Int32} (hp : p ≤ 1500) (hm : m < 512) (H : ∀ v p', p' ≤ 1500 → post v (f0, nI p', f2, a1, a2, a3, a4, a5, a6)) :
    wpX_estate post (f0, nI p, f2, a1, a2, a3, a4, a5, a6) (nI m - 200) := by
  have t : (nI m - 200).toInt = (m : Int) - 200 := pk_sub_toInt (a := m) (b := 200) (by omega) (by omega)
  have h1 : ¬ (nI m - 200 < -1500) := by
    rw [Int32.lt_iff_toInt_lt, t]
    have : (-1500 : Int32).toInt = -1500 := by decide
    omega
  have h2 : ¬ (1500 < nI m - 200) := by
    rw [Int32.lt_iff_toInt_lt, t]
    have : (1500 : Int32).toInt = 1500 := by decide
    omega
  have e : nI p + (nI m - 200) = nI (p + m) - nI 200 := by
    show nI p + (nI m - nI 200) = _
    rw [Int32.sub_eq_add_neg, ← Int32.add_assoc, ← Int32.sub_eq_add_neg, nI_add]
  unfold wpX_estate
  dsimp only
  rw [e]
  refine br_f h1 (br_f h2 ?_)
  rcases Nat.lt_or_ge (p + m) 200 with z | z
  · exact br_t (pk_sneg (by omega) z) (H _ p hp)
  · rw [pk_sub z]
    exact pk_lt (p + m - 200) 0 (fun z => absurd z (by omega)) (fun _ => pk_le (p + m - 200) 1500 (fun z2 => nm_e (H _ _ z2)) (fun _ => H _ p hp))
theorem ip_estate0 {post : Int32 → St1 → Prop} {f0 f2 : Int32} {p : Nat} {a1 a2 a3 a4 a5 a6 : Nat → Int32} (hp : p ≤ 1500) (H : post (nI p) (f0, nI p, f2, a1, a2, a3, a4, a5, a6)) :
    wpX_estate post (f0, nI p, f2, a1, a2, a3, a4, a5, a6) 0 := by
  have e : nI p + 0 = nI p := nI_add p 0
  unfold wpX_estate
  dsimp only
  rw [e]
  exact br_f (by decide) (br_f (by decide) (pk_lt p 0 (fun z => absurd z (by omega)) (fun _ => pk_le p 1500 (fun _ => nm_e H) (fun z => absurd z (by omega)))))
/-! one turn -/
def ip_PO (post : Int32 → St1 → Prop) (f2 : Int32) (g l : Nat → Nat) (a6 : Nat → Int32) : Prop :=
  ∀ n p w r ru x, ip_K n p w r ru → ip_RB x n r → post x (nI n, nI p, f2, ip_ar w, ip_ar r, ip_ar ru, ip_ar g, ip_ar l, a6)
theorem ip_up_le {f : Nat → Nat} {k x b : Nat} (h : ∀ c, f c ≤ b) (hx : x ≤ b) : ∀ c, ip_up f k x c ≤ b := fun c => by
  by_cases e : c = k
  · rw [e, ip_up_s]; exact hx
  · rw [ip_up_n f e]; exact h c
theorem ip_up_lt {f : Nat → Nat} {k x b : Nat} (h : ∀ c, f c < b) (hx : x < b) : ∀ c, ip_up f k x c < b := fun c => by
  by_cases e : c = k
  · rw [e, ip_up_s]; exact hx
  · rw [ip_up_n f e]; exact h c
theorem ip_sh_le {f : Nat → Nat} {k i b : Nat} (h : ∀ c, f c ≤ b) : ∀ c, ip_sh f k i c ≤ b := fun c => by
  unfold ip_sh
  split
  · exact h _
  · exact h _
theorem ip_sh_lt {f : Nat → Nat} {k i b : Nat} (h : ∀ c, f c < b) : ∀ c, ip_sh f k i c < b := fun c => by
  unfold ip_sh
  split
  · exact h _
  · exact h _
theorem ip_t223 {post : Int32 → St1 → Prop} {d x f2 : Int32} {n p op : Nat} {w r ru g l : Nat → Nat} {a6 : Nat → Int32} (hop : op < 16) (H : ip_PO post f2 g l a6) (hK : ip_K n p w r ru) (hR : ip_RB x n r) :
    wL_turn_223 post (nI op) d x (nI n) (nI p) f2 (ip_ar w) (ip_ar r) (ip_ar ru) (ip_ar g) (ip_ar l) a6 := by
  unfold wL_turn_223
  refine pk_le op 10 (fun _ => H n p w r ru x hK hR) (fun _ => ?_)
  obtain ⟨m, hm, e⟩ := pk_andE (d >>> ((3 : Int32) &&& 31)) (m := 511) 9 (by decide)
  rw [e]
  obtain ⟨hn, hp, hw, hr, hru⟩ := hK
  exact ip_estate hp (by omega) (fun v p' hp' => H n p' w r ru x ⟨hn, hp', hw, hr, hru⟩ hR)
theorem ip_t199 {post : Int32 → St1 → Prop} {d x f2 : Int32} {n p op rr : Nat} {w r ru g l : Nat → Nat} {a6 : Nat → Int32} (hop : op < 16) (hrr : rr < 4) (H : ip_PO post f2 g l a6) (hK : ip_K n p w r ru) (hR : ip_RB x n r) :
    wL_turn_199 post (nI op) d x (nI rr) (nI n) (nI p) f2 (ip_ar w) (ip_ar r) (ip_ar ru) (ip_ar g) (ip_ar l) a6 := by
  unfold wL_turn_199
  refine pk_le 11 op (fun _ => ip_t223 hop H hK hR) (fun _ => pk_le op 7 (fun _ => ip_t223 hop H hK hR) (fun _ => ?_))
  obtain ⟨m, hm, e⟩ := pk_andE (d >>> ((5 : Int32) &&& 31)) (m := 3) 2 (by decide)
  rw [e]
  obtain ⟨hn, hp, hw, hr, hru⟩ := hK
  exact ip_rule hrr (by omega) (fun v => ip_t223 hop H ⟨hn, hp, hw, hr, ip_up_lt hru (by omega)⟩ hR)
theorem ip_t159 {post : Int32 → St1 → Prop} {d x f2 : Int32} {n p op rr cc : Nat} {w r ru g l : Nat → Nat} {a6 : Nat → Int32} (hop : op < 16) (hrr : rr < 4) (hcc : 0 < n → cc < n) (H : ip_PO post f2 g l a6) (hK : ip_K n p w r ru) (hR : ip_RB x n r) :
    wL_turn_159 post (nI op) d x (nI n) (nI cc) (nI rr) (nI n) (nI p) f2 (ip_ar w) (ip_ar r) (ip_ar ru) (ip_ar g) (ip_ar l) a6 := by
  unfold wL_turn_159
  have hn8 := hK.1
  refine pk_eq op 7 (fun _ => pk_le n 0 (fun _ => ip_t199 hop hrr H hK hR) (fun z => ?_)) (fun _ => ip_t199 hop hrr H hK hR)
  obtain ⟨hn, hp, hw, hr, hru⟩ := hK
  have hc := hcc z
  exact ip_move hn hc hrr (fun v => H n p w (ip_up r cc rr) ru _ ⟨hn, hp, hw, ip_up_lt hr hrr, hru⟩ (ip_RB_set (by omega) hrr hn (fun j hj _ => hj) hR))
theorem ip_t144 {post : Int32 → St1 → Prop} {d x f2 : Int32} {n p op rr cc xx : Nat} {w r ru g l : Nat → Nat} {a6 : Nat → Int32} (hop : op < 16) (hrr : rr < 4) (hcc : 0 < n → cc < n) (hc8 : cc < 8) (hxx : xx ≤ 150) (H : ip_PO post f2 g l a6) (hK : ip_K n p w r ru) (hR : ip_RB x n r) :
    wL_turn_144 post (nI op) d x (nI n) (nI cc) (nI rr) (nI xx) (nI n) (nI p) f2 (ip_ar w) (ip_ar r) (ip_ar ru) (ip_ar g) (ip_ar l) a6 := by
  unfold wL_turn_144
  refine pk_eq op 6 (fun _ => ?_) (fun _ => ip_t159 hop hrr hcc H hK hR)
  have hK' := hK
  obtain ⟨hn, hp, hw, hr, hru⟩ := hK
  exact ip_change hn hc8 hxx (fun v => ip_t159 hop hrr hcc H hK' hR) (fun v => ip_t159 hop hrr hcc H ⟨hn, hp, ip_up_le hw hxx, hr, hru⟩ hR)
theorem ip_t86 {post : Int32 → St1 → Prop} {d x f2 : Int32} {n p op rr cc xx : Nat} {w r ru g l : Nat → Nat} {a6 : Nat → Int32} (hop : op < 16) (hrr : rr < 4) (hcc : 0 < n → cc < n) (hc8 : cc < 8) (hxx : xx ≤ 150) (H : ip_PO post f2 g l a6) (hK : ip_K n p w r ru) (hR : ip_RB x n r) :
    wL_turn_86 post (nI op) d x (nI n) (nI cc) (nI rr) (nI xx) (nI n) (nI p) f2 (ip_ar w) (ip_ar r) (ip_ar ru) (ip_ar g) (ip_ar l) a6 := by
  unfold wL_turn_86
  have hn8 := hK.1
  refine pk_eq op 5 (fun _ => pk_le n 0 (fun _ => ip_t144 hop hrr hcc hc8 hxx H hK hR) (fun z => ?_)) (fun _ => ip_t144 hop hrr hcc hc8 hxx H hK hR)
  obtain ⟨hn, hp, hw, hr, hru⟩ := hK
  have hc := hcc z
  refine ip_remove hn hc (fun v => nm_e (pk_eq cc 7 (fun e => ?_) (fun e => ?_)))
  · subst e
    exact H (n - 1) p _ _ ru _ ⟨by omega, hp, ip_sh_le hw, ip_sh_lt hr, hru⟩ (ip_RB_rem7 hn hR)
  · exact H (n - 1) p _ _ ru _ ⟨by omega, hp, ip_sh_le hw, ip_sh_lt hr, hru⟩ (ip_RB_rem hn (by omega) hR)
theorem ip_t23 {post : Int32 → St1 → Prop} {d x f2 : Int32} {n p op cc : Nat} {w r ru g l : Nat → Nat} {a6 : Nat → Int32} (hop : op < 16) (hcc : 0 < n → cc < n) (hc8 : cc < 8) (H : ip_PO post f2 g l a6) (hK : ip_K n p w r ru) (hR : ip_RB x n r) :
    wL_turn_23 post (nI op) d x (nI n) (nI cc) (nI n) (nI p) f2 (ip_ar w) (ip_ar r) (ip_ar ru) (ip_ar g) (ip_ar l) a6 := by
  unfold wL_turn_23
  have hn8 := hK.1
  obtain ⟨rr, hrr, e1⟩ := pk_andE (d >>> ((3 : Int32) &&& 31)) (m := 3) 2 (by decide)
  obtain ⟨m, hm, e2⟩ := pk_andE (d >>> ((5 : Int32) &&& 31)) (m := 255) 8 (by decide)
  rw [e1, e2]
  have hrr' : rr < 4 := hrr
  have hxx : m % 151 ≤ 150 := by omega
  refine nm_e ⟨by decide, nm_r (e' := nI (m % 151)) (pk_rem (a := m) (d := 151) (by omega) (by omega) (by omega)) ?_⟩
  refine pk_le 5 op (fun _ => ip_t86 hop hrr' hcc hc8 hxx H hK hR) (fun _ => pk_le 8 n (fun _ => ip_t86 hop hrr' hcc hc8 hxx H hK hR) (fun z => ?_))
  obtain ⟨hn, hp, hw, hr, hru⟩ := hK
  exact ip_add z hxx hrr' (fun v => H (n + 1) p _ _ ru _ ⟨z, hp, ip_up_le hw hxx, ip_up_lt hr hrr', hru⟩ (ip_RB_set z hrr' z (fun j hj hne => by omega) hR))
theorem ip_turn {post : Int32 → St1 → Prop} {d x f2 : Int32} {n p op : Nat} {w r ru g l : Nat → Nat} {a6 : Nat → Int32} (hop : op < 16) (H : ip_PO post f2 g l a6) (hK : ip_K n p w r ru) (hR : ip_RB x n r) :
    wpL_turn post (nI n, nI p, f2, ip_ar w, ip_ar r, ip_ar ru, ip_ar g, ip_ar l, a6) (nI op) d x := by
  have hn8 := hK.1
  unfold wpL_turn wpX_creditors
  dsimp only
  refine pk_le 1 n (fun z => ⟨nI_ne0 z (by omega), ?_⟩) (fun z => ip_t23 (cc := 0) hop (fun h => absurd h (by omega)) (by omega) H hK hR)
  obtain ⟨m, hm, e⟩ := pk_andE d (m := 7) 3 (by decide)
  rw [e, pk_rem (by omega) z (by omega)]
  have h1 : m % n < n := Nat.mod_lt _ z
  exact ip_t23 hop (fun _ => h1) (by omega) H hK hR
end
section
theorem ip_cell {post : Int32 → Prop} {L k : Nat} {xs : Nat → Int32} (hL : L < 2 ^ 31) (hk : k < 2 ^ 31) (H : ∀ v, post v) : wpL_cell post L xs () (nI k) :=
  pk_le L k (fun _ => H 0) (fun z => ⟨pk_in k L z, H _⟩)
theorem ip_law {L : Nat} {xs : Nat → Int32} {kc ks : Nat} (hL : L ≤ 260) : ∃ m, wL_law_12 (fun r => r = 1) L xs kc ks m 0 (nI 0) (nI 0) (nI 0) 0 (ip_ar (fun _ => 0)) (ip_ar (fun _ => 0)) (ip_ar (fun _ => 0)) (ip_ar (fun _ => 0)) (ip_ar (fun _ => 0)) (fun _ => 0) := by
  refine pk_loop (σ := Int32 × Nat × Nat × Int32 × (Nat → Nat) × (Nat → Nat) × (Nat → Nat) × (Nat → Nat) × (Nat → Nat))
    (fun m i s => wL_law_12 (fun r => r = 1) L xs kc ks m s.1 (nI (2 * i)) (nI s.2.1) (nI s.2.2.1) s.2.2.2.1 (ip_ar s.2.2.2.2.1) (ip_ar s.2.2.2.2.2.1) (ip_ar s.2.2.2.2.2.2.1) (ip_ar s.2.2.2.2.2.2.2.1) (ip_ar s.2.2.2.2.2.2.2.2) (fun _ => 0))
    (fun i s => ip_K s.2.1 s.2.2.1 s.2.2.2.2.1 s.2.2.2.2.2.1 s.2.2.2.2.2.2.1 ∧ ip_RB s.1 s.2.1 s.2.2.2.2.2.1) ((L + 1) / 2) 0
    (0, 0, 0, 0, (fun _ => 0), (fun _ => 0), (fun _ => 0), (fun _ => 0), (fun _ => 0)) (by omega)
    ⟨⟨by decide, by decide, fun _ => Nat.zero_le 150, fun _ => Nat.zero_lt_succ 3, fun _ => Nat.zero_lt_succ 3⟩, fun c hc => absurd hc (Nat.not_lt_zero c)⟩ ?_ ?_
  · intro m s _
    exact pk_le L (2 * ((L + 1) / 2)) (fun _ => rfl) (fun z => absurd z (by omega))
  · intro m i s hi h hW
    obtain ⟨x, n, p, ov, w, r, ru, g, l⟩ := s
    obtain ⟨hK, hR⟩ := h
    dsimp only at hK hR ⊢
    refine pk_le L (2 * i) (fun z => absurd z (by omega)) (fun _ => ip_cell (by omega) (by omega) (fun v1 => ?_))
    rw [nI_1]
    refine ip_cell (by omega) (by omega) (fun v2 => ?_)
    obtain ⟨op, hop, e⟩ := pk_andE v1 (m := 15) 4 (by decide)
    rw [e]
    refine ip_turn hop (fun n p w r ru x hK hR => ?_) hK hR
    have hp := hK.2.1
    refine ip_estate0 hp (pk_lt p 0 (fun z => absurd z (by omega)) (fun _ => pk_le p 1500 (fun _ => ⟨by decide, ?_⟩) (fun z => absurd z (by omega))))
    obtain ⟨m2, hm2, e2⟩ := pk_andE (v1 >>> ((4 : Int32) &&& 31)) (m := 2047) 11 (by decide)
    rw [e2]
    have e3 : nI m2 - nI m2 / 1500 * 1500 = nI (m2 % 1500) := pk_rem (a := m2) (d := 1500) (by omega) (by omega) (by omega)
    rw [e3]
    refine ip_holds hK (ip_RB_RW hK.1 hK.2.2.2.1 hR) (Nat.mod_lt _ (by omega)) (fun ov g' l' => br_f (by decide) (nm_r (e' := nI (2 * (i + 1))) (nI_add (2 * i) 2) ?_))
    exact hW (x, n, p, ov, w, r, ru, g', l') ⟨hK, hR⟩
theorem i_vc (xs : Nat → Int32) (L : Nat) (hL : L ≤ 260) : wpL_law (fun r => r = 1) L xs := by
  refine ⟨6, 44, by omega, by omega, ?_⟩
  unfold wpX_init
  refine ⟨by omega, by omega, by omega, by omega, by omega, by omega, by omega, by omega, by omega, by omega, by omega, by omega, ?_⟩
  exact ip_law hL
end
