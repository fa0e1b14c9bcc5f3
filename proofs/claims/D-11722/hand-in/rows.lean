section
/-! the pure picture: link chains, the basic invariant -/
def ca_it (sh : Nat → Nat) : Nat → Nat → Nat
  | 0, v => v
  | k + 1, v => sh (ca_it sh k v)
def ca_An (sh : Nat → Nat) (x v : Nat) : Prop := ∃ k, ca_it sh k v = x
def ca_u {α : Type} (f : Nat → α) (k : Nat) (x : α) : Nat → α := fun j => if j = k then x else f j
def ca_u2 (f : Nat → Nat → Option Nat) (x c : Nat) (o : Option Nat) : Nat → Nat → Option Nat := fun y d => if y = x ∧ d = c then o else f y d
def ca_B (n W s : Nat) (ln sh : Nat → Nat) (nx : Nat → Nat → Option Nat) : Prop :=
  W < n ∧ n ≤ 2 * s + 1 ∧ ln 0 = 0 ∧ sh 0 = 0 ∧ ln W = s ∧ (∀ v, v < n → v ≠ W → ln v < s) ∧
  (∀ v, v < n → v ≠ 0 → sh v < n ∧ ln (sh v) < ln v) ∧ (∀ p c q, nx p c = some q → p < n ∧ q < n ∧ ln p < ln q)
/-- the first r states of the chain of p had o by the letter c and have o' now; all else is as it was -/
def ca_L (sh : Nat → Nat) (nx nx1 : Nat → Nat → Option Nat) (p c : Nat) (o o' : Option Nat) (r : Nat) : Prop :=
  (∀ j, j < r → nx (ca_it sh j p) c = o ∧ nx1 (ca_it sh j p) c = o') ∧ (∀ x d, (d ≠ c ∨ ∀ j, j < r → x ≠ ca_it sh j p) → nx1 x d = nx x d)
/-- the row of q copied to the row of t -/
def ca_cp (nx : Nat → Nat → Option Nat) (q t : Nat) : Nat → Nat → Option Nat := fun x d => if x = t then nx q d else nx x d

theorem ca_us {α : Type} {f : Nat → α} {k : Nat} {x : α} : ca_u f k x k = x := by
  unfold ca_u
  exact if_pos rfl
theorem ca_un {α : Type} {f : Nat → α} {k j : Nat} {x : α} (h : j ≠ k) : ca_u f k x j = f j := by
  unfold ca_u
  exact if_neg h
theorem ca_u2s {f : Nat → Nat → Option Nat} {x c : Nat} {o : Option Nat} : ca_u2 f x c o x c = o := by
  unfold ca_u2
  exact if_pos ⟨rfl, rfl⟩
theorem ca_u2n {f : Nat → Nat → Option Nat} {x c y d : Nat} {o : Option Nat} (h : d ≠ c ∨ y ≠ x) : ca_u2 f x c o y d = f y d := by
  unfold ca_u2
  refine if_neg (fun z => ?_)
  rcases h with h | h
  · exact h z.2
  · exact h z.1
theorem ca_cps {nx : Nat → Nat → Option Nat} {q t d : Nat} : ca_cp nx q t t d = nx q d := by
  unfold ca_cp
  exact if_pos rfl
theorem ca_cpn {nx : Nat → Nat → Option Nat} {q t x d : Nat} (h : x ≠ t) : ca_cp nx q t x d = nx x d := by
  unfold ca_cp
  exact if_neg h
theorem ca_it_s (sh : Nat → Nat) (k v : Nat) : ca_it sh (k + 1) v = sh (ca_it sh k v) := rfl
theorem ca_it_f (sh : Nat → Nat) (k v : Nat) : ca_it sh (k + 1) v = ca_it sh k (sh v) := by
  induction k with
  | zero => rfl
  | succ k ih => rw [ca_it_s, ih, ca_it_s]
theorem ca_it_add (sh : Nat → Nat) (j k v : Nat) : ca_it sh (j + k) v = ca_it sh k (ca_it sh j v) := by
  induction k with
  | zero => rfl
  | succ k ih => rw [← Nat.add_assoc, ca_it_s, ih, ca_it_s]
theorem ca_An_r (sh : Nat → Nat) (v : Nat) : ca_An sh v v := ⟨0, rfl⟩
theorem ca_An_t {sh : Nat → Nat} {x y z : Nat} (h : ca_An sh x y) (h' : ca_An sh y z) : ca_An sh x z := by
  obtain ⟨j, hj⟩ := h
  obtain ⟨k, hk⟩ := h'
  exact ⟨k + j, by rw [ca_it_add, hk, hj]⟩
theorem ca_An_1 {sh : Nat → Nat} {x y : Nat} (h : sh y = x) : ca_An sh x y := ⟨1, h⟩
theorem ca_it0 {sh : Nat → Nat} (h0 : sh 0 = 0) (k : Nat) : ca_it sh k 0 = 0 := by
  induction k with
  | zero => rfl
  | succ k ih => rw [ca_it_s, ih, h0]
theorem ca_itz {sh : Nat → Nat} (h0 : sh 0 = 0) {j k v : Nat} (hj : j ≤ k) (h : ca_it sh j v = 0) : ca_it sh k v = 0 := by
  obtain ⟨i, rfl⟩ : ∃ i, k = j + i := ⟨k - j, by omega⟩
  rw [ca_it_add, h, ca_it0 h0]
section
variable {n W s : Nat} {ln sh : Nat → Nat} {nx : Nat → Nat → Option Nat}
theorem ca_sh (hB : ca_B n W s ln sh nx) {v : Nat} (hv : v < n) : sh v < n ∧ ln (sh v) ≤ ln v := by
  obtain ⟨b1, b2, b3, b4, b5, b6, b7, b8⟩ := hB
  by_cases e : v = 0
  · subst e
    rw [b4]
    exact ⟨by omega, Nat.le_refl _⟩
  · have := b7 v hv e
    exact ⟨this.1, by omega⟩
theorem ca_itB (hB : ca_B n W s ln sh nx) {v : Nat} (hv : v < n) (k : Nat) : ca_it sh k v < n ∧ ln (ca_it sh k v) ≤ ln v := by
  induction k with
  | zero => exact ⟨hv, Nat.le_refl _⟩
  | succ k ih =>
    have := ca_sh hB ih.1
    rw [ca_it_s]
    exact ⟨this.1, by omega⟩
theorem ca_itL (hB : ca_B n W s ln sh nx) {v : Nat} (hv : v < n) (k : Nat) (h : ∀ j, j < k → ca_it sh j v ≠ 0) : ln (ca_it sh k v) + k ≤ ln v := by
  induction k with
  | zero => exact Nat.le_refl _
  | succ k ih =>
    have h1 := ih (fun j hj => h j (by omega))
    have h2 := hB.2.2.2.2.2.2.1 _ (ca_itB hB hv k).1 (h k (by omega))
    rw [ca_it_s]
    omega
theorem ca_itD (hB : ca_B n W s ln sh nx) {v : Nat} (hv : v < n) {j k : Nat} (hj : j < k) (h : ∀ j, j < k → ca_it sh j v ≠ 0) : ln (ca_it sh k v) < ln (ca_it sh j v) := by
  obtain ⟨i, rfl⟩ : ∃ i, k = j + (i + 1) := ⟨k - j - 1, by omega⟩
  have h1 := ca_itL hB (ca_itB hB hv j).1 (i + 1) (fun l hl => by rw [← ca_it_add]; exact h _ (by omega))
  rw [ca_it_add]
  omega
theorem ca_lnW (hB : ca_B n W s ln sh nx) {v : Nat} (hv : v < n) : ln v ≤ s := by
  by_cases e : v = W
  · rw [e, hB.2.2.2.2.1]
    exact Nat.le_refl _
  · have := hB.2.2.2.2.2.1 v hv e
    omega
theorem ca_root (hB : ca_B n W s ln sh nx) : ∀ (l v : Nat), v < n → ln v ≤ l → ca_An sh 0 v := by
  intro l
  induction l with
  | zero =>
    intro v hv hl
    by_cases e : v = 0
    · rw [e]
      exact ca_An_r sh 0
    · have := hB.2.2.2.2.2.2.1 v hv e
      omega
  | succ l ih =>
    intro v hv hl
    by_cases e : v = 0
    · rw [e]
      exact ca_An_r sh 0
    · have := hB.2.2.2.2.2.2.1 v hv e
      exact ca_An_t (ih (sh v) this.1 (by omega)) (ca_An_1 rfl)
theorem ca_ln0 (hB : ca_B n W s ln sh nx) {v : Nat} (hv : v < n) : ln v = 0 ↔ v = 0 := by
  constructor
  · intro h
    by_cases e : v = 0
    · exact e
    · have := hB.2.2.2.2.2.2.1 v hv e
      omega
  · intro h
    rw [h]
    exact hB.2.2.1
end
/-- one more state of the chain -/
theorem ca_L_s {sh : Nat → Nat} {nx nx1 : Nat → Nat → Option Nat} {p c : Nat} {o o' : Option Nat} {r : Nat} (h : ca_L sh nx nx1 p c o o' r) (hx : nx1 (ca_it sh r p) c = o) (ho : o ≠ o') : ca_L sh nx (ca_u2 nx1 (ca_it sh r p) c o') p c o o' (r + 1) := by
  have hne : ∀ j, j < r → ca_it sh r p ≠ ca_it sh j p := by
    intro j hj e
    rw [e, (h.1 j hj).2] at hx
    exact ho hx.symm
  refine ⟨fun j hj => ?_, fun x d hd => ?_⟩
  · by_cases e : j = r
    · subst e
      exact ⟨by rw [← hx]; exact (h.2 _ _ (Or.inr hne)).symm, ca_u2s⟩
    · have hj' : j < r := by omega
      refine ⟨(h.1 j hj').1, ?_⟩
      rw [ca_u2n (Or.inr (hne j hj').symm)]
      exact (h.1 j hj').2
  · rw [ca_u2n (hd.imp id (fun z => z r (by omega)))]
    exact h.2 x d (hd.imp id (fun z j hj => z j (by omega)))
theorem ca_L_0 (sh : Nat → Nat) (nx : Nat → Nat → Option Nat) (p c : Nat) (o o' : Option Nat) : ca_L sh nx nx p c o o' 0 :=
  ⟨fun j hj => absurd hj (by omega), fun _ _ _ => rfl⟩
/-- what stands in the new table -/
theorem ca_L_c {sh : Nat → Nat} {nx nx1 : Nat → Nat → Option Nat} {p c : Nat} {o o' : Option Nat} {r : Nat} (h : ca_L sh nx nx1 p c o o' r) (x d : Nat) : (d = c ∧ (∃ j, j < r ∧ x = ca_it sh j p) ∧ nx x d = o ∧ nx1 x d = o') ∨ nx1 x d = nx x d := by
  by_cases e : d = c ∧ ∃ j, j < r ∧ x = ca_it sh j p
  · obtain ⟨rfl, j, hj, rfl⟩ := e
    exact Or.inl ⟨rfl, ⟨j, hj, rfl⟩, (h.1 j hj).1, (h.1 j hj).2⟩
  · refine Or.inr (h.2 x d ?_)
    by_cases ed : d = c
    · exact Or.inr (fun j hj ex => e ⟨ed, j, hj, ex⟩)
    · exact Or.inl ed
/-- what was not the old value stays -/
theorem ca_L_k {sh : Nat → Nat} {nx nx1 : Nat → Nat → Option Nat} {p c : Nat} {o o' : Option Nat} {r : Nat} (h : ca_L sh nx nx1 p c o o' r) {x d : Nat} (hx : nx x d ≠ o) : nx1 x d = nx x d := by
  rcases ca_L_c h x d with z | z
  · exact absurd z.2.2.1 hx
  · exact z
end
section
/-! what grow makes of the picture -/
/-- no state is split; q is the link of the made state -/
def ca_oAB (n W s c : Nat) (ln sh : Nat → Nat) (nx : Nat → Nat → Option Nat) (fe : Nat → Nat) (cp : Nat → Bool) (n' : Nat) (ln' sh' : Nat → Nat) (nx' : Nat → Nat → Option Nat) (fe' : Nat → Nat) (cp' : Nat → Bool) : Prop :=
  ∃ r q, ca_L sh nx nx' W c none (some n) r ∧ (((∃ j, j < r ∧ ca_it sh j W = 0) ∧ q = 0) ∨ ((∀ j, j < r → ca_it sh j W ≠ 0) ∧ nx (ca_it sh r W) c = some q ∧ ln q = ln (ca_it sh r W) + 1)) ∧ n' = n + 1 ∧
    (∀ v, v < n → ln' v = ln v ∧ sh' v = sh v ∧ fe' v = fe v ∧ cp' v = cp v) ∧ ln' n = s + 1 ∧ sh' n = q ∧ fe' n = s ∧ cp' n = false
/-- q is to be split: the two loops -/
def ca_Cx (n W c : Nat) (ln sh : Nat → Nat) (nx : Nat → Nat → Option Nat) (r p q u : Nat) (nx1 nx' : Nat → Nat → Option Nat) : Prop :=
  p = ca_it sh r W ∧ ca_L sh nx nx1 W c none (some n) r ∧ (∀ j, j < r → ca_it sh j W ≠ 0) ∧ nx p c = some q ∧ ln q ≠ ln p + 1 ∧
    ca_L sh (ca_cp nx1 q (n + 1)) nx' p c (some q) (some (n + 1)) u ∧ ((∃ j, j < u ∧ ca_it sh j p = 0) ∨ ((∀ j, j < u → ca_it sh j p ≠ 0) ∧ nx' (ca_it sh u p) c ≠ some q))
def ca_oC (n W s c : Nat) (ln sh : Nat → Nat) (nx : Nat → Nat → Option Nat) (fe : Nat → Nat) (cp : Nat → Bool) (n' : Nat) (ln' sh' : Nat → Nat) (nx' : Nat → Nat → Option Nat) (fe' : Nat → Nat) (cp' : Nat → Bool) : Prop :=
  ∃ r p q u nx1, ca_Cx n W c ln sh nx r p q u nx1 nx' ∧ n' = n + 2 ∧
    (∀ v, v < n → ln' v = ln v ∧ fe' v = fe v ∧ cp' v = cp v) ∧ (∀ v, v < n → v ≠ q → sh' v = sh v) ∧ ln' n = s + 1 ∧ fe' n = s ∧ cp' n = false ∧ sh' n = n + 1 ∧
    ln' (n + 1) = ln p + 1 ∧ sh' (n + 1) = sh q ∧ fe' (n + 1) = fe q ∧ cp' (n + 1) = true ∧ sh' q = n + 1
def ca_out (n W s c : Nat) (ln sh : Nat → Nat) (nx : Nat → Nat → Option Nat) (fe : Nat → Nat) (cp : Nat → Bool) (n' : Nat) (ln' sh' : Nat → Nat) (nx' : Nat → Nat → Option Nat) (fe' : Nat → Nat) (cp' : Nat → Bool) : Prop :=
  ca_oAB n W s c ln sh nx fe cp n' ln' sh' nx' fe' cp' ∨ ca_oC n W s c ln sh nx fe cp n' ln' sh' nx' fe' cp'
/-- the ways of a state's link go where its own ways go, or to the link of that -/
def ca_M5 (ln sh : Nat → Nat) (nx : Nat → Nat → Option Nat) : Prop :=
  (∀ p c q, p ≠ 0 → nx p c = some q → nx (sh p) c = some q ∨ (nx (sh p) c = some (sh q) ∧ ln (sh q) = ln (sh p) + 1)) ∧ (∀ c q, nx 0 c = some q → sh q = 0)
/-- the ways into a state are by one letter and come from one chain -/
def ca_In (sh : Nat → Nat) (nx : Nat → Nat → Option Nat) : Prop := ∀ x x' d d' y, nx x d = some y → nx x' d' = some y → d = d' ∧ (ca_An sh x x' ∨ ca_An sh x' x)
def ca_A (n W s : Nat) (ln sh : Nat → Nat) (nx : Nat → Nat → Option Nat) : Prop := ca_B n W s ln sh nx ∧ ca_M5 ln sh nx ∧ ca_In sh nx
section
variable {n W s c : Nat} {ln sh : Nat → Nat} {nx : Nat → Nat → Option Nat} {fe : Nat → Nat} {cp : Nat → Bool} {n' : Nat} {ln' sh' : Nat → Nat} {nx' nx1 : Nat → Nat → Option Nat} {fe' : Nat → Nat} {cp' : Nat → Bool} {r p q u : Nat}
theorem ca_An_l (hB : ca_B n W s ln sh nx) {x y : Nat} (hy : y < n) (h : ca_An sh x y) : x = y ∨ ln x < ln y := by
  obtain ⟨k, rfl⟩ := h
  induction k with
  | zero => exact Or.inl rfl
  | succ k ih =>
    rw [ca_it_s]
    by_cases e : ca_it sh k y = 0
    · rw [e] at ih
      rw [e, hB.2.2.2.1]
      exact ih
    · have h1 := hB.2.2.2.2.2.2.1 _ (ca_itB hB hy k).1 e
      rcases ih with ih | ih
      · rw [ih] at h1 ⊢
        exact Or.inr h1.2
      · exact Or.inr (by omega)
theorem ca_An_n (hB : ca_B n W s ln sh nx) {x y : Nat} (hy : y < n) (h : ca_An sh x y) : x < n := by
  obtain ⟨k, rfl⟩ := h
  exact (ca_itB hB hy k).1
theorem ca_An_as (hB : ca_B n W s ln sh nx) {x y : Nat} (hx : x < n) (hy : y < n) (h : ca_An sh x y) (h' : ca_An sh y x) : x = y := by
  rcases ca_An_l hB hy h with e | e
  · exact e
  · rcases ca_An_l hB hx h' with e' | e'
    · exact e'.symm
    · omega
/-- an ancestor that isn't the state is one of its link -/
theorem ca_An_p {x y : Nat} (h : ca_An sh x y) : x = y ∨ ca_An sh x (sh y) := by
  obtain ⟨k, hk⟩ := h
  cases k with
  | zero => exact Or.inl hk.symm
  | succ k => exact Or.inr ⟨k, by rw [← hk, ca_it_f]⟩
theorem ca_M5i (hA : ca_A n W s ln sh nx) {p c q : Nat} (h : nx p c = some q) (k : Nat) : ∃ y, nx (ca_it sh k p) c = some y ∧ ca_An sh y q := by
  induction k with
  | zero => exact ⟨q, h, ca_An_r sh q⟩
  | succ k ih =>
    obtain ⟨y, h1, h2⟩ := ih
    rw [ca_it_s]
    by_cases e : ca_it sh k p = 0
    · rw [e, hA.1.2.2.2.1]
      rw [e] at h1
      exact ⟨y, h1, h2⟩
    · rcases hA.2.1.1 _ _ _ e h1 with z | z
      · exact ⟨y, z, h2⟩
      · exact ⟨sh y, z.1, ca_An_t (ca_An_1 rfl) h2⟩
theorem ca_M5a (hA : ca_A n W s ln sh nx) {p x c q : Nat} (h : nx p c = some q) (hx : ca_An sh x p) : ∃ y, nx x c = some y ∧ ca_An sh y q := by
  obtain ⟨k, rfl⟩ := hx
  exact ca_M5i hA h k
theorem ca_Q (hA : ca_A n W s ln sh nx) : ∀ (l p c q : Nat), ln p ≤ l → nx p c = some q → ln (sh q) ≤ ln p := by
  intro l
  induction l with
  | zero =>
    intro p c q hl h
    have hp := (hA.1.2.2.2.2.2.2.2 _ _ _ h).1
    have e : p = 0 := (ca_ln0 hA.1 hp).mp (by omega)
    rw [e] at h
    rw [hA.2.1.2 _ _ h, hA.1.2.2.1]
    exact Nat.zero_le _
  | succ l ih =>
    intro p c q hl h
    have hp := (hA.1.2.2.2.2.2.2.2 _ _ _ h).1
    by_cases e : p = 0
    · rw [e] at h
      rw [hA.2.1.2 _ _ h, hA.1.2.2.1]
      exact Nat.zero_le _
    · have h1 := hA.1.2.2.2.2.2.2.1 _ hp e
      rcases hA.2.1.1 _ _ _ e h with z | z
      · have := ih (sh p) c q (by omega) z
        omega
      · omega
/-- the table after the first loop -/
theorem ca_n1 (hB : ca_B n W s ln sh nx) (h1 : ca_L sh nx nx1 W c none (some n) r) {x d y : Nat} (h : nx1 x d = some y) : x < n ∧ ((y = n ∧ d = c ∧ ∃ j, j < r ∧ x = ca_it sh j W) ∨ (y < n ∧ nx x d = some y)) := by
  rcases ca_L_c h1 x d with ⟨e, ⟨j, hj, ej⟩, _, z⟩ | z
  · rw [z] at h
    refine ⟨?_, Or.inl ⟨(Option.some.inj h).symm, e, j, hj, ej⟩⟩
    rw [ej]
    exact (ca_itB hB hB.1 j).1
  · rw [z] at h
    have := hB.2.2.2.2.2.2.2 _ _ _ h
    exact ⟨this.1, Or.inr ⟨this.2.1, h⟩⟩
theorem ca_k1 (h1 : ca_L sh nx nx1 W c none (some n) r) {x d y : Nat} (h : nx x d = some y) : nx1 x d = some y := by
  rw [ca_L_k h1 (by rw [h]; exact Option.some_ne_none y)]
  exact h
theorem ca_k3 (h3 : ca_L sh (ca_cp nx1 q (n + 1)) nx' p c (some q) (some (n + 1)) u) {x d y : Nat} (hx : x < n) (h : nx1 x d = some y) : nx' x d = some y ∨ (y = q ∧ d = c ∧ (∃ j, j < u ∧ x = ca_it sh j p) ∧ nx' x d = some (n + 1)) := by
  have e2 : ca_cp nx1 q (n + 1) x d = nx1 x d := ca_cpn (by omega)
  rcases ca_L_c h3 x d with ⟨e, ej, z1, z⟩ | z
  · rw [e2, h] at z1
    exact Or.inr ⟨Option.some.inj z1, e, ej, z⟩
  · rw [z, e2]
    exact Or.inl h
theorem ca_n3 (h3 : ca_L sh (ca_cp nx1 q (n + 1)) nx' p c (some q) (some (n + 1)) u) {x d y : Nat} (h : nx' x d = some y) : (d = c ∧ y = n + 1 ∧ (∃ j, j < u ∧ x = ca_it sh j p)) ∨ (x = n + 1 ∧ nx1 q d = some y) ∨ (x ≠ n + 1 ∧ nx1 x d = some y) := by
  rcases ca_L_c h3 x d with ⟨e, ej, z1, z⟩ | z
  · rw [z] at h
    exact Or.inl ⟨e, (Option.some.inj h).symm, ej⟩
  · by_cases ex : x = n + 1
    · rw [z, ex, ca_cps] at h
      exact Or.inr (Or.inl ⟨ex, h⟩)
    · rw [z, ca_cpn ex] at h
      exact Or.inr (Or.inr ⟨ex, h⟩)
theorem ca_C0 (hB : ca_B n W s ln sh nx) (hC : ca_Cx n W c ln sh nx r p q u nx1 nx') : p < n ∧ q < n ∧ q ≠ 0 ∧ ln p + 1 < ln q ∧ ln q ≤ s := by
  obtain ⟨b1, b2, b3, b4, b5, b6, b7, b8⟩ := id hB
  obtain ⟨ep, hL, hz, hq, hl, h3, hx⟩ := hC
  have h := b8 _ _ _ hq
  refine ⟨h.1, h.2.1, fun e => ?_, by omega, ca_lnW hB h.2.1⟩
  rw [e, b3] at h
  omega
/-- the row of the twin -/
theorem ca_t3 (hB : ca_B n W s ln sh nx) (hC : ca_Cx n W c ln sh nx r p q u nx1 nx') (d : Nat) : nx' (n + 1) d = nx1 q d := by
  have c1 := (ca_C0 hB hC).1
  obtain ⟨ep, hL, hz, hq, hl, h3, hx⟩ := hC
  rw [h3.2 (n + 1) d (Or.inr (fun j hj e => ?_)), ca_cps]
  have := (ca_itB hB c1 j).1
  omega
/-- the ways into the split state: the short ones go to the twin now -/
theorem ca_rd (hA : ca_A n W s ln sh nx) (hC : ca_Cx n W c ln sh nx r p q u nx1 nx') {x d : Nat} (h : nx1 x d = some q) : d = c ∧ nx x d = some q ∧ ((nx' x d = some (n + 1) ∧ ca_An sh x p) ∨ (nx' x d = some q ∧ ca_An sh p x ∧ ln p < ln x)) := by
  obtain ⟨c1, c2, c3, c4, c5⟩ := ca_C0 hA.1 hC
  obtain ⟨ep, hL, hz, hq, hl, h3, hx⟩ := hC
  obtain ⟨hxn, k⟩ := ca_n1 hA.1 hL h
  rcases k with k | ⟨_, k⟩
  · omega
  obtain ⟨ed, hc⟩ := hA.2.2 _ _ _ _ _ k hq
  refine ⟨ed, k, ?_⟩
  subst ed
  rcases ca_k3 h3 hxn h with z | ⟨_, _, ⟨j, hj, ej⟩, z⟩
  · have hnp : ¬ ca_An sh x p := by
      rintro ⟨j, rfl⟩
      have hu : u ≤ j := by
        refine Nat.not_lt.mp (fun hj => ?_)
        rw [(h3.1 j hj).2] at z
        have := Option.some.inj z
        omega
      rcases hx with ⟨j0, hj0, e0⟩ | ⟨hnz, hx⟩
      · have e1 : ca_it sh j p = ca_it sh j0 p := by rw [e0, ca_itz hA.1.2.2.2.1 (by omega) e0]
        rw [e1, (h3.1 j0 hj0).2] at z
        have := Option.some.inj z
        omega
      · obtain ⟨i, rfl⟩ : ∃ i, j = u + i := ⟨j - u, by omega⟩
        obtain ⟨y, h1, h2⟩ := ca_M5i hA hq u
        obtain ⟨y', h1', h2'⟩ := ca_M5i hA h1 i
        rw [← ca_it_add, k] at h1'
        rw [← Option.some.inj h1'] at h2'
        have hyn := (hA.1.2.2.2.2.2.2.2 _ _ _ h1).2.1
        have ey := ca_An_as hA.1 hyn c2 h2 h2'
        rw [ey] at h1
        rcases ca_k3 h3 (ca_itB hA.1 c1 u).1 (ca_k1 hL h1) with w | ⟨_, _, ⟨j1, hj1, ej1⟩, w⟩
        · exact hx w
        · have := ca_itD hA.1 c1 hj1 hnz
          rw [ej1] at this
          omega
    rcases hc with hc | hc
    · exact absurd hc hnp
    · refine Or.inr ⟨z, hc, ?_⟩
      rcases ca_An_l hA.1 hxn hc with e | e
      · exact absurd (by rw [e]; exact ca_An_r sh x) hnp
      · exact e
  · exact Or.inl ⟨z, ⟨j, ej.symm⟩⟩
end
end
section
/-! grow keeps the automaton's invariants -/
section
variable {n W s c : Nat} {ln sh : Nat → Nat} {nx : Nat → Nat → Option Nat} {fe : Nat → Nat} {cp : Nat → Bool} {n' : Nat} {ln' sh' : Nat → Nat} {nx' nx1 : Nat → Nat → Option Nat} {fe' : Nat → Nat} {cp' : Nat → Bool} {r p q u : Nat}
theorem ca_B_AB (hB : ca_B n W s ln sh nx) (h : ca_oAB n W s c ln sh nx fe cp n' ln' sh' nx' fe' cp') : ca_B n' n (s + 1) ln' sh' nx' := by
  obtain ⟨r, q, hL, hq, rfl, hv, h1, h2, h3, h4⟩ := h
  obtain ⟨b1, b2, b3, b4, b5, b6, b7, b8⟩ := id hB
  have h0 : 0 < n := by omega
  have hq' : q < n ∧ ln q ≤ s := by
    rcases hq with ⟨_, e⟩ | ⟨_, hq, _⟩
    · rw [e, b3]
      exact ⟨h0, Nat.zero_le _⟩
    · have := (b8 _ _ _ hq).2.1
      exact ⟨this, ca_lnW hB this⟩
  refine ⟨by omega, by omega, ?_, ?_, h1, ?_, ?_, ?_⟩
  · rw [(hv 0 h0).1, b3]
  · rw [(hv 0 h0).2.1, b4]
  · intro v hv' hne
    have hvn : v < n := by omega
    rw [(hv v hvn).1]
    have := ca_lnW hB hvn
    omega
  · intro v hv' hne
    by_cases e : v = n
    · rw [e, h2, h1, (hv q hq'.1).1]
      exact ⟨by omega, by omega⟩
    · have hvn : v < n := by omega
      have := b7 v hvn hne
      rw [(hv v hvn).2.1, (hv v hvn).1, (hv _ this.1).1]
      exact ⟨by omega, this.2⟩
  · intro p d y hy
    obtain ⟨hp, k⟩ := ca_n1 hB hL hy
    rw [(hv _ hp).1]
    rcases k with ⟨e, _⟩ | ⟨hyn, k⟩
    · rw [e, h1]
      have := ca_lnW hB hp
      exact ⟨by omega, by omega, by omega⟩
    · rw [(hv _ hyn).1]
      exact ⟨by omega, by omega, (b8 _ _ _ k).2.2⟩
theorem ca_it_e (hB : ca_B n W s ln sh nx) (hs : ∀ v, v < n → sh' v = sh v) {y : Nat} (hy : y < n) (k : Nat) : ca_it sh' k y = ca_it sh k y := by
  induction k with
  | zero => rfl
  | succ k ih => rw [ca_it_s, ih, hs _ (ca_itB hB hy k).1, ca_it_s]
theorem ca_An_e (hB : ca_B n W s ln sh nx) (hs : ∀ v, v < n → sh' v = sh v) {x y : Nat} (hy : y < n) (h : ca_An sh x y) : ca_An sh' x y := by
  obtain ⟨k, hk⟩ := h
  exact ⟨k, by rw [ca_it_e hB hs hy, hk]⟩
theorem ca_An_it (sh : Nat → Nat) (v : Nat) {i j : Nat} (h : i ≤ j) : ca_An sh (ca_it sh j v) (ca_it sh i v) :=
  ⟨j - i, by rw [← ca_it_add]; congr 1; omega⟩
theorem ca_An_i2 (sh : Nat → Nat) (v i j : Nat) : ca_An sh (ca_it sh i v) (ca_it sh j v) ∨ ca_An sh (ca_it sh j v) (ca_it sh i v) := by
  rcases Nat.le_total i j with h | h
  · exact Or.inr (ca_An_it sh v h)
  · exact Or.inl (ca_An_it sh v h)
/-- the ways in, after the first loop -/
theorem ca_In1 (hA : ca_A n W s ln sh nx) (h1 : ca_L sh nx nx1 W c none (some n) r) : ca_In sh nx1 := by
  intro x x' d d' y hy hy'
  obtain ⟨hx, k⟩ := ca_n1 hA.1 h1 hy
  obtain ⟨hx', k'⟩ := ca_n1 hA.1 h1 hy'
  rcases k with ⟨e, ed, j, hj, ej⟩ | ⟨hyn, k⟩
  · rcases k' with ⟨e', ed', j', hj', ej'⟩ | ⟨hyn', k'⟩
    · rw [ej, ej']
      exact ⟨by rw [ed, ed'], ca_An_i2 sh W j j'⟩
    · omega
  · rcases k' with ⟨e', ed', j', hj', ej'⟩ | ⟨hyn', k'⟩
    · omega
    · exact hA.2.2 _ _ _ _ _ k k'
theorem ca_A_AB (hA : ca_A n W s ln sh nx) (h : ca_oAB n W s c ln sh nx fe cp n' ln' sh' nx' fe' cp') : ca_A n' n (s + 1) ln' sh' nx' := by
  refine ⟨ca_B_AB hA.1 h, ?_⟩
  obtain ⟨r, q, hL, hq, rfl, hv, h1, h2, h3, h4⟩ := h
  obtain ⟨b1, b2, b3, b4, b5, b6, b7, b8⟩ := id hA.1
  have h0 : 0 < n := by omega
  have hs : ∀ v, v < n → sh' v = sh v := fun v hv' => (hv v hv').2.1
  refine ⟨⟨?_, ?_⟩, ?_⟩
  · intro x d y hx0 hy
    obtain ⟨hxn, k⟩ := ca_n1 hA.1 hL hy
    rw [hs x hxn]
    rcases k with ⟨e, ed, j, hj, ej⟩ | ⟨hyn, k⟩
    · subst ed
      by_cases hjr : j + 1 < r
      · refine Or.inl ?_
        rw [ej, ← ca_it_s sh, (hL.1 _ hjr).2, e]
      · have er : r = j + 1 := by omega
        rcases hq with ⟨⟨j0, hj0, e0⟩, _⟩ | ⟨hz, hq, hl⟩
        · refine absurd ?_ hx0
          rw [ej]
          exact ca_itz b4 (by omega) e0
        · refine Or.inr ?_
          have hqn := (b8 _ _ _ hq).2.1
          have hpn := (b8 _ _ _ hq).1
          rw [ej, ← ca_it_s sh, ← er, e, h2, (hv _ hqn).1, (hv _ hpn).1]
          exact ⟨ca_k1 hL hq, hl⟩
    · rw [hs y hyn]
      have hsx := (ca_sh hA.1 hxn).1
      have hsy := (ca_sh hA.1 hyn).1
      rw [(hv _ hsx).1, (hv _ hsy).1]
      rcases hA.2.1.1 x d y hx0 k with z | z
      · exact Or.inl (ca_k1 hL z)
      · exact Or.inr ⟨ca_k1 hL z.1, z.2⟩
  · intro d y hy
    obtain ⟨hxn, k⟩ := ca_n1 hA.1 hL hy
    rcases k with ⟨e, ed, j, hj, ej⟩ | ⟨hyn, k⟩
    · rcases hq with ⟨_, eq⟩ | ⟨hz, _⟩
      · rw [e, h2, eq]
      · exact absurd ej.symm (hz j hj)
    · rw [hs y hyn]
      exact hA.2.1.2 _ _ k
  · intro x x' d d' y hy hy'
    obtain ⟨ed, k⟩ := ca_In1 hA hL x x' d d' y hy hy'
    exact ⟨ed, k.imp (ca_An_e hA.1 hs (ca_n1 hA.1 hL hy').1) (ca_An_e hA.1 hs (ca_n1 hA.1 hL hy).1)⟩
/-- chains after a split -/
theorem ca_An_c (hB : ca_B n W s ln sh nx) (hq : q < n) (hs : ∀ v, v < n → v ≠ q → sh' v = sh v) (g : sh' q = n + 1) (t2 : sh' (n + 1) = sh q) {x y : Nat} (hy : y < n) (h : ca_An sh x y) : ca_An sh' x y := by
  obtain ⟨k, rfl⟩ := h
  induction k with
  | zero => exact ca_An_r sh' y
  | succ k ih =>
    rw [ca_it_s]
    refine ca_An_t ?_ ih
    by_cases e : ca_it sh k y = q
    · rw [e]
      exact ca_An_t (ca_An_1 t2) (ca_An_1 g)
    · exact ca_An_1 (hs _ (ca_itB hB hy k).1 e)
theorem ca_B_C (hA : ca_A n W s ln sh nx) (h : ca_oC n W s c ln sh nx fe cp n' ln' sh' nx' fe' cp') : ca_B n' n (s + 1) ln' sh' nx' := by
  obtain ⟨r, p, q, u, nx1, hC, rfl, hv, hs, m1, m2, m3, m4, t1, t2, t3, t4, g⟩ := h
  obtain ⟨b1, b2, b3, b4, b5, b6, b7, b8⟩ := id hA.1
  obtain ⟨c1, c2, c3, c4, c5⟩ := ca_C0 hA.1 hC
  obtain ⟨ep, hL, hz, hq, hl, h3, hx⟩ := id hC
  have h0 : 0 < n := by omega
  have K : ∀ x d y, nx1 x d = some y → x < n ∧ y < n + 1 ∧ ln x < ln' y := by
    intro x d y h
    obtain ⟨hxn, k⟩ := ca_n1 hA.1 hL h
    rcases k with ⟨e, _⟩ | ⟨hyn, k⟩
    · rw [e, m1]
      have := ca_lnW hA.1 hxn
      exact ⟨hxn, by omega, by omega⟩
    · rw [(hv _ hyn).1]
      exact ⟨hxn, by omega, (b8 _ _ _ k).2.2⟩
  refine ⟨by omega, by omega, ?_, ?_, m1, ?_, ?_, ?_⟩
  · rw [(hv 0 h0).1, b3]
  · rw [hs 0 h0 (fun e => c3 e.symm), b4]
  · intro v hv' hne
    by_cases e : v = n + 1
    · rw [e, t1]
      omega
    · have hvn : v < n := by omega
      rw [(hv v hvn).1]
      have := ca_lnW hA.1 hvn
      omega
  · intro v hv' hne
    by_cases e : v = n + 1
    · have k1 := b7 q c2 c3
      have k2 := ca_Q hA (ln p) p c q (Nat.le_refl _) hq
      rw [e, t2, t1, (hv _ k1.1).1]
      exact ⟨by omega, by omega⟩
    · by_cases e' : v = n
      · rw [e', m4, m1, t1]
        exact ⟨by omega, by omega⟩
      · have hvn : v < n := by omega
        by_cases eq : v = q
        · rw [eq, g, t1, (hv q c2).1]
          exact ⟨by omega, by omega⟩
        · have := b7 v hvn hne
          rw [hs v hvn eq, (hv v hvn).1, (hv _ this.1).1]
          exact ⟨by omega, this.2⟩
  · intro x d y hy
    rcases ca_n3 h3 hy with ⟨_, e, j, hj, ej⟩ | ⟨e, k⟩ | ⟨e, k⟩
    · have := ca_itB hA.1 c1 j
      rw [e, ej, t1, (hv _ this.1).1]
      exact ⟨by omega, by omega, by omega⟩
    · have := K _ _ _ k
      rw [e, t1]
      exact ⟨by omega, by omega, by omega⟩
    · have := K _ _ _ k
      rw [(hv x this.1).1]
      exact ⟨by omega, by omega, this.2.2⟩
theorem ca_M5_C (hA : ca_A n W s ln sh nx) (h : ca_oC n W s c ln sh nx fe cp n' ln' sh' nx' fe' cp') : ca_M5 ln' sh' nx' := by
  obtain ⟨r, p, q, u, nx1, hC, rfl, hv, hs, m1, m2, m3, m4, t1, t2, t3, t4, g⟩ := h
  obtain ⟨b1, b2, b3, b4, b5, b6, b7, b8⟩ := id hA.1
  obtain ⟨c1, c2, c3, c4, c5⟩ := ca_C0 hA.1 hC
  obtain ⟨ep, hL, hz, hq, hl, h3, hx⟩ := id hC
  have h0 : 0 < n := by omega
  have kQ := ca_Q hA (ln p) p c q (Nat.le_refl _) hq
  have hsq := (b7 q c2 c3).1
  -- the stop of the first loop is redirected
  have hp3 : nx' p c = some (n + 1) := by
    obtain ⟨_, _, z⟩ := ca_rd hA hC (ca_k1 hL hq)
    rcases z with z | z
    · exact z.1
    · omega
  -- the step of the first loop, at x = the j-th of the chain
  have hst : ∀ x j, j < r → x = ca_it sh j W → (nx' (sh x) c = some n ∨ (nx' (sh x) c = some (n + 1) ∧ ln (sh x) = ln p)) := by
    intro x j hj ej
    by_cases hjr : j + 1 < r
    · refine Or.inl ?_
      have h2 := (hL.1 _ hjr).2
      rcases ca_k3 h3 (ca_itB hA.1 b1 (j + 1)).1 h2 with w | w
      · rw [ej, ← ca_it_s sh]
        exact w
      · omega
    · have er : r = j + 1 := by omega
      refine Or.inr ?_
      have : sh x = p := by rw [ej, ← ca_it_s sh, ← er, ep]
      rw [this]
      exact ⟨hp3, rfl⟩
  refine ⟨?_, ?_⟩
  · intro x d y hx0 hy
    rcases ca_n3 h3 hy with ⟨ed, e, j, hj, ej⟩ | ⟨e, k⟩ | ⟨e, k⟩
    · -- redirected
      subst ed
      have hxb := ca_itB hA.1 c1 j
      rw [← ej] at hxb
      have hxq : x ≠ q := fun z => by rw [z] at hxb; omega
      have hk : nx x d = some q := by
        have z := (h3.1 j hj).1
        rw [← ej, ca_cpn (by omega)] at z
        rcases (ca_n1 hA.1 hL z).2 with w | w
        · omega
        · exact w.2
      rw [hs x hxb.1 hxq, e]
      rcases hA.2.1.1 x d q hx0 hk with z | z
      · obtain ⟨_, _, w⟩ := ca_rd hA hC (ca_k1 hL z)
        rcases w with w | w
        · exact Or.inl w.1
        · have := (ca_sh hA.1 hxb.1).2
          omega
      · refine Or.inr ?_
        have hsx := (ca_sh hA.1 hxb.1).1
        rw [t2, (hv _ hsq).1, (hv _ hsx).1]
        refine ⟨?_, z.2⟩
        rcases ca_k3 h3 hsx (ca_k1 hL z.1) with w | w
        · exact w
        · have := (b7 q c2 c3).2
          rw [w.1] at this
          omega
    · -- the twin's row
      rw [e, t2]
      obtain ⟨_, k'⟩ := ca_n1 hA.1 hL k
      rcases k' with ⟨ey, ed, j, hj, ej⟩ | ⟨hyn, k'⟩
      · subst ed
        rw [ey, m4, t1, (hv _ hsq).1]
        rcases hst q j hj ej with w | w
        · exact Or.inl w
        · exact Or.inr ⟨w.1, by rw [w.2]⟩
      · have hyq : y ≠ q := fun z => by
          have := (b8 _ _ _ k').2.2
          rw [z] at this
          omega
        have hsy := (ca_sh hA.1 hyn).1
        rw [hs y hyn hyq, (hv _ hsy).1, (hv _ hsq).1]
        rcases hA.2.1.1 q d y c3 k' with z | z
        · rcases ca_k3 h3 hsq (ca_k1 hL z) with w | w
          · exact Or.inl w
          · exact absurd w.1 hyq
        · rcases ca_k3 h3 hsq (ca_k1 hL z.1) with w | w
          · exact Or.inr ⟨w, z.2⟩
          · rw [w.1] at z
            omega
    · -- another row
      obtain ⟨hxn, k'⟩ := ca_n1 hA.1 hL k
      by_cases hxq : x = q
      · refine Or.inl ?_
        rw [hxq, g, ca_t3 hA.1 hC, ← hxq]
        exact k
      · rw [hs x hxn hxq]
        have hsx := (ca_sh hA.1 hxn).1
        rw [(hv _ hsx).1]
        rcases k' with ⟨ey, ed, j, hj, ej⟩ | ⟨hyn, k'⟩
        · subst ed
          rw [ey, m4, t1]
          rcases hst x j hj ej with w | w
          · exact Or.inl w
          · exact Or.inr ⟨w.1, by rw [w.2]⟩
        · by_cases hyq : y = q
          · rw [hyq] at hy k' k ⊢
            obtain ⟨ed, _, w⟩ := ca_rd hA hC k
            rcases w with w | w
            · rw [w.1] at hy
              have := Option.some.inj hy
              omega
            · have hne : p ≠ x := fun z => by rw [z] at w; omega
              have hps : ca_An sh p (sh x) := (ca_An_p w.2.1).resolve_left hne
              rcases hA.2.1.1 x d q hx0 k' with z | z
              · obtain ⟨_, _, v⟩ := ca_rd hA hC (ca_k1 hL z)
                rcases v with v | v
                · refine Or.inr ?_
                  rw [g, t1, ca_An_as hA.1 c1 hsx hps v.2]
                  refine ⟨?_, rfl⟩
                  rw [← ca_An_as hA.1 c1 hsx hps v.2, ed]
                  exact hp3
                · exact Or.inl v.1
              · exfalso
                obtain ⟨y', h1, h2⟩ := ca_M5a hA z.1 hps
                rw [ed, hq] at h1
                rw [← Option.some.inj h1] at h2
                have := (b7 q c2 c3).2
                rcases ca_An_l hA.1 hsq h2 with v | v
                · rw [← v] at this
                  omega
                · omega
          · have hsy := (ca_sh hA.1 hyn).1
            rw [hs y hyn hyq, (hv _ hsy).1]
            rcases hA.2.1.1 x d y hx0 k' with z | z
            · rcases ca_k3 h3 hsx (ca_k1 hL z) with w | w
              · exact Or.inl w
              · exact absurd w.1 hyq
            · rcases ca_k3 h3 hsx (ca_k1 hL z.1) with w | ⟨w1, w2, ⟨j, hj, ej⟩, w4⟩
              · exact Or.inr ⟨w, z.2⟩
              · have := (ca_itB hA.1 c1 j).2
                rw [← ej] at this
                rw [w1] at z
                omega
  · intro d y hy
    rcases ca_n3 h3 hy with ⟨ed, e, j, hj, ej⟩ | ⟨e, k⟩ | ⟨e, k⟩
    · rw [e, t2]
      have z := (h3.1 j hj).1
      rw [← ej, ca_cpn (by omega)] at z
      rcases (ca_n1 hA.1 hL z).2 with w | w
      · omega
      · exact hA.2.1.2 _ _ w.2
    · omega
    · rcases (ca_n1 hA.1 hL k).2 with ⟨_, _, j, hj, ej⟩ | ⟨hyn, w⟩
      · exact absurd ej.symm (hz j hj)
      · by_cases hyq : y = q
        · exfalso
          rw [hyq] at k hy
          obtain ⟨_, _, v⟩ := ca_rd hA hC k
          rcases v with v | v
          · rw [v.1] at hy
            have := Option.some.inj hy
            omega
          · omega
        · rw [hs y hyn hyq]
          exact hA.2.1.2 _ _ w
theorem ca_In_C (hA : ca_A n W s ln sh nx) (h : ca_oC n W s c ln sh nx fe cp n' ln' sh' nx' fe' cp') : ca_In sh' nx' := by
  obtain ⟨r, p, q, u, nx1, hC, rfl, hv, hs, m1, m2, m3, m4, t1, t2, t3, t4, g⟩ := h
  obtain ⟨c1, c2, c3, c4, c5⟩ := ca_C0 hA.1 hC
  obtain ⟨ep, hL, hz, hq, hl, h3, hx⟩ := id hC
  have I1 := ca_In1 hA hL
  have ex : ∀ {x y : Nat}, y < n → ca_An sh x y → ca_An sh' x y := fun hy h => ca_An_c hA.1 c2 hs g t2 hy h
  have hsq := (ca_sh hA.1 c2).1
  have T : ∀ x d d' y, nx1 q d = some y → nx1 x d' = some y → d = d' ∧ (ca_An sh' (n + 1) x ∨ ca_An sh' x (n + 1)) := by
    intro x d d' y hy hy'
    obtain ⟨ed, k⟩ := I1 _ _ _ _ _ hy hy'
    have hxn := (ca_n1 hA.1 hL hy').1
    refine ⟨ed, ?_⟩
    rcases k with k | k
    · exact Or.inl (ca_An_t (ca_An_1 g) (ex hxn k))
    · rcases ca_An_p k with e | e
      · rw [e]
        exact Or.inl (ca_An_1 g)
      · exact Or.inr (ca_An_t (ex hsq e) (ca_An_1 t2))
  intro x x' d d' y hy hy'
  have N1 : ∀ x d y, nx1 x d = some y → y ≤ n := by
    intro x d y h
    rcases (ca_n1 hA.1 hL h).2 with w | w
    · omega
    · omega
  rcases ca_n3 h3 hy with ⟨ed, e, j, hj, ej⟩ | ⟨e, k⟩ | ⟨e, k⟩
  · rcases ca_n3 h3 hy' with ⟨ed', e', j', hj', ej'⟩ | ⟨e', k'⟩ | ⟨e', k'⟩
    · refine ⟨by rw [ed, ed'], ?_⟩
      rw [ej, ej']
      exact (ca_An_i2 sh p j j').imp (ex (ca_itB hA.1 c1 j').1) (ex (ca_itB hA.1 c1 j).1)
    · have := N1 _ _ _ k'
      omega
    · have := N1 _ _ _ k'
      omega
  · rcases ca_n3 h3 hy' with ⟨ed', e', j', hj', ej'⟩ | ⟨e', k'⟩ | ⟨e', k'⟩
    · have := N1 _ _ _ k
      omega
    · rw [e, e']
      exact ⟨(I1 _ _ _ _ _ k k').1, Or.inl (ca_An_r sh' _)⟩
    · rw [e]
      exact T _ _ _ _ k k'
  · rcases ca_n3 h3 hy' with ⟨ed', e', j', hj', ej'⟩ | ⟨e', k'⟩ | ⟨e', k'⟩
    · have := N1 _ _ _ k
      omega
    · rw [e']
      obtain ⟨ed, w⟩ := T _ _ _ _ k' k
      exact ⟨ed.symm, w.symm⟩
    · obtain ⟨ed, w⟩ := I1 _ _ _ _ _ k k'
      exact ⟨ed, w.imp (ex (ca_n1 hA.1 hL k').1) (ex (ca_n1 hA.1 hL k).1)⟩
theorem ca_A_out (hA : ca_A n W s ln sh nx) (h : ca_out n W s c ln sh nx fe cp n' ln' sh' nx' fe' cp') : ca_A n' n (s + 1) ln' sh' nx' := by
  rcases h with h | h
  · exact ca_A_AB hA h
  · exact ⟨ca_B_C hA h, ca_M5_C hA h, ca_In_C hA h⟩
end
end
section
/-! grow keeps the rest: the path of the whole text, the first ends, the copies, the root's row, the state of the letter 3 -/
def ca_P (n W s : Nat) (ln : Nat → Nat) (nx : Nat → Nat → Option Nat) (fe w P : Nat → Nat) : Prop :=
  P 0 = 0 ∧ P s = W ∧ (∀ e, e ≤ s → P e < n ∧ ln (P e) = e) ∧ (∀ e, e < s → nx (P e) (w e) = some (P (e + 1)) ∧ fe (P (e + 1)) = e)
def ca_E (n s : Nat) (ln sh fe : Nat → Nat) : Prop := fe 0 = 0 ∧ (∀ v, v < n → fe v ≤ s) ∧ (∀ v, v < n → v ≠ 0 → ln v ≤ fe v + 1 ∧ fe (sh v) ≤ fe v)
def ca_Cp (n : Nat) (sh : Nat → Nat) (cp : Nat → Bool) : Prop := ∀ v, v < n → cp v = true → ∃ u, u < n ∧ u ≠ 0 ∧ sh u = v
/-- how many states link to the root -/
def ca_rc (sh : Nat → Nat) : Nat → Nat
  | 0 => 0
  | n + 1 => ca_rc sh n + (if n ≠ 0 ∧ sh n = 0 then 1 else 0)
/-- the state of the letter 3: entered by 3 alone, nobody's link, at most one way out -/
def ca_T3 (n W : Nat) (sh : Nat → Nat) (nx : Nat → Nat → Option Nat) (v : Nat) : Prop :=
  v < n ∧ v ≠ 0 ∧ nx 0 3 = some v ∧ (∀ p d, nx p d = some v → d = 3) ∧ (∀ u, u < n → sh u ≠ v) ∧ ((W = v ∧ ∀ d, nx v d = none) ∨ (W ≠ v ∧ ∃ d0, ∀ d, d ≠ d0 → nx v d = none))
section
variable {n W s c : Nat} {ln sh : Nat → Nat} {nx : Nat → Nat → Option Nat} {fe : Nat → Nat} {cp : Nat → Bool} {n' : Nat} {ln' sh' : Nat → Nat} {nx' nx1 : Nat → Nat → Option Nat} {fe' : Nat → Nat} {cp' : Nat → Bool} {r p q u : Nat}
/-- the whole text's state has no way out -/
theorem ca_Wn (hB : ca_B n W s ln sh nx) (d : Nat) : nx W d = none := by
  cases h : nx W d with
  | none => rfl
  | some y =>
    have h1 := hB.2.2.2.2.2.2.2 _ _ _ h
    have h2 := ca_lnW hB h1.2.1
    have h3 := hB.2.2.2.2.1
    omega
theorem ca_r0 (hB : ca_B n W s ln sh nx) (hq : nx (ca_it sh r W) c = some q) : 0 < r := by
  cases r with
  | zero =>
    have h1 : nx W c = some q := hq
    rw [ca_Wn hB c] at h1
    exact absurd h1.symm (Option.some_ne_none q)
  | succ r => omega
theorem ca_P_out {w P : Nat → Nat} (hA : ca_A n W s ln sh nx) (hP : ca_P n W s ln nx fe w P) (hw : w s = c) (h : ca_out n W s c ln sh nx fe cp n' ln' sh' nx' fe' cp') : ca_P n' n (s + 1) ln' nx' fe' w (ca_u P (s + 1) n) := by
  obtain ⟨p1, p2, p3, p4⟩ := hP
  obtain ⟨b1, b2, b3, b4, b5, b6, b7, b8⟩ := id hA.1
  have hP : ∀ e, e ≤ s → ca_u P (s + 1) n e = P e := fun e he => ca_un (by omega)
  have hP1 : ca_u P (s + 1) n (s + 1) = n := ca_us
  rcases h with ⟨r, q, hL, hq, rfl, hv, h1, h2, h3, h4⟩ | ⟨r, p, q, u, nx1, hC, rfl, hv, hs, m1, m2, m3, m4, t1, t2, t3, t4, g⟩
  · have hr : 0 < r := by
      rcases hq with ⟨⟨j, hj, _⟩, _⟩ | ⟨_, hq, _⟩
      · omega
      · exact ca_r0 hA.1 hq
    refine ⟨by rw [hP 0 (by omega), p1], hP1, fun e he => ?_, fun e he => ?_⟩
    · by_cases ee : e = s + 1
      · rw [ee, hP1, h1]
        exact ⟨by omega, rfl⟩
      · have he' : e ≤ s := by omega
        have := p3 e he'
        rw [hP e he', (hv _ this.1).1]
        exact ⟨by omega, this.2⟩
    · by_cases ee : e = s
      · rw [ee, hP s (by omega), hP1, p2, hw]
        exact ⟨(hL.1 0 hr).2, h3⟩
      · have he' : e < s := by omega
        have := p4 e he'
        have hn := (p3 (e + 1) (by omega)).1
        rw [hP e (by omega), hP (e + 1) (by omega), (hv _ hn).2.2.1]
        exact ⟨ca_k1 hL this.1, this.2⟩
  · obtain ⟨c1, c2, c3, c4, c5⟩ := ca_C0 hA.1 hC
    obtain ⟨ep, hL, hz, hq, hl, h3, hx⟩ := id hC
    have hr : 0 < r := by
      rw [ep] at hq
      exact ca_r0 hA.1 hq
    refine ⟨by rw [hP 0 (by omega), p1], hP1, fun e he => ?_, fun e he => ?_⟩
    · by_cases ee : e = s + 1
      · rw [ee, hP1, m1]
        exact ⟨by omega, rfl⟩
      · have he' : e ≤ s := by omega
        have := p3 e he'
        rw [hP e he', (hv _ this.1).1]
        exact ⟨by omega, this.2⟩
    · by_cases ee : e = s
      · rw [ee, hP s (by omega), hP1, p2, hw]
        refine ⟨?_, m2⟩
        rcases ca_k3 h3 b1 (hL.1 0 hr).2 with z | z
        · exact z
        · omega
      · have he' : e < s := by omega
        have := p4 e he'
        have hn := p3 e (by omega)
        have hn1 := p3 (e + 1) (by omega)
        rw [hP e (by omega), hP (e + 1) (by omega), (hv _ hn1.1).2.1]
        refine ⟨?_, this.2⟩
        rcases ca_k3 h3 hn.1 (ca_k1 hL this.1) with z | ⟨z1, z2, ⟨j, hj, ej⟩, z4⟩
        · exact z
        · have h5 := (ca_itB hA.1 c1 j).2
          rw [← ej] at h5
          rw [z1] at hn1
          omega
theorem ca_E_out (hA : ca_A n W s ln sh nx) (hE : ca_E n s ln sh fe) (h : ca_out n W s c ln sh nx fe cp n' ln' sh' nx' fe' cp') : ca_E n' (s + 1) ln' sh' fe' := by
  obtain ⟨e1, e2, e3⟩ := hE
  obtain ⟨b1, b2, b3, b4, b5, b6, b7, b8⟩ := id hA.1
  have h0 : 0 < n := by omega
  rcases h with ⟨r, q, hL, hq, rfl, hv, h1, h2, h3, h4⟩ | ⟨r, p, q, u, nx1, hC, rfl, hv, hs, m1, m2, m3, m4, t1, t2, t3, t4, g⟩
  · have hqn : q < n := by
      rcases hq with ⟨_, e⟩ | ⟨_, hq, _⟩
      · omega
      · exact (b8 _ _ _ hq).2.1
    refine ⟨by rw [(hv 0 h0).2.2.1, e1], fun v hvn => ?_, fun v hvn hne => ?_⟩
    · by_cases e : v = n
      · rw [e, h3]
        omega
      · have hvn' : v < n := by omega
        rw [(hv v hvn').2.2.1]
        have := e2 v hvn'
        omega
    · by_cases e : v = n
      · rw [e, h1, h3, h2, (hv q hqn).2.2.1]
        exact ⟨by omega, e2 q hqn⟩
      · have hvn' : v < n := by omega
        have hsv := (b7 v hvn' hne).1
        rw [(hv v hvn').1, (hv v hvn').2.1, (hv v hvn').2.2.1, (hv _ hsv).2.2.1]
        exact e3 v hvn' hne
  · obtain ⟨c1, c2, c3, c4, c5⟩ := ca_C0 hA.1 hC
    have hsq := (b7 q c2 c3).1
    have eq := e3 q c2 c3
    refine ⟨by rw [(hv 0 h0).2.1, e1], fun v hvn => ?_, fun v hvn hne => ?_⟩
    · by_cases e : v = n
      · rw [e, m2]
        omega
      · by_cases e' : v = n + 1
        · rw [e', t3]
          have := e2 q c2
          omega
        · have hvn' : v < n := by omega
          rw [(hv v hvn').2.1]
          have := e2 v hvn'
          omega
    · by_cases e : v = n
      · rw [e, m1, m2, m4, t3]
        exact ⟨by omega, e2 q c2⟩
      · by_cases e' : v = n + 1
        · rw [e', t1, t3, t2, (hv _ hsq).2.1]
          exact ⟨by omega, eq.2⟩
        · have hvn' : v < n := by omega
          by_cases evq : v = q
          · rw [evq, g, t3, (hv q c2).1, (hv q c2).2.1]
            exact ⟨eq.1, Nat.le_refl _⟩
          · have hsv := (b7 v hvn' hne).1
            rw [(hv v hvn').1, hs v hvn' evq, (hv v hvn').2.1, (hv _ hsv).2.1]
            exact e3 v hvn' hne
theorem ca_Cp_out (hA : ca_A n W s ln sh nx) (hP : ca_Cp n sh cp) (h : ca_out n W s c ln sh nx fe cp n' ln' sh' nx' fe' cp') : ca_Cp n' sh' cp' := by
  rcases h with ⟨r, q, hL, hq, rfl, hv, h1, h2, h3, h4⟩ | ⟨r, p, q, u, nx1, hC, rfl, hv, hs, m1, m2, m3, m4, t1, t2, t3, t4, g⟩
  · intro v hvn hc
    by_cases e : v = n
    · rw [e, h4] at hc
      exact absurd hc (by decide)
    · have hvn' : v < n := by omega
      rw [(hv v hvn').2.2.2] at hc
      obtain ⟨u, u1, u2, u3⟩ := hP v hvn' hc
      exact ⟨u, by omega, u2, by rw [(hv u u1).2.1, u3]⟩
  · obtain ⟨c1, c2, c3, c4, c5⟩ := ca_C0 hA.1 hC
    intro v hvn hc
    by_cases e : v = n
    · rw [e, m3] at hc
      exact absurd hc (by decide)
    · by_cases e' : v = n + 1
      · rw [e']
        exact ⟨q, by omega, c3, g⟩
      · have hvn' : v < n := by omega
        rw [(hv v hvn').2.2] at hc
        obtain ⟨u, u1, u2, u3⟩ := hP v hvn' hc
        by_cases euq : u = q
        · exact ⟨n + 1, by omega, by omega, by rw [t2, ← euq, u3]⟩
        · exact ⟨u, by omega, u2, by rw [hs u u1 euq, u3]⟩
theorem ca_rc_e : ∀ (n : Nat), (∀ v, v < n → sh' v = sh v) → ca_rc sh' n = ca_rc sh n := by
  intro n
  induction n with
  | zero => exact fun _ => rfl
  | succ n ih =>
    intro h
    show ca_rc sh' n + (if n ≠ 0 ∧ sh' n = 0 then 1 else 0) = ca_rc sh n + (if n ≠ 0 ∧ sh n = 0 then 1 else 0)
    rw [ih (fun v hv => h v (by omega)), h n (by omega)]
theorem ca_rc_q (hq0 : q ≠ 0) (hz : sh' q ≠ 0) : ∀ (n : Nat), (∀ v, v < n → v ≠ q → sh' v = sh v) → q < n → ca_rc sh n = ca_rc sh' n + (if sh q = 0 then 1 else 0) := by
  intro n
  induction n with
  | zero => exact fun _ h => absurd h (by omega)
  | succ n ih =>
    intro h hq
    show ca_rc sh n + (if n ≠ 0 ∧ sh n = 0 then 1 else 0) = ca_rc sh' n + (if n ≠ 0 ∧ sh' n = 0 then 1 else 0) + (if sh q = 0 then 1 else 0)
    by_cases e : n = q
    · rw [ca_rc_e (sh := sh) (sh' := sh') n (fun v hv => h v (by omega) (by omega)), e, if_neg (c := q ≠ 0 ∧ sh' q = 0) (fun z => hz z.2)]
      by_cases g : sh q = 0
      · rw [if_pos ⟨hq0, g⟩, if_pos g]
      · rw [if_neg (fun z => g z.2), if_neg g]
    · rw [ih (fun v hv => h v (by omega)) (by omega), h n (by omega) e]
      omega
theorem ca_rc_s (sh : Nat → Nat) (n : Nat) (hn : n ≠ 0) : ca_rc sh (n + 1) = ca_rc sh n + (if sh n = 0 then 1 else 0) := by
  show ca_rc sh n + (if n ≠ 0 ∧ sh n = 0 then 1 else 0) = _
  by_cases g : sh n = 0
  · rw [if_pos ⟨hn, g⟩, if_pos g]
  · rw [if_neg (fun z => g z.2), if_neg g]
/-- the root's row and the root's children -/
theorem ca_R_out (hA : ca_A n W s ln sh nx) (h : ca_out n W s c ln sh nx fe cp n' ln' sh' nx' fe' cp') :
    ((nx 0 c = none ∧ ca_rc sh' n' = ca_rc sh n + 1) ∨ (nx 0 c ≠ none ∧ ca_rc sh' n' = ca_rc sh n)) ∧ nx' 0 c ≠ none ∧ (∀ d, d ≠ c → nx' 0 d = nx 0 d) ∧ (∀ x d, d ≠ c → nx' x d ≠ none → ∃ z, nx z d ≠ none) := by
  obtain ⟨b1, b2, b3, b4, b5, b6, b7, b8⟩ := id hA.1
  have h0 : 0 < n := by omega
  rcases h with ⟨r, q, hL, hq, rfl, hv, h1, h2, h3, h4⟩ | ⟨r, p, q, u, nx1, hC, rfl, hv, hs, m1, m2, m3, m4, t1, t2, t3, t4, g⟩
  · have hr : ca_rc sh' (n + 1) = ca_rc sh n + (if q = 0 then 1 else 0) := by
      rw [ca_rc_s _ _ (by omega), h2, ca_rc_e (sh := sh) (sh' := sh') n (fun v hv' => (hv v hv').2.1)]
    refine ⟨?_, ?_, fun d hd => hL.2 0 d (Or.inl hd), fun x d hd hx => ⟨x, by rw [← hL.2 x d (Or.inl hd)]; exact hx⟩⟩
    · rcases hq with ⟨⟨j, hj, ej⟩, e⟩ | ⟨hz, hq, _⟩
      · have := (hL.1 j hj).1
        rw [ej] at this
        rw [hr, e]
        exact Or.inl ⟨this, rfl⟩
      · have hq0 : q ≠ 0 := fun e => by
          have := (b8 _ _ _ hq).2.2
          rw [e, b3] at this
          omega
        obtain ⟨k, hk⟩ := ca_root hA.1 _ _ (b8 _ _ _ hq).1 (Nat.le_refl _)
        obtain ⟨y, hy, _⟩ := ca_M5i hA hq k
        rw [hk] at hy
        rw [hr, if_neg hq0]
        exact Or.inr ⟨by rw [hy]; exact Option.some_ne_none y, rfl⟩
    · rcases hq with ⟨⟨j, hj, ej⟩, e⟩ | ⟨hz, hq, _⟩
      · have := (hL.1 j hj).2
        rw [ej] at this
        rw [this]
        exact Option.some_ne_none n
      · obtain ⟨k, hk⟩ := ca_root hA.1 _ _ (b8 _ _ _ hq).1 (Nat.le_refl _)
        obtain ⟨y, hy, _⟩ := ca_M5i hA hq k
        rw [hk] at hy
        rw [ca_k1 hL hy]
        exact Option.some_ne_none y
  · obtain ⟨c1, c2, c3, c4, c5⟩ := ca_C0 hA.1 hC
    obtain ⟨ep, hL, hz, hq, hl, h3, hx⟩ := id hC
    obtain ⟨k, hk⟩ := ca_root hA.1 _ _ c1 (Nat.le_refl _)
    obtain ⟨y, hy, _⟩ := ca_M5i hA hq k
    rw [hk] at hy
    refine ⟨Or.inr ⟨by rw [hy]; exact Option.some_ne_none y, ?_⟩, ?_, fun d hd => ?_, fun x d hd hx => ?_⟩
    · have e1 := ca_rc_q (sh := sh) (sh' := sh') c3 (by rw [g]; omega) n hs c2
      rw [ca_rc_s _ (n + 1) (by omega), ca_rc_s _ n (by omega), m4, t2, if_neg (c := n + 1 = 0) (by omega)]
      omega
    · rcases ca_k3 h3 h0 (ca_k1 hL hy) with z | z
      · rw [z]
        exact Option.some_ne_none y
      · rw [z.2.2.2]
        exact Option.some_ne_none _
    · rw [h3.2 0 d (Or.inl hd), ca_cpn (by omega), hL.2 0 d (Or.inl hd)]
    · rw [h3.2 x d (Or.inl hd)] at hx
      by_cases e : x = n + 1
      · rw [e, ca_cps, hL.2 q d (Or.inl hd)] at hx
        exact ⟨q, hx⟩
      · rw [ca_cpn e, hL.2 x d (Or.inl hd)] at hx
        exact ⟨x, hx⟩
theorem ca_T3_ch (h0 : sh 0 = 0) {v : Nat} (hv0 : v ≠ 0) (hW : W < n) (hB : ca_B n W s ln sh nx) (hs : ∀ u, u < n → sh u ≠ v) (hne : W ≠ v) (k : Nat) : ca_it sh k W ≠ v := by
  cases k with
  | zero => exact hne
  | succ k =>
    rw [ca_it_s]
    exact hs _ (ca_itB hB hW k).1
theorem ca_T3_out {v : Nat} (hA : ca_A n W s ln sh nx) (hT : ca_T3 n W sh nx v) (hc : c ≠ 3) (h : ca_out n W s c ln sh nx fe cp n' ln' sh' nx' fe' cp') : ca_T3 n' n sh' nx' v := by
  obtain ⟨v1, v2, v3, v4, v5, v6⟩ := hT
  obtain ⟨b1, b2, b3, b4, b5, b6, b7, b8⟩ := id hA.1
  have h0 : 0 < n := by omega
  have hR := (ca_R_out hA h).2.2.1
  rcases h with ⟨r, q, hL, hq, rfl, hv, h1, h2, h3, h4⟩ | ⟨r, p, q, u, nx1, hC, rfl, hv, hs, m1, m2, m3, m4, t1, t2, t3, t4, g⟩
  · refine ⟨by omega, v2, by rw [hR 3 (fun e => hc e.symm), v3], fun p d hp => ?_, fun u hu => ?_, Or.inr ⟨by omega, ?_⟩⟩
    · rcases (ca_n1 hA.1 hL hp).2 with w | w
      · omega
      · exact v4 _ _ w.2
    · by_cases e : u = n
      · rw [e, h2]
        rcases hq with ⟨_, e⟩ | ⟨_, hq, _⟩
        · rw [e]
          exact fun z => v2 z.symm
        · intro z
          rw [z] at hq
          exact hc (v4 _ _ hq)
      · have hu' : u < n := by omega
        rw [(hv u hu').2.1]
        exact v5 u hu'
    · rcases v6 with ⟨_, w⟩ | ⟨w1, d0, w⟩
      · refine ⟨c, fun d hd => ?_⟩
        rw [hL.2 v d (Or.inl hd)]
        exact w d
      · refine ⟨d0, fun d hd => ?_⟩
        rw [hL.2 v d (Or.inr (fun j _ e => ca_T3_ch b4 v2 b1 hA.1 v5 w1 j e.symm))]
        exact w d hd
  · obtain ⟨c1, c2, c3, c4, c5⟩ := ca_C0 hA.1 hC
    obtain ⟨ep, hL, hz, hq, hl, h3, hx⟩ := id hC
    have hqv : q ≠ v := fun z => by
      rw [z] at hq
      exact hc (v4 _ _ hq)
    have N1 : ∀ x d, nx1 x d = some v → d = 3 := by
      intro x d h
      rcases (ca_n1 hA.1 hL h).2 with w | w
      · omega
      · exact v4 _ _ w.2
    refine ⟨by omega, v2, by rw [hR 3 (fun e => hc e.symm), v3], fun x d hp => ?_, fun y hy => ?_, Or.inr ⟨by omega, ?_⟩⟩
    · rcases ca_n3 h3 hp with w | w | w
      · omega
      · exact N1 _ _ w.2
      · exact N1 _ _ w.2
    · by_cases e : y = n
      · rw [e, m4]
        omega
      · by_cases e' : y = n + 1
        · rw [e', t2]
          exact v5 q c2
        · have hy' : y < n := by omega
          by_cases eq : y = q
          · rw [eq, g]
            omega
          · rw [hs y hy' eq]
            exact v5 y hy'
    · rcases v6 with ⟨_, w⟩ | ⟨w1, d0, w⟩
      · refine ⟨c, fun d hd => ?_⟩
        rw [h3.2 v d (Or.inl hd), ca_cpn (by omega), hL.2 v d (Or.inl hd)]
        exact w d
      · refine ⟨d0, fun d hd => ?_⟩
        rw [h3.2 v d (Or.inr (fun j _ e => ?_)), ca_cpn (by omega), hL.2 v d (Or.inr (fun j _ e => ca_T3_ch b4 v2 b1 hA.1 v5 w1 j e.symm))]
        · exact w d hd
        · rw [ep, ← ca_it_add] at e
          exact ca_T3_ch b4 v2 b1 hA.1 v5 w1 _ e.symm
/-- the letter 3 comes for the first time -/
theorem ca_T3_new (hA : ca_A n W s ln sh nx) (hN : ∀ x, nx x 3 = none) (h : ca_out n W s 3 ln sh nx fe cp n' ln' sh' nx' fe' cp') : ca_T3 n' n sh' nx' n := by
  obtain ⟨b1, b2, b3, b4, b5, b6, b7, b8⟩ := id hA.1
  have h0 : 0 < n := by omega
  rcases h with ⟨r, q, hL, hq, rfl, hv, h1, h2, h3, h4⟩ | ⟨r, p, q, u, nx1, hC, _⟩
  · rcases hq with ⟨⟨j, hj, ej⟩, e⟩ | ⟨_, hq, _⟩
    · refine ⟨by omega, by omega, ?_, fun p d hp => ?_, fun u hu => ?_, Or.inl ⟨rfl, fun d => ?_⟩⟩
      · have := (hL.1 j hj).2
        rw [ej] at this
        exact this
      · rcases (ca_n1 hA.1 hL hp).2 with w | w
        · exact w.2.1
        · omega
      · by_cases eu : u = n
        · rw [eu, h2, e]
          omega
        · have hu' : u < n := by omega
          have := (ca_sh hA.1 hu').1
          rw [(hv u hu').2.1]
          omega
      · cases hd : nx' n d with
        | none => rfl
        | some y =>
          have := (ca_n1 hA.1 hL hd).1
          omega
    · rw [hN] at hq
      exact absurd hq.symm (Option.some_ne_none q)
  · have hq := hC.2.2.2.1
    rw [hN] at hq
    exact absurd hq.symm (Option.some_ne_none q)
end
end
section
/-! the walk of grow: newState, the first loop, split, grow -/
def ca_oI : Option Nat → Int32
  | none => -1
  | some q => nI q
def ca_b : Bool → Int32
  | true => 1
  | false => 0
def ca_m5 (N : Nat) (nx : Nat → Nat → Option Nat) (b : Nat → Int32) : Prop := ∀ v d, v < N → d < 4 → b (v * 4 + d) = ca_oI (nx v d)
/-- the arrays hold the picture -/
def ca_M (n : Nat) (ln sh : Nat → Nat) (nx : Nat → Nat → Option Nat) (fe : Nat → Nat) (cp : Nat → Bool) (a2 a3 a4 a5 a6 : Nat → Int32) : Prop :=
  (∀ v, v < n → a2 v = nI (ln v)) ∧ a3 0 = -1 ∧ (∀ v, v < n → v ≠ 0 → a3 v = nI (sh v)) ∧ (∀ v, v < n → a4 v = nI (fe v)) ∧ ca_m5 n nx a5 ∧ (∀ v, v < n → a6 v = ca_b (cp v))
theorem ca_ix (p c : Nat) : nI p * 4 + nI c = nI (p * 4 + c) := by
  rw [show (4 : Int32) = nI 4 from rfl, pk_mul, nI_add]
def ca_r4 (a : Nat → Int32) (n : Nat) : Nat → Int32 := upd (upd (upd (upd a (n * 4 + 0) (-1)) (n * 4 + 1) (-1)) (n * 4 + 2) (-1)) (n * 4 + 3) (-1)
theorem ca_r4s {a : Nat → Int32} {n d : Nat} (hd : d < 4) : ca_r4 a n (n * 4 + d) = -1 := by
  unfold ca_r4
  by_cases h3 : d = 3
  · rw [h3, pk_us]
  · rw [pk_un (by omega)]
    by_cases h2 : d = 2
    · rw [h2, pk_us]
    · rw [pk_un (by omega)]
      by_cases h1 : d = 1
      · rw [h1, pk_us]
      · rw [pk_un (by omega), show d = 0 by omega, pk_us]
theorem ca_r4n {a : Nat → Int32} {n v d : Nat} (hd : d < 4) (hv : v ≠ n) : ca_r4 a n (v * 4 + d) = a (v * 4 + d) := by
  unfold ca_r4
  rw [pk_un (by omega), pk_un (by omega), pk_un (by omega), pk_un (by omega)]
theorem ca_ns1 {post : Int32 → St2 → Prop} {f1 f2 f3 f4 f5 f6 : Int32} {a1 a2 a3 a4 a5 a6 a7 a8 a9 a10 : Nat → Int32} {n k j : Nat} (hn : n < 65) (hj : j < 4)
    (H : wX_newState_31 post (nI n) f1 f2 f3 f4 f5 f6 k (nI (j + 1)) a1 a2 a3 a4 (upd a5 (n * 4 + j) (-1)) a6 a7 a8 a9 a10) : wX_newState_31 post (nI n) f1 f2 f3 f4 f5 f6 (k + 1) (nI j) a1 a2 a3 a4 a5 a6 a7 a8 a9 a10 :=
  pk_le 4 j (fun z => absurd z (by omega)) (fun _ => ⟨pk_in (n * 4 + j) 260 (by omega) (ca_ix n j), nm_r (by rw [ca_ix, nI_clamp (by omega)]) (nm_r (nI_1 j) H)⟩)
theorem ca_ns {post : Int32 → St2 → Prop} {f1 f2 f4 f5 f6 z : Int32} {a1 a2 a3 a4 a5 a6 a7 a8 a9 a10 : Nat → Int32} {n : Nat} (hn : n < 65)
    (H : post (nI n) (f1, f2, nI (n + 1), f4, 0, f6, a1, upd a2 n z, a3, a4, ca_r4 a5 n, upd a6 n 0, a7, a8, a9, a10)) : wpX_newState post (f1, f2, nI n, f4, f5, f6, a1, a2, a3, a4, a5, a6, a7, a8, a9, a10) z :=
  nm_r (nI_1 n) ⟨pk_in n 65 hn, nm_r (by rw [nI_clamp (by omega)]) ⟨pk_in n 65 hn, nm_r (by rw [nI_clamp (by omega)])
    ⟨5, ca_ns1 (j := 0) hn (by omega) (ca_ns1 (j := 1) hn (by omega) (ca_ns1 (j := 2) hn (by omega) (ca_ns1 (j := 3) hn (by omega) (pk_le 4 4 (fun _ => H) (fun z => absurd z (by omega))))))⟩⟩⟩
theorem ca_mx {α : Type} {g : α → Int32} {N : Nat} {a : Nat → Int32} {f : Nat → α} (h : ∀ v, v < N → a v = g (f v)) {x : α} {y : Int32} (hy : y = g x) : ∀ v, v < N + 1 → upd a N y v = g (ca_u f N x v) := by
  intro v hv
  by_cases e : v = N
  · rw [e, pk_us, ca_us, hy]
  · rw [pk_un e, ca_un e]
    exact h v (by omega)
theorem ca_m5u {N : Nat} {nx : Nat → Nat → Option Nat} {b : Nat → Int32} (h : ca_m5 N nx b) {x c : Nat} (hc : c < 4) {o : Option Nat} {y : Int32} (hy : y = ca_oI o) : ca_m5 N (ca_u2 nx x c o) (upd b (x * 4 + c) y) := by
  intro v d hv hd
  by_cases e : v = x ∧ d = c
  · rw [e.1, e.2, pk_us, ca_u2s, hy]
  · rw [pk_un (by omega), ca_u2n (by omega)]
    exact h v d hv hd
/-- a fresh row -/
theorem ca_m5n {n : Nat} {nx : Nat → Nat → Option Nat} {b : Nat → Int32} (h : ca_m5 n nx b) (hn : ∀ d, nx n d = none) : ca_m5 (n + 1) nx (ca_r4 b n) := by
  intro v d hv hd
  by_cases e : v = n
  · rw [e, ca_r4s hd, hn]
    rfl
  · rw [ca_r4n hd e]
    exact h v d (by omega) hd
theorem ca_g54 {post : St2 → Prop} {c n W s : Nat} {f1 f2 f3 f4 f5 f6 : Int32} {a1 a2 a3 a4 a5 a6 a7 a8 a9 a10 : Nat → Int32} {ln sh : Nat → Nat} {nx : Nat → Nat → Option Nat} (hB : ca_B n W s ln sh nx) (hs : s < 32) (hc : c < 4)
    (m30 : a3 0 = -1) (m3 : ∀ v, v < n → v ≠ 0 → a3 v = nI (sh v)) (m5 : ca_m5 (n + 1) nx a5)
    (HA : ∀ r nx1 b5, ca_L sh nx nx1 W c none (some n) r → (∃ j, j < r ∧ ca_it sh j W = 0) → ca_m5 (n + 1) nx1 b5 → wX_grow_102 post (nI c) (nI n) (-1) f1 f2 f3 f4 f5 f6 a1 a2 a3 a4 b5 a6 a7 a8 a9 a10)
    (HB : ∀ r nx1 b5 q, ca_L sh nx nx1 W c none (some n) r → (∀ j, j < r → ca_it sh j W ≠ 0) → nx (ca_it sh r W) c = some q → ca_m5 (n + 1) nx1 b5 → wX_grow_102 post (nI c) (nI n) (nI (ca_it sh r W)) f1 f2 f3 f4 f5 f6 a1 a2 a3 a4 b5 a6 a7 a8 a9 a10) :
    ∃ k, wX_grow_54 post (nI c) (nI n) f1 f2 f3 f4 f5 f6 k (nI W) 0 a1 a2 a3 a4 a5 a6 a7 a8 a9 a10 := by
  have hn : n ≤ 63 := by
    have := hB.2.1
    omega
  refine pk_loop (σ := Int32 × (Nat → Int32)) (fun k i z => wX_grow_54 post (nI c) (nI n) f1 f2 f3 f4 f5 f6 k z.1 (nI i) a1 a2 a3 a4 z.2 a6 a7 a8 a9 a10)
    (fun i z => ∃ nx1, ca_L sh nx nx1 W c none (some n) i ∧ ca_m5 (n + 1) nx1 z.2 ∧ ((z.1 = nI (ca_it sh i W) ∧ ∀ j, j < i → ca_it sh j W ≠ 0) ∨ (z.1 = -1 ∧ ∃ j, j < i ∧ ca_it sh j W = 0)))
    65 0 (nI W, a5) (by omega) ⟨nx, ca_L_0 _ _ _ _ _ _, m5, Or.inl ⟨rfl, fun j hj => absurd hj (by omega)⟩⟩ ?_ ?_
  · rintro k ⟨x, b⟩ ⟨nx1, hL, hm, hx⟩
    rcases hx with ⟨ex, hz⟩ | ⟨ex, hz⟩
    · have h1 := ca_itL hB hB.1 65 hz
      have h2 := hB.2.2.2.2.1
      omega
    · have ex' : x = -1 := ex
      subst ex'
      exact pk_le 65 65 (fun _ => HA 65 nx1 b hL hz hm) (fun z => absurd z (by omega))
  · rintro k i ⟨x, b⟩ hi ⟨nx1, hL, hm, hx⟩ hw
    rcases hx with ⟨ex, hz⟩ | ⟨ex, hz⟩
    · have ex' : x = nI (ca_it sh i W) := ex
      subst ex'
      have hm' : ca_m5 (n + 1) nx1 b := hm
      have hp := (ca_itB hB hB.1 i).1
      have hv := hm' (ca_it sh i W) c (by omega) hc
      refine pk_le 65 i (fun z => absurd z (by omega)) (fun _ => br_f (nI_pos (by omega)) ⟨pk_in (ca_it sh i W * 4 + c) 260 (by omega) (ca_ix _ _), ?_⟩)
      dsimp only
      rw [ca_ix, nI_clamp (show ca_it sh i W * 4 + c < 2 ^ 31 by omega), nI_clamp (show ca_it sh i W < 2 ^ 31 by omega)]
      cases hq : nx1 (ca_it sh i W) c with
      | none =>
        rw [hq] at hv
        refine br_f (by rw [hv]; decide) ⟨pk_in (ca_it sh i W * 4 + c) 260 (by omega), nm_e ⟨pk_in (ca_it sh i W) 65 (by omega), ?_⟩⟩
        by_cases h0 : ca_it sh i W = 0
        · refine nm_r (e' := -1) (by rw [h0, m30]) (nm_r (nI_1 i) (hw (-1, _) ⟨_, ca_L_s hL hq (fun z => absurd z.symm (Option.some_ne_none n)), ca_m5u hm' hc rfl, Or.inr ⟨rfl, i, by omega, h0⟩⟩))
        · refine nm_r (m3 _ hp h0) (nm_r (nI_1 i) (hw (nI (ca_it sh (i + 1) W), _) ⟨_, ca_L_s hL hq (fun z => absurd z.symm (Option.some_ne_none n)), ca_m5u hm' hc rfl, Or.inl ⟨rfl, fun j hj => ?_⟩⟩))
          by_cases e : j = i
          · rw [e]
            exact h0
          · exact hz j (by omega)
      | some q =>
        rw [hq] at hv
        have hq' : nx (ca_it sh i W) c = some q := by
          rw [← hL.2 (ca_it sh i W) c (Or.inr (fun j hj e => ?_)), hq]
          have := ca_itD hB hB.1 hj hz
          rw [e] at this
          omega
        have hqn := (hB.2.2.2.2.2.2.2 _ _ _ hq').2.1
        exact br_t (by rw [hv]; exact nI_pos' (by omega)) (HB i nx1 b q hL hz hq' hm')
    · have ex' : x = -1 := ex
      subst ex'
      exact pk_le 65 i (fun z => absurd z (by omega)) (fun _ => br_t (show (-1 : Int32) < 0 by decide) (HA i nx1 b hL hz hm))
theorem ca_s100 {post : Int32 → St2 → Prop} {c n W s p q t N : Nat} {f1 f2 f3 f4 f5 f6 : Int32} {a1 a2 a3 a4 a5 a6 a7 a8 a9 a10 : Nat → Int32} {ln sh : Nat → Nat} {nx nx2 : Nat → Nat → Option Nat} (hB : ca_B n W s ln sh nx) (hs : s < 32) (hc : c < 4)
    (hp : p < n) (hpq : ln p < ln q) (hq : q < n) (hqt : q ≠ t) (hnN : n ≤ N) (ht : t < 65) (hy : ∀ x d y, nx2 x d = some y → y < 65)
    (m30 : a3 0 = -1) (m3 : ∀ v, v < n → v ≠ 0 → v ≠ q → a3 v = nI (sh v)) (m5 : ca_m5 N nx2 a5)
    (H : ∀ u nx3 b5, ca_L sh nx2 nx3 p c (some q) (some t) u → ((∃ j, j < u ∧ ca_it sh j p = 0) ∨ ((∀ j, j < u → ca_it sh j p ≠ 0) ∧ nx3 (ca_it sh u p) c ≠ some q)) → ca_m5 N nx3 b5 → post (nI t) (f1, f2, f3, f4, f5, f6, a1, a2, a3, a4, b5, a6, a7, a8, a9, a10)) :
    ∃ k, wX_split_100 post (nI q) (nI c) (nI t) f1 f2 f3 f4 f5 f6 k (nI p) 0 a1 a2 a3 a4 a5 a6 a7 a8 a9 a10 := by
  have hn : n ≤ 63 := by
    have := hB.2.1
    omega
  refine pk_loop (σ := Int32 × (Nat → Int32)) (fun k i z => wX_split_100 post (nI q) (nI c) (nI t) f1 f2 f3 f4 f5 f6 k z.1 (nI i) a1 a2 a3 a4 z.2 a6 a7 a8 a9 a10)
    (fun i z => ∃ nx1, ca_L sh nx2 nx1 p c (some q) (some t) i ∧ ca_m5 N nx1 z.2 ∧ ((z.1 = nI (ca_it sh i p) ∧ ∀ j, j < i → ca_it sh j p ≠ 0) ∨ (z.1 = -1 ∧ ∃ j, j < i ∧ ca_it sh j p = 0)))
    65 0 (nI p, a5) (by omega) ⟨nx2, ca_L_0 _ _ _ _ _ _, m5, Or.inl ⟨rfl, fun j hj => absurd hj (by omega)⟩⟩ ?_ ?_
  · rintro k ⟨x, b⟩ ⟨nx1, hL, hm, hx⟩
    rcases hx with ⟨ex, hz⟩ | ⟨ex, hz⟩
    · have h1 := ca_itL hB hp 65 hz
      have h2 := ca_lnW hB hp
      omega
    · exact pk_le 65 65 (fun _ => H 65 nx1 b hL (Or.inl hz) hm) (fun z => absurd z (by omega))
  · rintro k i ⟨x, b⟩ hi ⟨nx1, hL, hm, hx⟩ hw
    rcases hx with ⟨ex, hz⟩ | ⟨ex, hz⟩
    · have ex' : x = nI (ca_it sh i p) := ex
      subst ex'
      have hm' : ca_m5 N nx1 b := hm
      have hpi := ca_itB hB hp i
      have hv := hm' (ca_it sh i p) c (by omega) hc
      have hvy : ∀ y, nx1 (ca_it sh i p) c = some y → y < 65 := by
        intro y h
        rcases ca_L_c hL (ca_it sh i p) c with z | z
        · rw [z.2.2.2] at h
          have := Option.some.inj h
          omega
        · rw [z] at h
          exact hy _ _ _ h
      refine pk_le 65 i (fun z => absurd z (by omega)) (fun _ => br_f (nI_pos (by omega)) ⟨pk_in (ca_it sh i p * 4 + c) 260 (by omega) (ca_ix _ _), ?_⟩)
      dsimp only
      rw [ca_ix, nI_clamp (show ca_it sh i p * 4 + c < 2 ^ 31 by omega), nI_clamp (show ca_it sh i p < 2 ^ 31 by omega)]
      by_cases hq1 : nx1 (ca_it sh i p) c = some q
      · rw [hq1] at hv
        refine br_t hv ⟨pk_in (ca_it sh i p * 4 + c) 260 (by omega), nm_e ⟨pk_in (ca_it sh i p) 65 (by omega), ?_⟩⟩
        have hne : (some q : Option Nat) ≠ some t := fun z => hqt (Option.some.inj z)
        by_cases h0 : ca_it sh i p = 0
        · refine nm_r (e' := -1) (by rw [h0, m30]) (nm_r (nI_1 i) (hw (-1, _) ⟨_, ca_L_s hL hq1 hne, ca_m5u hm' hc rfl, Or.inr ⟨rfl, i, by omega, h0⟩⟩))
        · have hiq : ca_it sh i p ≠ q := fun e => by
            rw [e] at hpi
            omega
          refine nm_r (m3 _ hpi.1 h0 hiq) (nm_r (nI_1 i) (hw (nI (ca_it sh (i + 1) p), _) ⟨_, ca_L_s hL hq1 hne, ca_m5u hm' hc rfl, Or.inl ⟨rfl, fun j hj => ?_⟩⟩))
          by_cases e : j = i
          · rw [e]
            exact h0
          · exact hz j (by omega)
      · refine br_f ?_ (H i nx1 b hL (Or.inr ⟨hz, hq1⟩) hm')
        rw [hv]
        cases hq2 : nx1 (ca_it sh i p) c with
        | none =>
          intro z
          have h1 : nI q < 0 := by
            rw [← z]
            decide
          exact nI_pos (show q < 2 ^ 31 by omega) h1
        | some y =>
          intro z
          have h1 := hvy y hq2
          have h2 : y = q := (nI_eq (by omega) (by omega)).mp z
          rw [h2] at hq2
          exact hq1 hq2
    · have ex' : x = -1 := ex
      subst ex'
      exact pk_le 65 i (fun z => absurd z (by omega)) (fun _ => br_t (show (-1 : Int32) < 0 by decide) (H i nx1 b hL (Or.inl hz) hm))
end
section
/-- the copy of a row -/
theorem ca_s17 {post : Int32 → St2 → Prop} {c n W s p q : Nat} {f1 f2 f3 f4 f5 f6 : Int32} {a1 a2 a3 a4 a5 a6 a7 a8 a9 a10 : Nat → Int32} {ln sh fe : Nat → Nat} {nx nx1 : Nat → Nat → Option Nat} (hB : ca_B n W s ln sh nx) (hs : s < 32) (hc : c < 4)
    (hp : p < n) (hpq : ln p < ln q) (hq : q < n) (hq0 : q ≠ 0) (hy : ∀ x d y, nx1 x d = some y → y < 65)
    (m30 : a3 0 = -1) (m3 : ∀ v, v < n → v ≠ 0 → a3 v = nI (sh v)) (m4 : a4 q = nI (fe q)) (m5 : ca_m5 (n + 2) nx1 a5)
    (H : ∀ u nx3 b5, ca_L sh (ca_cp nx1 q (n + 1)) nx3 p c (some q) (some (n + 1)) u → ((∃ j, j < u ∧ ca_it sh j p = 0) ∨ ((∀ j, j < u → ca_it sh j p ≠ 0) ∧ nx3 (ca_it sh u p) c ≠ some q)) → ca_m5 (n + 2) nx3 b5 → post (nI (n + 1)) (f1, f2, f3, f4, f5, f6, a1, a2, upd (upd a3 (n + 1) (nI (sh q))) q (nI (n + 1)), upd a4 (n + 1) (nI (fe q)), b5, upd a6 (n + 1) 1, a7, a8, a9, a10)) :
    ∃ k, wX_split_17 post (nI p) (nI q) (nI c) (nI (n + 1)) f1 f2 f3 f4 f5 f6 k 0 a1 a2 a3 a4 a5 a6 a7 a8 a9 a10 := by
  have hn : n ≤ 63 := by
    have := hB.2.1
    omega
  refine pk_loop (σ := Nat → Int32) (fun k i z => wX_split_17 post (nI p) (nI q) (nI c) (nI (n + 1)) f1 f2 f3 f4 f5 f6 k (nI i) a1 a2 a3 a4 z a6 a7 a8 a9 a10)
    (fun i z => (∀ v d, v < n + 1 → d < 4 → z (v * 4 + d) = ca_oI (nx1 v d)) ∧ (∀ d, d < i → z ((n + 1) * 4 + d) = ca_oI (nx1 q d)))
    4 0 a5 (by omega) ⟨fun v d hv hd => m5 v d (by omega) hd, fun d hd => absurd hd (by omega)⟩ ?_ ?_
  · rintro k b ⟨h1, h2⟩
    refine pk_le 4 4 (fun _ => ⟨pk_in (n + 1) 65 (by omega), ?_⟩) (fun z => absurd z (by omega))
    rw [nI_clamp (show n + 1 < 2 ^ 31 by omega), nI_clamp (show q < 2 ^ 31 by omega), m4, m3 q hq hq0]
    refine nm_e ⟨pk_in q 65 (by omega), pk_in (n + 1) 65 (by omega), nm_e ⟨pk_in q 65 (by omega), pk_in (n + 1) 65 (by omega), nm_e ⟨pk_in q 65 (by omega), nm_e ?_⟩⟩⟩
    refine ca_s100 (N := n + 2) (nx2 := ca_cp nx1 q (n + 1)) hB hs hc hp hpq hq (by omega) (by omega) (by omega) ?_ ?_ ?_ ?_ H
    · intro x d y hxy
      by_cases e : x = n + 1
      · rw [e, ca_cps] at hxy
        exact hy _ _ _ hxy
      · rw [ca_cpn e] at hxy
        exact hy _ _ _ hxy
    · rw [pk_un (fun z => hq0 z.symm), pk_un (by omega)]
      exact m30
    · intro v hv hv0 hvq
      rw [pk_un hvq, pk_un (by omega)]
      exact m3 v hv hv0
    · intro v d hv hd
      by_cases e : v = n + 1
      · rw [e, ca_cps]
        exact h2 d hd
      · rw [ca_cpn e]
        exact h1 v d (by omega) hd
  · rintro k i b hi ⟨h1, h2⟩ hw
    refine pk_le 4 i (fun z => absurd z (by omega)) (fun _ => ⟨pk_in (q * 4 + i) 260 (by omega) (ca_ix _ _), pk_in ((n + 1) * 4 + i) 260 (by omega) (ca_ix _ _), ?_⟩)
    rw [ca_ix, ca_ix, nI_clamp (show (n + 1) * 4 + i < 2 ^ 31 by omega), nI_clamp (show q * 4 + i < 2 ^ 31 by omega), h1 q i (by omega) hi]
    refine nm_e (nm_r (nI_1 i) (hw _ ⟨fun v d hv hd => ?_, fun d hd => ?_⟩))
    · rw [pk_un (by omega)]
      exact h1 v d hv hd
    · by_cases e : d = i
      · rw [e, pk_us]
      · rw [pk_un (by omega)]
        exact h2 d (by omega)
theorem ca_split {post : Int32 → St2 → Prop} {c n W s p q : Nat} {f1 f2 f4 f5 f6 : Int32} {a1 a2 a3 a4 a5 a6 a7 a8 a9 a10 : Nat → Int32} {ln sh fe : Nat → Nat} {nx nx1 : Nat → Nat → Option Nat} (hB : ca_B n W s ln sh nx) (hs : s < 32) (hc : c < 4)
    (hp : p < n) (hpq : ln p < ln q) (hq : q < n) (hq0 : q ≠ 0) (hy : ∀ x d y, nx1 x d = some y → y < 65) (hx : ∀ d, nx1 (n + 1) d = none)
    (m2 : a2 p = nI (ln p)) (m30 : a3 0 = -1) (m3 : ∀ v, v < n → v ≠ 0 → a3 v = nI (sh v)) (m4 : a4 q = nI (fe q)) (m5 : ca_m5 (n + 1) nx1 a5)
    (H : ∀ u nx3 b5, ca_L sh (ca_cp nx1 q (n + 1)) nx3 p c (some q) (some (n + 1)) u → ((∃ j, j < u ∧ ca_it sh j p = 0) ∨ ((∀ j, j < u → ca_it sh j p ≠ 0) ∧ nx3 (ca_it sh u p) c ≠ some q)) → ca_m5 (n + 2) nx3 b5 → post (nI (n + 1)) (f1, f2, nI (n + 2), f4, 0, f6, a1, upd a2 (n + 1) (nI (ln p + 1)), upd (upd a3 (n + 1) (nI (sh q))) q (nI (n + 1)), upd a4 (n + 1) (nI (fe q)), b5, upd (upd a6 (n + 1) 0) (n + 1) 1, a7, a8, a9, a10)) :
    wpX_split post (f1, f2, nI (n + 1), f4, f5, f6, a1, a2, a3, a4, a5, a6, a7, a8, a9, a10) (nI p) (nI q) (nI c) := by
  have hn : n ≤ 63 := by
    have := hB.2.1
    omega
  unfold wpX_split
  dsimp only
  rw [nI_clamp (show p < 2 ^ 31 by omega), m2, nI_1]
  refine ⟨pk_in p 65 (by omega), ca_ns (by omega) ?_⟩
  exact ca_s17 (fe := fe) hB hs hc hp hpq hq hq0 hy m30 m3 m4 (ca_m5n m5 hx) H
theorem ca_grow {post : St2 → Prop} {c n W s : Nat} {f2 f5 f6 : Int32} {a1 a2 a3 a4 a5 a6 a7 a8 a9 a10 : Nat → Int32} {ln sh fe : Nat → Nat} {nx : Nat → Nat → Option Nat} {cp : Nat → Bool} (hB : ca_B n W s ln sh nx) (hM : ca_M n ln sh nx fe cp a2 a3 a4 a5 a6) (hs : s < 32) (hc : c < 4)
    (H : ∀ n' ln' sh' nx' fe' cp' b2 b3 b4 b5 b6, ca_out n W s c ln sh nx fe cp n' ln' sh' nx' fe' cp' → ca_M n' ln' sh' nx' fe' cp' b2 b3 b4 b5 b6 → post (nI (s + 1), f2, nI n', nI n, 0, f6, a1, b2, b3, b4, b5, b6, a7, a8, a9, upd a10 s (nI c))) :
    wpX_grow post (nI s, f2, nI n, nI W, f5, f6, a1, a2, a3, a4, a5, a6, a7, a8, a9, a10) (nI c) := by
  obtain ⟨b1, b2, b3, b4, b5, b6, b7, b8⟩ := id hB
  obtain ⟨m2, m30, m3, m4, m5, m6⟩ := hM
  have hn : n ≤ 63 := by omega
  have hnn : ∀ k, n ≤ k → ∀ d, nx k d = none := by
    intro k hk d
    cases h : nx k d with
    | none => rfl
    | some y =>
      have := (b8 _ _ _ h).1
      omega
  unfold wpX_grow
  dsimp only
  rw [nI_clamp (show W < 2 ^ 31 by omega), m2 W b1, b5, nI_1]
  refine ⟨pk_in W 65 (by omega), ca_ns (by omega) ?_⟩
  dsimp only
  rw [nI_clamp (show n < 2 ^ 31 by omega), nI_clamp (show s < 2 ^ 31 by omega)]
  refine ⟨pk_in n 65 (by omega), nm_e ⟨pk_in s 32 (by omega), nm_e (nm_r (nI_1 s) ?_)⟩⟩
  refine ca_g54 hB hs hc m30 m3 (ca_m5n m5 (hnn n (Nat.le_refl n))) ?_ ?_
  · intro r nx1 d5 hL hz hm
    unfold wX_grow_102
    refine br_f (by decide) ⟨pk_in n 65 (by omega), ?_⟩
    rw [nI_clamp (show n < 2 ^ 31 by omega)]
    refine nm_e (H (n + 1) (ca_u ln n (s + 1)) (ca_u sh n 0) nx1 (ca_u fe n s) (ca_u cp n false) _ _ _ _ _ (Or.inl ⟨r, 0, hL, Or.inl ⟨hz, rfl⟩, rfl, ?_, ca_us, ca_us, ca_us, ca_us⟩) ⟨ca_mx m2 rfl, ?_, ?_, ca_mx m4 rfl, hm, ca_mx m6 rfl⟩)
    · exact fun v hv => ⟨ca_un (by omega), ca_un (by omega), ca_un (by omega), ca_un (by omega)⟩
    · rw [pk_un (by omega)]
      exact m30
    · intro v hv hv0
      by_cases e : v = n
      · rw [e, pk_us, ca_us]
        rfl
      · rw [pk_un e, ca_un e]
        exact m3 v (by omega) hv0
  · intro r nx1 d5 q hL hz hq hm
    have hq8 := b8 _ _ _ hq
    have hq0 : q ≠ 0 := fun e => by
      rw [e, b3] at hq8
      omega
    have hpn := hq8.1
    have hqn := hq8.2.1
    have hvl := hm (ca_it sh r W) c (by omega) hc
    rw [ca_k1 hL hq] at hvl
    unfold wX_grow_102
    refine br_t (nI_pos' (by omega)) ⟨pk_in (ca_it sh r W * 4 + c) 260 (by omega) (ca_ix _ _), ?_⟩
    rw [ca_ix, nI_clamp (show ca_it sh r W * 4 + c < 2 ^ 31 by omega), hvl]
    refine nm_r (e' := nI q) rfl ⟨pk_in q 65 (by omega), pk_in (ca_it sh r W) 65 (by omega), ?_⟩
    rw [nI_clamp (show ca_it sh r W < 2 ^ 31 by omega), nI_clamp (show q < 2 ^ 31 by omega), nI_clamp (show n < 2 ^ 31 by omega), pk_un (show q ≠ n by omega), pk_un (show ca_it sh r W ≠ n by omega), m2 q hqn, m2 _ hpn, nI_1]
    have hl1 := ca_lnW hB hqn
    have hl2 := ca_lnW hB hpn
    refine pk_eq (ln q) (ln (ca_it sh r W) + 1) (fun hl => ?_) (fun hl => ?_)
    · refine ⟨pk_in n 65 (by omega), nm_e (H (n + 1) (ca_u ln n (s + 1)) (ca_u sh n q) nx1 (ca_u fe n s) (ca_u cp n false) _ _ _ _ _ (Or.inl ⟨r, q, hL, Or.inr ⟨hz, hq, hl⟩, rfl, ?_, ca_us, ca_us, ca_us, ca_us⟩) ⟨ca_mx m2 rfl, ?_, ?_, ca_mx m4 rfl, hm, ca_mx m6 rfl⟩)⟩
      · exact fun v hv => ⟨ca_un (by omega), ca_un (by omega), ca_un (by omega), ca_un (by omega)⟩
      · rw [pk_un (by omega)]
        exact m30
      · intro v hv hv0
        by_cases e : v = n
        · rw [e, pk_us, ca_us]
        · rw [pk_un e, ca_un e]
          exact m3 v (by omega) hv0
    · refine ca_split (fe := fe) (sh := sh) (ln := ln) hB hs hc hpn hq8.2.2 hqn hq0 ?_ ?_ ?_ m30 m3 ?_ hm ?_
      · intro x d y hxy
        rcases (ca_n1 hB hL hxy).2 with w | w
        · omega
        · omega
      · intro d
        cases h : nx1 (n + 1) d with
        | none => rfl
        | some y =>
          have := (ca_n1 hB hL h).1
          omega
      · rw [pk_un (by omega), m2 _ hpn]
      · rw [pk_un (by omega), m4 _ hqn]
      · intro u nx3 e5 h3 hx hm3
        refine ⟨pk_in n 65 (by omega), nm_e (H (n + 2) (ca_u (ca_u ln n (s + 1)) (n + 1) (ln (ca_it sh r W) + 1)) (ca_u (ca_u (ca_u sh (n + 1) (sh q)) q (n + 1)) n (n + 1)) nx3 (ca_u (ca_u fe n s) (n + 1) (fe q)) (ca_u (ca_u cp n false) (n + 1) true) _ _ _ _ _ (Or.inr ⟨r, ca_it sh r W, q, u, nx1, ⟨rfl, hL, hz, hq, hl, h3, hx⟩, rfl, ?_, ?_, ?_, ?_, ?_, ca_us, ca_us, ?_, ca_us, ca_us, ?_⟩) ⟨ca_mx (ca_mx m2 rfl) rfl, ?_, ?_, ca_mx (ca_mx m4 rfl) rfl, hm3, ?_⟩)⟩
        · intro v hv
          rw [ca_un (show v ≠ n + 1 by omega), ca_un (show v ≠ n by omega), ca_un (show v ≠ n + 1 by omega), ca_un (show v ≠ n by omega), ca_un (show v ≠ n + 1 by omega), ca_un (show v ≠ n by omega)]
          exact ⟨rfl, rfl, rfl⟩
        · intro v hv hvq
          rw [ca_un (show v ≠ n by omega), ca_un hvq, ca_un (show v ≠ n + 1 by omega)]
        · rw [ca_un (show n ≠ n + 1 by omega), ca_us]
        · rw [ca_un (show n ≠ n + 1 by omega), ca_us]
        · rw [ca_un (show n ≠ n + 1 by omega), ca_us]
        · rw [ca_un (show n + 1 ≠ n by omega), ca_un (show n + 1 ≠ q by omega), ca_us]
        · rw [ca_un (show q ≠ n by omega), ca_us]
        · rw [pk_un (show 0 ≠ n by omega), pk_un (fun z => hq0 z.symm), pk_un (by omega)]
          exact m30
        · intro v hv hv0
          by_cases e : v = n
          · rw [e, pk_us, ca_us]
          · rw [pk_un e, ca_un e]
            by_cases e1 : v = q
            · rw [e1, pk_us, ca_us]
            · rw [pk_un e1, ca_un e1]
              by_cases e2 : v = n + 1
              · rw [e2, pk_us, ca_us]
              · rw [pk_un e2, ca_un e2]
                exact m3 v (by omega) hv0
        · intro v hv
          by_cases e : v = n + 1
          · rw [e, pk_us, ca_us]
            rfl
          · rw [pk_un e, pk_un e, ca_un e]
            exact ca_mx m6 (y := 0) (x := false) rfl v (by omega)
end
section
/-! the walk of the reading methods, over the lengths L and the states S of the longest stretches -/
def ca_run (nx : Nat → Nat → Option Nat) (tg : Nat → Nat) (i : Nat) : Nat → Option Nat
  | 0 => some 0
  | l + 1 => (ca_run nx tg i l).bind (fun p => nx p (tg (i + l)))
def ca_LF (nx : Nat → Nat → Option Nat) (tg : Nat → Nat) (t i l st : Nat) : Prop := i + l ≤ t ∧ ca_run nx tg i l = some st ∧ (i + l = t ∨ nx st (tg (i + l)) = none)
def ca_Rs (n t : Nat) (nx : Nat → Nat → Option Nat) (tg L S : Nat → Nat) (a1 a5 : Nat → Int32) : Prop :=
  0 < n ∧ n ≤ 65 ∧ t ≤ 24 ∧ (∀ j, j < t → a1 j = nI (tg j) ∧ tg j < 4) ∧ ca_m5 n nx a5 ∧ (∀ p c q, nx p c = some q → q < n) ∧ (∀ i, i < t → ca_LF nx tg t i (L i) (S i))
theorem ca_run_le {nx : Nat → Nat → Option Nat} {tg : Nat → Nat} {i l j st : Nat} (h : ca_run nx tg i l = some st) (hj : j ≤ l) : ∃ st', ca_run nx tg i j = some st' := by
  obtain ⟨k, rfl⟩ : ∃ k, l = j + k := ⟨l - j, by omega⟩
  induction k generalizing st with
  | zero => exact ⟨st, h⟩
  | succ k ih =>
    cases hr : ca_run nx tg i (j + k) with
    | none =>
      have h' : (ca_run nx tg i (j + k)).bind (fun p => nx p (tg (i + (j + k)))) = some st := h
      rw [hr] at h'
      exact absurd h'.symm (Option.some_ne_none st)
    | some y => exact ih hr (by omega)
theorem ca_run_s {nx : Nat → Nat → Option Nat} {tg : Nat → Nat} {i l st : Nat} (h : ca_run nx tg i l = some st) : ca_run nx tg i (l + 1) = nx st (tg (i + l)) := by
  show (ca_run nx tg i l).bind (fun p => nx p (tg (i + l))) = _
  rw [h]
  rfl
theorem ca_run_n {nx : Nat → Nat → Option Nat} {tg : Nat → Nat} {n : Nat} (h0 : 0 < n) (hn : ∀ p c q, nx p c = some q → q < n) {i l st : Nat} (h : ca_run nx tg i l = some st) : st < n := by
  cases l with
  | zero =>
    have := Option.some.inj (show some 0 = some st from h)
    omega
  | succ l =>
    obtain ⟨y, hy⟩ := ca_run_le h (Nat.le_succ l)
    rw [ca_run_s hy] at h
    exact hn _ _ _ h
section
variable {post : Int32 → St2 → Prop} {n t : Nat} {f1 f3 f4 f5 f6 : Int32} {a1 a2 a3 a4 a5 a6 a7 a8 a9 a10 : Nat → Int32} {nx : Nat → Nat → Option Nat} {tg L S : Nat → Nat}
theorem ca_lf {i : Nat} (hR : ca_Rs n t nx tg L S a1 a5) (hi : i < t) (H : post (nI (L i)) (f1, nI t, f3, f4, f5, nI (S i), a1, a2, a3, a4, a5, a6, a7, a8, a9, a10)) :
    wpX_longestFrom post (f1, nI t, f3, f4, f5, f6, a1, a2, a3, a4, a5, a6, a7, a8, a9, a10) (nI i) := by
  obtain ⟨h0, hn, ht, h1, h5, hx, hL⟩ := hR
  obtain ⟨l1, l2, l3⟩ := hL i hi
  show ∃ k, wX_longestFrom_9 post f1 (nI t) f3 f4 f5 a1 a2 a3 a4 a5 a6 a7 a8 a9 a10 k 0 (nI i) 0
  refine pk_loop (σ := Int32) (fun k j z => wX_longestFrom_9 post f1 (nI t) f3 f4 f5 a1 a2 a3 a4 a5 a6 a7 a8 a9 a10 k (nI j) (nI (i + j)) z)
    (fun j z => ∃ st, ca_run nx tg i j = some st ∧ z = nI st) (L i) 0 0 (by omega) ⟨0, rfl, rfl⟩ ?_ ?_
  · rintro k z ⟨st, hr, rfl⟩
    have est : st = S i := Option.some.inj (by rw [← hr, l2])
    rw [est]
    have hst := ca_run_n h0 hx l2
    refine pk_le t (i + L i) (fun _ => H) (fun z => ⟨pk_in (i + L i) 24 (by omega), ?_⟩)
    have k1 := h1 (i + L i) z
    rw [nI_clamp (show i + L i < 2 ^ 31 by omega), k1.1, ca_ix, nI_clamp (show S i * 4 + tg (i + L i) < 2 ^ 31 by omega), h5 _ _ hst k1.2]
    refine ⟨pk_in (S i * 4 + tg (i + L i)) 260 (by omega), br_t ?_ H⟩
    rcases l3 with l3 | l3
    · omega
    · rw [l3]
      decide
  · rintro k j z hj ⟨st, hr, rfl⟩ hw
    have hst := ca_run_n h0 hx hr
    obtain ⟨y, hy⟩ := ca_run_le l2 (show j + 1 ≤ L i by omega)
    have hy' := hy
    rw [ca_run_s hr] at hy'
    have hyn := hx _ _ _ hy'
    refine pk_le t (i + j) (fun z => absurd z (by omega)) (fun z => ⟨pk_in (i + j) 24 (by omega), ?_⟩)
    have k1 := h1 (i + j) z
    rw [nI_clamp (show i + j < 2 ^ 31 by omega), k1.1, ca_ix, nI_clamp (show st * 4 + tg (i + j) < 2 ^ 31 by omega), h5 _ _ hst k1.2, hy']
    exact ⟨pk_in (st * 4 + tg (i + j)) 260 (by omega), br_f (nI_pos (show y < 2 ^ 31 by omega)) ⟨pk_in (i + j) 24 (by omega), pk_in (st * 4 + tg (i + j)) 260 (by omega), nm_e (nm_r (nI_1 j) (nm_r (nI_1 (i + j)) (hw _ ⟨y, hy, rfl⟩)))⟩⟩
/-- a piece's step -/
def ca_st (l : Nat) : Nat := if l = 0 then 1 else l
def ca_pos (L : Nat → Nat) : Nat → Nat
  | 0 => 0
  | k + 1 => ca_pos L k + ca_st (L (ca_pos L k))
theorem ca_LFle (hR : ca_Rs n t nx tg L S a1 a5) {i : Nat} (hi : i < t) : L i ≤ 24 ∧ i + L i ≤ t := by
  have h1 := (hR.2.2.2.2.2.2 i hi).1
  have h2 := hR.2.2.1
  exact ⟨by omega, h1⟩
theorem ca_pb {p : Nat} (hR : ca_Rs n t nx tg L S a1 a5) (hp : p ≤ 1) (ht : 0 < t) (H : ∀ f6, post (nI (ca_pos L p)) (f1, nI t, f3, f4, f5, f6, a1, a2, a3, a4, a5, a6, a7, a8, a9, a10)) :
    wpX_pieceBegin post (f1, nI t, f3, f4, f5, f6, a1, a2, a3, a4, a5, a6, a7, a8, a9, a10) (nI p) := by
  have ht2 := hR.2.2.1
  by_cases e : p = 0
  · subst e
    exact ⟨1, pk_le 0 0 (fun _ => H _) (fun z => absurd z (by omega))⟩
  · have e1 : p = 1 := by omega
    subst e1
    have hL0 := ca_LFle hR ht
    refine ⟨2, pk_le 1 0 (fun z => absurd z (by omega)) (fun _ => pk_le t 0 (fun z => absurd z (by omega)) (fun _ => ca_lf hR ht ?_))⟩
    refine pk_eq (L 0) 0 (fun z => nm_e (nm_e (pk_le 1 1 (fun _ => ?_) (fun z => absurd z (by omega))))) (fun z => nm_e (nm_e (pk_le 1 1 (fun _ => ?_) (fun z => absurd z (by omega)))))
    · have h := H (nI (S 0))
      rw [show ca_pos L 1 = 1 by show 0 + ca_st (L 0) = 1; rw [z]; rfl] at h
      exact h
    · have h := H (nI (S 0))
      rw [show ca_pos L 1 = 0 + L 0 by show 0 + ca_st (L 0) = 0 + L 0; unfold ca_st; rw [if_neg z], ← nI_add] at h
      exact h
theorem ca_pl {p : Nat} (hR : ca_Rs n t nx tg L S a1 a5) (hp : p ≤ 1) (ht : ca_pos L p < t) (H : ∀ f6, post (nI (ca_st (L (ca_pos L p)))) (f1, nI t, f3, f4, f5, f6, a1, a2, a3, a4, a5, a6, a7, a8, a9, a10)) :
    wpX_pieceLength post (f1, nI t, f3, f4, f5, f6, a1, a2, a3, a4, a5, a6, a7, a8, a9, a10) (nI p) := by
  have ht2 := hR.2.2.1
  have hLb := ca_LFle hR ht
  refine br_t (nI_pos' (by omega)) (ca_pb hR hp (by omega) (fun f6 => pk_lt (ca_pos L p) t (fun _ => ca_lf hR ht ?_) (fun z => absurd z (by omega))))
  refine pk_eq (L (ca_pos L p)) 0 (fun z => ?_) (fun z => ?_)
  · have h := H (nI (S (ca_pos L p)))
    unfold ca_st at h
    rw [if_pos z] at h
    exact h
  · have h := H (nI (S (ca_pos L p)))
    unfold ca_st at h
    rw [if_neg z] at h
    exact h
theorem ca_pf {p : Nat} (hR : ca_Rs n t nx tg L S a1 a5) (hp : p ≤ 1) (ht : ca_pos L p < t)
    (H0 : L (ca_pos L p) = 0 → ∀ f6, post (-4) (f1, nI t, f3, f4, f5, f6, a1, a2, a3, a4, a5, a6, a7, a8, a9, a10))
    (H1 : L (ca_pos L p) ≠ 0 → ∀ f6, post (a4 (S (ca_pos L p)) - nI (L (ca_pos L p)) + 1) (f1, nI t, f3, f4, f5, f6, a1, a2, a3, a4, a5, a6, a7, a8, a9, a10)) :
    wpX_pieceFrom post (f1, nI t, f3, f4, f5, f6, a1, a2, a3, a4, a5, a6, a7, a8, a9, a10) (nI p) := by
  have ht2 := hR.2.2.1
  have hn2 := hR.2.1
  have hLb := ca_LFle hR ht
  have hSn := ca_run_n hR.1 hR.2.2.2.2.2.1 (hR.2.2.2.2.2.2 _ ht).2.1
  refine br_t (nI_pos' (by omega)) (ca_pb hR hp (by omega) (fun f6 => pk_lt (ca_pos L p) t (fun _ => ca_lf hR ht ?_) (fun z => absurd z (by omega))))
  refine pk_eq (L (ca_pos L p)) 0 (fun z => H0 z _) (fun z => ⟨pk_in (S (ca_pos L p)) 65 (by omega), ?_⟩)
  rw [nI_clamp (show S (ca_pos L p) < 2 ^ 31 by omega)]
  exact H1 z _
theorem ca_pcs {K : Nat} (hR : ca_Rs n t nx tg L S a1 a5) (hK : K < 24) (h1 : ∀ k, k < K → ca_pos L k < t) (h2 : t ≤ ca_pos L K) (h3 : ca_pos L K < 100) (H : ∀ f6, post (nI K) (f1, nI t, f3, f4, f5, f6, a1, a2, a3, a4, a5, a6, a7, a8, a9, a10)) :
    wpX_pieces post (f1, nI t, f3, f4, f5, f6, a1, a2, a3, a4, a5, a6, a7, a8, a9, a10) := by
  have ht2 := hR.2.2.1
  show ∃ k, wX_pieces_6 post k 0 0 0 f1 (nI t) f3 f4 f5 f6 a1 a2 a3 a4 a5 a6 a7 a8 a9 a10
  refine pk_loop (σ := Int32) (fun k j z => wX_pieces_6 post k (nI j) (nI (ca_pos L j)) (nI j) f1 (nI t) f3 f4 f5 z a1 a2 a3 a4 a5 a6 a7 a8 a9 a10)
    (fun _ _ => True) K 0 f6 (by omega) trivial ?_ ?_
  · intro k z _
    exact pk_le 24 K (fun z => absurd z (by omega)) (fun _ => pk_le t (ca_pos L K) (fun _ => H z) (fun z => absurd z (by omega)))
  · intro k j z hj _ hw
    have hp := h1 j hj
    have hLb := ca_LFle hR hp
    refine pk_le 24 j (fun z => absurd z (by omega)) (fun _ => pk_le t (ca_pos L j) (fun z => absurd z (by omega)) (fun _ => ca_lf hR hp ?_))
    have hw' := hw (nI (S (ca_pos L j))) trivial
    refine pk_eq (L (ca_pos L j)) 0 (fun z => ?_) (fun z => ?_)
    · refine nm_r (e' := nI (ca_pos L (j + 1))) ?_ (nm_r (nI_1 j) (nm_r (nI_1 j) hw'))
      rw [nI_1, show ca_pos L (j + 1) = ca_pos L j + 1 by show ca_pos L j + ca_st (L (ca_pos L j)) = _; rw [z]; rfl]
    · refine nm_r (e' := nI (ca_pos L (j + 1))) ?_ (nm_r (nI_1 j) (nm_r (nI_1 j) hw'))
      rw [nI_add, show ca_pos L (j + 1) = ca_pos L j + L (ca_pos L j) by show ca_pos L j + ca_st (L (ca_pos L j)) = _; unfold ca_st; rw [if_neg z]]
def ca_mxL (L : Nat → Nat) : Nat → Nat
  | 0 => 0
  | i + 1 => if L i ≤ ca_mxL L i then ca_mxL L i else L i
theorem ca_mxL_le (hR : ca_Rs n t nx tg L S a1 a5) : ∀ i, i ≤ t → ca_mxL L i ≤ 24 := by
  intro i
  induction i with
  | zero => exact fun _ => Nat.zero_le _
  | succ i ih =>
    intro hi
    have h1 := ih (by omega)
    have h2 := (ca_LFle hR (show i < t by omega)).1
    show (if L i ≤ ca_mxL L i then ca_mxL L i else L i) ≤ 24
    by_cases e : L i ≤ ca_mxL L i
    · rw [if_pos e]
      exact h1
    · rw [if_neg e]
      exact h2
theorem ca_lg (hR : ca_Rs n t nx tg L S a1 a5) (H : ∀ f6, post (nI (ca_mxL L t)) (f1, nI t, f3, f4, f5, f6, a1, a2, a3, a4, a5, a6, a7, a8, a9, a10)) :
    wpX_longest post (f1, nI t, f3, f4, f5, f6, a1, a2, a3, a4, a5, a6, a7, a8, a9, a10) := by
  have ht2 := hR.2.2.1
  show ∃ k, wX_longest_4 post k 0 0 f1 (nI t) f3 f4 f5 f6 a1 a2 a3 a4 a5 a6 a7 a8 a9 a10
  refine pk_loop (σ := Int32) (fun k j z => wX_longest_4 post k (nI (ca_mxL L j)) (nI j) f1 (nI t) f3 f4 f5 z a1 a2 a3 a4 a5 a6 a7 a8 a9 a10)
    (fun _ _ => True) t 0 f6 (by omega) trivial ?_ ?_
  · intro k z _
    exact pk_le t t (fun _ => H z) (fun z => absurd z (by omega))
  · intro k j z hj _ hw
    have hLb := ca_LFle hR hj
    have hmb := ca_mxL_le hR j (by omega)
    refine pk_le t j (fun z => absurd z (by omega)) (fun _ => ca_lf hR hj ?_)
    have hw' := hw (nI (S j)) trivial
    refine pk_le (L j) (ca_mxL L j) (fun z => nm_r (nI_1 j) ?_) (fun z => nm_r (nI_1 j) ?_)
    · rw [show ca_mxL L (j + 1) = ca_mxL L j from if_pos z] at hw'
      exact hw'
    · rw [show ca_mxL L (j + 1) = L j from if_neg (by omega)] at hw'
      exact hw'
theorem ca_la (hR : ca_Rs n t nx tg L S a1 a5) (ht : 0 < t) (h0 : L 0 = ca_mxL L t) (H : ∀ f6, post 0 (f1, nI t, f3, f4, f5, f6, a1, a2, a3, a4, a5, a6, a7, a8, a9, a10)) :
    wpX_longestAt post (f1, nI t, f3, f4, f5, f6, a1, a2, a3, a4, a5, a6, a7, a8, a9, a10) := by
  have ht2 := hR.2.2.1
  refine ca_lg hR (fun f6 => ⟨1, pk_le t 0 (fun z => absurd z (by omega)) (fun _ => ca_lf hR ht (br_t (by rw [h0]) (H _)))⟩)
end
end
section
/-! cheapest, count, occurrences -/
def ca_bst (cs : Nat → Nat) (i cp b0 : Nat) : Nat → Nat
  | 0 => b0
  | k + 1 => if ca_bst cs i cp b0 k ≤ cs (i + (k + 1)) + cp then ca_bst cs i cp b0 k else cs (i + (k + 1)) + cp
def ca_cst (t : Nat) (L : Nat → Nat) (cp ad : Nat) : Nat → Nat → Nat
  | 0 => fun _ => 0
  | j + 1 => ca_u (ca_cst t L cp ad j) (t - (j + 1)) (ca_bst (ca_cst t L cp ad j) (t - (j + 1)) cp (ca_cst t L cp ad j (t - (j + 1) + 1) + ad) (L (t - (j + 1))))
theorem ca_bst_le (cs : Nat → Nat) (i cp b0 : Nat) : ∀ k, ca_bst cs i cp b0 k ≤ b0 := by
  intro k
  induction k with
  | zero => exact Nat.le_refl _
  | succ k ih =>
    show (if ca_bst cs i cp b0 k ≤ cs (i + (k + 1)) + cp then ca_bst cs i cp b0 k else cs (i + (k + 1)) + cp) ≤ b0
    by_cases e : ca_bst cs i cp b0 k ≤ cs (i + (k + 1)) + cp
    · rw [if_pos e]
      exact ih
    · rw [if_neg e]
      omega
theorem ca_cst_le {t : Nat} {L : Nat → Nat} {cp ad : Nat} (had : ad ≤ 100) : ∀ j x, ca_cst t L cp ad j x ≤ 100 * j := by
  intro j
  induction j with
  | zero => exact fun _ => Nat.zero_le _
  | succ j ih =>
    intro x
    show ca_u (ca_cst t L cp ad j) (t - (j + 1)) (ca_bst (ca_cst t L cp ad j) (t - (j + 1)) cp (ca_cst t L cp ad j (t - (j + 1) + 1) + ad) (L (t - (j + 1)))) x ≤ _
    by_cases e : x = t - (j + 1)
    · rw [e, ca_us]
      have h1 := ca_bst_le (ca_cst t L cp ad j) (t - (j + 1)) cp (ca_cst t L cp ad j (t - (j + 1) + 1) + ad) (L (t - (j + 1)))
      have h2 := ih (t - (j + 1) + 1)
      omega
    · rw [ca_un e]
      have := ih x
      omega
theorem ca_m1 (x : Int32) : x + (-1) = x - 1 := by
  rw [Int32.sub_eq_add_neg]
section
variable {post : Int32 → St2 → Prop} {n t : Nat} {f1 f3 f4 f5 f6 : Int32} {a1 a2 a3 a4 a5 a6 a7 a8 a9 a10 : Nat → Int32} {nx : Nat → Nat → Option Nat} {tg L S : Nat → Nat}
theorem ca_c65 {J : Int32 → Int32 → Int32 → Int32 → Int32 → Int32 → Int32 → (Nat → Int32) → (Nat → Int32) → (Nat → Int32) → (Nat → Int32) → (Nat → Int32) → (Nat → Int32) → (Nat → Int32) → (Nat → Int32) → (Nat → Int32) → (Nat → Int32) → Prop}
    {f2 x2 : Int32} {cs : Nat → Nat} {i cp b0 l : Nat} (hl : i + l ≤ 24) (h9 : ∀ x, i < x → x ≤ i + l → a9 x = nI (cs x)) (hb : ∀ x, cs x ≤ 2400) (hcp : cp ≤ 100) (hb0 : b0 ≤ 2500)
    (H : J (nI i + (-1)) f1 f2 f3 f4 f5 f6 a1 a2 a3 a4 a5 a6 a7 a8 (upd a9 i (nI (ca_bst cs i cp b0 l))) a10) :
    ∃ k, wX_cheapest_65 post J (nI cp) x2 (nI i) (nI l) f1 f2 f3 f4 f5 f6 a1 a2 a3 a4 a5 a6 a7 a8 a9 a10 k (nI b0) 1 := by
  refine pk_loop (σ := Unit) (fun k j _ => wX_cheapest_65 post J (nI cp) x2 (nI i) (nI l) f1 f2 f3 f4 f5 f6 a1 a2 a3 a4 a5 a6 a7 a8 a9 a10 k (nI (ca_bst cs i cp b0 j)) (nI (j + 1)))
    (fun _ _ => True) l 0 () (by omega) trivial ?_ ?_
  · intro k _ _
    refine pk_lt l (l + 1) (fun _ => ⟨pk_in i 25 (by omega), ?_⟩) (fun z => absurd z (by omega))
    rw [nI_clamp (show i < 2 ^ 31 by omega)]
    exact nm_e (nm_e H)
  · intro k j _ hj _ hw
    have h1 := ca_bst_le cs i cp b0 j
    have h2 := hb (i + (j + 1))
    refine pk_lt l (j + 1) (fun z => absurd z (by omega)) (fun _ => ⟨pk_in (i + (j + 1)) 25 (by omega) (nI_add i (j + 1)), ?_⟩)
    rw [nI_add, nI_clamp (show i + (j + 1) < 2 ^ 31 by omega), h9 _ (by omega) (by omega), nI_add]
    have hw' := hw () trivial
    refine nm_e (pk_le (ca_bst cs i cp b0 j) (cs (i + (j + 1)) + cp) (fun z => nm_r (nI_1 (j + 1)) ?_) (fun z => nm_r (nI_1 (j + 1)) ?_))
    · rw [show ca_bst cs i cp b0 (j + 1) = ca_bst cs i cp b0 j from if_pos z] at hw'
      exact hw'
    · rw [show ca_bst cs i cp b0 (j + 1) = cs (i + (j + 1)) + cp from if_neg (by omega)] at hw'
      exact hw'
theorem ca_ch {cp ad : Nat} (hR : ca_Rs n t nx tg L S a1 a5) (ht : 0 < t) (hcp : cp ≤ 100) (had : ad ≤ 100)
    (H : ∀ f6 b9, post (nI (ca_cst t L cp ad t 0)) (f1, nI t, f3, f4, f5, f6, a1, a2, a3, a4, a5, a6, a7, a8, b9, a10)) :
    wpX_cheapest post (f1, nI t, f3, f4, f5, f6, a1, a2, a3, a4, a5, a6, a7, a8, a9, a10) (nI cp) (nI ad) := by
  have ht2 := hR.2.2.1
  refine br_f (nI_pos (by omega)) (pk_lt 100 cp (fun z => absurd z (by omega)) (fun _ => br_f (nI_pos (by omega)) (pk_le ad 100 (fun _ => ⟨pk_in t 25 (by omega), ?_⟩) (fun z => absurd z (by omega)))))
  rw [nI_clamp (show t < 2 ^ 31 by omega)]
  refine nm_e (nm_e ?_)
  refine pk_loop (σ := Int32 × (Nat → Int32)) (fun k j z => wX_cheapest_39 post (nI cp) (nI ad) k (nI (t - j) - 1) f1 (nI t) f3 f4 f5 z.1 a1 a2 a3 a4 a5 a6 a7 a8 z.2 a10)
    (fun j z => ∀ x, t - j ≤ x → x ≤ t → z.2 x = nI (ca_cst t L cp ad j x)) t 0 (f6, upd a9 t 0) (by omega) ?_ ?_ ?_
  · intro x h1 h2
    have e : x = t := by omega
    show upd a9 t 0 x = nI 0
    rw [e, pk_us]
    rfl
  · rintro k ⟨g6, b⟩ hI
    have hI' : b 0 = nI (ca_cst t L cp ad t 0) := hI 0 (by omega) (by omega)
    refine br_t (by rw [Nat.sub_self]; decide) ?_
    show post (b 0) _
    rw [hI']
    exact H g6 b
  · rintro k j ⟨g6, b⟩ hj hI hw
    have hI' : ∀ x, t - j ≤ x → x ≤ t → b x = nI (ca_cst t L cp ad j x) := hI
    have ei : t - j = t - (j + 1) + 1 := by omega
    have hi : t - (j + 1) < t := by omega
    have hLb := ca_LFle hR hi
    have hcb := ca_cst_le (t := t) (L := L) (cp := cp) had j
    have hw' : ∀ g, wX_cheapest_39 post (nI cp) (nI ad) k (nI (t - (j + 1)) - 1) f1 (nI t) f3 f4 f5 g a1 a2 a3 a4 a5 a6 a7 a8 (upd b (t - (j + 1)) (nI (ca_bst (ca_cst t L cp ad j) (t - (j + 1)) cp (ca_cst t L cp ad j (t - (j + 1) + 1) + ad) (L (t - (j + 1)))))) a10 := by
      intro g
      refine hw (g, _) (fun x h1 h2 => ?_)
      show upd b _ _ x = nI (ca_u (ca_cst t L cp ad j) _ _ x)
      by_cases e : x = t - (j + 1)
      · rw [e, pk_us, ca_us]
      · rw [pk_un e, ca_un e]
        exact hI' x (by omega) h2
    show wX_cheapest_39 post (nI cp) (nI ad) (k + 1) (nI (t - j) - 1) f1 (nI t) f3 f4 f5 g6 a1 a2 a3 a4 a5 a6 a7 a8 b a10
    rw [ei, nI_pred]
    refine br_f (nI_pos (by omega)) ⟨pk_in (t - (j + 1) + 1) 25 (by omega) (nI_1 _), ?_⟩
    rw [nI_1, nI_clamp (show t - (j + 1) + 1 < 2 ^ 31 by omega), hI' _ (by omega) (by omega), nI_add]
    refine nm_e (ca_lf hR hi ?_)
    refine ca_c65 (cs := ca_cst t L cp ad j) (by omega) (fun x h1 h2 => hI' x (by omega) (by omega)) (fun x => ?_) hcp ?_ ?_
    · have := hcb x
      omega
    · have := hcb (t - (j + 1) + 1)
      omega
    · rw [ca_m1]
      exact hw' _
end
/-! count -/
section
variable {n W s : Nat} {ln sh : Nat → Nat} {nx : Nat → Nat → Option Nat} {fe : Nat → Nat} {cp : Nat → Bool}
/-- the states that are known to have a place -/
def ca_K (n : Nat) (ln sh : Nat → Nat) (cp : Nat → Bool) (σ k : Nat) (g : Nat → Nat) : Prop :=
  ∀ v, v < n → v ≠ 0 → (cp v = false ∨ ∃ u, u < n ∧ u ≠ 0 ∧ sh u = v ∧ (σ < ln u ∨ (ln u = σ ∧ u < k))) → 1 ≤ g v
theorem ca_c59 {post : St2 → Prop} {J : Int32 → (Nat → Int32) → (Nat → Int32) → (Nat → Int32) → (Nat → Int32) → (Nat → Int32) → (Nat → Int32) → (Nat → Int32) → (Nat → Int32) → (Nat → Int32) → (Nat → Int32) → Prop}
    {σ M : Nat} {f1 f2 f4 f5 f6 : Int32} {a1 a2 a3 a4 a5 a6 a7 a8 a9 a10 : Nat → Int32} {g0 : Nat → Nat}
    (hB : ca_B n W s ln sh nx) (hn : n ≤ 13) (hs : s ≤ 6) (hσ : 0 < σ) (hσ2 : σ ≤ 6) (m2 : ∀ v, v < n → a2 v = nI (ln v)) (m3 : ∀ v, v < n → v ≠ 0 → a3 v = nI (sh v)) (hC : ca_Cp n sh cp)
    (h7 : ∀ v, v < n → a7 v = nI (g0 v)) (hM : ∀ v, v < n → g0 v ≤ M) (hK : ca_K n ln sh cp σ 1 g0)
    (H : ∀ g b7, (∀ v, v < n → b7 v = nI (g v)) → (∀ v, v < n → g v ≤ M * 13) → ca_K n ln sh cp σ n g → J (nI σ + (-1)) a1 a2 a3 a4 a5 a6 b7 a8 a9 a10) :
    ∃ k, wX_count_59 post J (nI σ) f1 f2 (nI n) f4 f5 f6 k 1 a1 a2 a3 a4 a5 a6 a7 a8 a9 a10 := by
  have hW := hB.1
  refine pk_loop (σ := Nat → Int32) (fun k i z => wX_count_59 post J (nI σ) f1 f2 (nI n) f4 f5 f6 k (nI i) a1 a2 a3 a4 a5 a6 z a8 a9 a10)
    (fun i z => 1 ≤ i ∧ ∃ g, (∀ v, v < n → z v = nI (g v)) ∧ (∀ v, v < n → g v ≤ M * i) ∧ (∀ v, v < n → ln v = σ → g v ≤ M) ∧ ca_K n ln sh cp σ i g) n 1 a7 (by omega) ?_ ?_ ?_
  · refine ⟨Nat.le_refl _, g0, h7, fun v hv => ?_, fun v hv _ => hM v hv, hK⟩
    rw [Nat.mul_one]
    exact hM v hv
  · rintro k z ⟨_, g, k1, k2, k3, k4⟩
    refine pk_le n n (fun _ => nm_e (H g z k1 (fun v hv => ?_) k4)) (fun z => absurd z (by omega))
    have := k2 v hv
    have h2 := Nat.mul_le_mul_left M hn
    omega
  · rintro k i z hi ⟨i1, g, k1, k2, k3, k4⟩ hw
    have hi0 : i ≠ 0 := by omega
    have hsi := hB.2.2.2.2.2.2.1 i hi hi0
    have hln := ca_lnW hB hi
    refine pk_le n i (fun z => absurd z (by omega)) (fun _ => ⟨pk_in i 65 (by omega), ?_⟩)
    rw [nI_clamp (show i < 2 ^ 31 by omega), m2 i hi, m3 i hi hi0, nI_clamp (show sh i < 2 ^ 31 by omega), k1 i hi, k1 _ hsi.1, nI_add]
    refine pk_eq (ln i) σ (fun e => ?_) (fun e => ?_)
    · refine ⟨pk_in i 65 (by omega), pk_in i 65 (by omega), pk_in (sh i) 65 (by omega), pk_in i 65 (by omega), pk_in (sh i) 65 (by omega), nm_e (nm_r (nI_1 i) (hw _ ⟨by omega, ca_u g (sh i) (g (sh i) + g i), ?_, ?_, ?_, ?_⟩))⟩
      · intro v hv
        by_cases ev : v = sh i
        · rw [ev, pk_us, ca_us]
        · rw [pk_un ev, ca_un ev]
          exact k1 v hv
      · intro v hv
        rw [Nat.mul_succ]
        by_cases ev : v = sh i
        · rw [ev, ca_us]
          have h1 := k2 _ hsi.1
          have h2 := k3 i hi e
          omega
        · rw [ca_un ev]
          have h1 := k2 v hv
          omega
      · intro v hv hl
        have ev : v ≠ sh i := fun z => by
          rw [z] at hl
          omega
        rw [ca_un ev]
        exact k3 v hv hl
      · intro v hv hv0 hc
        have hgi : 1 ≤ g i := by
          refine k4 i hi hi0 ?_
          cases hcp : cp i with
          | false => exact Or.inl rfl
          | true =>
            obtain ⟨u, u1, u2, u3⟩ := hC i hi hcp
            have := (hB.2.2.2.2.2.2.1 u u1 u2).2
            rw [u3] at this
            exact Or.inr ⟨u, u1, u2, u3, Or.inl (by omega)⟩
        by_cases ev : v = sh i
        · rw [ev, ca_us]
          omega
        · rw [ca_un ev]
          refine k4 v hv hv0 (hc.imp id ?_)
          rintro ⟨u, u1, u2, u3, u4⟩
          refine ⟨u, u1, u2, u3, u4.imp id (fun z => ⟨z.1, ?_⟩)⟩
          have : u ≠ i := fun q => ev (by rw [← u3, q])
          omega
    · refine nm_r (nI_1 i) (hw _ ⟨by omega, g, k1, ?_, k3, ?_⟩)
      · intro v hv
        rw [Nat.mul_succ]
        have := k2 v hv
        omega
      · intro v hv hv0 hc
        refine k4 v hv hv0 (hc.imp id ?_)
        rintro ⟨u, u1, u2, u3, u4⟩
        refine ⟨u, u1, u2, u3, u4.imp id (fun z => ⟨z.1, ?_⟩)⟩
        have : u ≠ i := fun q => e (by rw [← q, z.1])
        omega
theorem ca_cnt {post : St2 → Prop} {f2 f4 f6 : Int32} {a1 a2 a3 a4 a5 a6 a7 a8 a9 a10 : Nat → Int32}
    (hB : ca_B n W s ln sh nx) (hM : ca_M n ln sh nx fe cp a2 a3 a4 a5 a6) (hn : n ≤ 13) (hs : s ≤ 6) (hC : ca_Cp n sh cp)
    (H : ∀ (g : Nat → Nat) b7, (∀ v, v < n → v ≠ 0 → b7 v = nI (g v) ∧ 1 ≤ g v ∧ g v < 2 ^ 31) → post (nI s, f2, nI n, f4, 1, f6, a1, a2, a3, a4, a5, a6, b7, a8, a9, a10)) :
    wpX_count post (nI s, f2, nI n, f4, 0, f6, a1, a2, a3, a4, a5, a6, a7, a8, a9, a10) := by
  obtain ⟨m2, m30, m3, m4, m5, m6⟩ := hM
  refine br_t rfl ?_
  refine pk_loop (σ := Nat → Int32) (fun k i z => wX_count_10 post (nI s) f2 (nI n) f4 0 f6 k (nI i) a1 a2 a3 a4 a5 a6 z a8 a9 a10)
    (fun i z => ∀ v, v < i → z v = nI (if cp v = true ∨ v = 0 then 0 else 1)) n 0 a7 (by omega) (fun v hv => absurd hv (by omega)) ?_ ?_
  · intro k z hz
    refine pk_le n n (fun _ => ?_) (fun z => absurd z (by omega))
    refine ⟨s + 1, pk_loopD (σ := Nat → Int32) (fun k i z => wX_count_53 post (nI s) f2 (nI n) f4 0 f6 k (nI i) a1 a2 a3 a4 a5 a6 z a8 a9 a10)
      (fun i z => i ≤ 6 ∧ ∃ (g : Nat → Nat) (M : Nat), (∀ v, v < n → z v = nI (g v)) ∧ (∀ v, v < n → g v ≤ M) ∧ M * 13 ^ i ≤ 13 ^ 6 ∧ ca_K n ln sh cp i 1 g) ?_ ?_ s z ?_⟩
    · rintro k z ⟨_, g, M, k1, k2, k3, k4⟩
      refine br_t (by decide) (H g z (fun v hv hv0 => ⟨k1 v hv, k4 v hv hv0 ?_, ?_⟩))
      · cases hcp : cp v with
        | false => exact Or.inl rfl
        | true =>
          obtain ⟨u, u1, u2, u3⟩ := hC v hv hcp
          have := (hB.2.2.2.2.2.2.1 u u1 u2).2
          exact Or.inr ⟨u, u1, u2, u3, Or.inl (by omega)⟩
      · have h1 := k2 v hv
        have h2 : M * 1 ≤ 4826809 := k3
        omega
    · rintro k i z ⟨hi, g, M, k1, k2, k3, k4⟩ hw
      refine pk_le (i + 1) 0 (fun z => absurd z (by omega)) (fun _ => ?_)
      refine ca_c59 (cp := cp) (g0 := g) (M := M) hB hn hs (by omega) hi m2 m3 hC k1 k2 k4 ?_
      intro g' b7 q1 q2 q3
      rw [pk_m1]
      refine hw b7 ⟨by omega, g', M * 13, q1, q2, ?_, ?_⟩
      · rw [Nat.mul_assoc, Nat.mul_comm 13, ← Nat.pow_succ]
        exact k3
      · intro v hv hv0 hc
        refine q3 v hv hv0 (hc.imp id ?_)
        rintro ⟨u, u1, u2, u3, u4⟩
        exact ⟨u, u1, u2, u3, by omega⟩
    · refine ⟨hs, fun v => if cp v = true ∨ v = 0 then 0 else 1, 1, hz, fun v hv => ?_, ?_, ?_⟩
      · dsimp only
        by_cases e : cp v = true ∨ v = 0
        · rw [if_pos e]
          omega
        · rw [if_neg e]
          exact Nat.le_refl _
      · rw [Nat.one_mul]
        exact Nat.pow_le_pow_right (by omega) hs
      · intro v hv hv0 hc
        dsimp only
        rcases hc with hc | ⟨u, u1, u2, u3, u4⟩
        · rw [if_neg (fun z => z.elim (fun q => by rw [hc] at q; exact absurd q (by decide)) hv0)]
          exact Nat.le_refl _
        · have := ca_lnW hB u1
          omega
  · intro k i z hi hz hw
    refine pk_le n i (fun z => absurd z (by omega)) (fun _ => ⟨pk_in i 65 (by omega), ?_⟩)
    rw [nI_clamp (show i < 2 ^ 31 by omega), m6 i hi]
    have hst : ∀ y, y = nI (if cp i = true ∨ i = 0 then 0 else 1) → wX_count_10 post (nI s) f2 (nI n) f4 0 f6 k (nI (i + 1)) a1 a2 a3 a4 a5 a6 (upd z i y) a8 a9 a10 := by
      intro y hy
      refine hw _ (fun v hv => ?_)
      by_cases e : v = i
      · rw [e, pk_us, hy]
      · rw [pk_un e]
        exact hz v (by omega)
    cases hcp : cp i with
    | true =>
      rw [hcp] at hst
      exact br_f (by decide) ⟨pk_in i 65 (by omega), nm_e (nm_r (nI_1 i) (hst 0 (by rw [if_pos (Or.inl rfl)]; rfl)))⟩
    | false =>
      rw [hcp] at hst
      refine br_t rfl (pk_eq i 0 (fun e => ⟨pk_in i 65 (by omega), nm_e (nm_r (nI_1 i) (hst 0 (by rw [if_pos (Or.inr e)]; rfl)))⟩) (fun e => ⟨pk_in i 65 (by omega), nm_e (nm_r (nI_1 i) (hst 1 (by rw [if_neg (fun z => z.elim (fun q => absurd q (by decide)) e)]; rfl)))⟩))
end
section
variable {post : Int32 → St2 → Prop} {n t W s : Nat} {f1 f3 f4 f6 : Int32} {a1 a2 a3 a4 a5 a6 a7 a8 a9 a10 : Nat → Int32} {ln sh : Nat → Nat} {nx : Nat → Nat → Option Nat} {fe : Nat → Nat} {cp : Nat → Bool} {tg L S : Nat → Nat}
theorem ca_run_0 (hB : ca_B n W s ln sh nx) {i l st : Nat} (h : ca_run nx tg i (l + 1) = some st) : st ≠ 0 := by
  obtain ⟨y, hy⟩ := ca_run_le h (Nat.le_succ l)
  rw [ca_run_s hy] at h
  have := (hB.2.2.2.2.2.2.2 _ _ _ h).2.2
  intro e
  rw [e, hB.2.2.1] at this
  omega
/-- how often the whole target occurs: at least once -/
theorem ca_oc (hB : ca_B n W s ln sh nx) (hM : ca_M n ln sh nx fe cp a2 a3 a4 a5 a6) (hn : n ≤ 13) (hs : s ≤ 6) (hC : ca_Cp n sh cp) (hR : ca_Rs n t nx tg L S a1 a5) (ht : 0 < t) (hL : L 0 = t)
    (H : ∀ g b7, 1 ≤ g → g < 2 ^ 31 → post (nI g) (nI s, nI t, nI n, f4, 1, f6, a1, a2, a3, a4, a5, a6, b7, a8, a9, a10)) :
    wpX_occurrences post (nI s, nI t, nI n, f4, 0, f6, a1, a2, a3, a4, a5, a6, a7, a8, a9, a10) 0 (nI t) := by
  obtain ⟨h0, hn2, ht2, h1, h5, hx, hLF⟩ := id hR
  have hLF0 := (hLF 0 ht).2.1
  rw [hL] at hLF0
  refine br_f (by decide) (pk_lt t 0 (fun z => absurd z (by omega)) (fun _ => pk_le t t (fun _ => pk_eq 0 t (fun z => absurd z (by omega)) (fun _ => ?_)) (fun z => absurd z (by omega))))
  refine pk_loop (σ := Int32) (fun k j z => wX_occurrences_36 post (nI t) (nI s) (nI t) (nI n) f4 0 f6 a1 a2 a3 a4 a5 a6 a7 a8 a9 a10 k z (nI j))
    (fun j z => ∃ st, ca_run nx tg 0 j = some st ∧ z = nI st) t 0 0 (by omega) ⟨0, rfl, rfl⟩ ?_ ?_
  · rintro k z ⟨st, hr, rfl⟩
    have hst := ca_run_n h0 hx hr
    have hst0 : st ≠ 0 := by
      obtain ⟨t', rfl⟩ : ∃ t', t = t' + 1 := ⟨t - 1, by omega⟩
      exact ca_run_0 hB hr
    refine pk_le t t (fun _ => ?_) (fun z => absurd z (by omega))
    refine ca_cnt hB hM hn hs hC (fun g b7 hg => br_t (nI_pos' (by omega)) ⟨pk_in st 65 (by omega), ?_⟩)
    rw [nI_clamp (show st < 2 ^ 31 by omega), (hg st hst hst0).1]
    exact H _ _ (hg st hst hst0).2.1 (hg st hst hst0).2.2
  · rintro k j z hj ⟨st, hr, rfl⟩ hw
    have hst := ca_run_n h0 hx hr
    obtain ⟨y, hy⟩ := ca_run_le hLF0 (show j + 1 ≤ t by omega)
    have hy' := hy
    rw [ca_run_s hr, Nat.zero_add] at hy'
    have k1 := h1 j hj
    refine pk_le t j (fun z => absurd z (by omega)) (fun _ => br_f (nI_pos (by omega)) ⟨pk_in j 24 (by omega), ?_⟩)
    rw [nI_clamp (show j < 2 ^ 31 by omega), k1.1, ca_ix, nI_clamp (show st * 4 + tg j < 2 ^ 31 by omega), h5 _ _ hst k1.2, hy']
    exact ⟨pk_in (st * 4 + tg j) 260 (by omega), nm_e (nm_r (nI_1 j) (hw _ ⟨y, hy, rfl⟩))⟩
theorem ca_oe {f5 : Int32} (ht : t ≤ 24) (H : post (f1 + 1) (f1, nI t, f3, f4, f5, f6, a1, a2, a3, a4, a5, a6, a7, a8, a9, a10)) :
    wpX_occurrences post (f1, nI t, f3, f4, f5, f6, a1, a2, a3, a4, a5, a6, a7, a8, a9, a10) (nI t) (nI t) :=
  br_f (nI_pos (by omega)) (pk_lt t t (fun z => absurd z (by omega)) (fun _ => pk_le t t (fun _ => br_t rfl H) (fun z => absurd z (by omega))))
/-- a letter that has no way from the root -/
theorem ca_o1 {i : Nat} (hR : ca_Rs n t nx tg L S a1 a5) (hi : i < t) (h3 : nx 0 (tg i) = none) (H : post 0 (f1, nI t, f3, f4, 1, f6, a1, a2, a3, a4, a5, a6, a7, a8, a9, a10)) :
    wpX_occurrences post (f1, nI t, f3, f4, 1, f6, a1, a2, a3, a4, a5, a6, a7, a8, a9, a10) (nI i) (nI i + 1) := by
  obtain ⟨h0, hn2, ht2, h1, h5, hx, hLF⟩ := id hR
  have k1 := h1 i hi
  have k5 := h5 0 (tg i) h0 k1.2
  rw [h3, Nat.zero_mul, Nat.zero_add] at k5
  rw [nI_1]
  refine br_f (nI_pos (by omega)) (pk_lt (i + 1) i (fun z => absurd z (by omega)) (fun _ => pk_le (i + 1) t (fun _ => pk_eq i (i + 1) (fun z => absurd z (by omega)) (fun _ => ⟨2, ?_⟩)) (fun z => absurd z (by omega))))
  refine pk_le (i + 1) i (fun z => absurd z (by omega)) (fun _ => br_f (by decide) ⟨pk_in i 24 (by omega), ?_⟩)
  rw [nI_clamp (show i < 2 ^ 31 by omega), k1.1, show (0 : Int32) * 4 + nI (tg i) = nI (tg i) by rw [show (0 : Int32) = nI 0 from rfl, ca_ix, Nat.zero_mul, Nat.zero_add], nI_clamp (show tg i < 2 ^ 31 by omega), k5]
  refine ⟨pk_in (tg i) 260 (by omega), nm_e (nm_r (nI_1 i) (pk_le (i + 1) (i + 1) (fun _ => ?_) (fun z => absurd z (by omega))))⟩
  exact br_f (by decide) (br_f (by decide) H)
end
end
section
/-! wordsOf, shortestAbsent -/
def ca_wo (ln sh : Nat → Nat) (k : Nat) : Nat → Nat
  | 0 => 0
  | v + 1 => ca_wo ln sh k v + (if v ≠ 0 ∧ ln (sh v) < k ∧ k ≤ ln v then 1 else 0)
theorem ca_wo_le (ln sh : Nat → Nat) (k : Nat) : ∀ v, ca_wo ln sh k v ≤ v := by
  intro v
  induction v with
  | zero => exact Nat.le_refl _
  | succ v ih =>
    show ca_wo ln sh k v + (if v ≠ 0 ∧ ln (sh v) < k ∧ k ≤ ln v then 1 else 0) ≤ v + 1
    by_cases e : v ≠ 0 ∧ ln (sh v) < k ∧ k ≤ ln v
    · rw [if_pos e]
      omega
    · rw [if_neg e]
      omega
section
variable {n W s : Nat} {ln sh : Nat → Nat} {nx : Nat → Nat → Option Nat}
theorem ca_wo_1 (hB : ca_B n W s ln sh nx) : ∀ v, v ≤ n → ca_wo ln sh 1 v = ca_rc sh v := by
  intro v
  induction v with
  | zero => exact fun _ => rfl
  | succ v ih =>
    intro hv
    show ca_wo ln sh 1 v + (if v ≠ 0 ∧ ln (sh v) < 1 ∧ 1 ≤ ln v then 1 else 0) = ca_rc sh v + (if v ≠ 0 ∧ sh v = 0 then 1 else 0)
    rw [ih (by omega)]
    by_cases e : v ≠ 0 ∧ sh v = 0
    · have h1 := hB.2.2.2.2.2.2.1 v (by omega) e.1
      have h2 : ln (sh v) = 0 := by rw [e.2, hB.2.2.1]
      rw [if_pos e, if_pos ⟨e.1, by omega, by omega⟩]
    · rw [if_neg e, if_neg (fun z => e ⟨z.1, (ca_ln0 hB (hB.2.2.2.2.2.2.1 v (by omega) z.1).1).mp (by omega)⟩)]
theorem ca_wo_s (hB : ca_B n W s ln sh nx) (hs : 0 < s) : ∀ v, v ≤ n → ca_wo ln sh s v = if W < v then 1 else 0 := by
  have hW0 : W ≠ 0 := fun e => by
    have := hB.2.2.2.2.1
    rw [e, hB.2.2.1] at this
    omega
  have hsW := hB.2.2.2.2.2.2.1 W hB.1 hW0
  have hlW := hB.2.2.2.2.1
  intro v
  induction v with
  | zero => exact fun _ => rfl
  | succ v ih =>
    intro hv
    show ca_wo ln sh s v + (if v ≠ 0 ∧ ln (sh v) < s ∧ s ≤ ln v then 1 else 0) = _
    rw [ih (by omega)]
    by_cases e : v = W
    · rw [e, if_neg (Nat.lt_irrefl W), if_pos ⟨hW0, by omega, by omega⟩, if_pos (by omega)]
    · have := hB.2.2.2.2.2.1 v (by omega) e
      rw [if_neg (c := v ≠ 0 ∧ ln (sh v) < s ∧ s ≤ ln v) (fun z => by omega)]
      by_cases g : W < v
      · rw [if_pos g, if_pos (by omega)]
      · rw [if_neg g, if_neg (by omega)]
theorem ca_wd {post : Int32 → Prop} {k : Nat} {f1 f2 f4 f5 f6 : Int32} {a1 a2 a3 a4 a5 a6 a7 a8 a9 a10 : Nat → Int32} (hB : ca_B n W s ln sh nx) (hs : s < 32) (hk : k < 100) (m2 : ∀ v, v < n → a2 v = nI (ln v)) (m3 : ∀ v, v < n → v ≠ 0 → a3 v = nI (sh v))
    (H : post (nI (ca_wo ln sh k n))) : wpX_wordsOf post (f1, f2, nI n, f4, f5, f6, a1, a2, a3, a4, a5, a6, a7, a8, a9, a10) (nI k) := by
  have hn : n ≤ 63 := by
    have := hB.2.1
    omega
  have hW := hB.1
  show ∃ fu, wX_wordsOf_4 post (nI k) f1 f2 (nI n) f4 f5 f6 a1 a2 a3 a4 a5 a6 a7 a8 a9 a10 fu 0 1
  refine pk_loop (σ := Unit) (fun fu i _ => wX_wordsOf_4 post (nI k) f1 f2 (nI n) f4 f5 f6 a1 a2 a3 a4 a5 a6 a7 a8 a9 a10 fu (nI (ca_wo ln sh k i)) (nI i))
    (fun i _ => 1 ≤ i) n 1 () (by omega) (Nat.le_refl _) ?_ ?_
  · intro fu _ _
    exact pk_le n n (fun _ => H) (fun z => absurd z (by omega))
  · intro fu i _ hi h1 hw
    have hi0 : i ≠ 0 := by omega
    have hsi := hB.2.2.2.2.2.2.1 i hi hi0
    have hl1 := ca_lnW hB hi
    have hl2 := ca_lnW hB hsi.1
    have hw' := hw () (by omega)
    refine pk_le n i (fun z => absurd z (by omega)) (fun _ => ⟨pk_in i 65 (by omega), ?_⟩)
    rw [nI_clamp (show i < 2 ^ 31 by omega), m3 i hi hi0, nI_clamp (show sh i < 2 ^ 31 by omega), m2 _ hsi.1, m2 i hi]
    refine ⟨pk_in (sh i) 65 (by omega), pk_le k (ln (sh i)) (fun z => nm_r (nI_1 i) ?_) (fun z => ⟨pk_in i 65 (by omega), pk_lt (ln i) k (fun z2 => nm_r (nI_1 i) ?_) (fun z2 => nm_r (nI_1 _) (nm_r (nI_1 i) ?_))⟩)⟩
    · rw [show ca_wo ln sh k (i + 1) = ca_wo ln sh k i + 0 by show _ + (if _ then _ else _) = _; rw [if_neg (fun q => by omega)]] at hw'
      exact hw'
    · rw [show ca_wo ln sh k (i + 1) = ca_wo ln sh k i + 0 by show _ + (if _ then _ else _) = _; rw [if_neg (fun q => by omega)]] at hw'
      exact hw'
    · rw [show ca_wo ln sh k (i + 1) = ca_wo ln sh k i + 1 by show _ + (if _ then _ else _) = _; rw [if_pos ⟨hi0, z, z2⟩]] at hw'
      exact hw'
/-! the gap -/
def ca_bh (nx : Nat → Nat → Option Nat) (g : Nat → Nat) (k c : Nat) : Nat := match nx k c with
  | none => 1
  | some u => g u + 1
def ca_gm (b : Nat → Nat) : Nat → Nat
  | 0 => 100
  | j + 1 => if ca_gm b j ≤ b j then ca_gm b j else b j
theorem ca_gm_le (b : Nat → Nat) : ∀ j, ca_gm b j ≤ 100 ∧ ∀ i, i < j → ca_gm b j ≤ b i := by
  intro j
  induction j with
  | zero => exact ⟨Nat.le_refl _, fun i hi => absurd hi (by omega)⟩
  | succ j ih =>
    show (if ca_gm b j ≤ b j then ca_gm b j else b j) ≤ 100 ∧ ∀ i, i < j + 1 → (if ca_gm b j ≤ b j then ca_gm b j else b j) ≤ b i
    by_cases e : ca_gm b j ≤ b j
    · rw [if_pos e]
      refine ⟨ih.1, fun i hi => ?_⟩
      by_cases ei : i = j
      · rw [ei]
        exact e
      · exact ih.2 i (by omega)
    · rw [if_neg e]
      refine ⟨by omega, fun i hi => ?_⟩
      by_cases ei : i = j
      · rw [ei]
        exact Nat.le_refl _
      · have := ih.2 i (by omega)
        omega
theorem ca_gm_ge (b : Nat → Nat) (x : Nat) (hx : x ≤ 100) : ∀ j, (∀ i, i < j → x ≤ b i) → x ≤ ca_gm b j := by
  intro j
  induction j with
  | zero => exact fun _ => hx
  | succ j ih =>
    intro h
    show x ≤ (if ca_gm b j ≤ b j then ca_gm b j else b j)
    by_cases e : ca_gm b j ≤ b j
    · rw [if_pos e]
      exact ih (fun i hi => h i (by omega))
    · rw [if_neg e]
      exact h j (by omega)
/-- what is known of a state's gap -/
def ca_Qg (nx : Nat → Nat → Option Nat) (v x : Nat) : Prop :=
  1 ≤ x ∧ x ≤ 100 ∧ ((∃ c, c < 4 ∧ nx v c = none) → x = 1) ∧ ((∀ c, c < 4 → nx v c ≠ none) → (∃ c u d, c < 4 ∧ d < 4 ∧ nx v c = some u ∧ nx u d = none) → x = 2)
theorem ca_gm_Q {g : Nat → Nat} {k : Nat} (hg : ∀ c u, c < 4 → nx k c = some u → ca_Qg nx u (g u)) : ca_Qg nx k (ca_gm (ca_bh nx g k) 4) := by
  have hle := ca_gm_le (ca_bh nx g k) 4
  have hb1 : ∀ i, i < 4 → 1 ≤ ca_bh nx g k i := by
    intro i hi
    unfold ca_bh
    cases h : nx k i with
    | none => exact Nat.le_refl _
    | some u => exact Nat.le_add_left 1 (g u)
  have h1 := ca_gm_ge (ca_bh nx g k) 1 (by omega) 4 hb1
  refine ⟨h1, hle.1, ?_, ?_⟩
  · rintro ⟨c, hc, hcn⟩
    have h2 := hle.2 c hc
    unfold ca_bh at h2
    rw [hcn] at h2
    exact Nat.le_antisymm h2 h1
  · rintro ha ⟨c, u, d, hc, hd, hu, hdn⟩
    have hb2 : ∀ i, i < 4 → 2 ≤ ca_bh nx g k i := by
      intro i hi
      unfold ca_bh
      cases h : nx k i with
      | none => exact absurd h (ha i hi)
      | some y =>
        have := (hg i y hi h).1
        show 2 ≤ g y + 1
        omega
    have h3 := ca_gm_ge (ca_bh nx g k) 2 (by omega) 4 hb2
    have h2 := hle.2 c hc
    have h4 := (hg c u hc hu).2.2.1 ⟨d, hd, hdn⟩
    have h5 : ca_bh nx g k c = g u + 1 := by
      unfold ca_bh
      rw [hu]
    omega
end
section
variable {n W s : Nat} {ln sh : Nat → Nat} {nx : Nat → Nat → Option Nat} {f1 f2 f3 f4 f5 f6 : Int32} {a1 a2 a3 a4 a5 a6 a7 a8 a9 a10 : Nat → Int32}
theorem ca_g5 {post : Int32 → Prop} {k j fu m : Nat} {g : Nat → Nat} (hB : ca_B n W s ln sh nx) (hn : n ≤ 65) (hk : k < n) (hj : j < 4) (m5 : ca_m5 n nx a5) (h8 : ∀ u, nx k j = some u → a8 u = nI (g u) ∧ g u ≤ 100) (hm : m ≤ 100)
    (H : wX_gapOf_5 post (nI k) f1 f2 f3 f4 f5 f6 a1 a2 a3 a4 a5 a6 a7 a8 a9 a10 fu (nI (if m ≤ ca_bh nx g k j then m else ca_bh nx g k j)) (nI (j + 1))) :
    wX_gapOf_5 post (nI k) f1 f2 f3 f4 f5 f6 a1 a2 a3 a4 a5 a6 a7 a8 a9 a10 (fu + 1) (nI m) (nI j) := by
  have hv := m5 k j hk hj
  have key : ∀ z0, z0 = nI (ca_bh nx g k j) → ca_bh nx g k j ≤ 101 → wX_gapOf_40 post (wX_gapOf_5 post (nI k) f1 f2 f3 f4 f5 f6 a1 a2 a3 a4 a5 a6 a7 a8 a9 a10 fu) (nI k) (nI m) (nI j) z0 f1 f2 f3 f4 f5 f6 a1 a2 a3 a4 a5 a6 a7 a8 a9 a10 := by
    intro z0 hz hb
    rw [hz]
    refine pk_le m (ca_bh nx g k j) (fun z => nm_r (nI_1 j) ?_) (fun z => nm_r (nI_1 j) ?_)
    · rw [if_pos z] at H
      exact H
    · rw [if_neg (by omega)] at H
      exact H
  refine pk_le 4 j (fun z => absurd z (by omega)) (fun _ => ⟨pk_in (k * 4 + j) 260 (by omega) (ca_ix _ _), ?_⟩)
  rw [ca_ix, nI_clamp (show k * 4 + j < 2 ^ 31 by omega), hv]
  cases hq : nx k j with
  | none =>
    refine nm_e (br_f (by decide) (key 1 ?_ ?_))
    · unfold ca_bh
      rw [hq]
      rfl
    · unfold ca_bh
      rw [hq]
      exact (by decide : 1 ≤ 101)
  | some u =>
    have hu := (hB.2.2.2.2.2.2.2 _ _ _ hq).2.1
    have h8u := h8 u hq
    have eb : ca_bh nx g k j = g u + 1 := by
      unfold ca_bh
      rw [hq]
    refine nm_r (e' := nI u) rfl (br_t (nI_pos' (by omega)) ⟨pk_in u 65 (by omega), ?_⟩)
    rw [nI_clamp (show u < 2 ^ 31 by omega), h8u.1, nI_1]
    exact key _ (by rw [eb]) (by omega)
theorem ca_go {post : Int32 → Prop} {k : Nat} {g : Nat → Nat} (hB : ca_B n W s ln sh nx) (hn : n ≤ 65) (hk : k < n) (m5 : ca_m5 n nx a5) (h8 : ∀ c u, c < 4 → nx k c = some u → a8 u = nI (g u) ∧ g u ≤ 100)
    (H : post (nI (ca_gm (ca_bh nx g k) 4))) : wpX_gapOf post (f1, f2, f3, f4, f5, f6, a1, a2, a3, a4, a5, a6, a7, a8, a9, a10) (nI k) :=
  ⟨5, ca_g5 (j := 0) (m := 100) (g := g) hB hn hk (by omega) m5 (fun u => h8 0 u (by omega)) (by omega)
    (ca_g5 (j := 1) (m := ca_gm (ca_bh nx g k) 1) (g := g) hB hn hk (by omega) m5 (fun u => h8 1 u (by omega)) (ca_gm_le _ 1).1
    (ca_g5 (j := 2) (m := ca_gm (ca_bh nx g k) 2) (g := g) hB hn hk (by omega) m5 (fun u => h8 2 u (by omega)) (ca_gm_le _ 2).1
    (ca_g5 (j := 3) (m := ca_gm (ca_bh nx g k) 3) (g := g) hB hn hk (by omega) m5 (fun u => h8 3 u (by omega)) (ca_gm_le _ 3).1
    (pk_le 4 4 (fun _ => H) (fun z => absurd z (by omega))))))⟩
theorem ca_a11 {post : Int32 → St2 → Prop} {J : Int32 → (Nat → Int32) → (Nat → Int32) → (Nat → Int32) → (Nat → Int32) → (Nat → Int32) → (Nat → Int32) → (Nat → Int32) → (Nat → Int32) → (Nat → Int32) → (Nat → Int32) → Prop} {σ : Nat} {g0 : Nat → Nat}
    (hB : ca_B n W s ln sh nx) (hn : n ≤ 63) (hs : s < 32) (hσ : σ < 100) (m2 : ∀ v, v < n → a2 v = nI (ln v)) (m5 : ca_m5 n nx a5) (h8 : ∀ v, v < n → σ < ln v → a8 v = nI (g0 v) ∧ ca_Qg nx v (g0 v))
    (H : ∀ (g : Nat → Nat) b8, (∀ v, v < n → σ ≤ ln v → b8 v = nI (g v) ∧ ca_Qg nx v (g v)) → J (nI σ + (-1)) a1 a2 a3 a4 a5 a6 a7 b8 a9 a10) :
    ∃ k, wX_shortestAbsent_11 post J (nI σ) f1 f2 (nI n) f4 f5 f6 k 0 a1 a2 a3 a4 a5 a6 a7 a8 a9 a10 := by
  refine pk_loop (σ := Nat → Int32) (fun k i z => wX_shortestAbsent_11 post J (nI σ) f1 f2 (nI n) f4 f5 f6 k (nI i) a1 a2 a3 a4 a5 a6 a7 z a9 a10)
    (fun i z => ∃ g : Nat → Nat, ∀ v, v < n → (σ < ln v ∨ (ln v = σ ∧ v < i)) → z v = nI (g v) ∧ ca_Qg nx v (g v)) n 0 a8 (by omega) ⟨g0, fun v hv h => h8 v hv (by omega)⟩ ?_ ?_
  · rintro k z ⟨g, hg⟩
    exact pk_le n n (fun _ => nm_e (H g z (fun v hv h => hg v hv (by omega)))) (fun z => absurd z (by omega))
  · rintro k i z hi ⟨g, hg⟩ hw
    have hln := ca_lnW hB hi
    refine pk_le n i (fun z => absurd z (by omega)) (fun _ => ⟨pk_in i 65 (by omega), ?_⟩)
    rw [nI_clamp (show i < 2 ^ 31 by omega), m2 i hi]
    refine pk_eq (ln i) σ (fun e => ?_) (fun e => ?_)
    · have hu : ∀ c u, c < 4 → nx i c = some u → z u = nI (g u) ∧ ca_Qg nx u (g u) := by
        intro c u hc h
        have := hB.2.2.2.2.2.2.2 _ _ _ h
        exact hg u this.2.1 (by omega)
      refine ca_go (g := g) hB (by omega) hi m5 (fun c u hc h => ⟨(hu c u hc h).1, (hu c u hc h).2.2.1⟩) ⟨pk_in i 65 (by omega), nm_e (nm_r (nI_1 i) (hw _ ⟨ca_u g i (ca_gm (ca_bh nx g i) 4), fun v hv h => ?_⟩))⟩
      by_cases ev : v = i
      · rw [ev, pk_us, ca_us]
        exact ⟨rfl, ca_gm_Q (fun c u hc h => (hu c u hc h).2)⟩
      · rw [pk_un ev, ca_un ev]
        exact hg v hv (by omega)
    · refine nm_r (nI_1 i) (hw _ ⟨g, fun v hv h => hg v hv ?_⟩)
      by_cases ev : v = i
      · rw [ev] at h ⊢
        omega
      · omega
theorem ca_sa {post : Int32 → St2 → Prop} (hB : ca_B n W s ln sh nx) (hs : s < 32) (m2 : ∀ v, v < n → a2 v = nI (ln v)) (m5 : ca_m5 n nx a5)
    (H : ∀ x b8, ca_Qg nx 0 x → post (nI x) (nI s, f2, nI n, f4, f5, f6, a1, a2, a3, a4, a5, a6, a7, b8, a9, a10)) :
    wpX_shortestAbsent post (nI s, f2, nI n, f4, f5, f6, a1, a2, a3, a4, a5, a6, a7, a8, a9, a10) := by
  have hn : n ≤ 63 := by
    have := hB.2.1
    omega
  have hW := hB.1
  show ∃ k, wX_shortestAbsent_5 post (nI s) f2 (nI n) f4 f5 f6 k (nI s) a1 a2 a3 a4 a5 a6 a7 a8 a9 a10
  have key : wX_shortestAbsent_5 post (nI s) f2 (nI n) f4 f5 f6 (s + 1 + 1) (nI (s + 1) - 1) a1 a2 a3 a4 a5 a6 a7 a8 a9 a10 := by
    refine pk_loopD (σ := Nat → Int32) (fun k i z => i ≤ s + 1 → wX_shortestAbsent_5 post (nI s) f2 (nI n) f4 f5 f6 k (nI i - 1) a1 a2 a3 a4 a5 a6 a7 z a9 a10)
      (fun i z => ∃ g : Nat → Nat, ∀ v, v < n → i ≤ ln v → z v = nI (g v) ∧ ca_Qg nx v (g v)) ?_ ?_ (s + 1) a8 ⟨fun _ => 0, fun v hv h => ?_⟩ (Nat.le_refl _)
    · rintro k z ⟨g, hg⟩ _
      have h0 := hg 0 (by omega) (Nat.zero_le _)
      refine br_t (by decide) ?_
      rw [h0.1]
      exact H _ _ h0.2
    · rintro k i z ⟨g, hg⟩ hw hi
      rw [nI_pred]
      refine br_f (nI_pos (by omega)) (ca_a11 (g0 := g) hB hn hs (by omega) m2 m5 (fun v hv h => hg v hv (by omega)) (fun g' b8 h' => ?_))
      rw [ca_m1]
      exact hw b8 ⟨g', h'⟩ (by omega)
    · have := ca_lnW hB hv
      omega
  rw [nI_pred] at key
  exact ⟨_, key⟩
end
end
section
/-! the texts: letter, quote, change, source, accept, the constructor -/
def ca_lt (text : Int32) (x : Nat) : Nat := if ((text >>> ((2 * nI x) &&& 31)) &&& 3).toNatClampNeg = 3 then 0 else ((text >>> ((2 * nI x) &&& 31)) &&& 3).toNatClampNeg
theorem ca_lt3 (text : Int32) (x : Nat) : ca_lt text x < 3 := by
  obtain ⟨j, hj, e⟩ := pk_andE (text >>> ((2 * nI x) &&& 31)) (m := 3) 2 (by decide)
  unfold ca_lt
  have hj' : j < 4 := hj
  rw [e, nI_clamp (show j < 2 ^ 31 by omega)]
  by_cases h : j = 3
  · rw [if_pos h]
    omega
  · rw [if_neg h]
    omega
theorem ca_let {post : Int32 → Prop} {text : Int32} {x : Nat} (H : post (nI (ca_lt text x))) : wpL_letter post () text (nI x) := by
  obtain ⟨j, hj, e⟩ := pk_andE (text >>> ((2 * nI x) &&& 31)) (m := 3) 2 (by decide)
  have hj' : j < 4 := hj
  unfold ca_lt at H
  rw [e, nI_clamp (show j < 2 ^ 31 by omega)] at H
  refine nm_r e (pk_eq j 3 (fun z => ?_) (fun z => ?_))
  · rw [if_pos z] at H
    exact H
  · rw [if_neg z] at H
    exact H
section
variable {f1 f2 f3 f4 f5 f6 : Int32} {a1 a2 a3 a4 a5 a6 a7 a8 a9 a10 : Nat → Int32}
theorem ca_qt {post : Int32 → St2 → Prop} {s k m : Nat} (hk : k + m ≤ s) (hs : s ≤ 32) (hm : m ≤ 24) (H : ∀ b1, (∀ j, j < m → b1 j = a10 (k + j)) → post (nI m) (nI s, nI m, f3, f4, f5, f6, b1, a2, a3, a4, a5, a6, a7, a8, a9, a10)) :
    wpX_quote post (nI s, nI 0, f3, f4, f5, f6, a1, a2, a3, a4, a5, a6, a7, a8, a9, a10) (nI k) (nI m) := by
  refine br_f (nI_pos (by omega)) (br_f (nI_pos (by omega)) (pk_lt s k (fun z => absurd z (by omega)) (fun _ => pk_le m (s - k) (fun _ => pk_le (0 + m) 24 (fun _ => ?_) (fun z => absurd z (by omega)) (hx := nI_add 0 m)) (fun z => absurd z (by omega)) (hy := pk_sub (by omega)))))
  refine pk_loop (σ := Nat → Int32) (fun fu i z => wX_quote_44 post (nI k) (nI m) (nI s) (nI 0) f3 f4 f5 f6 fu (nI i) z a2 a3 a4 a5 a6 a7 a8 a9 a10)
    (fun i z => ∀ j, j < i → z j = a10 (k + j)) m 0 a1 (by omega) (fun j hj => absurd hj (by omega)) ?_ ?_
  · intro fu z hz
    refine pk_le m m (fun _ => nm_r (e' := nI m) (by rw [nI_add, Nat.zero_add]) (H z hz)) (fun z => absurd z (by omega))
  · intro fu i z hi hz hw
    refine pk_le m i (fun z => absurd z (by omega)) (fun _ => ⟨pk_in (k + i) 32 (by omega) (nI_add k i), pk_in (0 + i) 24 (by omega) (nI_add 0 i), ?_⟩)
    rw [nI_add, nI_add, nI_clamp (show 0 + i < 2 ^ 31 by omega), nI_clamp (show k + i < 2 ^ 31 by omega), Nat.zero_add]
    refine nm_e (nm_r (nI_1 i) (hw _ (fun j hj => ?_)))
    by_cases e : j = i
    · rw [e, pk_us]
    · rw [pk_un e]
      exact hz j (by omega)
theorem ca_cg {post : Int32 → St2 → Prop} {t i : Nat} (hi : i < t) (ht : t ≤ 24) (H : post (a1 i) (f1, nI t, f3, f4, f5, f6, upd a1 i 3, a2, a3, a4, a5, a6, a7, a8, a9, a10)) :
    wpX_change post (f1, nI t, f3, f4, f5, f6, a1, a2, a3, a4, a5, a6, a7, a8, a9, a10) (nI i) 3 := by
  refine br_f (nI_pos (by omega)) (pk_le t i (fun z => absurd z (by omega)) (fun _ => ?_))
  refine br_f (by decide) (br_t (by decide) (br_t rfl ⟨pk_in i 24 (by omega), ?_⟩))
  rw [nI_clamp (show i < 2 ^ 31 by omega)]
  exact nm_e ⟨pk_in i 24 (by omega), nm_e H⟩
theorem ca_src {post : Int32 → St2 → Prop} {c n W s : Nat} {ln sh fe : Nat → Nat} {nx : Nat → Nat → Option Nat} {cp : Nat → Bool} (hB : ca_B n W s ln sh nx) (hM : ca_M n ln sh nx fe cp a2 a3 a4 a5 a6) (hs : s < 32) (hc : c < 4)
    (H : ∀ n' ln' sh' nx' fe' cp' b2 b3 b4 b5 b6, ca_out n W s c ln sh nx fe cp n' ln' sh' nx' fe' cp' → ca_M n' ln' sh' nx' fe' cp' b2 b3 b4 b5 b6 → post (nI (s + 1)) (nI (s + 1), f2, nI n', nI n, 0, f6, a1, b2, b3, b4, b5, b6, a7, a8, a9, upd a10 s (nI c))) :
    wpX_source post (nI s, f2, nI n, nI W, f5, f6, a1, a2, a3, a4, a5, a6, a7, a8, a9, a10) (nI c) := by
  refine br_f (nI_pos (by omega)) (pk_le c 3 (fun _ => br_t rfl (pk_eq s 32 (fun z => absurd z (by omega)) (fun _ => ?_))) (fun z => absurd z (by omega)))
  exact ca_grow hB hM hs hc H
theorem ca_ac {post : Int32 → St2 → Prop} {t s0 : Nat} {tg : Nat → Nat} (ht : s0 + t ≤ 32) (ht2 : t ≤ 24) (h1 : ∀ j, j < t → a1 j = nI (tg j) ∧ tg j < 4) (Iv : Nat → Nat → Nat → (Nat → Nat) → (Nat → Nat → Option Nat) → Prop)
    (hst : ∀ i n W ln sh nx fe cp n' ln' sh' nx' fe' cp', i < t → ca_A n W (s0 + i) ln sh nx → Iv i n W sh nx → ca_out n W (s0 + i) (tg i) ln sh nx fe cp n' ln' sh' nx' fe' cp' → Iv (i + 1) n' n sh' nx')
    (H : ∀ n W ln sh nx fe cp f5 b2 b3 b4 b5 b6 b10, ca_A n W (s0 + t) ln sh nx → Iv t n W sh nx → ca_M n ln sh nx fe cp b2 b3 b4 b5 b6 → post (nI (s0 + t)) (nI (s0 + t), nI 0, nI n, nI W, f5, f6, a1, b2, b3, b4, b5, b6, a7, a8, a9, b10)) :
    ∀ m i n W ln sh nx fe cp f5 b2 b3 b4 b5 b6 b10, i + m = t → ca_A n W (s0 + i) ln sh nx → Iv i n W sh nx → ca_M n ln sh nx fe cp b2 b3 b4 b5 b6 → wX_accept_19 post (m + 1) (nI i) (nI (s0 + i)) (nI t) (nI n) (nI W) f5 f6 a1 b2 b3 b4 b5 b6 a7 a8 a9 b10 := by
  intro m
  induction m with
  | zero =>
    intro i n W ln sh nx fe cp f5 b2 b3 b4 b5 b6 b10 hi hA hI hM
    have e : i = t := by omega
    subst e
    exact pk_le i i (fun _ => H n W ln sh nx fe cp f5 b2 b3 b4 b5 b6 b10 hA hI hM) (fun z => absurd z (by omega))
  | succ m ih =>
    intro i n W ln sh nx fe cp f5 b2 b3 b4 b5 b6 b10 hi hA hI hM
    have k1 := h1 i (by omega)
    refine pk_le t i (fun z => absurd z (by omega)) (fun _ => ⟨pk_in i 24 (by omega), ?_⟩)
    rw [nI_clamp (show i < 2 ^ 31 by omega), k1.1]
    refine ca_grow hA.1 hM (by omega) k1.2 (fun n' ln' sh' nx' fe' cp' c2 c3 c4 c5 c6 ho hM' => nm_r (nI_1 i) ?_)
    exact ih (i + 1) n' n ln' sh' nx' fe' cp' 0 c2 c3 c4 c5 c6 _ (by omega) (ca_A_out hA ho) (hst i _ _ _ _ _ _ _ _ _ _ _ _ _ (by omega) hA hI ho) hM'
theorem ca_acc {post : Int32 → St2 → Prop} {t s0 : Nat} {tg : Nat → Nat} {n W : Nat} {ln sh fe : Nat → Nat} {nx : Nat → Nat → Option Nat} {cp : Nat → Bool} (ht : s0 + t ≤ 32) (ht2 : t ≤ 24) (h1 : ∀ j, j < t → a1 j = nI (tg j) ∧ tg j < 4) (Iv : Nat → Nat → Nat → (Nat → Nat) → (Nat → Nat → Option Nat) → Prop)
    (hA : ca_A n W s0 ln sh nx) (hI : Iv 0 n W sh nx) (hM : ca_M n ln sh nx fe cp a2 a3 a4 a5 a6)
    (hst : ∀ i n W ln sh nx fe cp n' ln' sh' nx' fe' cp', i < t → ca_A n W (s0 + i) ln sh nx → Iv i n W sh nx → ca_out n W (s0 + i) (tg i) ln sh nx fe cp n' ln' sh' nx' fe' cp' → Iv (i + 1) n' n sh' nx')
    (H : ∀ n W ln sh nx fe cp f5 b2 b3 b4 b5 b6 b10, ca_A n W (s0 + t) ln sh nx → Iv t n W sh nx → ca_M n ln sh nx fe cp b2 b3 b4 b5 b6 → post (nI (s0 + t)) (nI (s0 + t), nI 0, nI n, nI W, f5, f6, a1, b2, b3, b4, b5, b6, a7, a8, a9, b10)) :
    wpX_accept post (nI s0, nI t, nI n, nI W, f5, f6, a1, a2, a3, a4, a5, a6, a7, a8, a9, a10) := by
  refine pk_le (s0 + t) 32 (fun _ => ⟨t + 1, ?_⟩) (fun z => absurd z (by omega)) (hx := nI_add s0 t)
  exact ca_ac ht ht2 h1 Iv hst H t 0 n W ln sh nx fe cp f5 a2 a3 a4 a5 a6 a10 (by omega) hA hI hM
end
theorem ca_A0 : ca_A 1 0 0 (fun _ => 0) (fun _ => 0) (fun _ _ => none) :=
  ⟨⟨by omega, by omega, rfl, rfl, rfl, fun v hv h => absurd (by omega) h, fun v hv h => absurd (by omega) h, fun _ _ q h => absurd h.symm (Option.some_ne_none q)⟩,
    ⟨fun _ _ q _ h => absurd h.symm (Option.some_ne_none q), fun _ q h => absurd h.symm (Option.some_ne_none q)⟩, fun _ _ _ _ y h => absurd h.symm (Option.some_ne_none y)⟩
theorem ca_init {post : St2 → Prop} (H : ∀ b1 b2 b3 b4 b5 b6 b7 b8 b9 b10, ca_M 1 (fun _ => 0) (fun _ => 0) (fun _ _ => none) (fun _ => 0) (fun _ => false) b2 b3 b4 b5 b6 → post (nI 0, nI 0, nI 1, nI 0, 0, 0, b1, b2, b3, b4, b5, b6, b7, b8, b9, b10)) :
    wpX_init post 10 731 (0, 0, 0, 0, 0, 0) := by
  refine ⟨by decide, by decide, by decide, by decide, by decide, by decide, by decide, by decide, by decide, by decide, by decide, by decide, by decide, by decide, by decide, by decide, by decide, by decide, by decide, by decide, ?_⟩
  refine ca_ns (n := 0) (by omega) (nm_e (H _ _ _ _ _ _ _ _ _ _ ⟨?_, ?_, ?_, ?_, ?_, ?_⟩))
  · intro v hv
    rw [show v = 0 by omega, pk_us]
    rfl
  · exact pk_us
  · intro v hv hv0
    omega
  · intro v hv
    rfl
  · intro v d hv hd
    rw [show v = 0 by omega, ca_r4s hd]
    rfl
  · intro v hv
    rw [show v = 0 by omega, pk_us]
    rfl
end
section
/-! every stretch of the source is read; the finite tables -/
section
variable {n W s : Nat} {ln sh : Nat → Nat} {nx : Nat → Nat → Option Nat} {fe w P tg : Nat → Nat}
theorem ca_cmp (hA : ca_A n W s ln sh nx) (hP : ca_P n W s ln nx fe w P) {k i : Nat} : ∀ l, k + i + l ≤ s → (∀ x, x < l → tg (i + x) = w (k + i + x)) → ∃ st, ca_run nx tg i l = some st ∧ ca_An sh st (P (k + i + l)) := by
  intro l
  induction l with
  | zero =>
    intro hl _
    have hv := (hP.2.2.1 (k + i + 0) hl).1
    exact ⟨0, rfl, ca_root hA.1 _ _ hv (Nat.le_refl _)⟩
  | succ l ih =>
    intro hl ht
    obtain ⟨st, h1, h2⟩ := ih (by omega) (fun x hx => ht x (by omega))
    obtain ⟨y, h3, h4⟩ := ca_M5a hA (hP.2.2.2 (k + i + l) (by omega)).1 h2
    refine ⟨y, ?_, h4⟩
    rw [ca_run_s h1, ht l (by omega)]
    exact h3
theorem ca_feA (hA : ca_A n W s ln sh nx) (hE : ca_E n s ln sh fe) {x v : Nat} (hv : v < n) (h : ca_An sh x v) : fe x ≤ fe v := by
  obtain ⟨k, rfl⟩ := h
  induction k with
  | zero => exact Nat.le_refl _
  | succ k ih =>
    rw [ca_it_s]
    by_cases e : ca_it sh k v = 0
    · rw [e] at ih
      rw [e, hA.1.2.2.2.1]
      exact ih
    · have := (hE.2.2 _ (ca_itB hA.1 hv k).1 e).2
      omega
theorem ca_run_l (hB : ca_B n W s ln sh nx) {i : Nat} : ∀ l st, ca_run nx tg i l = some st → l ≤ ln st := by
  intro l
  induction l with
  | zero => exact fun _ _ => Nat.zero_le _
  | succ l ih =>
    intro st h
    obtain ⟨y, hy⟩ := ca_run_le h (Nat.le_succ l)
    rw [ca_run_s hy] at h
    have h1 := ih y hy
    have h2 := (hB.2.2.2.2.2.2.2 _ _ _ h).2.2
    omega
/-- the place of the first piece: in the text, not behind k -/
theorem ca_from (hA : ca_A n W s ln sh nx) (hP : ca_P n W s ln nx fe w P) (hE : ca_E n s ln sh fe) {k m st : Nat} (hm : 0 < m) (hk : k + m ≤ s) (ht : ∀ x, x < m → tg x = w (k + x)) (hr : ca_run nx tg 0 m = some st) : m ≤ fe st + 1 ∧ fe st + 1 ≤ k + m := by
  obtain ⟨st', h1, h2⟩ := ca_cmp (tg := tg) (k := k) (i := 0) hA hP m (by omega) (fun x hx => by rw [Nat.zero_add, Nat.add_zero]; exact ht x hx)
  have e : st' = st := Option.some.inj (by rw [← h1, hr])
  rw [e] at h2
  rw [Nat.add_zero] at h2
  have hPn := (hP.2.2.1 (k + m) hk).1
  have h3 := ca_feA hA hE hPn h2
  have h4 := ca_run_l hA.1 m st hr
  have hst := ca_An_n hA.1 hPn h2
  have hst0 : st ≠ 0 := fun z => by
    rw [z, hA.1.2.2.1] at h4
    omega
  have h5 := (hE.2.2 st hst hst0).1
  obtain ⟨m', rfl⟩ : ∃ m', m = m' + 1 := ⟨m - 1, by omega⟩
  have h6 := (hP.2.2.2 (k + m') (by omega)).2
  have h7 : fe (P (k + (m' + 1))) = k + m' := h6
  omega
theorem ca_choose {t : Nat} {Q : Nat → Nat → Prop} (h : ∀ i, i < t → ∃ st, Q i st) : ∃ S : Nat → Nat, ∀ i, i < t → Q i (S i) :=
  ⟨fun i => if hi : i < t then Classical.choose (h i hi) else 0, fun i hi => by
    have := Classical.choose_spec (h i hi)
    show Q i (if hi : i < t then Classical.choose (h i hi) else 0)
    rw [dif_pos hi]
    exact this⟩
end
def ca_L1 (n i : Nat) : Nat := n - i
def ca_L2 (n i0 i : Nat) : Nat := if i ≤ i0 then i0 - i else n - i
theorem ca_dec1 : ∀ n, n < 7 → 0 < n → (∀ k, k < 1 → ca_pos (ca_L1 n) k < n) ∧ n ≤ ca_pos (ca_L1 n) 1 ∧ ca_pos (ca_L1 n) 1 < 100 ∧ ca_st (ca_L1 n (ca_pos (ca_L1 n) 0)) = n ∧ ca_mxL (ca_L1 n) n = n ∧ ca_cst n (ca_L1 n) 3 100 n 0 = 3 := by decide +kernel
def ca_due (n i : Nat) : Nat := 1 + (if i = 0 then 0 else 1) + (if n - 1 ≤ i then 0 else 1)
def ca_most (n i : Nat) : Nat := if i ≤ n - 1 - i then n - 1 - i else i
theorem ca_dec2 : ∀ n, n < 7 → ∀ i, i < n → (∀ k, k < ca_due n i → ca_pos (ca_L2 n i) k < n) ∧ n ≤ ca_pos (ca_L2 n i) (ca_due n i) ∧ ca_pos (ca_L2 n i) (ca_due n i) < 100 ∧ ca_due n i < 24 ∧ ca_st (ca_L2 n i (ca_pos (ca_L2 n i) 0)) = (if i = 0 then 1 else i) ∧ ca_mxL (ca_L2 n i) n = ca_most n i ∧ ca_cst n (ca_L2 n i) 0 5 n 0 = 5 ∧ ca_pos (ca_L2 n i) (if i = 0 then 0 else 1) = i ∧ ca_L2 n i i = 0 := by decide +kernel
section
variable {n W s : Nat} {ln sh : Nat → Nat} {nx : Nat → Nat → Option Nat} {fe w P tg : Nat → Nat} {a1 a5 : Nat → Int32}
theorem ca_Rs1 (hA : ca_A n W s ln sh nx) (hP : ca_P n W s ln nx fe w P) (hn : n ≤ 65) (hw : ∀ j, j < s → w j < 4) {k t : Nat} (hk : k + t ≤ s) (ht : t ≤ 24) (m5 : ca_m5 n nx a5) (h1 : ∀ j, j < t → a1 j = nI (w (k + j))) :
    ∃ S, ca_Rs n t nx (fun j => w (k + j)) (ca_L1 t) S a1 a5 := by
  have h : ∀ i, i < t → ∃ st, ca_LF nx (fun j => w (k + j)) t i (ca_L1 t i) st := by
    intro i hi
    obtain ⟨st, g1, g2⟩ := ca_cmp (tg := fun j => w (k + j)) (k := k) (i := i) hA hP (t - i) (by omega) (fun x hx => by rw [Nat.add_assoc])
    exact ⟨st, by unfold ca_L1; omega, g1, Or.inl (by unfold ca_L1; omega)⟩
  obtain ⟨S, hS⟩ := ca_choose h
  exact ⟨S, by have := hA.1.1; omega, hn, ht, fun j hj => ⟨h1 j hj, hw _ (by omega)⟩, m5, fun p c q hq => (hA.1.2.2.2.2.2.2.2 p c q hq).2.1, hS⟩
theorem ca_Rs2 (hA : ca_A n W s ln sh nx) (hP : ca_P n W s ln nx fe w P) (hN : ∀ x, nx x 3 = none) (hn : n ≤ 65) (hw : ∀ j, j < s → w j < 4) {k t i0 : Nat} (hk : k + t ≤ s) (ht : t ≤ 24) (hi0 : i0 < t) (m5 : ca_m5 n nx a5) (h1 : ∀ j, j < t → a1 j = nI (ca_u (fun j => w (k + j)) i0 3 j)) :
    ∃ S, ca_Rs n t nx (ca_u (fun j => w (k + j)) i0 3) (ca_L2 t i0) S a1 a5 := by
  have h : ∀ i, i < t → ∃ st, ca_LF nx (ca_u (fun j => w (k + j)) i0 3) t i (ca_L2 t i0 i) st := by
    intro i hi
    by_cases e : i ≤ i0
    · obtain ⟨st, g1, g2⟩ := ca_cmp (tg := ca_u (fun j => w (k + j)) i0 3) (k := k) (i := i) hA hP (i0 - i) (by omega) (fun x hx => by rw [ca_un (by omega), Nat.add_assoc])
      have eL : ca_L2 t i0 i = i0 - i := if_pos e
      rw [eL]
      refine ⟨st, by omega, g1, Or.inr ?_⟩
      rw [show i + (i0 - i) = i0 by omega, ca_us]
      exact hN st
    · obtain ⟨st, g1, g2⟩ := ca_cmp (tg := ca_u (fun j => w (k + j)) i0 3) (k := k) (i := i) hA hP (t - i) (by omega) (fun x hx => by rw [ca_un (by omega), Nat.add_assoc])
      have eL : ca_L2 t i0 i = t - i := if_neg e
      rw [eL]
      exact ⟨st, by omega, g1, Or.inl (by omega)⟩
  obtain ⟨S, hS⟩ := ca_choose h
  refine ⟨S, by have := hA.1.1; omega, hn, ht, fun j hj => ⟨h1 j hj, ?_⟩, m5, fun p c q hq => (hA.1.2.2.2.2.2.2.2 p c q hq).2.1, hS⟩
  by_cases e : j = i0
  · rw [e, ca_us]
    omega
  · rw [ca_un e]
    exact hw _ (by omega)
end
/-! the letters seen -/
def ca_k (m : Nat) : Nat := m % 2 + m / 2 % 2 + m / 4 % 2
theorem ca_kd : ∀ m, m < 8 → ((nI m &&& 1) + ((nI m >>> ((1 : Int32) &&& 31)) &&& 1)) + ((nI m >>> ((2 : Int32) &&& 31)) &&& 1) = nI (ca_k m) := by decide +kernel
theorem ca_sn : ∀ m, m < 8 → ∀ r, r < 3 → nI m ||| ((1 : Int32) <<< (nI r &&& 31)) = nI (m ||| 2 ^ r) ∧ m ||| 2 ^ r < 8 ∧ (m.testBit r = true → m ||| 2 ^ r = m) ∧ (m.testBit r = false → ca_k (m ||| 2 ^ r) = ca_k m + 1) ∧ ∀ c, c < 3 → (m ||| 2 ^ r).testBit c = (m.testBit c || decide (c = r)) := by decide +kernel
theorem ca_k3b : ∀ m, m < 8 → ca_k m ≤ 3 ∧ (ca_k m = 3 ↔ ∀ c, c < 3 → m.testBit c = true) := by decide +kernel
/-- the picture when the source is read -/
def ca_G (n W : Nat) (ln sh : Nat → Nat) (nx : Nat → Nat → Option Nat) (fe : Nat → Nat) (cp : Nat → Bool) (w : Nat → Nat) (x m : Nat) : Prop :=
  ca_A n W x ln sh nx ∧ (∃ P, ca_P n W x ln nx fe w P) ∧ ca_E n x ln sh fe ∧ ca_Cp n sh cp ∧ (∀ x, nx x 3 = none) ∧ m < 8 ∧ ca_rc sh n = ca_k m ∧ (∀ c, c < 3 → (nx 0 c ≠ none ↔ m.testBit c = true)) ∧ (∀ j, j < x → nx 0 (w j) ≠ none)
theorem ca_G0 (w : Nat → Nat) : ca_G 1 0 (fun _ => 0) (fun _ => 0) (fun _ _ => none) (fun _ => 0) (fun _ => false) w 0 0 := by
  refine ⟨ca_A0, ⟨fun _ => 0, rfl, rfl, fun e he => ⟨show 0 < 1 by omega, show 0 = e by omega⟩, fun e he => absurd he (by omega)⟩, ⟨rfl, fun _ _ => Nat.le_refl _, fun v hv h => absurd (by omega) h⟩, fun v hv h => absurd (show false = true from h) (by decide), fun _ => rfl, by decide, rfl, fun c hc => ?_, fun j hj => absurd hj (by omega)⟩
  rw [Nat.zero_testBit]
  exact ⟨fun h => absurd rfl h, fun h => absurd h (by decide)⟩
theorem ca_Gs {n W x m : Nat} {ln sh : Nat → Nat} {nx : Nat → Nat → Option Nat} {fe : Nat → Nat} {cp : Nat → Bool} {n' : Nat} {ln' sh' : Nat → Nat} {nx' : Nat → Nat → Option Nat} {fe' : Nat → Nat} {cp' : Nat → Bool} {w : Nat → Nat} (hw : w x < 3)
    (h : ca_G n W ln sh nx fe cp w x m) (ho : ca_out n W x (w x) ln sh nx fe cp n' ln' sh' nx' fe' cp') : ca_G n' n ln' sh' nx' fe' cp' w (x + 1) (m ||| 2 ^ (w x)) := by
  obtain ⟨hA, ⟨P, hP⟩, hE, hC, hN, hm, hk, hb, hj⟩ := h
  obtain ⟨r1, r2, r3, r4⟩ := ca_R_out hA ho
  obtain ⟨s1, s2, s3, s4, s5⟩ := ca_sn m hm (w x) hw
  refine ⟨ca_A_out hA ho, ⟨_, ca_P_out hA hP rfl ho⟩, ca_E_out hA hE ho, ca_Cp_out hA hC ho, fun y => ?_, s2, ?_, fun c hc => ?_, fun j hj' => ?_⟩
  · refine Classical.byContradiction (fun z => ?_)
    obtain ⟨y', hy'⟩ := r4 y 3 (by omega) z
    exact hy' (hN y')
  · have hbw := hb (w x) hw
    rcases r1 with ⟨q1, q2⟩ | ⟨q1, q2⟩
    · have : m.testBit (w x) = false := by
        cases hh : m.testBit (w x) with
        | false => rfl
        | true => exact absurd q1 (hbw.mpr hh)
      rw [q2, s4 this, hk]
    · rw [q2, s3 (hbw.mp q1), hk]
  · rw [s5 c hc]
    by_cases e : c = w x
    · rw [e, decide_eq_true rfl, Bool.or_true]
      exact ⟨fun _ => rfl, fun _ => r2⟩
    · rw [r3 c e, decide_eq_false e, Bool.or_false]
      exact hb c hc
  · by_cases e : w j = w x
    · rw [e]
      exact r2
    · rw [r3 _ e]
      refine hj j ?_
      have : j ≠ x := fun z => e (by rw [z])
      omega
end
section
/-! the law from accept on -/
def ca_Iv (i0 κ : Nat) (nx0 : Nat → Nat → Option Nat) (i n W : Nat) (sh : Nat → Nat) (nx : Nat → Nat → Option Nat) : Prop :=
  (∀ c, c < 3 → (nx 0 c = none ↔ nx0 0 c = none)) ∧ ((i ≤ i0 ∧ (∀ x, nx x 3 = none) ∧ ca_rc sh n = κ) ∨ (i0 < i ∧ ca_rc sh n = κ + 1 ∧ ∃ v, ca_T3 n W sh nx v))
theorem ca_Ivs {i0 κ : Nat} {nx0 : Nat → Nat → Option Nat} {t : Nat} {tg : Nat → Nat} (htg : ∀ j, j < t → j ≠ i0 → tg j < 3 ∧ nx0 0 (tg j) ≠ none) (ht3 : tg i0 = 3)
    {i n W s : Nat} {ln sh : Nat → Nat} {nx : Nat → Nat → Option Nat} {fe : Nat → Nat} {cp : Nat → Bool} {n' : Nat} {ln' sh' : Nat → Nat} {nx' : Nat → Nat → Option Nat} {fe' : Nat → Nat} {cp' : Nat → Bool}
    (hi : i < t) (hA : ca_A n W s ln sh nx) (hI : ca_Iv i0 κ nx0 i n W sh nx) (ho : ca_out n W s (tg i) ln sh nx fe cp n' ln' sh' nx' fe' cp') : ca_Iv i0 κ nx0 (i + 1) n' n sh' nx' := by
  obtain ⟨h1, h2⟩ := hI
  obtain ⟨r1, r2, r3, r4⟩ := ca_R_out hA ho
  by_cases e : i = i0
  · rw [e, ht3] at ho r1 r2 r3 r4
    refine ⟨fun c hc => by rw [r3 c (by omega)]; exact h1 c hc, Or.inr ⟨by omega, ?_⟩⟩
    rcases h2 with ⟨_, hN, hr⟩ | ⟨hlt, _⟩
    · rcases r1 with ⟨q1, q2⟩ | ⟨q1, q2⟩
      · exact ⟨by rw [q2, hr], n, ca_T3_new hA hN ho⟩
      · exact absurd (hN 0) q1
    · omega
  · obtain ⟨hc3, hcn⟩ := htg i hi e
    have hne : nx 0 (tg i) ≠ none := fun z => hcn ((h1 _ hc3).mp z)
    have hr' : ca_rc sh' n' = ca_rc sh n := by
      rcases r1 with ⟨q1, q2⟩ | ⟨q1, q2⟩
      · exact absurd q1 hne
      · exact q2
    refine ⟨fun c hc => ?_, ?_⟩
    · by_cases ec : c = tg i
      · rw [ec]
        exact ⟨fun z => absurd z r2, fun z => absurd z hcn⟩
      · rw [r3 c ec]
        exact h1 c hc
    · rcases h2 with ⟨hle, hN, hr⟩ | ⟨hlt, hr, v, hT⟩
      · refine Or.inl ⟨by omega, fun x => ?_, by rw [hr', hr]⟩
        refine Classical.byContradiction (fun z => ?_)
        obtain ⟨y, hy⟩ := r4 x 3 (by omega) z
        exact hy (hN y)
      · exact Or.inr ⟨by omega, by rw [hr', hr], v, ca_T3_out hA hT (by omega) ho⟩
theorem ca_6 (t : Nat) : (6 : Int32) + nI t = nI (6 + t) := nI_add 6 t
section
variable {f1 f3 f4 f5 f6 : Int32} {a1 a2 a3 a4 a5 a6 a7 a8 a9 a10 : Nat → Int32} {n W : Nat} {ln sh : Nat → Nat} {nx : Nat → Nat → Option Nat} {fe : Nat → Nat} {cp : Nat → Bool}
theorem ca_pc0 {post : Int32 → St2 → Prop} (H : post 0 (f1, nI 0, f3, f4, f5, f6, a1, a2, a3, a4, a5, a6, a7, a8, a9, a10)) : wpX_pieces post (f1, nI 0, f3, f4, f5, f6, a1, a2, a3, a4, a5, a6, a7, a8, a9, a10) :=
  ⟨1, pk_le 24 0 (fun z => absurd z (by omega)) (fun _ => pk_le 0 0 (fun _ => H) (fun z => absurd z (by omega)))⟩
theorem ca_473 {post : Int32 → St0 → Prop} {mc ms kc ks t : Nat} {z0 z1 : Int32} (hp : post 1 ()) (hB : ca_B n W (6 + t) ln sh nx) (hM : ca_M n ln sh nx fe cp a2 a3 a4 a5 a6) (ht : t ≤ 6) (hz : z1 = z0) :
    wL_lawOf_473 post mc ms (nI t) z0 z1 kc ks f1 f3 (nI n) f4 f5 f6 a1 a2 a3 a4 a5 a6 a7 a8 a9 a10 := by
  unfold wL_lawOf_473
  rw [ca_6]
  refine br_t hz (ca_wd hB (by omega) (by omega) hM.1 hM.2.2.1 ?_)
  rw [ca_wo_s hB (by omega) n (Nat.le_refl n), if_pos hB.1]
  exact br_t rfl hp
theorem ca_416 {post : Int32 → St0 → Prop} {mc ms kc ks t k i0 m : Nat} {w : Nat → Nat} (hp : post 1 ()) (hG : ca_G n W ln sh nx fe cp w 6 m) (hM : ca_M n ln sh nx fe cp a2 a3 a4 a5 a6) (hw : ∀ j, w j < 3) (hk : k + t ≤ 6) (hi0 : i0 < t)
    (h1 : ∀ j, j < t → a1 j = nI (ca_u (fun j => w (k + j)) i0 3 j)) :
    wL_lawOf_416 post mc ms (nI t) (nI (ca_k m)) 1 kc ks (nI 6) (nI t) (nI n) (nI W) f5 f6 a1 a2 a3 a4 a5 a6 a7 a8 a9 a10 := by
  obtain ⟨hA, _, _, _, hN, hm, hr, hb, hj⟩ := hG
  have htg : ∀ j, j < t → j ≠ i0 → ca_u (fun j => w (k + j)) i0 3 j < 3 ∧ nx 0 (ca_u (fun j => w (k + j)) i0 3 j) ≠ none := by
    intro j hjt hne
    rw [ca_un hne]
    exact ⟨hw _, hj _ (by omega)⟩
  have ht3 : ca_u (fun j => w (k + j)) i0 3 i0 = 3 := ca_us
  have htg4 : ∀ j, j < t → a1 j = nI (ca_u (fun j => w (k + j)) i0 3 j) ∧ ca_u (fun j => w (k + j)) i0 3 j < 4 := by
    intro j hjt
    refine ⟨h1 j hjt, ?_⟩
    by_cases e : j = i0
    · rw [e, ht3]
      omega
    · have := (htg j hjt e).1
      omega
  unfold wL_lawOf_416
  refine ca_acc (s0 := 6) (by omega) (by omega) htg4 (ca_Iv i0 (ca_k m) nx) hA ⟨fun _ _ => Iff.rfl, Or.inl ⟨by omega, hN, hr⟩⟩ hM (fun i n W ln sh nx fe cp n' ln' sh' nx' fe' cp' hi hA hI ho => ca_Ivs htg ht3 hi hA hI ho) ?_
  intro n' W' ln' sh' nx' fe' cp' g5 b2 b3 b4 b5 b6 b10 hA' hI' hM'
  obtain ⟨i1, i2⟩ := hI'
  obtain ⟨hrc, v, v1, v2, v3, v4, v5, v6⟩ : ca_rc sh' n' = ca_k m + 1 ∧ ∃ v, ca_T3 n' W' sh' nx' v := by
    rcases i2 with ⟨z, _⟩ | z
    · omega
    · exact z.2
  have hmiss : ∃ d, d < 4 ∧ nx' v d = none := by
    rcases v6 with ⟨_, z⟩ | ⟨_, d0, z⟩
    · exact ⟨0, by omega, z 0⟩
    · by_cases e : d0 = 0
      · exact ⟨1, by omega, z 1 (by omega)⟩
      · exact ⟨0, by omega, z 0 (fun q => e q.symm)⟩
  have hk3 := ca_k3b m hm
  refine br_f (by decide) (br_t (ca_6 t).symm (ca_pc0 (br_t rfl (ca_wd (k := 1) hA'.1 (by omega) (by omega) hM'.1 hM'.2.2.1 (br_t ?_ (ca_sa hA'.1 (by omega) hM'.1 hM'.2.2.2.2.1 (fun x b8 hQ => ?_)))))))
  · rw [ca_wo_1 hA'.1 n' (Nat.le_refl n'), hrc, nI_1]
  · refine pk_eq (ca_k m) 3 (fun e => ca_473 hp hA'.1 hM' (by omega) ?_) (fun e => ca_473 hp hA'.1 hM' (by omega) ?_)
    · have hx : x = 2 := by
        refine hQ.2.2.2 (fun c hc => ?_) ?_
        · by_cases e3 : c = 3
          · rw [e3, v3]
            exact Option.some_ne_none v
          · exact fun z => (hb c (by omega)).mpr (hk3.2.mp e c (by omega)) ((i1 c (by omega)).mp z)
        · obtain ⟨d, hd, hdn⟩ := hmiss
          exact ⟨3, v, d, by omega, hd, v3, hdn⟩
      rw [hx]
      rfl
    · have hx : x = 1 := by
        refine hQ.2.2.1 ?_
        refine Classical.byContradiction (fun z => e (hk3.2.mpr (fun c hc => (hb c hc).mp (fun q => z ⟨c, by omega, (i1 c hc).mpr q⟩))))
      rw [hx]
      rfl
end
end
section
/-! the law from change to accept -/
section
variable {f6 : Int32} {a1 a2 a3 a4 a5 a6 a7 a8 a9 a10 : Nat → Int32} {n W : Nat} {ln sh : Nat → Nat} {nx : Nat → Nat → Option Nat} {fe : Nat → Nat} {cp : Nat → Bool} {post : Int32 → St0 → Prop} {mc ms kc ks t k i0 m : Nat} {text : Int32}
/-- the state behind the change -/
def ca_S2 (n W : Nat) (ln sh : Nat → Nat) (nx : Nat → Nat → Option Nat) (fe : Nat → Nat) (cp : Nat → Bool) (text : Int32) (m k t i0 : Nat) (a1 a2 a3 a4 a5 a6 : Nat → Int32) : Prop :=
  ca_G n W ln sh nx fe cp (ca_lt text) 6 m ∧ ca_M n ln sh nx fe cp a2 a3 a4 a5 a6 ∧ k + t ≤ 6 ∧ i0 < t ∧ (∀ j, j < t → a1 j = nI (ca_u (fun j => ca_lt text (k + j)) i0 3 j))
theorem ca_S2R (h : ca_S2 n W ln sh nx fe cp text m k t i0 a1 a2 a3 a4 a5 a6) : ∃ S, ca_Rs n t nx (ca_u (fun j => ca_lt text (k + j)) i0 3) (ca_L2 t i0) S a1 a5 := by
  obtain ⟨hG, hM, hk, hi, h1⟩ := h
  obtain ⟨P, hP⟩ := hG.2.1
  have hn := hG.1.1.2.1
  exact ca_Rs2 hG.1 hP hG.2.2.2.2.1 (by omega) (fun j _ => by have := ca_lt3 text j; omega) hk (by omega) hi hM.2.2.2.2.1 h1
theorem ca_403 {f5 : Int32} {p : Nat} (hp : post 1 ()) (h : ca_S2 n W ln sh nx fe cp text m k t i0 a1 a2 a3 a4 a5 a6) (ep : p = if i0 = 0 then 0 else 1) :
    wL_lawOf_403 post mc ms (nI t) (nI (ca_k m)) (nI p) kc ks (nI 6) (nI t) (nI n) (nI W) f5 f6 a1 a2 a3 a4 a5 a6 a7 a8 a9 a10 := by
  obtain ⟨S, hR⟩ := ca_S2R h
  obtain ⟨hG, hM, hk, hi, h1⟩ := h
  obtain ⟨d1, d2, d3, d4, d5, d6, d7, d8, d9⟩ := ca_dec2 t (by omega) i0 hi
  have hpos : ca_pos (ca_L2 t i0) p = i0 := by rw [ep]; exact d8
  have hp1 : p ≤ 1 := by
    rw [ep]
    by_cases e : i0 = 0
    · rw [if_pos e]
      omega
    · rw [if_neg e]
      omega
  unfold wL_lawOf_403
  refine ca_pf hR hp1 (by rw [hpos]; exact hi) (fun _ f6 => br_t rfl (ca_416 hp hG hM (ca_lt3 text) hk hi h1)) (fun z => absurd (by rw [hpos]; exact d9) z)
theorem ca_366 {z0 z1 : Int32} (hp : post 1 ()) (h : ca_S2 n W ln sh nx fe cp text m k t i0 a1 a2 a3 a4 a5 a6) (hz : z1 = z0) :
    wL_lawOf_366 post mc ms (nI t) (nI i0) (nI (ca_k m)) z0 z1 kc ks (nI 6) (nI t) (nI n) (nI W) 1 f6 a1 a2 a3 a4 a5 a6 a7 a8 a9 a10 := by
  obtain ⟨S, hR⟩ := ca_S2R h
  obtain ⟨hG, hM, hk, hi, h1⟩ := id h
  obtain ⟨d1, d2, d3, d4, d5, d6, d7, d8, d9⟩ := ca_dec2 t (by omega) i0 hi
  unfold wL_lawOf_366
  refine br_t hz (ca_o1 hR hi (by rw [ca_us]; exact hG.2.2.2.2.1 0) (br_t rfl (ca_ch (cp := 0) (ad := 5) hR (by omega) (by omega) (by omega) (fun f6 b9 => br_t ?_ ?_))))
  · rw [d7]
    rfl
  · exact pk_le i0 0 (fun e => ca_403 (p := 0) hp h (by rw [if_pos (by omega)])) (fun e => ca_403 (p := 1) hp h (by rw [if_neg (by omega)]))
theorem ca_307 {x12 x13 z0 : Int32} (hp : post 1 ()) (h : ca_S2 n W ln sh nx fe cp text m k t i0 a1 a2 a3 a4 a5 a6) (e12 : x12 = nI (ca_lt text (k + i0))) (e13 : x13 = nI (ca_due t i0)) (ez : z0 = nI (ca_most t i0)) :
    wL_lawOf_307 post mc ms text (nI k) (nI t) (nI i0) (nI (ca_k m)) 1 x12 x13 z0 kc ks (nI 6) (nI t) (nI n) (nI W) 1 f6 a1 a2 a3 a4 a5 a6 a7 a8 a9 a10 := by
  obtain ⟨S, hR⟩ := ca_S2R h
  obtain ⟨hG, hM, hk, hi, h1⟩ := id h
  obtain ⟨d1, d2, d3, d4, d5, d6, d7, d8, d9⟩ := ca_dec2 t (by omega) i0 hi
  unfold wL_lawOf_307
  rw [nI_add]
  refine ca_pl (p := 0) hR (by omega) (show (0 : Nat) < t by omega) (fun f6 => br_f (by decide) (ca_let (br_t e12 (ca_pcs hR d4 d1 d2 d3 (fun f6 => br_t e13.symm (ca_lg hR (fun f6 => br_t ?_ ?_)))))))
  · rw [d6, ez]
  · rw [d5]
    refine pk_le i0 0 (fun e => ca_366 hp h ?_) (fun e => ca_366 hp h ?_)
    · rw [if_pos (by omega)]
      rfl
    · rw [if_neg (by omega)]
theorem ca_280 {x12 z0 z1 : Int32} (hp : post 1 ()) (h : ca_S2 n W ln sh nx fe cp text m k t i0 a1 a2 a3 a4 a5 a6) (e12 : x12 = nI (ca_lt text (k + i0))) (ez : z1 + z0 = nI (ca_due t i0)) :
    wL_lawOf_280 post mc ms text (nI k) (nI t) (nI i0) (nI (ca_k m)) 1 x12 z0 z1 kc ks (nI 6) (nI t) (nI n) (nI W) 1 f6 a1 a2 a3 a4 a5 a6 a7 a8 a9 a10 := by
  obtain ⟨hG, hM, hk, hi, h1⟩ := id h
  have et : nI t - 1 = nI (t - 1) := pk_sub (b := 1) (by omega)
  unfold wL_lawOf_280
  rw [et, pk_sub (show i0 ≤ t - 1 by omega)]
  refine nm_r ez (pk_le i0 (t - 1 - i0) (fun e => ca_307 hp h e12 rfl ?_) (fun e => ca_307 hp h e12 rfl ?_))
  · unfold ca_most
    rw [if_pos e]
  · unfold ca_most
    rw [if_neg (by omega)]
theorem ca_265 {x12 z0 z1 : Int32} (hp : post 1 ()) (h : ca_S2 n W ln sh nx fe cp text m k t i0 a1 a2 a3 a4 a5 a6) (e12 : x12 = nI (ca_lt text (k + i0))) (ez : z1 + z0 = nI (1 + (if i0 = 0 then 0 else 1))) :
    wL_lawOf_265 post mc ms text (nI k) (nI t) (nI i0) (nI (ca_k m)) 1 x12 z0 z1 kc ks (nI 6) (nI t) (nI n) (nI W) 1 f6 a1 a2 a3 a4 a5 a6 a7 a8 a9 a10 := by
  obtain ⟨hG, hM, hk, hi, h1⟩ := id h
  have et : nI t - 1 = nI (t - 1) := pk_sub (b := 1) (by omega)
  unfold wL_lawOf_265
  rw [et, ez]
  refine pk_le (t - 1) i0 (fun e => ca_280 hp h e12 ?_) (fun e => ca_280 hp h e12 ?_)
  · unfold ca_due
    rw [if_pos e]
    exact nI_add _ 0
  · unfold ca_due
    rw [if_neg (show ¬ t - 1 ≤ i0 by omega)]
    exact nI_add _ 1
theorem ca_243 (hp : post 1 ()) (hG : ca_G n W ln sh nx fe cp (ca_lt text) 6 m) (hM : ca_M n ln sh nx fe cp a2 a3 a4 a5 a6) (hk : k + t ≤ 6) (hi : i0 < t) (h1 : ∀ j, j < t → a1 j = nI (ca_lt text (k + j))) :
    wL_lawOf_243 post mc ms text (nI k) (nI t) (nI i0) (nI (ca_k m)) 1 kc ks (nI 6) (nI t) (nI n) (nI W) 1 f6 a1 a2 a3 a4 a5 a6 a7 a8 a9 a10 := by
  have h : ca_S2 n W ln sh nx fe cp text m k t i0 (upd a1 i0 3) a2 a3 a4 a5 a6 := by
    refine ⟨hG, hM, hk, hi, fun j hj => ?_⟩
    by_cases e : j = i0
    · rw [e, pk_us, ca_us]
      rfl
    · rw [pk_un e, ca_un e]
      exact h1 j hj
  unfold wL_lawOf_243
  refine ca_cg hi (by omega) (pk_le i0 0 (fun e => ca_265 hp h (h1 i0 hi) ?_) (fun e => ca_265 hp h (h1 i0 hi) ?_))
  · rw [if_pos (by omega)]
    rfl
  · rw [if_neg (by omega)]
    rfl
end
end
section
/-! the law up to change -/
theorem ca_sw (a b : Int32) : a - b + 1 = a + 1 - b := by grind
section
variable {post : Int32 → St0 → Prop} {mc ms kc ks t k i0 : Nat} {text f6 : Int32} {a1 a2 a3 a4 a5 a6 a7 a8 a9 a10 : Nat → Int32} {n W m : Nat} {ln sh : Nat → Nat} {nx : Nat → Nat → Option Nat} {fe : Nat → Nat} {cp : Nat → Bool}
theorem ca_48e {fu : Nat} (hp : post 1 ()) (ht : 0 < t) (hk : k + t ≤ 6) (hi : i0 < t) (hG : ca_G n W ln sh nx fe cp (ca_lt text) 6 m) (hM : ca_M n ln sh nx fe cp a2 a3 a4 a5 a6) (h10 : ∀ j, j < 6 → a10 j = nI (ca_lt text j)) :
    wL_lawOf_48 post mc ms text (nI k) (nI t) (nI i0) kc ks (fu + 1) (nI m) (nI 6) (nI 6) (nI 0) (nI n) (nI W) 0 f6 a1 a2 a3 a4 a5 a6 a7 a8 a9 a10 := by
  obtain ⟨hA, ⟨P, hP⟩, hE, hC, hN, hm, hr, hb, hj⟩ := id hG
  have hn : n ≤ 13 := by
    have := hA.1.2.1
    omega
  obtain ⟨d1, d2, d3, d4, d5, d6⟩ := ca_dec1 t (by omega) ht
  refine pk_le 6 6 (fun _ => nm_r (ca_kd m hm) ?_) (fun z => absurd z (by omega))
  refine ca_qt hk (by omega) (by omega) (fun b1 hb1 => ?_)
  have h1 : ∀ j, j < t → b1 j = nI (ca_lt text (k + j)) := fun j hj => by rw [hb1 j hj, h10 _ (by omega)]
  obtain ⟨S, hR⟩ := ca_Rs1 hA hP (by omega) (fun j _ => by have := ca_lt3 text j; omega) hk (by omega) hM.2.2.2.2.1 h1
  have hL0 : ca_L1 t 0 = t := rfl
  have hr0 := (hR.2.2.2.2.2.2 0 ht).2.1
  rw [hL0] at hr0
  have hS := ca_run_n hR.1 hR.2.2.2.2.2.1 hr0
  have hf := ca_from hA hP hE ht hk (fun x _ => rfl) hr0
  have e90 : a4 (S 0) - nI (ca_L1 t 0) + 1 = nI (fe (S 0) + 1 - t) := by
    rw [ca_sw, hM.2.2.2.1 _ hS, nI_1, hL0, pk_sub hf.1]
  refine ca_pf (p := 0) hR (by omega) (show (0 : Nat) < t by omega) (fun z => absurd (show t = 0 from z) (by omega)) (fun _ f6 => ?_)
  show (_ → _) ∧ (_ → _)
  rw [show a4 (S (ca_pos (ca_L1 t) 0)) - nI (ca_L1 t (ca_pos (ca_L1 t) 0)) + 1 = nI (fe (S 0) + 1 - t) from e90]
  refine br_t rfl (ca_pcs (K := 1) hR (by omega) d1 d2 d3 (fun f6 => br_t rfl (ca_pl (p := 0) hR (by omega) (show (0 : Nat) < t by omega) (fun f6 => br_t (by rw [d4]) ?_))))
  refine br_f (nI_pos (by omega)) (pk_lt k (fe (S 0) + 1 - t) (fun z => absurd z (by omega)) (fun _ => ?_))
  refine ca_lg hR (fun f6 => br_t (by rw [d5]) (ca_la hR ht (by rw [hL0, d5]) (fun f6 => br_t rfl ?_)))
  refine ca_oc hA.1 hM hn (by omega) hC hR ht hL0 (fun g b7 hg1 hg2 => pk_lt g 1 (fun z => absurd z (by omega)) (fun _ => ?_))
  refine ca_ch (cp := 3) (ad := 100) hR ht (by omega) (by omega) (fun f6 b9 => br_t (by rw [d6]; rfl) ?_)
  refine ca_wd (k := 1) hA.1 (by omega) (by omega) hM.1 hM.2.2.1 (br_t (by rw [ca_wo_1 hA.1 n (Nat.le_refl n), hr]) ?_)
  refine ca_sa hA.1 (by omega) hM.1 hM.2.2.2.2.1 (fun x b8 hQ => br_t (by rw [hQ.2.2.1 ⟨3, by omega, hN 0⟩]; rfl) ?_)
  refine ca_wd (k := 6) hA.1 (by omega) (by omega) hM.1 hM.2.2.1 (br_t (by rw [ca_wo_s hA.1 (by omega) n (Nat.le_refl n), if_pos hA.1.1]; rfl) ?_)
  exact ca_oe (by omega) (br_t (by decide) (ca_243 hp hG hM hk hi h1))
end
theorem ca_48 {post : Int32 → St0 → Prop} {mc ms kc ks t k i0 : Nat} {text f6 : Int32} {a1 a7 a8 a9 : Nat → Int32} (hp : post 1 ()) (ht : 0 < t) (hk : k + t ≤ 6) (hi : i0 < t) :
    ∀ r x n W m ln sh nx fe cp a2 a3 a4 a5 a6 a10, x + r = 6 → ca_G n W ln sh nx fe cp (ca_lt text) x m → ca_M n ln sh nx fe cp a2 a3 a4 a5 a6 → (∀ j, j < x → a10 j = nI (ca_lt text j)) →
      wL_lawOf_48 post mc ms text (nI k) (nI t) (nI i0) kc ks (r + 1) (nI m) (nI x) (nI x) (nI 0) (nI n) (nI W) 0 f6 a1 a2 a3 a4 a5 a6 a7 a8 a9 a10 := by
  intro r
  induction r with
  | zero =>
    intro x n W m ln sh nx fe cp a2 a3 a4 a5 a6 a10 hx hG hM h10
    have e : x = 6 := by omega
    subst e
    exact ca_48e hp ht hk hi hG hM h10
  | succ r ih =>
    intro x n W m ln sh nx fe cp a2 a3 a4 a5 a6 a10 hx hG hM h10
    have h3 := ca_lt3 text x
    have hm := hG.2.2.2.2.2.1
    refine pk_le 6 x (fun z => absurd z (by omega)) (fun _ => ca_let (ca_src hG.1.1 hM (by omega) (by omega) (fun n' ln' sh' nx' fe' cp' b2 b3 b4 b5 b6 ho hM' => ca_let (nm_r (ca_sn m hm _ h3).1 (nm_r (nI_1 x) ?_)))))
    refine ih (x + 1) n' n (m ||| 2 ^ ca_lt text x) ln' sh' nx' fe' cp' b2 b3 b4 b5 b6 _ (by omega) (ca_Gs h3 hG ho) hM' (fun j hj => ?_)
    by_cases e : j = x
    · rw [e, pk_us]
    · rw [pk_un e]
      exact h10 j (by omega)
theorem ca_law {post : Int32 → St0 → Prop} (hp : post 1 ()) (text part place : Int32) : wpL_lawOf post 376 6000 () text part place := by
  obtain ⟨j1, hj1, e1⟩ := pk_andE part (m := 7) 3 (by decide)
  obtain ⟨j2, hj2, e2⟩ := pk_andE (part >>> ((3 : Int32) &&& 31)) (m := 7) 3 (by decide)
  obtain ⟨j3, hj3, e3⟩ := pk_andE place (m := 7) 3 (by decide)
  have hj1' : j1 < 8 := hj1
  have hj2' : j2 < 8 := hj2
  have hj3' : j3 < 8 := hj3
  have hk : j1 % 6 < 6 := Nat.mod_lt _ (by omega)
  have ht : j2 % (6 - j1 % 6) < 6 - j1 % 6 := Nat.mod_lt _ (by omega)
  have hi : j3 % (1 + j2 % (6 - j1 % 6)) < 1 + j2 % (6 - j1 % 6) := Nat.mod_lt _ (by omega)
  unfold wpL_lawOf
  rw [e1, e2, e3]
  refine ⟨by omega, by omega, 10, 731, by omega, by omega, ca_init (fun b1 b2 b3 b4 b5 b6 b7 b8 b9 b10 hM => ⟨by decide, ?_⟩)⟩
  refine nm_r (e' := nI (j1 % 6)) (pk_rem (d := 6) (by omega) (by omega) (by omega)) ?_
  rw [show (6 : Int32) - nI (j1 % 6) = nI (6 - j1 % 6) from pk_sub (a := 6) (by omega)]
  refine ⟨nI_ne0 (by omega) (by omega), nm_r (e' := nI (1 + j2 % (6 - j1 % 6))) ?_ ⟨nI_ne0 (by omega) (by omega), nm_r (e' := nI (j3 % (1 + j2 % (6 - j1 % 6)))) (pk_rem (by omega) (by omega) (by omega)) ⟨7, ?_⟩⟩⟩
  · rw [pk_rem (by omega) (by omega) (by omega)]
    exact nI_add 1 _
  · exact ca_48 hp (by omega) (by omega) hi 6 0 1 0 0 _ _ _ _ _ b2 b3 b4 b5 b6 b10 (by omega) (ca_G0 (ca_lt text)) hM (fun j hj => absurd hj (by omega))
theorem ca_cell {post : Int32 → Prop} {L : Nat} {xs : Nat → Int32} {j : Nat} (hL : L < 2 ^ 31) (hj : j < 2 ^ 31) (H : ∀ r, post r) : wpL_cellAt post L xs () (nI j) :=
  pk_le L j (fun _ => H _) (fun z => ⟨pk_in j L z, H _⟩)
theorem i_vc (xs : Nat → Int32) (L : Nat) (hL : L ≤ 3) : wpL_law (fun r => r = 1) L xs := by
  refine ca_cell (j := 0) (by omega) (by omega) (fun r1 => ca_cell (j := 1) (by omega) (by omega) (fun r2 => ca_cell (j := 2) (by omega) (by omega) (fun r3 => ⟨376, 6000, by omega, by omega, ca_law rfl r1 r2 r3⟩)))
end
