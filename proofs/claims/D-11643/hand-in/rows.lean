section
/-! sets of places as Nat → Bool; sums, being in time, the greedy choice: plain, no program in sight -/
def jb_one : Nat → Nat := fun _ => 1
def jb_it (w : Nat → Nat) (S : Nat → Bool) (x : Nat) : Nat := if S x = true then w x else 0
/-- the sum of w over the members of S below k -/
def jb_sm (w : Nat → Nat) (S : Nat → Bool) : Nat → Nat
  | 0 => 0
  | k + 1 => jb_sm w S k + jb_it w S k
/-- taken up in the order 0, 1, .. each member of S below k ends in time -/
def jb_fs (l d : Nat → Nat) (S : Nat → Bool) (k : Nat) : Prop := ∀ j, j < k → S j = true → jb_sm l S (j + 1) ≤ d j
def jb_up (S : Nat → Bool) (i : Nat) (b : Bool) : Nat → Bool := fun x => if x = i then b else S x
theorem jb_up_s {S : Nat → Bool} {i : Nat} {b : Bool} : jb_up S i b i = b := by unfold jb_up; rw [if_pos rfl]
theorem jb_up_n {S : Nat → Bool} {i x : Nat} {b : Bool} (h : x ≠ i) : jb_up S i b x = S x := by unfold jb_up; rw [if_neg h]
theorem jb_sm_t {w : Nat → Nat} {S : Nat → Bool} {k : Nat} (h : S k = true) : jb_sm w S (k + 1) = jb_sm w S k + w k := by
  show jb_sm w S k + jb_it w S k = _
  unfold jb_it
  rw [if_pos h]
theorem jb_sm_f {w : Nat → Nat} {S : Nat → Bool} {k : Nat} (h : S k = false) : jb_sm w S (k + 1) = jb_sm w S k := by
  show jb_sm w S k + jb_it w S k = _
  unfold jb_it
  rw [if_neg (by rw [h]; decide)]
  rfl
theorem jb_sm_up1 {w : Nat → Nat} {S : Nat → Bool} {k : Nat} : jb_sm w S k ≤ jb_sm w S (k + 1) := Nat.le_add_right _ _
theorem jb_sm_cg {w : Nat → Nat} {S T : Nat → Bool} (k : Nat) (h : ∀ j, j < k → S j = T j) : jb_sm w S k = jb_sm w T k := by
  induction k with
  | zero => rfl
  | succ k ih =>
    have e := ih (fun j hj => h j (by omega))
    have e2 := h k (by omega)
    cases hs : S k with
    | false => rw [jb_sm_f hs, jb_sm_f (e2.symm.trans hs), e]
    | true => rw [jb_sm_t hs, jb_sm_t (e2.symm.trans hs), e]
theorem jb_sm_le {w : Nat → Nat} {S T : Nat → Bool} (k : Nat) (h : ∀ j, j < k → S j = true → T j = true) : jb_sm w S k ≤ jb_sm w T k := by
  induction k with
  | zero => exact Nat.le_refl 0
  | succ k ih =>
    have e := ih (fun j hj => h j (by omega))
    cases hs : S k with
    | false =>
      rw [jb_sm_f hs]
      exact Nat.le_trans e jb_sm_up1
    | true =>
      rw [jb_sm_t hs, jb_sm_t (h k (by omega) hs)]
      omega
theorem jb_sm_mn {w : Nat → Nat} {S : Nat → Bool} {k n : Nat} (h : k ≤ n) : jb_sm w S k ≤ jb_sm w S n := by
  induction n with
  | zero =>
    have e : k = 0 := by omega
    rw [e]
    exact Nat.le_refl _
  | succ n ih =>
    rcases Nat.lt_or_ge n k with z | z
    · have e : k = n + 1 := by omega
      rw [e]
      exact Nat.le_refl _
    · exact Nat.le_trans (ih z) jb_sm_up1
theorem jb_sm_eq {S T : Nat → Bool} (k : Nat) (h : ∀ j, j < k → S j = true → T j = true) (e : jb_sm jb_one S k = jb_sm jb_one T k) : ∀ j, j < k → S j = T j := by
  induction k with
  | zero => intro j hj; omega
  | succ k ih =>
    have m := jb_sm_le (w := jb_one) k (fun j hj => h j (by omega))
    have o : jb_one k = 1 := rfl
    have key : jb_sm jb_one S k = jb_sm jb_one T k ∧ S k = T k := by
      cases hs : S k with
      | false =>
        cases ht : T k with
        | false =>
          rw [jb_sm_f hs, jb_sm_f ht] at e
          exact ⟨e, rfl⟩
        | true =>
          rw [jb_sm_f hs, jb_sm_t ht] at e
          exact absurd e (by omega)
      | true =>
        have ht := h k (by omega) hs
        rw [jb_sm_t hs, jb_sm_t ht] at e
        exact ⟨by omega, ht.symm⟩
    exact lt_s (ih (fun j hj => h j (by omega)) key.1) key.2
theorem jb_sm_uo {w : Nat → Nat} {S : Nat → Bool} {i : Nat} {b : Bool} (k : Nat) (h : k ≤ i) : jb_sm w (jb_up S i b) k = jb_sm w S k := jb_sm_cg k (fun j hj => jb_up_n (by omega))
theorem jb_sm_ut {w : Nat → Nat} {S : Nat → Bool} {i : Nat} (k : Nat) (hk : i < k) (hs : S i = false) : jb_sm w (jb_up S i true) k = jb_sm w S k + w i := by
  induction k with
  | zero => omega
  | succ k ih =>
    by_cases e : k = i
    · rw [e, jb_sm_t jb_up_s, jb_sm_f hs, jb_sm_uo i (Nat.le_refl i)]
    · have ih' := ih (by omega)
      have u : jb_up S i true k = S k := jb_up_n e
      cases hk' : S k with
      | false => rw [jb_sm_f (u.trans hk'), jb_sm_f hk', ih']
      | true =>
        rw [jb_sm_t (u.trans hk'), jb_sm_t hk', ih']
        omega
theorem jb_sm_uf {w : Nat → Nat} {S : Nat → Bool} {i : Nat} (k : Nat) (hk : i < k) (hs : S i = true) : jb_sm w (jb_up S i false) k + w i = jb_sm w S k := by
  induction k with
  | zero => omega
  | succ k ih =>
    by_cases e : k = i
    · rw [e, jb_sm_f jb_up_s, jb_sm_t hs, jb_sm_uo i (Nat.le_refl i)]
    · have ih' := ih (by omega)
      have u : jb_up S i false k = S k := jb_up_n e
      cases hk' : S k with
      | false => rw [jb_sm_f (u.trans hk'), jb_sm_f hk', ih']
      | true =>
        rw [jb_sm_t (u.trans hk'), jb_sm_t hk']
        omega
theorem jb_sm_c {S : Nat → Bool} (k : Nat) : jb_sm jb_one S k ≤ k := by
  induction k with
  | zero => exact Nat.le_refl 0
  | succ k ih =>
    have o : jb_one k = 1 := rfl
    cases hs : S k with
    | false => rw [jb_sm_f hs]; omega
    | true => rw [jb_sm_t hs]; omega
theorem jb_sm_b {w : Nat → Nat} {S : Nat → Bool} {B : Nat} (k : Nat) (h : ∀ j, j < k → w j ≤ B) : jb_sm w S k ≤ B * k := by
  induction k with
  | zero => exact Nat.zero_le _
  | succ k ih =>
    have e := ih (fun j hj => h j (by omega))
    have e2 := h k (by omega)
    have e3 : B * (k + 1) = B * k + B := Nat.mul_succ B k
    cases hs : S k with
    | false => rw [jb_sm_f hs]; omega
    | true => rw [jb_sm_t hs]; omega
theorem jb_end {l d : Nat → Nat} {Q S : Nat → Bool} {D : Nat} (n : Nat) (hQ : ∀ j, j < n → Q j = true → S j = true) (hf : jb_fs l d S n) (hD : ∀ j, j < n → Q j = true → d j ≤ D) : jb_sm l Q n ≤ D := by
  induction n with
  | zero => exact Nat.zero_le D
  | succ n ih =>
    cases hq : Q n with
    | false =>
      rw [jb_sm_f hq]
      exact ih (fun j hj => hQ j (by omega)) (fun j hj => hf j (by omega)) (fun j hj => hD j (by omega))
    | true =>
      have a := jb_sm_le (w := l) (n + 1) hQ
      have b := hf n (by omega) (hQ n (by omega) hq)
      have c := hD n (by omega) hq
      omega
/-- every choice below k that holds the firm ones and is in time is matched inside S -/
def jb_cv (l d : Nat → Nat) (h S : Nat → Bool) (k : Nat) : Prop := ∀ T : Nat → Bool, jb_fs l d T k → (∀ j, j < k → h j = true → T j = true) →
  ∃ U : Nat → Bool, (∀ j, j < k → U j = true → S j = true) ∧ (∀ j, j < k → h j = true → U j = true) ∧ jb_sm jb_one U k = jb_sm jb_one T k ∧ jb_sm l U k ≤ jb_sm l T k
/-- the greedy choice S stands, the first k taken up -/
def jb_iv (l d : Nat → Nat) (h S : Nat → Bool) (k : Nat) : Prop := jb_fs l d S k ∧ (∀ j, j < k → h j = true → S j = true) ∧ jb_cv l d h S k
/-- the same while place k may be late -/
def jb_pd (l d : Nat → Nat) (h S : Nat → Bool) (k : Nat) : Prop := jb_fs l d S k ∧ (∀ j, j < k + 1 → h j = true → S j = true) ∧ jb_cv l d h S (k + 1)
theorem jb_fs_cg {l d : Nat → Nat} {S T : Nat → Bool} {k : Nat} (e : ∀ j, j < k → S j = T j) (H : jb_fs l d S k) : jb_fs l d T k := fun j hj hs => by
  have a := H j hj ((e j hj).trans hs)
  rw [jb_sm_cg (j + 1) (fun x hx => e x (by omega))] at a
  exact a
theorem jb_cv_cg {l d : Nat → Nat} {h S T : Nat → Bool} {k : Nat} (e : ∀ j, j < k → S j = T j) (H : jb_cv l d h S k) : jb_cv l d h T k := fun X fX gX => by
  obtain ⟨U, u1, u2, u3, u4⟩ := H X fX gX
  exact ⟨U, fun j hj hu => (e j hj).symm.trans (u1 j hj hu), u2, u3, u4⟩
theorem jb_pd_cg {l d : Nat → Nat} {h S T : Nat → Bool} {k : Nat} (e : ∀ j, j < k + 1 → S j = T j) (H : jb_pd l d h S k) : jb_pd l d h T k :=
  ⟨jb_fs_cg (fun j hj => e j (by omega)) H.1, fun j hj hh => (e j hj).symm.trans (H.2.1 j hj hh), jb_cv_cg e H.2.2⟩
theorem jb_iv_0 {l d : Nat → Nat} {h S : Nat → Bool} : jb_iv l d h S 0 :=
  ⟨fun j hj => absurd hj (by omega), fun j hj => absurd hj (by omega), fun T _ _ => ⟨T, fun j hj => absurd hj (by omega), fun j hj => absurd hj (by omega), rfl, Nat.le_refl _⟩⟩
theorem jb_enter {l d : Nat → Nat} {h S : Nat → Bool} {k : Nat} (H : jb_iv l d h S k) : jb_pd l d h (jb_up S k true) k := by
  obtain ⟨f, g, c⟩ := H
  refine ⟨fun j hj hs => ?_, fun j hj hh => ?_, fun T fT gT => ?_⟩
  · rw [jb_up_n (show j ≠ k by omega)] at hs
    rw [jb_sm_uo (j + 1) (by omega)]
    exact f j hj hs
  · by_cases e : j = k
    · rw [e, jb_up_s]
    · rw [jb_up_n e]
      exact g j (by omega) hh
  · obtain ⟨U, u1, u2, u3, u4⟩ := c T (fun j hj => fT j (by omega)) (fun j hj => gT j (by omega))
    refine ⟨jb_up U k (T k), fun j hj hu => ?_, fun j hj hh => ?_, ?_, ?_⟩
    · by_cases e : j = k
      · rw [e, jb_up_s]
      · rw [jb_up_n e] at hu ⊢
        exact u1 j (by omega) hu
    · by_cases e : j = k
      · rw [e] at hh ⊢
        rw [jb_up_s]
        exact gT k (by omega) hh
      · rw [jb_up_n e]
        exact u2 j (by omega) hh
    · cases ht : T k with
      | false =>
        rw [jb_sm_f ht, jb_sm_f jb_up_s, jb_sm_uo k (Nat.le_refl k)]
        exact u3
      | true => rw [jb_sm_t ht, jb_sm_t jb_up_s, jb_sm_uo k (Nat.le_refl k), u3]
    · cases ht : T k with
      | false =>
        rw [jb_sm_f ht, jb_sm_f jb_up_s, jb_sm_uo k (Nat.le_refl k)]
        exact u4
      | true =>
        rw [jb_sm_t ht, jb_sm_t jb_up_s, jb_sm_uo k (Nat.le_refl k)]
        omega
theorem jb_sub {S : Nat → Bool} {q x : Nat} (h : jb_up S q false x = true) : x ≠ q ∧ S x = true := by
  by_cases e : x = q
  · rw [e, jb_up_s] at h
    exact absurd h (by decide)
  · rw [jb_up_n e] at h
    exact ⟨e, h⟩
theorem jb_ff {b : Bool} (h : b = false) (h2 : b = true) {P : Prop} : P := by
  rw [h] at h2
  exact absurd h2 (by decide)
theorem jb_drop {l d : Nat → Nat} {h S : Nat → Bool} {k q : Nat} (hd : ∀ i j, i ≤ j → j < k + 1 → d i ≤ d j) (H : jb_pd l d h S k) (ht : d k < jb_sm l S (k + 1)) (hq : q < k + 1) (h1 : S q = true) (h2 : h q = false)
    (h3 : ∀ y, y < k + 1 → S y = true → h y = false → l y ≤ l q) : jb_pd l d h (jb_up S q false) k := by
  obtain ⟨f, g, c⟩ := H
  refine ⟨fun j hj hs => ?_, fun j hj hh => ?_, fun T fT gT => ?_⟩
  · have a : jb_sm l (jb_up S q false) (j + 1) ≤ jb_sm l S (j + 1) := jb_sm_le (j + 1) (fun x _ hx => (jb_sub hx).2)
    exact Nat.le_trans a (f j hj (jb_sub hs).2)
  · have e : j ≠ q := fun e => by
      rw [e] at hh
      exact jb_ff h2 hh
    rw [jb_up_n e]
    exact g j hj hh
  · obtain ⟨U, u1, u2, u3, u4⟩ := c T fT gT
    have e1 : jb_sm l T (k + 1) ≤ d k := jb_end (k + 1) (fun _ _ z => z) fT (fun j hj _ => hd j k (by omega) (by omega))
    by_cases hU : U q = true
    · have hx : ∃ x, x < k + 1 ∧ S x = true ∧ U x = false := by
        apply Classical.byContradiction
        intro hn
        have a : ∀ j, j < k + 1 → S j = true → U j = true := fun j hj hs => by
          cases hu : U j with
          | true => rfl
          | false => exact absurd ⟨j, hj, hs, hu⟩ hn
        have b := jb_sm_le (w := l) (k + 1) a
        omega
      obtain ⟨x, x1, x2, x3⟩ := hx
      have xq : x ≠ q := fun e => by
        rw [e] at x3
        exact jb_ff x3 hU
      have x4 : h x = false := by
        cases hh : h x with
        | false => rfl
        | true => exact jb_ff x3 (u2 x x1 hh)
      have x5 := h3 x x1 x2 x4
      have x6 : jb_up U q false x = false := by rw [jb_up_n xq]; exact x3
      refine ⟨jb_up (jb_up U q false) x true, ?_, ?_, ?_, ?_⟩
      · intro j hj hu
        by_cases e : j = x
        · rw [e, jb_up_n xq]
          exact x2
        · rw [jb_up_n e] at hu
          have e' := jb_sub hu
          rw [jb_up_n e'.1]
          exact u1 j hj e'.2
      · intro j hj hh
        by_cases e : j = x
        · rw [e, jb_up_s]
        · have e' : j ≠ q := fun e' => by
            rw [e'] at hh
            exact jb_ff h2 hh
          rw [jb_up_n e, jb_up_n e']
          exact u2 j hj hh
      · have a := jb_sm_ut (w := jb_one) (k + 1) x1 x6
        have b := jb_sm_uf (w := jb_one) (k + 1) hq hU
        have o : jb_one x = 1 := rfl
        have o2 : jb_one q = 1 := rfl
        omega
      · have a := jb_sm_ut (w := l) (k + 1) x1 x6
        have b := jb_sm_uf (w := l) (k + 1) hq hU
        omega
    · refine ⟨U, fun j hj hu => ?_, u2, u3, u4⟩
      have e : j ≠ q := fun e => by
        rw [e] at hu
        exact hU hu
      rw [jb_up_n e]
      exact u1 j hj hu
theorem jb_exit {l d : Nat → Nat} {h S : Nat → Bool} {k : Nat} (H : jb_pd l d h S k) (ht : jb_sm l S (k + 1) ≤ d k) : jb_iv l d h S (k + 1) :=
  ⟨lt_s (p := fun j => S j = true → jb_sm l S (j + 1) ≤ d j) H.1 (fun _ => ht), H.2.1, H.2.2⟩
theorem jb_fail {l d : Nat → Nat} {h S : Nat → Bool} {k n : Nat} (hd : ∀ i j, i ≤ j → j < k + 1 → d i ≤ d j) (H : jb_pd l d h S k) (ht : d k < jb_sm l S (k + 1)) (h3 : ∀ y, y < k + 1 → S y = true → h y = true) (hn : k + 1 ≤ n)
    (T : Nat → Bool) (fT : jb_fs l d T n) (gT : ∀ j, j < n → h j = true → T j = true) : False := by
  obtain ⟨f, g, c⟩ := H
  have fT' : jb_fs l d T (k + 1) := fun j hj => fT j (by omega)
  obtain ⟨U, u1, u2, u3, u4⟩ := c T fT' (fun j hj => gT j (by omega))
  have a : jb_sm l S (k + 1) ≤ jb_sm l U (k + 1) := jb_sm_le (k + 1) (fun j hj hs => u2 j hj (h3 j hj hs))
  have b : jb_sm l T (k + 1) ≤ d k := jb_end (k + 1) (fun _ _ z => z) fT' (fun j hj _ => hd j k (by omega) (by omega))
  omega
theorem jb_best {l d : Nat → Nat} {h S T : Nat → Bool} {k : Nat} (H : jb_iv l d h S k) (fT : jb_fs l d T k) (gT : ∀ j, j < k → h j = true → T j = true) :
    jb_sm jb_one T k ≤ jb_sm jb_one S k ∧ (jb_sm jb_one T k = jb_sm jb_one S k → jb_sm l S k ≤ jb_sm l T k) := by
  obtain ⟨U, u1, u2, u3, u4⟩ := H.2.2 T fT gT
  have a := jb_sm_le (w := jb_one) k u1
  refine ⟨by omega, fun e => ?_⟩
  have b := jb_sm_eq k u1 (by omega)
  rw [← jb_sm_cg k b]
  exact u4
/-! orders of the four places -/
def jb_pm (R : Nat → Nat) : Prop := (∀ j, j < 4 → R j < 4) ∧ (∀ i j, i < j → j < 4 → R i ≠ R j)
theorem jb_p4 (f : Nat → Nat) {a b c d : Nat} (ha : a < 4) (hb : b < 4) (hc : c < 4) (hd : d < 4) (ab : a ≠ b) (ac : a ≠ c) (ad : a ≠ d) (bc : b ≠ c) (bd : b ≠ d) (cd : c ≠ d) : f a + f b + f c + f d = f 0 + f 1 + f 2 + f 3 := by
  obtain rfl | rfl | rfl | rfl : a = 0 ∨ a = 1 ∨ a = 2 ∨ a = 3 := by omega
  all_goals
    obtain rfl | rfl | rfl | rfl : b = 0 ∨ b = 1 ∨ b = 2 ∨ b = 3 := by omega
  all_goals first | (exfalso; omega) | skip
  all_goals
    obtain rfl | rfl | rfl | rfl : c = 0 ∨ c = 1 ∨ c = 2 ∨ c = 3 := by omega
  all_goals first | (exfalso; omega) | skip
  all_goals
    obtain rfl | rfl | rfl | rfl : d = 0 ∨ d = 1 ∨ d = 2 ∨ d = 3 := by omega
  all_goals first | (exfalso; omega) | omega
theorem jb_pm4 {R : Nat → Nat} (h : jb_pm R) (f : Nat → Nat) : f (R 0) + f (R 1) + f (R 2) + f (R 3) = f 0 + f 1 + f 2 + f 3 :=
  jb_p4 f (h.1 0 (by omega)) (h.1 1 (by omega)) (h.1 2 (by omega)) (h.1 3 (by omega)) (h.2 0 1 (by omega) (by omega)) (h.2 0 2 (by omega) (by omega)) (h.2 0 3 (by omega) (by omega)) (h.2 1 2 (by omega) (by omega)) (h.2 1 3 (by omega) (by omega)) (h.2 2 3 (by omega) (by omega))
theorem jb_sur {R : Nat → Nat} (h : jb_pm R) {q : Nat} (hq : q < 4) : ∃ j, j < 4 ∧ R j = q := by
  apply Classical.byContradiction
  intro hn
  have n : ∀ j, j < 4 → R j ≠ q := fun j hj e => hn ⟨j, hj, e⟩
  have e := jb_pm4 h (fun x => if x = q then 1 else 0)
  rw [if_neg (n 0 (by omega)), if_neg (n 1 (by omega)), if_neg (n 2 (by omega)), if_neg (n 3 (by omega))] at e
  obtain rfl | rfl | rfl | rfl : q = 0 ∨ q = 1 ∨ q = 2 ∨ q = 3 := by omega
  all_goals exact absurd e (by decide)
theorem jb_sm_pm {R : Nat → Nat} (h : jb_pm R) (w : Nat → Nat) (S : Nat → Bool) : jb_sm (fun j => w (R j)) (fun j => S (R j)) 4 = jb_sm w S 4 := by
  have e := jb_pm4 h (jb_it w S)
  show 0 + jb_it w S (R 0) + jb_it w S (R 1) + jb_it w S (R 2) + jb_it w S (R 3) = 0 + jb_it w S 0 + jb_it w S 1 + jb_it w S 2 + jb_it w S 3
  omega
theorem jb_q {a : Bool} {x y : Nat} (h : (a && decide (x ≤ y)) = true) : a = true ∧ x ≤ y := by
  rw [Bool.and_eq_true, decide_eq_true_eq] at h
  exact h
theorem jb_q2 {a : Bool} {x y : Nat} (h : a = true) (h2 : x ≤ y) : (a && decide (x ≤ y)) = true := by
  rw [Bool.and_eq_true, decide_eq_true_eq]
  exact ⟨h, h2⟩
/-- the places of the mask s, in the order R, are in time -/
def jb_fe (l d R : Nat → Nat) (s : Nat) : Prop := jb_fs (fun j => l (R j)) (fun j => d (R j)) (fun j => s.testBit (R j)) 4
/-- in time in some order: in time in the order of deadlines -/
theorem jb_edd {l d O R : Nat → Nat} {s : Nat} (hO : jb_pm O) (hR : jb_pm R) (hs : ∀ i j, i ≤ j → j < 4 → d (R i) ≤ d (R j)) (f : jb_fe l d O s) : jb_fe l d R s := by
  intro k hk hb
  have a : jb_sm (fun j => l (O j)) (fun j => s.testBit (O j) && decide (d (O j) ≤ d (R k))) 4 ≤ d (R k) := jb_end 4 (fun j hj hq => (jb_q hq).1) f (fun j hj hq => (jb_q hq).2)
  have b : jb_sm (fun j => l (O j)) (fun j => s.testBit (O j) && decide (d (O j) ≤ d (R k))) 4 = jb_sm l (fun x => s.testBit x && decide (d x ≤ d (R k))) 4 := jb_sm_pm hO l (fun x => s.testBit x && decide (d x ≤ d (R k)))
  have c : jb_sm (fun j => l (R j)) (fun j => s.testBit (R j) && decide (d (R j) ≤ d (R k))) 4 = jb_sm l (fun x => s.testBit x && decide (d x ≤ d (R k))) 4 := jb_sm_pm hR l (fun x => s.testBit x && decide (d x ≤ d (R k)))
  have e : jb_sm (fun j => l (R j)) (fun j => s.testBit (R j)) (k + 1) ≤ jb_sm (fun j => l (R j)) (fun j => s.testBit (R j) && decide (d (R j) ≤ d (R k))) (k + 1) := jb_sm_le (k + 1) (fun j hj hq => jb_q2 hq (hs j k (by omega) hk))
  have g : jb_sm (fun j => l (R j)) (fun j => s.testBit (R j) && decide (d (R j) ≤ d (R k))) (k + 1) ≤ jb_sm (fun j => l (R j)) (fun j => s.testBit (R j) && decide (d (R j) ≤ d (R k))) 4 := jb_sm_mn (by omega)
  show jb_sm (fun j => l (R j)) (fun j => s.testBit (R j)) (k + 1) ≤ d (R k)
  omega
/-! the order that insertion keeps -/
def jb_rk (d R : Nat → Nat) (n : Nat) : Prop := (∀ j, j < n → R j < n) ∧ (∀ i j, i < j → j < n → R i ≠ R j) ∧ (∀ i j, i < j → j < n → d (R i) ≤ d (R j))
theorem jb_rk_pm {d R : Nat → Nat} (h : jb_rk d R 4) : jb_pm R := ⟨h.1, h.2.1⟩
theorem jb_rk_le {d R : Nat → Nat} {n : Nat} (h : jb_rk d R n) (i j : Nat) (hij : i ≤ j) (hj : j < n) : d (R i) ≤ d (R j) := by
  rcases Nat.lt_or_ge i j with z | z
  · exact h.2.2 i j z hj
  · have e : i = j := by omega
    rw [e]
    exact Nat.le_refl _
def jb_ins (R : Nat → Nat) (p i : Nat) : Nat → Nat := fun j => if j < p then R j else if j = p then i else R (j - 1)
theorem jb_ins_l {R : Nat → Nat} {p i j : Nat} (h : j < p) : jb_ins R p i j = R j := by unfold jb_ins; rw [if_pos h]
theorem jb_ins_e {R : Nat → Nat} {p i : Nat} : jb_ins R p i p = i := by unfold jb_ins; rw [if_neg (Nat.lt_irrefl p), if_pos rfl]
theorem jb_ins_g {R : Nat → Nat} {p i j : Nat} (h : p < j) : jb_ins R p i j = R (j - 1) := by unfold jb_ins; rw [if_neg (show ¬ j < p by omega), if_neg (show ¬ j = p by omega)]
theorem jb_rk_ins {d R : Nat → Nat} {n p : Nat} (h : jb_rk d R n) (hp : p ≤ n) (h1 : ∀ j, j < p → d (R j) ≤ d n) (h2 : ∀ j, p ≤ j → j < n → d n ≤ d (R j)) : jb_rk d (jb_ins R p n) (n + 1) := by
  obtain ⟨r1, r2, r3⟩ := h
  refine ⟨fun j hj => ?_, fun i j hij hj => ?_, fun i j hij hj => ?_⟩
  · rcases Nat.lt_trichotomy j p with z | z | z
    · rw [jb_ins_l z]
      have := r1 j (by omega)
      omega
    · rw [z, jb_ins_e]
      omega
    · rw [jb_ins_g z]
      have := r1 (j - 1) (by omega)
      omega
  · rcases Nat.lt_trichotomy i p with y | y | y
    · rw [jb_ins_l y]
      rcases Nat.lt_trichotomy j p with z | z | z
      · rw [jb_ins_l z]
        exact r2 i j hij (by omega)
      · rw [z, jb_ins_e]
        have := r1 i (by omega)
        omega
      · rw [jb_ins_g z]
        exact r2 i (j - 1) (by omega) (by omega)
    · rw [y, jb_ins_e, jb_ins_g (show p < j by omega)]
      have := r1 (j - 1) (by omega)
      omega
    · rw [jb_ins_g y, jb_ins_g (show p < j by omega)]
      exact r2 (i - 1) (j - 1) (by omega) (by omega)
  · rcases Nat.lt_trichotomy i p with y | y | y
    · rw [jb_ins_l y]
      rcases Nat.lt_trichotomy j p with z | z | z
      · rw [jb_ins_l z]
        exact r3 i j hij (by omega)
      · rw [z, jb_ins_e]
        exact h1 i y
      · rw [jb_ins_g z]
        exact r3 i (j - 1) (by omega) (by omega)
    · rw [y, jb_ins_e, jb_ins_g (show p < j by omega)]
      exact h2 (j - 1) (by omega) (by omega)
    · rw [jb_ins_g y, jb_ins_g (show p < j by omega)]
      exact r3 (i - 1) (j - 1) (by omega) (by omega)
end
section
/-! masks below 16 -/
theorem jb_b0 : ∀ m, m < 16 → ∀ i, i < 11 → (((nI m >>> (nI i &&& 31)) &&& 1) = 0 ↔ m.testBit i = false) := by decide +kernel
theorem jb_b1 : ∀ m, m < 16 → ∀ i, i < 4 → (((nI m >>> (nI i &&& 31)) &&& 1) = 1 ↔ m.testBit i = true) := by decide +kernel
theorem jb_or : ∀ m, m < 16 → ∀ i, i < 4 → nI m ||| ((1 : Int32) <<< (nI i &&& 31)) = nI (m ||| 2 ^ i) := by decide +kernel
theorem jb_orl : ∀ m, m < 16 → ∀ i, i < 4 → m ||| 2 ^ i < 16 := by decide +kernel
theorem jb_orb : ∀ m, m < 16 → ∀ i, i < 4 → ∀ x, x < 4 → (m ||| 2 ^ i).testBit x = (if x = i then true else m.testBit x) := by decide +kernel
theorem jb_rm : ∀ m, m < 16 → ∀ i, i < 4 → nI m &&& (((1 : Int32) <<< (nI i &&& 31)) ^^^ (-1)) = nI (m &&& (15 - 2 ^ i)) := by decide +kernel
theorem jb_rml : ∀ m, m < 16 → ∀ i, i < 4 → m &&& (15 - 2 ^ i) < 16 := by decide +kernel
theorem jb_rmb : ∀ m, m < 16 → ∀ i, i < 4 → ∀ x, x < 4 → (m &&& (15 - 2 ^ i)).testBit x = (if x = i then false else m.testBit x) := by decide +kernel
theorem jb_hi : ∀ m, m < 16 → ∀ i, i < 11 → 4 ≤ i → m.testBit i = false := by decide +kernel
theorem jb_i8 : ∀ v, v < 64 → (nI v).toInt8.toInt32 = nI v := by decide +kernel
theorem jb_i16 : ∀ v, v < 64 → (nI v).toInt16.toInt32 = nI v := by decide +kernel
theorem jb_n1 : narrow .boolean (.int (1 : Int32)) = .int 1 := by rfl
theorem jb_n0 : narrow .boolean (.int (0 : Int32)) = .int 0 := by rfl
theorem jb_v1 : vp_nar .boolean 1 = 1 := by rfl
theorem jb_v0 : vp_nar .boolean 0 = 0 := by rfl
theorem jb_nf {b : Bool} (h : ¬ b = false) : b = true := by cases b with | false => exact absurd rfl h | true => rfl
theorem jb_nt {b : Bool} (h : ¬ b = true) : b = false := by cases b with | true => exact absurd rfl h | false => rfl
/-! the picture of a state: n jobs -/
def jb_bd (l d : Nat → Nat) : Prop := ∀ j, j < 4 → 1 ≤ l j ∧ l j ≤ 16 ∧ d j ≤ 63
def jb_St (l d : Nat → Nat) (h : Nat → Bool) (R : Nat → Nat) (n : Nat) (a1 a2 a3 a4 : Nat → Int32) : Prop :=
  (∀ j, j < n → a1 j = nI (l j)) ∧ (∀ j, n ≤ j → j < 11 → a1 j = 0) ∧ (∀ j, j < n → a2 j = nI (d j)) ∧ (∀ j, j < n → a3 j = if h j = true then 1 else 0) ∧ (∀ j, j < n → a4 j = nI (R j))
/-- the longest so far of those that may be given up -/
def jb_lg (l : Nat → Nat) (h : Nat → Bool) (m i : Nat) (x : Int32) : Prop :=
  (x = -1 ∧ ∀ y, y < i → y < 4 → m.testBit y = true → h y = true) ∨ (∃ q, q < 4 ∧ x = nI q ∧ m.testBit q = true ∧ h q = false ∧ ∀ y, y < i → y < 4 → m.testBit y = true → h y = false → l y ≤ l q)
theorem jb_lg_skip {l : Nat → Nat} {h : Nat → Bool} {m i : Nat} {x : Int32} (H : jb_lg l h m i x) (hs : i < 4 → m.testBit i = true → h i = true) : jb_lg l h m (i + 1) x := by
  rcases H with ⟨e, a⟩ | ⟨q, q4, e, qm, qh, a⟩
  · exact Or.inl ⟨e, lt_s a hs⟩
  · exact Or.inr ⟨q, q4, e, qm, qh, lt_s a (fun h4 hm hf => jb_ff hf (hs h4 hm))⟩
theorem jb_give {post : Int32 → St2 → Prop} {l d : Nat → Nat} {h : Nat → Bool} {R : Nat → Nat} {a1 a2 a3 a4 : Nat → Int32} {jc rk ct ti : Int32} {m : Nat} (hm : m < 16) (hb : jb_bd l d) (hS : jb_St l d h R 4 a1 a2 a3 a4)
    (H0 : (∀ y, y < 4 → m.testBit y = true → h y = true) → post 0 (jc, rk, nI m, ct, ti, a1, a2, a3, a4))
    (H1 : ∀ q, q < 4 → m.testBit q = true → h q = false → (∀ y, y < 4 → m.testBit y = true → h y = false → l y ≤ l q) → post 1 (jc, rk, nI (m &&& (15 - 2 ^ q)), ct - 1, ti - nI (l q), a1, a2, a3, a4)) :
    wpX_giveUpLongest post (jc, rk, nI m, ct, ti, a1, a2, a3, a4) := by
  obtain ⟨s1, s2, s3, s4, s5⟩ := hS
  refine pk_loop (σ := Int32) (fun n i x => wX_giveUpLongest_4 post jc rk (nI m) ct ti a1 a2 a3 a4 n x (nI i)) (fun i x => jb_lg l h m i x) 11 0 (-1) (by omega) (Or.inl ⟨rfl, fun y hy => absurd hy (by omega)⟩) ?_ ?_
  · intro n x hx
    refine pk_le 11 11 (fun _ => ?_) (fun z => absurd z (by omega))
    rcases hx with ⟨rfl, a⟩ | ⟨q, q4, rfl, qm, qh, a⟩
    · exact br_f (by decide) (H0 (fun y hy => a y (by omega) hy))
    · exact br_t (nI_pos' (by omega)) (nm_r (jb_rm m hm q q4) (nm_e ⟨pk_in q 11 (by omega), nm_r (e' := ti - nI (l q)) (by rw [nI_clamp (by omega), s1 q q4]) (H1 q q4 qm qh (fun y hy => a y (by omega) hy))⟩))
  · intro n i x hi hx hw
    refine pk_le 11 i (fun z => absurd z (by omega)) (fun _ => ?_)
    refine ek_if (jb_b0 m hm i hi) (fun z => nm_r (nI_1 i) (hw _ (jb_lg_skip hx (fun _ y => jb_ff z y)))) (fun z => ⟨pk_in i 11 hi, ?_⟩)
    have i4 : i < 4 := by
      rcases Nat.lt_or_ge i 4 with y | y
      · exact y
      · exact absurd (jb_hi m hm i hi y) z
    have mi := jb_nf z
    have ec : (nI i).toNatClampNeg = i := nI_clamp (by omega)
    have e3 : a3 (nI i).toNatClampNeg = if h i = true then 1 else 0 := by rw [ec, s4 i i4]
    by_cases hh : h i = true
    · rw [if_pos hh] at e3
      exact br_f (by rw [e3]; decide) (nm_r (nI_1 i) (hw _ (jb_lg_skip hx (fun _ _ => hh))))
    · rw [if_neg hh] at e3
      have hf := jb_nt hh
      refine br_t e3 ?_
      rcases hx with ⟨rfl, a⟩ | ⟨q, q4, rfl, qm, qh, a⟩
      · refine br_t (by decide) (nm_r (nI_1 i) (hw _ (Or.inr ⟨i, i4, rfl, mi, hf, lt_s (fun y hy y4 ym yh => ?_) (fun _ _ _ => Nat.le_refl _)⟩)))
        exact jb_ff yh (a y hy y4 ym)
      · have bi := hb i i4
        have bq := hb q q4
        refine br_f (nI_pos (by omega)) ⟨pk_in i 11 hi, pk_in q 11 (by omega), ?_⟩
        refine pk_le (l i) (l q) (fun z => nm_r (nI_1 i) (hw _ (Or.inr ⟨q, q4, rfl, qm, qh, lt_s a (fun _ _ _ => z)⟩))) (fun z => nm_r (nI_1 i) (hw _ (Or.inr ⟨i, i4, rfl, mi, hf, lt_s (fun y hy y4 ym yh => ?_) (fun _ _ _ => Nat.le_refl _)⟩))) (by rw [ec, s1 i i4]) (by rw [nI_clamp (by omega), s1 q q4]) (by omega) (by omega)
        have := a y hy y4 ym yh
        omega
theorem jb_tb {l d R : Nat → Nat} (hb : jb_bd l d) (hR : jb_rk d R 4) {S : Nat → Bool} {i : Nat} (hi : i ≤ 4) : jb_sm (fun j => l (R j)) S i ≤ 64 := by
  have a := jb_sm_b (w := fun j => l (R j)) (S := S) (B := 16) i (fun j hj => (hb (R j) (hR.1 j (by omega))).2.1)
  omega
theorem jb_a71 {post : Int32 → St2 → Prop} {J : Int32 → Int32 → Int32 → Int32 → Int32 → Int32 → (Nat → Int32) → (Nat → Int32) → (Nat → Int32) → (Nat → Int32) → Prop} {l d : Nat → Nat} {h : Nat → Bool} {R : Nat → Nat} {a1 a2 a3 a4 : Nat → Int32} {jc : Int32} {k m : Nat} (hk : k < 4) (hb : jb_bd l d) (hS : jb_St l d h R 4 a1 a2 a3 a4) (hR : jb_rk d R 4)
    (HJ : ∀ m, m < 16 → (∀ j, k + 1 ≤ j → j < 4 → m.testBit (R j) = false) → jb_iv (fun j => l (R j)) (fun j => d (R j)) (fun j => h (R j)) (fun j => m.testBit (R j)) (k + 1) →
      J (nI (k + 1)) jc (nI 4) (nI m) (nI (jb_sm jb_one (fun j => m.testBit (R j)) (k + 1))) (nI (jb_sm (fun j => l (R j)) (fun j => m.testBit (R j)) (k + 1))) a1 a2 a3 a4)
    (H0 : (∀ T : Nat → Bool, jb_fs (fun j => l (R j)) (fun j => d (R j)) T 4 → (∀ j, j < 4 → h (R j) = true → T j = true) → False) → ∀ x y z, post 0 (jc, nI 4, x, y, z, a1, a2, a3, a4))
    (hm : m < 16) (hz : ∀ j, k + 1 ≤ j → j < 4 → m.testBit (R j) = false) (hp : jb_pd (fun j => l (R j)) (fun j => d (R j)) (fun j => h (R j)) (fun j => m.testBit (R j)) k) :
    ∃ fu, wX_admit_71 post J (nI k) (nI (R k)) fu (nI 0) jc (nI 4) (nI m) (nI (jb_sm jb_one (fun j => m.testBit (R j)) (k + 1))) (nI (jb_sm (fun j => l (R j)) (fun j => m.testBit (R j)) (k + 1))) a1 a2 a3 a4 := by
  have rk := hR.1 k hk
  have hd : ∀ i j, i ≤ j → j < k + 1 → d (R i) ≤ d (R j) := fun i j hij hj => jb_rk_le hR i j hij (by omega)
  refine lp2 (fun n i m => wX_admit_71 post J (nI k) (nI (R k)) n (nI i) jc (nI 4) (nI m) (nI (jb_sm jb_one (fun j => m.testBit (R j)) (k + 1))) (nI (jb_sm (fun j => l (R j)) (fun j => m.testBit (R j)) (k + 1))) a1 a2 a3 a4)
    (fun i m => m < 16 ∧ (∀ j, k + 1 ≤ j → j < 4 → m.testBit (R j) = false) ∧ jb_pd (fun j => l (R j)) (fun j => d (R j)) (fun j => h (R j)) (fun j => m.testBit (R j)) k ∧ i + jb_sm jb_one (fun j => m.testBit (R j)) (k + 1) ≤ 4) (fun i _ => 11 - i) ?_ 0 m ⟨hm, hz, hp, ?_⟩
  rotate_left 1
  · have := jb_sm_c (S := fun j => m.testBit (R j)) (k + 1)
    omega
  intro n i m ⟨hm, hz, hp, hc⟩ hw
  have tb := jb_tb hb hR (S := fun j => m.testBit (R j)) (i := k + 1) (by omega)
  have db := (hb (R k) rk).2.2
  refine pk_le 11 i (fun z => absurd z (by omega)) (fun _ => ⟨pk_in (R k) 11 (by omega), ?_⟩)
  refine pk_le (jb_sm (fun j => l (R j)) (fun j => m.testBit (R j)) (k + 1)) (d (R k)) (fun z => nm_r (nI_1 k) (HJ m hm hz (jb_exit hp z))) (fun z => ?_) rfl (by rw [nI_clamp (by omega)]; exact hS.2.2.1 (R k) rk) (by omega) (by omega)
  refine jb_give hm hb hS (fun hy => br_t rfl (H0 (fun T fT gT => jb_fail hd hp z (fun y y1 y2 => hy (R y) (hR.1 y (by omega)) y2) (by omega) T fT gT) _ _ _)) (fun q q4 qm qh qy => ?_)
  obtain ⟨j, j4, rj⟩ := jb_sur (jb_rk_pm hR) q4
  have jk : j < k + 1 := by
    rcases Nat.lt_or_ge j (k + 1) with y | y
    · exact y
    · have e := hz j y j4
      rw [rj] at e
      exact jb_ff e qm
  have sj : (fun j => m.testBit (R j)) j = true := by rw [← rj] at qm; exact qm
  have ag : ∀ x, x < 4 → jb_up (fun j => m.testBit (R j)) j false x = (m &&& (15 - 2 ^ q)).testBit (R x) := fun x hx => by
    rw [jb_rmb m hm q q4 (R x) (hR.1 x hx)]
    by_cases e : x = j
    · rw [e, jb_up_s, if_pos rj]
    · have ne : R x ≠ q := fun y => by
        rcases Nat.lt_or_ge x j with z1 | z1
        · exact hR.2.1 x j z1 j4 (y.trans rj.symm)
        · exact hR.2.1 j x (by omega) hx (rj.trans y.symm)
      rw [jb_up_n e, if_neg ne]
  have c1 := jb_sm_uf (w := jb_one) (S := fun j => m.testBit (R j)) (i := j) (k + 1) jk sj
  have c2 := jb_sm_uf (w := fun j => l (R j)) (S := fun j => m.testBit (R j)) (i := j) (k + 1) jk sj
  rw [jb_sm_cg (k + 1) (fun x hx => ag x (by omega))] at c1 c2
  have o : jb_one j = 1 := rfl
  rw [rj] at c2
  have e1 : nI (jb_sm jb_one (fun j => m.testBit (R j)) (k + 1)) - 1 = nI (jb_sm jb_one (fun j => (m &&& (15 - 2 ^ q)).testBit (R j)) (k + 1)) := by
    rw [← c1, o]
    exact nI_pred _
  have e2 : nI (jb_sm (fun j => l (R j)) (fun j => m.testBit (R j)) (k + 1)) - nI (l q) = nI (jb_sm (fun j => l (R j)) (fun j => (m &&& (15 - 2 ^ q)).testBit (R j)) (k + 1)) := by
    rw [← c2, pk_sub (by omega), Nat.add_sub_cancel]
  rw [e1, e2]
  refine br_f (by decide) (nm_r (nI_1 i) (hw (i + 1) (m &&& (15 - 2 ^ q)) ⟨jb_rml m hm q q4, fun x hx x4 => ?_, ?_, by omega⟩ (by omega)))
  · rw [← ag x x4, jb_up_n (by omega)]
    exact hz x hx x4
  · refine jb_pd_cg (fun x hx => ag x (by omega)) (jb_drop hd hp z jk sj (by rw [← rj] at qh; exact qh) (fun y y1 y2 y3 => ?_))
    show l (R y) ≤ l (R j)
    rw [rj]
    exact qy (R y) (hR.1 y (by omega)) y2 y3
theorem jb_admit {post : Int32 → St2 → Prop} {l d : Nat → Nat} {h : Nat → Bool} {R : Nat → Nat} {a1 a2 a3 a4 : Nat → Int32} {jc ad ac ti : Int32} (hb : jb_bd l d) (hS : jb_St l d h R 4 a1 a2 a3 a4) (hR : jb_rk d R 4)
    (H1 : ∀ m, m < 16 → jb_iv (fun j => l (R j)) (fun j => d (R j)) (fun j => h (R j)) (fun j => m.testBit (R j)) 4 →
      post 1 (jc, nI 4, nI m, nI (jb_sm jb_one (fun j => m.testBit (R j)) 4), nI (jb_sm (fun j => l (R j)) (fun j => m.testBit (R j)) 4), a1, a2, a3, a4))
    (H0 : (∀ T : Nat → Bool, jb_fs (fun j => l (R j)) (fun j => d (R j)) T 4 → (∀ j, j < 4 → h (R j) = true → T j = true) → False) → ∀ x y z, post 0 (jc, nI 4, x, y, z, a1, a2, a3, a4)) :
    wpX_admit post (jc, nI 4, ad, ac, ti, a1, a2, a3, a4) := by
  refine pk_loop (σ := Nat) (fun n i m => wX_admit_17 post n (nI i) jc (nI 4) (nI m) (nI (jb_sm jb_one (fun j => m.testBit (R j)) i)) (nI (jb_sm (fun j => l (R j)) (fun j => m.testBit (R j)) i)) a1 a2 a3 a4)
    (fun i m => m < 16 ∧ (∀ j, i ≤ j → j < 4 → m.testBit (R j) = false) ∧ jb_iv (fun j => l (R j)) (fun j => d (R j)) (fun j => h (R j)) (fun j => m.testBit (R j)) i) 4 0 0 (by omega) ⟨by omega, fun j _ _ => Nat.zero_testBit _, jb_iv_0⟩ ?_ ?_
  · intro n m ⟨hm, hz, hv⟩
    exact pk_le 4 4 (fun _ => H1 m hm hv) (fun z => absurd z (by omega))
  · intro n i m hi ⟨hm, hz, hv⟩ hw
    have ri := hR.1 i hi
    have bi := hb (R i) ri
    have ec : (nI i).toNatClampNeg = i := nI_clamp (by omega)
    have si : (fun j => m.testBit (R j)) i = false := hz i (by omega) hi
    have ag : ∀ x, x < 4 → jb_up (fun j => m.testBit (R j)) i true x = (m ||| 2 ^ R i).testBit (R x) := fun x hx => by
      rw [jb_orb m hm (R i) ri (R x) (hR.1 x hx)]
      by_cases e : x = i
      · rw [e, jb_up_s, if_pos rfl]
      · have ne : R x ≠ R i := fun y => by
          rcases Nat.lt_or_ge x i with z1 | z1
          · exact hR.2.1 x i z1 hi y
          · exact hR.2.1 i x (by omega) hx y.symm
        rw [jb_up_n e, if_neg ne]
    have c1 := jb_sm_ut (w := jb_one) (S := fun j => m.testBit (R j)) (i := i) (i + 1) (by omega) si
    have c2 := jb_sm_ut (w := fun j => l (R j)) (S := fun j => m.testBit (R j)) (i := i) (i + 1) (by omega) si
    rw [jb_sm_cg (i + 1) (fun x hx => ag x (by omega)), jb_sm_f (S := fun j => m.testBit (R j)) (k := i) si] at c1 c2
    have o : jb_one i = 1 := rfl
    refine pk_le 4 i (fun z => absurd z (by omega)) (fun _ => ⟨pk_in i 11 (by omega), nm_r (e' := nI (R i)) (by rw [ec]; exact hS.2.2.2.2 i hi) (nm_r (jb_or m hm (R i) ri) (nm_r (e' := nI (jb_sm jb_one (fun j => (m ||| 2 ^ R i).testBit (R j)) (i + 1))) ?_ ⟨pk_in (R i) 11 (by omega), nm_r (e' := nI (jb_sm (fun j => l (R j)) (fun j => (m ||| 2 ^ R i).testBit (R j)) (i + 1))) ?_ ?_⟩))⟩)
    · rw [c1, o, nI_1]
    · rw [c2, nI_clamp (by omega), hS.1 (R i) ri, nI_add]
    · refine jb_a71 hi hb hS hR (fun m' hm' hz' hv' => hw m' ⟨hm', hz', hv'⟩) H0 (jb_orl m hm (R i) ri) (fun x hx x4 => ?_) (jb_pd_cg (fun x hx => ag x (by omega)) (jb_enter hv))
      rw [← ag x x4, jb_up_n (by omega)]
      exact hz x (by omega) x4
theorem jb_most {post : Int32 → St2 → Prop} {l d : Nat → Nat} {h : Nat → Bool} {R : Nat → Nat} {a1 a2 a3 a4 : Nat → Int32} {jc ad ac ti : Int32} (hb : jb_bd l d) (hS : jb_St l d h R 4 a1 a2 a3 a4) (hR : jb_rk d R 4)
    (H1 : ∀ m, m < 16 → jb_iv (fun j => l (R j)) (fun j => d (R j)) (fun j => h (R j)) (fun j => m.testBit (R j)) 4 → ∀ x y z,
      post (nI (jb_sm jb_one (fun j => m.testBit (R j)) 4)) (jc, nI 4, x, y, z, a1, a2, a3, a4))
    (H0 : (∀ T : Nat → Bool, jb_fs (fun j => l (R j)) (fun j => d (R j)) T 4 → (∀ j, j < 4 → h (R j) = true → T j = true) → False) → ∀ x y z, post (-3) (jc, nI 4, x, y, z, a1, a2, a3, a4)) :
    wpX_mostInTime post (jc, nI 4, ad, ac, ti, a1, a2, a3, a4) := by
  unfold wpX_mostInTime
  dsimp only
  exact jb_admit hb hS hR (fun m hm hv => br_f (by decide) (H1 m hm hv _ _ _)) (fun hn x y z => br_t rfl (H0 hn x y z))
theorem jb_least {post : Int32 → St2 → Prop} {l d : Nat → Nat} {h : Nat → Bool} {R : Nat → Nat} {a1 a2 a3 a4 : Nat → Int32} {jc ad ac ti : Int32} (hb : jb_bd l d) (hS : jb_St l d h R 4 a1 a2 a3 a4) (hR : jb_rk d R 4)
    (H1 : ∀ m, m < 16 → jb_iv (fun j => l (R j)) (fun j => d (R j)) (fun j => h (R j)) (fun j => m.testBit (R j)) 4 → ∀ x y z,
      post (nI (jb_sm (fun j => l (R j)) (fun j => m.testBit (R j)) 4)) (jc, nI 4, x, y, z, a1, a2, a3, a4))
    (H0 : (∀ T : Nat → Bool, jb_fs (fun j => l (R j)) (fun j => d (R j)) T 4 → (∀ j, j < 4 → h (R j) = true → T j = true) → False) → ∀ x y z, post (-3) (jc, nI 4, x, y, z, a1, a2, a3, a4)) :
    wpX_leastTime post (jc, nI 4, ad, ac, ti, a1, a2, a3, a4) := by
  unfold wpX_leastTime
  dsimp only
  exact jb_admit hb hS hR (fun m hm hv => br_f (by decide) (H1 m hm hv _ _ _)) (fun hn x y z => br_t rfl (H0 hn x y z))
theorem jb_isPlace {post : Int32 → Prop} {l d : Nat → Nat} {h : Nat → Bool} {R : Nat → Nat} {a1 a2 a3 a4 : Nat → Int32} {jc rk ad ac ti : Int32} {j : Nat} (hj : j < 4) (hb : jb_bd l d) (hS : jb_St l d h R 4 a1 a2 a3 a4) (H : post 1) :
    wpX_isPlace post (jc, rk, ad, ac, ti, a1, a2, a3, a4) (nI j) := by
  have b := hb j hj
  exact br_f (nI_pos (by omega)) (pk_lt 9 j (fun z => absurd z (by omega)) (fun _ => ⟨pk_in j 11 (by omega), br_f (by rw [nI_clamp (by omega), hS.1 j hj]; exact nI_ne0 (by omega) (by omega)) H⟩))
theorem jb_aff {post : Int32 → St2 → Prop} {l d : Nat → Nat} {h : Nat → Bool} {R : Nat → Nat} {a1 a2 a3 a4 : Nat → Int32} {jc ad ac ti : Int32} {j : Nat} (hj : j < 4) (hb : jb_bd l d) (hS : jb_St l d h R 4 a1 a2 a3 a4) (hR : jb_rk d R 4)
    (HN : (∀ T : Nat → Bool, jb_fs (fun j => l (R j)) (fun j => d (R j)) T 4 → (∀ j, j < 4 → h (R j) = true → T j = true) → False) → ∀ x y z b3, post 0 (jc, nI 4, x, y, z, a1, a2, b3, a4))
    (HA : ∀ m m', m < 16 → m' < 16 → jb_iv (fun j => l (R j)) (fun j => d (R j)) (fun j => h (R j)) (fun j => m.testBit (R j)) 4 →
      jb_iv (fun j => l (R j)) (fun j => d (R j)) (fun i => jb_up h j true (R i)) (fun j => m'.testBit (R j)) 4 → ∀ r : Int32,
      (jb_sm jb_one (fun j => m'.testBit (R j)) 4 = jb_sm jb_one (fun j => m.testBit (R j)) 4 ∧ r = 1 ∨ jb_sm jb_one (fun j => m'.testBit (R j)) 4 ≠ jb_sm jb_one (fun j => m.testBit (R j)) 4 ∧ r = 0) → ∀ x y z b3, post r (jc, nI 4, x, y, z, a1, a2, b3, a4))
    (HC : ∀ m, m < 16 → jb_iv (fun j => l (R j)) (fun j => d (R j)) (fun j => h (R j)) (fun j => m.testBit (R j)) 4 →
      (∀ T : Nat → Bool, jb_fs (fun j => l (R j)) (fun j => d (R j)) T 4 → (∀ i, i < 4 → jb_up h j true (R i) = true → T i = true) → False) → ∀ x y z b3, post 0 (jc, nI 4, x, y, z, a1, a2, b3, a4)) :
    wpX_affordable post (jc, nI 4, ad, ac, ti, a1, a2, a3, a4) (nI j) := by
  have ec : (nI j).toNatClampNeg = j := nI_clamp (by omega)
  unfold wpX_affordable
  dsimp only
  refine jb_isPlace hj hb hS (br_f (by decide) ?_)
  refine jb_admit hb hS hR (fun m hm hv => ?_) (fun hn x y z => br_t rfl (HN hn x y z a3))
  refine br_f (by decide) ⟨pk_in j 11 (by omega), nm_e ⟨pk_in j 11 (by omega), nm_r (e' := upd a3 j 1) (by rw [ec]) ?_⟩⟩
  have hS' : jb_St l d (jb_up h j true) R 4 a1 a2 (upd a3 j 1) a4 := by
    refine ⟨hS.1, hS.2.1, hS.2.2.1, fun i hi => ?_, hS.2.2.2.2⟩
    by_cases e : i = j
    · rw [e, pk_us, jb_up_s, if_pos rfl]
    · rw [pk_un e, jb_up_n e]
      exact hS.2.2.2.1 i hi
  refine jb_admit (h := jb_up h j true) hb hS' hR (fun m' hm' hv' => br_f (by decide) ?_) (fun hn x y z => br_t rfl ?_)
  · have c1 := jb_sm_c (S := fun j => m.testBit (R j)) 4
    have c2 := jb_sm_c (S := fun j => m'.testBit (R j)) 4
    refine pk_eq (jb_sm jb_one (fun j => m'.testBit (R j)) 4) (jb_sm jb_one (fun j => m.testBit (R j)) 4) (fun e => ?_) (fun e => ?_)
    · unfold wX_affordable_56
      exact ⟨pk_in j 11 (by omega), nm_e ⟨jb_n1, HA m m' hm hm' hv hv' 1 (Or.inl ⟨e, rfl⟩) _ _ _ _⟩⟩
    · unfold wX_affordable_55 wX_affordable_56
      exact ⟨pk_in j 11 (by omega), nm_e ⟨jb_n0, HA m m' hm hm' hv hv' 0 (Or.inr ⟨e, rfl⟩) _ _ _ _⟩⟩
  · unfold wX_affordable_55 wX_affordable_56
    exact ⟨pk_in j 11 (by omega), nm_e ⟨jb_n0, HC m hm hv hn _ _ _ _⟩⟩
theorem jb_inTime {post : Int32 → Prop} {l d : Nat → Nat} {h : Nat → Bool} {R : Nat → Nat} {a1 a2 a3 a4 : Nat → Int32} {jc ad ac ti : Int32} {s : Nat} (hs : s < 16) (hb : jb_bd l d) (hS : jb_St l d h R 4 a1 a2 a3 a4) (hR : jb_rk d R 4)
    (H1 : jb_fe l d R s → post 1) (H0 : ¬ jb_fe l d R s → post 0) : wpX_inTime post (jc, nI 4, ad, ac, ti, a1, a2, a3, a4) (nI s) := by
  refine pk_loop (σ := Unit) (fun n i _ => wX_inTime_4 post (nI s) jc (nI 4) ad ac ti a1 a2 a3 a4 n (nI (jb_sm (fun j => l (R j)) (fun j => s.testBit (R j)) i)) (nI i)) (fun i _ => jb_fs (fun j => l (R j)) (fun j => d (R j)) (fun j => s.testBit (R j)) i) 4 0 () (by omega) (fun j hj => absurd hj (by omega)) ?_ ?_
  · intro n _ hf
    exact pk_le 4 4 (fun _ => H1 hf) (fun z => absurd z (by omega))
  · intro n i _ hi hf hw
    have ri := hR.1 i hi
    have ec : (nI i).toNatClampNeg = i := nI_clamp (by omega)
    have rc : (nI (R i)).toNatClampNeg = R i := nI_clamp (by omega)
    have b := hb (R i) ri
    have tb := jb_tb hb hR (S := fun j => s.testBit (R j)) (i := i + 1) (by omega)
    refine pk_le 4 i (fun z => absurd z (by omega)) (fun _ => ⟨pk_in i 11 (by omega), nm_r (e' := nI (R i)) (by rw [ec]; exact hS.2.2.2.2 i hi) ?_⟩)
    refine ek_if (jb_b0 s hs (R i) (by omega)) (fun z => nm_r (nI_1 i) ?_) (fun z => ⟨pk_in (R i) 11 (by omega), nm_r (e' := nI (jb_sm (fun j => l (R j)) (fun j => s.testBit (R j)) (i + 1))) ?_ ⟨pk_in (R i) 11 (by omega), ?_⟩⟩)
    · have w : wX_inTime_4 post (nI s) jc (nI 4) ad ac ti a1 a2 a3 a4 n (nI (jb_sm (fun j => l (R j)) (fun j => s.testBit (R j)) (i + 1))) (nI (i + 1)) := hw () (lt_s (p := fun j => s.testBit (R j) = true → _) hf (fun y => jb_ff z y))
      rw [jb_sm_f (S := fun j => s.testBit (R j)) (k := i) z] at w
      exact w
    · rw [rc, hS.1 _ ri, nI_add, jb_sm_t (S := fun j => s.testBit (R j)) (k := i) (jb_nf z)]
    · exact pk_le (jb_sm (fun j => l (R j)) (fun j => s.testBit (R j)) (i + 1)) (d (R i)) (fun y => nm_r (nI_1 i) (hw () (lt_s (p := fun j => s.testBit (R j) = true → _) hf (fun _ => y)))) (fun y => H0 (fun hf' => absurd (hf' i hi (jb_nf z)) (Nat.not_le_of_lt y))) rfl (by rw [rc]; exact hS.2.2.1 _ ri) (by omega) (by omega)
theorem jb_xfe {post : Int32 → Prop} {l d : Nat → Nat} {h : Nat → Bool} {R : Nat → Nat} {a1 a2 a3 a4 : Nat → Int32} {jc ad ac ti : Int32} {s : Nat} (hs : s < 16) (hb : jb_bd l d) (hS : jb_St l d h R 4 a1 a2 a3 a4) (hR : jb_rk d R 4)
    (H1 : jb_fe l d R s → post 1) (H0 : ¬ jb_fe l d R s → post 0) : wpX_feasible post (jc, nI 4, ad, ac, ti, a1, a2, a3, a4) (nI s) := by
  refine br_f (nI_pos (by omega)) (pk_le s 1023 (fun _ => ?_) (fun z => absurd z (by omega)))
  refine pk_loop (σ := Unit) (fun n i _ => wX_feasible_15 post (nI s) jc (nI 4) ad ac ti a1 a2 a3 a4 n (nI i)) (fun _ _ => True) 10 0 () (by omega) trivial ?_ ?_
  · intro n _ _
    exact pk_le 10 10 (fun _ => jb_inTime hs hb hS hR (fun f => ⟨jb_n1, H1 f⟩) (fun f => ⟨jb_n0, H0 f⟩)) (fun z => absurd z (by omega))
  · intro n i _ hi _ hw
    refine pk_le 10 i (fun z => absurd z (by omega)) (fun _ => ek_if (jb_b0 s hs i (by omega)) (fun z => nm_r (nI_1 i) (hw () trivial)) (fun z => ⟨pk_in i 11 (by omega), br_f ?_ (nm_r (nI_1 i) (hw () trivial))⟩))
    have i4 : i < 4 := by
      rcases Nat.lt_or_ge i 4 with y | y
      · exact y
      · exact absurd (jb_hi s hs i (by omega) y) z
    have b := hb i i4
    rw [nI_clamp (by omega), hS.1 i i4]
    exact nI_ne0 (by omega) (by omega)
theorem jb_k16 : ∀ i, i < 4 → ((nI 16 >>> (nI i &&& 31)) &&& 1) = 0 := by decide +kernel
theorem jb_xf16 {post : Int32 → Prop} {a1 a2 a3 a4 : Nat → Int32} {jc rk ad ac ti : Int32} (h4 : a1 4 = 0) (H : post 0) : wpX_feasible post (jc, rk, ad, ac, ti, a1, a2, a3, a4) 16 := by
  refine br_f (by decide) (br_t (by decide) ?_)
  refine pk_loop (σ := Unit) (fun n i _ => wX_feasible_15 post (nI 16) jc rk ad ac ti a1 a2 a3 a4 n (nI i)) (fun _ _ => True) 4 0 () (by omega) trivial ?_ ?_
  · intro n _ _
    exact pk_le 10 4 (fun z => absurd z (by omega)) (fun _ => br_f (by decide) ⟨pk_in 4 11 (by omega), br_t (by rw [nI_clamp (by omega)]; exact h4) H⟩)
  · intro n i _ hi _ hw
    exact pk_le 10 i (fun z => absurd z (by omega)) (fun _ => br_t (jb_k16 i hi) (nm_r (nI_1 i) (hw () trivial)))
theorem jb_insert {post : St2 → Prop} {d R : Nat → Nat} {n : Nat} {a1 a2 a3 a4 : Nat → Int32} {jc ad ac ti : Int32} (hn : n < 4) (hd : ∀ j, j < 4 → d j ≤ 63) (h2 : ∀ j, j < n + 1 → a2 j = nI (d j)) (hR : jb_rk d R n) (h4 : ∀ j, j < n → a4 j = nI (R j))
    (H : ∀ (R' : Nat → Nat) (a4' : Nat → Int32), jb_rk d R' (n + 1) → (∀ j, j < n + 1 → a4' j = nI (R' j)) → post (jc, nI (n + 1), ad, ac, ti, a1, a2, a3, a4')) :
    wpX_insert post (jc, nI n, ad, ac, ti, a1, a2, a3, a4) (nI n) := by
  have fin : ∀ (p : Nat) (s : Nat → Int32), p ≤ n → (∀ j, j < p → s j = nI (R j)) → (∀ j, p < j → j < n + 1 → s j = nI (R (j - 1))) → (∀ j, p ≤ j → j < n → d n ≤ d (R j)) → (∀ j, j < p → d (R j) ≤ d n) → wX_insert_51 post (nI n) (nI p) jc (nI n) ad ac ti a1 a2 a3 s := by
    intro p s hp s1 s2 s3 s4
    unfold wX_insert_51
    refine ⟨pk_in p 11 (by omega), nm_r (e' := upd s p (nI n)) (by rw [nI_clamp (by omega), jb_i8 n (by omega)]) (nm_r (nI_1 n) (H (jb_ins R p n) _ (jb_rk_ins hR hp s4 s3) (fun j hj => ?_)))⟩
    rcases Nat.lt_trichotomy j p with z | z | z
    · rw [pk_un (by omega), jb_ins_l z]
      exact s1 j z
    · rw [z, pk_us, jb_ins_e]
    · rw [pk_un (by omega), jb_ins_g z]
      exact s2 j z hj
  refine ⟨n + 1, pk_loopD (σ := Nat → Int32) (fun f p s => wX_insert_5 post (nI n) jc (nI n) ad ac ti f (nI p) a1 a2 a3 s) (fun p s => p ≤ n ∧ (∀ j, j < p → s j = nI (R j)) ∧ (∀ j, p < j → j < n + 1 → s j = nI (R (j - 1))) ∧ (∀ j, p ≤ j → j < n → d n ≤ d (R j))) ?_ ?_ n a4 ⟨by omega, h4, fun j _ _ => absurd (show n < j by assumption) (by omega), fun j _ _ => absurd (show n ≤ j by assumption) (by omega)⟩⟩
  · intro f s ⟨hp, s1, s2, s3⟩
    exact pk_le 0 0 (fun _ => fin 0 s hp s1 s2 s3 (fun j hj => absurd hj (by omega))) (fun z => absurd z (by omega))
  · intro f p s ⟨hp, s1, s2, s3⟩ hw
    have e1 : nI (p + 1) - 1 = nI p := nI_pred p
    have c1 : (nI (p + 1) - 1).toNatClampNeg = p := by rw [e1, nI_clamp (by omega)]
    have rp := hR.1 p (by omega)
    have e4 : s (nI (p + 1) - 1).toNatClampNeg = nI (R p) := by rw [c1]; exact s1 p (by omega)
    have ea : a2 (s (nI (p + 1) - 1).toNatClampNeg).toNatClampNeg = nI (d (R p)) := by rw [e4, nI_clamp (by omega)]; exact h2 _ (by omega)
    have eb : a2 (nI n).toNatClampNeg = nI (d n) := by rw [nI_clamp (by omega)]; exact h2 _ (by omega)
    have b1 := hd n hn
    have b2 := hd (R p) (by omega)
    refine pk_le (p + 1) 0 (fun z => absurd z (by omega)) (fun _ => ⟨pk_in p 11 (by omega) e1, pk_in (R p) 11 (by omega) e4, pk_in n 11 (by omega), ?_⟩)
    refine pk_le (d (R p)) (d n) (fun z => fin (p + 1) s hp s1 s2 s3 (fun j hj => ?_)) (fun z => ⟨pk_in p 11 (by omega) e1, pk_in (p + 1) 11 (by omega), nm_r (e' := upd s (p + 1) (nI (R p))) ?_ (nm_r (pk_m1 p) (hw _ ⟨by omega, fun j hj => ?_, fun j hj hj2 => ?_, fun j hj hj2 => ?_⟩))⟩) ea eb (by omega) (by omega)
    · exact Nat.le_trans (jb_rk_le hR j p (by omega) (by omega)) z
    · rw [e4, vp_nar_byte, jb_i8 (R p) (by omega), nI_clamp (by omega)]
    · rw [pk_un (by omega)]
      exact s1 j (by omega)
    · by_cases e : j = p + 1
      · rw [e, pk_us]
        rfl
      · rw [pk_un e]
        exact s2 j (by omega) hj2
    · by_cases e : j = p
      · rw [e]
        omega
      · exact s3 j (by omega) hj2
theorem jb_isJob {post : Int32 → Prop} {u : St2} {l d : Nat} (h : 1 ≤ l ∧ l ≤ 16 ∧ d ≤ 63) (H : post 1) : wpX_isJob post u (nI l) (nI d) := by
  obtain ⟨x1, x2, x3, x4, x5, x6, x7, x8, x9⟩ := u
  exact pk_lt l 1 (fun z => absurd z (by omega)) (fun _ => pk_lt 50 l (fun z => absurd z (by omega)) (fun _ => pk_lt d 0 (fun z => absurd z (by omega)) (fun _ => pk_lt 200 d (fun z => absurd z (by omega)) (fun _ => H))))
theorem jb_put {post : Int32 → St2 → Prop} {l d : Nat → Nat} {h : Nat → Bool} {R : Nat → Nat} {n : Nat} {a1 a2 a3 a4 : Nat → Int32} {ad ac ti z : Int32} (hn : n < 4) (hb : jb_bd l d) (hS : jb_St l d h R n a1 a2 a3 a4) (hR : jb_rk d R n) (hz : z = if h n = true then 1 else 0)
    (H : ∀ (R' : Nat → Nat) (b1 b2 b3 b4 : Nat → Int32), jb_rk d R' (n + 1) → jb_St l d h R' (n + 1) b1 b2 b3 b4 → post (nI n) (nI (n + 1), nI (n + 1), ad, ac, ti, b1, b2, b3, b4)) :
    wpX_put post (nI n, nI n, ad, ac, ti, a1, a2, a3, a4) (nI (l n)) (nI (d n)) z := by
  have b := hb n hn
  have ec : (nI n).toNatClampNeg = n := nI_clamp (by omega)
  have zn : vp_nar .boolean z = z := by
    rw [hz]
    by_cases hh : h n = true
    · rw [if_pos hh]
      exact jb_v1
    · rw [if_neg hh]
      exact jb_v0
  refine pk_lt n 10 (fun _ => ?_) (fun z => absurd z (by omega))
  refine jb_isJob b (br_f (by decide) ?_)
  refine pk_loop (σ := Unit) (fun f i _ => wX_put_26 post (nI (l n)) (nI (d n)) z (nI n) (nI n) ad ac ti a1 a2 a3 a4 f (nI i)) (fun _ _ => True) n 0 () (by omega) trivial ?_ ?_
  · intro f _ _
    refine pk_le 9 n (fun z => absurd z (by omega)) (fun _ => ⟨pk_in n 11 (by omega), br_t (by rw [ec]; exact hS.2.1 n (by omega) (by omega)) ?_⟩)
    unfold wX_put_49
    refine ⟨pk_in n 11 (by omega), nm_r (e' := upd a1 n (nI (l n))) (by rw [ec, jb_i8 _ (by omega)]) ⟨pk_in n 11 (by omega), nm_r (e' := upd a2 n (nI (d n))) (by rw [ec, jb_i16 _ (by omega)]) ⟨pk_in n 11 (by omega), nm_r (e' := upd a3 n z) (by rw [ec, zn]) (nm_r (nI_1 n) ?_)⟩⟩⟩
    have st : ∀ {f : Nat → Int32} {g : Nat → Int32} {x : Int32}, (∀ j, j < n → f j = g j) → x = g n → ∀ j, j < n + 1 → upd f n x j = g j := by
      intro f g x hf hx j hj
      by_cases e : j = n
      · rw [e, pk_us]
        exact hx
      · rw [pk_un e]
        exact hf j (by omega)
    have h2 : ∀ j, j < n + 1 → upd a2 n (nI (d n)) j = nI (d j) := st (g := fun j => nI (d j)) hS.2.2.1 rfl
    refine jb_insert hn (fun j hj => (hb j hj).2.2) h2 hR hS.2.2.2.2 (fun R' a4' hR' h4' => H R' _ _ _ _ hR' ⟨st (g := fun j => nI (l j)) hS.1 rfl, fun j hj hj2 => ?_, h2, st (g := fun j => if h j = true then 1 else 0) hS.2.2.2.1 hz, h4'⟩)
    rw [pk_un (by omega)]
    exact hS.2.1 j (by omega) hj2
  · intro f i _ hi _ hw
    have bi := hb i (by omega)
    exact pk_le 9 i (fun z => absurd z (by omega)) (fun _ => ⟨pk_in i 11 (by omega), br_f (by rw [nI_clamp (by omega), hS.1 i hi]; exact nI_ne0 (by omega) (by omega)) (nm_r (nI_1 i) (hw () trivial))⟩)
end
section
/-! the law's own methods: lengths and deadlines of a word, the 24 orders, times -/
def jb_vl (w : Int64) (l d : Nat → Nat) : Prop := ∀ k, k < 4 → (1 + (((w >>> ((10 * nI k).toInt64 &&& 63)).toInt32) &&& 15)) = nI (l k) ∧ (((w >>> (((10 * nI k) + 4).toInt64 &&& 63)).toInt32) &&& 63) = nI (d k)
theorem jb_word (w : Int64) : ∃ l d : Nat → Nat, jb_bd l d ∧ jb_vl w l d := by
  refine ⟨fun k => 1 + ((w >>> ((10 * nI k).toInt64 &&& 63)).toInt32).toBitVec.toNat % 2 ^ 4, fun k => ((w >>> (((10 * nI k) + 4).toInt64 &&& 63)).toInt32).toBitVec.toNat % 2 ^ 6, fun k _ => ?_, fun k _ => ⟨?_, pk_and _ 6 (by decide)⟩⟩
  · have a := Nat.mod_lt ((w >>> ((10 * nI k).toInt64 &&& 63)).toInt32).toBitVec.toNat (show 0 < 2 ^ 4 by decide)
    have b := Nat.mod_lt ((w >>> (((10 * nI k) + 4).toInt64 &&& 63)).toInt32).toBitVec.toNat (show 0 < 2 ^ 6 by decide)
    refine ⟨Nat.le_add_right _ _, ?_, ?_⟩
    · dsimp only
      omega
    · dsimp only
      omega
  · rw [pk_and _ (m := 15) 4 (by decide), ← nI_add]
    rfl
theorem jb_len {post : Int32 → Prop} {w : Int64} {l d : Nat → Nat} {k : Nat} (hv : jb_vl w l d) (hk : k < 4) (H : post (nI (l k))) : wpL_length post () w (nI k) := by
  unfold wpL_length
  rw [(hv k hk).1]
  exact H
theorem jb_dl {post : Int32 → Prop} {w : Int64} {l d : Nat → Nat} {k : Nat} (hv : jb_vl w l d) (hk : k < 4) (H : post (nI (d k))) : wpL_deadline post () w (nI k) := by
  unfold wpL_deadline
  rw [(hv k hk).2]
  exact H
theorem jb_tbO {l d O : Nat → Nat} (hb : jb_bd l d) (hO : ∀ j, j < 4 → O j < 4) {S : Nat → Bool} {i : Nat} (hi : i ≤ 4) : jb_sm (fun j => l (O j)) S i ≤ 64 := by
  have a := jb_sm_b (w := fun j => l (O j)) (S := S) (B := 16) i (fun j hj => (hb (O j) (hO j (by omega))).2.1)
  omega
theorem jb_o45 {post : Int32 → Prop} {J : Int32 → Int32 → Prop} {w : Int64} {x3 x4 x5 x6 : Int32} {l d : Nat → Nat} {s t i o : Nat} (hv : jb_vl w l d) (hb : jb_bd l d) (hs : s < 16) (ho : o < 4) (ht : t ≤ 64)
    (Hf : s.testBit o = false → J (nI t) (nI (i + 1))) (Ht : s.testBit o = true → t + l o ≤ d o → J (nI (t + l o)) (nI (i + 1))) (H0 : s.testBit o = true → d o < t + l o → post 0) :
    wL_inOrder_45 post J w (nI s) x3 x4 x5 x6 (nI t) (nI i) (nI o) := by
  have b := hb o ho
  unfold wL_inOrder_45
  refine ek_if (jb_b1 s hs o ho) (fun z => jb_len hv ho (nm_r (nI_add t (l o)) (jb_dl hv ho ?_))) (fun z => nm_r (nI_1 i) (Hf (jb_nt z)))
  exact pk_le (t + l o) (d o) (fun y => nm_r (nI_1 i) (Ht z y)) (fun y => H0 z y) rfl rfl (by omega) (by omega)
theorem jb_ord {post : Int32 → Prop} {w : Int64} {l d O : Nat → Nat} {s : Nat} (hv : jb_vl w l d) (hb : jb_bd l d) (hs : s < 16) (hO : ∀ j, j < 4 → O j < 4) (H1 : jb_fe l d O s → post 1) (H0 : ¬ jb_fe l d O s → post 0) :
    wpL_inOrder post () w (nI s) (nI (O 0)) (nI (O 1)) (nI (O 2)) (nI (O 3)) := by
  refine pk_loop (σ := Unit) (fun n i _ => wL_inOrder_6 post w (nI s) (nI (O 0)) (nI (O 1)) (nI (O 2)) (nI (O 3)) n (nI (jb_sm (fun j => l (O j)) (fun j => s.testBit (O j)) i)) (nI i)) (fun i _ => jb_fs (fun j => l (O j)) (fun j => d (O j)) (fun j => s.testBit (O j)) i) 4 0 () (by omega) (fun j hj => absurd hj (by omega)) ?_ ?_
  · intro n _ hf
    exact pk_le 4 4 (fun _ => H1 hf) (fun z => absurd z (by omega))
  · intro n i _ hi hf hw
    have w1 : ∀ t, jb_fs (fun j => l (O j)) (fun j => d (O j)) (fun j => s.testBit (O j)) (i + 1) → jb_sm (fun j => l (O j)) (fun j => s.testBit (O j)) (i + 1) = t → wL_inOrder_6 post w (nI s) (nI (O 0)) (nI (O 1)) (nI (O 2)) (nI (O 3)) n (nI t) (nI (i + 1)) := fun t h e => by
      rw [← e]
      exact hw () h
    have step : wL_inOrder_45 post (wL_inOrder_6 post w (nI s) (nI (O 0)) (nI (O 1)) (nI (O 2)) (nI (O 3)) n) w (nI s) (nI (O 0)) (nI (O 1)) (nI (O 2)) (nI (O 3)) (nI (jb_sm (fun j => l (O j)) (fun j => s.testBit (O j)) i)) (nI i) (nI (O i)) :=
      jb_o45 hv hb hs (hO i hi) (jb_tbO hb hO (by omega))
        (fun z => w1 _ (lt_s (p := fun j => s.testBit (O j) = true → _) hf (fun y => jb_ff z y)) (jb_sm_f (S := fun j => s.testBit (O j)) (k := i) z))
        (fun z y => w1 _ (lt_s (p := fun j => s.testBit (O j) = true → _) hf (fun _ => by rw [jb_sm_t (S := fun j => s.testBit (O j)) (k := i) z]; exact y)) (jb_sm_t (S := fun j => s.testBit (O j)) (k := i) z))
        (fun z y => H0 (fun hf' => by
          have a := hf' i hi z
          rw [jb_sm_t (S := fun j => s.testBit (O j)) (k := i) z] at a
          exact absurd a (Nat.not_le_of_lt y)))
    refine pk_le 4 i (fun z => absurd z (by omega)) (fun _ => pk_eq i 0 (fun e => ?_) (fun e => pk_eq i 1 (fun e1 => ?_) (fun e1 => pk_eq i 2 (fun e2 => ?_) (fun e2 => ?_))))
    · subst e
      exact step
    · subst e1
      exact step
    · subst e2
      exact step
    · have e3 : i = 3 := by omega
      subst e3
      exact step
def jb_O (a b c e : Nat) : Nat → Nat
  | 0 => a
  | 1 => b
  | 2 => c
  | _ => e
theorem jb_pmO {a b c e : Nat} (ha : a < 4) (hb : b < 4) (hc : c < 4) (he : e < 4) (ab : a ≠ b) (ac : a ≠ c) (ae : a ≠ e) (bc : b ≠ c) (be : b ≠ e) (ce : c ≠ e) : jb_pm (jb_O a b c e) := by
  refine ⟨fun j hj => ?_, fun i j hij hj => ?_⟩
  · obtain rfl | rfl | rfl | rfl : j = 0 ∨ j = 1 ∨ j = 2 ∨ j = 3 := by omega
    · exact ha
    · exact hb
    · exact hc
    · exact he
  · obtain ⟨rfl, rfl⟩ | ⟨rfl, rfl⟩ | ⟨rfl, rfl⟩ | ⟨rfl, rfl⟩ | ⟨rfl, rfl⟩ | ⟨rfl, rfl⟩ : (i = 0 ∧ j = 1) ∨ (i = 0 ∧ j = 2) ∨ (i = 0 ∧ j = 3) ∨ (i = 1 ∧ j = 2) ∨ (i = 1 ∧ j = 3) ∨ (i = 2 ∧ j = 3) := by omega
    · exact ab
    · exact ac
    · exact ae
    · exact bc
    · exact be
    · exact ce
theorem jb_sm_cg2 {w v : Nat → Nat} {S T : Nat → Bool} (k : Nat) (h : ∀ j, j < k → S j = T j) (h2 : ∀ j, j < k → w j = v j) : jb_sm w S k = jb_sm v T k := by
  induction k with
  | zero => rfl
  | succ k ih =>
    have e := ih (fun j hj => h j (by omega)) (fun j hj => h2 j (by omega))
    have e2 := h k (by omega)
    have e3 := h2 k (by omega)
    cases hs : S k with
    | false => rw [jb_sm_f hs, jb_sm_f (e2.symm.trans hs), e]
    | true => rw [jb_sm_t hs, jb_sm_t (e2.symm.trans hs), e, e3]
theorem jb_fe_cg {l d O R : Nat → Nat} {s : Nat} (e : ∀ j, j < 4 → R j = O j) (f : jb_fe l d R s) : jb_fe l d O s := fun j hj hs => by
  have hs' : s.testBit (O j) = true := hs
  have a : jb_sm (fun j => l (R j)) (fun j => s.testBit (R j)) (j + 1) ≤ d (R j) := f j hj (show s.testBit (R j) = true by rw [e j hj]; exact hs')
  rw [jb_sm_cg2 (v := fun j => l (O j)) (T := fun j => s.testBit (O j)) (j + 1) (fun x hx => by rw [e x (by omega)]) (fun x hx => by rw [e x (by omega)]), e j hj] at a
  exact a
/-- the two places left beside a and b, as the inner loop finds them -/
def jb_cd (a b : Nat) : Nat → Int32 × Int32
  | 0 => (-1, -1)
  | k + 1 => if k = a ∨ k = b then jb_cd a b k else if (jb_cd a b k).1 < 0 then (nI k, (jb_cd a b k).2) else ((jb_cd a b k).1, nI k)
def jb_c3 (a b : Nat) : Nat := if a ≠ 0 ∧ b ≠ 0 then 0 else if a ≠ 1 ∧ b ≠ 1 then 1 else 2
def jb_e3 (a b : Nat) : Nat := 6 - a - b - jb_c3 a b
theorem jb_cdE1 : ∀ a, a < 4 → ∀ b, b < 4 → a = b ∨ ((jb_cd a b 4).1 = nI (jb_c3 a b) ∧ (jb_cd a b 4).2 = nI (jb_e3 a b)) := by decide +kernel
theorem jb_cdE2 : ∀ a, a < 4 → ∀ b, b < 4 → a = b ∨ (jb_c3 a b < 4 ∧ jb_e3 a b < 4 ∧ ¬ jb_c3 a b = jb_e3 a b) := by decide +kernel
theorem jb_cdE3 : ∀ a, a < 4 → ∀ b, b < 4 → a = b ∨ (¬ a = jb_c3 a b ∧ ¬ a = jb_e3 a b ∧ ¬ b = jb_c3 a b ∧ ¬ b = jb_e3 a b) := by decide +kernel
theorem jb_cdE {a b : Nat} (ha : a < 4) (hb : b < 4) (ne : a ≠ b) : (jb_cd a b 4).1 = nI (jb_c3 a b) ∧ (jb_cd a b 4).2 = nI (jb_e3 a b) ∧ jb_c3 a b < 4 ∧ jb_e3 a b < 4 ∧ a ≠ jb_c3 a b ∧ a ≠ jb_e3 a b ∧ b ≠ jb_c3 a b ∧ b ≠ jb_e3 a b ∧ jb_c3 a b ≠ jb_e3 a b := by
  rcases jb_cdE1 a ha b hb with z | ⟨u1, u2⟩
  · exact absurd z ne
  rcases jb_cdE2 a ha b hb with z | ⟨u3, u4, u5⟩
  · exact absurd z ne
  rcases jb_cdE3 a ha b hb with z | ⟨u6, u7, u8, u9⟩
  · exact absurd z ne
  exact ⟨u1, u2, u3, u4, u6, u7, u8, u9, u5⟩
theorem jb_cdU1 : ∀ a, a < 4 → ∀ b, b < 4 → ∀ c, c < 4 → a = b ∨ a = c ∨ b = c ∨ c = jb_c3 a b ∨ c = jb_e3 a b := by decide +kernel
theorem jb_cdU {a b c e : Nat} (ha : a < 4) (hb : b < 4) (ab : a ≠ b) (hc : c < 4) (ac : a ≠ c) (bc : b ≠ c) (he : e < 4) (ae : a ≠ e) (be : b ≠ e) (ce : c ≠ e) : (c = jb_c3 a b ∧ e = jb_e3 a b) ∨ (c = jb_e3 a b ∧ e = jb_c3 a b) := by
  have u := jb_cdU1 a ha b hb c hc
  have v := jb_cdU1 a ha b hb e he
  omega
theorem jb_f34 {post : Int32 → Prop} {J2 : Int32 → Prop} {w : Int64} {x2 x3 : Int32} {a b : Nat} (ha : a < 4) (hb : b < 4)
    (H : wpL_inOrder (fun r_7 => (((r_7 = 0 → (wpL_inOrder (fun r_9 => (((r_9 = 0 → (∀ x3_11 : Int32, x3_11 = x3 + 1 → (J2 x3_11))) ∧ (¬ r_9 = 0 → (post 1))))) () w x2 (nI a) (nI b) (jb_cd a b 4).2 (jb_cd a b 4).1)) ∧ (¬ r_7 = 0 → (post 1))))) () w x2 (nI a) (nI b) (jb_cd a b 4).1 (jb_cd a b 4).2) :
    ∃ fu, wL_feasible_34 post J2 w x2 x3 (nI a) (nI b) fu (-1) (-1) (nI 0) := by
  refine pk_loop (σ := Unit) (fun n i _ => wL_feasible_34 post J2 w x2 x3 (nI a) (nI b) n (jb_cd a b i).1 (jb_cd a b i).2 (nI i)) (fun _ _ => True) 4 0 () (by omega) trivial ?_ ?_
  · intro n _ _
    exact pk_le 4 4 (fun _ => H) (fun z => absurd z (by omega))
  · intro n i _ hi _ hw
    have w1 : wL_feasible_34 post J2 w x2 x3 (nI a) (nI b) n (jb_cd a b (i + 1)).1 (jb_cd a b (i + 1)).2 (nI (i + 1)) := hw () trivial
    by_cases e : i = a ∨ i = b
    · have q : jb_cd a b (i + 1) = jb_cd a b i := by
        show (if i = a ∨ i = b then _ else _) = _
        rw [if_pos e]
      rw [q] at w1
      have f63 : wL_feasible_63 post J2 (wL_feasible_34 post J2 w x2 x3 (nI a) (nI b) n) w x2 x3 (nI a) (nI b) (jb_cd a b i).1 (jb_cd a b i).2 (nI i) := by
        unfold wL_feasible_63
        exact pk_eq i a (fun _ => nm_r (nI_1 i) w1) (fun e1 => pk_eq i b (fun _ => nm_r (nI_1 i) w1) (fun e2 => absurd e (by omega)))
      exact pk_le 4 i (fun z => absurd z (by omega)) (fun _ => pk_eq i a (fun _ => f63) (fun e1 => pk_eq i b (fun _ => f63) (fun e2 => absurd e (by omega))))
    · by_cases c : (jb_cd a b i).1 < 0
      · have q : jb_cd a b (i + 1) = (nI i, (jb_cd a b i).2) := by
          show (if i = a ∨ i = b then _ else _) = _
          rw [if_neg e, if_pos c]
        rw [q] at w1
        have f63 : wL_feasible_63 post J2 (wL_feasible_34 post J2 w x2 x3 (nI a) (nI b) n) w x2 x3 (nI a) (nI b) (jb_cd a b i).1 (jb_cd a b i).2 (nI i) := by
          unfold wL_feasible_63
          exact pk_eq i a (fun e1 => absurd (Or.inl e1) e) (fun _ => pk_eq i b (fun e1 => absurd (Or.inr e1) e) (fun _ => br_f (Int32.not_le.mpr c) (nm_r (nI_1 i) w1)))
        exact pk_le 4 i (fun z => absurd z (by omega)) (fun _ => pk_eq i a (fun e1 => absurd (Or.inl e1) e) (fun _ => pk_eq i b (fun e1 => absurd (Or.inr e1) e) (fun _ => br_t c f63)))
      · have q : jb_cd a b (i + 1) = ((jb_cd a b i).1, nI i) := by
          show (if i = a ∨ i = b then _ else _) = _
          rw [if_neg e, if_neg c]
        rw [q] at w1
        have f63 : wL_feasible_63 post J2 (wL_feasible_34 post J2 w x2 x3 (nI a) (nI b) n) w x2 x3 (nI a) (nI b) (jb_cd a b i).1 (nI i) (nI i) := by
          unfold wL_feasible_63
          exact pk_eq i a (fun e1 => absurd (Or.inl e1) e) (fun _ => pk_eq i b (fun e1 => absurd (Or.inr e1) e) (fun _ => br_t (Int32.not_lt.mp c) (nm_r (nI_1 i) w1)))
        exact pk_le 4 i (fun z => absurd z (by omega)) (fun _ => pk_eq i a (fun e1 => absurd (Or.inl e1) e) (fun _ => pk_eq i b (fun e1 => absurd (Or.inr e1) e) (fun _ => br_f c f63)))
theorem jb_sh2 : ∀ i, i < 16 → nI i >>> ((2 : Int32) &&& 31) = nI (i / 4) := by decide +kernel
theorem jb_an3 : ∀ i, i < 16 → nI i &&& 3 = nI (i % 4) := by decide +kernel
theorem jb_lfe {post : Int32 → Prop} {w : Int64} {l d R : Nat → Nat} {s : Nat} (hv : jb_vl w l d) (hb : jb_bd l d) (hs : s < 16) (hR : jb_rk d R 4) (H1 : jb_fe l d R s → post 1) (H0 : ¬ jb_fe l d R s → post 0) : wpL_feasible post () w (nI s) := by
  have pR := jb_rk_pm hR
  refine pk_loop (σ := Unit) (fun n i _ => wL_feasible_2 post w (nI s) n (nI i)) (fun i _ => ∀ a b c e, 4 * a + b < i → jb_pm (jb_O a b c e) → ¬ jb_fe l d (jb_O a b c e) s) 16 0 () (by omega) (fun a b c e h => absurd h (by omega)) ?_ ?_
  · intro n _ hI
    refine pk_le 16 16 (fun _ => H0 (fun f => ?_)) (fun z => absurd z (by omega))
    have r0 := pR.1 0 (by omega)
    have r1 := pR.1 1 (by omega)
    refine hI (R 0) (R 1) (R 2) (R 3) (by omega) (jb_pmO r0 r1 (pR.1 2 (by omega)) (pR.1 3 (by omega)) (pR.2 0 1 (by omega) (by omega)) (pR.2 0 2 (by omega) (by omega)) (pR.2 0 3 (by omega) (by omega)) (pR.2 1 2 (by omega) (by omega)) (pR.2 1 3 (by omega) (by omega)) (pR.2 2 3 (by omega) (by omega))) (jb_fe_cg (fun j hj => ?_) f)
    obtain rfl | rfl | rfl | rfl : j = 0 ∨ j = 1 ∨ j = 2 ∨ j = 3 := by omega
    · rfl
    · rfl
    · rfl
    · rfl
  · intro n i _ hi hI hw
    have ha : i / 4 < 4 := by omega
    have hb4 : i % 4 < 4 := by omega
    refine pk_le 16 i (fun z => absurd z (by omega)) (fun _ => nm_r (jb_sh2 i hi) (nm_r (jb_an3 i hi) (pk_eq (i / 4) (i % 4) (fun e => nm_r (nI_1 i) (hw () (fun a b c e' h p => ?_))) (fun ne => ?_))))
    · rcases Nat.lt_or_ge (4 * a + b) i with y | y
      · exact hI a b c e' y p
      · have p1 : b < 4 := p.1 1 (by omega)
        have p2 : a ≠ b := p.2 0 1 (by omega) (by omega)
        omega
    · obtain ⟨c1, c2, c3, c4, c5, c6, c7, c8, c9⟩ := jb_cdE ha hb4 ne
      refine jb_f34 ha hb4 ?_
      rw [c1, c2]
      have pA : jb_pm (jb_O (i / 4) (i % 4) (jb_c3 (i / 4) (i % 4)) (jb_e3 (i / 4) (i % 4))) := jb_pmO ha hb4 c3 c4 ne c5 c6 c7 c8 c9
      have pB : jb_pm (jb_O (i / 4) (i % 4) (jb_e3 (i / 4) (i % 4)) (jb_c3 (i / 4) (i % 4))) := jb_pmO ha hb4 c4 c3 ne c6 c5 c8 c7 (fun z => c9 z.symm)
      have sR : ∀ i j, i ≤ j → j < 4 → d (R i) ≤ d (R j) := fun i j hij hj => jb_rk_le hR i j hij hj
      refine jb_ord (O := jb_O (i / 4) (i % 4) (jb_c3 (i / 4) (i % 4)) (jb_e3 (i / 4) (i % 4))) hv hb hs pA.1 (fun f => br_f (by decide) (H1 (jb_edd pA pR sR f))) (fun f => br_t rfl ?_)
      refine jb_ord (O := jb_O (i / 4) (i % 4) (jb_e3 (i / 4) (i % 4)) (jb_c3 (i / 4) (i % 4))) hv hb hs pB.1 (fun f => br_f (by decide) (H1 (jb_edd pB pR sR f))) (fun f' => br_t rfl (nm_r (nI_1 i) (hw () (fun a b c e h p => ?_))))
      rcases Nat.lt_or_ge (4 * a + b) i with y | y
      · exact hI a b c e y p
      · have p1 : b < 4 := p.1 1 (by omega)
        have ea : a = i / 4 := by omega
        have eb : b = i % 4 := by omega
        rw [ea, eb] at p ⊢
        rcases jb_cdU (c := c) (e := e) ha hb4 ne (p.1 2 (by omega)) (p.2 0 2 (by omega) (by omega)) (p.2 1 2 (by omega) (by omega)) (p.1 3 (by omega)) (p.2 0 3 (by omega) (by omega)) (p.2 1 3 (by omega) (by omega)) (p.2 2 3 (by omega) (by omega)) with ⟨u, v⟩ | ⟨u, v⟩
        · rw [u, v]
          exact f
        · rw [u, v]
          exact f'
theorem jb_time {post : Int32 → Prop} {w : Int64} {l d : Nat → Nat} {s : Nat} (hv : jb_vl w l d) (hs : s < 16) (H : post (nI (jb_sm l s.testBit 4))) : wpL_time post () w (nI s) := by
  refine pk_loop (σ := Unit) (fun n i _ => wL_time_5 post w (nI s) n (nI (jb_sm l s.testBit i)) (nI i)) (fun _ _ => True) 4 0 () (by omega) trivial ?_ ?_
  · intro n _ _
    exact pk_le 4 4 (fun _ => H) (fun z => absurd z (by omega))
  · intro n i _ hi _ hw
    have w1 : ∀ t, jb_sm l s.testBit (i + 1) = t → wL_time_5 post w (nI s) n (nI t) (nI (i + 1)) := fun t e => by
      rw [← e]
      exact hw () trivial
    exact pk_le 4 i (fun z => absurd z (by omega)) (fun _ => ek_if (jb_b1 s hs i hi) (fun z => jb_len hv hi (nm_r (nI_add _ (l i)) (nm_r (nI_1 i) (w1 _ (jb_sm_t z))))) (fun z => nm_r (nI_1 i) (w1 _ (jb_sm_f (jb_nt z)))))
end
section
/-! the best of the sixteen sets, and that the class finds it -/
def jb_cn (m : Nat) : Nat := jb_sm jb_one m.testBit 4
def jb_tn (l : Nat → Nat) (m : Nat) : Nat := jb_sm l m.testBit 4
theorem jb_cn4 (m : Nat) : jb_cn m ≤ 4 := jb_sm_c 4
theorem jb_tn64 {l d : Nat → Nat} (hb : jb_bd l d) (m : Nat) : jb_tn l m ≤ 64 := jb_sm_b (B := 16) 4 (fun j hj => (hb j hj).2.1)
def jb_ok (l d R : Nat → Nat) (h : Nat → Bool) (T : Nat) : Prop := jb_fe l d R T ∧ ∀ i, i < 4 → h i = true → T.testBit i = true
def jb_B1 (ok : Nat → Prop) (l : Nat → Nat) (s : Nat) (x y : Int32) : Prop :=
  (x = -3 ∧ y = -3 ∧ ∀ T, T < s → ¬ ok T) ∨ (∃ M, M < s ∧ ok M ∧ x = nI (jb_cn M) ∧ y = nI (jb_tn l M) ∧ ∀ T, T < s → ok T → jb_cn T < jb_cn M ∨ (jb_cn T = jb_cn M ∧ jb_tn l M ≤ jb_tn l T))
def jb_B2 (ok : Nat → Prop) (j s : Nat) (x : Int32) : Prop :=
  (x = -3 ∧ ∀ T, T < s → ok T → T.testBit j = false) ∨ (∃ M, M < s ∧ ok M ∧ M.testBit j = true ∧ x = nI (jb_cn M) ∧ ∀ T, T < s → ok T → T.testBit j = true → jb_cn T ≤ jb_cn M)
theorem jb_B1_skip {ok : Nat → Prop} {l : Nat → Nat} {s : Nat} {x y : Int32} (H : jb_B1 ok l s x y) (n : ¬ ok s) : jb_B1 ok l (s + 1) x y := by
  rcases H with ⟨e1, e2, a⟩ | ⟨M, hM, o, e1, e2, a⟩
  · exact Or.inl ⟨e1, e2, lt_s a n⟩
  · exact Or.inr ⟨M, by omega, o, e1, e2, lt_s a (fun z => absurd z n)⟩
theorem jb_B2_skip {ok : Nat → Prop} {j s : Nat} {x : Int32} (H : jb_B2 ok j s x) (n : ok s → s.testBit j = false) : jb_B2 ok j (s + 1) x := by
  rcases H with ⟨e1, a⟩ | ⟨M, hM, o, mj, e1, a⟩
  · exact Or.inl ⟨e1, lt_s a n⟩
  · exact Or.inr ⟨M, by omega, o, mj, e1, lt_s a (fun z y => jb_ff (n z) y)⟩
theorem jb_B1_new {ok : Nat → Prop} {l : Nat → Nat} {s : Nat} (o : ok s) (a : ∀ T, T < s → ok T → jb_cn T < jb_cn s ∨ (jb_cn T = jb_cn s ∧ jb_tn l s ≤ jb_tn l T)) : jb_B1 ok l (s + 1) (nI (jb_cn s)) (nI (jb_tn l s)) :=
  Or.inr ⟨s, by omega, o, rfl, rfl, lt_s a (fun _ => Or.inr ⟨rfl, Nat.le_refl _⟩)⟩
theorem jb_m3 : ∀ v, v < 5 → (-3 : Int32) < nI v ∧ ¬ nI v ≤ -3 ∧ ¬ (-3 : Int32) = nI v := by decide +kernel
theorem jb_pc : ∀ m, m < 16 → (((nI m &&& 1) + ((nI m >>> ((1 : Int32) &&& 31)) &&& 1)) + ((nI m >>> ((2 : Int32) &&& 31)) &&& 1)) + (nI m >>> ((3 : Int32) &&& 31)) = nI (jb_cn m) := by decide +kernel
theorem jb_hs : ∀ h, h < 16 → ∀ m, m < 16 → ((nI h &&& (nI m ^^^ (-1))) = 0 ↔ ∀ i, i < 4 → h.testBit i = true → m.testBit i = true) := by decide +kernel
theorem jb_204 {post : Int32 → St0 → Prop} {mc ms : Nat} {J : Int32 → Int32 → Int32 → Int32 → Prop} {x0 : Int64} {x5 x7 x8 x9 : Int32} {kc ks : Nat} {f1 f2 f3 f4 f5 : Int32} {a1 a2 a3 a4 : Nat → Int32} {ok : Nat → Prop} {j s : Nat} (hs : s < 16) (hj : j < 4) (o : ok s) (B2 : jb_B2 ok j s x9)
    (HJ : ∀ y, jb_B2 ok j (s + 1) y → J x7 x8 y (nI (s + 1))) : wL_lawOf_204 post mc ms J x0 x5 (nI j) x7 x8 x9 (nI s) (nI (jb_cn s)) kc ks f1 f2 f3 f4 f5 a1 a2 a3 a4 := by
  have c4 := jb_cn4 s
  unfold wL_lawOf_204
  refine ek_if (jb_b1 s hs j hj) (fun z => ?_) (fun z => nm_r (nI_1 s) (HJ _ (jb_B2_skip B2 (fun _ => jb_nt z))))
  rcases B2 with ⟨rfl, a⟩ | ⟨M, hM, okM, mj, rfl, a⟩
  · exact br_f (jb_m3 _ (by omega)).2.1 (nm_r (nI_1 s) (HJ _ (Or.inr ⟨s, by omega, o, z, rfl, lt_s (fun T hT ot tj => jb_ff (a T hT ot) tj) (fun _ _ => Nat.le_refl _)⟩)))
  · have cM := jb_cn4 M
    refine pk_le (jb_cn s) (jb_cn M) (fun y => nm_r (nI_1 s) (HJ _ (Or.inr ⟨M, by omega, okM, mj, rfl, lt_s a (fun _ _ => y)⟩))) (fun y => nm_r (nI_1 s) (HJ _ (Or.inr ⟨s, by omega, o, z, rfl, lt_s (fun T hT ot tj => ?_) (fun _ _ => Nat.le_refl _)⟩)))
    have := a T hT ot tj
    omega
theorem jb_cR {R : Nat → Nat} (p : jb_pm R) (T : Nat) : jb_sm jb_one (fun j => T.testBit (R j)) 4 = jb_cn T := jb_sm_pm p jb_one T.testBit
theorem jb_tR {R : Nat → Nat} (p : jb_pm R) (l : Nat → Nat) (T : Nat) : jb_sm (fun j => l (R j)) (fun j => T.testBit (R j)) 4 = jb_tn l T := jb_sm_pm p l T.testBit
theorem jb_r1 {l d R : Nat → Nat} {h : Nat → Bool} {m : Nat} (p : jb_pm R) (H : jb_iv (fun j => l (R j)) (fun j => d (R j)) (fun j => h (R j)) (fun j => m.testBit (R j)) 4) : jb_ok l d R h m := by
  refine ⟨H.1, fun i hi hh => ?_⟩
  obtain ⟨j, j4, e⟩ := jb_sur p hi
  rw [← e] at hh ⊢
  exact H.2.1 j j4 hh
theorem jb_r2 {l d R : Nat → Nat} {h : Nat → Bool} {m T : Nat} (p : jb_pm R) (H : jb_iv (fun j => l (R j)) (fun j => d (R j)) (fun j => h (R j)) (fun j => m.testBit (R j)) 4) (o : jb_ok l d R h T) : jb_cn T ≤ jb_cn m ∧ (jb_cn T = jb_cn m → jb_tn l m ≤ jb_tn l T) := by
  have a := jb_best H o.1 (fun j hj hh => o.2 (R j) (p.1 j hj) hh)
  rw [jb_cR p, jb_cR p, jb_tR p, jb_tR p] at a
  exact a
theorem jb_r0 {l d R : Nat → Nat} {h : Nat → Bool} (p : jb_pm R) (H : ∀ T : Nat → Bool, jb_fs (fun j => l (R j)) (fun j => d (R j)) T 4 → (∀ j, j < 4 → h (R j) = true → T j = true) → False) (T : Nat) : ¬ jb_ok l d R h T :=
  fun o => H (fun j => T.testBit (R j)) o.1 (fun j hj hh => o.2 (R j) (p.1 j hj) hh)
theorem jb_fin1 {l d R : Nat → Nat} {h : Nat → Bool} {m : Nat} {x y : Int32} (p : jb_pm R) (hm : m < 16) (H : jb_iv (fun j => l (R j)) (fun j => d (R j)) (fun j => h (R j)) (fun j => m.testBit (R j)) 4) (B : jb_B1 (jb_ok l d R h) l 16 x y) :
    nI (jb_sm jb_one (fun j => m.testBit (R j)) 4) = x ∧ nI (jb_sm (fun j => l (R j)) (fun j => m.testBit (R j)) 4) = y := by
  rw [jb_cR p, jb_tR p]
  have o := jb_r1 p H
  rcases B with ⟨_, _, a⟩ | ⟨M, hM, oM, e1, e2, a⟩
  · exact absurd o (a m hm)
  · have u := a m hm o
    have v := jb_r2 p H oM
    have c : jb_cn m = jb_cn M := by omega
    have v2 := v.2 c.symm
    have t : jb_tn l m = jb_tn l M := by omega
    rw [e1, e2, c, t]
    exact ⟨rfl, rfl⟩
theorem jb_fin0 {l d R : Nat → Nat} {h : Nat → Bool} {x y : Int32} (p : jb_pm R) (H : ∀ T : Nat → Bool, jb_fs (fun j => l (R j)) (fun j => d (R j)) T 4 → (∀ j, j < 4 → h (R j) = true → T j = true) → False) (B : jb_B1 (jb_ok l d R h) l 16 x y) : x = -3 ∧ y = -3 := by
  rcases B with ⟨e1, e2, a⟩ | ⟨M, hM, oM, e1, e2, a⟩
  · exact ⟨e1, e2⟩
  · exact absurd oM (jb_r0 p H M)
theorem jb_mostB {post : Int32 → St2 → Prop} {l d : Nat → Nat} {h : Nat → Bool} {R : Nat → Nat} {a1 a2 a3 a4 : Nat → Int32} {jc ad ac ti x7 x8 : Int32} (hb : jb_bd l d) (hS : jb_St l d h R 4 a1 a2 a3 a4) (hR : jb_rk d R 4) (B : jb_B1 (jb_ok l d R h) l 16 x7 x8)
    (H : ∀ x y z, post x7 (jc, nI 4, x, y, z, a1, a2, a3, a4)) : wpX_mostInTime post (jc, nI 4, ad, ac, ti, a1, a2, a3, a4) :=
  jb_most hb hS hR (fun m hm hv x y z => by rw [(jb_fin1 (jb_rk_pm hR) hm hv B).1]; exact H x y z) (fun hn x y z => by rw [← (jb_fin0 (jb_rk_pm hR) hn B).1]; exact H x y z)
theorem jb_leastB {post : Int32 → St2 → Prop} {l d : Nat → Nat} {h : Nat → Bool} {R : Nat → Nat} {a1 a2 a3 a4 : Nat → Int32} {jc ad ac ti x7 x8 : Int32} (hb : jb_bd l d) (hS : jb_St l d h R 4 a1 a2 a3 a4) (hR : jb_rk d R 4) (B : jb_B1 (jb_ok l d R h) l 16 x7 x8)
    (H : ∀ x y z, post x8 (jc, nI 4, x, y, z, a1, a2, a3, a4)) : wpX_leastTime post (jc, nI 4, ad, ac, ti, a1, a2, a3, a4) :=
  jb_least hb hS hR (fun m hm hv x y z => by rw [(jb_fin1 (jb_rk_pm hR) hm hv B).2]; exact H x y z) (fun hn x y z => by rw [← (jb_fin0 (jb_rk_pm hR) hn B).2]; exact H x y z)
theorem jb_okU {l d R : Nat → Nat} {h : Nat → Bool} {j M : Nat} (o : jb_ok l d R h M) (mj : M.testBit j = true) : jb_ok l d R (jb_up h j true) M := by
  refine ⟨o.1, fun i hi hh => ?_⟩
  by_cases e : i = j
  · rw [e]
    exact mj
  · rw [jb_up_n e] at hh
    exact o.2 i hi hh
theorem jb_okD {l d R : Nat → Nat} {h : Nat → Bool} {j M : Nat} (hj : j < 4) (o : jb_ok l d R (jb_up h j true) M) : jb_ok l d R h M ∧ M.testBit j = true := by
  refine ⟨⟨o.1, fun i hi hh => ?_⟩, o.2 j hj jb_up_s⟩
  by_cases e : i = j
  · rw [e]
    exact o.2 j hj jb_up_s
  · exact o.2 i hi (by rw [jb_up_n e]; exact hh)
theorem jb_affB {post : Int32 → St2 → Prop} {l d : Nat → Nat} {h : Nat → Bool} {R : Nat → Nat} {a1 a2 a3 a4 : Nat → Int32} {jc ad ac ti x7 x8 x9 : Int32} {j : Nat} (hj : j < 4) (hb : jb_bd l d) (hS : jb_St l d h R 4 a1 a2 a3 a4) (hR : jb_rk d R 4) (B1 : jb_B1 (jb_ok l d R h) l 16 x7 x8) (B2 : jb_B2 (jb_ok l d R h) j 16 x9)
    (H : ∀ r : Int32, (x7 < 0 → r = 0) → (¬ x7 < 0 → x9 = x7 → r = 1) → (¬ x7 < 0 → ¬ x9 = x7 → r = 0) → ∀ x y z b3, post r (jc, nI 4, x, y, z, a1, a2, b3, a4)) : wpX_affordable post (jc, nI 4, ad, ac, ti, a1, a2, a3, a4) (nI j) := by
  have p := jb_rk_pm hR
  refine jb_aff hj hb hS hR (fun hn x y z b3 => ?_) (fun m m' hm hm' hv hv' r hr x y z b3 => ?_) (fun m hm hv hn x y z b3 => ?_)
  · have e := (jb_fin0 p hn B1).1
    exact H 0 (fun _ => rfl) (fun n => absurd (by rw [e]; decide) n) (fun _ _ => rfl) x y z b3
  · have e := (jb_fin1 p hm hv B1).1
    rw [jb_cR p] at e
    rw [jb_cR p, jb_cR p] at hr
    have o' := jb_okD hj (jb_r1 p hv')
    have e9 : x9 = nI (jb_cn m') := by
      rcases B2 with ⟨_, a⟩ | ⟨M, hM, oM, mj, e9, a⟩
      · exact jb_ff (a m' hm' o'.1) o'.2
      · have u := a m' hm' o'.1 o'.2
        have v := (jb_r2 p hv' (jb_okU oM mj)).1
        have c : jb_cn M = jb_cn m' := by omega
        rw [e9, c]
    have c1 := jb_cn4 m
    have c2 := jb_cn4 m'
    have n7 : ¬ x7 < 0 := by
      rw [← e]
      exact nI_pos (by omega)
    have q : x9 = x7 ↔ jb_cn m' = jb_cn m := by
      rw [e9, ← e]
      exact nI_eq (by omega) (by omega)
    rcases hr with ⟨c, rfl⟩ | ⟨c, rfl⟩
    · exact H 1 (fun z => absurd z n7) (fun _ _ => rfl) (fun _ n => absurd (q.mpr c) n) x y z b3
    · exact H 0 (fun _ => rfl) (fun _ e' => absurd (q.mp e') c) (fun _ _ => rfl) x y z b3
  · have e := (jb_fin1 p hm hv B1).1
    rw [jb_cR p] at e
    have c1 := jb_cn4 m
    have e9 : x9 = -3 := by
      rcases B2 with ⟨e9, a⟩ | ⟨M, hM, oM, mj, e9, a⟩
      · exact e9
      · exact absurd (jb_okU oM mj) (jb_r0 p hn M)
    have q : ¬ x9 = x7 := by
      rw [e9, ← e]
      exact (jb_m3 _ (by omega)).2.2
    exact H 0 (fun _ => rfl) (fun _ e' => absurd e' q) (fun _ _ => rfl) x y z b3
theorem jb_278 {post : Int32 → St0 → Prop} {mc ms kc ks : Nat} {z0 z1 f1 f2 f3 f4 f5 : Int32} {a1 a2 a3 a4 : Nat → Int32} (e : z1 = z0) (h4 : a1 4 = 0) (Hp : post 1 ()) : wL_lawOf_278 post mc ms z0 z1 kc ks f1 f2 f3 f4 f5 a1 a2 a3 a4 := by
  unfold wL_lawOf_278
  exact br_t e (jb_xf16 h4 (br_t rfl Hp))
theorem jb_277 {post : Int32 → St0 → Prop} {mc ms kc ks : Nat} {z0 f1 f2 f3 f4 f5 : Int32} {a1 a2 a3 a4 : Nat → Int32} (e : z0 = 0) (h4 : a1 4 = 0) (Hp : post 1 ()) : wL_lawOf_277 post mc ms z0 kc ks f1 f2 f3 f4 f5 a1 a2 a3 a4 := by
  unfold wL_lawOf_277
  exact jb_278 e h4 Hp
end
section
theorem jb_98 {post : Int32 → St0 → Prop} {mc ms kc ks : Nat} {w : Int64} {l d R : Nat → Nat} {g j : Nat} {ad ac ti : Int32} {a1 a2 a3 a4 : Nat → Int32} (hg : g < 16) (hj : j < 4) (hv : jb_vl w l d) (hb : jb_bd l d) (hS : jb_St l d g.testBit R 4 a1 a2 a3 a4) (hR : jb_rk d R 4) (Hp : post 1 ()) :
    ∃ fu, wL_lawOf_98 post mc ms w (nI g) (nI j) kc ks (nI 4) (nI 4) ad ac ti a1 a2 a3 a4 fu (-3) (-3) (-3) (nI 0) := by
  refine pk_loop (σ := Int32 × Int32 × Int32) (fun n i s => wL_lawOf_98 post mc ms w (nI g) (nI j) kc ks (nI 4) (nI 4) ad ac ti a1 a2 a3 a4 n s.1 s.2.1 s.2.2 (nI i)) (fun i s => jb_B1 (jb_ok l d R g.testBit) l i s.1 s.2.1 ∧ jb_B2 (jb_ok l d R g.testBit) j i s.2.2) 16 0 (-3, -3, -3) (by omega)
    ⟨Or.inl ⟨rfl, rfl, fun T hT => absurd hT (by omega)⟩, Or.inl ⟨rfl, fun T hT => absurd hT (by omega)⟩⟩ ?_ ?_
  · intro n ⟨x7, x8, x9⟩ ⟨B1, B2⟩
    have h4 : a1 4 = 0 := hS.2.1 4 (by omega) (by omega)
    show wL_lawOf_98 post mc ms w (nI g) (nI j) kc ks (nI 4) (nI 4) ad ac ti a1 a2 a3 a4 (n + 1) x7 x8 x9 (nI 16)
    refine pk_le 16 16 (fun _ => jb_mostB hb hS hR B1 (fun _ _ _ => br_t rfl (jb_leastB hb hS hR B1 (fun _ _ _ => br_t rfl (jb_affB hj hb hS hR B1 B2 (fun r h1 h2 h3 x y z b3 => ?_)))))) (fun z => absurd z (by omega))
    exact br_c (fun y => jb_277 (h1 y) h4 Hp) (fun y => br_c (fun e => jb_278 (h2 y e) h4 Hp) (fun e => jb_277 (h3 y e) h4 Hp))
  · intro n i ⟨x7, x8, x9⟩ hi ⟨B1, B2⟩ hw
    have hw' : ∀ y7 y8 y9, jb_B1 (jb_ok l d R g.testBit) l (i + 1) y7 y8 → jb_B2 (jb_ok l d R g.testBit) j (i + 1) y9 → wL_lawOf_98 post mc ms w (nI g) (nI j) kc ks (nI 4) (nI 4) ad ac ti a1 a2 a3 a4 n y7 y8 y9 (nI (i + 1)) := fun y7 y8 y9 b1 b2 => hw (y7, y8, y9) ⟨b1, b2⟩
    have B1' : jb_B1 (jb_ok l d R g.testBit) l i x7 x8 := B1
    have B2' : jb_B2 (jb_ok l d R g.testBit) j i x9 := B2
    show wL_lawOf_98 post mc ms w (nI g) (nI j) kc ks (nI 4) (nI 4) ad ac ti a1 a2 a3 a4 (n + 1) x7 x8 x9 (nI i)
    refine pk_le 16 i (fun z => absurd z (by omega)) (fun _ => jb_lfe hv hb hi hR (fun f => jb_xfe hi hb hS hR (fun _ => br_t rfl (br_f (by decide) ?_)) (fun nf => absurd f nf)) (fun f => jb_xfe hi hb hS hR (fun f' => absurd f' f) (fun _ => br_t rfl (br_t rfl (nm_r (nI_1 i) (hw' _ _ _ (jb_B1_skip B1' (fun o => f o.1)) (jb_B2_skip B2' (fun o => absurd o.1 f))))))))
    refine ek_if (jb_hs g hg i hi) (fun hh => nm_r (jb_pc i hi) (jb_time hv hi ?_)) (fun hh => nm_r (nI_1 i) (hw' _ _ _ (jb_B1_skip B1' (fun o => hh o.2)) (jb_B2_skip B2' (fun o => absurd o.2 hh))))
    have o : jb_ok l d R g.testBit i := ⟨f, hh⟩
    have c4 := jb_cn4 i
    have t4 := jb_tn64 hb i
    rcases B1' with ⟨rfl, rfl, a⟩ | ⟨M, hM, okM, rfl, rfl, a⟩
    · refine br_t (jb_m3 _ (by omega)).1 ?_
      unfold wL_lawOf_196
      exact jb_204 hi hj o B2' (fun y b2 => hw' _ _ _ (jb_B1_new o (fun T hT ot => absurd ot (a T hT))) b2)
    · have cM := jb_cn4 M
      have tM := jb_tn64 hb M
      refine pk_lt (jb_cn M) (jb_cn i) (fun y => ?_) (fun y => pk_eq (jb_cn i) (jb_cn M) (fun e => pk_le (jb_tn l M) (jb_tn l i) (fun z => ?_) (fun z => ?_) rfl rfl (by omega) (by omega)) (fun e => ?_))
      · unfold wL_lawOf_196
        refine jb_204 hi hj o B2' (fun y b2 => hw' _ _ _ (jb_B1_new o (fun T hT ot => ?_)) b2)
        have := a T hT ot
        omega
      · exact jb_204 hi hj o B2' (fun y b2 => hw' _ _ _ (Or.inr ⟨M, by omega, okM, rfl, rfl, lt_s a (fun _ => Or.inr ⟨e, z⟩)⟩) b2)
      · unfold wL_lawOf_196
        refine jb_204 hi hj o B2' (fun y b2 => hw' _ _ _ (jb_B1_new o (fun T hT ot => ?_)) b2)
        have := a T hT ot
        omega
      · exact jb_204 hi hj o B2' (fun y b2 => hw' _ _ _ (Or.inr ⟨M, by omega, okM, rfl, rfl, lt_s a (fun _ => Or.inl (by omega))⟩) b2)
theorem jb_18 {post : Int32 → St0 → Prop} {mc ms kc ks : Nat} {w : Int64} {l d : Nat → Nat} {g j : Nat} {x3 : Int32} (hg : g < 16) (hj : j < 4) (e3 : x3 &&& 3 = nI j) (hv : jb_vl w l d) (hb : jb_bd l d) (Hp : post 1 ()) :
    ∃ fu, wL_lawOf_18 post mc ms w x3 (nI g) kc ks fu (nI 0) (nI 0) (nI 0) 0 0 0 (fun _ => 0) (fun _ => 0) (fun _ => 0) (fun _ => 0) := by
  refine pk_loop (σ := (Nat → Int32) × (Nat → Int32) × (Nat → Int32) × (Nat → Int32)) (fun n i s => wL_lawOf_18 post mc ms w x3 (nI g) kc ks n (nI i) (nI i) (nI i) 0 0 0 s.1 s.2.1 s.2.2.1 s.2.2.2) (fun i s => ∃ R, jb_rk d R i ∧ jb_St l d g.testBit R i s.1 s.2.1 s.2.2.1 s.2.2.2) 4 0 (fun _ => 0, fun _ => 0, fun _ => 0, fun _ => 0) (by omega)
    ⟨fun _ => 0, ⟨fun j hj => absurd hj (by omega), fun i j _ hj => absurd hj (by omega), fun i j _ hj => absurd hj (by omega)⟩, fun j hj => absurd hj (by omega), fun _ _ _ => rfl, fun j hj => absurd hj (by omega), fun j hj => absurd hj (by omega), fun j hj => absurd hj (by omega)⟩ ?_ ?_
  · intro n ⟨a1, a2, a3, a4⟩ ⟨R, hR, hS⟩
    show wL_lawOf_18 post mc ms w x3 (nI g) kc ks (n + 1) (nI 4) (nI 4) (nI 4) 0 0 0 a1 a2 a3 a4
    exact pk_le 4 4 (fun _ => nm_r e3 (jb_98 hg hj hv hb hS hR Hp)) (fun z => absurd z (by omega))
  · intro n i ⟨a1, a2, a3, a4⟩ hi ⟨R, hR, hS⟩ hw
    have hS' : jb_St l d g.testBit R i a1 a2 a3 a4 := hS
    show wL_lawOf_18 post mc ms w x3 (nI g) kc ks (n + 1) (nI i) (nI i) (nI i) 0 0 0 a1 a2 a3 a4
    refine pk_le 4 i (fun z => absurd z (by omega)) (fun _ => jb_len hv hi (jb_dl hv hi (ek_if (jb_b1 g hg i hi) (fun z => ?_) (fun z => ?_))))
    · unfold wL_lawOf_62
      exact jb_put hi hb hS' hR (by rw [if_pos z]) (fun R' b1 b2 b3 b4 hR' hS'' => br_t rfl (nm_r (nI_1 i) (hw (b1, b2, b3, b4) ⟨R', hR', hS''⟩)))
    · unfold wL_lawOf_62
      exact jb_put hi hb hS' hR (by rw [if_neg z]) (fun R' b1 b2 b3 b4 hR' hS'' => br_t rfl (nm_r (nI_1 i) (hw (b1, b2, b3, b4) ⟨R', hR', hS''⟩)))
theorem jb_lawOf {post : Int32 → St0 → Prop} (w : Int64) (p1 p2 : Int32) (Hp : post 1 ()) : wpL_lawOf post 24 368 () w p1 p2 := by
  obtain ⟨l, d, hb, hv⟩ := jb_word w
  obtain ⟨g, hg, eg⟩ := pk_andE p1 (m := 15) 4 (by decide)
  obtain ⟨j, hj, ej⟩ := pk_andE p2 (m := 3) 2 (by decide)
  unfold wpL_lawOf
  refine ⟨by omega, by omega, 4, 44, by omega, by omega, ?_⟩
  unfold wpX_init
  dsimp only
  refine ⟨by omega, by omega, by omega, by omega, by omega, by omega, by omega, by omega, nm_r eg ?_⟩
  exact jb_18 (by omega) (by omega) ej hv hb Hp
theorem jb_cell {post : Int32 → Prop} {L : Nat} {xs : Nat → Int32} (hL : L ≤ 4) {x : Int32} (k : Nat) (hk : k < 4) (H : ∀ r, post r) (e : x = nI k := by rfl) : wpL_cellAt post L xs () x := by
  unfold wpL_cellAt
  exact pk_le L k (fun _ => H _) (fun z => ⟨pk_in k L z e, H _⟩) rfl e
theorem i_vc (xs : Nat → Int32) (L : Nat) (hL : L ≤ 4) : wpL_law (fun r => r = 1) L xs := by
  unfold wpL_law
  exact jb_cell hL 0 (by omega) (fun r1 => jb_cell hL 1 (by omega) (fun r2 => jb_cell hL 2 (by omega) (fun r3 => jb_cell hL 3 (by omega) (fun r4 => ⟨24, 368, by omega, by omega, jb_lawOf _ r3 r4 rfl⟩))))
end
