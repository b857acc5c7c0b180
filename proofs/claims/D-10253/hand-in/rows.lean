section
/-! PART 1: plain mathematics. Keys K : Nat → Int; the ending from a on is the sequence K a, K (a+1), ..; next smaller endings; their roots are unbordered. -/
/-- the ending from a on comes before the ending from b on -/
def rf_lt (K : Nat → Int) (a b : Nat) : Prop := ∃ s, (∀ t, t < s → K (a + t) = K (b + t)) ∧ K (a + s) < K (b + s)
theorem rf_lt_trans {K : Nat → Int} {a b c : Nat} (h : rf_lt K a b) (g : rf_lt K b c) : rf_lt K a c := by
  obtain ⟨s, h1, h2⟩ := h
  obtain ⟨u, g1, g2⟩ := g
  rcases Nat.lt_trichotomy s u with e | e | e
  · exact ⟨s, fun t ht => (h1 t ht).trans (g1 t (by omega)), by rw [← g1 s e]; exact h2⟩
  · subst e
    exact ⟨s, fun t ht => (h1 t ht).trans (g1 t ht), Int.lt_trans h2 g2⟩
  · exact ⟨u, fun t ht => (h1 t (by omega)).trans (g1 t ht), by rw [h1 u e]; exact g2⟩
theorem rf_lt_asymm {K : Nat → Int} {a b : Nat} (h : rf_lt K a b) (g : rf_lt K b a) : False := by
  obtain ⟨s, h1, h2⟩ := rf_lt_trans h g
  exact absurd h2 (Int.lt_irrefl _)
/-- k is the next smaller ending of i -/
def rf_nss (K : Nat → Int) (i k : Nat) : Prop := i < k ∧ (∀ m, i < m → m < k → rf_lt K i m) ∧ rf_lt K k i
theorem rf_nss_uniq {K : Nat → Int} {i k k' : Nat} (h : rf_nss K i k) (g : rf_nss K i k') : k = k' := by
  rcases Nat.lt_trichotomy k k' with e | e | e
  · exact False.elim (rf_lt_asymm h.2.2 (g.2.1 k h.1 e))
  · exact e
  · exact False.elim (rf_lt_asymm g.2.2 (h.2.1 k' g.1 e))
theorem rf_nss_jump {K : Nat → Int} {i k k' : Nat} (h : ∀ m, i < m → m < k → rf_lt K i m) (hk : rf_lt K i k) (g : rf_nss K k k') : ∀ m, i < m → m < k' → rf_lt K i m := by
  intro m h1 h2
  rcases Nat.lt_trichotomy m k with e | e | e
  · exact h m h1 e
  · rw [e]; exact hk
  · exact rf_lt_trans hk (g.2.1 m e h2)
/-- the root of a next smaller ending has no border -/
theorem rf_unb {K : Nat → Int} {i k m : Nat} (h : rf_nss K i k) (h1 : i < m) (h2 : m < k) (e : ∀ t, t < k - m → K (i + t) = K (m + t)) : False := by
  obtain ⟨s, g1, g2⟩ := h.2.1 m h1 h2
  have hs : k - m ≤ s := by
    rcases Nat.lt_or_ge s (k - m) with z | z
    · rw [e s z] at g2
      exact absurd g2 (Int.lt_irrefl _)
    · exact z
  have l1 : rf_lt K (i + (k - m)) k := by
    refine ⟨s - (k - m), fun t ht => ?_, ?_⟩
    · have q := g1 (k - m + t) (by omega)
      rw [show i + (k - m + t) = i + (k - m) + t by omega, show m + (k - m + t) = k + t by omega] at q
      exact q
    · rw [show i + (k - m) + (s - (k - m)) = i + s by omega, show k + (s - (k - m)) = m + s by omega]
      exact g2
  exact rf_lt_asymm (rf_lt_trans l1 h.2.2) (h.2.1 (i + (k - m)) (by omega) (by omega))
/-- a root that comes twice: the second one is a root of a next smaller ending too -/
theorem rf_shift {K : Nat → Int} {i k r : Nat} (h : rf_nss K i k) (hr : ∀ t, t < r → K (i + t) = K (k + t)) (hp : k - i ≤ r) : rf_nss K k (k + (k - i)) := by
  have hik := h.1
  refine ⟨by omega, fun m h1 h2 => ?_, ?_⟩
  · obtain ⟨s, g1, g2⟩ := h.2.1 (m - (k - i)) (by omega) (by omega)
    have hs : m - (k - i) + s < k := by
      rcases Nat.lt_or_ge (m - (k - i) + s) k with z | z
      · exact z
      · exact False.elim (rf_unb h (m := m - (k - i)) (by omega) (by omega) (fun t ht => g1 t (by omega)))
    have E : ∀ t, t ≤ s → K (k + t) = K (i + t) := fun t ht => (hr t (by omega)).symm
    have E2 : ∀ t, t ≤ s → K (m + t) = K (m - (k - i) + t) := fun t ht => by
      have q := hr (m - (k - i) - i + t) (by omega)
      rw [show i + (m - (k - i) - i + t) = m - (k - i) + t by omega, show k + (m - (k - i) - i + t) = m + t by omega] at q
      exact q.symm
    exact ⟨s, fun t ht => by rw [E t (by omega), E2 t (by omega)]; exact g1 t ht, by rw [E s (Nat.le_refl s), E2 s (Nat.le_refl s)]; exact g2⟩
  · obtain ⟨s, g1, g2⟩ := h.2.2
    have hs : r ≤ s := by
      rcases Nat.lt_or_ge s r with z | z
      · rw [hr s z] at g2
        exact absurd g2 (Int.lt_irrefl _)
      · exact z
    refine ⟨s - (k - i), fun t ht => ?_, ?_⟩
    · have q := g1 (k - i + t) (by omega)
      rw [show k + (k - i + t) = k + (k - i) + t by omega, show i + (k - i + t) = k + t by omega] at q
      exact q
    · rw [show k + (k - i) + (s - (k - i)) = k + s by omega, show k + (s - (k - i)) = i + s by omega]
      exact g2
/-- the keys of a text of n ints: in the order of the ints or in the reverse one; behind the end the least key -/
def rf_K (up : Bool) (T : Nat → Int32) (n x : Nat) : Int := if x < n then (if up = true then (T x).toInt else -(T x).toInt) else -2147483649
theorem rf_K_end {up : Bool} {T : Nat → Int32} {n x : Nat} (h : n ≤ x) : rf_K up T n x = -2147483649 := by
  unfold rf_K
  rw [if_neg (by omega)]
theorem rf_K_up {T : Nat → Int32} {n x : Nat} (h : x < n) : rf_K true T n x = (T x).toInt := by
  unfold rf_K
  rw [if_pos h, if_pos rfl]
theorem rf_K_dn {T : Nat → Int32} {n x : Nat} (h : x < n) : rf_K false T n x = -(T x).toInt := by
  unfold rf_K
  rw [if_pos h, if_neg (by decide)]
theorem rf_K_in {up : Bool} {T : Nat → Int32} {n x : Nat} (h : x < n) : -2147483649 < rf_K up T n x := by
  have h1 := Int32.le_toInt (T x)
  have h2 := Int32.toInt_lt (T x)
  cases up
  · rw [rf_K_dn h]; omega
  · rw [rf_K_up h]; omega
theorem rf_K_lo {up : Bool} {T : Nat → Int32} {n x : Nat} : -2147483649 ≤ rf_K up T n x := by
  rcases Nat.lt_or_ge x n with z | z
  · exact Int.le_of_lt (rf_K_in z)
  · rw [rf_K_end z]; exact Int.le_refl _
theorem rf_K_eq {up : Bool} {T : Nat → Int32} {n x y : Nat} (hx : x < n) (hy : y < n) (e : T x = T y) : rf_K up T n x = rf_K up T n y := by
  cases up
  · rw [rf_K_dn hx, rf_K_dn hy, e]
  · rw [rf_K_up hx, rf_K_up hy, e]
theorem rf_K_inv {up : Bool} {T : Nat → Int32} {n x y : Nat} (hx : x < n) (hy : y < n) (e : rf_K up T n x = rf_K up T n y) : T x = T y := by
  cases up
  · rw [rf_K_dn hx, rf_K_dn hy] at e
    exact Int32.toInt.inj (by omega)
  · rw [rf_K_up hx, rf_K_up hy] at e
    exact Int32.toInt.inj e
theorem rf_K_lt_in {up : Bool} {T : Nat → Int32} {n x y : Nat} (h : rf_K up T n x < rf_K up T n y) : y < n := by
  rcases Nat.lt_or_ge y n with z | z
  · exact z
  · rw [rf_K_end z] at h
    have := rf_K_lo (up := up) (T := T) (n := n) (x := x)
    omega
/-- the ending just behind can't be greater in both orders -/
theorem rf_opp {T : Nat → Int32} {n b : Nat} (h : rf_lt (rf_K true T n) b (b + 1)) (g : rf_lt (rf_K false T n) b (b + 1)) : False := by
  obtain ⟨s, h1, h2⟩ := h
  obtain ⟨u, g1, g2⟩ := g
  have hs := rf_K_lt_in h2
  have hu := rf_K_lt_in g2
  rcases Nat.lt_trichotomy s u with e | e | e
  · have q := rf_K_inv (by omega) (by omega) (g1 s e)
    rw [rf_K_eq (up := true) (n := n) (by omega) (by omega) q] at h2
    exact absurd h2 (Int.lt_irrefl _)
  · subst e
    rw [rf_K_up (n := n) (x := b + s) (by omega), rf_K_up (n := n) (x := b + 1 + s) (by omega)] at h2
    rw [rf_K_dn (n := n) (x := b + s) (by omega), rf_K_dn (n := n) (x := b + 1 + s) (by omega)] at g2
    omega
  · have q := rf_K_inv (by omega) (by omega) (h1 u e)
    rw [rf_K_eq (up := false) (n := n) (by omega) (by omega) q] at g2
    exact absurd g2 (Int.lt_irrefl _)
end
section
/-! PART 2: plain mathematics. Runs with a root behind their first place; two of them never share such a root's place: fewer runs than places. -/
/-- from i to j the text has the period p, at least twice, and it can't be widened to the left -/
def rf_run (T : Nat → Int32) (n i j p : Nat) : Prop := 1 ≤ p ∧ i + 2 * p ≤ j + 1 ∧ j < n ∧ (∀ x, i ≤ x → x + p ≤ j → T x = T (x + p)) ∧ (∀ x, x + 1 = i → ¬ T x = T (x + p))
/-- b is a root's place behind the first place of the run -/
def rf_root (T : Nat → Int32) (n i j p b : Nat) : Prop := i < b ∧ b + p ≤ j + 1 ∧ ∃ up, rf_nss (rf_K up T n) b (b + p)
def rf_good (T : Nat → Int32) (n i j p : Nat) : Prop := rf_run T n i j p ∧ ∃ b, rf_root T n i j p b
theorem rf_first {T : Nat → Int32} {n i j p i' j' b : Nat} (h : rf_run T n i j p) (hb : b + p ≤ j + 1) (g : rf_run T n i' j' p) (gi : i' < b) : i' ≤ i := by
  obtain ⟨h1, h2, h3, h4, h5⟩ := h
  obtain ⟨g1, g2, g3, g4, g5⟩ := g
  rcases Nat.lt_or_ge i i' with z | z
  · exact absurd (h4 (i' - 1) (by omega) (by omega)) (g5 (i' - 1) (by omega))
  · exact z
theorem rf_one {T : Nat → Int32} {n i j i' j' p' b : Nat} {up : Bool} (h : rf_run T n i j 1) (hi : i < b) (hb : b + 1 ≤ j + 1) (g : rf_run T n i' j' p') (gi : i' < b) (gb : b + p' ≤ j' + 1) (gn : rf_nss (rf_K up T n) b (b + p')) : p' = 1 := by
  obtain ⟨h1, h2, h3, h4, h5⟩ := h
  obtain ⟨g1, g2, g3, g4, g5⟩ := g
  rcases Nat.lt_or_ge 1 p' with z | z
  · have e1 := h4 (b - 1) (by omega) (by omega)
    have e2 := g4 (b - 1) (by omega) (by omega)
    rw [show b - 1 + 1 = b by omega] at e1
    rw [e1, show b - 1 + p' = b + p' - 1 by omega] at e2
    refine False.elim (rf_unb gn (m := b + p' - 1) (by omega) (by omega) (fun t ht => ?_))
    rw [show b + t = b by omega, show b + p' - 1 + t = b + p' - 1 by omega]
    exact rf_K_eq (by omega) (by omega) e2
  · omega
theorem rf_two {T : Nat → Int32} {n p p' b : Nat} (h : rf_nss (rf_K true T n) b (b + p)) (g : rf_nss (rf_K false T n) b (b + p')) : p = 1 ∨ p' = 1 := by
  have h0 := h.1
  have g0 := g.1
  by_cases z : p = 1
  · exact Or.inl z
  · by_cases y : p' = 1
    · exact Or.inr y
    · exact False.elim (rf_opp (h.2.1 (b + 1) (by omega) (by omega)) (g.2.1 (b + 1) (by omega) (by omega)))
/-- two runs with a root at one place are one run -/
theorem rf_inj {T : Nat → Int32} {n i j p i' j' p' b : Nat} (h : rf_run T n i j p) (hr : rf_root T n i j p b) (g : rf_run T n i' j' p') (gr : rf_root T n i' j' p' b) : i = i' ∧ p = p' := by
  obtain ⟨h1, h2, up, h3⟩ := hr
  obtain ⟨g1, g2, up', g3⟩ := gr
  have e : p = p' := by
    cases up <;> cases up'
    · have := rf_nss_uniq h3 g3
      omega
    · rcases rf_two g3 h3 with z | z
      · subst z
        exact rf_one g g1 g2 h h1 h2 h3
      · subst z
        exact (rf_one h h1 h2 g g1 g2 g3).symm
    · rcases rf_two h3 g3 with z | z
      · subst z
        exact (rf_one h h1 h2 g g1 g2 g3).symm
      · subst z
        exact rf_one g g1 g2 h h1 h2 h3
    · have := rf_nss_uniq h3 g3
      omega
  subst e
  exact ⟨Nat.le_antisymm (rf_first g g2 h h1) (rf_first h h2 g g1), rfl⟩
/-- pigeons and holes -/
theorem rf_pig : ∀ (m c : Nat) (f : Nat → Nat), (∀ r, r < c → f r < m) → (∀ r s, r < c → s < c → f r = f s → r = s) → c ≤ m := by
  intro m
  induction m with
  | zero =>
    intro c f h _
    rcases Nat.eq_zero_or_pos c with z | z
    · omega
    · exact absurd (h 0 z) (by omega)
  | succ m ih =>
    intro c f h g
    by_cases hz : ∃ r, r < c ∧ f r = m
    · obtain ⟨r0, h0, e0⟩ := hz
      have hc : c - 1 ≤ m := by
        refine ih (c - 1) (fun r => if r = r0 then f (c - 1) else f r) (fun r hr => ?_) (fun r s hr hs e => ?_)
        · by_cases z : r = r0
          · rw [if_pos z]
            have q := h (c - 1) (by omega)
            have q2 : f (c - 1) ≠ m := fun y => absurd (g (c - 1) r0 (by omega) h0 (y.trans e0.symm)) (by omega)
            omega
          · rw [if_neg z]
            have q := h r (by omega)
            have q2 : f r ≠ m := fun y => absurd (g r r0 (by omega) h0 (y.trans e0.symm)) z
            omega
        · by_cases z : r = r0
          · by_cases y : s = r0
            · omega
            · rw [if_pos z, if_neg y] at e
              have := g (c - 1) s (by omega) (by omega) e
              omega
          · by_cases y : s = r0
            · rw [if_neg z, if_pos y] at e
              have := g r (c - 1) (by omega) (by omega) e
              omega
            · rw [if_neg z, if_neg y] at e
              exact g r s (by omega) (by omega) e
      omega
    · have hc : c ≤ m := by
        refine ih c f (fun r hr => ?_) g
        have q := h r hr
        have q2 : f r ≠ m := fun y => hz ⟨r, hr, y⟩
        omega
      omega
/-- c runs in order -/
def rf_ok (T : Nat → Int32) (n c : Nat) (F J P : Nat → Nat) : Prop := (∀ r, r < c → rf_good T n (F r) (J r) (P r)) ∧ (∀ r s, r < s → s < c → F r < F s ∨ F r = F s ∧ P r < P s)
theorem rf_ok_0 {T : Nat → Int32} {n : Nat} {F J P : Nat → Nat} : rf_ok T n 0 F J P := ⟨fun r h => absurd h (by omega), fun r s _ h => absurd h (by omega)⟩
/-- the runs theorem -/
theorem rf_count {T : Nat → Int32} {n c : Nat} {F J P : Nat → Nat} (h : rf_ok T n c F J P) : c = 0 ∨ c < n := by
  have q : ∀ r, ∃ b, r < c → rf_root T n (F r) (J r) (P r) b := by
    intro r
    by_cases z : r < c
    · obtain ⟨b, hb⟩ := (h.1 r z).2
      exact ⟨b, fun _ => hb⟩
    · exact ⟨0, fun y => absurd y z⟩
  obtain ⟨B, hB⟩ := Classical.skolem.mp q
  rcases Nat.eq_zero_or_pos c with z | z
  · exact Or.inl z
  · refine Or.inr ?_
    have hb : ∀ r, r < c → 1 ≤ B r ∧ B r < n := by
      intro r hr
      obtain ⟨⟨h1, h2, h3, _, _⟩, _⟩ := h.1 r hr
      obtain ⟨g1, g2, _⟩ := hB r hr
      omega
    have hc : c ≤ n - 1 := by
      refine rf_pig (n - 1) c (fun r => B r - 1) (fun r hr => ?_) (fun r s hr hs e => ?_)
      · have := hb r hr
        omega
      · have b1 := hb r hr
        have b2 := hb s hs
        have e' : B s = B r := by omega
        have gs := hB s hs
        rw [e'] at gs
        obtain ⟨x1, x2⟩ := rf_inj (h.1 r hr).1 (hB r hr) (h.1 s hs).1 gs
        rcases Nat.lt_trichotomy r s with y | y | y
        · have := h.2 r s y hs
          omega
        · exact y
        · have := h.2 s r y hr
          omega
    have := hb 0 z
    omega
/-- no run of a smaller period holds a run -/
theorem rf_min {T : Nat → Int32} {n i j p i' j' p' : Nat} (h : rf_good T n i j p) (g : rf_run T n i' j' p') (hi : i' ≤ i) (hj : j ≤ j') : p ≤ p' := by
  obtain ⟨⟨h1, h2, h3, h4, h5⟩, b, b1, b2, up, b3⟩ := h
  obtain ⟨g1, g2, g3, g4, g5⟩ := g
  rcases Nat.lt_or_ge p' p with z | z
  · refine False.elim (rf_unb b3 (m := b + p') (by omega) (by omega) (fun t ht => ?_))
    have e := g4 (b + t) (by omega) (by omega)
    rw [show b + t + p' = b + p' + t by omega] at e
    exact rf_K_eq (by omega) (by omega) e
  · exact z
/-- a root widened to both sides as far as its period goes -/
theorem rf_widened {T : Nat → Int32} {n i k l r : Nat} {up : Bool} (hk : rf_nss (rf_K up T n) i k) (hn : k ≤ n) (hr : k + r ≤ n) (h1 : ∀ t, t < r → T (i + t) = T (k + t)) (hl : l ≤ i) (h2 : ∀ t, t < l → T (i - 1 - t) = T (k - 1 - t)) (h3 : l < i → ¬ T (i - 1 - l) = T (k - 1 - l)) (hp : k - i ≤ l + r) : rf_good T n (i - l) (k + r - 1) (k - i) := by
  have hik := hk.1
  refine ⟨⟨by omega, by omega, by omega, fun x g1 g2 => ?_, fun x g1 g2 => ?_⟩, ?_⟩
  · rcases Nat.lt_or_ge x i with z | z
    · have e := h2 (i - 1 - x) (by omega)
      rw [show i - 1 - (i - 1 - x) = x by omega, show k - 1 - (i - 1 - x) = x + (k - i) by omega] at e
      exact e
    · have e := h1 (x - i) (by omega)
      rw [show i + (x - i) = x by omega, show k + (x - i) = x + (k - i) by omega] at e
      exact e
  · have e := h3 (by omega)
    rw [show i - 1 - l = x by omega, show k - 1 - l = x + (k - i) by omega] at e
    exact e g2
  · rcases Nat.eq_zero_or_pos l with z | z
    · refine ⟨k, by omega, by omega, up, rf_shift hk (fun t ht => rf_K_eq (by omega) (by omega) (h1 t ht)) (by omega)⟩
    · refine ⟨i, by omega, by omega, up, ?_⟩
      rw [show i + (k - i) = k by omega]
      exact hk
/-- a place made at q -/
def rf_ins (F : Nat → Nat) (q v : Nat) : Nat → Nat := fun r => if r < q then F r else if r = q then v else F (r - 1)
theorem rf_ins_lo {F : Nat → Nat} {q v r : Nat} (h : r < q) : rf_ins F q v r = F r := by
  unfold rf_ins
  rw [if_pos h]
theorem rf_ins_at {F : Nat → Nat} {q v r : Nat} (h : r = q) : rf_ins F q v r = v := by
  unfold rf_ins
  rw [if_neg (by omega), if_pos h]
theorem rf_ins_hi {F : Nat → Nat} {q v r : Nat} (h : q < r) : rf_ins F q v r = F (r - 1) := by
  unfold rf_ins
  rw [if_neg (by omega), if_neg (by omega)]
theorem rf_ok_ins {T : Nat → Int32} {n c : Nat} {F J P : Nat → Nat} {q i j p : Nat} (h : rf_ok T n c F J P) (hq : q ≤ c) (g : rf_good T n i j p) (h1 : ∀ r, r < q → F r < i ∨ F r = i ∧ P r < p) (h2 : ∀ r, q ≤ r → r < c → i < F r ∨ i = F r ∧ p < P r) : rf_ok T n (c + 1) (rf_ins F q i) (rf_ins J q j) (rf_ins P q p) := by
  refine ⟨fun r hr => ?_, fun r s hrs hs => ?_⟩
  · rcases Nat.lt_trichotomy r q with z | z | z
    · rw [rf_ins_lo z, rf_ins_lo z, rf_ins_lo z]
      exact h.1 r (by omega)
    · rw [rf_ins_at z, rf_ins_at z, rf_ins_at z]
      exact g
    · rw [rf_ins_hi z, rf_ins_hi z, rf_ins_hi z]
      exact h.1 (r - 1) (by omega)
  · rcases Nat.lt_trichotomy r q with z | z | z
    · rw [rf_ins_lo z, rf_ins_lo z]
      rcases Nat.lt_trichotomy s q with y | y | y
      · rw [rf_ins_lo y, rf_ins_lo y]
        exact h.2 r s hrs (by omega)
      · rw [rf_ins_at y, rf_ins_at y]
        exact h1 r z
      · rw [rf_ins_hi y, rf_ins_hi y]
        exact h.2 r (s - 1) (by omega) (by omega)
    · rw [rf_ins_at z, rf_ins_at z, rf_ins_hi (show q < s by omega), rf_ins_hi (show q < s by omega)]
      exact h2 (s - 1) (by omega) (by omega)
    · rw [rf_ins_hi z, rf_ins_hi z, rf_ins_hi (show q < s by omega), rf_ins_hi (show q < s by omega)]
      exact h.2 (r - 1) (s - 1) (by omega) (by omega)
end
section
/-! PART 3: the methods that change the text. They leave the state as it is, or they leave some text of at most 48 ints that isn't current. -/
theorem rf_isPlace {post : Int32 → Prop} {n : Nat} {rc cur x : Int32} {a1 a2 a3 a4 a5 : Nat → Int32} (hn : n ≤ 48) (H0 : post 0) (H1 : ∀ j, j < n → x = nI j → post 1) : wpX_isPlace post (nI n, rc, cur, a1, a2, a3, a4, a5) x := by
  refine br_c (fun _ => H0) (fun z => br_c (fun _ => H0) (fun y => ?_))
  rcases pk_ix x (n := n) (by omega) with w | w | w
  · exact absurd w z
  · exact absurd w y
  · obtain ⟨j, h1, h2⟩ := w
    exact H1 j h1 h2
theorem rf_push {post : Int32 → St1 → Prop} {n : Nat} {rc cur x : Int32} {a1 a2 a3 a4 a5 : Nat → Int32} (hn : n ≤ 48) (H0 : ∀ r, post r (nI n, rc, cur, a1, a2, a3, a4, a5)) (H1 : ∀ r n' b1, n' ≤ 48 → post r (nI n', rc, 0, b1, a2, a3, a4, a5)) : wpX_push post (nI n, rc, cur, a1, a2, a3, a4, a5) x :=
  br_c (fun _ => H0 _) (fun _ => br_c (fun _ => pk_eq n 48 (fun _ => H0 _) (fun z => ⟨pk_in n 48 (by omega), nm_e (nm_r (nI_1 n) (H1 _ _ _ (by omega)))⟩)) (fun _ => H0 _))
theorem rf_pop {post : Int32 → St1 → Prop} {n : Nat} {rc cur x : Int32} {a1 a2 a3 a4 a5 : Nat → Int32} (hn : n ≤ 48) (H0 : ∀ r, post r (nI n, rc, cur, a1, a2, a3, a4, a5)) (H1 : ∀ r n' b1, n' ≤ 48 → post r (nI n', rc, 0, b1, a2, a3, a4, a5)) : wpX_pop post (nI n, rc, cur, a1, a2, a3, a4, a5) x := by
  refine br_c (fun _ => H0 _) (fun z => br_c (fun w => ?_) (fun _ => H0 _))
  obtain ⟨j, hj, rfl⟩ := nI_of2 (nI_toInt (n := n) (by omega)) z w
  exact nm_r (pk_sub hj) (H1 _ (n - j) a1 (by omega))
theorem rf_set {post : Int32 → St1 → Prop} {n : Nat} {rc cur x y : Int32} {a1 a2 a3 a4 a5 : Nat → Int32} (hn : n ≤ 48) (H0 : ∀ r, post r (nI n, rc, cur, a1, a2, a3, a4, a5)) (H1 : ∀ r n' b1, n' ≤ 48 → post r (nI n', rc, 0, b1, a2, a3, a4, a5)) : wpX_set post (nI n, rc, cur, a1, a2, a3, a4, a5) x y := by
  unfold wpX_set
  dsimp only
  refine rf_isPlace hn (br_t rfl (H0 _)) (fun f hf ef => br_f (by decide) (br_c (fun _ => H0 _) (fun _ => br_c (fun _ => ?_) (fun _ => H0 _))))
  subst ef
  exact ⟨pk_in f 48 (by omega), nm_e ⟨pk_in f 48 (by omega), nm_e (H1 _ n _ hn)⟩⟩
theorem rf_rep40 {post : Int32 → St1 → Prop} {n f c : Nat} {rc cur : Int32} {a1 a2 a3 a4 a5 : Nat → Int32} (hf : f < n) (hc : n + c ≤ 48) (H1 : ∀ r n' b1, n' ≤ 48 → post r (nI n', rc, 0, b1, a2, a3, a4, a5)) : ∃ fu, wX_repeat_40 post (nI f) (nI c) (nI n) rc cur fu 0 a1 a2 a3 a4 a5 :=
  pk_loop (fun fu i s => wX_repeat_40 post (nI f) (nI c) (nI n) rc cur fu (nI i) s a2 a3 a4 a5) (fun _ _ => True) c 0 a1 (by omega) trivial
    (fun fu s _ => pk_le c c (fun _ => nm_r (nI_add n c) (H1 _ (n + c) s hc)) (fun z => absurd z (by omega)))
    (fun fu i s hi _ hw => pk_le c i (fun z => absurd z (by omega)) (fun _ => ⟨pk_in (f + i) 48 (by omega) (nI_add f i), pk_in (n + i) 48 (by omega) (nI_add n i), nm_e (nm_r (nI_1 i) (hw _ trivial))⟩))
theorem rf_repeat {post : Int32 → St1 → Prop} {n : Nat} {rc cur x y : Int32} {a1 a2 a3 a4 a5 : Nat → Int32} (hn : n ≤ 48) (H0 : ∀ r, post r (nI n, rc, cur, a1, a2, a3, a4, a5)) (H1 : ∀ r n' b1, n' ≤ 48 → post r (nI n', rc, 0, b1, a2, a3, a4, a5)) : wpX_repeat post (nI n, rc, cur, a1, a2, a3, a4, a5) x y := by
  unfold wpX_repeat
  dsimp only
  refine rf_isPlace hn (br_t rfl (H0 _)) (fun f hf ef => br_f (by decide) (br_c (fun _ => H0 _) (fun z => br_c (fun w => ?_) (fun _ => H0 _))))
  subst ef
  have z0 : ¬ y < 0 := fun q => z (Int32.lt_trans q (by decide))
  obtain ⟨c, hc, rfl⟩ := nI_of2 (M := 48) (n := 48) (by decide) z0 w
  exact pk_le (n + c) 48 (fun g => rf_rep40 hf g H1) (fun _ => H0 _) (nI_add n c) rfl
theorem rf_reverse {post : Int32 → St1 → Prop} {n : Nat} {rc cur : Int32} {a1 a2 a3 a4 a5 : Nat → Int32} (hn : n ≤ 48) (H1 : ∀ r n' b1, n' ≤ 48 → post r (nI n', rc, 0, b1, a2, a3, a4, a5)) : wpX_reverse post (nI n, rc, cur, a1, a2, a3, a4, a5) := by
  unfold wpX_reverse
  dsimp only
  cases n with
  | zero => exact ⟨1, br_t (by decide) (H1 _ 0 _ (by omega))⟩
  | succ m =>
    refine loop_m (fun fu (s : Nat × (Nat → Int32)) => wX_reverse_2 post (nI (m + 1)) rc cur fu (nI s.1) s.2 a2 a3 a4 a5) (fun s => s.1 ≤ m) (fun s => m - s.1) (fun fu s hI hw => ?_) (0, a1) (Nat.zero_le m)
    obtain ⟨i, b⟩ := s
    have hi : i ≤ m := hI
    refine pk_le m (2 * i) (fun _ => H1 _ (m + 1) _ hn) (fun z => ?_) (nI_pred m) (pk_mul 2 i)
    have e : nI (m + 1) - 1 - nI i = nI (m - i) := by rw [nI_pred, pk_sub hi]
    exact nm_r e ⟨pk_in i 48 (by omega), nm_e ⟨pk_in (m - i) 48 (by omega), pk_in i 48 (by omega), nm_e ⟨pk_in (m - i) 48 (by omega), nm_e (nm_r (nI_1 i) (hw (i + 1, _) (show i + 1 ≤ m by omega) (show m - (i + 1) < m - i by omega)))⟩⟩⟩
theorem rf_red {post : Int32 → Prop} {n : Nat} {x : Int32} (hn : n ≤ 48) (H : ∀ r, post r) : wpL_red post () x (nI n) :=
  pk_le 1 n (fun z => ⟨nI_ne0 z (by omega), H _⟩) (fun _ => H _)
theorem rf_turn {post : St1 → Prop} {n : Nat} {rc cur x y : Int32} {a1 a2 a3 a4 a5 : Nat → Int32} (hn : n ≤ 48) (H0 : post (nI n, rc, cur, a1, a2, a3, a4, a5)) (H1 : ∀ n' b1, n' ≤ 48 → post (nI n', rc, 0, b1, a2, a3, a4, a5)) : wpL_turn post (nI n, rc, cur, a1, a2, a3, a4, a5) x y := by
  unfold wpL_turn
  dsimp only
  unfold wpX_length
  dsimp only
  refine nm_e (rf_red hn (fun r => ?_))
  refine br_c (fun _ => br_c (fun _ => br_c (fun _ => ?_) (fun _ => br_c (fun _ => ?_) (fun _ => br_c (fun _ => ?_) (fun _ => br_c (fun _ => ?_) (fun _ => ?_))))) (fun _ => ?_)) (fun _ => ?_)
  · exact rf_repeat hn (fun _ => H0) (fun _ => H1)
  · exact rf_set hn (fun _ => H0) (fun _ => H1)
  · exact rf_pop hn (fun _ => H0) (fun _ => H1)
  · exact rf_reverse hn (fun _ => H1)
  · exact rf_repeat hn (fun _ => H0) (fun _ => H1)
  · exact rf_push hn (fun _ => H0) (fun _ => H1)
  · exact rf_push hn (fun _ => H0) (fun _ => H1)
end
section
/-! PART 4: forward, backward, comesBefore, findEndings. -/
theorem rf_pred {a b : Nat} (h : b < a) : nI a - 1 - nI b = nI (a - 1 - b) := by
  have e : nI a - 1 = nI (a - 1) := pk_sub (a := a) (b := 1) (by omega)
  rw [e, pk_sub (by omega)]
theorem rf_forward {post : Int32 → Prop} {n i j : Nat} {rc cur : Int32} {a1 a2 a3 a4 a5 : Nat → Int32} (hn : n ≤ 48) (hi : i ≤ n) (hj : j ≤ n) (H : ∀ s, i + s ≤ n → j + s ≤ n → (∀ t, t < s → a1 (i + t) = a1 (j + t)) → (i + s < n → j + s < n → ¬ a1 (i + s) = a1 (j + s)) → post (nI s)) : wpX_forward post (nI n, rc, cur, a1, a2, a3, a4, a5) (nI i) (nI j) := by
  unfold wpX_forward
  dsimp only
  refine loop_m (fun fu s => wX_forward_2 post (nI i) (nI j) (nI n) rc cur a1 a2 a3 a4 a5 fu (nI s)) (fun s => i + s ≤ n ∧ j + s ≤ n ∧ ∀ t, t < s → a1 (i + t) = a1 (j + t)) (fun s => n - s) (fun fu s hI hw => ?_) 0 ⟨by omega, by omega, fun t ht => absurd ht (by omega)⟩
  obtain ⟨h1, h2, h3⟩ := hI
  have c1 : (nI i + nI s).toNatClampNeg = i + s := pk_cl (i + s) (nI_add i s)
  have c2 : (nI j + nI s).toNatClampNeg = j + s := pk_cl (j + s) (nI_add j s)
  refine pk_le n (i + s) (fun z => H s h1 h2 h3 (fun y => absurd y (by omega))) (fun z => ?_) rfl (nI_add i s)
  refine pk_le n (j + s) (fun z => H s h1 h2 h3 (fun _ y => absurd y (by omega))) (fun z => ?_) rfl (nI_add j s)
  refine ⟨pk_in (i + s) 48 (by omega) (nI_add i s), pk_in (j + s) 48 (by omega) (nI_add j s), ?_⟩
  rw [c1, c2]
  exact br_c (fun e => nm_r (nI_1 s) (hw (s + 1) ⟨by omega, by omega, lt_s h3 e⟩ (show n - (s + 1) < n - s by omega))) (fun e => H s h1 h2 h3 (fun _ _ => e))
theorem rf_backward {post : Int32 → Prop} {n i k : Nat} {rc cur : Int32} {a1 a2 a3 a4 a5 : Nat → Int32} (hn : n ≤ 48) (hik : i < k) (hk : k ≤ n) (H : ∀ s, s ≤ i → (∀ t, t < s → a1 (i - 1 - t) = a1 (k - 1 - t)) → (s < i → ¬ a1 (i - 1 - s) = a1 (k - 1 - s)) → post (nI s)) : wpX_backward post (nI n, rc, cur, a1, a2, a3, a4, a5) (nI i) (nI k) := by
  unfold wpX_backward
  dsimp only
  refine loop_m (fun fu s => wX_backward_2 post (nI i) (nI k) (nI n) rc cur a1 a2 a3 a4 a5 fu (nI s)) (fun s => s ≤ i ∧ ∀ t, t < s → a1 (i - 1 - t) = a1 (k - 1 - t)) (fun s => i - s) (fun fu s hI hw => ?_) 0 ⟨by omega, fun t ht => absurd ht (by omega)⟩
  obtain ⟨h1, h3⟩ := hI
  refine pk_le i s (fun z => H s h1 h3 (fun y => absurd y (by omega))) (fun z => ?_)
  refine pk_le k s (fun y => absurd y (by omega)) (fun y => ?_)
  have c1 : (nI i - 1 - nI s).toNatClampNeg = i - 1 - s := pk_cl (i - 1 - s) (rf_pred z)
  have c2 : (nI k - 1 - nI s).toNatClampNeg = k - 1 - s := pk_cl (k - 1 - s) (rf_pred y)
  refine ⟨pk_in (i - 1 - s) 48 (by omega) (rf_pred z), pk_in (k - 1 - s) 48 (by omega) (rf_pred y), ?_⟩
  rw [c1, c2]
  exact br_c (fun e => nm_r (nI_1 s) (hw (s + 1) ⟨by omega, lt_s h3 e⟩ (show i - (s + 1) < i - s by omega))) (fun e => H s h1 h3 (fun _ => e))
theorem rf_before {post : Int32 → Prop} {n i k : Nat} {rc cur f : Int32} {a1 a2 a3 a4 a5 : Nat → Int32} {up : Bool} (hu : f = 0 ↔ up = false) (hn : n ≤ 48) (hik : i < k) (hk : k < n) (H1 : rf_lt (rf_K up a1 n) k i → post 1) (H0 : rf_lt (rf_K up a1 n) i k → post 0) : wpX_comesBefore post (nI n, rc, cur, a1, a2, a3, a4, a5) (nI k) (nI i) f := by
  unfold wpX_comesBefore
  dsimp only
  refine rf_forward hn (by omega) (by omega) (fun s h1 h2 h3 h4 => ?_)
  have c1 : (nI k + nI s).toNatClampNeg = k + s := pk_cl (k + s) (nI_add k s)
  have c2 : (nI i + nI s).toNatClampNeg = i + s := pk_cl (i + s) (nI_add i s)
  rw [c1, c2]
  have E : ∀ t, t < s → rf_K up a1 n (i + t) = rf_K up a1 n (k + t) := fun t ht => rf_K_eq (by omega) (by omega) (h3 t ht)
  refine pk_lt (k + s) n (fun z => ?_) (fun z => ?_) (nI_add k s) rfl
  · have ne := h4 (by omega) z
    have ne' : (a1 (k + s)).toInt ≠ (a1 (i + s)).toInt := fun q => ne (Int32.toInt.inj q).symm
    have v1 : vp_in (nI k + nI s) 48 := pk_in (k + s) 48 (by omega) (nI_add k s)
    have v2 : vp_in (nI i + nI s) 48 := pk_in (i + s) 48 (by omega) (nI_add i s)
    refine br_c (fun y => ⟨v1, v2, ?_⟩) (fun y => ⟨v1, v2, ?_⟩)
    · have hf := hu.mp y
      subst hf
      have k1 := rf_K_dn (T := a1) (n := n) (x := i + s) (by omega)
      have k2 := rf_K_dn (T := a1) (n := n) (x := k + s) z
      refine br_c (fun w => H0 ⟨s, E, ?_⟩) (fun w => H1 ⟨s, fun t ht => (E t ht).symm, ?_⟩)
      · have w' := Int32.le_iff_toInt_le.mp w
        rw [k1, k2]
        omega
      · have w' : ¬ (a1 (k + s)).toInt ≤ (a1 (i + s)).toInt := fun q => w (Int32.le_iff_toInt_le.mpr q)
        rw [k1, k2]
        omega
    · have hf : up = true := by
        cases up
        · exact absurd (hu.mpr rfl) y
        · rfl
      subst hf
      have k1 := rf_K_up (T := a1) (n := n) (x := i + s) (by omega)
      have k2 := rf_K_up (T := a1) (n := n) (x := k + s) z
      refine br_c (fun w => H0 ⟨s, E, ?_⟩) (fun w => H1 ⟨s, fun t ht => (E t ht).symm, ?_⟩)
      · have w' := Int32.le_iff_toInt_le.mp w
        rw [k1, k2]
        omega
      · have w' : ¬ (a1 (i + s)).toInt ≤ (a1 (k + s)).toInt := fun q => w (Int32.le_iff_toInt_le.mpr q)
        rw [k1, k2]
        omega
  · refine H1 ⟨s, fun t ht => (E t ht).symm, ?_⟩
    rw [rf_K_end (x := k + s) z]
    exact rf_K_in (by omega)
/-- from e on the array holds the next smaller endings -/
def rf_after (K : Nat → Int) (n e : Nat) (a2 : Nat → Int32) : Prop := ∀ x, e ≤ x → x < n → ∃ k, k ≤ n ∧ a2 x = nI k ∧ rf_nss K x k
theorem rf_fe31 {post : St1 → Prop} {J : Int32 → (Nat → Int32) → (Nat → Int32) → (Nat → Int32) → (Nat → Int32) → (Nat → Int32) → Prop} {n i : Nat} {rc cur f : Int32} {a1 a2 a3 a4 a5 : Nat → Int32} {up : Bool} (hu : f = 0 ↔ up = false) (hn : n ≤ 48) (hi : i < n) (hA : rf_after (rf_K up a1 n) n (i + 1) a2) (H : ∀ b2, rf_after (rf_K up a1 n) n i b2 → J (nI i + (-1)) a1 b2 a3 a4 a5) : ∃ fu, wX_findEndings_31 post J f (nI i) (nI n) rc cur a1 a2 a3 a4 a5 fu (nI (i + 1)) 0 := by
  have fin : ∀ k, k ≤ n → rf_nss (rf_K up a1 n) i k → vp_in (nI i) 49 ∧ ∀ b2 : Nat → Int32, b2 = upd a2 (nI i).toNatClampNeg (nI k) → ∀ y : Int32, y = nI i + (-1) → J y a1 b2 a3 a4 a5 := by
    intro k hk hs
    refine ⟨pk_in i 49 (by omega), nm_e (nm_e (H _ ?_))⟩
    rw [nI_clamp (show i < 2 ^ 31 by omega)]
    intro x h1 h2
    by_cases e : x = i
    · exact ⟨k, hk, by rw [e, pk_us], by rw [e]; exact hs⟩
    · rw [pk_un e]
      exact hA x (by omega) h2
  refine loop_m (fun fu (s : Nat × Nat) => wX_findEndings_31 post J f (nI i) (nI n) rc cur a1 a2 a3 a4 a5 fu (nI s.1) (nI s.2)) (fun s => i < s.1 ∧ s.1 ≤ n ∧ i + 1 + s.2 ≤ s.1 ∧ ∀ m, i < m → m < s.1 → rf_lt (rf_K up a1 n) i m) (fun s => n - s.1) (fun fu s hI hw => ?_) (i + 1, 0) ⟨Nat.lt_succ_self i, hi, Nat.le_refl (i + 1), fun m g1 g2 => absurd (show m < i + 1 from g2) (by omega)⟩
  obtain ⟨k, t⟩ := s
  have h1 : i < k := hI.1
  have h2 : k ≤ n := hI.2.1
  have h3 : i + 1 + t ≤ k := hI.2.2.1
  have h4 : ∀ m, i < m → m < k → rf_lt (rf_K up a1 n) i m := hI.2.2.2
  refine pk_le 48 t (fun z => absurd z (by omega)) (fun z => ?_)
  refine pk_le n k (fun y => fin k h2 ⟨h1, h4, ?_⟩) (fun y => ?_)
  · refine ⟨0, fun t ht => absurd ht (by omega), ?_⟩
    rw [rf_K_end (x := k + 0) (by omega)]
    exact rf_K_in (by omega)
  · refine rf_before hu hn h1 y (fun g => br_f (by decide) (fin k h2 ⟨h1, h4, g⟩)) (fun g => ?_)
    obtain ⟨k', q1, q2, q3⟩ := hA k (by omega) y
    have q0 := q3.1
    have c1 : a2 (nI k).toNatClampNeg = nI k' := by
      rw [nI_clamp (show k < 2 ^ 31 by omega)]
      exact q2
    exact br_t rfl ⟨pk_in k 49 (by omega), nm_r c1 (nm_r (nI_1 t) (hw (k', t + 1) ⟨show i < k' by omega, q1, show i + 1 + (t + 1) ≤ k' by omega, rf_nss_jump h4 g q3⟩ (show n - k' < n - k by omega)))⟩
theorem rf_dec (n : Nat) : nI n - 1 = nI n + (-1) := Int32.sub_eq_add_neg _ _
theorem rf_findEndings {post : St1 → Prop} {n : Nat} {rc cur f : Int32} {a1 a2 a3 a4 a5 : Nat → Int32} {up : Bool} (hu : f = 0 ↔ up = false) (hn : n ≤ 48) (H : ∀ b2, rf_after (rf_K up a1 n) n 0 b2 → post (nI n, rc, cur, a1, b2, a3, a4, a5)) : wpX_findEndings post (nI n, rc, cur, a1, a2, a3, a4, a5) f := by
  unfold wpX_findEndings
  dsimp only
  refine ⟨pk_in n 49 (by omega), nm_e (nm_r (rf_dec n) ⟨n + 1, ?_⟩)⟩
  refine pk_loopD (fun fu e s => wX_findEndings_20 post f (nI n) rc cur fu (nI e + (-1)) a1 s a3 a4 a5) (fun e s => e ≤ n ∧ rf_after (rf_K up a1 n) n e s) (fun fu s hI => ?_) (fun fu e s hI hw => ?_) n _ ⟨Nat.le_refl n, fun x h1 h2 => absurd h1 (by omega)⟩
  · exact br_t (by decide) (H s hI.2)
  · have he : e + 1 ≤ n := hI.1
    show wX_findEndings_20 post f (nI n) rc cur (fu + 1) (nI (e + 1) + (-1)) a1 s a3 a4 a5
    rw [pk_m1]
    exact br_f (nI_pos (by omega)) (nm_r (nI_1 e) (rf_fe31 hu hn he hI.2 (fun b2 h => hw b2 ⟨by omega, h⟩)))
end
section
/-! PART 5: insert, widen, refresh: the kept runs are good ones, in order. -/
def rf_half (a s : Nat → Int32) (e c : Nat) : Prop := (∀ r, r < e → s r = a r) ∧ (∀ r, e < r → r ≤ c → s r = a (r - 1))
theorem rf_half_0 (a : Nat → Int32) (c : Nat) : rf_half a a c c := ⟨fun r _ => rfl, fun r h1 h2 => absurd h1 (by omega)⟩
theorem rf_half_s {a s : Nat → Int32} {e c : Nat} (h : rf_half a s (e + 1) c) : rf_half a (upd s (e + 1) (s e)) e c := by
  refine ⟨fun r hr => ?_, fun r h1 h2 => ?_⟩
  · rw [pk_un (by omega)]
    exact h.1 r (by omega)
  · by_cases z : r = e + 1
    · rw [z, pk_us]
      exact h.1 e (by omega)
    · rw [pk_un z]
      exact h.2 r (by omega) h2
/-- b is a with a place made at q for the int v -/
theorem rf_half_e {a s : Nat → Int32} {F : Nat → Nat} {q c v : Nat} (h : rf_half a s q c) (hF : ∀ r, r < c → a r = nI (F r)) (hq : q ≤ c) : ∀ r, r < c + 1 → upd s q (nI v) r = nI (rf_ins F q v r) := by
  intro r hr
  rcases Nat.lt_trichotomy r q with z | z | z
  · rw [pk_un (by omega), rf_ins_lo z, h.1 r z]
    exact hF r (by omega)
  · rw [rf_ins_at z, z, pk_us]
  · rw [pk_un (by omega), rf_ins_hi z, h.2 r z (by omega)]
    exact hF (r - 1) (by omega)
/-- the kept runs: n places of text, c runs -/
def rf_Cur (n c : Nat) (T a3 a4 a5 : Nat → Int32) : Prop := ∃ F J P, rf_ok T n c F J P ∧ (∀ r, r < c → a3 r = nI (F r)) ∧ (∀ r, r < c → a4 r = nI (J r)) ∧ (∀ r, r < c → a5 r = nI (P r))
theorem rf_Cur_0 {n : Nat} {T a3 a4 a5 : Nat → Int32} : rf_Cur n 0 T a3 a4 a5 := ⟨fun _ => 0, fun _ => 0, fun _ => 0, rf_ok_0, fun r h => absurd h (by omega), fun r h => absurd h (by omega), fun r h => absurd h (by omega)⟩
theorem rf_bd {T : Nat → Int32} {n i j p : Nat} (h : rf_run T n i j p) (hn : n ≤ 48) : 1 ≤ p ∧ i + 2 * p ≤ j + 1 ∧ j < 48 := ⟨h.1, h.2.1, by have := h.2.2.1; omega⟩
theorem rf_ins103 {post : St1 → Prop} {n c q i j p : Nat} {cur : Int32} {F J P : Nat → Nat} {a1 a2 a3 a4 a5 : Nat → Int32} (hq : q ≤ c) (hc : c < 100) (e3 : ∀ r, r < c → a3 r = nI (F r)) (e4 : ∀ r, r < c → a4 r = nI (J r)) (e5 : ∀ r, r < c → a5 r = nI (P r)) (H : ∀ b3 b4 b5 : Nat → Int32, (∀ r, r < c + 1 → b3 r = nI (rf_ins F q i r)) → (∀ r, r < c + 1 → b4 r = nI (rf_ins J q j r)) → (∀ r, r < c + 1 → b5 r = nI (rf_ins P q p r)) → post (nI n, nI (c + 1), cur, a1, a2, b3, b4, b5)) : ∃ fu, wX_insert_103 post (nI i) (nI j) (nI p) (nI q) (nI n) (nI c) cur fu (nI c) a1 a2 a3 a4 a5 := by
  obtain ⟨d, rfl⟩ : ∃ d, c = q + d := ⟨c - q, by omega⟩
  refine ⟨d + 1, ?_⟩
  refine pk_loopD (fun fu e (s : (Nat → Int32) × (Nat → Int32) × (Nat → Int32)) => wX_insert_103 post (nI i) (nI j) (nI p) (nI q) (nI n) (nI (q + d)) cur fu (nI (q + e)) a1 a2 s.1 s.2.1 s.2.2) (fun e s => e ≤ d ∧ rf_half a3 s.1 (q + e) (q + d) ∧ rf_half a4 s.2.1 (q + e) (q + d) ∧ rf_half a5 s.2.2 (q + e) (q + d)) (fun fu s hI => ?_) (fun fu e s hI hw => ?_) d (a3, a4, a5) ⟨Nat.le_refl d, rf_half_0 _ _, rf_half_0 _ _, rf_half_0 _ _⟩
  · obtain ⟨s3, s4, s5⟩ := s
    obtain ⟨_, h3, h4, h5⟩ := hI
    have c1 : (nI q).toNatClampNeg = q := nI_clamp (by omega)
    have v : vp_in (nI q) 100 := pk_in q 100 (by omega)
    refine pk_le (q + 0) q (fun _ => ?_) (fun z => absurd z (by omega))
    rw [c1]
    exact ⟨v, nm_e ⟨v, nm_e ⟨v, nm_e (nm_r (nI_1 (q + d)) (H _ _ _ (rf_half_e h3 e3 hq) (rf_half_e h4 e4 hq) (rf_half_e h5 e5 hq)))⟩⟩⟩
  · obtain ⟨s3, s4, s5⟩ := s
    obtain ⟨h0, h3, h4, h5⟩ := hI
    have h0' : e + 1 ≤ d := h0
    have p1 : nI (q + (e + 1)) - 1 = nI (q + e) := nI_pred (q + e)
    have c1 : (nI (q + (e + 1))).toNatClampNeg = q + e + 1 := nI_clamp (by omega)
    have c2 : (nI (q + (e + 1)) - 1).toNatClampNeg = q + e := pk_cl (q + e) p1
    have v1 : vp_in (nI (q + (e + 1)) - 1) 100 := pk_in (q + e) 100 (by omega) p1
    have v2 : vp_in (nI (q + (e + 1))) 100 := pk_in (q + (e + 1)) 100 (by omega)
    refine pk_le (q + (e + 1)) q (fun z => absurd z (by omega)) (fun _ => ?_)
    rw [c1, c2]
    exact ⟨v1, v2, nm_e ⟨v1, v2, nm_e ⟨v1, v2, nm_e (nm_r (pk_m1 (q + e)) (hw (_, _, _) ⟨by omega, rf_half_s h3, rf_half_s h4, rf_half_s h5⟩))⟩⟩⟩
theorem rf_insert {post : St1 → Prop} {n c i j p : Nat} {cur : Int32} {a1 a2 a3 a4 a5 : Nat → Int32} (hn : n ≤ 48) (hc : c < 100) (hC : rf_Cur n c a1 a3 a4 a5) (hg : rf_good a1 n i j p) (H0 : post (nI n, nI c, cur, a1, a2, a3, a4, a5)) (H1 : ∀ b3 b4 b5, rf_Cur n (c + 1) a1 b3 b4 b5 → post (nI n, nI (c + 1), cur, a1, a2, b3, b4, b5)) : wpX_insert post (nI n, nI c, cur, a1, a2, a3, a4, a5) (nI i) (nI j) (nI p) := by
  obtain ⟨F, J, P, ok, e3, e4, e5⟩ := hC
  have bi := rf_bd hg.1 hn
  have bF : ∀ r, r < c → 1 ≤ P r ∧ F r + 2 * P r ≤ J r + 1 ∧ J r < 48 := fun r hr => rf_bd (ok.1 r hr).1 hn
  have at87 : ∀ q, q ≤ c → (∀ r, r < q → F r < i ∨ F r = i ∧ P r < p) → (∀ r, q ≤ r → r < c → i < F r ∨ i = F r ∧ p < P r) → wX_insert_87 post (nI i) (nI j) (nI p) (nI q) (nI n) (nI c) cur a1 a2 a3 a4 a5 := by
    intro q hq g1 g2
    exact pk_eq c 100 (fun z => absurd z (by omega)) (fun _ => rf_ins103 hq hc e3 e4 e5 (fun b3 b4 b5 m3 m4 m5 => H1 b3 b4 b5 ⟨rf_ins F q i, rf_ins J q j, rf_ins P q p, rf_ok_ins ok hq hg g1 g2, m3, m4, m5⟩))
  have at56 : ∀ q, q ≤ c → (0 < q → F (q - 1) < i ∨ F (q - 1) = i ∧ P (q - 1) ≤ p) → (∀ r, q ≤ r → r < c → i < F r ∨ i = F r ∧ p < P r) → wX_insert_56 post (nI i) (nI j) (nI p) (nI q) (nI n) (nI c) cur a1 a2 a3 a4 a5 := by
    intro q hq g1 g2
    refine pk_le q 0 (fun z => at87 q hq (fun r hr => absurd hr (by omega)) g2) (fun z => ?_)
    have p1 : nI q - 1 = nI (q - 1) := pk_sub (a := q) (b := 1) (by omega)
    have c1 : (nI q - 1).toNatClampNeg = q - 1 := pk_cl (q - 1) p1
    have v : vp_in (nI q - 1) 100 := pk_in (q - 1) 100 (by omega) p1
    have bq := bF (q - 1) (by omega)
    have b := g1 z
    have lo : ¬ (F (q - 1) = i ∧ P (q - 1) = p) → ∀ r, r < q → F r < i ∨ F r = i ∧ P r < p := by
      intro ne r hr
      by_cases y : r = q - 1
      · rw [y]
        omega
      · have := ok.2 r (q - 1) (by omega) (by omega)
        omega
    rw [c1, e3 (q - 1) (by omega), e5 (q - 1) (by omega)]
    exact ⟨v, pk_eq (F (q - 1)) i (fun y => ⟨v, pk_eq (P (q - 1)) p (fun w => H0) (fun w => at87 q hq (lo (fun u => w u.2)) g2)⟩) (fun y => at87 q hq (lo (fun u => y u.1)) g2)⟩
  unfold wpX_insert
  dsimp only
  refine loop_m (fun fu q => wX_insert_6 post (nI i) (nI j) (nI p) (nI n) (nI c) cur a1 a2 a3 a4 a5 fu (nI q)) (fun q => q ≤ c ∧ ∀ r, q ≤ r → r < c → i < F r ∨ i = F r ∧ p < P r) (fun q => q) (fun fu q hI hw => ?_) c ⟨Nat.le_refl c, fun r h1 h2 => absurd h1 (by omega)⟩
  obtain ⟨hq, g2⟩ := hI
  refine pk_le q 0 (fun z => at56 q hq (fun y => absurd y (by omega)) g2) (fun z => ?_)
  have p1 : nI q - 1 = nI (q - 1) := pk_sub (a := q) (b := 1) (by omega)
  have c1 : (nI q - 1).toNatClampNeg = q - 1 := pk_cl (q - 1) p1
  have v : vp_in (nI q - 1) 100 := pk_in (q - 1) 100 (by omega) p1
  have bq := bF (q - 1) (by omega)
  have dn : (i < F (q - 1) ∨ i = F (q - 1) ∧ p < P (q - 1)) → ∀ y : Int32, y = nI q + (-1) → wX_insert_6 post (nI i) (nI j) (nI p) (nI n) (nI c) cur a1 a2 a3 a4 a5 fu y := by
    intro g
    refine nm_r (sb_m1 z) (hw (q - 1) ⟨by omega, fun r h1 h2 => ?_⟩ (show q - 1 < q by omega))
    by_cases y : r = q - 1
    · rw [y]
      exact g
    · exact g2 r (by omega) h2
  rw [c1, e3 (q - 1) (by omega), e5 (q - 1) (by omega)]
  exact ⟨v, pk_lt i (F (q - 1)) (fun y => dn (Or.inl y)) (fun y => ⟨v, pk_eq (F (q - 1)) i (fun w => ⟨v, pk_le (P (q - 1)) p (fun u => at56 q hq (fun _ => Or.inr ⟨w, u⟩) g2) (fun u => dn (Or.inr ⟨w.symm, u⟩))⟩) (fun w => at56 q hq (fun _ => Or.inl (by omega)) g2)⟩)⟩
theorem rf_widen {post : St1 → Prop} {n c i k : Nat} {cur : Int32} {a1 a2 a3 a4 a5 : Nat → Int32} {up : Bool} (hn : n ≤ 48) (hc : c < 100) (hC : rf_Cur n c a1 a3 a4 a5) (hk : k ≤ n) (hs : rf_nss (rf_K up a1 n) i k) (H0 : post (nI n, nI c, cur, a1, a2, a3, a4, a5)) (H1 : ∀ b3 b4 b5, rf_Cur n (c + 1) a1 b3 b4 b5 → post (nI n, nI (c + 1), cur, a1, a2, b3, b4, b5)) : wpX_widen post (nI n, nI c, cur, a1, a2, a3, a4, a5) (nI i) (nI k) := by
  have hik := hs.1
  have w22 : ∀ r, k + r ≤ n → (∀ t, t < r → a1 (i + t) = a1 (k + t)) → wX_widen_22 post (nI i) (nI k) (nI (k - i)) (nI r) (nI n) (nI c) cur a1 a2 a3 a4 a5 := by
    intro r hr h1
    unfold wX_widen_22
    refine rf_backward hn hik hk (fun l hl h2 h3 => ?_)
    refine pk_lt (l + r) (k - i) (fun _ => H0) (fun z => ?_) (nI_add l r) rfl
    have e1 : nI i - nI l = nI (i - l) := pk_sub hl
    have e2 : nI k + nI r - 1 = nI (k + r - 1) := by
      rw [nI_add]
      exact pk_sub (a := k + r) (b := 1) (by omega)
    rw [e1, e2]
    exact rf_insert hn hc hC (rf_widened hs hk hr h1 hl h2 h3 z) H0 H1
  unfold wpX_widen
  dsimp only
  exact nm_r (pk_sub (by omega)) (pk_le n k (fun z => w22 0 (by omega) (fun t ht => absurd ht (by omega))) (fun z => rf_forward hn (by omega) hk (fun s h1 h2 h3 h4 => w22 s h2 h3)))
theorem rf_ref40 {post : St1 → Prop} {J : Int32 → Int32 → Int32 → Int32 → (Nat → Int32) → (Nat → Int32) → (Nat → Int32) → (Nat → Int32) → (Nat → Int32) → Prop} {n c d : Nat} {cur side : Int32} {a1 a2 a3 a4 a5 : Nat → Int32} {up : Bool} (hn : n ≤ 48) (hc : c ≤ d) (hd : d ≤ 48) (hA : rf_after (rf_K up a1 n) n 0 a2) (hC : rf_Cur n c a1 a3 a4 a5) (H : ∀ c' b3 b4 b5, c' ≤ d + 48 → rf_Cur n c' a1 b3 b4 b5 → J (side + 1) (nI n) (nI c') cur a1 a2 b3 b4 b5) : ∃ fu, wX_refresh_40 post J side fu 0 (nI n) (nI c) cur a1 a2 a3 a4 a5 := by
  refine pk_loop (fun fu i (s : Nat × (Nat → Int32) × (Nat → Int32) × (Nat → Int32)) => wX_refresh_40 post J side fu (nI i) (nI n) (nI s.1) cur a1 a2 s.2.1 s.2.2.1 s.2.2.2) (fun i s => s.1 ≤ d + i ∧ rf_Cur n s.1 a1 s.2.1 s.2.2.1 s.2.2.2) n 0 (c, a3, a4, a5) (by omega) ⟨hc, hC⟩ (fun fu s hI => ?_) (fun fu i s hi hI hw => ?_)
  · obtain ⟨h1, h2⟩ := hI
    exact pk_le n n (fun _ => nm_e (H _ _ _ _ (by omega) h2)) (fun z => absurd z (by omega))
  · obtain ⟨c', s3, s4, s5⟩ := s
    have h1 : c' ≤ d + i := hI.1
    have h2 : rf_Cur n c' a1 s3 s4 s5 := hI.2
    obtain ⟨k, k1, k2, k3⟩ := hA i (by omega) hi
    refine pk_le n i (fun z => absurd z (by omega)) (fun _ => ⟨pk_in i 49 (by omega), ?_⟩)
    rw [nI_clamp (show i < 2 ^ 31 by omega), k2]
    exact rf_widen hn (by omega) h2 k1 k3 (nm_r (nI_1 i) (hw (c', s3, s4, s5) ⟨show c' ≤ d + (i + 1) by omega, h2⟩)) (fun b3 b4 b5 hb => nm_r (nI_1 i) (hw (c' + 1, b3, b4, b5) ⟨show c' + 1 ≤ d + (i + 1) by omega, hb⟩))
theorem rf_ref35 {post : St1 → Prop} {J : Int32 → Int32 → Int32 → Int32 → (Nat → Int32) → (Nat → Int32) → (Nat → Int32) → (Nat → Int32) → (Nat → Int32) → Prop} {n c d : Nat} {cur side f : Int32} {a1 a2 a3 a4 a5 : Nat → Int32} {up : Bool} (hu : f = 0 ↔ up = false) (hn : n ≤ 48) (hc : c ≤ d) (hd : d ≤ 48) (hC : rf_Cur n c a1 a3 a4 a5) (H : ∀ c' b2 b3 b4 b5, c' ≤ d + 48 → rf_Cur n c' a1 b3 b4 b5 → J (side + 1) (nI n) (nI c') cur a1 b2 b3 b4 b5) : wX_refresh_35 post J side f (nI n) (nI c) cur a1 a2 a3 a4 a5 := by
  unfold wX_refresh_35
  exact rf_findEndings hu hn (fun b2 hA => rf_ref40 hn hc hd hA hC (fun c' b3 b4 b5 g1 g2 => H c' b2 b3 b4 b5 g1 g2))
/-- the state between two calls: if it is current, it holds good runs in order -/
def rf_Inv (n : Nat) (rc cur : Int32) (a1 a3 a4 a5 : Nat → Int32) : Prop := n ≤ 48 ∧ (cur = 0 ∨ ¬ cur = 0 ∧ ∃ c, rc = nI c ∧ rf_Cur n c a1 a3 a4 a5)
theorem rf_refresh {post : St1 → Prop} {n : Nat} {rc cur : Int32} {a1 a2 a3 a4 a5 : Nat → Int32} (hI : rf_Inv n rc cur a1 a3 a4 a5) (H : ∀ c cur' b2 b3 b4 b5, ¬ cur' = 0 → rf_Cur n c a1 b3 b4 b5 → post (nI n, nI c, cur', a1, b2, b3, b4, b5)) : wpX_refresh post (nI n, rc, cur, a1, a2, a3, a4, a5) := by
  obtain ⟨hn, hI⟩ := hI
  unfold wpX_refresh
  dsimp only
  refine br_c (fun z => ?_) (fun z => ?_)
  · refine pk_loop (fun fu i (s : Nat × (Nat → Int32) × (Nat → Int32) × (Nat → Int32) × (Nat → Int32)) => wX_refresh_20 post fu (nI i) (nI n) (nI s.1) 1 a1 s.2.1 s.2.2.1 s.2.2.2.1 s.2.2.2.2) (fun i s => s.1 ≤ 48 * i ∧ rf_Cur n s.1 a1 s.2.2.1 s.2.2.2.1 s.2.2.2.2) 2 0 (0, a2, a3, a4, a5) (by omega) ⟨Nat.le_refl 0, rf_Cur_0⟩ (fun fu s hS => ?_) (fun fu i s hi hS hw => ?_)
    · exact pk_le 2 2 (fun _ => H _ _ _ _ _ _ (by decide) hS.2) (fun z => absurd z (by omega))
    · obtain ⟨c, s2, s3, s4, s5⟩ := s
      have h1 : c ≤ 48 * i := hS.1
      have h2 : rf_Cur n c a1 s3 s4 s5 := hS.2
      have hw' : ∀ c' b2 b3 b4 b5, c' ≤ 48 * i + 48 → rf_Cur n c' a1 b3 b4 b5 → wX_refresh_20 post fu (nI i + 1) (nI n) (nI c') 1 a1 b2 b3 b4 b5 := by
        intro c' b2 b3 b4 b5 g1 g2
        rw [nI_1]
        exact hw (c', b2, b3, b4, b5) ⟨show c' ≤ 48 * (i + 1) by omega, g2⟩
      refine pk_le 2 i (fun z => absurd z (by omega)) (fun _ => pk_eq i 0 (fun _ => ?_) (fun _ => ?_))
      · exact rf_ref35 (up := true) ⟨fun q => absurd q (by decide), fun q => absurd q (by decide)⟩ hn h1 (by omega) h2 hw'
      · exact rf_ref35 (up := false) ⟨fun _ => rfl, fun _ => rfl⟩ hn h1 (by omega) h2 hw'
  · rcases hI with y | y
    · exact absurd y z
    · obtain ⟨_, c, rfl, hC⟩ := y
      exact H c cur a2 a3 a4 a5 z hC
end
section
/-! PART 6: the reading methods over a current state, and the law's holds. -/
theorem rf_cur {post : St1 → Prop} {n rc cur : Int32} {a1 a2 a3 a4 a5 : Nat → Int32} (h : ¬ cur = 0) (H : post (n, rc, cur, a1, a2, a3, a4, a5)) : wpX_refresh post (n, rc, cur, a1, a2, a3, a4, a5) := br_f h H
theorem rf_isRun {post : Int32 → Prop} {c r : Nat} {n cur : Int32} {a1 a2 a3 a4 a5 : Nat → Int32} (hc : c < 100) (hr : r < c) (H : post 1) : wpX_isRun post (n, nI c, cur, a1, a2, a3, a4, a5) (nI r) := br_f (nI_pos (by omega)) (br_f (nI_ge hr (by omega)) H)
theorem rf_start {post : Int32 → St1 → Prop} {c r v : Nat} {n cur : Int32} {a1 a2 a3 a4 a5 : Nat → Int32} (hcur : ¬ cur = 0) (hc : c < 100) (hr : r < c) (hv : a3 r = nI v) (H : post (nI v) (n, nI c, cur, a1, a2, a3, a4, a5)) : wpX_start post (n, nI c, cur, a1, a2, a3, a4, a5) (nI r) := by
  unfold wpX_start
  dsimp only
  rw [nI_clamp (show r < 2 ^ 31 by omega)]
  refine rf_cur hcur (rf_isRun hc hr (br_f (by decide) ⟨pk_in r 100 (by omega), ?_⟩))
  rw [← hv] at H
  exact H
theorem rf_end {post : Int32 → St1 → Prop} {c r v : Nat} {n cur : Int32} {a1 a2 a3 a4 a5 : Nat → Int32} (hcur : ¬ cur = 0) (hc : c < 100) (hr : r < c) (hv : a4 r = nI v) (H : post (nI v) (n, nI c, cur, a1, a2, a3, a4, a5)) : wpX_end post (n, nI c, cur, a1, a2, a3, a4, a5) (nI r) := by
  unfold wpX_end
  dsimp only
  rw [nI_clamp (show r < 2 ^ 31 by omega)]
  refine rf_cur hcur (rf_isRun hc hr (br_f (by decide) ⟨pk_in r 100 (by omega), ?_⟩))
  rw [← hv] at H
  exact H
theorem rf_period {post : Int32 → St1 → Prop} {c r v : Nat} {n cur : Int32} {a1 a2 a3 a4 a5 : Nat → Int32} (hcur : ¬ cur = 0) (hc : c < 100) (hr : r < c) (hv : a5 r = nI v) (H : post (nI v) (n, nI c, cur, a1, a2, a3, a4, a5)) : wpX_period post (n, nI c, cur, a1, a2, a3, a4, a5) (nI r) := by
  unfold wpX_period
  dsimp only
  rw [nI_clamp (show r < 2 ^ 31 by omega)]
  refine rf_cur hcur (rf_isRun hc hr (br_f (by decide) ⟨pk_in r 100 (by omega), ?_⟩))
  rw [← hv] at H
  exact H
theorem rf_periodOf {post : Int32 → St1 → Prop} {n c r : Nat} {cur : Int32} {F J P : Nat → Nat} {a1 a2 a3 a4 a5 : Nat → Int32} (hn : n ≤ 48) (hcur : ¬ cur = 0) (hc : c < 100) (ok : rf_ok a1 n c F J P) (e3 : ∀ r, r < c → a3 r = nI (F r)) (e4 : ∀ r, r < c → a4 r = nI (J r)) (e5 : ∀ r, r < c → a5 r = nI (P r)) (hr : r < c) (H : post (nI (P r)) (nI n, nI c, cur, a1, a2, a3, a4, a5)) : wpX_periodOf post (nI n, nI c, cur, a1, a2, a3, a4, a5) (nI (F r)) (nI (J r)) := by
  have bF : ∀ r, r < c → 1 ≤ P r ∧ F r + 2 * P r ≤ J r + 1 ∧ J r < 48 := fun r hr => rf_bd (ok.1 r hr).1 hn
  have br := bF r hr
  have bn := (ok.1 r hr).1.2.2.1
  unfold wpX_periodOf
  dsimp only
  have pl : ∀ (post : Int32 → Prop) (x : Nat), x < n → post 1 → wpX_isPlace post (nI n, nI c, cur, a1, a2, a3, a4, a5) (nI x) := fun post x hx h => br_f (nI_pos (by omega)) (br_f (nI_ge hx (by omega)) h)
  refine pl _ _ (by omega) (br_f (by decide) (pl _ _ (by omega) (br_f (by decide) (br_t (nI_le (by omega) (by omega)) (rf_cur hcur ?_)))))
  refine pk_loop (fun fu m v => wX_periodOf_32 post (nI (F r)) (nI (J r)) (nI n) (nI c) cur a1 a2 a3 a4 a5 fu (nI v) (nI m)) (fun m v => v < 48 ∧ (v = 0 ∨ P r ≤ v) ∧ (r < m → v = P r)) c 0 0 (by omega) ⟨by omega, Or.inl rfl, fun h => absurd h (by omega)⟩ (fun fu v hI => ?_) (fun fu m v hm hI hw => ?_)
  · obtain ⟨h1, h2, h3⟩ := hI
    refine pk_le c c (fun _ => ?_) (fun z => absurd z (by omega))
    rw [h3 hr]
    exact H
  · obtain ⟨h1, h2, h3⟩ := hI
    have bm := bF m hm
    have c1 : (nI m).toNatClampNeg = m := nI_clamp (by omega)
    have v1 : vp_in (nI m) 100 := pk_in m 100 (by omega)
    have go : ∀ v', v' < 48 → (v' = 0 ∨ P r ≤ v') → (r < m + 1 → v' = P r) → ∀ y : Int32, y = nI m + 1 → wX_periodOf_32 post (nI (F r)) (nI (J r)) (nI n) (nI c) cur a1 a2 a3 a4 a5 fu (nI v') y := fun v' g1 g2 g3 => nm_r (nI_1 m) (hw v' ⟨g1, g2, g3⟩)
    refine pk_le c m (fun z => absurd z (by omega)) (fun _ => ⟨v1, ?_⟩)
    rw [c1, e3 m hm, e4 m hm]
    refine pk_lt (F r) (F m) (fun z => br_t rfl (go v h1 h2 (fun g => ?_))) (fun z => ⟨v1, pk_lt (J m) (J r) (fun y => br_t rfl (go v h1 h2 (fun g => ?_))) (fun y => br_f (by decide) ⟨v1, ?_⟩)⟩)
    · by_cases w : r = m
      · subst w
        omega
      · exact h3 (by omega)
    · by_cases w : r = m
      · subst w
        omega
      · exact h3 (by omega)
    · have mn : P r ≤ P m := rf_min (ok.1 r hr) (ok.1 m hm).1 z y
      have s1 : nI (J r) - nI (F r) + 1 = nI (J r - F r + 1) := by rw [pk_sub (by omega), nI_1]
      rw [c1, e5 m hm]
      refine pk_lt (J r - F r + 1) (2 * P m) (fun w => go v h1 h2 (fun g => ?_)) (fun w => pk_eq v 0 (fun u => ⟨v1, nm_e (go (P m) (by omega) (Or.inr mn) (fun g => ?_))⟩) (fun u => ⟨v1, pk_le v (P m) (fun q => go v h1 h2 (fun g => ?_)) (fun q => ⟨v1, nm_e (go (P m) (by omega) (Or.inr mn) (fun g => ?_))⟩)⟩)) s1 (pk_mul 2 (P m))
      · by_cases e : r = m
        · subst e
          omega
        · exact h3 (by omega)
      · by_cases e : r = m
        · rw [e]
        · have := h3 (by omega)
          omega
      · by_cases e : r = m
        · subst e
          omega
        · exact h3 (by omega)
      · by_cases e : r = m
        · rw [e]
        · have := h3 (by omega)
          omega
theorem rf_sq42 {post : Int32 → St1 → Prop} {J8 : Int32 → Int32 → Prop} {r z p s : Nat} {n rc cur : Int32} {a1 a2 a3 a4 a5 : Nat → Int32} (hr : r < 100) (hp : 1 ≤ p) (hz : 2 * p ≤ z) (hz2 : z ≤ 48) (ep : a5 r = nI p) (hs : s ≤ r * 4608) (H : ∀ s', 1 ≤ s' → s' ≤ (r + 1) * 4608 → J8 (nI s') (nI (r + 1))) : ∃ fu, wX_squares_42 post J8 (nI r) (nI z) n rc cur a1 a2 a3 a4 a5 fu (nI s) (nI (2 * p)) := by
  refine loop_m (fun fu (u : Nat × Nat) => wX_squares_42 post J8 (nI r) (nI z) n rc cur a1 a2 a3 a4 a5 fu (nI u.1) (nI u.2)) (fun u => 2 * p ≤ u.2 ∧ u.2 ≤ z + 2 * p ∧ u.1 ≤ r * 4608 + 48 * u.2 ∧ (u.2 = 2 * p ∨ 1 ≤ u.1)) (fun u => z + 1 - u.2) (fun fu u hI hw => ?_) (s, 2 * p) ⟨Nat.le_refl _, show 2 * p ≤ z + 2 * p by omega, show s ≤ r * 4608 + 48 * (2 * p) by omega, Or.inl rfl⟩
  obtain ⟨t, w⟩ := u
  have h1 : 2 * p ≤ w := hI.1
  have h2 : w ≤ z + 2 * p := hI.2.1
  have h3 : t ≤ r * 4608 + 48 * w := hI.2.2.1
  have h4 : w = 2 * p ∨ 1 ≤ t := hI.2.2.2
  refine pk_lt z w (fun y => nm_r (nI_1 r) (H t (by omega) (by omega))) (fun y => ?_)
  have e1 : nI t + (nI z - nI w + 1) = nI (t + (z - w + 1)) := by rw [pk_sub y, nI_1, nI_add]
  have e2 : nI w + 2 * a5 (nI r).toNatClampNeg = nI (w + 2 * p) := by
    rw [nI_clamp (show r < 2 ^ 31 by omega), ep, show 2 * nI p = nI (2 * p) from pk_mul 2 p, nI_add]
  exact nm_r e1 ⟨pk_in r 100 hr, nm_r e2 (hw (t + (z - w + 1), w + 2 * p) ⟨show 2 * p ≤ w + 2 * p by omega, show w + 2 * p ≤ z + 2 * p by omega, show t + (z - w + 1) ≤ r * 4608 + 48 * (w + 2 * p) by omega, Or.inr (show 1 ≤ t + (z - w + 1) by omega)⟩ (show z + 1 - (w + 2 * p) < z + 1 - w by omega))⟩
theorem rf_squares {post : Int32 → St1 → Prop} {n c : Nat} {cur : Int32} {F J P : Nat → Nat} {a1 a2 a3 a4 a5 : Nat → Int32} (hn : n ≤ 48) (hcur : ¬ cur = 0) (hc : c < 100) (ok : rf_ok a1 n c F J P) (e3 : ∀ r, r < c → a3 r = nI (F r)) (e4 : ∀ r, r < c → a4 r = nI (J r)) (e5 : ∀ r, r < c → a5 r = nI (P r)) (H : ∀ s, s < 2 ^ 31 → (c = 0 → s = 0) → (0 < c → 1 ≤ s) → post (nI s) (nI n, nI c, cur, a1, a2, a3, a4, a5)) : wpX_squares post (nI n, nI c, cur, a1, a2, a3, a4, a5) := by
  have bF : ∀ r, r < c → 1 ≤ P r ∧ F r + 2 * P r ≤ J r + 1 ∧ J r < 48 := fun r hr => rf_bd (ok.1 r hr).1 hn
  unfold wpX_squares
  dsimp only
  refine rf_cur hcur ?_
  refine pk_loop (fun fu r s => wX_squares_8 post (nI n) (nI c) cur a1 a2 a3 a4 a5 fu (nI s) (nI r)) (fun r s => s ≤ r * 4608 ∧ (r = 0 → s = 0) ∧ (0 < r → 1 ≤ s)) c 0 0 (by omega) ⟨by omega, fun _ => rfl, fun h => absurd h (by omega)⟩ (fun fu s hI => ?_) (fun fu r s hr hI hw => ?_)
  · obtain ⟨h1, h2, h3⟩ := hI
    exact pk_le c c (fun _ => H s (by omega) h2 h3) (fun z => absurd z (by omega))
  · obtain ⟨h1, h2, h3⟩ := hI
    have b := bF r hr
    have c1 : (nI r).toNatClampNeg = r := nI_clamp (by omega)
    have v : vp_in (nI r) 100 := pk_in r 100 (by omega)
    refine pk_le c r (fun z => absurd z (by omega)) (fun _ => ?_)
    rw [c1, e3 r hr, e4 r hr, e5 r hr]
    have s1 : nI (J r) - nI (F r) + 1 = nI (J r - F r + 1) := by rw [pk_sub (by omega), nI_1]
    exact ⟨v, v, nm_r s1 ⟨v, nm_r (pk_mul 2 (P r)) (rf_sq42 (by omega) b.1 (by omega) (by omega) (e5 r hr) h1 (fun s' g1 g2 => hw s' ⟨g2, fun q => absurd q (by omega), fun _ => g1⟩))⟩⟩
theorem rf_h122 {post : Int32 → St1 → Prop} {n c : Nat} {cur z : Int32} {F J P : Nat → Nat} {a1 a2 a3 a4 a5 : Nat → Int32} (hn : n ≤ 48) (hcur : ¬ cur = 0) (hc : c < 100) (ok : rf_ok a1 n c F J P) (e3 : ∀ r, r < c → a3 r = nI (F r)) (e4 : ∀ r, r < c → a4 r = nI (J r)) (e5 : ∀ r, r < c → a5 r = nI (P r)) (hz : c = 0 ∧ z = 1 ∨ 0 < c ∧ z = 0) (H : post 1 (nI n, nI c, cur, a1, a2, a3, a4, a5)) : wL_holds_122 post z (nI n) (nI c) cur a1 a2 a3 a4 a5 := by
  unfold wL_holds_122
  refine rf_squares hn hcur hc ok e3 e4 e5 (fun s hs g0 g1 => ?_)
  rcases hz with ⟨q, e⟩ | ⟨q, e⟩
  · subst e
    rw [g0 q]
    exact br_t rfl (br_t rfl H)
  · subst e
    exact br_f (nI_ne0 (g1 q) hs) (br_t rfl H)
theorem rf_h38 {post : Int32 → St1 → Prop} {n c : Nat} {cur : Int32} {F J P : Nat → Nat} {a1 a2 a3 a4 a5 : Nat → Int32} (hn : n ≤ 48) (hcur : ¬ cur = 0) (hc : c < 100) (ok : rf_ok a1 n c F J P) (e3 : ∀ r, r < c → a3 r = nI (F r)) (e4 : ∀ r, r < c → a4 r = nI (J r)) (e5 : ∀ r, r < c → a5 r = nI (P r)) (H : post 1 (nI n, nI c, cur, a1, a2, a3, a4, a5)) : ∃ fu, wL_holds_38 post (nI c) fu 0 0 (nI n) (nI c) cur a1 a2 a3 a4 a5 := by
  have bF : ∀ r, r < c → 1 ≤ P r ∧ F r + 2 * P r ≤ J r + 1 ∧ J r < 48 := fun r hr => rf_bd (ok.1 r hr).1 hn
  refine pk_loop (fun fu r v => wL_holds_38 post (nI c) fu (nI v) (nI r) (nI n) (nI c) cur a1 a2 a3 a4 a5) (fun r v => v < 48 ∧ (r = 0 → v = 0) ∧ (0 < r → v = F (r - 1))) c 0 0 (by omega) ⟨by omega, fun _ => rfl, fun h => absurd h (by omega)⟩ (fun fu v hI => ?_) (fun fu r v hr hI hw => ?_)
  · exact pk_le c c (fun _ => pk_eq c 0 (fun q => rf_h122 hn hcur hc ok e3 e4 e5 (Or.inl ⟨q, rfl⟩) H) (fun q => rf_h122 hn hcur hc ok e3 e4 e5 (Or.inr ⟨by omega, rfl⟩) H)) (fun z => absurd z (by omega))
  · obtain ⟨h1, h2, h3⟩ := hI
    have b := bF r hr
    have hv : v ≤ F r := by
      rcases Nat.eq_zero_or_pos r with q | q
      · have := h2 q
        omega
      · have := h3 q
        have := ok.2 (r - 1) r (by omega) hr
        omega
    refine pk_le c r (fun z => absurd z (by omega)) (fun _ => ?_)
    refine rf_start hcur hc hr (e3 r hr) ?_
    refine rf_end hcur hc hr (e4 r hr) ?_
    refine pk_lt (F r) v (fun z => absurd z (by omega)) (fun _ => ?_)
    refine pk_le (F r) (J r) (fun _ => ?_) (fun z => absurd z (by omega))
    refine rf_period hcur hc hr (e5 r hr) ?_
    refine pk_lt (P r) 1 (fun z => absurd z (by omega)) (fun _ => ?_)
    refine rf_periodOf hn hcur hc ok e3 e4 e5 hr ?_
    exact br_t rfl (nm_r (nI_1 r) (hw (F r) ⟨by omega, fun q => absurd q (by omega), fun _ => rfl⟩))
theorem rf_holds {post : Int32 → St1 → Prop} {n : Nat} {rc cur : Int32} {a1 a2 a3 a4 a5 : Nat → Int32} (hI : rf_Inv n rc cur a1 a3 a4 a5) (H : ∀ rc' cur' b2 b3 b4 b5, rf_Inv n rc' cur' a1 b3 b4 b5 → post 1 (nI n, rc', cur', a1, b2, b3, b4, b5)) : wpL_holds post (nI n, rc, cur, a1, a2, a3, a4, a5) := by
  have hn := hI.1
  unfold wpL_holds
  dsimp only
  unfold wpX_length
  dsimp only
  unfold wpX_runs
  dsimp only
  refine rf_refresh hI (fun c cur' b2 b3 b4 b5 hcur hC => ?_)
  have hP := H (nI c) cur' b2 b3 b4 b5 ⟨hn, Or.inr ⟨hcur, c, rfl, hC⟩⟩
  obtain ⟨F, J, P, ok, e3, e4, e5⟩ := hC
  have cnt := rf_count ok
  have hc : c < 100 := by omega
  have h38 := rf_h38 hn hcur hc ok e3 e4 e5 hP
  have h23 : wL_holds_23 post (nI n) (nI c) (nI n) (nI c) cur' a1 b2 b3 b4 b5 := pk_eq n 0 (fun q => pk_eq c 0 (fun _ => h38) (fun y => absurd y (by omega))) (fun _ => h38)
  exact br_f (nI_pos (by omega)) (pk_le n 0 (fun _ => h23) (fun z => pk_le n c (fun y => absurd y (by omega)) (fun _ => h23)))
end
section
/-! PART 7: the law's own loop, and what is owed. -/
theorem rf_cell {post : Int32 → Prop} {L k : Nat} {xs : Nat → Int32} {x : Int32} (hL : L ≤ 260) (hk : k < 2 ^ 31) (hx : x = nI k) (H : ∀ r, post r) : wpL_cell post L xs () x :=
  pk_le L k (fun _ => H _) (fun z => ⟨pk_in k L z hx, H _⟩) rfl hx
theorem rf_law10 {L n : Nat} {xs : Nat → Int32} {kc ks : Nat} {rc cur : Int32} {a1 a2 a3 a4 a5 : Nat → Int32} (hL : L ≤ 260) (hI : rf_Inv n rc cur a1 a3 a4 a5) : ∃ fu, wL_law_10 (fun r => r = 1) L xs kc ks fu 0 (nI n) rc cur a1 a2 a3 a4 a5 := by
  refine loop_m (fun fu (s : Nat × Nat × Int32 × Int32 × (Nat → Int32) × (Nat → Int32) × (Nat → Int32) × (Nat → Int32) × (Nat → Int32)) => wL_law_10 (fun r => r = 1) L xs kc ks fu (nI s.1) (nI s.2.1) s.2.2.1 s.2.2.2.1 s.2.2.2.2.1 s.2.2.2.2.2.1 s.2.2.2.2.2.2.1 s.2.2.2.2.2.2.2.1 s.2.2.2.2.2.2.2.2) (fun s => s.1 ≤ L + 1 ∧ rf_Inv s.2.1 s.2.2.1 s.2.2.2.1 s.2.2.2.2.1 s.2.2.2.2.2.2.1 s.2.2.2.2.2.2.2.1 s.2.2.2.2.2.2.2.2) (fun s => L + 2 - s.1) (fun fu s hS hw => ?_) (0, n, rc, cur, a1, a2, a3, a4, a5) ⟨Nat.zero_le _, hI⟩
  obtain ⟨k, m, rc', cur', b1, b2, b3, b4, b5⟩ := s
  have h1 : k ≤ L + 1 := hS.1
  have h2 : rf_Inv m rc' cur' b1 b3 b4 b5 := hS.2
  have hm := h2.1
  refine pk_le L k (fun _ => rfl) (fun z => ?_)
  refine rf_cell hL (k := k) (by omega) rfl (fun r => rf_cell hL (k := k + 1) (by omega) (nI_1 k) (fun r' => ?_))
  have go : ∀ m' rc' cur' b1 b2 b3 b4 b5, rf_Inv m' rc' cur' b1 b3 b4 b5 → wL_law_10 (fun r => r = 1) L xs kc ks fu (nI k + 2) (nI m') rc' cur' b1 b2 b3 b4 b5 := by
    intro m' rc' cur' b1 b2 b3 b4 b5 h
    rw [show nI k + 2 = nI (k + 2) from nI_add k 2]
    exact hw (k + 2, m', rc', cur', b1, b2, b3, b4, b5) ⟨show k + 2 ≤ L + 1 by omega, h⟩ (show L + 2 - (k + 2) < L + 2 - k by omega)
  have hh : ∀ m' rc'' cur'' c1 c2 c3 c4 c5, rf_Inv m' rc'' cur'' c1 c3 c4 c5 → wpL_holds (fun r_47 u => match u with | (fm0_length_48, fm0_runCount_49, fm0_current_50, am391_53, am392_56, am393_59, am394_62, am395_65) => (((r_47 = 0 → (0 : Int32) = 1)) ∧ (¬ r_47 = 0 → (∀ x2_67 : Int32, x2_67 = nI k + 2 → (wL_law_10 (fun r => r = 1) L xs kc ks fu x2_67 fm0_length_48 fm0_runCount_49 fm0_current_50 am391_53 am392_56 am393_59 am394_62 am395_65))))) (nI m', rc'', cur'', c1, c2, c3, c4, c5) := by
    intro m' rc'' cur'' c1 c2 c3 c4 c5 h
    exact rf_holds h (fun rc3 cur3 d2 d3 d4 d5 hd => br_f (by decide) (nm_e (go _ _ _ _ _ _ _ _ hd)))
  exact rf_turn hm (hh m rc' cur' b1 b2 b3 b4 b5 h2) (fun n' d1 hn' => hh n' rc' 0 d1 b2 b3 b4 b5 ⟨hn', Or.inl rfl⟩)
theorem i_vc (xs : Nat → Int32) (L : Nat) (hL : L ≤ 260) : wpL_law (fun r => r = 1) L xs :=
  ⟨5, 397, by omega, by omega, by omega, by omega, by omega, by omega, by omega, by omega, by omega, by omega, by omega, by omega, rf_law10 (n := 0) hL ⟨by omega, Or.inl rfl⟩⟩
end
