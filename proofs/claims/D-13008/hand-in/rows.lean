section
/-! sets of vertices: naturals below 128, by their bits -/
def cd_sum (f : Nat → Nat) : Nat := f 0 + f 1 + f 2 + f 3 + f 4 + f 5 + f 6
def cd_pc (s : Nat) : Nat := cd_sum (fun v => (s.testBit v).toNat)
/-- v is a vertex of the set s -/
def cd_V (s v : Nat) : Prop := v < 7 ∧ s.testBit v = true
theorem cd_7 {v : Nat} (h : v < 7) : v = 0 ∨ v = 1 ∨ v = 2 ∨ v = 3 ∨ v = 4 ∨ v = 5 ∨ v = 6 := by omega
theorem cd_sum_le {f g : Nat → Nat} (h : ∀ v, v < 7 → f v ≤ g v) : cd_sum f ≤ cd_sum g := by
  unfold cd_sum
  have h0 := h 0 (by omega)
  have h1 := h 1 (by omega)
  have h2 := h 2 (by omega)
  have h3 := h 3 (by omega)
  have h4 := h 4 (by omega)
  have h5 := h 5 (by omega)
  have h6 := h 6 (by omega)
  omega
theorem cd_sum_eq {f g : Nat → Nat} (h : ∀ v, v < 7 → f v = g v) : cd_sum f = cd_sum g := by
  unfold cd_sum
  rw [h 0 (by omega), h 1 (by omega), h 2 (by omega), h 3 (by omega), h 4 (by omega), h 5 (by omega), h 6 (by omega)]
theorem cd_sum_ins {f g : Nat → Nat} {x c : Nat} (hx : x < 7) (h : ∀ v, v < 7 → v ≠ x → g v = f v) (he : g x = f x + c) : cd_sum g = cd_sum f + c := by
  unfold cd_sum
  rcases cd_7 hx with z | z | z | z | z | z | z
  all_goals subst z
  · rw [he, h 1 (by omega) (by omega), h 2 (by omega) (by omega), h 3 (by omega) (by omega), h 4 (by omega) (by omega), h 5 (by omega) (by omega), h 6 (by omega) (by omega)]; omega
  · rw [he, h 0 (by omega) (by omega), h 2 (by omega) (by omega), h 3 (by omega) (by omega), h 4 (by omega) (by omega), h 5 (by omega) (by omega), h 6 (by omega) (by omega)]; omega
  · rw [he, h 1 (by omega) (by omega), h 0 (by omega) (by omega), h 3 (by omega) (by omega), h 4 (by omega) (by omega), h 5 (by omega) (by omega), h 6 (by omega) (by omega)]; omega
  · rw [he, h 1 (by omega) (by omega), h 2 (by omega) (by omega), h 0 (by omega) (by omega), h 4 (by omega) (by omega), h 5 (by omega) (by omega), h 6 (by omega) (by omega)]; omega
  · rw [he, h 1 (by omega) (by omega), h 2 (by omega) (by omega), h 3 (by omega) (by omega), h 0 (by omega) (by omega), h 5 (by omega) (by omega), h 6 (by omega) (by omega)]; omega
  · rw [he, h 1 (by omega) (by omega), h 2 (by omega) (by omega), h 3 (by omega) (by omega), h 4 (by omega) (by omega), h 0 (by omega) (by omega), h 6 (by omega) (by omega)]; omega
  · rw [he, h 1 (by omega) (by omega), h 2 (by omega) (by omega), h 3 (by omega) (by omega), h 4 (by omega) (by omega), h 5 (by omega) (by omega), h 0 (by omega) (by omega)]; omega
theorem cd_tn_le {a b : Bool} (h : a = true → b = true) : a.toNat ≤ b.toNat := by
  cases a <;> cases b <;> simp_all
theorem cd_tn_1 (a : Bool) : a.toNat ≤ 1 := by cases a <;> decide
theorem cd_beq {a b : Bool} (h : a = true ↔ b = true) : a = b := by
  cases a <;> cases b <;> simp_all
theorem cd_pc_le7 (s : Nat) : cd_pc s ≤ 7 := by
  have h : cd_pc s ≤ cd_sum (fun _ => 1) := cd_sum_le (fun v _ => cd_tn_1 _)
  exact h
theorem cd_pc_mono {s t : Nat} (h : ∀ v, cd_V s v → cd_V t v) : cd_pc s ≤ cd_pc t :=
  cd_sum_le (fun v hv => cd_tn_le (fun e => (h v ⟨hv, e⟩).2))
theorem cd_pc_eq {s t : Nat} (h : ∀ v, cd_V s v ↔ cd_V t v) : cd_pc s = cd_pc t :=
  Nat.le_antisymm (cd_pc_mono (fun v => (h v).mp)) (cd_pc_mono (fun v => (h v).mpr))
/-- t is s and one vertex more -/
theorem cd_pc_ins {s t x : Nat} (hx : x < 7) (hs : ¬ cd_V s x) (h : ∀ v, cd_V t v ↔ cd_V s v ∨ v = x) : cd_pc t = cd_pc s + 1 := by
  refine cd_sum_ins hx (fun v hv hn => ?_) ?_
  · show (t.testBit v).toNat = (s.testBit v).toNat
    rw [cd_beq (a := t.testBit v) (b := s.testBit v) ⟨fun e => ?_, fun e => ((h v).mpr (Or.inl ⟨hv, e⟩)).2⟩]
    rcases (h v).mp ⟨hv, e⟩ with z | z
    · exact z.2
    · exact absurd z hn
  · show (t.testBit x).toNat = (s.testBit x).toNat + 1
    rw [((h x).mpr (Or.inr rfl)).2]
    cases e : s.testBit x
    · rfl
    · exact absurd ⟨hx, e⟩ hs
theorem cd_and {s t v : Nat} : cd_V (s &&& t) v ↔ cd_V s v ∧ cd_V t v := by
  unfold cd_V
  rw [Nat.testBit_and, Bool.and_eq_true]
  exact ⟨fun h => ⟨⟨h.1, h.2.1⟩, ⟨h.1, h.2.2⟩⟩, fun h => ⟨h.1.1, h.1.2, h.2.2⟩⟩
theorem cd_or {s t v : Nat} : cd_V (s ||| t) v ↔ cd_V s v ∨ cd_V t v := by
  unfold cd_V
  rw [Nat.testBit_or, Bool.or_eq_true]
  exact ⟨fun h => h.2.imp (fun z => ⟨h.1, z⟩) (fun z => ⟨h.1, z⟩), fun h => h.elim (fun z => ⟨z.1, Or.inl z.2⟩) (fun z => ⟨z.1, Or.inr z.2⟩)⟩
theorem cd_one {x v : Nat} (hx : x < 7) : cd_V (2 ^ x) v ↔ v = x := by
  unfold cd_V
  rw [Nat.testBit_two_pow, decide_eq_true_eq]
  exact ⟨fun h => h.2.symm, fun h => ⟨by omega, h.symm⟩⟩
theorem cd_all {v : Nat} : cd_V 127 v ↔ v < 7 := by
  unfold cd_V
  rw [show (127 : Nat) = 2 ^ 7 - 1 from rfl, Nat.testBit_two_pow_sub_one, decide_eq_true_eq]
  exact ⟨fun h => h.1, fun h => ⟨h, h⟩⟩
theorem cd_zero {v : Nat} : ¬ cd_V 0 v := by
  unfold cd_V
  rw [Nat.zero_testBit]
  exact fun h => absurd h.2 (by decide)
/-- the complement: all the vertices that are not in s -/
def cd_not (s : Nat) : Nat := 127 ^^^ s
theorem cd_nt {s v : Nat} : cd_V (cd_not s) v ↔ v < 7 ∧ ¬ cd_V s v := by
  unfold cd_V cd_not
  rw [Nat.testBit_xor, show (127 : Nat) = 2 ^ 7 - 1 from rfl, Nat.testBit_two_pow_sub_one]
  refine ⟨fun h => ⟨h.1, fun z => ?_⟩, fun h => ⟨h.1, ?_⟩⟩
  · have h2 := h.2
    rw [z.2, decide_eq_true h.1] at h2
    exact absurd h2 (by decide)
  · rw [decide_eq_true h.1]
    cases e : s.testBit v
    · rfl
    · exact absurd ⟨h.1, e⟩ h.2
theorem cd_not_lt {s : Nat} (h : s < 128) : cd_not s < 128 := Nat.xor_lt_two_pow (n := 7) (by decide) h
theorem cd_and_lt {s t : Nat} (h : t < 128) : s &&& t < 128 := Nat.and_lt_two_pow (n := 7) s h
theorem cd_and_lt' {s t : Nat} (h : s < 128) : s &&& t < 128 := by
  rw [Nat.and_comm]
  exact cd_and_lt h
theorem cd_or_lt {s t : Nat} (h : s < 128) (h' : t < 128) : s ||| t < 128 := Nat.or_lt_two_pow (n := 7) h h'
theorem cd_one_lt {x : Nat} (h : x < 7) : 2 ^ x < 128 := by
  rcases cd_7 h with z | z | z | z | z | z | z <;> subst z <;> decide
theorem cd_ext {s t : Nat} (hs : s < 128) (ht : t < 128) (h : ∀ v, cd_V s v ↔ cd_V t v) : s = t := by
  apply Nat.eq_of_testBit_eq
  intro i
  rcases Nat.lt_or_ge i 7 with z | z
  · exact cd_beq ⟨fun e => ((h i).mp ⟨z, e⟩).2, fun e => ((h i).mpr ⟨z, e⟩).2⟩
  · have p : 2 ^ 7 ≤ 2 ^ i := Nat.pow_le_pow_right (by decide) z
    rw [Nat.testBit_lt_two_pow (show s < 2 ^ i by omega), Nat.testBit_lt_two_pow (show t < 2 ^ i by omega)]
theorem cd_dec (s v : Nat) : cd_V s v ∨ ¬ cd_V s v := Classical.em _
/-- every predicate on the vertices is a set -/
theorem cd_mk (P : Nat → Prop) : ∃ s, s < 128 ∧ ∀ v, cd_V s v ↔ v < 7 ∧ P v := by
  have key : ∀ n, n ≤ 7 → ∃ s, s < 128 ∧ ∀ v, cd_V s v ↔ v < n ∧ P v := by
    intro n
    induction n with
    | zero => exact fun _ => ⟨0, by decide, fun v => ⟨fun h => absurd h cd_zero, fun h => absurd h.1 (by omega)⟩⟩
    | succ n ih =>
      intro hn
      obtain ⟨s, h1, h2⟩ := ih (by omega)
      by_cases hp : P n
      · refine ⟨s ||| 2 ^ n, cd_or_lt h1 (cd_one_lt (by omega)), fun v => ?_⟩
        rw [cd_or, h2, cd_one (by omega)]
        refine ⟨fun h => ?_, fun h => ?_⟩
        · rcases h with h | h
          · exact ⟨by omega, h.2⟩
          · rw [h]; exact ⟨by omega, hp⟩
        · by_cases e : v = n
          · exact Or.inr e
          · exact Or.inl ⟨by omega, h.2⟩
      · refine ⟨s, h1, fun v => ?_⟩
        rw [h2]
        refine ⟨fun h => ⟨by omega, h.2⟩, fun h => ⟨?_, h.2⟩⟩
        by_cases e : v = n
        · rw [e] at h; exact absurd h.2 hp
        · omega
  exact key 7 (by omega)
theorem cd_pc_lt {s t x : Nat} (h : ∀ v, cd_V s v → cd_V t v) (hx : cd_V t x) (hs : ¬ cd_V s x) : cd_pc s < cd_pc t := by
  have h1 : cd_pc (s ||| 2 ^ x) = cd_pc s + 1 := cd_pc_ins hx.1 hs (fun v => by rw [cd_or, cd_one hx.1])
  have h2 : cd_pc (s ||| 2 ^ x) ≤ cd_pc t := cd_pc_mono (fun v hv => by
    rw [cd_or, cd_one hx.1] at hv
    rcases hv with z | z
    · exact h v z
    · rw [z]; exact hx)
  omega
theorem cd_pc_0 {s : Nat} (h : cd_pc s = 0) (v : Nat) : ¬ cd_V s v := by
  intro hv
  have := cd_pc_lt (s := 0) (t := s) (x := v) (fun w hw => absurd hw cd_zero) hv cd_zero
  omega
theorem cd_pc_pos {s v : Nat} (h : cd_V s v) : 0 < cd_pc s := by
  have := cd_pc_lt (s := 0) (t := s) (x := v) (fun w hw => absurd hw cd_zero) h cd_zero
  omega
/-- no more vertices than its part: the part is all -/
theorem cd_pc_full {s t : Nat} (h : ∀ v, cd_V s v → cd_V t v) (hc : cd_pc t ≤ cd_pc s) (v : Nat) (hv : cd_V t v) : cd_V s v := by
  rcases cd_dec s v with z | z
  · exact z
  · have := cd_pc_lt h hv z
    omega
theorem cd_pc_zero : cd_pc 0 = 0 := by decide
theorem cd_pc_single {s x : Nat} (hx : x < 7) (h : ∀ v, cd_V s v ↔ v = x) : cd_pc s = 1 := by
  have h1 := cd_pc_ins (s := 0) (t := s) hx cd_zero (fun v => by rw [h]; exact ⟨Or.inr, fun z => z.elim (fun y => absurd y cd_zero) id⟩)
  rw [cd_pc_zero] at h1
  exact h1
theorem cd_pc_two {s x y : Nat} (hx : x < 7) (hy : y < 7) (hn : x ≠ y) (h : ∀ v, cd_V s v ↔ v = x ∨ v = y) : cd_pc s = 2 := by
  have h1 := cd_pc_ins (s := 2 ^ x) (t := s) hy (by rw [cd_one hx]; exact fun z => hn z.symm) (fun v => by rw [h, cd_one hx])
  have h2 := cd_pc_single (s := 2 ^ x) hx (fun v => cd_one hx)
  omega
theorem cd_two' : ∀ s, s < 128 → cd_pc s = 2 → ∃ x, x < 7 ∧ ∃ y, y < 7 ∧ x < y ∧ ∀ v, v < 7 → (s.testBit v = true ↔ v = x ∨ v = y) := by decide +kernel
theorem cd_two {s : Nat} (hs : s < 128) (h : cd_pc s = 2) : ∃ x y, x < 7 ∧ y < 7 ∧ x < y ∧ ∀ v, cd_V s v ↔ v = x ∨ v = y := by
  obtain ⟨x, hx, y, hy, hn, k⟩ := cd_two' s hs h
  refine ⟨x, y, hx, hy, hn, fun v => ⟨fun z => (k v z.1).mp z.2, fun z => ?_⟩⟩
  have hv : v < 7 := by omega
  exact ⟨hv, (k v hv).mpr z⟩
theorem cd_pc_one' : ∀ s, s < 128 → cd_pc s = 1 → ∃ x, x < 7 ∧ ∀ v, v < 7 → (s.testBit v = true ↔ v = x) := by decide +kernel
/-- one vertex fewer -/
theorem cd_pc_del {s t x : Nat} (hx : cd_V s x) (h : ∀ v, cd_V t v ↔ cd_V s v ∧ v ≠ x) : cd_pc s = cd_pc t + 1 := by
  refine cd_pc_ins hx.1 (fun z => ((h x).mp z).2 rfl) (fun v => ?_)
  rw [h]
  refine ⟨fun z => ?_, fun z => ?_⟩
  · by_cases e : v = x
    · exact Or.inr e
    · exact Or.inl ⟨z, e⟩
  · rcases z with z | z
    · exact z.1
    · rw [z]; exact hx
/-- twice the sum over pairs: even -/
theorem cd_even {f : Nat → Nat → Nat} (hs : ∀ u w, u < 7 → w < 7 → f u w = f w u) (h0 : ∀ u, u < 7 → f u u = 0) : cd_sum (fun u => cd_sum (fun w => f u w)) % 2 = 0 := by
  simp only [cd_sum]
  rw [h0 0 (by omega), h0 1 (by omega), h0 2 (by omega), h0 3 (by omega), h0 4 (by omega), h0 5 (by omega), h0 6 (by omega)]
  rw [hs 1 0 (by omega) (by omega), hs 2 0 (by omega) (by omega), hs 3 0 (by omega) (by omega), hs 4 0 (by omega) (by omega), hs 5 0 (by omega) (by omega), hs 6 0 (by omega) (by omega)]
  rw [hs 2 1 (by omega) (by omega), hs 3 1 (by omega) (by omega), hs 4 1 (by omega) (by omega), hs 5 1 (by omega) (by omega), hs 6 1 (by omega) (by omega)]
  rw [hs 3 2 (by omega) (by omega), hs 4 2 (by omega) (by omega), hs 5 2 (by omega) (by omega), hs 6 2 (by omega) (by omega)]
  rw [hs 4 3 (by omega) (by omega), hs 5 3 (by omega) (by omega), hs 6 3 (by omega) (by omega)]
  rw [hs 5 4 (by omega) (by omega), hs 6 4 (by omega) (by omega), hs 6 5 (by omega) (by omega)]
  omega
theorem cd_odd {g : Nat → Nat} {a : Nat} (ha : a < 7) (h1 : g a = 1) (h : ∀ u, u < 7 → u ≠ a → g u % 2 = 0) : cd_sum g % 2 = 1 := by
  unfold cd_sum
  have k : ∀ u, u < 7 → u ≠ a → g u % 2 = 0 := h
  rcases cd_7 ha with z | z | z | z | z | z | z
  all_goals subst z
  · have := k 1 (by omega) (by omega); have := k 2 (by omega) (by omega); have := k 3 (by omega) (by omega); have := k 4 (by omega) (by omega); have := k 5 (by omega) (by omega); have := k 6 (by omega) (by omega); omega
  · have := k 0 (by omega) (by omega); have := k 2 (by omega) (by omega); have := k 3 (by omega) (by omega); have := k 4 (by omega) (by omega); have := k 5 (by omega) (by omega); have := k 6 (by omega) (by omega); omega
  · have := k 1 (by omega) (by omega); have := k 0 (by omega) (by omega); have := k 3 (by omega) (by omega); have := k 4 (by omega) (by omega); have := k 5 (by omega) (by omega); have := k 6 (by omega) (by omega); omega
  · have := k 1 (by omega) (by omega); have := k 2 (by omega) (by omega); have := k 0 (by omega) (by omega); have := k 4 (by omega) (by omega); have := k 5 (by omega) (by omega); have := k 6 (by omega) (by omega); omega
  · have := k 1 (by omega) (by omega); have := k 2 (by omega) (by omega); have := k 3 (by omega) (by omega); have := k 0 (by omega) (by omega); have := k 5 (by omega) (by omega); have := k 6 (by omega) (by omega); omega
  · have := k 1 (by omega) (by omega); have := k 2 (by omega) (by omega); have := k 3 (by omega) (by omega); have := k 4 (by omega) (by omega); have := k 0 (by omega) (by omega); have := k 6 (by omega) (by omega); omega
  · have := k 1 (by omega) (by omega); have := k 2 (by omega) (by omega); have := k 3 (by omega) (by omega); have := k 4 (by omega) (by omega); have := k 5 (by omega) (by omega); have := k 0 (by omega) (by omega); omega
end
section
/-! ways, gaps, and Dirac's theorem: a graph with no gap that a way goes around has an easy vertex -/
/-- y can be reached from x by joins of E into vertices of D -/
def cd_Rch (E : Nat → Nat → Prop) (D : Nat → Prop) (x y : Nat) : Prop := ∀ P : Nat → Prop, P x → (∀ u w, P u → E u w → D w → P w) → P y
theorem cd_rr {E : Nat → Nat → Prop} {D : Nat → Prop} (x : Nat) : cd_Rch E D x x := fun _ h _ => h
theorem cd_rs {E : Nat → Nat → Prop} {D : Nat → Prop} {x y z : Nat} (h : cd_Rch E D x y) (he : E y z) (hd : D z) : cd_Rch E D x z := fun P h0 hs => hs y z (h P h0 hs) he hd
theorem cd_rt {E : Nat → Nat → Prop} {D : Nat → Prop} {x y z : Nat} (h : cd_Rch E D x y) (h' : cd_Rch E D y z) : cd_Rch E D x z := fun P h0 hs => h' P (h P h0 hs) hs
theorem cd_rl {E : Nat → Nat → Prop} {D : Nat → Prop} {x y z : Nat} (he : E x y) (hd : D y) (h : cd_Rch E D y z) : cd_Rch E D x z := cd_rt (cd_rs (cd_rr x) he hd) h
theorem cd_rm {E : Nat → Nat → Prop} {D D' : Nat → Prop} {x y : Nat} (hm : ∀ w, D w → D' w) (h : cd_Rch E D x y) : cd_Rch E D' x y := fun P h0 hs => h P h0 (fun u w hu he hd => hs u w hu he (hm w hd))
theorem cd_rv {E : Nat → Nat → Prop} {D : Nat → Prop} {x y : Nat} (hE : ∀ u w, E u w → E w u) (hx : D x) (h : cd_Rch E D x y) : cd_Rch E D y x :=
  (h (fun w => cd_Rch E D w x ∧ D w) ⟨cd_rr x, hx⟩ (fun u w hu he hd => ⟨cd_rl (hE u w he) hu.2 hu.1, hd⟩)).1
/-- v, two neighbours a and b that are not joined, and a way from a to b that comes near v nowhere else; all inside L -/
def cd_Tri (E : Nat → Nat → Prop) (L : Nat → Prop) (v a b : Nat) : Prop :=
  L v ∧ L a ∧ L b ∧ E v a ∧ E v b ∧ a ≠ b ∧ ¬ E a b ∧ cd_Rch E (fun w => L w ∧ (w = b ∨ (w ≠ v ∧ ¬ E v w))) a b
theorem cd_tm {E : Nat → Nat → Prop} {L L' : Nat → Prop} {v a b : Nat} (hm : ∀ w, L w → L' w) (h : cd_Tri E L v a b) : cd_Tri E L' v a b :=
  ⟨hm _ h.1, hm _ h.2.1, hm _ h.2.2.1, h.2.2.2.1, h.2.2.2.2.1, h.2.2.2.2.2.1, h.2.2.2.2.2.2.1, cd_rm (fun w hw => ⟨hm w hw.1, hw.2⟩) h.2.2.2.2.2.2.2⟩
/-- the neighbours of u inside L are joined to each other -/
def cd_Simp (E : Nat → Nat → Prop) (L : Nat → Prop) (u : Nat) : Prop := ∀ a b, L a → L b → E u a → E u b → a ≠ b → E a b
theorem cd_dirac {E : Nat → Nat → Prop} (hE : ∀ u w, E u w → E w u) (h0 : ∀ u, ¬ E u u) : ∀ (n l : Nat), cd_pc l ≤ n → (∀ v a b, ¬ cd_Tri E (cd_V l) v a b) → ∀ v x, cd_V l v → cd_V l x → x ≠ v → ¬ E v x → ∃ u, cd_V l u ∧ u ≠ v ∧ ¬ E v u ∧ cd_Simp E (cd_V l) u := by
  intro n
  induction n with
  | zero => exact fun l hl _ v x hv _ _ _ => absurd hv (cd_pc_0 (by omega) v)
  | succ n ih =>
    intro l hl hT v x hv hx hxv hnx
    -- the part C of x away from v, and the vertices S near v that C is joined to
    let D : Nat → Prop := fun w => cd_V l w ∧ w ≠ v ∧ ¬ E v w
    let C : Nat → Prop := fun y => cd_Rch E D x y
    let S : Nat → Prop := fun y => cd_V l y ∧ E v y ∧ ∃ c, C c ∧ E c y
    have hDx : D x := ⟨hx, hxv, hnx⟩
    have hCD : ∀ y, C y → D y := fun y hy => hy D hDx (fun u w _ _ hd => hd)
    have hSc : ∀ a b, S a → S b → a ≠ b → E a b := by
      intro a b ha hb hab
      apply Classical.byContradiction
      intro hne
      obtain ⟨la, va, ca, hca, eca⟩ := ha
      obtain ⟨lb, vb, cb, hcb, ecb⟩ := hb
      have hm : ∀ w, D w → cd_V l w ∧ (w = b ∨ (w ≠ v ∧ ¬ E v w)) := fun w hw => ⟨hw.1, Or.inr hw.2⟩
      have w1 : cd_Rch E D ca cb := cd_rt (cd_rv hE hDx hca) hcb
      have w2 : cd_Rch E (fun w => cd_V l w ∧ (w = b ∨ (w ≠ v ∧ ¬ E v w))) a b :=
        cd_rs (cd_rl (hE _ _ eca) (hm _ (hCD _ hca)) (cd_rm hm w1)) ecb ⟨lb, Or.inl rfl⟩
      exact hT v a b ⟨hv, la, lb, va, vb, hab, hne, w2⟩
    have hCn : ∀ c y, C c → cd_V l y → E c y → C y ∨ S y := by
      intro c y hc hy he
      by_cases hvy : E v y
      · exact Or.inr ⟨hy, hvy, c, hc, he⟩
      · refine Or.inl (cd_rs hc he ⟨hy, fun z => ?_, hvy⟩)
        rw [z] at he
        exact (hCD c hc).2.2 (hE _ _ he)
    obtain ⟨l', hl', kl'⟩ := cd_mk (fun y => C y ∨ S y)
    have hsub : ∀ y, cd_V l' y → cd_V l y := by
      intro y hy
      rcases ((kl' y).mp hy).2 with z | z
      · exact (hCD y z).1
      · exact z.1
    have hin : ∀ y, C y ∨ S y → cd_V l' y := by
      intro y hy
      refine (kl' y).mpr ⟨?_, hy⟩
      rcases hy with z | z
      · exact (hCD y z).1.1
      · exact z.1.1
    have hout : ∀ y, cd_V l' y → C y ∨ S y := fun y hy => ((kl' y).mp hy).2
    have hvn : ¬ cd_V l' v := by
      intro z
      rcases hout v z with y | y
      · exact (hCD v y).2.1 rfl
      · exact h0 v y.2.1
    have hpc : cd_pc l' ≤ n := by
      have := cd_pc_lt hsub hv hvn
      omega
    have hT' : ∀ v a b, ¬ cd_Tri E (cd_V l') v a b := fun v a b z => hT v a b (cd_tm hsub z)
    have hfin : ∀ u, C u → cd_Simp E (cd_V l') u → ∃ u, cd_V l u ∧ u ≠ v ∧ ¬ E v u ∧ cd_Simp E (cd_V l) u := by
      intro u hu hs
      refine ⟨u, (hCD u hu).1, (hCD u hu).2.1, (hCD u hu).2.2, fun a b ha hb ea eb hab => ?_⟩
      exact hs a b (hin a (hCn u a hu ha ea)) (hin b (hCn u b hu hb eb)) ea eb hab
    by_cases c1 : ∃ s t, S s ∧ cd_V l' t ∧ t ≠ s ∧ ¬ E s t
    · obtain ⟨s, t, hs, ht, hts, hst⟩ := c1
      obtain ⟨u, k1, k2, k3, k4⟩ := ih l' hpc hT' s t (hin s (Or.inr hs)) ht hts hst
      rcases hout u k1 with z | z
      · exact hfin u z k4
      · exact absurd (hSc s u hs z (fun e => k2 e.symm)) k3
    · have hU : ∀ s t, S s → cd_V l' t → t ≠ s → E s t := by
        intro s t hs ht hts
        apply Classical.byContradiction
        exact fun z => c1 ⟨s, t, hs, ht, hts, z⟩
      by_cases c2 : ∃ c t, C c ∧ cd_V l' t ∧ t ≠ c ∧ ¬ E c t
      · obtain ⟨c, t, hc, ht, htc, hct⟩ := c2
        obtain ⟨u, k1, k2, k3, k4⟩ := ih l' hpc hT' c t (hin c (Or.inl hc)) ht htc hct
        rcases hout u k1 with z | z
        · exact hfin u z k4
        · exact absurd (hE _ _ (hU u c z (hin c (Or.inl hc)) (fun e => k2 e.symm))) k3
      · have hU2 : ∀ c t, C c → cd_V l' t → t ≠ c → E c t := by
          intro c t hc ht htc
          apply Classical.byContradiction
          exact fun z => c2 ⟨c, t, hc, ht, htc, z⟩
        refine hfin x (cd_rr x) (fun a b ha hb _ _ hab => ?_)
        rcases hout a ha with z | z
        · exact hU2 a b z hb (fun e => hab e.symm)
        · exact hU a b z hb (fun e => hab e.symm)
theorem cd_dirac1 {E : Nat → Nat → Prop} (hE : ∀ u w, E u w → E w u) (h0 : ∀ u, ¬ E u u) {l x : Nat} (hx : cd_V l x) (hT : ∀ v a b, ¬ cd_Tri E (cd_V l) v a b) : ∃ u, cd_V l u ∧ cd_Simp E (cd_V l) u := by
  by_cases c : ∃ v y, cd_V l v ∧ cd_V l y ∧ y ≠ v ∧ ¬ E v y
  · obtain ⟨v, y, hv, hy, hn, he⟩ := c
    obtain ⟨u, k1, _, _, k4⟩ := cd_dirac hE h0 (cd_pc l) l (Nat.le_refl _) hT v y hv hy hn he
    exact ⟨u, k1, k4⟩
  · refine ⟨x, hx, fun a b ha hb _ _ hab => ?_⟩
    apply Classical.byContradiction
    exact fun z => c ⟨a, b, ha, hb, fun e => hab e.symm, z⟩
end
section
/-! the graph, by the neighbours of each vertex; what can be reached -/
def cd_G (A : Nat → Nat) : Prop := (∀ v, v < 7 → A v < 128) ∧ (∀ u v, u < 7 → v < 7 → cd_V (A u) v → cd_V (A v) u) ∧ (∀ v, v < 7 → ¬ cd_V (A v) v)
def cd_E (A : Nat → Nat) (u w : Nat) : Prop := u < 7 ∧ cd_V (A u) w
theorem cd_E_sym {A : Nat → Nat} (g : cd_G A) (u w : Nat) (h : cd_E A u w) : cd_E A w u := ⟨h.2.1, g.2.1 u w h.1 h.2.1 h.2⟩
theorem cd_E_irr {A : Nat → Nat} (g : cd_G A) (u : Nat) (h : cd_E A u u) : False := g.2.2 u h.1 h.2
/-- all of s are joined to each other -/
def cd_clq (A : Nat → Nat) (s : Nat) : Prop := ∀ v w, cd_V s v → cd_V s w → w ≠ v → cd_V (A v) w
/-- one sweep of 'around': r, and what the first k vertices of r are joined to inside m -/
def cd_ns (A : Nat → Nat) (m r : Nat) : Nat → Nat
  | 0 => r
  | k + 1 => if r.testBit k = true then cd_ns A m r k ||| (A k &&& m) else cd_ns A m r k
def cd_R (A : Nat → Nat) (m a : Nat) : Nat → Nat
  | 0 => 2 ^ a
  | k + 1 => cd_ns A m (cd_R A m a k) 7
theorem cd_ns_iff {A : Nat → Nat} {m r w : Nat} : ∀ k, k ≤ 7 → (cd_V (cd_ns A m r k) w ↔ cd_V r w ∨ ∃ u, u < k ∧ cd_V r u ∧ cd_V (A u) w ∧ cd_V m w) := by
  intro k
  induction k with
  | zero => exact fun _ => ⟨Or.inl, fun h => h.elim id (fun z => absurd z.choose_spec.1 (by omega))⟩
  | succ k ih =>
    intro hk
    have ih' := ih (by omega)
    show cd_V (if r.testBit k = true then cd_ns A m r k ||| (A k &&& m) else cd_ns A m r k) w ↔ _
    by_cases e : r.testBit k = true
    · rw [if_pos e, cd_or, ih', cd_and]
      refine ⟨fun h => ?_, fun h => ?_⟩
      · rcases h with (h | ⟨u, h1, h2⟩) | h
        · exact Or.inl h
        · exact Or.inr ⟨u, by omega, h2⟩
        · exact Or.inr ⟨k, by omega, ⟨by omega, e⟩, h⟩
      · rcases h with h | ⟨u, h1, h2, h3⟩
        · exact Or.inl (Or.inl h)
        · by_cases eu : u = k
          · rw [eu] at h3
            exact Or.inr h3
          · exact Or.inl (Or.inr ⟨u, by omega, h2, h3⟩)
    · rw [if_neg e, ih']
      refine ⟨fun h => ?_, fun h => ?_⟩
      · rcases h with h | ⟨u, h1, h2⟩
        · exact Or.inl h
        · exact Or.inr ⟨u, by omega, h2⟩
      · rcases h with h | ⟨u, h1, h2, h3⟩
        · exact Or.inl h
        · by_cases eu : u = k
          · rw [eu] at h2
            exact absurd h2.2 e
          · exact Or.inr ⟨u, by omega, h2, h3⟩
theorem cd_ns_lt {A : Nat → Nat} (g : cd_G A) {m r : Nat} (hr : r < 128) : ∀ k, k ≤ 7 → cd_ns A m r k < 128 := by
  intro k
  induction k with
  | zero => exact fun _ => hr
  | succ k ih =>
    intro hk
    show (if r.testBit k = true then cd_ns A m r k ||| (A k &&& m) else cd_ns A m r k) < 128
    by_cases e : r.testBit k = true
    · rw [if_pos e]
      exact cd_or_lt (ih (by omega)) (cd_and_lt' (g.1 k (by omega)))
    · rw [if_neg e]
      exact ih (by omega)
theorem cd_R_lt {A : Nat → Nat} (g : cd_G A) {m a : Nat} (ha : a < 7) : ∀ k, cd_R A m a k < 128 := by
  intro k
  induction k with
  | zero => exact cd_one_lt ha
  | succ k ih => exact cd_ns_lt g ih 7 (by omega)
theorem cd_R_s {A : Nat → Nat} {m a k w : Nat} : cd_V (cd_R A m a (k + 1)) w ↔ cd_V (cd_R A m a k) w ∨ ∃ u, cd_V (cd_R A m a k) u ∧ cd_V (A u) w ∧ cd_V m w := by
  show cd_V (cd_ns A m (cd_R A m a k) 7) w ↔ _
  rw [cd_ns_iff 7 (by omega)]
  refine ⟨fun h => h.imp id (fun ⟨u, h1, h2⟩ => ⟨u, h2⟩), fun h => h.imp id (fun ⟨u, h2⟩ => ⟨u, h2.1.1, h2⟩)⟩
theorem cd_R_mono {A : Nat → Nat} {m a w i : Nat} : ∀ j, cd_V (cd_R A m a i) w → cd_V (cd_R A m a (i + j)) w := by
  intro j h
  induction j with
  | zero => exact h
  | succ j ih => exact cd_R_s.mpr (Or.inl ih)
theorem cd_R_le {A : Nat → Nat} {m a w i j : Nat} (hij : i ≤ j) (h : cd_V (cd_R A m a i) w) : cd_V (cd_R A m a j) w := by
  have := cd_R_mono (j - i) h
  rw [show i + (j - i) = j by omega] at this
  exact this
/-- r goes no further inside m -/
def cd_cl (A : Nat → Nat) (m r : Nat) : Prop := ∀ u w, cd_V r u → cd_V (A u) w → cd_V m w → cd_V r w
theorem cd_R_stab {A : Nat → Nat} {m a : Nat} (ha : a < 7) : ∀ k, k + 1 ≤ cd_pc (cd_R A m a k) ∨ cd_cl A m (cd_R A m a k) := by
  have hc : ∀ k, cd_cl A m (cd_R A m a k) → cd_cl A m (cd_R A m a (k + 1)) := by
    intro k h u w hu he hm
    refine cd_R_s.mpr (Or.inl ?_)
    rcases cd_R_s.mp hu with z | ⟨x, h1, h2, h3⟩
    · exact h u w z he hm
    · exact h u w (h x u h1 h2 h3) he hm
  intro k
  induction k with
  | zero => exact Or.inl (by rw [show cd_R A m a 0 = 2 ^ a from rfl, cd_pc_single ha (fun v => cd_one ha)]; omega)
  | succ k ih =>
    rcases ih with z | z
    · by_cases c : cd_cl A m (cd_R A m a k)
      · exact Or.inr (hc k c)
      · have c' : ∃ u w, cd_V (cd_R A m a k) u ∧ cd_V (A u) w ∧ cd_V m w ∧ ¬ cd_V (cd_R A m a k) w := by
          apply Classical.byContradiction
          intro n
          exact c (fun u w hu he hm => Classical.byContradiction (fun y => n ⟨u, w, hu, he, hm, y⟩))
        obtain ⟨u, w, h1, h2, h3, h4⟩ := c'
        have := cd_pc_lt (s := cd_R A m a k) (t := cd_R A m a (k + 1)) (x := w) (fun v hv => cd_R_s.mpr (Or.inl hv)) (cd_R_s.mpr (Or.inr ⟨u, h1, h2, h3⟩)) h4
        exact Or.inl (by omega)
    · exact Or.inr (hc k z)
theorem cd_R_cl {A : Nat → Nat} {m a : Nat} (ha : a < 7) : cd_cl A m (cd_R A m a 7) := by
  rcases cd_R_stab (A := A) (m := m) ha 7 with z | z
  · have := cd_pc_le7 (cd_R A m a 7)
    omega
  · exact z
/-- fewer vertices to go through: fewer are reached -/
theorem cd_R_sub {A : Nat → Nat} {m m' a : Nat} (hm : ∀ w, cd_V m' w → cd_V m w) : ∀ k w, cd_V (cd_R A m' a k) w → cd_V (cd_R A m a k) w := by
  intro k
  induction k with
  | zero => exact fun w h => h
  | succ k ih =>
    intro w h
    rcases cd_R_s.mp h with z | ⟨u, h1, h2, h3⟩
    · exact cd_R_s.mpr (Or.inl (ih w z))
    · exact cd_R_s.mpr (Or.inr ⟨u, ih u h1, h2, hm w h3⟩)
/-- what is reached lies in every set that goes no further -/
theorem cd_R_in {A : Nat → Nat} {m a : Nat} (ha : a < 7) {D : Nat → Prop} (h0 : D a) (hD : ∀ u w, D u → cd_V (A u) w → cd_V m w → D w) : ∀ k w, cd_V (cd_R A m a k) w → D w := by
  intro k
  induction k with
  | zero => exact fun w h => by rw [(cd_one ha).mp h]; exact h0
  | succ k ih =>
    intro w h
    rcases cd_R_s.mp h with z | ⟨u, h1, h2, h3⟩
    · exact ih w z
    · exact hD u w (ih u h1) h2 h3
/-! the law's own search: 49 single steps from the least vertex of s -/
def cd_low (s : Nat) : Nat := s &&& (128 - s)
def cd_rh (A : Nat → Nat) (s : Nat) : Nat → Nat
  | 0 => cd_low s
  | k + 1 => if (cd_rh A s k).testBit (k % 7) = true then cd_rh A s k ||| (A (k % 7) &&& s) else cd_rh A s k
theorem cd_low' : ∀ s, s < 128 → s ≠ 0 → ∃ x, x < 7 ∧ s.testBit x = true ∧ cd_low s = 2 ^ x := by decide +kernel
theorem cd_low_0 : cd_low 0 = 0 := by decide
theorem cd_low_lt : ∀ s, s < 128 → cd_low s < 128 := by decide +kernel
theorem cd_rh_lt {A : Nat → Nat} (g : cd_G A) {s : Nat} (hs : s < 128) : ∀ k, cd_rh A s k < 128 := by
  intro k
  induction k with
  | zero => exact cd_low_lt s hs
  | succ k ih =>
    show (if (cd_rh A s k).testBit (k % 7) = true then cd_rh A s k ||| (A (k % 7) &&& s) else cd_rh A s k) < 128
    split
    · exact cd_or_lt ih (cd_and_lt hs)
    · exact ih
theorem cd_rh_s {A : Nat → Nat} {s k w : Nat} : cd_V (cd_rh A s (k + 1)) w ↔ cd_V (cd_rh A s k) w ∨ (cd_V (cd_rh A s k) (k % 7) ∧ cd_V (A (k % 7)) w ∧ cd_V s w) := by
  show cd_V (if (cd_rh A s k).testBit (k % 7) = true then cd_rh A s k ||| (A (k % 7) &&& s) else cd_rh A s k) w ↔ _
  have hk : k % 7 < 7 := Nat.mod_lt _ (by omega)
  by_cases e : (cd_rh A s k).testBit (k % 7) = true
  · rw [if_pos e, cd_or, cd_and]
    exact ⟨fun h => h.imp id (fun z => ⟨⟨hk, e⟩, z⟩), fun h => h.imp id (fun z => z.2)⟩
  · rw [if_neg e]
    exact ⟨Or.inl, fun h => h.elim id (fun z => absurd z.1.2 e)⟩
theorem cd_rh_mono {A : Nat → Nat} {s k w : Nat} (i : Nat) (h : cd_V (cd_rh A s k) w) : cd_V (cd_rh A s (k + i)) w := by
  induction i with
  | zero => exact h
  | succ i ih => exact cd_rh_s.mpr (Or.inl ih)
theorem cd_rh_in {A : Nat → Nat} {s k : Nat} {D : Nat → Prop} (h0 : ∀ w, cd_V (cd_rh A s k) w → D w) (hD : ∀ u w, D u → cd_V (A u) w → cd_V s w → D w) (i : Nat) : ∀ w, cd_V (cd_rh A s (k + i)) w → D w := by
  induction i with
  | zero => exact h0
  | succ i ih =>
    intro w h
    rcases cd_rh_s.mp h with z | z
    · exact ih w z
    · exact hD _ w (ih _ z.1) z.2.1 z.2.2
theorem cd_rh_7 {A : Nat → Nat} {s j u w : Nat} (hu : cd_V (cd_rh A s (7 * j)) u) (he : cd_V (A u) w) (hs : cd_V s w) : cd_V (cd_rh A s (7 * (j + 1))) w := by
  have hu7 := hu.1
  have h1 : cd_V (cd_rh A s (7 * j + u)) u := cd_rh_mono u hu
  have e : (7 * j + u) % 7 = u := by omega
  have h2 : cd_V (cd_rh A s (7 * j + u + 1)) w := cd_rh_s.mpr (Or.inr (by rw [e]; exact ⟨h1, he, hs⟩))
  have h3 := cd_rh_mono (6 - u) h2
  rw [show 7 * j + u + 1 + (6 - u) = 7 * (j + 1) by omega] at h3
  exact h3
theorem cd_rh_stab {A : Nat → Nat} {s : Nat} (hs : s < 128) (h0 : s ≠ 0) : ∀ j, j + 1 ≤ cd_pc (cd_rh A s (7 * j)) ∨ cd_cl A s (cd_rh A s (7 * j)) := by
  have hc : ∀ j, cd_cl A s (cd_rh A s (7 * j)) → cd_cl A s (cd_rh A s (7 * (j + 1))) := by
    intro j h u w hu he hm
    have b : ∀ x, cd_V (cd_rh A s (7 * j + 7)) x → cd_V (cd_rh A s (7 * j)) x := cd_rh_in (fun x hx => hx) h 7
    exact cd_rh_7 (b u hu) he hm
  intro j
  induction j with
  | zero =>
    obtain ⟨x, h1, h2, h3⟩ := cd_low' s hs h0
    refine Or.inl ?_
    rw [show cd_rh A s (7 * 0) = cd_low s from rfl, h3, cd_pc_single h1 (fun v => cd_one h1)]
    omega
  | succ j ih =>
    rcases ih with z | z
    · by_cases c : cd_cl A s (cd_rh A s (7 * j))
      · exact Or.inr (hc j c)
      · have c' : ∃ u w, cd_V (cd_rh A s (7 * j)) u ∧ cd_V (A u) w ∧ cd_V s w ∧ ¬ cd_V (cd_rh A s (7 * j)) w := by
          apply Classical.byContradiction
          intro n
          exact c (fun u w hu he hm => Classical.byContradiction (fun y => n ⟨u, w, hu, he, hm, y⟩))
        obtain ⟨u, w, h1, h2, h3, h4⟩ := c'
        have := cd_pc_lt (s := cd_rh A s (7 * j)) (t := cd_rh A s (7 * (j + 1))) (x := w) (fun v hv => cd_rh_mono 7 hv) (cd_rh_7 h1 h2 h3) h4
        exact Or.inl (by omega)
    · exact Or.inr (hc j z)
theorem cd_rh_cl {A : Nat → Nat} {s : Nat} (hs : s < 128) (h0 : s ≠ 0) : cd_cl A s (cd_rh A s 49) := by
  rcases cd_rh_stab (A := A) hs h0 7 with z | z
  · have := cd_pc_le7 (cd_rh A s (7 * 7))
    omega
  · exact z
end
section
/-! holes: at least four vertices, each joined to two of the others, all in one piece -/
def cd_Hole (A : Nat → Nat) (s : Nat) : Prop := s < 128 ∧ (∀ v, cd_V s v → cd_pc (A v &&& s) = 2) ∧ 4 ≤ cd_pc s ∧ cd_rh A s 49 = s
theorem cd_hole_ne0 {A : Nat → Nat} {s : Nat} (h : cd_Hole A s) : s ≠ 0 := by
  intro z
  have := h.2.2.1
  rw [z, cd_pc_zero] at this
  omega
/-- in one piece: what is closed under joins and holds one vertex holds all -/
theorem cd_hole_all {A : Nat → Nat} (g : cd_G A) {s : Nat} (h : cd_Hole A s) {D : Nat → Prop} (hD : ∀ u w, D u → cd_V s u → cd_V (A u) w → cd_V s w → D w) {v : Nat} (hv : cd_V s v) (hDv : D v) : ∀ w, cd_V s w → D w := by
  obtain ⟨x, hx, hsx, hl⟩ := cd_low' s h.1 (cd_hole_ne0 h)
  have hs0 : ∀ w, cd_V (cd_rh A s 0) w → w = x := by
    intro w hw
    have : cd_V (cd_low s) w := hw
    rw [hl] at this
    exact (cd_one hx).mp this
  have e49 : ∀ w, cd_V s w → cd_V (cd_rh A s (0 + 49)) w := by
    intro w hw
    rw [show 0 + 49 = 49 from rfl, h.2.2.2]
    exact hw
  by_cases c : D x
  · intro w hw
    exact (cd_rh_in (D := fun w => D w ∧ cd_V s w) (fun w hw => by rw [hs0 w hw]; exact ⟨c, hx, hsx⟩) (fun u w hu he hm => ⟨hD u w hu.1 hu.2 he hm, hm⟩) 49 w (e49 w hw)).1
  · exact absurd hDv (cd_rh_in (D := fun w => ¬ D w ∧ cd_V s w) (fun w hw => by rw [hs0 w hw]; exact ⟨c, hx, hsx⟩) (fun u w hu he hm => ⟨fun z => hu.1 (hD w u z hm (g.2.1 u w hu.2.1 hm.1 he) hu.2), hm⟩) 49 v (e49 v hv)).1
theorem cd_pair {x y a b : Nat} {P : Nat → Prop} (h : ∀ v, P v ↔ v = x ∨ v = y) (ha : P a) (hb : P b) (hn : a ≠ b) (w : Nat) (hw : P w) : w = a ∨ w = b := by
  have h1 := (h a).mp ha
  have h2 := (h b).mp hb
  have h3 := (h w).mp hw
  omega
/-- a vertex of a hole has two neighbours there, and these are not joined -/
theorem cd_hole_nb {A : Nat → Nat} (g : cd_G A) {s : Nat} (h : cd_Hole A s) {v : Nat} (hv : cd_V s v) : ∃ a b, a < b ∧ cd_V s a ∧ cd_V s b ∧ cd_V (A v) a ∧ cd_V (A v) b ∧ (∀ w, cd_V (A v) w → cd_V s w → w = a ∨ w = b) ∧ ¬ cd_V (A a) b := by
  obtain ⟨a, b, ha, hb, hab, k⟩ := cd_two (cd_and_lt h.1) (h.2.1 v hv)
  have ka := cd_and.mp ((k a).mpr (Or.inl rfl))
  have kb := cd_and.mp ((k b).mpr (Or.inr rfl))
  have hav : a ≠ v := fun z => g.2.2 v hv.1 (by rw [z] at ka; exact ka.1)
  have hbv : b ≠ v := fun z => g.2.2 v hv.1 (by rw [z] at kb; exact kb.1)
  refine ⟨a, b, hab, ka.2, kb.2, ka.1, kb.1, fun w h1 h2 => (k w).mp (cd_and.mpr ⟨h1, h2⟩), fun hj => ?_⟩
  have hD : ∀ u w, (u = v ∨ u = a ∨ u = b) → cd_V s u → cd_V (A u) w → cd_V s w → (w = v ∨ w = a ∨ w = b) := by
    intro u w hu hsu he hw
    rcases hu with z | z | z
    · rw [z] at he
      exact Or.inr ((k w).mp (cd_and.mpr ⟨he, hw⟩))
    · rw [z] at he
      obtain ⟨x, y, _, _, _, k2⟩ := cd_two (cd_and_lt h.1) (h.2.1 a ka.2)
      have := cd_pair k2 (cd_and.mpr ⟨g.2.1 v a hv.1 ha ka.1, hv⟩) (cd_and.mpr ⟨hj, kb.2⟩) (fun e => hbv e.symm) w (cd_and.mpr ⟨he, hw⟩)
      omega
    · rw [z] at he
      obtain ⟨x, y, _, _, _, k2⟩ := cd_two (cd_and_lt h.1) (h.2.1 b kb.2)
      have := cd_pair k2 (cd_and.mpr ⟨g.2.1 v b hv.1 hb kb.1, hv⟩) (cd_and.mpr ⟨g.2.1 a b ha hb hj, ka.2⟩) (fun e => hav e.symm) w (cd_and.mpr ⟨he, hw⟩)
      omega
  have hall := cd_hole_all g h hD hv (Or.inl rfl)
  have p1 : cd_pc (2 ^ v ||| 2 ^ a) = 2 := cd_pc_two hv.1 ha (fun e => hav e.symm) (fun w => by rw [cd_or, cd_one hv.1, cd_one ha])
  have p2 : cd_pc (2 ^ v ||| 2 ^ a ||| 2 ^ b) = 3 := by
    rw [cd_pc_ins (s := 2 ^ v ||| 2 ^ a) hb (by rw [cd_or, cd_one hv.1, cd_one ha]; omega) (fun w => by rw [cd_or, cd_one hb]), p1]
  have p3 : cd_pc s ≤ cd_pc (2 ^ v ||| 2 ^ a ||| 2 ^ b) := cd_pc_mono (fun w hw => by
    rw [cd_or, cd_or, cd_one hv.1, cd_one ha, cd_one hb]
    have := hall w hw
    omega)
  have := h.2.2.1
  omega
/-- a vertex of a hole is not easy -/
theorem cd_hole_hard {A : Nat → Nat} (g : cd_G A) {s l v : Nat} (h : cd_Hole A s) (hl : ∀ w, cd_V s w → cd_V l w) (hv : cd_V s v) : ¬ cd_clq A (A v &&& l) := by
  intro hc
  obtain ⟨a, b, hab, sa, sb, va, vb, _, hn⟩ := cd_hole_nb g h hv
  exact hn (hc a b (cd_and.mpr ⟨va, hl a sa⟩) (cd_and.mpr ⟨vb, hl b sb⟩) (by omega))
/-- what a way from a to b around v may come through -/
def cd_mask (A : Nat → Nat) (v b : Nat) : Nat := cd_not ((A v ||| 2 ^ v) &&& cd_not (2 ^ b))
theorem cd_mask_iff {A : Nat → Nat} {v b w : Nat} (hv : v < 7) (hb : b < 7) : cd_V (cd_mask A v b) w ↔ w < 7 ∧ (w = b ∨ (w ≠ v ∧ ¬ cd_V (A v) w)) := by
  unfold cd_mask
  rw [cd_nt, cd_and, cd_or, cd_one hv, cd_nt, cd_one hb]
  refine ⟨fun h => ⟨h.1, ?_⟩, fun h => ⟨h.1, fun z => ?_⟩⟩
  · by_cases e : w = b
    · exact Or.inl e
    · exact Or.inr ⟨fun z => h.2 ⟨Or.inr z, h.1, e⟩, fun z => h.2 ⟨Or.inl z, h.1, e⟩⟩
  · rcases h.2 with y | y
    · exact z.2.2 y
    · exact z.1.elim y.2 y.1
/-- a gap: a and b are joined to v and not to each other -/
def cd_Gap (A : Nat → Nat) (v a b : Nat) : Prop := v < 7 ∧ a < 7 ∧ b < 7 ∧ a ≠ b ∧ cd_V (A v) a ∧ cd_V (A v) b ∧ ¬ cd_V (A a) b
theorem cd_tb {s u : Nat} (h : cd_V s u) : (s.testBit u).toNat = 1 := by rw [h.2]; rfl
theorem cd_tb0 {s u : Nat} (hu : u < 7) (h : ¬ cd_V s u) : (s.testBit u).toNat = 0 := by
  cases e : s.testBit u
  · rfl
  · exact absurd ⟨hu, e⟩ h
/-- a set in a hole from which v is taken, closed, with a neighbour a of v: the other one is there too -/
theorem cd_hole_par {A : Nat → Nat} (g : cd_G A) {s v a b C : Nat} (h : cd_Hole A s) (hv : cd_V s v) (hab : a ≠ b) (sa : cd_V s a) (va : cd_V (A v) a) (vb : cd_V (A v) b) (hnb : ∀ w, cd_V (A v) w → cd_V s w → w = a ∨ w = b) (hn : ¬ cd_V (A a) b)
    (hCa : cd_V C a) (hCs : ∀ w, cd_V C w → cd_V s w ∧ w ≠ v) (hC : ∀ u w, cd_V C u → cd_V (A u) w → cd_V s w → (w = b ∨ (w ≠ v ∧ ¬ cd_V (A v) w)) → cd_V C w) : cd_V C b := by
  apply Classical.byContradiction
  intro hb
  have hav : a ≠ v := (hCs a hCa).2
  -- the joins inside C, counted twice
  have ev := cd_even (f := fun u w => (C.testBit u).toNat * ((A u &&& C).testBit w).toNat) (fun u w hu hw => by
    show (C.testBit u).toNat * ((A u &&& C).testBit w).toNat = (C.testBit w).toNat * ((A w &&& C).testBit u).toNat
    rw [Nat.testBit_and, Nat.testBit_and]
    have e : (A u).testBit w = (A w).testBit u := cd_beq ⟨fun z => (g.2.1 u w hu hw ⟨hw, z⟩).2, fun z => (g.2.1 w u hw hu ⟨hu, z⟩).2⟩
    rw [e]
    cases C.testBit u <;> cases C.testBit w <;> cases (A w).testBit u <;> rfl) (fun u hu => by
    show (C.testBit u).toNat * ((A u &&& C).testBit u).toNat = 0
    rw [cd_tb0 hu (fun z => g.2.2 u hu (cd_and.mp z).1), Nat.mul_zero])
  have deg : ∀ u, cd_sum (fun w => (C.testBit u).toNat * ((A u &&& C).testBit w).toNat) = (C.testBit u).toNat * cd_pc (A u &&& C) := by
    intro u
    cases C.testBit u
    · simp [cd_sum, cd_pc]
    · simp [cd_sum, cd_pc]
  have ev2 : cd_sum (fun u => (C.testBit u).toNat * cd_pc (A u &&& C)) % 2 = 0 := by
    rw [← ev]
    congr 1
    exact cd_sum_eq (fun u _ => (deg u).symm)
  have od : cd_sum (fun u => (C.testBit u).toNat * cd_pc (A u &&& C)) % 2 = 1 := by
    refine cd_odd hCa.1 ?_ (fun u hu hua => ?_)
    · show (C.testBit a).toNat * cd_pc (A a &&& C) = 1
      rw [cd_tb hCa]
      have d : cd_pc (A a &&& s) = cd_pc (A a &&& C) + 1 := cd_pc_del (x := v) (cd_and.mpr ⟨g.2.1 v a hv.1 hCa.1 va, hv⟩) (fun w => by
        rw [cd_and, cd_and]
        refine ⟨fun z => ⟨⟨z.1, (hCs w z.2).1⟩, (hCs w z.2).2⟩, fun z => ⟨z.1.1, hC a w hCa z.1.1 z.1.2 (Or.inr ⟨z.2, fun y => ?_⟩)⟩⟩
        rcases hnb w y z.1.2 with e | e
        · have z1 := z.1.1
          rw [e] at z1
          exact g.2.2 a hCa.1 z1
        · have z1 := z.1.1
          rw [e] at z1
          exact hn z1)
      have := h.2.1 a sa
      omega
    · show (C.testBit u).toNat * cd_pc (A u &&& C) % 2 = 0
      rcases cd_dec C u with hc | hc
      · have hus := hCs u hc
        have hub : u ≠ b := fun e => hb (e ▸ hc)
        have huv : ¬ cd_V (A v) u := fun z => by
          have := hnb u z hus.1
          omega
        have d : cd_pc (A u &&& C) = cd_pc (A u &&& s) := cd_pc_eq (fun w => by
          rw [cd_and, cd_and]
          refine ⟨fun z => ⟨z.1, (hCs w z.2).1⟩, fun z => ⟨z.1, ?_⟩⟩
          by_cases ea : w = a
          · rw [ea]; exact hCa
          · refine hC u w hc z.1 z.2 ?_
            by_cases eb : w = b
            · exact Or.inl eb
            · refine Or.inr ⟨fun e => ?_, fun y => ?_⟩
              · have z1 := z.1
                rw [e] at z1
                exact huv (g.2.1 u v hu hv.1 z1)
              · have := hnb w y z.2
                omega)
        rw [cd_tb hc, d, h.2.1 u hus.1]
      · rw [cd_tb0 hu hc, Nat.zero_mul]
  omega
/-- a hole has a gap that a short way goes around -/
theorem cd_hole_gap {A : Nat → Nat} (g : cd_G A) {s : Nat} (h : cd_Hole A s) : ∃ v a b, a < b ∧ cd_Gap A v a b ∧ cd_V (cd_R A (cd_mask A v b) a (cd_pc s - 2)) b := by
  obtain ⟨v, hv7, hsv, _⟩ := cd_low' s h.1 (cd_hole_ne0 h)
  have hv : cd_V s v := ⟨hv7, hsv⟩
  obtain ⟨a, b, hab, sa, sb, va, vb, hnb, hn⟩ := cd_hole_nb g h hv
  refine ⟨v, a, b, hab, ⟨hv.1, sa.1, sb.1, by omega, va, vb, hn⟩, ?_⟩
  obtain ⟨t, ht, kt⟩ := cd_mk (fun w => cd_V s w ∧ w ≠ v)
  have hav : a ≠ v := fun z => g.2.2 v hv.1 (by rw [z] at va; exact va)
  have hbv : b ≠ v := fun z => g.2.2 v hv.1 (by rw [z] at vb; exact vb)
  have pt : cd_pc s = cd_pc t + 1 := cd_pc_del hv (fun w => by rw [kt]; exact ⟨fun z => z.2, fun z => ⟨z.1.1, z⟩⟩)
  have hta : cd_V t a := (kt a).mpr ⟨sa.1, sa, hav⟩
  have htb : cd_V t b := (kt b).mpr ⟨sb.1, sb, hbv⟩
  refine cd_R_sub (m' := cd_mask A v b &&& t) (fun w hw => (cd_and.mp hw).1) _ b ?_
  have hin : ∀ k w, cd_V (cd_R A (cd_mask A v b &&& t) a k) w → cd_V t w := cd_R_in sa.1 hta (fun u w _ _ hm => (cd_and.mp hm).2)
  have h4 := h.2.2.1
  rcases cd_R_stab (A := A) (m := cd_mask A v b &&& t) sa.1 (cd_pc s - 2) with z | z
  · exact cd_pc_full (hin _) (by omega) b htb
  · refine cd_hole_par g h hv (by omega) sa va vb hnb hn (cd_R_le (Nat.zero_le _) ((cd_one sa.1).mpr rfl)) (fun w hw => ((kt w).mp (hin _ w hw)).2) (fun u w hu he hw hm => ?_)
    refine z u w hu he (cd_and.mpr ⟨(cd_mask_iff hv.1 sb.1).mpr ⟨hw.1, hm⟩, (kt w).mpr ⟨hw.1, hw, ?_⟩⟩)
    rcases hm with y | y
    · rw [y]; exact hbv
    · exact y.1
end
section
/-! a gap and a shortest way around it make a hole -/
theorem cd_path {A : Nat → Nat} {m a : Nat} : ∀ n b, cd_V (cd_R A m a n) b → (∀ j, j < n → ¬ cd_V (cd_R A m a j) b) → ∃ p : Nat → Nat, p n = b ∧ (∀ k, k ≤ n → cd_V (cd_R A m a k) (p k) ∧ ∀ j, j < k → ¬ cd_V (cd_R A m a j) (p k)) ∧ (∀ k, k < n → cd_V (A (p k)) (p (k + 1)) ∧ cd_V m (p (k + 1))) := by
  intro n
  induction n with
  | zero =>
    intro b hb _
    refine ⟨fun _ => b, rfl, fun k hk => ?_, fun k hk => absurd hk (by omega)⟩
    have e : k = 0 := by omega
    rw [e]
    exact ⟨hb, fun j hj => absurd hj (by omega)⟩
  | succ n ih =>
    intro b hb hn
    rcases cd_R_s.mp hb with z | ⟨u, h1, h2, h3⟩
    · exact absurd z (hn n (by omega))
    · have hu : ∀ j, j < n → ¬ cd_V (cd_R A m a j) u := fun j hj z => hn (j + 1) (by omega) (cd_R_s.mpr (Or.inr ⟨u, z, h2, h3⟩))
      obtain ⟨p, p1, p2, p3⟩ := ih u h1 hu
      refine ⟨fun k => if k = n + 1 then b else p k, if_pos rfl, fun k hk => ?_, fun k hk => ?_⟩
      · show cd_V (cd_R A m a k) (if k = n + 1 then b else p k) ∧ ∀ j, j < k → ¬ cd_V (cd_R A m a j) (if k = n + 1 then b else p k)
        by_cases e : k = n + 1
        · rw [if_pos e, e]
          exact ⟨hb, hn⟩
        · rw [if_neg e]
          exact p2 k (by omega)
      · show cd_V (A (if k = n + 1 then b else p k)) (if k + 1 = n + 1 then b else p (k + 1)) ∧ cd_V m (if k + 1 = n + 1 then b else p (k + 1))
        rw [if_neg (show ¬ k = n + 1 by omega)]
        by_cases e : k + 1 = n + 1
        · rw [if_pos e, show k = n by omega, p1]
          exact ⟨h2, h3⟩
        · rw [if_neg e]
          exact p3 k (by omega)
/-- v and n + 1 different vertices more -/
theorem cd_count {v n : Nat} {p : Nat → Nat} (hv : v < 7) (hp : ∀ k, k ≤ n → p k < 7) (hpv : ∀ k, k ≤ n → p k ≠ v) (hpp : ∀ i j, i < j → j ≤ n → p i ≠ p j) : ∀ j, j ≤ n → ∀ t, (∀ w, cd_V t w ↔ w < 7 ∧ (w = v ∨ ∃ k, k ≤ j ∧ w = p k)) → cd_pc t = j + 2 := by
  intro j
  induction j with
  | zero =>
    intro hj t ht
    refine cd_pc_two hv (hp 0 hj) (fun e => hpv 0 hj e.symm) (fun w => ?_)
    rw [ht]
    refine ⟨fun z => ?_, fun z => ?_⟩
    · rcases z.2 with y | ⟨k, h1, h2⟩
      · exact Or.inl y
      · exact Or.inr (by rw [h2, show k = 0 by omega])
    · rcases z with z | z
      · exact ⟨by omega, Or.inl z⟩
      · exact ⟨by rw [z]; exact hp 0 hj, Or.inr ⟨0, by omega, z⟩⟩
  | succ j ih =>
    intro hj t ht
    obtain ⟨t', _, kt'⟩ := cd_mk (fun w => w = v ∨ ∃ k, k ≤ j ∧ w = p k)
    have h1 := ih (by omega) t' kt'
    have h2 : cd_pc t = cd_pc t' + 1 := by
      refine cd_pc_ins (x := p (j + 1)) (hp _ hj) (fun z => ?_) (fun w => ?_)
      · rcases ((kt' _).mp z).2 with y | ⟨k, y1, y2⟩
        · exact hpv _ hj y
        · exact hpp k (j + 1) (by omega) hj y2.symm
      · rw [ht, kt']
        refine ⟨fun z => ?_, fun z => ?_⟩
        · rcases z.2 with y | ⟨k, y1, y2⟩
          · exact Or.inl ⟨z.1, Or.inl y⟩
          · by_cases e : k = j + 1
            · rw [e] at y2
              exact Or.inr y2
            · exact Or.inl ⟨z.1, Or.inr ⟨k, by omega, y2⟩⟩
        · rcases z with y | y
          · refine ⟨y.1, y.2.imp id (fun ⟨k, y1, y2⟩ => ⟨k, by omega, y2⟩)⟩
          · exact ⟨by rw [y]; exact hp _ hj, Or.inr ⟨j + 1, by omega, y⟩⟩
    omega
theorem cd_gap_hole {A : Nat → Nat} (g : cd_G A) {v a b n : Nat} (h : cd_Gap A v a b) (hb : cd_V (cd_R A (cd_mask A v b) a n) b) (hn : ∀ j, j < n → ¬ cd_V (cd_R A (cd_mask A v b) a j) b) : ∃ s, cd_Hole A s ∧ cd_pc s = n + 2 := by
  obtain ⟨hv, ha, hb7, hab, va, vb, hne⟩ := h
  obtain ⟨p, p1, p2, p3⟩ := cd_path n b hb hn
  have hav : a ≠ v := fun z => g.2.2 v hv (by rw [z] at va; exact va)
  have hbv : b ≠ v := fun z => g.2.2 v hv (by rw [z] at vb; exact vb)
  have pa : p 0 = a := (cd_one ha).mp (p2 0 (Nat.zero_le _)).1
  have n2 : 2 ≤ n := by
    rcases Nat.lt_or_ge n 2 with z | z
    · have e : n = 0 ∨ n = 1 := by omega
      rcases e with e | e
      · rw [e, pa] at p1
        exact absurd p1 hab
      · rw [e] at p1 p3
        have q := (p3 0 (by omega)).1
        rw [pa, p1] at q
        exact absurd q hne
    · exact z
  have hp : ∀ k, k ≤ n → p k < 7 := fun k hk => (p2 k hk).1.1
  have hpp : ∀ i j, i < j → j ≤ n → p i ≠ p j := by
    intro i j hij hj e
    have q := (p2 j hj).2 i hij
    rw [← e] at q
    exact q (p2 i (by omega)).1
  have hpm : ∀ k, 0 < k → k ≤ n → cd_V (cd_mask A v b) (p k) := by
    intro k h0 hk
    have q := (p3 (k - 1) (by omega)).2
    rw [show k - 1 + 1 = k by omega] at q
    exact q
  have hpv : ∀ k, k ≤ n → p k ≠ v := by
    intro k hk
    by_cases e : k = 0
    · rw [e, pa]; exact hav
    · rcases ((cd_mask_iff hv hb7).mp (hpm k (by omega) hk)).2 with z | z
      · rw [z]; exact hbv
      · exact z.1
  have hvp : ∀ k, k ≤ n → (cd_V (A v) (p k) ↔ k = 0 ∨ k = n) := by
    intro k hk
    refine ⟨fun z => ?_, fun z => ?_⟩
    · by_cases e0 : k = 0
      · exact Or.inl e0
      · by_cases en : k = n
        · exact Or.inr en
        · rcases ((cd_mask_iff hv hb7).mp (hpm k (by omega) hk)).2 with y | y
          · exact absurd (y.trans p1.symm) (hpp k n (by omega) (by omega))
          · exact absurd z y.2
    · rcases z with e | e
      · rw [e, pa]; exact va
      · rw [e, p1]; exact vb
  have hadj : ∀ k, k < n → cd_V (A (p k)) (p (k + 1)) := fun k hk => (p3 k hk).1
  have hadj' : ∀ k, k < n → cd_V (A (p (k + 1))) (p k) := fun k hk => g.2.1 _ _ (hp k (by omega)) (hp (k + 1) (by omega)) (hadj k hk)
  have hfar : ∀ i j, i + 1 < j → j ≤ n → ¬ cd_V (A (p i)) (p j) := by
    intro i j hij hj z
    exact (p2 j hj).2 (i + 1) hij (cd_R_s.mpr (Or.inr ⟨p i, (p2 i (by omega)).1, z, hpm j (by omega) hj⟩))
  have hfar' : ∀ i j, i + 1 < j → j ≤ n → ¬ cd_V (A (p j)) (p i) := fun i j hij hj z => hfar i j hij hj (g.2.1 _ _ (hp j hj) (hp i (by omega)) z)
  obtain ⟨s, hs, ks⟩ := cd_mk (fun w => w = v ∨ ∃ k, k ≤ n ∧ w = p k)
  have sv : cd_V s v := (ks v).mpr ⟨hv, Or.inl rfl⟩
  have sp : ∀ k, k ≤ n → cd_V s (p k) := fun k hk => (ks _).mpr ⟨hp k hk, Or.inr ⟨k, hk, rfl⟩⟩
  have pcs : cd_pc s = n + 2 := cd_count hv hp hpv hpp n (Nat.le_refl _) s ks
  have hs0 : s ≠ 0 := fun e => by
    rw [e, cd_pc_zero] at pcs
    omega
  refine ⟨s, ⟨hs, fun u hu => ?_, by omega, ?_⟩, pcs⟩
  · rcases ((ks u).mp hu).2 with e | ⟨k, hk, e⟩
    · -- v: the two ends
      rw [e]
      refine cd_pc_two (hp 0 (by omega)) (hp n (Nat.le_refl _)) (hpp 0 n (by omega) (Nat.le_refl _)) (fun w => ?_)
      rw [cd_and]
      refine ⟨fun z => ?_, fun z => ?_⟩
      · rcases ((ks w).mp z.2).2 with y | ⟨k, hk, y⟩
        · rw [y] at z
          exact absurd z.1 (g.2.2 v hv)
        · rw [y] at z
          rcases (hvp k hk).mp z.1 with x | x
          · rw [y, x]; exact Or.inl rfl
          · rw [y, x]; exact Or.inr rfl
      · rcases z with z | z
        · rw [z]; exact ⟨(hvp 0 (by omega)).mpr (Or.inl rfl), sp 0 (by omega)⟩
        · rw [z]; exact ⟨(hvp n (by omega)).mpr (Or.inr rfl), sp n (by omega)⟩
    · rw [e]
      have hjoin : ∀ w, cd_V (A (p k)) w → cd_V s w → (w = v ∧ (k = 0 ∨ k = n)) ∨ (0 < k ∧ w = p (k - 1)) ∨ (k < n ∧ w = p (k + 1)) := by
        intro w h1 h2
        rcases ((ks w).mp h2).2 with y | ⟨i, hi, y⟩
        · refine Or.inl ⟨y, (hvp k hk).mp ?_⟩
          rw [y] at h1
          exact g.2.1 _ _ (hp k hk) hv h1
        · rw [y] at h1
          by_cases c1 : i + 1 < k
          · exact absurd h1 (hfar' i k c1 hk)
          · by_cases c2 : k + 1 < i
            · exact absurd h1 (hfar k i c2 hi)
            · by_cases c3 : i = k
              · rw [c3] at h1
                exact absurd h1 (g.2.2 _ (hp k hk))
              · rcases Nat.lt_or_ge i k with c4 | c4
                · exact Or.inr (Or.inl ⟨by omega, by rw [y, show i = k - 1 by omega]⟩)
                · exact Or.inr (Or.inr ⟨by omega, by rw [y, show i = k + 1 by omega]⟩)
      have hkv : (k = 0 ∨ k = n) → cd_V (A (p k)) v := fun z => g.2.1 _ _ hv (hp k hk) ((hvp k hk).mpr z)
      have hkm : 0 < k → cd_V (A (p k)) (p (k - 1)) := fun z => by
        have q := hadj' (k - 1) (by omega)
        rw [show k - 1 + 1 = k by omega] at q
        exact q
      by_cases e0 : k = 0
      · refine cd_pc_two hv (hp (k + 1) (by omega)) (fun z => hpv (k + 1) (by omega) z.symm) (fun w => ?_)
        rw [cd_and]
        refine ⟨fun z => ?_, fun z => ?_⟩
        · rcases hjoin w z.1 z.2 with y | y | y
          · exact Or.inl y.1
          · exact absurd y.1 (by omega)
          · exact Or.inr y.2
        · rcases z with z | z
          · rw [z]; exact ⟨hkv (Or.inl e0), sv⟩
          · rw [z]; exact ⟨hadj k (by omega), sp (k + 1) (by omega)⟩
      · by_cases en : k = n
        · refine cd_pc_two hv (hp (k - 1) (by omega)) (fun z => hpv (k - 1) (by omega) z.symm) (fun w => ?_)
          rw [cd_and]
          refine ⟨fun z => ?_, fun z => ?_⟩
          · rcases hjoin w z.1 z.2 with y | y | y
            · exact Or.inl y.1
            · exact Or.inr y.2
            · exact absurd y.1 (by omega)
          · rcases z with z | z
            · rw [z]; exact ⟨hkv (Or.inr en), sv⟩
            · rw [z]; exact ⟨hkm (by omega), sp (k - 1) (by omega)⟩
        · refine cd_pc_two (hp (k - 1) (by omega)) (hp (k + 1) (by omega)) (hpp (k - 1) (k + 1) (by omega) (by omega)) (fun w => ?_)
          rw [cd_and]
          refine ⟨fun z => ?_, fun z => ?_⟩
          · rcases hjoin w z.1 z.2 with y | y | y
            · exact absurd y.2 (by omega)
            · exact Or.inl y.2
            · exact Or.inr y.2
          · rcases z with z | z
            · rw [z]; exact ⟨hkm (by omega), sp (k - 1) (by omega)⟩
            · rw [z]; exact ⟨hadj k (by omega), sp (k + 1) (by omega)⟩
  · -- in one piece
    have hcl := cd_rh_cl (A := A) hs hs0
    obtain ⟨x, hx, hsx, hl⟩ := cd_low' s hs hs0
    have hx0 : cd_V (cd_rh A s 0) x := by
      show cd_V (cd_low s) x
      rw [hl]
      exact (cd_one hx).mpr rfl
    have hx49 : cd_V (cd_rh A s 49) x := cd_rh_mono (k := 0) 49 hx0
    have down : ∀ k, k ≤ n → cd_V (cd_rh A s 49) (p k) → cd_V (cd_rh A s 49) v := by
      intro k
      induction k with
      | zero => exact fun hk z => hcl (p 0) v z (g.2.1 _ _ hv (hp 0 hk) ((hvp 0 hk).mpr (Or.inl rfl))) sv
      | succ k ih => exact fun hk z => ih (by omega) (hcl (p (k + 1)) (p k) z (hadj' k (by omega)) (sp k (by omega)))
    have hv49 : cd_V (cd_rh A s 49) v := by
      rcases ((ks x).mp ⟨hx, hsx⟩).2 with e | ⟨k, hk, e⟩
      · rw [e] at hx49; exact hx49
      · rw [e] at hx49; exact down k hk hx49
    have up : ∀ k, k ≤ n → cd_V (cd_rh A s 49) (p k) := by
      intro k
      induction k with
      | zero => exact fun hk => hcl v (p 0) hv49 ((hvp 0 hk).mpr (Or.inl rfl)) (sp 0 hk)
      | succ k ih => exact fun hk => hcl (p k) (p (k + 1)) (ih (by omega)) (hadj k (by omega)) (sp (k + 1) hk)
    refine cd_ext (cd_rh_lt g hs 49) hs (fun w => ⟨fun z => ?_, fun z => ?_⟩)
    · refine cd_rh_in (k := 0) (D := fun w => cd_V s w) (fun w hw => ?_) (fun u w _ _ hm => hm) 49 w z
      have q : cd_V (cd_low s) w := hw
      rw [hl] at q
      rw [(cd_one hx).mp q]
      exact ⟨hx, hsx⟩
    · rcases ((ks w).mp z).2 with e | ⟨k, hk, e⟩
      · rw [e]; exact hv49
      · rw [e]; exact up k hk
/-- vertices left, none of them easy: there is a hole -/
theorem cd_core_hole {A : Nat → Nat} (g : cd_G A) {l x : Nat} (hx : cd_V l x) (hl : ∀ v, cd_V l v → ¬ cd_clq A (A v &&& l)) : ∃ s, cd_Hole A s := by
  have hT : ∃ v a b, cd_Tri (cd_E A) (cd_V l) v a b := by
    apply Classical.byContradiction
    intro n
    obtain ⟨u, hu, hs⟩ := cd_dirac1 (cd_E_sym g) (fun u => cd_E_irr g u) hx (fun v a b z => n ⟨v, a, b, z⟩)
    refine hl u hu (fun a b ha hb hab => ?_)
    have ha' := cd_and.mp ha
    have hb' := cd_and.mp hb
    exact (hs a b ha'.2 hb'.2 ⟨hu.1, ha'.1⟩ ⟨hu.1, hb'.1⟩ (fun e => hab e.symm)).2
  obtain ⟨v, a, b, hv, ha, hb, eva, evb, hab, hne, hr⟩ := hT
  have gap : cd_Gap A v a b := ⟨hv.1, ha.1, hb.1, hab, eva.2, evb.2, fun z => hne ⟨ha.1, z⟩⟩
  have h7 : cd_V (cd_R A (cd_mask A v b) a 7) b := by
    refine hr (fun w => cd_V (cd_R A (cd_mask A v b) a 7) w) (cd_R_le (Nat.zero_le 7) ((cd_one ha.1).mpr rfl)) (fun u w hu he hd => ?_)
    refine cd_R_cl ha.1 u w hu he.2 ((cd_mask_iff hv.1 hb.1).mpr ⟨hd.1.1, hd.2.imp id (fun z => ⟨z.1, fun y => z.2 ⟨hv.1, y⟩⟩)⟩)
  obtain ⟨n, hn, hmin⟩ := pk_least (fun k => cd_V (cd_R A (cd_mask A v b) a k) b) ⟨7, h7⟩
  obtain ⟨s, hs, _⟩ := cd_gap_hole g gap hn hmin
  exact ⟨s, hs⟩
end
section
/-! counting, and the branches of cliques -/
noncomputable def cd_cnt (P : Nat → Prop) : Nat → Nat
  | 0 => 0
  | n + 1 => cd_cnt P n + @ite Nat (P n) (Classical.propDecidable (P n)) 1 0
theorem cd_cnt_t {P : Nat → Prop} {n : Nat} (h : P n) : cd_cnt P (n + 1) = cd_cnt P n + 1 := by
  show cd_cnt P n + @ite Nat (P n) (Classical.propDecidable (P n)) 1 0 = _
  rw [if_pos h]
theorem cd_cnt_f {P : Nat → Prop} {n : Nat} (h : ¬ P n) : cd_cnt P (n + 1) = cd_cnt P n := by
  show cd_cnt P n + @ite Nat (P n) (Classical.propDecidable (P n)) 1 0 = _
  rw [if_neg h]
  rfl
theorem cd_cnt_eq {P Q : Nat → Prop} : ∀ n, (∀ t, t < n → (P t ↔ Q t)) → cd_cnt P n = cd_cnt Q n := by
  intro n
  induction n with
  | zero => exact fun _ => rfl
  | succ n ih =>
    intro h
    have h1 := ih (fun t ht => h t (by omega))
    by_cases c : P n
    · rw [cd_cnt_t c, cd_cnt_t ((h n (by omega)).mp c), h1]
    · rw [cd_cnt_f c, cd_cnt_f (fun z => c ((h n (by omega)).mpr z)), h1]
theorem cd_cnt_no {P : Nat → Prop} : ∀ n, (∀ t, t < n → ¬ P t) → cd_cnt P n = 0 := by
  intro n
  induction n with
  | zero => exact fun _ => rfl
  | succ n ih =>
    intro h
    rw [cd_cnt_f (h n (by omega))]
    exact ih (fun t ht => h t (by omega))
theorem cd_cnt_or {P Q R : Nat → Prop} : ∀ n, (∀ t, t < n → (P t ↔ Q t ∨ R t)) → (∀ t, t < n → Q t → ¬ R t) → cd_cnt P n = cd_cnt Q n + cd_cnt R n := by
  intro n
  induction n with
  | zero => exact fun _ _ => rfl
  | succ n ih =>
    intro h hd
    have h1 := ih (fun t ht => h t (by omega)) (fun t ht => hd t (by omega))
    have hn := h n (by omega)
    by_cases c : Q n
    · rw [cd_cnt_t (hn.mpr (Or.inl c)), cd_cnt_t c, cd_cnt_f (hd n (by omega) c), h1]
      omega
    · by_cases d : R n
      · rw [cd_cnt_t (hn.mpr (Or.inr d)), cd_cnt_f c, cd_cnt_t d, h1]
        omega
      · rw [cd_cnt_f (fun z => (hn.mp z).elim c d), cd_cnt_f c, cd_cnt_f d, h1]
theorem cd_cnt_1 {P : Nat → Prop} {x : Nat} : ∀ n, x < n → (∀ t, t < n → (P t ↔ t = x)) → cd_cnt P n = 1 := by
  intro n
  induction n with
  | zero => exact fun hx _ => absurd hx (by omega)
  | succ n ih =>
    intro hx h
    by_cases c : n = x
    · rw [cd_cnt_t ((h n (by omega)).mpr c), cd_cnt_no n (fun t ht z => absurd ((h t (by omega)).mp z) (by omega))]
    · rw [cd_cnt_f (fun z => c ((h n (by omega)).mp z))]
      exact ih (by omega) (fun t ht => h t (by omega))
theorem cd_cnt_le {P : Nat → Prop} : ∀ n, cd_cnt P n ≤ n := by
  intro n
  induction n with
  | zero => exact Nat.le_refl 0
  | succ n ih =>
    by_cases c : P n
    · rw [cd_cnt_t c]; omega
    · rw [cd_cnt_f c]; omega
/-- the sum of f over the first k places -/
def cd_ss (f : Nat → Nat) : Nat → Nat
  | 0 => 0
  | k + 1 => cd_ss f k + f k
theorem cd_ss_eq {f g : Nat → Nat} : ∀ k, (∀ i, i < k → f i = g i) → cd_ss f k = cd_ss g k := by
  intro k
  induction k with
  | zero => exact fun _ => rfl
  | succ k ih =>
    intro h
    show cd_ss f k + f k = cd_ss g k + g k
    rw [ih (fun i hi => h i (by omega)), h k (by omega)]
theorem cd_ss7 (f : Nat → Nat) : cd_ss f 7 = cd_sum f := by
  simp [cd_ss, cd_sum]
/-- t is h and some of c -/
def cd_cov (h c t : Nat) : Prop := (∀ w, cd_V h w → cd_V t w) ∧ (∀ w, cd_V t w → cd_V h w ∨ cd_V c w)
/-- a clique that no vertex more can be added to -/
def cd_Mx (B : Nat → Nat) (t : Nat) : Prop := cd_clq B t ∧ ∀ w, w < 7 → ¬ ∀ u, cd_V t u → cd_V (B u) w
def cd_T (k : Nat) : Nat := 2 ^ (k + 1) - 1
theorem cd_T_s {a b d : Nat} (ha : a + 1 ≤ d) (hb : b + 1 ≤ d) : 1 + cd_T a + cd_T b ≤ cd_T d := by
  unfold cd_T
  have h1 : 2 ^ (a + 1) ≤ 2 ^ d := Nat.pow_le_pow_right (by decide) ha
  have h2 : 2 ^ (b + 1) ≤ 2 ^ d := Nat.pow_le_pow_right (by decide) hb
  have h3 : 2 ^ (d + 1) = 2 ^ d * 2 := Nat.pow_succ 2 d
  have h4 : 0 < 2 ^ (a + 1) := Nat.two_pow_pos _
  have h5 : 0 < 2 ^ (b + 1) := Nat.two_pow_pos _
  omega
theorem cd_T_1 (d : Nat) : 1 ≤ cd_T d := by
  unfold cd_T
  have h1 : 2 ^ 1 ≤ 2 ^ (d + 1) := Nat.pow_le_pow_right (by decide) (by omega)
  omega
/-- one branch, at place i of the stack -/
def cd_br (B : Nat → Nat) (i h c p : Nat) : Prop := h < 128 ∧ c < 128 ∧ p < 128 ∧ cd_clq B h ∧ (∀ w, (cd_V c w ∨ cd_V p w) ↔ (w < 7 ∧ ∀ u, cd_V h u → cd_V (B u) w)) ∧ cd_pc c + i ≤ 7
/-- the stack: r rounds, k branches, m the largest so far, f the full ones so far -/
def cd_Ex (B : Nat → Nat) (r k m f : Nat) (h c p : Nat → Nat) : Prop :=
  r + cd_ss (fun i => cd_T (cd_pc (c i))) k ≤ 255 ∧ (∀ i, i < k → cd_br B i (h i) (c i) (p i)) ∧ f + cd_ss (fun i => cd_cnt (fun t => cd_Mx B t ∧ cd_cov (h i) (c i) t) 128) k = cd_cnt (cd_Mx B) 128 ∧ (∃ t, t < 128 ∧ cd_clq B t ∧ cd_pc t = m) ∧ (∀ t, t < 128 → cd_clq B t → cd_pc t ≤ m ∨ ∃ i, i < k ∧ cd_cov (h i) (c i) t)
theorem cd_Ex_0 {B h c p : Nat → Nat} (hh : h 0 = 0) (hc : c 0 = 127) (hp : p 0 = 0) : cd_Ex B 0 1 0 0 h c p := by
  have cv : ∀ t, cd_cov 0 127 t := fun t => ⟨fun w hw => absurd hw cd_zero, fun w hw => Or.inr (cd_all.mpr hw.1)⟩
  refine ⟨?_, fun i hi => ?_, ?_, ⟨0, by decide, fun v w hv => absurd hv cd_zero, cd_pc_zero⟩, fun t ht hq => Or.inr ⟨0, by omega, by rw [hh, hc]; exact cv t⟩⟩
  · show 0 + (0 + cd_T (cd_pc (c 0))) ≤ 255
    rw [hc]
    decide
  · rw [show i = 0 by omega, hh, hc, hp]
    refine ⟨by decide, by decide, by decide, fun v w hv => absurd hv cd_zero, fun w => ?_, by decide⟩
    rw [cd_all]
    exact ⟨fun z => z.elim (fun y => ⟨y, fun u hu => absurd hu cd_zero⟩) (fun y => absurd y cd_zero), fun z => Or.inl z.1⟩
  · show 0 + (0 + cd_cnt (fun t => cd_Mx B t ∧ cd_cov (h 0) (c 0) t) 128) = _
    rw [hh, hc, Nat.zero_add, Nat.zero_add]
    exact cd_cnt_eq 128 (fun t _ => ⟨fun z => z.1, fun z => ⟨z, cv t⟩⟩)
/-- nothing left: the largest and the number of full ones -/
theorem cd_Ex_end {B h c p : Nat → Nat} {r m f : Nat} (e : cd_Ex B r 0 m f h c p) : (∃ t, t < 128 ∧ cd_clq B t ∧ cd_pc t = m) ∧ (∀ t, t < 128 → cd_clq B t → cd_pc t ≤ m) ∧ f = cd_cnt (cd_Mx B) 128 :=
  ⟨e.2.2.2.1, fun t ht hq => (e.2.2.2.2 t ht hq).elim id (fun ⟨i, hi, _⟩ => absurd hi (by omega)), e.2.2.1⟩
/-- a branch at its end -/
theorem cd_Ex_leaf {B h c p : Nat → Nat} {r k m f m' f' : Nat} (e : cd_Ex B r (k + 1) m f h c p) (hc : c k = 0) (hm : (m' = m ∧ cd_pc (h k) ≤ m) ∨ (m' = cd_pc (h k) ∧ m ≤ cd_pc (h k))) (hf : (p k = 0 ∧ f' = f + 1) ∨ (p k ≠ 0 ∧ f' = f)) : cd_Ex B (r + 1) k m' f' h c p := by
  obtain ⟨e1, e2, e3, e4, e5⟩ := e
  obtain ⟨b1, b2, b3, b4, b5, b6⟩ := e2 k (by omega)
  have e1' : r + (cd_ss (fun i => cd_T (cd_pc (c i))) k + cd_T (cd_pc (c k))) ≤ 255 := e1
  have e3' : f + (cd_ss (fun i => cd_cnt (fun t => cd_Mx B t ∧ cd_cov (h i) (c i) t) 128) k + cd_cnt (fun t => cd_Mx B t ∧ cd_cov (h k) (c k) t) 128) = cd_cnt (cd_Mx B) 128 := e3
  have hT := cd_T_1 (cd_pc (c k))
  have hcov : ∀ t, t < 128 → (cd_cov (h k) (c k) t ↔ t = h k) := by
    intro t ht
    rw [hc]
    refine ⟨fun z => cd_ext ht b1 (fun w => ⟨fun y => (z.2 w y).elim id (fun x => absurd x cd_zero), fun y => z.1 w y⟩), fun z => ?_⟩
    rw [z]
    exact ⟨fun w y => y, fun w y => Or.inl y⟩
  have hmx : cd_Mx B (h k) ↔ p k = 0 := by
    refine ⟨fun z => cd_ext b3 (by decide) (fun w => ⟨fun y => ?_, fun y => absurd y cd_zero⟩), fun z => ⟨b4, fun w hw y => ?_⟩⟩
    · have q := (b5 w).mp (Or.inr y)
      exact absurd q.2 (z.2 w q.1)
    · have q := (b5 w).mpr ⟨hw, y⟩
      rw [hc, z] at q
      exact q.elim cd_zero cd_zero
  refine ⟨by omega, fun i hi => e2 i (by omega), ?_, ?_, fun t ht hq => ?_⟩
  · rcases hf with ⟨z1, z2⟩ | ⟨z1, z2⟩
    · have q : cd_cnt (fun t => cd_Mx B t ∧ cd_cov (h k) (c k) t) 128 = 1 := cd_cnt_1 128 b1 (fun t ht => by
        rw [hcov t ht]
        exact ⟨fun y => y.2, fun y => ⟨by rw [y]; exact hmx.mpr z1, y⟩⟩)
      omega
    · have q : cd_cnt (fun t => cd_Mx B t ∧ cd_cov (h k) (c k) t) 128 = 0 := cd_cnt_no 128 (fun t ht y => by
        rw [hcov t ht] at y
        rw [y.2] at y
        exact z1 (hmx.mp y.1))
      omega
  · rcases hm with z | z
    · rw [z.1]; exact e4
    · exact ⟨h k, b1, b4, z.1.symm⟩
  · rcases e5 t ht hq with z | ⟨i, hi, z⟩
    · exact Or.inl (by omega)
    · by_cases c1 : i = k
      · rw [c1] at z
        rw [(hcov t ht).mp z]
        exact Or.inl (by omega)
      · exact Or.inr ⟨i, by omega, z⟩
/-- a branch is cut in two by one vertex -/
theorem cd_Ex_cut {B h c p h' c' p' : Nat → Nat} (g : cd_G B) {r k m f v : Nat} (e : cd_Ex B r (k + 1) m f h c p) (hv : cd_V (c k) v) (hh : ∀ i, i < k → h' i = h i) (hc : ∀ i, i < k → c' i = c i) (hp : ∀ i, i < k → p' i = p i)
    (h1 : h' k = h k) (c1 : c' k = c k &&& cd_not (2 ^ v)) (p1 : p' k = p k ||| 2 ^ v) (h2 : h' (k + 1) = h k ||| 2 ^ v) (c2 : c' (k + 1) = c k &&& B v) (p2 : p' (k + 1) = p k &&& B v) : cd_Ex B (r + 1) (k + 2) m f h' c' p' := by
  obtain ⟨e1, e2, e3, e4, e5⟩ := e
  obtain ⟨b1, b2, b3, b4, b5, b6⟩ := e2 k (by omega)
  have e1' : r + (cd_ss (fun i => cd_T (cd_pc (c i))) k + cd_T (cd_pc (c k))) ≤ 255 := e1
  have e3' : f + (cd_ss (fun i => cd_cnt (fun t => cd_Mx B t ∧ cd_cov (h i) (c i) t) 128) k + cd_cnt (fun t => cd_Mx B t ∧ cd_cov (h k) (c k) t) 128) = cd_cnt (cd_Mx B) 128 := e3
  have hv7 := hv.1
  have hadj : ∀ u, cd_V (h k) u → cd_V (B u) v := ((b5 v).mp (Or.inl hv)).2
  have hvh : ¬ cd_V (h k) v := fun z => g.2.2 v hv7 (hadj v z)
  have n1 : cd_pc (c k) = cd_pc (c' k) + 1 := by
    rw [c1]
    exact cd_pc_del hv (fun w => by
      rw [cd_and, cd_nt, cd_one hv7]
      exact ⟨fun z => ⟨z.1, z.2.2⟩, fun z => ⟨z.1, z.1.1, z.2⟩⟩)
  have n2 : cd_pc (c' (k + 1)) < cd_pc (c k) := by
    rw [c2]
    exact cd_pc_lt (x := v) (fun w z => (cd_and.mp z).1) hv (fun z => g.2.2 v hv7 (cd_and.mp z).2)
  have nT := cd_T_s (a := cd_pc (c' k)) (b := cd_pc (c' (k + 1))) (d := cd_pc (c k)) (by omega) (by omega)
  have br1 : cd_br B k (h' k) (c' k) (p' k) := by
    refine ⟨by rw [h1]; exact b1, by rw [c1]; exact cd_and_lt' b2, by rw [p1]; exact cd_or_lt b3 (cd_one_lt hv7), by rw [h1]; exact b4, fun w => ?_, by omega⟩
    rw [c1, p1, h1, cd_and, cd_nt, cd_or, cd_one hv7, ← b5]
    refine ⟨fun z => ?_, fun z => ?_⟩
    · rcases z with z | z | z
      · exact Or.inl z.1
      · exact Or.inr z
      · rw [z]; exact Or.inl hv
    · by_cases ew : w = v
      · exact Or.inr (Or.inr ew)
      · rcases z with z | z
        · exact Or.inl ⟨z, z.1, ew⟩
        · exact Or.inr (Or.inl z)
  have br2 : cd_br B (k + 1) (h' (k + 1)) (c' (k + 1)) (p' (k + 1)) := by
    refine ⟨by rw [h2]; exact cd_or_lt b1 (cd_one_lt hv7), by rw [c2]; exact cd_and_lt' b2, by rw [p2]; exact cd_and_lt' b3, ?_, fun w => ?_, by omega⟩
    · rw [h2]
      intro x y hx hy hxy
      rw [cd_or, cd_one hv7] at hx hy
      rcases hx with hx | hx
      · rcases hy with hy | hy
        · exact b4 x y hx hy hxy
        · rw [hy]; exact hadj x hx
      · rcases hy with hy | hy
        · rw [hx]; exact g.2.1 y v hy.1 hv7 (hadj y hy)
        · exact absurd (hy.trans hx.symm) hxy
    · rw [c2, p2, h2, cd_and, cd_and]
      refine ⟨fun z => ?_, fun z => ?_⟩
      · have q : (cd_V (c k) w ∨ cd_V (p k) w) ∧ cd_V (B v) w := z.elim (fun y => ⟨Or.inl y.1, y.2⟩) (fun y => ⟨Or.inr y.1, y.2⟩)
        have q2 := (b5 w).mp q.1
        refine ⟨q2.1, fun u hu => ?_⟩
        rw [cd_or, cd_one hv7] at hu
        rcases hu with hu | hu
        · exact q2.2 u hu
        · rw [hu]; exact q.2
      · have q := (b5 w).mpr ⟨z.1, fun u hu => z.2 u (cd_or.mpr (Or.inl hu))⟩
        have q2 := z.2 v (cd_or.mpr (Or.inr ((cd_one hv7).mpr rfl)))
        exact q.imp (fun y => ⟨y, q2⟩) (fun y => ⟨y, q2⟩)
  have cov1 : ∀ t, cd_cov (h' k) (c' k) t ↔ cd_cov (h k) (c k) t ∧ ¬ cd_V t v := by
    intro t
    rw [h1, c1]
    refine ⟨fun z => ⟨⟨z.1, fun w hw => (z.2 w hw).imp id (fun y => (cd_and.mp y).1)⟩, fun y => ?_⟩, fun z => ⟨z.1.1, fun w hw => ?_⟩⟩
    · rcases z.2 v y with x | x
      · exact hvh x
      · rw [cd_and, cd_nt, cd_one hv7] at x
        exact x.2.2 rfl
    · rcases z.1.2 w hw with x | x
      · exact Or.inl x
      · refine Or.inr ?_
        rw [cd_and, cd_nt, cd_one hv7]
        exact ⟨x, x.1, fun ew => z.2 (ew ▸ hw)⟩
  have cov2 : ∀ t, cd_clq B t → (cd_cov (h' (k + 1)) (c' (k + 1)) t ↔ cd_cov (h k) (c k) t ∧ cd_V t v) := by
    intro t hq
    rw [h2, c2]
    refine ⟨fun z => ⟨⟨fun w hw => z.1 w (cd_or.mpr (Or.inl hw)), fun w hw => ?_⟩, z.1 v (cd_or.mpr (Or.inr ((cd_one hv7).mpr rfl)))⟩, fun z => ⟨fun w hw => ?_, fun w hw => ?_⟩⟩
    · rcases z.2 w hw with x | x
      · rw [cd_or, cd_one hv7] at x
        rcases x with x | x
        · exact Or.inl x
        · rw [x]; exact Or.inr hv
      · exact Or.inr (cd_and.mp x).1
    · rw [cd_or, cd_one hv7] at hw
      rcases hw with x | x
      · exact z.1.1 w x
      · rw [x]; exact z.2
    · rw [cd_or, cd_one hv7, cd_and]
      rcases z.1.2 w hw with x | x
      · exact Or.inl (Or.inl x)
      · by_cases ew : w = v
        · exact Or.inl (Or.inr ew)
        · exact Or.inr ⟨x, hq v w z.2 hw ew⟩
  refine ⟨?_, fun i hi => ?_, ?_, e4, fun t ht hq => ?_⟩
  · show r + 1 + (cd_ss (fun i => cd_T (cd_pc (c' i))) k + cd_T (cd_pc (c' k)) + cd_T (cd_pc (c' (k + 1)))) ≤ 255
    rw [cd_ss_eq (f := fun i => cd_T (cd_pc (c' i))) (g := fun i => cd_T (cd_pc (c i))) k (fun i hi => by show cd_T (cd_pc (c' i)) = cd_T (cd_pc (c i)); rw [hc i hi])]
    omega
  · by_cases ei : i < k
    · rw [hh i ei, hc i ei, hp i ei]
      exact e2 i (by omega)
    · by_cases ek : i = k
      · rw [ek]; exact br1
      · rw [show i = k + 1 by omega]; exact br2
  · show f + (cd_ss (fun i => cd_cnt (fun t => cd_Mx B t ∧ cd_cov (h' i) (c' i) t) 128) k + cd_cnt (fun t => cd_Mx B t ∧ cd_cov (h' k) (c' k) t) 128 + cd_cnt (fun t => cd_Mx B t ∧ cd_cov (h' (k + 1)) (c' (k + 1)) t) 128) = _
    rw [cd_ss_eq (f := fun i => cd_cnt (fun t => cd_Mx B t ∧ cd_cov (h' i) (c' i) t) 128) (g := fun i => cd_cnt (fun t => cd_Mx B t ∧ cd_cov (h i) (c i) t) 128) k (fun i hi => by
      show cd_cnt (fun t => cd_Mx B t ∧ cd_cov (h' i) (c' i) t) 128 = cd_cnt (fun t => cd_Mx B t ∧ cd_cov (h i) (c i) t) 128
      rw [hh i hi, hc i hi])]
    have q := cd_cnt_or (P := fun t => cd_Mx B t ∧ cd_cov (h k) (c k) t) (Q := fun t => cd_Mx B t ∧ cd_cov (h' k) (c' k) t) (R := fun t => cd_Mx B t ∧ cd_cov (h' (k + 1)) (c' (k + 1)) t) 128 (fun t _ => by
        refine ⟨fun z => ?_, fun z => ?_⟩
        · rcases cd_dec t v with y | y
          · exact Or.inr ⟨z.1, (cov2 t z.1.1).mpr ⟨z.2, y⟩⟩
          · exact Or.inl ⟨z.1, (cov1 t).mpr ⟨z.2, y⟩⟩
        · rcases z with z | z
          · exact ⟨z.1, ((cov1 t).mp z.2).1⟩
          · exact ⟨z.1, ((cov2 t z.1.1).mp z.2).1⟩) (fun t _ z y => ((cov1 t).mp z.2).2 ((cov2 t z.1.1).mp y.2).2)
    omega
  · rcases e5 t ht hq with z | ⟨i, hi, z⟩
    · exact Or.inl z
    · refine Or.inr ?_
      by_cases ei : i < k
      · exact ⟨i, by omega, by rw [hh i ei, hc i ei]; exact z⟩
      · rw [show i = k by omega] at z
        rcases cd_dec t v with y | y
        · exact ⟨k + 1, by omega, (cov2 t hq).mpr ⟨z, y⟩⟩
        · exact ⟨k, by omega, (cov1 t).mpr ⟨z, y⟩⟩
end
section
/-! the ints of the program as sets -/
theorem cd_iand (a b : Nat) : nI a &&& nI b = nI (a &&& b) := by
  apply Int32.toBitVec_inj.1
  show BitVec.ofNat 32 a &&& BitVec.ofNat 32 b = BitVec.ofNat 32 (a &&& b)
  apply BitVec.eq_of_getLsbD_eq
  intro i hi
  simp [hi]
theorem cd_ior (a b : Nat) : nI a ||| nI b = nI (a ||| b) := by
  apply Int32.toBitVec_inj.1
  show BitVec.ofNat 32 a ||| BitVec.ofNat 32 b = BitVec.ofNat 32 (a ||| b)
  apply BitVec.eq_of_getLsbD_eq
  intro i hi
  simp [hi]
theorem cd_ixor (a b : Nat) : nI a ^^^ nI b = nI (a ^^^ b) := by
  apply Int32.toBitVec_inj.1
  show BitVec.ofNat 32 a ^^^ BitVec.ofNat 32 b = BitVec.ofNat 32 (a ^^^ b)
  apply BitVec.eq_of_getLsbD_eq
  intro i hi
  simp [hi]
theorem cd_im1 : (-1 : Int32) = nI (2 ^ 32 - 1) := by decide
theorem cd_ban {a b : Nat} (ha : a < 128) : a &&& (b ^^^ (2 ^ 32 - 1)) = a &&& cd_not b := by
  apply Nat.eq_of_testBit_eq
  intro i
  rw [Nat.testBit_and, Nat.testBit_and]
  rcases Nat.lt_or_ge i 7 with z | z
  · unfold cd_not
    rw [Nat.testBit_xor, Nat.testBit_xor, Nat.testBit_two_pow_sub_one, show (127 : Nat) = 2 ^ 7 - 1 from rfl, Nat.testBit_two_pow_sub_one, decide_eq_true (show i < 32 by omega), decide_eq_true z, Bool.xor_comm]
  · have p : 2 ^ 7 ≤ 2 ^ i := Nat.pow_le_pow_right (by decide) z
    rw [Nat.testBit_lt_two_pow (show a < 2 ^ i by omega)]
    rfl
theorem cd_iban {a : Nat} (b : Nat) (ha : a < 128) : nI a &&& (nI b ^^^ (-1)) = nI (a &&& cd_not b) := by
  rw [cd_im1, cd_ixor, cd_iand, cd_ban ha]
theorem cd_ibt : ∀ s, s < 128 → ∀ v, v < 7 → ((nI s >>> (nI v &&& 31)) &&& 1) = nI ((s.testBit v).toNat) := by decide +kernel
theorem cd_ishl : ∀ v, v < 7 → (1 : Int32) <<< (nI v &&& 31) = nI (2 ^ v) := by decide +kernel
theorem cd_ib8 : ∀ s, s < 128 → (nI s).toInt8.toInt32 = nI s := by decide +kernel
theorem cd_ilow : ∀ s, s < 128 → nI s &&& (-nI s) = nI (cd_low s) := by decide +kernel
theorem cd_inar {s : Nat} (hs : s < 128) : vp_nar .byte (nI s) = nI s := by rw [vp_nar_byte, cd_ib8 s hs]
theorem cd_iz {s : Nat} (hs : s < 128) : nI s = 0 ↔ ∀ v, ¬ cd_V s v := by
  have h0 : nI s = nI 0 ↔ s = 0 := nI_eq (by omega) (by omega)
  refine ⟨fun h v => ?_, fun h => ?_⟩
  · rw [h0.mp h]
    exact cd_zero
  · exact h0.mpr (cd_ext hs (by decide) (fun v => ⟨fun z => absurd z (h v), fun z => absurd z cd_zero⟩))
theorem cd_izn {s : Nat} (hs : s < 128) : nI s = 0 ↔ s = 0 := nI_eq (a := s) (b := 0) (by omega) (by omega)
/-- the array holds the graph -/
def cd_H (a : Nat → Int32) (A : Nat → Nat) : Prop := ∀ v, v < 7 → a v = nI (A v)
theorem cd_Hc {a : Nat → Int32} {A : Nat → Nat} (h : cd_H a A) {v : Nat} (hv : v < 7) : a (nI v).toNatClampNeg = nI (A v) := by
  rw [nI_clamp (by omega)]
  exact h v hv
/-! what the law says of one set -/
theorem cd_joined {A : Nat → Nat} (g : cd_G A) (s : Nat) : (∀ v, cd_V s v → cd_pc (A v &&& s) + 1 = cd_pc s) ↔ cd_clq A s := by
  refine ⟨fun h v w hv hw hn => ?_, fun h v hv => ?_⟩
  · obtain ⟨t, ht, kt⟩ := cd_mk (fun w => cd_V s w ∧ w ≠ v)
    have p : cd_pc s = cd_pc t + 1 := cd_pc_del hv (fun w => by rw [kt]; exact ⟨fun z => z.2, fun z => ⟨z.1.1, z⟩⟩)
    have q := h v hv
    exact (cd_and.mp (cd_pc_full (s := A v &&& s) (t := t) (fun w z => by
      rw [cd_and] at z
      exact (kt w).mpr ⟨z.1.1, z.2, fun e => g.2.2 v hv.1 (by have z1 := z.1; rw [e] at z1; exact z1)⟩) (by omega) w ((kt w).mpr ⟨hw.1, hw, hn⟩))).1
  · refine (cd_pc_del hv (fun w => ?_)).symm
    rw [cd_and]
    exact ⟨fun z => ⟨z.2, fun e => g.2.2 v hv.1 (by have z1 := z.1; rw [e] at z1; exact z1)⟩, fun z => ⟨h v w hv z.1 z.2, z.1⟩⟩
/-- the graph of what is not joined -/
def cd_co (A : Nat → Nat) (v : Nat) : Nat := 127 &&& cd_not (A v) &&& cd_not (2 ^ v)
theorem cd_co_iff {A : Nat → Nat} {v w : Nat} (hv : v < 7) : cd_V (cd_co A v) w ↔ w < 7 ∧ ¬ cd_V (A v) w ∧ w ≠ v := by
  unfold cd_co
  rw [cd_and, cd_and, cd_all, cd_nt, cd_nt, cd_one hv]
  exact ⟨fun z => ⟨z.1.1, z.1.2.2, z.2.2⟩, fun z => ⟨⟨z.1, z.1, z.2.1⟩, z.1, z.2.2⟩⟩
theorem cd_co_G {A : Nat → Nat} (g : cd_G A) : cd_G (cd_co A) := by
  refine ⟨fun v hv => cd_and_lt' (cd_and_lt' (by decide)), fun u v hu hv h => ?_, fun v hv h => ((cd_co_iff hv).mp h).2.2 rfl⟩
  have q := (cd_co_iff hu).mp h
  exact (cd_co_iff hv).mpr ⟨hu, fun z => q.2.1 (g.2.1 v u hv hu z), fun e => q.2.2 e.symm⟩
theorem cd_none {A : Nat → Nat} (g : cd_G A) (s : Nat) : (∀ v, cd_V s v → cd_pc (A v &&& s) = 0) ↔ cd_clq (cd_co A) s := by
  refine ⟨fun h v w hv hw hn => ?_, fun h v hv => ?_⟩
  · exact (cd_co_iff hv.1).mpr ⟨hw.1, fun z => cd_pc_0 (h v hv) w (cd_and.mpr ⟨z, hw⟩), hn⟩
  · rw [← cd_pc_zero]
    refine cd_pc_eq (fun w => ⟨fun z => ?_, fun z => absurd z cd_zero⟩)
    rw [cd_and] at z
    by_cases e : w = v
    · rw [e] at z
      exact absurd z.1 (g.2.2 v hv.1)
    · exact absurd z.1 ((cd_co_iff hv.1).mp (h v w hv z.2 e)).2.1
/-- the common neighbours of those of the first k vertices that are in s -/
def cd_com (A : Nat → Nat) (s : Nat) : Nat → Nat
  | 0 => 127
  | k + 1 => if s.testBit k = true then cd_com A s k &&& A k else cd_com A s k
theorem cd_com_iff {A : Nat → Nat} {s w : Nat} : ∀ k, k ≤ 7 → (cd_V (cd_com A s k) w ↔ w < 7 ∧ ∀ u, u < k → cd_V s u → cd_V (A u) w) := by
  intro k
  induction k with
  | zero => exact fun _ => by rw [show cd_com A s 0 = 127 from rfl, cd_all]; exact ⟨fun z => ⟨z, fun u hu => absurd hu (by omega)⟩, fun z => z.1⟩
  | succ k ih =>
    intro hk
    have ih' := ih (by omega)
    show cd_V (if s.testBit k = true then cd_com A s k &&& A k else cd_com A s k) w ↔ _
    by_cases e : s.testBit k = true
    · rw [if_pos e, cd_and, ih']
      refine ⟨fun z => ⟨z.1.1, fun u hu hs => ?_⟩, fun z => ⟨⟨z.1, fun u hu => z.2 u (by omega)⟩, z.2 k (by omega) ⟨by omega, e⟩⟩⟩
      by_cases eu : u = k
      · rw [eu]; exact z.2
      · exact z.1.2 u (by omega) hs
    · rw [if_neg e, ih']
      refine ⟨fun z => ⟨z.1, fun u hu hs => ?_⟩, fun z => ⟨z.1, fun u hu => z.2 u (by omega)⟩⟩
      by_cases eu : u = k
      · rw [eu] at hs
        exact absurd hs.2 e
      · exact z.2 u (by omega) hs
theorem cd_com_lt {A : Nat → Nat} {s : Nat} : ∀ k, cd_com A s k < 128 := by
  intro k
  induction k with
  | zero => exact (by decide : (127 : Nat) < 128)
  | succ k ih =>
    show (if s.testBit k = true then cd_com A s k &&& A k else cd_com A s k) < 128
    split
    · exact cd_and_lt' ih
    · exact ih
/-- full: a clique, not empty, with no common neighbour outside -/
theorem cd_full {A : Nat → Nat} (g : cd_G A) {s : Nat} : (cd_clq A s ∧ 0 < cd_pc s ∧ (∀ w, ¬ cd_V (cd_com A s 7 &&& cd_not s) w)) ↔ cd_Mx A s := by
  have hc : ∀ w, cd_V (cd_com A s 7) w ↔ w < 7 ∧ ∀ u, cd_V s u → cd_V (A u) w := by
    intro w
    rw [cd_com_iff 7 (by omega)]
    exact ⟨fun z => ⟨z.1, fun u hu => z.2 u hu.1 hu⟩, fun z => ⟨z.1, fun u _ hu => z.2 u hu⟩⟩
  refine ⟨fun h => ⟨h.1, fun w hw z => ?_⟩, fun h => ⟨h.1, ?_, fun w z => ?_⟩⟩
  · refine h.2.2 w (cd_and.mpr ⟨(hc w).mpr ⟨hw, z⟩, cd_nt.mpr ⟨hw, fun y => g.2.2 w hw (z w y)⟩⟩)
  · apply Classical.byContradiction
    intro n
    exact h.2 0 (by omega) (fun u hu => absurd hu (cd_pc_0 (by omega) u))
  · rw [cd_and, hc] at z
    exact h.2 w z.1.1 z.1.2
end
section
/-! walks: the small methods, cliques, the core -/
section
variable {post : Int32 → Prop} {A : Nat → Nat} {fb fl ff : Int32} {a1 a2 a3 a4 a5 a6 a7 : Nat → Int32}
theorem cd_n10 : ¬ (1 : Int32) = 0 := by decide
theorem cd_w_in {s v : Nat} (hs : s < 128) (hv : v < 7) (h1 : cd_V s v → post 1) (h0 : ¬ cd_V s v → post 0) : wpX_in post () (nI s) (nI v) := by
  unfold wpX_in
  rw [cd_ibt s hs v hv]
  rcases cd_dec s v with e | e
  · rw [cd_tb e]
    exact br_f cd_n10 (h1 e)
  · rw [cd_tb0 hv e]
    exact br_t rfl (h0 e)
theorem cd_w_ones {s : Nat} (hs : s < 128) (H : post (nI (cd_pc s))) : wpX_ones post () (nI s) :=
  pk_loop (fun n i x => wX_ones_4 post (nI s) n x (nI i)) (fun i x => x = nI (cd_ss (fun u => (s.testBit u).toNat) i)) 7 0 (nI 0) (by omega) rfl
    (fun n x h => pk_le 7 7 (fun _ => by rw [h, cd_ss7]; exact H) (fun z => absurd z (by omega)))
    (fun n i x hi h hw => pk_le 7 i (fun z => absurd z (by omega)) (fun _ => nm_r (by rw [h, cd_ibt s hs i hi, nI_add]; rfl) (nm_r (nI_1 i) (hw _ rfl))))
theorem cd_w_bits {s : Nat} (hs : s < 128) (H : post (nI (cd_pc s))) : wpL_bits post () (nI s) :=
  pk_loop (fun n i x => wL_bits_4 post (nI s) n x (nI i)) (fun i x => x = nI (cd_ss (fun u => (s.testBit u).toNat) i)) 7 0 (nI 0) (by omega) rfl
    (fun n x h => pk_le 7 7 (fun _ => by rw [h, cd_ss7]; exact H) (fun z => absurd z (by omega)))
    (fun n i x hi h hw => pk_le 7 i (fun z => absurd z (by omega)) (fun _ => nm_r (by rw [h, cd_ibt s hs i hi, nI_add]; rfl) (nm_r (nI_1 i) (hw _ rfl))))
theorem cd_w_first {s : Nat} (hs : s < 128) (hx : ∃ x, cd_V s x) (H : ∀ v, cd_V s v → post (nI v)) : wpX_first post () (nI s) :=
  pk_loop (σ := Unit) (fun n i _ => wX_first_2 post (nI s) n (nI i)) (fun i _ => ∀ u, u < i → ¬ cd_V s u) 6 0 () (by omega) (fun u hu => absurd hu (by omega))
    (fun n _ h => pk_le 6 6 (fun _ => H 6 (by
      obtain ⟨x, hx⟩ := hx
      have h7 := hx.1
      by_cases e : x = 6
      · rw [e] at hx; exact hx
      · exact absurd hx (h x (by omega)))) (fun z => absurd z (by omega)))
    (fun n i _ hi h hw => pk_le 6 i (fun z => absurd z (by omega)) (fun _ => cd_w_in hs (by omega) (fun hin => br_f cd_n10 (H i hin)) (fun hout => br_t rfl (nm_r (nI_1 i) (hw () (lt_s h hout))))))
theorem cd_w_isq (g : cd_G A) (ha : cd_H a1 A) {s : Nat} (hs : s < 128) (h1 : cd_clq A s → post 1) (h0 : ¬ cd_clq A s → post 0) : wpX_isClique post (fb, fl, ff, a1, a2, a3, a4, a5, a6, a7) (nI s) :=
  pk_loop (σ := Unit) (fun n i _ => wX_isClique_2 post (nI s) fb fl ff a1 a2 a3 a4 a5 a6 a7 n (nI i)) (fun i _ => ∀ u, u < i → cd_V s u → ∀ w, cd_V s w → w ≠ u → cd_V (A u) w) 7 0 () (by omega) (fun u hu => absurd hu (by omega))
    (fun n _ h => pk_le 7 7 (fun _ => h1 (fun v w hv hw hn => h v hv.1 hv w hw hn)) (fun z => absurd z (by omega)))
    (fun n i _ hi h hw => pk_le 7 i (fun z => absurd z (by omega)) (fun _ => by
      have e : (nI s &&& ((a1 (nI i).toNatClampNeg) ^^^ (-1))) &&& (((1 : Int32) <<< (nI i &&& 31)) ^^^ (-1)) = nI (s &&& cd_not (A i) &&& cd_not (2 ^ i)) := by
        rw [cd_Hc ha hi, cd_iban _ hs, cd_ishl i hi, cd_iban _ (cd_and_lt' hs)]
      have m : ∀ w, cd_V (s &&& cd_not (A i) &&& cd_not (2 ^ i)) w ↔ cd_V s w ∧ ¬ cd_V (A i) w ∧ w ≠ i := by
        intro w
        rw [cd_and, cd_and, cd_nt, cd_nt, cd_one hi]
        exact ⟨fun z => ⟨z.1.1, z.1.2.2, z.2.2⟩, fun z => ⟨⟨z.1, z.1.1, z.2.1⟩, z.1.1, z.2.2⟩⟩
      refine cd_w_in hs hi (fun hin => br_f cd_n10 ⟨pk_in i 7 hi, ?_⟩) (fun hout => br_t rfl (nm_r (nI_1 i) (hw () (lt_s h (fun z => absurd z hout)))))
      refine ek_if (by rw [e]; exact cd_iz (cd_and_lt' (cd_and_lt' hs))) (fun d => nm_r (nI_1 i) (hw () (lt_s h (fun _ w hw hn => ?_)))) (fun nd => h0 (fun hq => nd (fun w hw => ?_)))
      · rcases cd_dec (A i) w with y | y
        · exact y
        · exact absurd ((m w).mpr ⟨hw, y, hn⟩) (d w)
      · have q := (m w).mp hw
        exact q.2.1 (hq i w hin q.1 q.2.2)))
theorem cd_w_easy (g : cd_G A) (ha : cd_H a1 A) {v l : Nat} (hv : v < 7) (hl : l < 128) (h1 : cd_clq A (A v &&& l) → post 1) (h0 : ¬ cd_clq A (A v &&& l) → post 0) : wpX_isEasy post (fb, fl, ff, a1, a2, a3, a4, a5, a6, a7) (nI v) (nI l) := by
  unfold wpX_isEasy
  dsimp only
  refine ⟨pk_in v 7 hv, ?_⟩
  rw [cd_Hc ha hv, cd_iand]
  exact cd_w_isq g ha (cd_and_lt hl) (fun z => ⟨rfl, h1 z⟩) (fun z => ⟨rfl, h0 z⟩)
theorem cd_w_clique (g : cd_G A) (ha : cd_H a1 A) {s : Nat} (hs : s < 128) (h1 : cd_clq A s → post 1) (h0 : ¬ cd_clq A s → post 0) : wpX_clique post (fb, fl, ff, a1, a2, a3, a4, a5, a6, a7) (nI s) := by
  unfold wpX_clique
  dsimp only
  refine pk_lt s 0 (fun z => absurd z (by omega)) (fun _ => pk_lt 127 s (fun z => absurd z (by omega)) (fun _ => ?_))
  exact cd_w_isq g ha hs (fun z => br_f cd_n10 (h1 z)) (fun z => br_t rfl (h0 z))
/-- no vertex of l is easy in l -/
def cd_Hd (A : Nat → Nat) (l : Nat) : Prop := ∀ v, cd_V l v → ¬ cd_clq A (A v &&& l)
def cd_CI (A : Nat → Nat) (l0 i l : Nat) : Prop := l < 128 ∧ (∀ w, cd_V l w → cd_V l0 w) ∧ (∀ s, cd_Hole A s → (∀ w, cd_V s w → cd_V l0 w) → ∀ w, cd_V s w → cd_V l w) ∧ (cd_Hd A l0 → l = l0) ∧ (l = l0 → ∀ v, v < i → cd_V l0 v → ¬ cd_clq A (A v &&& l0))
theorem cd_w_core13 {J : Int32 → Int32 → Prop} (g : cd_G A) (ha : cd_H a1 A) {l0 j : Nat} (hl0 : l0 < 128) (H : ∀ l, cd_CI A l0 7 l → J (nI l) (nI (j + 1))) : ∃ n, wX_core_13 post J (nI j) fb fl ff a1 a2 a3 a4 a5 a6 a7 n (nI l0) 0 :=
  pk_loop (fun n i l => wX_core_13 post J (nI j) fb fl ff a1 a2 a3 a4 a5 a6 a7 n (nI l) (nI i)) (cd_CI A l0) 7 0 l0 (by omega) ⟨hl0, fun w h => h, fun s _ h => h, fun _ => rfl, fun _ v hv => absurd hv (by omega)⟩
    (fun n l h => pk_le 7 7 (fun _ => nm_r (nI_1 j) (H l h)) (fun z => absurd z (by omega)))
    (fun n i l hi h hw => pk_le 7 i (fun z => absurd z (by omega)) (fun _ => by
      obtain ⟨c1, c2, c3, c4, c5⟩ := h
      refine cd_w_in c1 hi (fun hin => br_f cd_n10 ?_) (fun hout => br_t rfl (nm_r (nI_1 i) (hw l ⟨c1, c2, c3, c4, fun e => lt_s (c5 e) (fun z => absurd (e ▸ z) hout)⟩)))
      refine cd_w_easy g ha hi c1 (fun he => br_f cd_n10 (nm_r (by rw [cd_ishl i hi, cd_iban _ c1]) (nm_r (nI_1 i) (hw (l &&& cd_not (2 ^ i)) ?_)))) (fun he => br_t rfl (nm_r (nI_1 i) (hw l ⟨c1, c2, c3, c4, fun e => lt_s (c5 e) (fun z => e ▸ he)⟩)))
      have mm : ∀ w, cd_V (l &&& cd_not (2 ^ i)) w ↔ cd_V l w ∧ w ≠ i := by
        intro w
        rw [cd_and, cd_nt, cd_one hi]
        exact ⟨fun z => ⟨z.1, z.2.2⟩, fun z => ⟨z.1, z.1.1, z.2⟩⟩
      refine ⟨cd_and_lt' c1, fun w hw => c2 w ((mm w).mp hw).1, fun s hs hsl w hw => (mm w).mpr ⟨c3 s hs hsl w hw, fun e => ?_⟩, fun hd => ?_, fun e => ?_⟩
      · rw [e] at hw
        exact cd_hole_hard g hs (c3 s hs hsl) hw he
      · have q := c4 hd
        rw [q] at he hin
        exact absurd he (hd i hin)
      · have q := c2 i hin
        rw [← e] at q
        exact absurd rfl ((mm i).mp q).2))
theorem cd_w_core (g : cd_G A) (ha : cd_H a1 A) (H : ∀ l, l < 128 → (∀ s, cd_Hole A s → ∀ w, cd_V s w → cd_V l w) → cd_Hd A l → post (nI l)) : wpX_core post (fb, fl, ff, a1, a2, a3, a4, a5, a6, a7) :=
  pk_loop (fun n j l => wX_core_5 post fb fl ff a1 a2 a3 a4 a5 a6 a7 n (nI l) (nI j)) (fun j l => l < 128 ∧ (∀ s, cd_Hole A s → ∀ w, cd_V s w → cd_V l w) ∧ (cd_pc l + j ≤ 7 ∨ cd_Hd A l)) 7 0 127 (by omega) ⟨by decide, fun s _ w hw => cd_all.mpr hw.1, Or.inl (cd_pc_le7 127)⟩
    (fun n l h => pk_le 7 7 (fun _ => H l h.1 h.2.1 (h.2.2.elim (fun z v hv => absurd hv (cd_pc_0 (by omega) v)) id)) (fun z => absurd z (by omega)))
    (fun n j l hj h hw => pk_le 7 j (fun z => absurd z (by omega)) (fun _ => by
      refine cd_w_core13 g ha h.1 (fun l' c => hw l' ⟨c.1, fun s hs => c.2.2.1 s hs (h.2.1 s hs), ?_⟩)
      obtain ⟨c1, c2, c3, c4, c5⟩ := c
      by_cases e : l' = l
      · exact Or.inr (fun v hv => by rw [e] at hv ⊢; exact c5 e v hv.1 hv)
      · rcases h.2.2 with z | z
        · refine Or.inl ?_
          have q : cd_pc l' < cd_pc l := by
            rcases Nat.lt_or_ge (cd_pc l') (cd_pc l) with y | y
            · exact y
            · exact absurd (cd_ext c1 h.1 (fun w => ⟨c2 w, fun hw => cd_pc_full c2 y w hw⟩)) e
          omega
        · exact absurd (c4 z) e))
theorem cd_w_neat (g : cd_G A) (ha : cd_H a1 A) (h1 : (∀ s, ¬ cd_Hole A s) → post 1) (h0 : (∃ s, cd_Hole A s) → post 0) : wpX_neat post (fb, fl, ff, a1, a2, a3, a4, a5, a6, a7) := by
  unfold wpX_neat
  dsimp only
  refine cd_w_core g ha (fun l hl hh hd => ek_if (cd_iz hl) (fun e => h1 (fun s hs => ?_)) (fun ne => h0 ?_))
  · obtain ⟨x, hx, hsx, _⟩ := cd_low' s hs.1 (cd_hole_ne0 hs)
    exact e x (hh s hs x ⟨hx, hsx⟩)
  · apply Classical.byContradiction
    intro n
    exact ne (fun v hv => n (cd_core_hole g hv hd))
end
end
section
/-! walks: around, smallestHole -/
def cd_AR (A : Nat → Nat) (m a b r : Nat) : Prop := (r ≤ 7 ∧ cd_V (cd_R A m a r) b ∧ ∀ j, j < r → ¬ cd_V (cd_R A m a j) b) ∨ (r = 8 ∧ ∀ j, j < 8 → ¬ cd_V (cd_R A m a j) b)
/-- place j of the 343: a gap, and its shortest way around has n joins -/
def cd_Y (A : Nat → Nat) (j n : Nat) : Prop := j / 7 % 7 < j % 7 ∧ cd_Gap A (j / 49) (j / 7 % 7) (j % 7) ∧ n ≤ 7 ∧ cd_V (cd_R A (cd_mask A (j / 49) (j % 7)) (j / 7 % 7) n) (j % 7) ∧ ∀ i, i < n → ¬ cd_V (cd_R A (cd_mask A (j / 49) (j % 7)) (j / 7 % 7) i) (j % 7)
def cd_Bs (A : Nat → Nat) (x : Int32) (i : Nat) : Prop := (x = -1 ∧ ∀ j n, j < i → ¬ cd_Y A j n) ∨ (∃ m, m ≤ 7 ∧ x = nI (m + 2) ∧ (∃ j, j < i ∧ cd_Y A j m) ∧ ∀ j n, j < i → cd_Y A j n → m ≤ n)
theorem cd_Y_u {A : Nat → Nat} {j m n : Nat} (h : cd_Y A j m) (h' : cd_Y A j n) : m = n := by
  rcases Nat.lt_trichotomy m n with z | z | z
  · exact absurd h.2.2.2.1 (h'.2.2.2.2 m z)
  · exact z
  · exact absurd h'.2.2.2.1 (h.2.2.2.2 n z)
/-- the end of smallestHole -/
theorem cd_Bs_end {A : Nat → Nat} (g : cd_G A) {x : Int32} (h : cd_Bs A x 343) : (x = -1 ∧ ∀ s, ¬ cd_Hole A s) ∨ (∃ m, x = nI m ∧ (∃ s, cd_Hole A s ∧ cd_pc s = m) ∧ ∀ s, cd_Hole A s → m ≤ cd_pc s) := by
  have key : ∀ s, cd_Hole A s → ∃ j n, j < 343 ∧ cd_Y A j n ∧ n + 2 ≤ cd_pc s := by
    intro s hs
    obtain ⟨v, a, b, hab, gap, hr⟩ := cd_hole_gap g hs
    have h4 := hs.2.2.1
    have h7 := cd_pc_le7 s
    have hv := gap.1
    have ha := gap.2.1
    have hb := gap.2.2.1
    obtain ⟨n, hn, hmin⟩ := pk_least (fun k => cd_V (cd_R A (cd_mask A v b) a k) b) ⟨_, hr⟩
    have hle : n ≤ cd_pc s - 2 := by
      rcases Nat.lt_or_ge (cd_pc s - 2) n with z | z
      · exact absurd hr (hmin _ z)
      · exact z
    have e1 : (49 * v + 7 * a + b) / 49 = v := by omega
    have e2 : (49 * v + 7 * a + b) / 7 % 7 = a := by omega
    have e3 : (49 * v + 7 * a + b) % 7 = b := by omega
    refine ⟨49 * v + 7 * a + b, n, by omega, ?_, by omega⟩
    unfold cd_Y
    rw [e1, e2, e3]
    exact ⟨hab, gap, by omega, hn, hmin⟩
  rcases h with ⟨h1, h2⟩ | ⟨m, h1, h2, ⟨j, hj, hy⟩, h4⟩
  · refine Or.inl ⟨h1, fun s hs => ?_⟩
    obtain ⟨j, n, k1, k2, _⟩ := key s hs
    exact h2 j n k1 k2
  · refine Or.inr ⟨m + 2, h2, ?_, fun s hs => ?_⟩
    · exact cd_gap_hole g hy.2.1 hy.2.2.2.1 hy.2.2.2.2
    · obtain ⟨j', n, k1, k2, k3⟩ := key s hs
      have := h4 j' n k1 k2
      omega
section
variable {post : Int32 → Prop} {A : Nat → Nat} {fb fl ff : Int32} {a1 a2 a3 a4 a5 a6 a7 : Nat → Int32}
theorem cd_w_ar34 {J : Int32 → Int32 → Prop} {x2 : Int32} (g : cd_G A) (ha : cd_H a1 A) {av r k : Nat} (hr : r < 128) (H : J (nI (cd_ns A (cd_not av) r 7)) (nI (k + 1))) : ∃ n, wX_around_34 post J x2 (nI av) (nI r) (nI k) fb fl ff a1 a2 a3 a4 a5 a6 a7 n (nI r) 0 :=
  pk_loop (σ := Unit) (fun n i _ => wX_around_34 post J x2 (nI av) (nI r) (nI k) fb fl ff a1 a2 a3 a4 a5 a6 a7 n (nI (cd_ns A (cd_not av) r i)) (nI i)) (fun _ _ => True) 7 0 () (by omega) trivial
    (fun n _ _ => pk_le 7 7 (fun _ => nm_r (nI_1 k) H) (fun z => absurd z (by omega)))
    (fun n i _ hi _ hw => pk_le 7 i (fun z => absurd z (by omega)) (fun _ => by
      have e1 : cd_V r i → cd_ns A (cd_not av) r (i + 1) = cd_ns A (cd_not av) r i ||| (A i &&& cd_not av) := fun z => if_pos z.2
      have e0 : ¬ cd_V r i → cd_ns A (cd_not av) r (i + 1) = cd_ns A (cd_not av) r i := fun z => if_neg (fun y => z ⟨hi, y⟩)
      refine cd_w_in hr hi (fun hin => br_f cd_n10 ⟨pk_in i 7 hi, nm_r ?_ (nm_r (nI_1 i) (hw () trivial))⟩) (fun hout => br_t rfl (nm_r ?_ (nm_r (nI_1 i) (hw () trivial))))
      · rw [cd_Hc ha hi, cd_iban _ (g.1 i hi), cd_ior, e1 hin]
      · rw [e0 hout]
        show nI (cd_ns A (cd_not av) r i) ||| nI 0 = _
        rw [cd_ior, Nat.or_zero]))
theorem cd_w_ar (g : cd_G A) (ha : cd_H a1 A) {a b av : Nat} (ha7 : a < 7) (hb7 : b < 7) (H : ∀ r, cd_AR A (cd_not av) a b r → post (nI r)) : wpX_around post (fb, fl, ff, a1, a2, a3, a4, a5, a6, a7) (nI a) (nI b) (nI av) := by
  unfold wpX_around
  dsimp only
  refine nm_r (cd_ishl a ha7) ?_
  exact pk_loop (σ := Unit) (fun n k _ => wX_around_8 post (nI b) (nI av) fb fl ff a1 a2 a3 a4 a5 a6 a7 n (nI (cd_R A (cd_not av) a k)) (nI k)) (fun k _ => ∀ j, j < k → ¬ cd_V (cd_R A (cd_not av) a j) b) 8 0 () (by omega) (fun j hj => absurd hj (by omega))
    (fun n _ h => pk_lt 7 8 (fun _ => H 8 (Or.inr ⟨rfl, h⟩)) (fun z => absurd z (by omega)))
    (fun n k _ hk h hw => pk_lt 7 k (fun z => absurd z (by omega)) (fun _ => cd_w_in (cd_R_lt g ha7 k) hb7 (fun hin => br_f cd_n10 (H k (Or.inl ⟨by omega, hin, h⟩))) (fun hout => br_t rfl (cd_w_ar34 g ha (cd_R_lt g ha7 k) (hw () (lt_s h hout))))))
theorem cd_w_sh127 {J : Int32 → Int32 → Prop} {x : Int32} {i r : Nat} (hi : i < 343) (hr : (r = 8 ∧ ∀ n, ¬ cd_Y A i n) ∨ cd_Y A i r) (hB : cd_Bs A x i) (H : ∀ x', cd_Bs A x' (i + 1) → J x' (nI (i + 1))) : wX_smallestHole_127 post J x (nI i) (nI r) fb fl ff a1 a2 a3 a4 a5 a6 a7 := by
  unfold wX_smallestHole_127
  have h8 : r ≤ 8 := by
    rcases hr with z | z
    · omega
    · have := z.2.2.1
      omega
  have two : nI r + 2 = nI (r + 2) := nI_add r 2
  rw [two]
  refine pk_lt 7 r (fun z => nm_r (nI_1 i) (H x ?_)) (fun z => ?_)
  · have hn : ∀ n, ¬ cd_Y A i n := by
      rcases hr with y | y
      · exact y.2
      · have := y.2.2.1
        omega
    have up : ∀ j, j < i + 1 → j < i ∨ j = i := fun j hj => by omega
    rcases hB with ⟨b1, b2⟩ | ⟨m, b1, b2, ⟨j, bj, by1⟩, b4⟩
    · refine Or.inl ⟨b1, fun j n hj => ?_⟩
      rcases up j hj with y | y
      · exact b2 j n y
      · rw [y]; exact hn n
    · refine Or.inr ⟨m, b1, b2, ⟨j, by omega, by1⟩, fun j n hj hy => ?_⟩
      rcases up j hj with y | y
      · exact b4 j n y hy
      · rw [y] at hy
        exact absurd hy (hn n)
  · have hy : cd_Y A i r := by
      rcases hr with y | y
      · omega
      · exact y
    have hle : r ≤ 7 := hy.2.2.1
    have new : (∀ j n, j < i → cd_Y A j n → r ≤ n) → cd_Bs A (nI (r + 2)) (i + 1) := by
      intro hm
      refine Or.inr ⟨r, hle, rfl, ⟨i, by omega, hy⟩, fun j n hj hyj => ?_⟩
      by_cases e : j = i
      · rw [e] at hyj
        exact Nat.le_of_eq (cd_Y_u hy hyj)
      · exact hm j n (by omega) hyj
    rcases hB with ⟨b1, b2⟩ | ⟨m, b1, b2, ⟨j, bj, by1⟩, b4⟩
    · rw [b1]
      exact br_t (by decide) (nm_e (nm_r (nI_1 i) (H _ (new (fun j n hj hyj => absurd hyj (b2 j n hj))))))
    · rw [b2]
      refine pk_lt (m + 2) 0 (fun y => absurd y (by omega)) (fun _ => pk_le (m + 2) (r + 2) (fun y => nm_r (nI_1 i) (H _ ?_)) (fun y => nm_e (nm_r (nI_1 i) (H _ (new (fun j n hj hyj => by have := b4 j n hj hyj; omega))))))
      refine Or.inr ⟨m, b1, rfl, ⟨j, by omega, by1⟩, fun j' n hj hyj => ?_⟩
      by_cases e : j' = i
      · rw [e] at hyj
        have := cd_Y_u hy hyj
        omega
      · exact b4 j' n (by omega) hyj
theorem cd_w_sh86 {J : Int32 → Int32 → Prop} {x : Int32} (g : cd_G A) (ha : cd_H a1 A) {i : Nat} (hi : i < 343) (hlt : i / 7 % 7 < i % 7) (gap : cd_Gap A (i / 49) (i / 7 % 7) (i % 7)) (hB : cd_Bs A x i) (H : ∀ x', cd_Bs A x' (i + 1) → J x' (nI (i + 1))) : wX_smallestHole_86 post J x (nI i) (nI (i / 49)) (nI (i / 7 % 7)) (nI (i % 7)) 1 fb fl ff a1 a2 a3 a4 a5 a6 a7 := by
  unfold wX_smallestHole_86
  have hv : i / 49 < 7 := gap.1
  refine ⟨pk_in (i / 49) 7 hv, nm_r (e' := nI ((A (i / 49) ||| 2 ^ (i / 49)) &&& cd_not (2 ^ (i % 7)))) ?_ (br_f cd_n10 ?_)⟩
  · rw [cd_Hc ha hv, cd_ishl _ hv, cd_ior, cd_ishl _ gap.2.2.1, cd_iban _ (cd_or_lt (g.1 _ hv) (cd_one_lt hv))]
  · refine cd_w_ar g ha gap.2.1 gap.2.2.1 (fun r hr => cd_w_sh127 hi ?_ hB H)
    rcases hr with z | z
    · exact Or.inr ⟨hlt, gap, z⟩
    · exact Or.inl ⟨z.1, fun n hn => z.2 n (by have := hn.2.2.1; omega) hn.2.2.2.1⟩
theorem cd_w_sh85 {J : Int32 → Int32 → Prop} {x : Int32} (g : cd_G A) (ha : cd_H a1 A) {i : Nat} (hi : i < 343) (hno : ¬ (i / 7 % 7 < i % 7 ∧ cd_Gap A (i / 49) (i / 7 % 7) (i % 7))) (hB : cd_Bs A x i) (H : ∀ x', cd_Bs A x' (i + 1) → J x' (nI (i + 1))) : wX_smallestHole_85 post J x (nI i) (nI (i / 49)) (nI (i / 7 % 7)) (nI (i % 7)) fb fl ff a1 a2 a3 a4 a5 a6 a7 := by
  unfold wX_smallestHole_85 wX_smallestHole_86
  exact ⟨pk_in (i / 49) 7 (by omega), nm_e (br_t rfl (cd_w_sh127 (r := 8) hi (Or.inl ⟨rfl, fun n hn => hno ⟨hn.1, hn.2.1⟩⟩) hB H))⟩
theorem cd_w_sh (g : cd_G A) (ha : cd_H a1 A) (h0 : (∀ s, ¬ cd_Hole A s) → post (-1)) (h1 : ∀ m, (∃ s, cd_Hole A s ∧ cd_pc s = m) → (∀ s, cd_Hole A s → m ≤ cd_pc s) → post (nI m)) : wpX_smallestHole post (fb, fl, ff, a1, a2, a3, a4, a5, a6, a7) := by
  unfold wpX_smallestHole
  dsimp only
  exact pk_loop (fun n i x => wX_smallestHole_4 post fb fl ff a1 a2 a3 a4 a5 a6 a7 n x (nI i)) (fun i x => cd_Bs A x i) 343 0 (-1) (by omega) (Or.inl ⟨rfl, fun j n hj => absurd hj (by omega)⟩)
    (fun n x h => pk_le 343 343 (fun _ => by
      rcases cd_Bs_end g h with ⟨z1, z2⟩ | ⟨m, z1, z2, z3⟩
      · rw [z1]; exact h0 z2
      · rw [z1]; exact h1 m z2 z3) (fun z => absurd z (by omega)))
    (fun n i x hi h hw => pk_le 343 i (fun z => absurd z (by omega)) (fun _ => by
      have hv : i / 49 < 7 := by omega
      have ha7 : i / 7 % 7 < 7 := by omega
      have hb7 : i % 7 < 7 := by omega
      have e1 : nI i / 49 = nI (i / 49) := pk_div (a := i) (d := 49) (by omega) (by omega) (by omega)
      have e2 : nI i / 7 = nI (i / 7) := pk_div (a := i) (d := 7) (by omega) (by omega) (by omega)
      have e3 : nI (i / 7) - nI (i / 7) / 7 * 7 = nI (i / 7 % 7) := pk_rem (a := i / 7) (d := 7) (by omega) (by omega) (by omega)
      have e4 : nI i - nI i / 7 * 7 = nI (i % 7) := pk_rem (a := i) (d := 7) (by omega) (by omega) (by omega)
      have no : ¬ (i / 7 % 7 < i % 7 ∧ cd_Gap A (i / 49) (i / 7 % 7) (i % 7)) → wX_smallestHole_85 post (wX_smallestHole_4 post fb fl ff a1 a2 a3 a4 a5 a6 a7 n) x (nI i) (nI (i / 49)) (nI (i / 7 % 7)) (nI (i % 7)) fb fl ff a1 a2 a3 a4 a5 a6 a7 := fun z => cd_w_sh85 g ha hi z h hw
      refine ⟨by decide, nm_r e1 ⟨by decide, by decide, nm_r (by rw [e2, e3]) ⟨by decide, nm_r e4 ?_⟩⟩⟩
      refine pk_le (i % 7) (i / 7 % 7) (fun z => no (fun y => by omega)) (fun hlt => ⟨pk_in _ 7 hv, ?_⟩)
      rw [cd_Hc ha hv, cd_Hc ha ha7]
      refine cd_w_in (g.1 _ hv) ha7 (fun va => br_f cd_n10 ⟨pk_in _ 7 hv, ?_⟩) (fun z => br_t rfl (no (fun y => z y.2.2.2.2.2.1)))
      refine cd_w_in (g.1 _ hv) hb7 (fun vb => br_f cd_n10 ⟨pk_in _ 7 ha7, ?_⟩) (fun z => br_t rfl (no (fun y => z y.2.2.2.2.2.2.1)))
      exact cd_w_in (g.1 _ ha7) hb7 (fun z => br_f cd_n10 (no (fun y => y.2.2.2.2.2.2.2 z))) (fun hn => br_t rfl (cd_w_sh86 g ha hi hlt ⟨hv, ha7, hb7, by omega, va, vb, hn⟩ h hw))))
end
end
section
/-! walks: explore and what calls it -/
def cd_Max (B : Nat → Nat) (m : Nat) : Prop := (∃ t, t < 128 ∧ cd_clq B t ∧ cd_pc t = m) ∧ ∀ t, t < 128 → cd_clq B t → cd_pc t ≤ m
theorem cd_Max_u {B : Nat → Nat} {m n : Nat} (h : cd_Max B m) (h' : cd_Max B n) : m = n := by
  obtain ⟨⟨t, t1, t2, t3⟩, k⟩ := h
  obtain ⟨⟨t', t1', t2', t3'⟩, k'⟩ := h'
  have h1 := k t' t1' t2'
  have h2 := k' t t1 t2
  omega
def cd_up (f : Nat → Nat) (k x : Nat) : Nat → Nat := fun j => if j = k then x else f j
theorem cd_up_s {f : Nat → Nat} {k x : Nat} : cd_up f k x k = x := if_pos rfl
theorem cd_up_n {f : Nat → Nat} {k x j : Nat} (h : j ≠ k) : cd_up f k x j = f j := if_neg h
theorem cd_upd {a : Nat → Int32} {f : Nat → Nat} {k x : Nat} (h : ∀ i, i < k → a i = nI (f i)) : ∀ i, i < k + 1 → upd a k (nI x) i = nI (cd_up f k x i) := by
  intro i hi
  by_cases e : i = k
  · rw [e, pk_us, cd_up_s]
  · rw [pk_un e, cd_up_n e]
    exact h i (by omega)
section
variable {B : Nat → Nat} {fb fl ff : Int32} {a1 a2 a3 a4 a5 a6 a7 : Nat → Int32}
theorem cd_w_push {post : St1 → Prop} {k x y z : Nat} {X Y Z : Int32} (hk : k < 64) (hx : x < 128) (hy : y < 128) (hz : z < 128) (eX : X = nI x) (eY : Y = nI y) (eZ : Z = nI z) (H : post (nI (k + 1), fl, ff, a1, a2, upd a3 k (nI x), upd a4 k (nI y), upd a5 k (nI z), a6, a7)) : wpX_pushBranch post (nI k, fl, ff, a1, a2, a3, a4, a5, a6, a7) X Y Z := by
  subst eX eY eZ
  unfold wpX_pushBranch
  dsimp only
  refine ⟨pk_in k 64 hk, nm_r (e' := upd a3 k (nI x)) (by rw [nI_clamp (by omega), cd_ib8 x hx]) ⟨pk_in k 64 hk, nm_r (e' := upd a4 k (nI y)) (by rw [nI_clamp (by omega), cd_ib8 y hy]) ⟨pk_in k 64 hk, nm_r (e' := upd a5 k (nI z)) (by rw [nI_clamp (by omega), cd_ib8 z hz]) (nm_r (nI_1 k) H)⟩⟩⟩
theorem cd_w_109 {post : St1 → Prop} {J : Int32 → Int32 → Int32 → Int32 → (Nat → Int32) → (Nat → Int32) → (Nat → Int32) → (Nat → Int32) → (Nat → Int32) → (Nat → Int32) → (Nat → Int32) → Prop} {r p f : Nat} {z0 : Int32} (hp : p < 128) (H : ∀ f', ((p = 0 ∧ f' = f + 1) ∨ (p ≠ 0 ∧ f' = f)) → J (nI (r + 1)) fb z0 (nI f') a1 a2 a3 a4 a5 a6 a7) : wX_explore_109 post J (nI r) (nI p) z0 fb fl (nI f) a1 a2 a3 a4 a5 a6 a7 := by
  unfold wX_explore_109
  refine ek_if (cd_izn hp) (fun e => nm_r (nI_1 f) (nm_r (nI_1 r) (H _ (Or.inl ⟨e, rfl⟩)))) (fun e => nm_r (nI_add f 0) (nm_r (nI_1 r) (H _ (Or.inr ⟨e, rfl⟩))))
/-- the stack of the program is the stack of the picture -/
def cd_EI (B : Nat → Nat) (x1 fb fl ff : Int32) (a3 a4 a5 : Nat → Int32) : Prop := ∃ (r k m f : Nat) (h c p : Nat → Nat), x1 = nI r ∧ fb = nI k ∧ fl = nI m ∧ ff = nI f ∧ (∀ i, i < k → a3 i = nI (h i)) ∧ (∀ i, i < k → a4 i = nI (c i)) ∧ (∀ i, i < k → a5 i = nI (p i)) ∧ cd_Ex B r k m f h c p
theorem cd_w_ex25 {post : St1 → Prop} (g : cd_G B) (hb : cd_H a2 B) (H : ∀ (fb' : Int32) (m f : Nat) (b3 b4 b5 : Nat → Int32), cd_Max B m → f = cd_cnt (cd_Mx B) 128 → post (fb', nI m, nI f, a1, a2, b3, b4, b5, a6, a7)) {x1 : Int32} (h0 : cd_EI B x1 fb fl ff a3 a4 a5) : ∃ n, wX_explore_25 post n x1 fb fl ff a1 a2 a3 a4 a5 a6 a7 := by
  refine lp7 (fun n x1 fb fl ff a3 a4 a5 => wX_explore_25 post n x1 fb fl ff a1 a2 a3 a4 a5 a6 a7) (cd_EI B) (fun x1 _ _ _ _ _ _ => 256 - x1.toNatClampNeg) ?_ x1 fb fl ff a3 a4 a5 h0
  intro n x1 fb fl ff a3 a4 a5 hI hk
  obtain ⟨r, k, m, f, h, c, p, rfl, rfl, rfl, rfl, q3, q4, q5, ex⟩ := hI
  have hr : r ≤ 255 := by
    have := ex.1
    omega
  have hm7 : m ≤ 7 := by
    obtain ⟨t, _, _, e⟩ := ex.2.2.2.1
    have := cd_pc_le7 t
    omega
  have mu : ∀ r', r' = r + 1 → r' ≤ 255 → 256 - (nI r').toNatClampNeg < 256 - (nI r).toNatClampNeg := by
    intro r' e h'
    rw [nI_clamp (by omega), nI_clamp (by omega)]
    omega
  have hk8 : k ≤ 8 := by
    rcases Nat.eq_zero_or_pos k with z | z
    · omega
    · have := (ex.2.1 (k - 1) (by omega)).2.2.2.2.2
      omega
  refine pk_le 256 r (fun z => absurd z (by omega)) (fun _ => pk_le k 0 (fun z => ?_) (fun z => ?_))
  · have ek : k = 0 := by omega
    subst ek
    have e := cd_Ex_end ex
    exact H _ m f a3 a4 a5 ⟨e.1, e.2.1⟩ e.2.2
  · obtain ⟨k, rfl⟩ : ∃ k', k = k' + 1 := ⟨k - 1, by omega⟩
    obtain ⟨b1, b2, b3, b4, b5, b6⟩ := ex.2.1 k (by omega)
    refine nm_r (nI_pred k) ⟨pk_in k 64 (by omega), nm_r (e' := nI (h k)) (by rw [nI_clamp (by omega)]; exact q3 k (by omega)) ⟨pk_in k 64 (by omega), nm_r (e' := nI (c k)) (by rw [nI_clamp (by omega)]; exact q4 k (by omega)) ⟨pk_in k 64 (by omega), nm_r (e' := nI (p k)) (by rw [nI_clamp (by omega)]; exact q5 k (by omega)) ?_⟩⟩⟩
    refine ek_if (cd_izn b2) (fun ec => ?_) (fun ec => ?_)
    · -- the branch is at its end
      have fin : ∀ m' f', ((m' = m ∧ cd_pc (h k) ≤ m) ∨ (m' = cd_pc (h k) ∧ m ≤ cd_pc (h k))) → ((p k = 0 ∧ f' = f + 1) ∨ (p k ≠ 0 ∧ f' = f)) → wX_explore_25 post n (nI (r + 1)) (nI k) (nI m') (nI f') a1 a2 a3 a4 a5 a6 a7 := by
        intro m' f' hm hf
        have ex' := cd_Ex_leaf ex ec hm hf
        exact hk _ _ _ _ _ _ _ ⟨r + 1, k, m', f', h, c, p, rfl, rfl, rfl, rfl, fun i hi => q3 i (by omega), fun i hi => q4 i (by omega), fun i hi => q5 i (by omega), ex'⟩ (mu _ rfl (by have := ex'.1; omega))
      have h7 := cd_pc_le7 (h k)
      exact cd_w_ones b1 (pk_le (cd_pc (h k)) m (fun z => cd_w_109 b3 (fun f' hf => fin m f' (Or.inl ⟨rfl, z⟩) hf)) (fun z => cd_w_109 b3 (fun f' hf => fin (cd_pc (h k)) f' (Or.inr ⟨rfl, by omega⟩) hf)))
    · -- the branch is cut in two
      have hne : ∃ x, cd_V (c k) x := by
        apply Classical.byContradiction
        intro y
        exact ec ((cd_izn b2).mp ((cd_iz b2).mpr (fun v hv => y ⟨v, hv⟩)))
      refine cd_w_first b2 hne (fun v hv => ?_)
      have hv7 := hv.1
      have hp1 := cd_pc_pos hv
      refine cd_w_push (x := h k) (y := c k &&& cd_not (2 ^ v)) (z := p k ||| 2 ^ v) (by omega) b1 (cd_and_lt' b2) (cd_or_lt b3 (cd_one_lt hv7)) rfl (by rw [cd_ishl v hv7, cd_iban _ b2]) (by rw [cd_ishl v hv7, cd_ior]) ?_
      refine ⟨pk_in v 7 hv7, pk_in v 7 hv7, ?_⟩
      refine cd_w_push (x := h k ||| 2 ^ v) (y := c k &&& B v) (z := p k &&& B v) (by omega) (cd_or_lt b1 (cd_one_lt hv7)) (cd_and_lt' b2) (cd_and_lt' b3) (by rw [cd_ishl v hv7, cd_ior]) (by rw [cd_Hc hb hv7, cd_iand]) (by rw [cd_Hc hb hv7, cd_iand]) ?_
      refine nm_r (nI_1 r) ?_
      have ex' := cd_Ex_cut g ex hv (h' := cd_up (cd_up h k (h k)) (k + 1) (h k ||| 2 ^ v)) (c' := cd_up (cd_up c k (c k &&& cd_not (2 ^ v))) (k + 1) (c k &&& B v)) (p' := cd_up (cd_up p k (p k ||| 2 ^ v)) (k + 1) (p k &&& B v))
        (fun i hi => by rw [cd_up_n (by omega), cd_up_n (by omega)]) (fun i hi => by rw [cd_up_n (by omega), cd_up_n (by omega)]) (fun i hi => by rw [cd_up_n (by omega), cd_up_n (by omega)])
        (by rw [cd_up_n (by omega), cd_up_s]) (by rw [cd_up_n (by omega), cd_up_s]) (by rw [cd_up_n (by omega), cd_up_s]) cd_up_s cd_up_s cd_up_s
      exact hk _ _ _ _ _ _ _ ⟨r + 1, k + 2, m, f, _, _, _, rfl, rfl, rfl, rfl, cd_upd (cd_upd (fun i hi => q3 i (by omega))), cd_upd (cd_upd (fun i hi => q4 i (by omega))), cd_upd (cd_upd (fun i hi => q5 i (by omega))), ex'⟩ (mu _ rfl (by have := ex'.1; omega))
theorem cd_w_explore {post : St1 → Prop} (g : cd_G B) (hb : cd_H a2 B) (H : ∀ (fb' : Int32) (m f : Nat) (b3 b4 b5 : Nat → Int32), cd_Max B m → f = cd_cnt (cd_Mx B) 128 → post (fb', nI m, nI f, a1, a2, b3, b4, b5, a6, a7)) : wpX_explore post (fb, fl, ff, a1, a2, a3, a4, a5, a6, a7) := by
  unfold wpX_explore
  dsimp only
  refine cd_w_push (k := 0) (x := 0) (y := 127) (z := 0) (by omega) (by omega) (by omega) (by omega) rfl rfl rfl ?_
  refine cd_w_ex25 g hb H ⟨0, 1, 0, 0, cd_up (fun _ => 0) 0 0, cd_up (fun _ => 0) 0 127, cd_up (fun _ => 0) 0 0, rfl, rfl, rfl, rfl, cd_upd (fun i hi => absurd hi (by omega)), cd_upd (fun i hi => absurd hi (by omega)), cd_upd (fun i hi => absurd hi (by omega)), cd_Ex_0 rfl rfl rfl⟩
theorem cd_w_look {post : St1 → Prop} {A : Nat → Nat} (g : cd_G A) (ha : cd_H a1 A) (H : ∀ b2, cd_H b2 A → post (fb, fl, ff, a1, b2, a3, a4, a5, a6, a7)) : wpX_lookPlainly post (fb, fl, ff, a1, a2, a3, a4, a5, a6, a7) :=
  pk_loop (fun n i b => wX_lookPlainly_2 post fb fl ff n (nI i) a1 b a3 a4 a5 a6 a7) (fun i b => ∀ j, j < i → b j = nI (A j)) 7 0 a2 (by omega) (fun j hj => absurd hj (by omega))
    (fun n b h => pk_le 7 7 (fun _ => H b h) (fun z => absurd z (by omega)))
    (fun n i b hi h hw => pk_le 7 i (fun z => absurd z (by omega)) (fun _ => ⟨pk_in i 7 hi, pk_in i 7 hi, nm_r (e' := upd b i (nI (A i))) (by rw [cd_Hc ha hi, cd_inar (g.1 i hi), nI_clamp (by omega)]) (nm_r (nI_1 i) (hw _ (lt_s (fun j hj => by rw [pk_un (by omega)]; exact h j hj) pk_us)))⟩))
theorem cd_w_lc {post : Int32 → St1 → Prop} {A : Nat → Nat} (g : cd_G A) (ha : cd_H a1 A) (H : ∀ (fb' fl' ff' : Int32) (m : Nat) (b2 b3 b4 b5 : Nat → Int32), cd_Max A m → post (nI m) (fb', fl', ff', a1, b2, b3, b4, b5, a6, a7)) : wpX_largestClique post (fb, fl, ff, a1, a2, a3, a4, a5, a6, a7) := by
  unfold wpX_largestClique
  dsimp only
  refine cd_w_look g ha (fun b2 hb => ?_)
  dsimp only
  exact cd_w_explore g hb (fun fb' m f b3 b4 b5 hm hf => H fb' (nI m) (nI f) m b2 b3 b4 b5 hm)
theorem cd_w_fc {post : Int32 → St1 → Prop} {A : Nat → Nat} (g : cd_G A) (ha : cd_H a1 A) (H : ∀ (fb' fl' ff' : Int32) (b2 b3 b4 b5 : Nat → Int32), post (nI (cd_cnt (cd_Mx A) 128)) (fb', fl', ff', a1, b2, b3, b4, b5, a6, a7)) : wpX_fullCliques post (fb, fl, ff, a1, a2, a3, a4, a5, a6, a7) := by
  unfold wpX_fullCliques
  dsimp only
  refine cd_w_look g ha (fun b2 hb => ?_)
  dsimp only
  refine cd_w_explore g hb (fun fb' m f b3 b4 b5 hm hf => ?_)
  subst hf
  exact H fb' (nI m) _ b2 b3 b4 b5
theorem cd_w_la {post : Int32 → St1 → Prop} {A : Nat → Nat} (g : cd_G A) (ha : cd_H a1 A) (H : ∀ (fb' fl' ff' : Int32) (m : Nat) (b2 b3 b4 b5 : Nat → Int32), cd_Max (cd_co A) m → post (nI m) (fb', fl', ff', a1, b2, b3, b4, b5, a6, a7)) : wpX_largestApart post (fb, fl, ff, a1, a2, a3, a4, a5, a6, a7) :=
  pk_loop (fun n i b => wX_largestApart_2 post fb fl ff n (nI i) a1 b a3 a4 a5 a6 a7) (fun i b => ∀ j, j < i → b j = nI (cd_co A j)) 7 0 a2 (by omega) (fun j hj => absurd hj (by omega))
    (fun n b h => pk_le 7 7 (fun _ => cd_w_explore (cd_co_G g) h (fun fb' m f b3 b4 b5 hm hf => H fb' (nI m) (nI f) m b b3 b4 b5 hm)) (fun z => absurd z (by omega)))
    (fun n i b hi h hw => pk_le 7 i (fun z => absurd z (by omega)) (fun _ => ⟨pk_in i 7 hi, pk_in i 7 hi, nm_r (e' := upd b i (nI (cd_co A i))) (by
      have e : ((127 : Int32) &&& ((a1 (nI i).toNatClampNeg) ^^^ (-1))) &&& (((1 : Int32) <<< (nI i &&& 31)) ^^^ (-1)) = nI (cd_co A i) := by
        show (nI 127 &&& ((a1 (nI i).toNatClampNeg) ^^^ (-1))) &&& (((1 : Int32) <<< (nI i &&& 31)) ^^^ (-1)) = nI (cd_co A i)
        rw [cd_Hc ha hi, cd_ishl i hi, cd_iban _ (by decide), cd_iban _ (cd_and_lt' (by decide))]
        rfl
      rw [e, cd_ib8 _ ((cd_co_G g).1 i hi), nI_clamp (by omega)]) (nm_r (nI_1 i) (hw _ (lt_s (fun j hj => by rw [pk_un (by omega)]; exact h j hj) pk_us)))⟩))
end
end
section
/-! the law's long of rows, and one join more or less -/
def cd_Rw (x : Int64) (A : Nat → Nat) : Prop := ∀ v j, v < 7 → j < 7 → (x.toBitVec.getLsbD (7 * v + j) = true ↔ cd_V (A v) j)
theorem cd_lsh : ∀ v, v < 7 → (((7 * nI v).toInt64 &&& 63).toBitVec.smod 64).toNat = 7 * v := by decide +kernel
theorem cd_l127 : ∀ i, i < 32 → (127 : Int64).toBitVec.getLsbD i = decide (i < 7) := by decide +kernel
theorem cd_lm1 : ∀ i, i < 64 → (-1 : Int64).toBitVec.getLsbD i = true := by decide +kernel
theorem cd_l1 : ∀ a, a < 7 → ∀ b, b < 7 → ((1 : Int64) <<< (((7 * nI a) + nI b).toInt64 &&& 63)).toBitVec = BitVec.twoPow 64 (7 * a + b) := by decide +kernel
theorem cd_row {x : Int64} {A : Nat → Nat} (g : cd_G A) (h : cd_Rw x A) {v : Nat} (hv : v < 7) : ((x >>> ((7 * nI v).toInt64 &&& 63)) &&& 127).toInt32 = nI (A v) := by
  apply Int32.toBitVec_inj.1
  apply BitVec.eq_of_getLsbD_eq
  intro i hi
  rw [Int64.toBitVec_toInt32, Int64.toBitVec_and, BitVec.getLsbD_signExtend, BitVec.getLsbD_and, cd_l127 i hi, Int64.toBitVec_shiftRight, BitVec.getLsbD_sshiftRight', cd_lsh v hv]
  have e : (nI (A v)).toBitVec.getLsbD i = (A v).testBit i := by
    show (BitVec.ofNat 32 (A v)).getLsbD i = _
    rw [BitVec.getLsbD_ofNat, decide_eq_true hi, Bool.true_and]
  rw [e]
  rcases Nat.lt_or_ge i 7 with z | z
  · rw [if_pos (show i < 64 by omega), if_pos (show 7 * v + i < 64 by omega), decide_eq_true z, decide_eq_true hi, decide_eq_false (show ¬ 64 ≤ i by omega)]
    simp only [Bool.not_false, Bool.true_and, Bool.and_true]
    exact cd_beq ⟨fun y => ((h v i hv z).mp y).2, fun y => (h v i hv z).mpr ⟨z, y⟩⟩
  · rw [if_pos (show i < 64 by omega), decide_eq_false (show ¬ i < 7 by omega), Bool.and_false, Bool.and_false]
    have p : 2 ^ 7 ≤ 2 ^ i := Nat.pow_le_pow_right (by decide) z
    have q := g.1 v hv
    rw [Nat.testBit_lt_two_pow (show A v < 2 ^ i by omega)]
/-- the law's two bits for a and b -/
def cd_both (a b : Nat) : Int64 := ((1 : Int64) <<< (((7 * nI a) + nI b).toInt64 &&& 63)) ||| ((1 : Int64) <<< (((7 * nI b) + nI a).toInt64 &&& 63))
theorem cd_both_b {a b : Nat} (ha : a < 7) (hb : b < 7) (k : Nat) : (cd_both a b).toBitVec.getLsbD k = true ↔ k = 7 * a + b ∨ k = 7 * b + a := by
  unfold cd_both
  rw [Int64.toBitVec_or, BitVec.getLsbD_or, cd_l1 a ha b hb, cd_l1 b hb a ha, BitVec.getLsbD_twoPow, BitVec.getLsbD_twoPow, Bool.or_eq_true, Bool.and_eq_true, Bool.and_eq_true, decide_eq_true_eq, decide_eq_true_eq, decide_eq_true_eq, decide_eq_true_eq]
  omega
theorem cd_Rw_or {x : Int64} {A A' : Nat → Nat} {a b : Nat} (ha : a < 7) (hb : b < 7) (h : cd_Rw x A) (h' : ∀ v j, v < 7 → j < 7 → (cd_V (A' v) j ↔ cd_V (A v) j ∨ (v = a ∧ j = b) ∨ (v = b ∧ j = a))) : cd_Rw (x ||| cd_both a b) A' := by
  intro v j hv hj
  rw [Int64.toBitVec_or, BitVec.getLsbD_or, Bool.or_eq_true, h v j hv hj, cd_both_b ha hb, h' v j hv hj]
  have e : (7 * v + j = 7 * a + b ∨ 7 * v + j = 7 * b + a) ↔ ((v = a ∧ j = b) ∨ (v = b ∧ j = a)) := by omega
  rw [e]
theorem cd_Rw_ban {x : Int64} {A A' : Nat → Nat} {a b : Nat} (ha : a < 7) (hb : b < 7) (h : cd_Rw x A) (h' : ∀ v j, v < 7 → j < 7 → (cd_V (A' v) j ↔ cd_V (A v) j ∧ ¬ ((v = a ∧ j = b) ∨ (v = b ∧ j = a)))) : cd_Rw (x &&& (cd_both a b ^^^ (-1))) A' := by
  intro v j hv hj
  rw [Int64.toBitVec_and, Int64.toBitVec_xor, BitVec.getLsbD_and, BitVec.getLsbD_xor, cd_lm1 _ (by omega), Bool.and_eq_true, h v j hv hj, h' v j hv hj, Bool.xor_true, Bool.not_eq_true', ← Bool.not_eq_true, cd_both_b ha hb]
  have e : (7 * v + j = 7 * a + b ∨ 7 * v + j = 7 * b + a) ↔ ((v = a ∧ j = b) ∨ (v = b ∧ j = a)) := by omega
  rw [e]
theorem cd_Rw_was {x : Int64} {A : Nat → Nat} {a b : Nat} (g : cd_G A) (ha : a < 7) (hb : b < 7) (h : cd_Rw x A) : (x &&& cd_both a b) = 0 ↔ ¬ cd_V (A a) b := by
  refine ⟨fun z y => ?_, fun z => ?_⟩
  · have q : (x &&& cd_both a b).toBitVec.getLsbD (7 * a + b) = true := by
      rw [Int64.toBitVec_and, BitVec.getLsbD_and, (h a b ha hb).mpr y, (cd_both_b ha hb _).mpr (Or.inl rfl)]
      rfl
    rw [z] at q
    have q0 : (0 : Int64).toBitVec.getLsbD (7 * a + b) = false := BitVec.getLsbD_zero
    rw [q0] at q
    exact absurd q (by decide)
  · apply Int64.toBitVec_inj.1
    apply BitVec.eq_of_getLsbD_eq
    intro k hk
    rw [show (0 : Int64).toBitVec.getLsbD k = false from BitVec.getLsbD_zero, Int64.toBitVec_and, BitVec.getLsbD_and]
    cases e : (cd_both a b).toBitVec.getLsbD k
    · rw [Bool.and_false]
    · rw [Bool.and_true]
      cases f : x.toBitVec.getLsbD k
      · rfl
      · rcases (cd_both_b ha hb k).mp e with y | y
        · rw [y] at f
          exact absurd ((h a b ha hb).mp f) z
        · rw [y] at f
          exact absurd (g.2.1 b a hb ha ((h b a hb ha).mp f)) z
theorem cd_Rw_or0 {x : Int64} {A : Nat → Nat} (h : cd_Rw x A) : cd_Rw (x ||| 0) A := by
  intro v j hv hj
  rw [Int64.toBitVec_or, BitVec.getLsbD_or, show (0 : Int64).toBitVec.getLsbD (7 * v + j) = false from BitVec.getLsbD_zero, Bool.or_false]
  exact h v j hv hj
theorem cd_Rw_ban0 {x : Int64} {A : Nat → Nat} (h : cd_Rw x A) : cd_Rw (x &&& (0 ^^^ (-1))) A := by
  intro v j hv hj
  rw [Int64.toBitVec_and, Int64.toBitVec_xor, BitVec.getLsbD_and, BitVec.getLsbD_xor, cd_lm1 _ (by omega), show (0 : Int64).toBitVec.getLsbD (7 * v + j) = false from BitVec.getLsbD_zero]
  simp only [Bool.false_xor, Bool.and_true]
  exact h v j hv hj
/-- one join turned -/
def cd_tg (A : Nat → Nat) (a b : Nat) : Nat → Nat := cd_up (cd_up A a (A a ^^^ 2 ^ b)) b (A b ^^^ 2 ^ a)
theorem cd_xr {s b w : Nat} (hb : b < 7) : cd_V (s ^^^ 2 ^ b) w ↔ (cd_V s w ∧ w ≠ b) ∨ (w = b ∧ ¬ cd_V s b) := by
  unfold cd_V
  rw [Nat.testBit_xor, Nat.testBit_two_pow]
  by_cases e : w = b
  · rw [e, decide_eq_true rfl]
    cases s.testBit b <;> simp [hb]
  · rw [decide_eq_false (fun z => e z.symm), Bool.xor_false]
    simp [e]
theorem cd_tg_a {A : Nat → Nat} {a b : Nat} (hn : a ≠ b) : cd_tg A a b a = A a ^^^ 2 ^ b := by
  unfold cd_tg
  rw [cd_up_n hn, cd_up_s]
theorem cd_tg_b {A : Nat → Nat} {a b : Nat} : cd_tg A a b b = A b ^^^ 2 ^ a := cd_up_s
theorem cd_tg_n {A : Nat → Nat} {a b v : Nat} (h1 : v ≠ a) (h2 : v ≠ b) : cd_tg A a b v = A v := by
  unfold cd_tg
  rw [cd_up_n h2, cd_up_n h1]
theorem cd_tg_iff {A : Nat → Nat} (g : cd_G A) {a b v j : Nat} (ha : a < 7) (hb : b < 7) (hn : a ≠ b) : cd_V (cd_tg A a b v) j ↔ (cd_V (A v) j ∧ ¬ ((v = a ∧ j = b) ∨ (v = b ∧ j = a))) ∨ (((v = a ∧ j = b) ∨ (v = b ∧ j = a)) ∧ ¬ cd_V (A a) b) := by
  by_cases e1 : v = a
  · subst e1
    rw [cd_tg_a hn, cd_xr hb]
    refine or_congr (and_congr_right (fun _ => ?_)) (and_congr_left (fun _ => ?_)) <;> omega
  · by_cases e2 : v = b
    · subst e2
      rw [cd_tg_b, cd_xr ha]
      have s : cd_V (A v) a ↔ cd_V (A a) v := ⟨g.2.1 v a hb ha, g.2.1 a v ha hb⟩
      rw [s]
      refine or_congr (and_congr_right (fun _ => ?_)) (and_congr_left (fun _ => ?_)) <;> omega
    · rw [cd_tg_n e1 e2]
      refine ⟨fun z => Or.inl ⟨z, by omega⟩, fun z => z.elim (fun y => y.1) (fun y => by omega)⟩
theorem cd_tg_G {A : Nat → Nat} (g : cd_G A) {a b : Nat} (ha : a < 7) (hb : b < 7) (hn : a ≠ b) : cd_G (cd_tg A a b) := by
  refine ⟨fun v hv => ?_, fun u v hu hv h => ?_, fun v hv h => ?_⟩
  · by_cases e1 : v = a
    · rw [e1, cd_tg_a hn]
      exact Nat.xor_lt_two_pow (n := 7) (g.1 a ha) (cd_one_lt hb)
    · by_cases e2 : v = b
      · rw [e2, cd_tg_b]
        exact Nat.xor_lt_two_pow (n := 7) (g.1 b hb) (cd_one_lt ha)
      · rw [cd_tg_n e1 e2]
        exact g.1 v hv
  · rw [cd_tg_iff g ha hb hn] at h ⊢
    rcases h with ⟨h1, h2⟩ | ⟨h1, h2⟩
    · exact Or.inl ⟨g.2.1 u v hu hv h1, by omega⟩
    · exact Or.inr ⟨by omega, h2⟩
  · rw [cd_tg_iff g ha hb hn] at h
    rcases h with ⟨h1, h2⟩ | ⟨h1, h2⟩
    · exact g.2.2 v hv h1
    · omega
/-- all the joins, each twice -/
def cd_dg (A : Nat → Nat) : Nat := cd_sum (fun v => cd_pc (A v))
theorem cd_dg_le (A : Nat → Nat) : cd_dg A ≤ 49 := by
  have h : cd_dg A ≤ cd_sum (fun _ => 7) := cd_sum_le (fun v _ => cd_pc_le7 (A v))
  exact h
theorem cd_dg_on {A : Nat → Nat} (g : cd_G A) {a b : Nat} (ha : a < 7) (hb : b < 7) (hn : a ≠ b) (h : ¬ cd_V (A a) b) : cd_dg (cd_tg A a b) = cd_dg A + 2 := by
  have h' : ¬ cd_V (A b) a := fun z => h (g.2.1 b a hb ha z)
  have p1 : cd_pc (A a ^^^ 2 ^ b) = cd_pc (A a) + 1 := cd_pc_ins hb h (fun w => by
    rw [cd_xr hb]
    refine ⟨fun z => z.imp (fun y => y.1) (fun y => y.1), fun z => ?_⟩
    by_cases e : w = b
    · exact Or.inr ⟨e, h⟩
    · exact Or.inl ⟨z.elim id (fun y => absurd y e), e⟩)
  have p2 : cd_pc (A b ^^^ 2 ^ a) = cd_pc (A b) + 1 := cd_pc_ins ha h' (fun w => by
    rw [cd_xr ha]
    refine ⟨fun z => z.imp (fun y => y.1) (fun y => y.1), fun z => ?_⟩
    by_cases e : w = a
    · exact Or.inr ⟨e, h'⟩
    · exact Or.inl ⟨z.elim id (fun y => absurd y e), e⟩)
  have s1 : cd_sum (fun v => cd_pc (cd_up A a (A a ^^^ 2 ^ b) v)) = cd_sum (fun v => cd_pc (A v)) + 1 := cd_sum_ins ha (fun v hv hva => by show cd_pc (cd_up A a (A a ^^^ 2 ^ b) v) = cd_pc (A v); rw [cd_up_n hva]) (by show cd_pc (cd_up A a (A a ^^^ 2 ^ b) a) = cd_pc (A a) + 1; rw [cd_up_s, p1])
  have s2 : cd_sum (fun v => cd_pc (cd_tg A a b v)) = cd_sum (fun v => cd_pc (cd_up A a (A a ^^^ 2 ^ b) v)) + 1 := cd_sum_ins hb (fun v hv hvb => by show cd_pc (cd_tg A a b v) = cd_pc (cd_up A a (A a ^^^ 2 ^ b) v); unfold cd_tg; rw [cd_up_n hvb]) (by show cd_pc (cd_tg A a b b) = cd_pc (cd_up A a (A a ^^^ 2 ^ b) b) + 1; rw [cd_tg_b, cd_up_n (fun z => hn z.symm), p2])
  unfold cd_dg
  omega
theorem cd_dg_off {A : Nat → Nat} (g : cd_G A) {a b : Nat} (ha : a < 7) (hb : b < 7) (hn : a ≠ b) (h : cd_V (A a) b) : cd_dg A = cd_dg (cd_tg A a b) + 2 := by
  have h' : cd_V (A b) a := g.2.1 a b ha hb h
  have p1 : cd_pc (A a) = cd_pc (A a ^^^ 2 ^ b) + 1 := cd_pc_del h (fun w => by
    rw [cd_xr hb]
    exact ⟨fun z => z.elim id (fun y => absurd h y.2), Or.inl⟩)
  have p2 : cd_pc (A b) = cd_pc (A b ^^^ 2 ^ a) + 1 := cd_pc_del h' (fun w => by
    rw [cd_xr ha]
    exact ⟨fun z => z.elim id (fun y => absurd h' y.2), Or.inl⟩)
  have s1 : cd_sum (fun v => cd_pc (A v)) = cd_sum (fun v => cd_pc (cd_up A a (A a ^^^ 2 ^ b) v)) + 1 := cd_sum_ins ha (fun v hv hva => by show cd_pc (A v) = cd_pc (cd_up A a (A a ^^^ 2 ^ b) v); rw [cd_up_n hva]) (by show cd_pc (A a) = cd_pc (cd_up A a (A a ^^^ 2 ^ b) a) + 1; rw [cd_up_s, p1])
  have s2 : cd_sum (fun v => cd_pc (cd_up A a (A a ^^^ 2 ^ b) v)) = cd_sum (fun v => cd_pc (cd_tg A a b v)) + 1 := cd_sum_ins hb (fun v hv hvb => by show cd_pc (cd_up A a (A a ^^^ 2 ^ b) v) = cd_pc (cd_tg A a b v); unfold cd_tg; rw [cd_up_n hvb]) (by show cd_pc (cd_up A a (A a ^^^ 2 ^ b) b) = cd_pc (cd_tg A a b b) + 1; rw [cd_tg_b, cd_up_n (fun z => hn z.symm), p2])
  unfold cd_dg
  omega
end
section
/-! walks: the law's first loop, over the script -/
abbrev cd_F : Type := Nat → Int32
abbrev cd_J16 : Type := Int64 → Int32 → Int32 → Int32 → Int32 → Int32 → cd_F → cd_F → cd_F → cd_F → cd_F → cd_F → cd_F → Prop
section
variable {post : Int32 → Prop} {A : Nat → Nat} {fb fl ff : Int32} {a1 a2 a3 a4 a5 a6 a7 : Nat → Int32} {L kc ks : Nat} {xs : Nat → Int32}
theorem cd_w_joins (g : cd_G A) (ha : cd_H a1 A) (H : post (nI (cd_dg A / 2))) : wpX_joins post (fb, fl, ff, a1, a2, a3, a4, a5, a6, a7) :=
  pk_loop (fun n i x => wX_joins_4 post fb fl ff a1 a2 a3 a4 a5 a6 a7 n x (nI i)) (fun i x => x = nI (cd_ss (fun v => cd_pc (A v)) i)) 7 0 (nI 0) (by omega) rfl
    (fun n x h => pk_le 7 7 (fun _ => ⟨by decide, by
      have d := cd_dg_le A
      rw [h, cd_ss7]
      show post (nI (cd_dg A) / nI 2)
      rw [pk_div (by omega) (by omega) (by omega)]
      exact H⟩) (fun z => absurd z (by omega)))
    (fun n i x hi h hw => pk_le 7 i (fun z => absurd z (by omega)) (fun _ => ⟨pk_in i 7 hi, by
      rw [cd_Hc ha hi]
      exact cd_w_ones (g.1 i hi) (nm_r (by rw [h, nI_add]; rfl) (nm_r (nI_1 i) (hw _ rfl)))⟩))
theorem cd_w_vert {v : Nat} (hv : v < 2 ^ 31) (h1 : v < 7 → post 1) (h0 : 6 < v → post 0) : wpX_isVertex post () (nI v) :=
  pk_lt v 0 (fun z => absurd z (by omega)) (fun _ => pk_le 7 v (fun z => h0 (by omega)) (fun z => h1 z))
theorem cd_w_nb (ha : cd_H a1 A) {v : Nat} (hv : v < 7) (H : post (nI (A v))) : wpX_neighbours post (fb, fl, ff, a1, a2, a3, a4, a5, a6, a7) (nI v) := by
  unfold wpX_neighbours
  dsimp only
  refine cd_w_vert (by omega) (fun _ => br_f cd_n10 ⟨pk_in v 7 hv, ?_⟩) (fun z => absurd z (by omega))
  rw [cd_Hc ha hv]
  exact H
theorem cd_w_turn {post : St1 → Prop} (g : cd_G A) (ha : cd_H a1 A) {a b : Nat} (ha7 : a < 7) (hb7 : b < 7) (hn : a ≠ b) (H : ∀ b1, cd_H b1 (cd_tg A a b) → post (fb, fl, ff, b1, a2, a3, a4, a5, a6, a7)) : wpX_turn post (fb, fl, ff, a1, a2, a3, a4, a5, a6, a7) (nI a) (nI b) := by
  unfold wpX_turn
  dsimp only
  have la : A a ^^^ 2 ^ b < 128 := Nat.xor_lt_two_pow (n := 7) (g.1 a ha7) (cd_one_lt hb7)
  have lb : A b ^^^ 2 ^ a < 128 := Nat.xor_lt_two_pow (n := 7) (g.1 b hb7) (cd_one_lt ha7)
  refine ⟨pk_in a 7 ha7, pk_in a 7 ha7, nm_r (e' := upd a1 a (nI (A a ^^^ 2 ^ b))) ?_ ⟨pk_in b 7 hb7, pk_in b 7 hb7, nm_r (e' := upd (upd a1 a (nI (A a ^^^ 2 ^ b))) b (nI (A b ^^^ 2 ^ a))) ?_ (H _ (fun v hv => ?_))⟩⟩
  · rw [cd_Hc ha ha7, cd_ishl b hb7, cd_ixor, cd_ib8 _ la, nI_clamp (by omega)]
  · rw [nI_clamp (show b < 2 ^ 31 by omega), pk_un (fun z => hn z.symm), ha b hb7, cd_ishl a ha7, cd_ixor, cd_ib8 _ lb]
  · by_cases e2 : v = b
    · rw [e2, pk_us, cd_tg_b]
    · rw [pk_un e2]
      by_cases e1 : v = a
      · rw [e1, pk_us, cd_tg_a hn]
      · rw [pk_un e1, cd_tg_n e1 e2]
        exact ha v hv
theorem cd_w_join {post : Int32 → St1 → Prop} (g : cd_G A) (ha : cd_H a1 A) {a b o : Nat} (ha8 : a < 8) (hb7 : b < 7) (ho : o < 2) (h0 : (a = b ∨ 6 < a) → post 0 (fb, fl, ff, a1, a2, a3, a4, a5, a6, a7))
    (h1 : a < 7 → a ≠ b → (cd_V (A a) b ↔ o = 1) → post 1 (fb, fl, ff, a1, a2, a3, a4, a5, a6, a7)) (h2 : a < 7 → a ≠ b → ¬ (cd_V (A a) b ↔ o = 1) → ∀ b1, cd_H b1 (cd_tg A a b) → post 1 (fb, fl, ff, b1, a2, a3, a4, a5, a6, a7)) : wpX_join post (fb, fl, ff, a1, a2, a3, a4, a5, a6, a7) (nI a) (nI b) (nI o) := by
  unfold wpX_join
  dsimp only
  refine cd_w_vert (by omega) (fun ha7 => br_f cd_n10 ?_) (fun z => br_t rfl (h0 (Or.inr z)))
  refine cd_w_vert (by omega) (fun _ => br_f cd_n10 ?_) (fun z => absurd z (by omega))
  refine pk_eq a b (fun z => h0 (Or.inl z)) (fun hn => ⟨pk_in a 7 ha7, ?_⟩)
  rw [cd_Hc ha ha7]
  refine cd_w_in (g.1 a ha7) hb7 (fun hin => pk_eq 1 o (fun e => h1 ha7 hn ⟨fun _ => e.symm, fun _ => hin⟩) (fun e => cd_w_turn g ha ha7 hb7 hn (fun b1 hb1 => h2 ha7 hn (fun z => e (z.mp hin).symm) b1 hb1)))
    (fun hout => pk_eq 0 o (fun e => h1 ha7 hn ⟨fun z => absurd z hout, fun z => absurd z (by omega)⟩) (fun e => cd_w_turn g ha ha7 hb7 hn (fun b1 hb1 => h2 ha7 hn (fun z => hout (z.mpr (by omega))) b1 hb1)))
theorem cd_w_pick {n k : Nat} {p1 : Int32} (hn : 0 < n) (hn2 : n < 2 ^ 31) (hk : k < 2 ^ 31) (hL : L < 2 ^ 31) (e : p1 = nI k) (H : ∀ c, c < n → post (nI c)) : wpL_pick post L xs () p1 (nI n) := by
  subst e
  have key : ∀ y : Int32, ∃ c, c < n ∧ (y &&& 2147483647) - (y &&& 2147483647) / nI n * nI n = nI c := fun y => by
    obtain ⟨j, hj, e⟩ := pk_andE y (m := 2147483647) 31 (by decide)
    exact ⟨j % n, Nat.mod_lt _ hn, by rw [e, pk_rem hj hn hn2]⟩
  unfold wpL_pick
  refine pk_le L k (fun _ => ⟨nI_ne0 hn hn2, ?_⟩) (fun z => ⟨pk_in k L z, nm_e ⟨nI_ne0 hn hn2, ?_⟩⟩)
  · obtain ⟨c, hc, e⟩ := key 0
    rw [e]
    exact H c hc
  · obtain ⟨c, hc, e⟩ := key (xs (nI k).toNatClampNeg)
    rw [e]
    exact H c hc
theorem cd_w_205 {J : cd_J16} {x2 : Int64} {z0 z1 : Int32} (g : cd_G A) (ha : cd_H a1 A) (hr : cd_Rw x2 A) {i b : Nat} (hb : b < 7) (hz : z1 + z0 = nI (cd_dg A / 2)) (H : J x2 (nI (cd_dg A / 2)) (nI (i + 3)) fb fl ff a1 a2 a3 a4 a5 a6 a7) : wL_law_205 post L xs J x2 (nI i) (nI b) z0 z1 kc ks fb fl ff a1 a2 a3 a4 a5 a6 a7 := by
  unfold wL_law_205
  refine nm_r hz (cd_w_joins g ha (br_t rfl (cd_w_nb ha hb ?_)))
  unfold wpL_row
  rw [cd_row g hr hb]
  exact br_t rfl (nm_r (nI_add i 3) H)
theorem cd_w_204 {J : cd_J16} {x2 : Int64} (g : cd_G A) (ha : cd_H a1 A) (hr : cd_Rw x2 A) {i b : Nat} (hb : b < 7) (H : J x2 (nI (cd_dg A / 2)) (nI (i + 3)) fb fl ff a1 a2 a3 a4 a5 a6 a7) : wL_law_204 post L xs J x2 (nI i) (nI b) (nI (cd_dg A / 2)) kc ks fb fl ff a1 a2 a3 a4 a5 a6 a7 := by
  unfold wL_law_204
  exact cd_w_205 g ha hr hb (nI_add _ 0) H
/-- nothing is due: the graph stays -/
theorem cd_w_138n {J : cd_J16} {x2 : Int64} (g : cd_G A) (ha : cd_H a1 A) (hr : cd_Rw x2 A) {i b o : Nat} (hb : b < 7) (H : ∀ y, cd_Rw y A → J y (nI (cd_dg A / 2)) (nI (i + 3)) fb fl ff a1 a2 a3 a4 a5 a6 a7) : wL_law_138 post L xs J x2 (nI (cd_dg A / 2)) (nI i) (nI b) (nI o) 0 0 kc ks fb fl ff a1 a2 a3 a4 a5 a6 a7 := by
  have key : ∀ z0, wL_law_154 post L xs J x2 (nI (cd_dg A / 2)) (nI i) (nI b) (nI o) 0 0 z0 kc ks fb fl ff a1 a2 a3 a4 a5 a6 a7 := by
    intro z0
    unfold wL_law_154
    refine br_c (fun _ => ?_) (fun _ => ?_)
    · unfold wL_law_176
      exact br_t rfl (cd_w_204 g ha (cd_Rw_ban0 hr) hb (H _ (cd_Rw_ban0 hr)))
    · unfold wL_law_176
      exact br_t rfl (cd_w_204 g ha (cd_Rw_or0 hr) hb (H _ (cd_Rw_or0 hr)))
  unfold wL_law_138
  exact br_c (fun _ => key 0) (fun _ => key 1)
theorem cd_w_176 {J : cd_J16} {A' : Nat → Nat} {y : Int64} (g' : cd_G A') (ha' : cd_H a1 A') (hr' : cd_Rw y A') {i b o w : Nat} (hb : b < 7) (ho : o < 2) (hw : w < 2)
    (hd : (w = o ∧ cd_dg A' = cd_dg A) ∨ (w ≠ o ∧ o = 1 ∧ cd_dg A' = cd_dg A + 2) ∨ (w ≠ o ∧ o = 0 ∧ cd_dg A = cd_dg A' + 2)) (H : J y (nI (cd_dg A' / 2)) (nI (i + 3)) fb fl ff a1 a2 a3 a4 a5 a6 a7) : wL_law_176 post L xs J (nI (cd_dg A / 2)) (nI i) (nI b) (nI o) 1 (nI w) y kc ks fb fl ff a1 a2 a3 a4 a5 a6 a7 := by
  unfold wL_law_176
  refine br_f cd_n10 (pk_eq w o (fun e => ?_) (fun e => pk_eq o 0 (fun e0 => ?_) (fun e0 => ?_)))
  · rcases hd with z | z | z
    · rw [← z.2]
      exact cd_w_204 g' ha' hr' hb H
    · exact absurd e z.1
    · exact absurd e z.1
  · rcases hd with z | z | z
    · exact absurd z.1 e
    · exact absurd e0 (by omega)
    · exact cd_w_205 g' ha' hr' hb (by rw [show cd_dg A / 2 = cd_dg A' / 2 + 1 by omega]; exact pk_m1 _) H
  · rcases hd with z | z | z
    · exact absurd z.1 e
    · exact cd_w_205 g' ha' hr' hb (by rw [nI_1, show cd_dg A / 2 + 1 = cd_dg A' / 2 by omega]) H
    · exact absurd z.2.1 (by omega)
theorem cd_w_138 {J : cd_J16} {A' : Nat → Nat} {x2 : Int64} (g : cd_G A) (hr : cd_Rw x2 A) (g' : cd_G A') (ha' : cd_H a1 A') {i a b o : Nat} (ha7 : a < 7) (hb : b < 7) (ho : o < 2)
    (h1 : o = 1 → ∀ v j, v < 7 → j < 7 → (cd_V (A' v) j ↔ cd_V (A v) j ∨ (v = a ∧ j = b) ∨ (v = b ∧ j = a))) (h0 : o = 0 → ∀ v j, v < 7 → j < 7 → (cd_V (A' v) j ↔ cd_V (A v) j ∧ ¬ ((v = a ∧ j = b) ∨ (v = b ∧ j = a))))
    (hd : ((cd_V (A a) b ↔ o = 1) ∧ cd_dg A' = cd_dg A) ∨ (¬ cd_V (A a) b ∧ o = 1 ∧ cd_dg A' = cd_dg A + 2) ∨ (cd_V (A a) b ∧ o = 0 ∧ cd_dg A = cd_dg A' + 2))
    (H : ∀ y, cd_Rw y A' → J y (nI (cd_dg A' / 2)) (nI (i + 3)) fb fl ff a1 a2 a3 a4 a5 a6 a7) : wL_law_138 post L xs J x2 (nI (cd_dg A / 2)) (nI i) (nI b) (nI o) 1 (cd_both a b) kc ks fb fl ff a1 a2 a3 a4 a5 a6 a7 := by
  have key : ∀ w, w < 2 → (w = 1 ↔ cd_V (A a) b) → wL_law_154 post L xs J x2 (nI (cd_dg A / 2)) (nI i) (nI b) (nI o) 1 (cd_both a b) (nI w) kc ks fb fl ff a1 a2 a3 a4 a5 a6 a7 := by
    intro w hw hwa
    have hd' : (w = o ∧ cd_dg A' = cd_dg A) ∨ (w ≠ o ∧ o = 1 ∧ cd_dg A' = cd_dg A + 2) ∨ (w ≠ o ∧ o = 0 ∧ cd_dg A = cd_dg A' + 2) := by
      rcases hd with z | z | z
      · rw [← hwa] at z
        exact Or.inl ⟨by omega, z.2⟩
      · rw [← hwa] at z
        exact Or.inr (Or.inl ⟨by omega, z.2⟩)
      · rw [← hwa] at z
        exact Or.inr (Or.inr ⟨by omega, z.2⟩)
    unfold wL_law_154
    refine pk_eq o 0 (fun e => ?_) (fun e => ?_)
    · have r := cd_Rw_ban ha7 hb hr (h0 e)
      exact cd_w_176 g' ha' r hb ho hw hd' (H _ r)
    · have r := cd_Rw_or ha7 hb hr (h1 (by omega))
      exact cd_w_176 g' ha' r hb ho hw hd' (H _ r)
  unfold wL_law_138
  exact ek_if (cd_Rw_was g ha7 hb hr) (fun z => key 0 (by omega) ⟨fun y => absurd y (by omega), fun y => absurd y z⟩) (fun z => key 1 (by omega) ⟨fun _ => Classical.byContradiction z, fun _ => rfl⟩)
theorem cd_w_68 {J : cd_J16} {x2 : Int64} (g : cd_G A) (ha : cd_H a1 A) (hr : cd_Rw x2 A) {i a b o : Nat} (ha8 : a < 8) (hb : b < 7) (ho : o < 2) (H : ∀ A' y b1, cd_G A' → cd_H b1 A' → cd_Rw y A' → J y (nI (cd_dg A' / 2)) (nI (i + 3)) fb fl ff b1 a2 a3 a4 a5 a6 a7) : wL_law_68 post L xs J x2 (nI (cd_dg A / 2)) (nI i) (nI a) (nI b) (nI o) kc ks fb fl ff a1 a2 a3 a4 a5 a6 a7 := by
  have n88 : (a = b ∨ 6 < a) → wL_law_88 post L xs J x2 (nI (cd_dg A / 2)) (nI i) (nI a) (nI b) (nI o) kc ks fb fl ff a1 a2 a3 a4 a5 a6 a7 := by
    intro hno
    unfold wL_law_88 wL_law_89
    refine cd_w_join g ha ha8 hb ho (fun _ => ?_) (fun z1 z2 => by omega) (fun z1 z2 => by omega)
    exact br_t rfl (br_t rfl (cd_w_138n g ha hr hb (fun y hy => H A y a1 g ha hy)))
  unfold wL_law_68
  refine pk_eq a b (fun e => n88 (Or.inl e)) (fun hn => pk_lt 6 a (fun z => n88 (Or.inr z)) (fun z => ?_))
  have ha7 : a < 7 := by omega
  unfold wL_law_89
  refine cd_w_join g ha ha8 hb ho (fun y => by omega) (fun _ _ hs => ?_) (fun _ _ hs b1 hb1 => ?_)
  · refine br_t rfl (br_f cd_n10 (cd_w_138 g hr g ha ha7 hb ho (fun e v j hv hj => ?_) (fun e v j hv hj => ?_) (Or.inl ⟨hs, rfl⟩) (fun y hy => H A y a1 g ha hy)))
    · have adj := hs.mpr e
      refine ⟨Or.inl, fun y => ?_⟩
      rcases y with y | y | y
      · exact y
      · rw [y.1, y.2]; exact adj
      · rw [y.1, y.2]; exact g.2.1 a b ha7 hb adj
    · have nadj : ¬ cd_V (A a) b := fun y => by
        have := hs.mp y
        omega
      refine ⟨fun y => ⟨y, fun x => ?_⟩, fun y => y.1⟩
      rcases x with x | x
      · rw [x.1, x.2] at y; exact nadj y
      · rw [x.1, x.2] at y; exact nadj (g.2.1 b a hb ha7 y)
  · have g' := cd_tg_G g ha7 hb hn
    refine br_t rfl (br_f cd_n10 (cd_w_138 g hr g' hb1 ha7 hb ho (fun e v j hv hj => ?_) (fun e v j hv hj => ?_) ?_ (fun y hy => H _ y b1 g' hb1 hy)))
    · have nadj : ¬ cd_V (A a) b := fun y => hs ⟨fun _ => e, fun _ => y⟩
      rw [cd_tg_iff g ha7 hb hn]
      refine ⟨fun y => y.elim (fun x => Or.inl x.1) (fun x => Or.inr x.1), fun y => ?_⟩
      by_cases c : (v = a ∧ j = b) ∨ (v = b ∧ j = a)
      · exact Or.inr ⟨c, nadj⟩
      · exact Or.inl ⟨y.elim id (fun x => absurd x c), c⟩
    · have adj : cd_V (A a) b := Classical.byContradiction (fun y => hs ⟨fun x => absurd x y, fun x => by omega⟩)
      rw [cd_tg_iff g ha7 hb hn]
      exact ⟨fun y => y.elim id (fun x => absurd adj x.2), Or.inl⟩
    · rcases cd_dec (A a) b with y | y
      · refine Or.inr (Or.inr ⟨y, ?_, cd_dg_off g ha7 hb hn y⟩)
        rcases Nat.lt_or_ge o 1 with x | x
        · omega
        · exact absurd ⟨fun _ => by omega, fun _ => y⟩ hs
      · refine Or.inr (Or.inl ⟨y, ?_, cd_dg_on g ha7 hb hn y⟩)
        rcases Nat.lt_or_ge o 1 with x | x
        · exact absurd ⟨fun z => absurd z y, fun z => by omega⟩ hs
        · omega
theorem cd_w_16 (hL : L ≤ 260) (H : ∀ (A : Nat → Nat) (y : Int64) (b1 : Nat → Int32), cd_G A → cd_H b1 A → cd_Rw y A → ∃ n, wL_law_256 post L xs y kc ks fb fl ff b1 a2 a3 a4 a5 a6 a7 n 0 0 0 8 0) {x2 : Int64} (g : cd_G A) (ha : cd_H a1 A) (hr : cd_Rw x2 A) (hd : cd_dg A = 0) : ∃ n, wL_law_16 post L xs kc ks n x2 0 0 fb fl ff a1 a2 a3 a4 a5 a6 a7 := by
  refine lp4 (fun n x2 x4 x5 a1 => wL_law_16 post L xs kc ks n x2 x4 x5 fb fl ff a1 a2 a3 a4 a5 a6 a7) (fun x2 x4 x5 a1 => ∃ (A : Nat → Nat) (i : Nat), cd_G A ∧ cd_H a1 A ∧ cd_Rw x2 A ∧ x4 = nI (cd_dg A / 2) ∧ x5 = nI i ∧ i ≤ L + 2) (fun _ _ x5 _ => L + 3 - x5.toNatClampNeg) ?_ x2 0 0 a1 ⟨A, 0, g, ha, hr, by rw [hd]; rfl, rfl, by omega⟩
  intro n x2 x4 x5 a1 hI hk
  obtain ⟨A, i, g, ha, hr, rfl, rfl, hi⟩ := hI
  refine pk_le L i (fun _ => H A x2 a1 g ha hr) (fun hlt => ?_)
  refine cd_w_pick (n := 8) (k := i) (by omega) (by omega) (by omega) (by omega) rfl (fun c0 h0 => ?_)
  refine cd_w_pick (n := 8) (k := i + 1) (by omega) (by omega) (by omega) (by omega) (nI_1 i) (fun c1 h1 => ?_)
  refine cd_w_pick (n := 7) (k := i + 2) (by omega) (by omega) (by omega) (by omega) (nI_add i 2) (fun c2 h2 => ?_)
  have fin : ∀ A' y b1, cd_G A' → cd_H b1 A' → cd_Rw y A' → wL_law_16 post L xs kc ks n y (nI (cd_dg A' / 2)) (nI (i + 3)) fb fl ff b1 a2 a3 a4 a5 a6 a7 := by
    intro A' y b1 g' hb1 hy
    refine hk y _ _ b1 ⟨A', i + 3, g', hb1, hy, rfl, rfl, by omega⟩ ?_
    show L + 3 - (nI (i + 3)).toNatClampNeg < L + 3 - (nI i).toNatClampNeg
    rw [nI_clamp (by omega), nI_clamp (by omega)]
    omega
  exact br_c (fun _ => cd_w_68 (o := 0) g ha hr h1 h2 (by omega) fin) (fun _ => cd_w_68 (o := 1) g ha hr h1 h2 (by omega) fin)
end
end
section
/-! walks: the law's loop over one set -/
/-- x is 1 where P holds and 0 where not -/
def cd_fl (x : Int32) (P : Prop) : Prop := (x = 1 ∧ P) ∨ (x = 0 ∧ ¬ P)
theorem cd_fl_c {x : Int32} {P Q : Prop} (e : P ↔ Q) (h : cd_fl x P) : cd_fl x Q := h.imp (fun z => ⟨z.1, e.mp z.2⟩) (fun z => ⟨z.1, fun y => z.2 (e.mpr y)⟩)
/-- the first k vertices of s all have Q -/
def cd_Al (s : Nat) (Q : Nat → Prop) (k : Nat) : Prop := ∀ v, v < k → cd_V s v → Q v
theorem cd_Al_s {s k : Nat} {Q : Nat → Prop} (h : cd_V s k) : (cd_Al s Q k ∧ Q k) ↔ cd_Al s Q (k + 1) := by
  refine ⟨fun z v hv hs => ?_, fun z => ⟨fun v hv hs => z v (by omega) hs, z k (by omega) h⟩⟩
  by_cases e : v = k
  · rw [e]; exact z.2
  · exact z.1 v (by omega) hs
theorem cd_Al_n {s k : Nat} {Q : Nat → Prop} (h : ¬ cd_V s k) : cd_Al s Q k ↔ cd_Al s Q (k + 1) := by
  refine ⟨fun z v hv hs => ?_, fun z v hv hs => z v (by omega) hs⟩
  by_cases e : v = k
  · rw [e] at hs
    exact absurd hs h
  · exact z v (by omega) hs
theorem cd_Al_7 {s : Nat} {Q : Nat → Prop} : cd_Al s Q 7 ↔ ∀ v, cd_V s v → Q v := ⟨fun z v hv => z v hv.1 hv, fun z v _ hv => z v hv⟩
def cd_QJ (A : Nat → Nat) (s v : Nat) : Prop := cd_pc (A v &&& s) + 1 = cd_pc s
def cd_QN (A : Nat → Nat) (s v : Nat) : Prop := cd_pc (A v &&& s) = 0
def cd_QR (A : Nat → Nat) (s v : Nat) : Prop := cd_pc (A v &&& s) = 2
/-- how many of the first k vertices are in s -/
def cd_pk (s k : Nat) : Nat := cd_ss (fun u => (s.testBit u).toNat) k
abbrev cd_J291 : Type := Int32 → Int32 → Int32 → Int32 → Int32 → Int32 → Int32 → Prop
abbrev cd_J256 : Type := Int32 → Int32 → Int32 → Int32 → Int32 → Prop
section
variable {post : Int32 → Prop} {A : Nat → Nat} {fb fl ff : Int32} {a1 a2 a3 a4 a5 a6 a7 : Nat → Int32} {L kc ks : Nat} {xs : Nat → Int32} {J : cd_J256} {K : cd_J291} {x2 : Int64} {x5 x6 x7 x8 x9 x10 x11 x12 x13 x14 x15 : Int32}
theorem cd_w_415 {k d : Nat} {z0 : Int32} {R : Prop} (hd : d ≤ 7) (hk : k < 49) (hR : cd_fl x14 R) (H : ∀ t, cd_fl t (R ∧ d = 2) → K x10 x11 x12 z0 t x15 (nI (k + 1))) : wL_law_415 post L xs J K x2 x5 x6 x7 x8 x9 x10 x11 x12 x14 x15 (nI k) (nI d) z0 kc ks fb fl ff a1 a2 a3 a4 a5 a6 a7 := by
  unfold wL_law_415
  rcases hR with ⟨e, hR⟩ | ⟨e, hR⟩
  · rw [e]
    exact br_f cd_n10 (pk_eq d 2 (fun z => nm_r (nI_1 k) (H 1 (Or.inl ⟨rfl, hR, z⟩))) (fun z => nm_r (nI_1 k) (H 0 (Or.inr ⟨rfl, fun y => z y.2⟩))))
  · rw [e]
    exact br_t rfl (nm_r (nI_1 k) (H 0 (Or.inr ⟨rfl, fun y => hR y.1⟩)))
theorem cd_w_398 {k d : Nat} {z0 : Int32} {N R : Prop} (hd : d ≤ 7) (hk : k < 49) (hN : cd_fl x13 N) (hR : cd_fl x14 R) (H : ∀ u t, cd_fl u (N ∧ d = 0) → cd_fl t (R ∧ d = 2) → K x10 x11 z0 u t x15 (nI (k + 1))) : wL_law_398 post L xs J K x2 x5 x6 x7 x8 x9 x10 x11 x13 x14 x15 (nI k) (nI d) z0 kc ks fb fl ff a1 a2 a3 a4 a5 a6 a7 := by
  unfold wL_law_398 wL_law_414
  rcases hN with ⟨e, hN⟩ | ⟨e, hN⟩
  · rw [e]
    exact br_f cd_n10 (pk_eq d 0 (fun z => cd_w_415 hd hk hR (H 1 · (Or.inl ⟨rfl, hN, z⟩))) (fun z => cd_w_415 hd hk hR (H 0 · (Or.inr ⟨rfl, fun y => z y.2⟩))))
  · rw [e]
    exact br_t rfl (cd_w_415 hd hk hR (H 0 · (Or.inr ⟨rfl, fun y => hN y.1⟩)))
theorem cd_w_335 {s k : Nat} {z0 z1 : Int32} {r' : Nat} (g : cd_G A) (hs : s < 128) (hk : k < 49) (hr : z1 ||| z0 = nI r')
    (hJ : cd_fl x12 (cd_Al s (cd_QJ A s) (min k 7))) (hN : cd_fl x13 (cd_Al s (cd_QN A s) (min k 7))) (hR : cd_fl x14 (cd_Al s (cd_QR A s) (min k 7)))
    (H : ∀ j u t, cd_fl j (cd_Al s (cd_QJ A s) (min (k + 1) 7)) → cd_fl u (cd_Al s (cd_QN A s) (min (k + 1) 7)) → cd_fl t (cd_Al s (cd_QR A s) (min (k + 1) 7)) → K (nI (cd_pk s (min (k + 1) 7))) (nI (cd_com A s (min (k + 1) 7))) j u t (nI r') (nI (k + 1))) :
    wL_law_335 post L xs J K x2 x5 x6 x7 x8 (nI s) (nI (cd_pk s (min k 7))) (nI (cd_com A s (min k 7))) x12 x13 x14 (nI k) (nI (k % 7)) (nI (A (k % 7))) z0 z1 kc ks fb fl ff a1 a2 a3 a4 a5 a6 a7 := by
  unfold wL_law_335
  refine nm_r hr (pk_le 7 k (fun z => ?_) (fun z => ?_))
  · rw [show min k 7 = min (k + 1) 7 by omega] at hJ hN hR ⊢
    exact nm_r (nI_1 k) (H x12 x13 x14 hJ hN hR)
  · have e0 : k % 7 = k := by omega
    have e1 : min k 7 = k := by omega
    have e2 : min (k + 1) 7 = k + 1 := by omega
    rw [e2] at H
    rw [e1] at hJ hN hR ⊢
    rw [e0, cd_ibt s hs k z]
    rcases cd_dec s k with hin | hout
    · rw [cd_tb hin]
      have hc : cd_com A s (k + 1) = cd_com A s k &&& A k := if_pos hin.2
      have hp : cd_pk s (k + 1) = cd_pk s k + 1 := by
        show cd_pk s k + (s.testBit k).toNat = _
        rw [cd_tb hin]
      rw [hc, hp] at H
      have h7 := cd_pc_le7 (A k &&& s)
      have s7 := cd_pc_le7 s
      have sp := cd_pc_pos hin
      refine br_t rfl ?_
      rw [cd_iand (A k) s]
      refine cd_w_bits (cd_and_lt hs) (nm_r (nI_1 _) (nm_r (cd_iand _ _) ?_))
      have fin : ∀ j, cd_fl j (cd_Al s (cd_QJ A s) k ∧ cd_QJ A s k) → wL_law_398 post L xs J K x2 x5 x6 x7 x8 (nI s) (nI (cd_pk s k + 1)) (nI (cd_com A s k &&& A k)) x13 x14 (nI r') (nI k) (nI (cd_pc (A k &&& s))) j kc ks fb fl ff a1 a2 a3 a4 a5 a6 a7 := by
        intro j hj
        exact cd_w_398 h7 hk hN hR (fun u t hu ht => H j u t (cd_fl_c (cd_Al_s hin) hj) (cd_fl_c (cd_Al_s (Q := cd_QN A s) hin) hu) (cd_fl_c (cd_Al_s (Q := cd_QR A s) hin) ht))
      rcases hJ with ⟨ej, hJ⟩ | ⟨ej, hJ⟩
      · rw [ej]
        refine br_f cd_n10 (cd_w_bits hs ?_)
        have em : nI (cd_pc s) - 1 = nI (cd_pc s - 1) := pk_sub (a := cd_pc s) (b := 1) (by omega)
        rw [em]
        refine pk_eq (cd_pc (A k &&& s)) (cd_pc s - 1) (fun y => fin 1 (Or.inl ⟨rfl, hJ, ?_⟩)) (fun y => fin 0 (Or.inr ⟨rfl, fun x => y ?_⟩))
        · show cd_pc (A k &&& s) + 1 = cd_pc s
          omega
        · have x2 : cd_pc (A k &&& s) + 1 = cd_pc s := x.2
          omega
      · rw [ej]
        exact br_t rfl (fin 0 (Or.inr ⟨rfl, fun x => hJ x.1⟩))
    · rw [cd_tb0 z hout]
      have hc : cd_com A s (k + 1) = cd_com A s k := if_neg (fun y => hout ⟨z, y⟩)
      have hp : cd_pk s (k + 1) = cd_pk s k := by
        show cd_pk s k + (s.testBit k).toNat = _
        rw [cd_tb0 z hout]
        rfl
      rw [hc, hp] at H
      exact br_f (by decide) (nm_r (nI_1 k) (H x12 x13 x14 (cd_fl_c (cd_Al_n hout) hJ) (cd_fl_c (cd_Al_n hout) hN) (cd_fl_c (cd_Al_n hout) hR)))
/-- the end of the inner loop -/
abbrev cd_X (post : Int32 → Prop) (L : Nat) (xs : Nat → Int32) (J : cd_J256) (x2 : Int64) (x5 x6 x7 x8 x9 x10 x11 x12 x13 x14 x15 : Int32) (kc ks : Nat) (fb fl ff : Int32) (a1 a2 a3 a4 a5 a6 a7 : Nat → Int32) : Prop :=
  ((x12 = 0 → (wL_law_458 post L xs J x2 x5 x6 x7 x8 x9 x10 x11 x12 x13 x14 x15 kc ks fb fl ff a1 a2 a3 a4 a5 a6 a7)) ∧ (¬ x12 = 0 → (((x10 ≤ x5 → (wL_law_458 post L xs J x2 x5 x6 x7 x8 x9 x10 x11 x12 x13 x14 x15 kc ks fb fl ff a1 a2 a3 a4 a5 a6 a7)) ∧ (¬ x10 ≤ x5 → (wL_law_460 post L xs J x2 x6 x7 x8 x9 x10 x11 x12 x13 x14 x15 x10 kc ks fb fl ff a1 a2 a3 a4 a5 a6 a7))))))
theorem cd_w_291 {s : Nat} (g : cd_G A) (hx : cd_Rw x2 A) (hs : s < 128)
    (H : ∀ j u t, cd_fl j (cd_clq A s) → cd_fl u (cd_clq (cd_co A) s) → cd_fl t (∀ v, cd_V s v → cd_pc (A v &&& s) = 2) → cd_X post L xs J x2 x5 x6 x7 x8 (nI s) (nI (cd_pc s)) (nI (cd_com A s 7)) j u t (nI (cd_rh A s 49)) kc ks fb fl ff a1 a2 a3 a4 a5 a6 a7) :
    ∃ n, wL_law_291 post L xs J x2 x5 x6 x7 x8 (nI s) kc ks fb fl ff a1 a2 a3 a4 a5 a6 a7 n 0 127 1 1 1 (nI (cd_low s)) 0 :=
  pk_loop (σ := Int32 × Int32 × Int32) (fun n k q => wL_law_291 post L xs J x2 x5 x6 x7 x8 (nI s) kc ks fb fl ff a1 a2 a3 a4 a5 a6 a7 n (nI (cd_pk s (min k 7))) (nI (cd_com A s (min k 7))) q.1 q.2.1 q.2.2 (nI (cd_rh A s k)) (nI k))
    (fun k q => cd_fl q.1 (cd_Al s (cd_QJ A s) (min k 7)) ∧ cd_fl q.2.1 (cd_Al s (cd_QN A s) (min k 7)) ∧ cd_fl q.2.2 (cd_Al s (cd_QR A s) (min k 7))) 49 0 (1, 1, 1) (by omega)
    ⟨Or.inl ⟨rfl, fun v hv => absurd hv (by omega)⟩, Or.inl ⟨rfl, fun v hv => absurd hv (by omega)⟩, Or.inl ⟨rfl, fun v hv => absurd hv (by omega)⟩⟩
    (fun n q h => pk_le 49 49 (fun _ => by
      have ep : cd_pk s (min 49 7) = cd_pc s := cd_ss7 _
      have ec : cd_com A s (min 49 7) = cd_com A s 7 := rfl
      have hj : cd_fl q.1 (cd_clq A s) := cd_fl_c (Iff.trans cd_Al_7 (cd_joined g s)) h.1
      have hn : cd_fl q.2.1 (cd_clq (cd_co A) s) := cd_fl_c (Iff.trans cd_Al_7 (cd_none g s)) h.2.1
      have hr : cd_fl q.2.2 (∀ v, cd_V s v → cd_pc (A v &&& s) = 2) := cd_fl_c cd_Al_7 h.2.2
      rw [ep, ec]
      exact H q.1 q.2.1 q.2.2 hj hn hr) (fun z => absurd z (by omega)))
    (fun n k q hk h hw => pk_le 49 k (fun z => absurd z (by omega)) (fun _ => by
      have hk7 : k % 7 < 7 := Nat.mod_lt _ (by omega)
      have e1 : nI k - nI k / 7 * 7 = nI (k % 7) := pk_rem (a := k) (d := 7) (by omega) (by omega) (by omega)
      refine ⟨by decide, nm_r e1 ?_⟩
      unfold wpL_row
      rw [cd_row g hx hk7, cd_ibt _ (cd_rh_lt g hs k) _ hk7]
      have hw' : ∀ j u t, cd_fl j (cd_Al s (cd_QJ A s) (min (k + 1) 7)) → cd_fl u (cd_Al s (cd_QN A s) (min (k + 1) 7)) → cd_fl t (cd_Al s (cd_QR A s) (min (k + 1) 7)) → wL_law_291 post L xs J x2 x5 x6 x7 x8 (nI s) kc ks fb fl ff a1 a2 a3 a4 a5 a6 a7 n (nI (cd_pk s (min (k + 1) 7))) (nI (cd_com A s (min (k + 1) 7))) j u t (nI (cd_rh A s (k + 1))) (nI (k + 1)) := fun j u t hj hu ht => hw (j, u, t) ⟨hj, hu, ht⟩
      rcases cd_dec (cd_rh A s k) (k % 7) with z | z
      · have er : cd_rh A s (k + 1) = cd_rh A s k ||| (A (k % 7) &&& s) := if_pos z.2
        rw [cd_tb z]
        refine br_t rfl (cd_w_335 (r' := cd_rh A s (k + 1)) g hs hk ?_ h.1 h.2.1 h.2.2 hw')
        rw [cd_iand, cd_ior, er]
      · have er : cd_rh A s (k + 1) = cd_rh A s k := if_neg (fun y => z ⟨hk7, y⟩)
        rw [cd_tb0 hk7 z]
        refine br_f (by decide) (cd_w_335 (r' := cd_rh A s (k + 1)) g hs hk ?_ h.1 h.2.1 h.2.2 hw')
        rw [er]
        show nI (cd_rh A s k) ||| nI 0 = _
        rw [cd_ior, Nat.or_zero]))
end
end
section
/-! walks: what the law keeps of one set, the loop over all sets, the last checks -/
/-- the largest so far -/
def cd_Ms (B : Nat → Nat) (s m : Nat) : Prop := (∃ t, t < 128 ∧ cd_clq B t ∧ cd_pc t = m) ∧ ∀ t, t < s → cd_clq B t → cd_pc t ≤ m
/-- the smallest hole so far -/
def cd_Hs (A : Nat → Nat) (s h : Nat) : Prop := (h = 8 ∧ ∀ t, t < s → ¬ cd_Hole A t) ∨ (h < 8 ∧ (∃ t, cd_Hole A t ∧ cd_pc t = h) ∧ ∀ t, t < s → cd_Hole A t → h ≤ cd_pc t)
def cd_SI (A : Nat → Nat) (s c p f h : Nat) : Prop := cd_Ms A s c ∧ cd_Ms (cd_co A) s p ∧ f = cd_cnt (cd_Mx A) s ∧ cd_Hs A s h
theorem cd_Ms_le {B : Nat → Nat} {s m : Nat} (h : cd_Ms B s m) : m ≤ 7 := by
  obtain ⟨t, _, _, e⟩ := h.1
  have := cd_pc_le7 t
  omega
theorem cd_Ms_up {B : Nat → Nat} {s m : Nat} (hs : s < 128) (h : cd_Ms B s m) (hq : cd_clq B s) (hm : m < cd_pc s) : cd_Ms B (s + 1) (cd_pc s) := by
  refine ⟨⟨s, hs, hq, rfl⟩, fun t ht hqt => ?_⟩
  by_cases e : t = s
  · rw [e]; exact Nat.le_refl _
  · have := h.2 t (by omega) hqt
    omega
theorem cd_Ms_no {B : Nat → Nat} {s m : Nat} (h : cd_Ms B s m) (hq : cd_clq B s → cd_pc s ≤ m) : cd_Ms B (s + 1) m := by
  refine ⟨h.1, fun t ht hqt => ?_⟩
  by_cases e : t = s
  · rw [e] at hqt ⊢
    exact hq hqt
  · exact h.2 t (by omega) hqt
theorem cd_Hs_le {A : Nat → Nat} {s h : Nat} (z : cd_Hs A s h) : h ≤ 8 := by
  rcases z with y | y
  · omega
  · have := y.1
    omega
theorem cd_Hs_up {A : Nat → Nat} {s h : Nat} (z : cd_Hs A s h) (hh : cd_Hole A s) (hm : cd_pc s < h) : cd_Hs A (s + 1) (cd_pc s) := by
  have h7 := cd_pc_le7 s
  refine Or.inr ⟨by omega, ⟨s, hh, rfl⟩, fun t ht hq => ?_⟩
  by_cases e : t = s
  · rw [e]; exact Nat.le_refl _
  · rcases z with y | y
    · exact absurd hq (y.2 t (by omega))
    · have := y.2.2 t (by omega) hq
      omega
theorem cd_Hs_no {A : Nat → Nat} {s h : Nat} (z : cd_Hs A s h) (hh : cd_Hole A s → h ≤ cd_pc s) : cd_Hs A (s + 1) h := by
  have h7 := cd_pc_le7 s
  rcases z with y | y
  · refine Or.inl ⟨y.1, fun t ht hq => ?_⟩
    by_cases e : t = s
    · rw [e] at hq
      have := hh hq
      omega
    · exact y.2 t (by omega) hq
  · refine Or.inr ⟨y.1, y.2.1, fun t ht hq => ?_⟩
    by_cases e : t = s
    · rw [e] at hq ⊢
      exact hh hq
    · exact y.2.2 t (by omega) hq
section
variable {post : Int32 → Prop} {A : Nat → Nat} {fb fl ff : Int32} {a1 a2 a3 a4 a5 a6 a7 : Nat → Int32} {L kc ks : Nat} {xs : Nat → Int32} {J : cd_J256} {x2 : Int64} {x5 x6 x7 x12 x13 x14 : Int32}
theorem cd_w_545 {s : Nat} {z0 : Int32} (g : cd_G A) (ha : cd_H a1 A) (hs : s < 128) (hj : cd_fl x12 (cd_clq A s)) (H : J x5 x6 x7 z0 (nI (s + 1))) : wL_law_545 post L xs J x2 x5 x6 x7 (nI s) x12 z0 kc ks fb fl ff a1 a2 a3 a4 a5 a6 a7 := by
  unfold wL_law_545
  refine cd_w_clique g ha hs (fun z => br_t ?_ (nm_r (nI_1 s) H)) (fun z => br_t ?_ (nm_r (nI_1 s) H))
  · rcases hj with y | y
    · exact y.1.symm
    · exact absurd z y.2
  · rcases hj with y | y
    · exact absurd y.2 z
    · exact y.1.symm
theorem cd_w_510 {s h f' : Nat} {z0 z1 : Int32} (g : cd_G A) (ha : cd_H a1 A) (hs : s < 128) (hj : cd_fl x12 (cd_clq A s)) (ht : cd_fl x14 (∀ v, cd_V s v → cd_pc (A v &&& s) = 2)) (hh : cd_Hs A s h) (hz : z1 + z0 = nI f') (H : ∀ h', cd_Hs A (s + 1) h' → J x5 x6 (nI f') (nI h') (nI (s + 1))) : wL_law_510 post L xs J x2 x5 x6 (nI h) (nI s) (nI (cd_pc s)) x12 x14 (nI (cd_rh A s 49)) z0 z1 kc ks fb fl ff a1 a2 a3 a4 a5 a6 a7 := by
  have h8 := cd_Hs_le hh
  have h7 := cd_pc_le7 s
  have hl := cd_rh_lt g hs 49
  have no : (cd_Hole A s → h ≤ cd_pc s) → wL_law_543 post L xs J x2 x5 x6 (nI f') (nI h) (nI s) x12 kc ks fb fl ff a1 a2 a3 a4 a5 a6 a7 := by
    intro z
    unfold wL_law_543
    exact cd_w_545 g ha hs hj (H h (cd_Hs_no hh z))
  unfold wL_law_510
  refine nm_r hz ?_
  rcases ht with ⟨e, ht⟩ | ⟨e, ht⟩
  · rw [e]
    refine br_f cd_n10 (pk_lt (cd_pc s) 4 (fun z => no (fun y => by have := y.2.2.1; omega)) (fun z4 => pk_eq (cd_rh A s 49) s (fun er => pk_le h (cd_pc s) (fun z => no (fun _ => z)) (fun z => ?_)) (fun er => no (fun y => absurd y.2.2.2 er))))
    exact cd_w_545 g ha hs hj (H _ (cd_Hs_up hh ⟨hs, ht, z4, er⟩ z))
  · rw [e]
    exact br_t rfl (no (fun y => absurd y.2.1 ht))
theorem cd_w_481 {s h f : Nat} (g : cd_G A) (ha : cd_H a1 A) (hs : s < 128) (hj : cd_fl x12 (cd_clq A s)) (ht : cd_fl x14 (∀ v, cd_V s v → cd_pc (A v &&& s) = 2)) (hh : cd_Hs A s h) (hf : f = cd_cnt (cd_Mx A) s) (H : ∀ h', cd_Hs A (s + 1) h' → J x5 x6 (nI (cd_cnt (cd_Mx A) (s + 1))) (nI h') (nI (s + 1))) : wL_law_481 post L xs J x2 x5 (nI f) (nI h) (nI s) (nI (cd_pc s)) (nI (cd_com A s 7)) x12 x14 (nI (cd_rh A s 49)) x6 kc ks fb fl ff a1 a2 a3 a4 a5 a6 a7 := by
  have h7 := cd_pc_le7 s
  have hc : nI (cd_com A s 7) &&& (nI s ^^^ (-1)) = nI (cd_com A s 7 &&& cd_not s) := cd_iban s (cd_com_lt 7)
  have no : ¬ cd_Mx A s → wL_law_509 post L xs J x2 x5 x6 (nI h) (nI s) (nI (cd_pc s)) x12 x14 (nI (cd_rh A s 49)) (nI f) kc ks fb fl ff a1 a2 a3 a4 a5 a6 a7 := by
    intro z
    rw [cd_cnt_f z, ← hf] at H
    unfold wL_law_509
    exact cd_w_510 g ha hs hj ht hh (nI_add f 0) H
  unfold wL_law_481
  rw [hc]
  have cases := hj
  rcases cases with ⟨e, hq⟩ | ⟨e, hq⟩
  · refine br_f (by rw [e]; exact cd_n10) (pk_le (cd_pc s) 0 (fun z => no (fun y => by have := (cd_full g).mpr y; omega)) (fun z => ek_if (cd_iz (cd_and_lt' (cd_com_lt 7))) (fun d => ?_) (fun d => no (fun y => d ((cd_full g).mpr y).2.2))))
    have mx : cd_Mx A s := (cd_full g).mp ⟨hq, z, d⟩
    rw [cd_cnt_t mx, ← hf] at H
    exact cd_w_510 g ha hs hj ht hh (nI_1 f) H
  · exact br_t e (no (fun y => hq y.1))
theorem cd_w_460 {s h f p : Nat} (g : cd_G A) (ha : cd_H a1 A) (hs : s < 128) (hj : cd_fl x12 (cd_clq A s)) (hu : cd_fl x13 (cd_clq (cd_co A) s)) (ht : cd_fl x14 (∀ v, cd_V s v → cd_pc (A v &&& s) = 2)) (hp : cd_Ms (cd_co A) s p) (hh : cd_Hs A s h) (hf : f = cd_cnt (cd_Mx A) s) (H : ∀ p' h', cd_Ms (cd_co A) (s + 1) p' → cd_Hs A (s + 1) h' → J x5 (nI p') (nI (cd_cnt (cd_Mx A) (s + 1))) (nI h') (nI (s + 1))) : wL_law_460 post L xs J x2 (nI p) (nI f) (nI h) (nI s) (nI (cd_pc s)) (nI (cd_com A s 7)) x12 x13 x14 (nI (cd_rh A s 49)) x5 kc ks fb fl ff a1 a2 a3 a4 a5 a6 a7 := by
  have h7 := cd_pc_le7 s
  have p7 := cd_Ms_le hp
  have no : (cd_clq (cd_co A) s → cd_pc s ≤ p) → wL_law_479 post L xs J x2 x5 (nI p) (nI f) (nI h) (nI s) (nI (cd_pc s)) (nI (cd_com A s 7)) x12 x14 (nI (cd_rh A s 49)) kc ks fb fl ff a1 a2 a3 a4 a5 a6 a7 := by
    intro z
    unfold wL_law_479
    exact cd_w_481 g ha hs hj ht hh hf (fun h' hh' => H p h' (cd_Ms_no hp z) hh')
  unfold wL_law_460
  rcases hu with ⟨e, hq⟩ | ⟨e, hq⟩
  · rw [e]
    exact br_f cd_n10 (pk_le (cd_pc s) p (fun z => no (fun _ => z)) (fun z => cd_w_481 g ha hs hj ht hh hf (fun h' hh' => H _ h' (cd_Ms_up hs hp hq z) hh')))
  · rw [e]
    exact br_t rfl (no (fun y => absurd y hq))
theorem cd_w_X {s h f p c : Nat} {j u t : Int32} (g : cd_G A) (ha : cd_H a1 A) (hs : s < 128) (hj : cd_fl j (cd_clq A s)) (hu : cd_fl u (cd_clq (cd_co A) s)) (ht : cd_fl t (∀ v, cd_V s v → cd_pc (A v &&& s) = 2)) (hI : cd_SI A s c p f h) (H : ∀ c' p' f' h', cd_SI A (s + 1) c' p' f' h' → J (nI c') (nI p') (nI f') (nI h') (nI (s + 1))) : cd_X post L xs J x2 (nI c) (nI p) (nI f) (nI h) (nI s) (nI (cd_pc s)) (nI (cd_com A s 7)) j u t (nI (cd_rh A s 49)) kc ks fb fl ff a1 a2 a3 a4 a5 a6 a7 := by
  obtain ⟨hc, hp, hf, hh⟩ := hI
  have h7 := cd_pc_le7 s
  have c7 := cd_Ms_le hc
  have no : (cd_clq A s → cd_pc s ≤ c) → wL_law_458 post L xs J x2 (nI c) (nI p) (nI f) (nI h) (nI s) (nI (cd_pc s)) (nI (cd_com A s 7)) j u t (nI (cd_rh A s 49)) kc ks fb fl ff a1 a2 a3 a4 a5 a6 a7 := by
    intro z
    unfold wL_law_458
    exact cd_w_460 g ha hs hj hu ht hp hh hf (fun p' h' hp' hh' => H c p' _ h' ⟨cd_Ms_no hc z, hp', rfl, hh'⟩)
  have cases := hj
  rcases cases with ⟨e, hq⟩ | ⟨e, hq⟩
  · refine br_f (by rw [e]; exact cd_n10) (pk_le (cd_pc s) c (fun z => no (fun _ => z)) (fun z => ?_))
    exact cd_w_460 g ha hs hj hu ht hp hh hf (fun p' h' hp' hh' => H _ p' _ h' ⟨cd_Ms_up hs hc hq z, hp', rfl, hh'⟩)
  · exact br_t e (no (fun y => absurd y hq))
theorem cd_w_579 {c p f h : Nat} {z0 : Int32} (g : cd_G A) (ha : cd_H a1 A) (hI : cd_SI A 128 c p f h) (hz : (h = 8 ∧ z0 = -1) ∨ (h ≠ 8 ∧ z0 = nI h)) (H : post 1) : wL_law_579 post L xs (nI c) (nI p) (nI f) (nI h) z0 kc ks fb fl ff a1 a2 a3 a4 a5 a6 a7 := by
  obtain ⟨hc, hp, hf, hh⟩ := hI
  have h8 := cd_Hs_le hh
  unfold wL_law_579
  refine cd_w_lc g ha (fun fb1 fl1 ff1 m b2 b3 b4 b5 hm => br_t (by rw [cd_Max_u hm hc]) ?_)
  refine cd_w_la g ha (fun fb2 fl2 ff2 m' d2 d3 d4 d5 hm' => br_t (by rw [cd_Max_u hm' hp]) ?_)
  refine cd_w_fc g ha (fun fb3 fl3 ff3 e2 e3 e4 e5 => br_t (by rw [hf]) ?_)
  refine cd_w_sh g ha (fun hno => br_t ?_ ?_) (fun m hm1 hm2 => br_t ?_ ?_)
  · rcases hz with z | z
    · exact z.2.symm
    · rcases hh with y | y
      · exact absurd y.1 z.1
      · obtain ⟨t, ht, _⟩ := y.2.1
        exact absurd ht (hno t)
  · have e8 : h = 8 := by
      rcases hh with y | y
      · exact y.1
      · obtain ⟨t, ht, _⟩ := y.2.1
        exact absurd ht (hno t)
    refine cd_w_neat g ha (fun _ => pk_eq h 8 (fun _ => ?_) (fun z => absurd e8 z)) (fun z => ?_)
    · unfold wL_law_633
      exact br_t rfl H
    · obtain ⟨t, ht⟩ := z
      exact absurd ht (hno t)
  · have em : m = h ∧ h ≠ 8 := by
      obtain ⟨t, ht, et⟩ := hm1
      have t7 := cd_pc_le7 t
      rcases hh with y | y
      · exact absurd ht (y.2 t ht.1)
      · obtain ⟨t', ht', et'⟩ := y.2.1
        have k1 := y.2.2 t ht.1 ht
        have k2 := hm2 t' ht'
        omega
    rcases hz with z | z
    · exact absurd z.1 em.2
    · rw [z.2, em.1]
  · have ne : h ≠ 8 := by
      obtain ⟨t, ht, et⟩ := hm1
      rcases hh with y | y
      · exact absurd ht (y.2 t ht.1)
      · omega
    refine cd_w_neat g ha (fun z => ?_) (fun _ => pk_eq h 8 (fun z => absurd z ne) (fun _ => ?_))
    · obtain ⟨t, ht, _⟩ := hm1
      exact absurd ht (z t)
    · unfold wL_law_633
      exact br_t rfl H
theorem cd_w_256 (g : cd_G A) (ha : cd_H a1 A) (hx : cd_Rw x2 A) (H : post 1) : ∃ n, wL_law_256 post L xs x2 kc ks fb fl ff a1 a2 a3 a4 a5 a6 a7 n 0 0 0 8 0 :=
  pk_loop (σ := Nat × Nat × Nat × Nat) (fun n s q => wL_law_256 post L xs x2 kc ks fb fl ff a1 a2 a3 a4 a5 a6 a7 n (nI q.1) (nI q.2.1) (nI q.2.2.1) (nI q.2.2.2) (nI s)) (fun s q => cd_SI A s q.1 q.2.1 q.2.2.1 q.2.2.2) 128 0 (0, 0, 0, 8) (by omega)
    ⟨⟨⟨0, by decide, fun v w hv => absurd hv cd_zero, cd_pc_zero⟩, fun t ht => absurd ht (by omega)⟩, ⟨⟨0, by decide, fun v w hv => absurd hv cd_zero, cd_pc_zero⟩, fun t ht => absurd ht (by omega)⟩, rfl, Or.inl ⟨rfl, fun t ht => absurd ht (by omega)⟩⟩
    (fun n q h => pk_le 128 128 (fun _ => by
      have h8 := cd_Hs_le h.2.2.2
      exact pk_eq q.2.2.2 8 (fun z => cd_w_579 g ha h (Or.inl ⟨z, rfl⟩) H) (fun z => cd_w_579 g ha h (Or.inr ⟨z, rfl⟩) H)) (fun z => absurd z (by omega)))
    (fun n s q hs h hw => pk_le 128 s (fun z => absurd z (by omega)) (fun _ => nm_r (cd_ilow s hs) (cd_w_291 g hx hs (fun j u t hj hu ht => cd_w_X g ha hs hj hu ht h (fun c' p' f' h' hI => hw (c', p', f', h') hI)))))
end
end
section
/-! the statement that is owed -/
theorem i_vc (xs : Nat → Int32) (L : Nat) (hL : L ≤ 260) : wpL_law (fun r => r = 1) L xs := by
  have g : cd_G (fun _ => 0) := ⟨fun _ _ => (by decide : (0 : Nat) < 128), fun _ _ _ _ h => absurd h cd_zero, fun _ _ => cd_zero⟩
  have hr : cd_Rw 0 (fun _ => 0) := fun v j _ _ => by
    rw [show (0 : Int64).toBitVec.getLsbD (7 * v + j) = false from BitVec.getLsbD_zero]
    exact ⟨fun z => absurd z (by decide), fun z => absurd z cd_zero⟩
  refine ⟨7, 342, by omega, by omega, ?_⟩
  unfold wpX_init
  dsimp only
  refine ⟨by omega, by omega, by omega, by omega, by omega, by omega, by omega, by omega, by omega, by omega, by omega, by omega, by omega, by omega, ?_⟩
  exact cd_w_16 (post := fun r => r = 1) (A := fun _ => 0) (a1 := fun _ => 0) hL (fun A y b1 gA hA hy => cd_w_256 gA hA hy rfl) g (fun _ _ => rfl) hr (by decide)
end
