section
/-! bits of naturals: how many ones stand in the low m bits -/
def qd_popk : Nat → Nat → Nat
  | 0, _ => 0
  | m + 1, x => qd_popk m x + (x.testBit m).toNat
def qd_pop (x : Nat) : Nat := qd_popk 8 x
theorem qd_bool1 : ∀ p q : Bool, (p || q).toNat + (p && q).toNat = p.toNat + q.toNat := by decide
theorem qd_popk_add (m a b : Nat) : qd_popk m (a ||| b) + qd_popk m (a &&& b) = qd_popk m a + qd_popk m b := by
  induction m with
  | zero => rfl
  | succ m ih =>
    have h := qd_bool1 (a.testBit m) (b.testBit m)
    simp only [qd_popk, Nat.testBit_or, Nat.testBit_and]
    omega
theorem qd_pop_add (a b : Nat) : qd_pop (a ||| b) + qd_pop (a &&& b) = qd_pop a + qd_pop b := qd_popk_add 8 a b
theorem qd_pop0 : qd_pop 0 = 0 := by decide
theorem qd_pop_z : ∀ x, x < 256 → qd_pop x = 0 → x = 0 := by decide +kernel
theorem qd_pop_8 : ∀ x, x < 256 → qd_pop x ≤ 8 := by decide +kernel
theorem qd_pop_drop : ∀ x, x < 256 → 0 < qd_pop x → (x &&& (x - 1)) &&& x = x &&& (x - 1) ∧ qd_pop (x &&& (x - 1)) + 1 = qd_pop x := by decide +kernel
theorem qd_pop_all : ∀ n, n ≤ 8 → qd_pop (2 ^ n - 1) = n := by decide +kernel
/-- the least number with k ones -/
theorem qd_pop_min : ∀ x, x < 256 → 2 ^ qd_pop x - 1 ≤ x := by decide +kernel
/-! parts -/
theorem qd_le_iff {x y : Nat} : x &&& y = x ↔ ∀ i, x.testBit i = true → y.testBit i = true := by
  constructor
  · intro h i hi
    have e : (x &&& y).testBit i = true := by rw [h]; exact hi
    rw [Nat.testBit_and, hi, Bool.true_and] at e
    exact e
  · intro h
    apply Nat.eq_of_testBit_eq
    intro i
    rw [Nat.testBit_and]
    cases hx : x.testBit i
    · rfl
    · rw [h i hx]; rfl
theorem qd_tr {x y z : Nat} (h : x &&& y = x) (g : y &&& z = y) : x &&& z = x :=
  qd_le_iff.mpr (fun i hi => qd_le_iff.mp g i (qd_le_iff.mp h i hi))
theorem qd_lt_of {x y : Nat} (h : x &&& y = x) (hy : y < 256) : x < 256 := by
  have h1 : x &&& y ≤ y := Nat.and_le_right
  omega
theorem qd_and_lt (x : Nat) {y : Nat} (hy : y < 256) : x &&& y < 256 := by
  have h1 : x &&& y ≤ y := Nat.and_le_right
  omega
theorem qd_and_lt' {x : Nat} (hx : x < 256) (y : Nat) : x &&& y < 256 := by
  have h1 : x &&& y ≤ x := Nat.and_le_left
  omega
theorem qd_or_lt {x y : Nat} (hx : x < 256) (hy : y < 256) : x ||| y < 256 := Nat.or_lt_two_pow (n := 8) hx hy
theorem qd_or_le {x y z : Nat} : (x ||| y) &&& z = x ||| y ↔ x &&& z = x ∧ y &&& z = y := by
  rw [qd_le_iff, qd_le_iff, qd_le_iff]
  constructor
  · intro h
    exact ⟨fun i hi => h i (by rw [Nat.testBit_or, hi, Bool.true_or]), fun i hi => h i (by rw [Nat.testBit_or, hi, Bool.or_true])⟩
  · intro h i hi
    rw [Nat.testBit_or, Bool.or_eq_true] at hi
    exact hi.elim (h.1 i) (h.2 i)
theorem qd_le_and {x y z : Nat} : x &&& (y &&& z) = x ↔ x &&& y = x ∧ x &&& z = x := by
  rw [qd_le_iff, qd_le_iff, qd_le_iff]
  constructor
  · intro h
    refine ⟨fun i hi => ?_, fun i hi => ?_⟩
    · have := h i hi
      rw [Nat.testBit_and, Bool.and_eq_true] at this
      exact this.1
    · have := h i hi
      rw [Nat.testBit_and, Bool.and_eq_true] at this
      exact this.2
  · intro h i hi
    rw [Nat.testBit_and, h.1 i hi, h.2 i hi]; rfl
theorem qd_and_le (x y : Nat) : (x &&& y) &&& y = x &&& y := by rw [Nat.and_assoc, Nat.and_self]
theorem qd_and_le' (x y : Nat) : (x &&& y) &&& x = x &&& y := by rw [Nat.and_comm x y, Nat.and_assoc, Nat.and_self]
theorem qd_and_z {x y : Nat} : x &&& y = 0 ↔ ∀ i, ¬ (x.testBit i = true ∧ y.testBit i = true) := by
  constructor
  · intro h i hi
    have e : (x &&& y).testBit i = false := by rw [h]; exact Nat.zero_testBit i
    rw [Nat.testBit_and, hi.1, hi.2] at e
    exact absurd e (by decide)
  · intro h
    apply Nat.eq_of_testBit_eq
    intro i
    rw [Nat.testBit_and, Nat.zero_testBit]
    cases hx : x.testBit i
    · rfl
    · cases hy : y.testBit i
      · rfl
      · exact absurd ⟨hx, hy⟩ (h i)
theorem qd_bool2 : ∀ p q : Bool, (p && q) = p → (p || (q ^^ p)) = q := by decide
theorem qd_bool3 : ∀ p q : Bool, (p && q) = p → (p && (q ^^ p)) = false := by decide
theorem qd_bool4 : ∀ p q : Bool, (p && q) = p → ((q ^^ p) && q) = (q ^^ p) := by decide
/-- what is left of y without its part x -/
theorem qd_split {x y : Nat} (h : x &&& y = x) : ∃ z, x ||| z = y ∧ x &&& z = 0 ∧ z &&& y = z := by
  have hb : ∀ i, (x.testBit i && y.testBit i) = x.testBit i := fun i => by rw [← Nat.testBit_and, h]
  refine ⟨y ^^^ x, ?_, ?_, ?_⟩
  · apply Nat.eq_of_testBit_eq
    intro i
    rw [Nat.testBit_or, Nat.testBit_xor]
    exact qd_bool2 _ _ (hb i)
  · apply Nat.eq_of_testBit_eq
    intro i
    rw [Nat.testBit_and, Nat.testBit_xor, Nat.zero_testBit]
    exact qd_bool3 _ _ (hb i)
  · apply Nat.eq_of_testBit_eq
    intro i
    rw [Nat.testBit_and, Nat.testBit_xor]
    exact qd_bool4 _ _ (hb i)
theorem qd_pop_split {x y z : Nat} (h : x ||| z = y) (g : x &&& z = 0) : qd_pop y = qd_pop x + qd_pop z := by
  have e := qd_pop_add x z
  rw [h, g, qd_pop0] at e
  omega
theorem qd_pop_mono {x y : Nat} (h : x &&& y = x) : qd_pop x ≤ qd_pop y := by
  obtain ⟨z, h1, h2, _⟩ := qd_split h
  have := qd_pop_split h1 h2
  omega
theorem qd_pop_eq {x y : Nat} (h : x &&& y = x) (hy : y < 256) (hp : qd_pop y ≤ qd_pop x) : x = y := by
  obtain ⟨z, h1, h2, h3⟩ := qd_split h
  have e := qd_pop_split h1 h2
  have hz := qd_pop_z z (qd_lt_of h3 hy) (by omega)
  rw [hz, Nat.or_zero] at h1
  exact h1
theorem qd_sub_ex {s k : Nat} (hs : s < 256) (hk : k ≤ qd_pop s) : ∃ x, x &&& s = x ∧ qd_pop x = k := by
  have key : ∀ m s, s < 256 → qd_pop s = k + m → ∃ x, x &&& s = x ∧ qd_pop x = k := by
    intro m
    induction m with
    | zero => intro s _ h; exact ⟨s, Nat.and_self s, h⟩
    | succ m ih =>
      intro s hs h
      obtain ⟨h1, h2⟩ := qd_pop_drop s hs (by omega)
      obtain ⟨x, g1, g2⟩ := ih (s &&& (s - 1)) (qd_and_lt' hs _) (by omega)
      exact ⟨x, qd_tr g1 h1, g2⟩
  exact key (qd_pop s - k) s hs (by omega)
/-! Sperner: the sets below 256 in 70 chains -/
def qd_T : Nat := 0x102050304091306070812101122450a0b0c0f0d0e21441e1f2043414241411415161917181d401a1b1c3f3d3e3d3d3738393c3a3b3a3a37383939373837372324252826272c36292a2b35333433332d2e2f32303130302d2e2f2f2d2e2d2d2324252826272c2c292a2b2b292a292923242528262726262324252523242323000102050304091306070812101122220a0b0c0f0d0e21211e1f20201e1f1e1e1415161917181d1d1a1b1c1c1a1b1a1a14151619171817171415161614151414000102050304091306070812101110100a0b0c0f0d0e0d0d0a0b0c0c0a0b0a0a0001020503040909060708080607060600010205030403030001020200010000
def qd_ch (x : Nat) : Nat := qd_T / 256 ^ x % 256
theorem qd_all2 {p : Nat → Nat → Bool} (h : (List.range 256).all (fun x => (List.range 256).all (fun y => p x y)) = true) {x y : Nat} (hx : x < 256) (hy : y < 256) : p x y = true := by
  rw [List.all_eq_true] at h
  have h1 := h x (List.mem_range.mpr hx)
  rw [List.all_eq_true] at h1
  exact h1 y (List.mem_range.mpr hy)
theorem qd_ch_lt : ∀ x, x < 256 → qd_ch x < 70 := by decide +kernel
theorem qd_ch_tab : (List.range 256).all (fun x => (List.range 256).all (fun y => !(Nat.beq (qd_ch x) (qd_ch y)) || (Nat.beq (Nat.land x y) x || Nat.beq (Nat.land x y) y))) = true := by decide +kernel
theorem qd_ch_cmp {x y : Nat} (hx : x < 256) (hy : y < 256) (h : qd_ch x = qd_ch y) : x &&& y = x ∨ y &&& x = y := by
  have e := qd_all2 qd_ch_tab hx hy
  rw [h, Nat.beq_refl, Bool.not_true, Bool.false_or, Bool.or_eq_true] at e
  rcases e with e | e
  · exact Or.inl (Nat.eq_of_beq_eq_true e)
  · have e2 : x &&& y = y := Nat.eq_of_beq_eq_true e
    rw [Nat.and_comm] at e2
    exact Or.inr e2
/-- a family's least sets: below 256, none part of another -/
def qd_ok (L : List Nat) : Prop := (∀ x ∈ L, x < 256) ∧ L.Pairwise (fun x y => ¬ x &&& y = x ∧ ¬ y &&& x = y)
theorem qd_sperner {L : List Nat} (h : qd_ok L) : L.length ≤ 70 := by
  have nd : (L.map qd_ch).Nodup := by
    refine List.pairwise_map.mpr (List.Pairwise.imp_of_mem ?_ h.2)
    intro a b ha hb hab e
    rcases qd_ch_cmp (h.1 a ha) (h.1 b hb) e with g | g
    · exact hab.1 g
    · exact hab.2 g
  have sb : L.map qd_ch ⊆ List.range 70 := by
    intro c hc
    obtain ⟨x, hx, rfl⟩ := List.mem_map.mp hc
    exact List.mem_range.mpr (qd_ch_lt x (h.1 x hx))
  have := nd.length_le_of_subset sb
  rw [List.length_map, List.length_range] at this
  exact this
/-! counting: what 'choose' computes, and how many sets of k machines lie in M -/
def qd_cb (n k : Nat) : Nat → Nat
  | 0 => 1
  | i + 1 => if i < k then qd_cb n k i * (n - i) / (i + 1) else qd_cb n k i
theorem qd_cb_le : ∀ n, n ≤ 8 → ∀ k, k ≤ 8 → ∀ i, i ≤ 8 → qd_cb n k i ≤ 70 := by decide +kernel
def qd_sub (M k s : Nat) : Bool := Nat.beq (Nat.land s M) s && Nat.beq (qd_pop s) k
def qd_cnt (M k : Nat) : Nat → Nat
  | 0 => 0
  | n + 1 => if qd_sub M k n then qd_cnt M k n + 1 else qd_cnt M k n
theorem qd_cnt_filter (M k n : Nat) : ((List.range n).filter (qd_sub M k)).length = qd_cnt M k n := by
  induction n with
  | zero => rfl
  | succ n ih =>
    rw [List.range_succ, List.filter_append, List.length_append, ih]
    rw [show qd_cnt M k (n + 1) = if qd_sub M k n then qd_cnt M k n + 1 else qd_cnt M k n from rfl]
    cases h : qd_sub M k n <;> simp [h]
theorem qd_cnt_tab : (List.range 256).all (fun M => (List.range 9).all (fun k => Nat.ble (qd_pop M + 1) k || Nat.beq (qd_cnt M k 256) (qd_cb (qd_pop M) k 8))) = true := by decide +kernel
theorem qd_cnt_eq {M k : Nat} (hM : M < 256) (hk : k ≤ qd_pop M) : qd_cnt M k 256 = qd_cb (qd_pop M) k 8 := by
  have h := qd_cnt_tab
  have h8 := qd_pop_8 M hM
  rw [List.all_eq_true] at h
  have h1 := h M (List.mem_range.mpr hM)
  rw [List.all_eq_true] at h1
  have h2 := h1 k (List.mem_range.mpr (by omega))
  rw [Bool.or_eq_true] at h2
  rcases h2 with h2 | h2
  · have := Nat.le_of_ble_eq_true h2
    omega
  · exact Nat.eq_of_beq_eq_true h2
end
section
/-! lists of least sets -/
def qd_up (L : List Nat) (t : Nat) : Prop := ∃ x, x ∈ L ∧ x &&& t = x
theorem qd_up_nil (t : Nat) : ¬ qd_up [] t := fun h => h.elim (fun _ hx => absurd hx.1 List.not_mem_nil)
theorem qd_up_cons {x t : Nat} {L : List Nat} : qd_up (x :: L) t ↔ x &&& t = x ∨ qd_up L t := by
  constructor
  · rintro ⟨y, hy, h⟩
    rcases List.mem_cons.mp hy with e | e
    · exact Or.inl (e ▸ h)
    · exact Or.inr ⟨y, e, h⟩
  · rintro (h | ⟨y, hy, h⟩)
    · exact ⟨x, List.mem_cons_self, h⟩
    · exact ⟨y, List.mem_cons_of_mem _ hy, h⟩
theorem qd_up_app {A B : List Nat} {t : Nat} : qd_up (A ++ B) t ↔ qd_up A t ∨ qd_up B t := by
  constructor
  · rintro ⟨y, hy, h⟩
    rcases List.mem_append.mp hy with e | e
    · exact Or.inl ⟨y, e, h⟩
    · exact Or.inr ⟨y, e, h⟩
  · rintro (⟨y, hy, h⟩ | ⟨y, hy, h⟩)
    · exact ⟨y, List.mem_append.mpr (Or.inl hy), h⟩
    · exact ⟨y, List.mem_append.mpr (Or.inr hy), h⟩
theorem qd_up_mono {L : List Nat} {s t : Nat} (h : qd_up L s) (g : s &&& t = s) : qd_up L t := by
  obtain ⟨x, hx, e⟩ := h
  exact ⟨x, hx, qd_tr e g⟩
theorem qd_ok_nil : qd_ok [] := ⟨fun _ h => absurd h List.not_mem_nil, List.Pairwise.nil⟩
theorem qd_ok_one {x : Nat} (h : x < 256) : qd_ok [x] := by
  refine ⟨fun y hy => ?_, List.pairwise_singleton _ _⟩
  rw [List.mem_singleton.mp hy]
  exact h
/-- gather: the set thrown in, those that it is part of thrown out -/
def qd_keep (s x : Nat) : Bool := !(s &&& x == s)
theorem qd_keep_t {s x : Nat} (h : ¬ s &&& x = s) : qd_keep s x = true := by
  unfold qd_keep
  rw [Bool.not_eq_true', beq_eq_false_iff_ne]
  exact h
theorem qd_keep_f {s x : Nat} (h : s &&& x = s) : qd_keep s x = false := by
  unfold qd_keep
  rw [Bool.not_eq_false', beq_iff_eq]
  exact h
theorem qd_keep_iff {s x : Nat} : qd_keep s x = true ↔ ¬ s &&& x = s := by
  constructor
  · intro h e
    rw [qd_keep_f e] at h
    exact absurd h (by decide)
  · exact qd_keep_t
theorem qd_gath_ok {L : List Nat} {s : Nat} (h : qd_ok L) (hs : s < 256) (hn : ∀ x ∈ L, ¬ x &&& s = x) : qd_ok (L.filter (qd_keep s) ++ [s]) := by
  refine ⟨fun x hx => ?_, List.pairwise_append.mpr ⟨h.2.filter _, List.pairwise_singleton _ _, fun a ha b hb => ?_⟩⟩
  · rcases List.mem_append.mp hx with e | e
    · exact h.1 x (List.mem_filter.mp e).1
    · rw [List.mem_singleton.mp e]
      exact hs
  · rw [List.mem_singleton.mp hb]
    obtain ⟨h1, h2⟩ := List.mem_filter.mp ha
    exact ⟨hn a h1, qd_keep_iff.mp h2⟩
theorem qd_gath_up {L : List Nat} {s t : Nat} : qd_up (L.filter (qd_keep s) ++ [s]) t ↔ qd_up L t ∨ s &&& t = s := by
  rw [qd_up_app]
  constructor
  · rintro (⟨x, hx, h⟩ | ⟨x, hx, h⟩)
    · exact Or.inl ⟨x, (List.mem_filter.mp hx).1, h⟩
    · rw [List.mem_singleton.mp hx] at h
      exact Or.inr h
  · rintro (⟨x, hx, h⟩ | h)
    · by_cases e : s &&& x = s
      · exact Or.inr ⟨s, List.mem_singleton.mpr rfl, qd_tr e h⟩
      · exact Or.inl ⟨x, List.mem_filter.mpr ⟨hx, qd_keep_t e⟩, h⟩
    · exact Or.inr ⟨s, List.mem_singleton.mpr rfl, h⟩
/-! an array holds a list from a place on -/
def qd_at (a : Nat → Int32) : Nat → List Nat → Prop
  | _, [] => True
  | o, x :: L => a o = nI x ∧ qd_at a (o + 1) L
theorem qd_at_keep {a b : Nat → Int32} : ∀ {L : List Nat} {o : Nat}, qd_at a o L → (∀ i, o ≤ i → i < o + L.length → b i = a i) → qd_at b o L
  | [], _, _, _ => trivial
  | x :: L, o, h, g => ⟨by rw [g o (Nat.le_refl o) (by simp only [List.length_cons]; omega)]; exact h.1, qd_at_keep h.2 (fun i h1 h2 => g i (by omega) (by simp only [List.length_cons]; omega))⟩
theorem qd_at_app {a : Nat → Int32} {B : List Nat} : ∀ {A : List Nat} {o : Nat}, qd_at a o (A ++ B) ↔ qd_at a o A ∧ qd_at a (o + A.length) B
  | [], o => ⟨fun h => ⟨trivial, h⟩, fun h => h.2⟩
  | x :: A, o => by
    have ih := @qd_at_app a B A (o + 1)
    have e : o + (x :: A).length = o + 1 + A.length := by simp only [List.length_cons]; omega
    rw [e]
    exact ⟨fun h => ⟨⟨h.1, (ih.mp h.2).1⟩, (ih.mp h.2).2⟩, fun h => ⟨h.1.1, ih.mpr ⟨h.1.2, h.2⟩⟩⟩
theorem qd_at_shift {a b : Nat → Int32} {q : Nat} : ∀ {L : List Nat} {o : Nat}, qd_at a o L → (∀ i, o ≤ i → i < o + L.length → b (q + i) = a i) → qd_at b (q + o) L
  | [], _, _, _ => trivial
  | x :: L, o, h, g => ⟨by rw [g o (Nat.le_refl o) (by simp only [List.length_cons]; omega)]; exact h.1, qd_at_shift (o := o + 1) h.2 (fun i h1 h2 => g i (by omega) (by simp only [List.length_cons]; omega))⟩
/-! thresholds: at least k of M -/
def qd_is (L : List Nat) (M k : Nat) : Prop := ∀ t, t < 256 → (qd_up L t ↔ k ≤ qd_pop (t &&& M))
theorem qd_sub_iff {M k s : Nat} : qd_sub M k s = true ↔ s &&& M = s ∧ qd_pop s = k := by
  unfold qd_sub
  rw [Bool.and_eq_true]
  exact ⟨fun h => ⟨Nat.eq_of_beq_eq_true h.1, Nat.eq_of_beq_eq_true h.2⟩, fun h => ⟨by rw [show Nat.land s M = s from h.1]; exact Nat.beq_refl s, by rw [h.2]; exact Nat.beq_refl k⟩⟩
theorem qd_mem_lt {L : List Nat} {x y : Nat} (h : qd_ok L) (hx : x ∈ L) (hy : y ∈ L) (e : x &&& y = x) : x = y := by
  have p : L.Pairwise (fun x y => ¬ x &&& y = x ∧ ¬ y &&& x = y) := h.2
  clear h
  induction L with
  | nil => exact absurd hx List.not_mem_nil
  | cons z L ih =>
    obtain ⟨p1, p2⟩ := List.pairwise_cons.mp p
    rcases List.mem_cons.mp hx with ex | ex
    · rcases List.mem_cons.mp hy with ey | ey
      · rw [ex, ey]
      · rw [ex] at e
        exact absurd e (p1 y ey).1
    · rcases List.mem_cons.mp hy with ey | ey
      · rw [ey] at e
        exact absurd e (p1 x ex).2
      · exact ih ex ey p2
/-- the members of a threshold's list are the sets of k machines in M -/
theorem qd_mem {L : List Nat} {M k : Nat} (h : qd_ok L) (hi : qd_is L M k) (hM : M < 256) (s : Nat) : s ∈ L ↔ s &&& M = s ∧ qd_pop s = k := by
  constructor
  · intro hs
    have h256 := h.1 s hs
    have up1 : k ≤ qd_pop (s &&& M) := (hi s h256).mp ⟨s, hs, Nat.and_self s⟩
    have hsM : s &&& M = s := by
      obtain ⟨x, hx, e⟩ := (hi (s &&& M) (qd_and_lt s hM)).mpr (by rw [qd_and_le]; exact up1)
      have e2 := qd_mem_lt h hx hs (qd_tr e (qd_and_le' s M))
      rw [e2] at e
      exact (qd_le_and.mp e).2
    rw [hsM] at up1
    refine ⟨hsM, ?_⟩
    rcases Nat.lt_or_ge k (qd_pop s) with g | g
    · obtain ⟨y, y1, y2⟩ := qd_sub_ex (k := k) h256 (by omega)
      obtain ⟨x, hx, e⟩ := (hi y (qd_lt_of y1 h256)).mpr (by rw [qd_tr y1 hsM]; omega)
      have e2 := qd_mem_lt h hx hs (qd_tr e y1)
      rw [e2] at e
      have := qd_pop_mono e
      omega
    · omega
  · rintro ⟨h1, h2⟩
    have h256 : s < 256 := qd_lt_of h1 hM
    obtain ⟨x, hx, e⟩ := (hi s h256).mpr (by rw [h1]; omega)
    have hk : k ≤ qd_pop (x &&& M) := (hi x (h.1 x hx)).mp ⟨x, hx, Nat.and_self x⟩
    rw [qd_tr e h1] at hk
    have e2 := qd_pop_eq e h256 (by omega)
    rw [← e2]
    exact hx
theorem qd_ok_nodup {L : List Nat} (h : qd_ok L) : L.Nodup :=
  h.2.imp (fun {a b} hab e => hab.1 (by rw [e, Nat.and_self]))
theorem qd_len {L : List Nat} {M k : Nat} (h : qd_ok L) (hi : qd_is L M k) (hM : M < 256) (hk : k ≤ qd_pop M) : L.length = qd_cb (qd_pop M) k 8 := by
  rw [← qd_cnt_eq hM hk, ← qd_cnt_filter]
  have m : ∀ s, s ∈ L ↔ s ∈ (List.range 256).filter (qd_sub M k) := by
    intro s
    rw [qd_mem h hi hM, List.mem_filter, qd_sub_iff, List.mem_range]
    exact ⟨fun g => ⟨qd_lt_of g.1 hM, g⟩, fun g => g.2⟩
  have n2 : ((List.range 256).filter (qd_sub M k)).Nodup := List.nodup_range.filter _
  exact Nat.le_antisymm ((qd_ok_nodup h).length_le_of_subset (fun s hs => (m s).mp hs)) (n2.length_le_of_subset (fun s hs => (m s).mpr hs))
/-- which sets meet all the least sets -/
theorem qd_hit {L : List Nat} {M k : Nat} (h : qd_ok L) (hi : qd_is L M k) (hM : M < 256) (s : Nat) : (∀ x ∈ L, ¬ x &&& s = 0) ↔ qd_pop M < k + qd_pop (s &&& M) := by
  obtain ⟨z, z1, z2, z3⟩ := qd_split (qd_and_le s M)
  have hp := qd_pop_split z1 z2
  constructor
  · intro g
    rcases Nat.lt_or_ge (qd_pop M) (k + qd_pop (s &&& M)) with c | c
    · exact c
    · obtain ⟨x, x1, x2⟩ := qd_sub_ex (s := z) (k := k) (qd_lt_of z3 hM) (by omega)
      have hx : x ∈ L := (qd_mem h hi hM x).mpr ⟨qd_tr x1 z3, x2⟩
      refine absurd ?_ (g x hx)
      rw [qd_and_z]
      rintro i ⟨i1, i2⟩
      have i3 := qd_le_iff.mp x1 i i1
      have i4 := qd_le_iff.mp z3 i i3
      exact qd_and_z.mp z2 i ⟨by rw [Nat.testBit_and, i2, i4]; rfl, i3⟩
  · intro g x hx e
    obtain ⟨x1, x2⟩ := (qd_mem h hi hM x).mp hx
    have hz : x &&& z = x := by
      rw [qd_le_iff]
      intro i i1
      have i2 := qd_le_iff.mp x1 i i1
      rw [← z1, Nat.testBit_or, Bool.or_eq_true, Nat.testBit_and, Bool.and_eq_true] at i2
      rcases i2 with i2 | i2
      · exact absurd ⟨i1, i2.1⟩ (qd_and_z.mp e i)
      · exact i2
    have := qd_pop_mono hz
    omega
/-- two families of the same machines meet -/
theorem qd_meets {A B : List Nat} {M c d : Nat} (hA : qd_ok A) (iA : qd_is A M c) (hB : qd_ok B) (iB : qd_is B M d) (hM : M < 256) (hd : d ≤ qd_pop M) : (∀ x ∈ A, ∀ y ∈ B, ¬ x &&& y = 0) ↔ qd_pop M < c + d := by
  constructor
  · intro g
    obtain ⟨y, y1, y2⟩ := qd_sub_ex hM hd
    have hy := (qd_mem hB iB hM y).mpr ⟨y1, y2⟩
    have := (qd_hit hA iA hM y).mp (fun x hx => g x hx y hy)
    rw [y1] at this
    omega
  · intro g x hx y hy
    obtain ⟨y1, y2⟩ := (qd_mem hB iB hM y).mp hy
    exact (qd_hit hA iA hM y).mpr (by rw [y1]; omega) x hx
/-- the least member, by number -/
theorem qd_least {L : List Nat} {n k : Nat} (h : qd_ok L) (hi : qd_is L (2 ^ n - 1) k) (hn : n ≤ 8) (hk : k ≤ n) : 2 ^ k - 1 ∈ L ∧ ∀ x ∈ L, 2 ^ k - 1 ≤ x := by
  have hM : 2 ^ n - 1 < 256 := by
    have : 2 ^ n ≤ 2 ^ 8 := Nat.pow_le_pow_right (by omega) hn
    omega
  constructor
  · refine (qd_mem h hi hM _).mpr ⟨?_, qd_pop_all k (by omega)⟩
    rw [qd_le_iff]
    intro i h1
    rw [Nat.testBit_two_pow_sub_one] at h1 ⊢
    have := of_decide_eq_true h1
    exact decide_eq_true (by omega)
  · intro x hx
    obtain ⟨x1, x2⟩ := (qd_mem h hi hM x).mp hx
    rw [← x2]
    exact qd_pop_min x (h.1 x hx)
theorem qd_is_max {A B L : List Nat} {M c d : Nat} (iA : qd_is A M c) (iB : qd_is B M d) (h : ∀ t, t < 256 → (qd_up L t ↔ qd_up A t ∧ qd_up B t)) : qd_is L M (max c d) := by
  intro t ht
  rw [h t ht, iA t ht, iB t ht]
  omega
theorem qd_is_min {A B L : List Nat} {M c d : Nat} (iA : qd_is A M c) (iB : qd_is B M d) (h : ∀ t, t < 256 → (qd_up L t ↔ qd_up A t ∨ qd_up B t)) : qd_is L M (min c d) := by
  intro t ht
  rw [h t ht, iA t ht, iB t ht]
  omega
theorem qd_is_dual {X L : List Nat} {M d : Nat} (hX : qd_ok X) (iX : qd_is X M d) (hM : M < 256) (hd : d ≤ qd_pop M) (h : ∀ t, t < 256 → (qd_up L t ↔ ∀ x ∈ X, ¬ x &&& t = 0)) : qd_is L M (qd_pop M - d + 1) := by
  intro t ht
  rw [h t ht, qd_hit hX iX hM t]
  omega
theorem qd_bool5 : ∀ t g m z : Bool, ((g && m) || z) = m → ((t || g) && m) = ((t && z) || (g && m)) := by decide
theorem qd_bool6 : ∀ t g m z : Bool, ((g && m) && z) = false → ((t && z) && (g && m)) = false := by decide
/-- what is left of a threshold when the machines g are given -/
theorem qd_is_given {X L : List Nat} {M e g z : Nat} (iX : qd_is X M e) (hg : g < 256) (z1 : (g &&& M) ||| z = M) (z2 : (g &&& M) &&& z = 0) (h : ∀ t, t < 256 → (qd_up L t ↔ qd_up X (t ||| g))) : qd_is L z (e - qd_pop (g &&& M)) := by
  intro t ht
  rw [h t ht, iX _ (qd_or_lt ht hg)]
  have e1 : (t ||| g) &&& M = (t &&& z) ||| (g &&& M) := by
    apply Nat.eq_of_testBit_eq
    intro i
    have hz : (((g &&& M) ||| z)).testBit i = M.testBit i := by rw [z1]
    rw [Nat.testBit_or, Nat.testBit_and] at hz
    rw [Nat.testBit_and, Nat.testBit_or, Nat.testBit_or, Nat.testBit_and, Nat.testBit_and]
    exact qd_bool5 _ _ _ _ hz
  have e2 : (t &&& z) &&& (g &&& M) = 0 := by
    apply Nat.eq_of_testBit_eq
    intro i
    have hz : ((g &&& M) &&& z).testBit i = (0 : Nat).testBit i := by rw [z2]
    rw [Nat.testBit_and, Nat.testBit_and, Nat.zero_testBit] at hz
    rw [Nat.testBit_and, Nat.testBit_and, Nat.testBit_and, Nat.zero_testBit]
    exact qd_bool6 _ _ _ _ hz
  have e3 := qd_pop_split e1.symm e2
  omega
/-- the list that atLeast makes -/
theorem qd_list_ok (M k n : Nat) (hn : n ≤ 256) : qd_ok ((List.range n).filter (qd_sub M k)) := by
  constructor
  · intro x hx
    have := List.mem_range.mp (List.mem_filter.mp hx).1
    omega
  · have p : ((List.range n).filter (qd_sub M k)).Pairwise (· < ·) := List.pairwise_lt_range.filter _
    refine p.imp_of_mem ?_
    intro a b ha hb hab
    have a1 := qd_sub_iff.mp (List.mem_filter.mp ha).2
    have b1 := qd_sub_iff.mp (List.mem_filter.mp hb).2
    have a2 := List.mem_range.mp (List.mem_filter.mp ha).1
    have b2 := List.mem_range.mp (List.mem_filter.mp hb).1
    constructor
    · intro e
      have := qd_pop_eq e (by omega) (by omega)
      omega
    · intro e
      have := qd_pop_eq e (by omega) (by omega)
      omega
theorem qd_list_is (M k : Nat) (hM : M < 256) : qd_is ((List.range 256).filter (qd_sub M k)) M k := by
  intro t ht
  constructor
  · rintro ⟨x, hx, e⟩
    have x1 := qd_sub_iff.mp (List.mem_filter.mp hx).2
    have := qd_pop_mono (qd_le_and.mpr ⟨e, x1.1⟩)
    omega
  · intro h
    obtain ⟨x, x1, x2⟩ := qd_sub_ex (qd_and_lt t hM) h
    have x3 := qd_le_and.mp x1
    exact ⟨x, List.mem_filter.mpr ⟨List.mem_range.mpr (qd_lt_of x3.2 hM), qd_sub_iff.mpr ⟨x3.2, x2⟩⟩, x3.1⟩
/-- the least size of a set that meets all -/
theorem qd_best {L : List Nat} {M k r : Nat} (h : qd_ok L) (hi : qd_is L M k) (hM : M < 256) (hk : k ≤ qd_pop M) (h1 : ∀ s, s < 256 → (∀ x ∈ L, ¬ x &&& s = 0) → r ≤ qd_pop s) (h2 : r = 9 ∨ ∃ s, s < 256 ∧ (∀ x ∈ L, ¬ x &&& s = 0) ∧ qd_pop s = r) : r = if k = 0 then 9 else qd_pop M - k + 1 := by
  have h8 := qd_pop_8 M hM
  by_cases k0 : k = 0
  · rw [if_pos k0]
    rcases h2 with e | ⟨s, _, hs, _⟩
    · exact e
    · have := (qd_hit h hi hM s).mp hs
      have := qd_pop_mono (qd_and_le s M)
      omega
  · rw [if_neg k0]
    obtain ⟨y, y1, y2⟩ := qd_sub_ex (k := qd_pop M - k + 1) hM (by omega)
    have g1 := h1 y (qd_lt_of y1 hM) ((qd_hit h hi hM y).mpr (by rw [y1]; omega))
    rcases h2 with e | ⟨s, _, hs, e⟩
    · omega
    · have g2 := (qd_hit h hi hM s).mp hs
      have g3 := qd_pop_mono (qd_and_le' s M)
      omega
end
section
/-! masks and shifts of ints (qd_sl, qd_su, qd_nand began as s_l, s_u, nx_and of laws/BITS.to-paste) -/
theorem qd_sl : ∀ n, n < 32 → ((nI n &&& 31).toBitVec.smod 32).toNat = n := by decide +kernel
theorem qd_su : ∀ n, n < 32 → (((nI n).toUInt32 &&& Int32.toUInt32 31).toBitVec % 32).toNat = n := by decide +kernel
theorem qd_nand (a b : Nat) : nI a &&& nI b = nI (a &&& b) := by
  apply Int32.toBitVec_inj.1
  show BitVec.ofNat 32 a &&& BitVec.ofNat 32 b = BitVec.ofNat 32 (a &&& b)
  apply BitVec.eq_of_getLsbD_eq
  intro i hi
  simp [hi]
theorem qd_nor (a b : Nat) : nI a ||| nI b = nI (a ||| b) := by
  apply Int32.toBitVec_inj.1
  show BitVec.ofNat 32 a ||| BitVec.ofNat 32 b = BitVec.ofNat 32 (a ||| b)
  apply BitVec.eq_of_getLsbD_eq
  intro i hi
  simp [hi]
/-- the low byte of an int -/
def qd_lo (p : Int32) : Nat := p.toBitVec.toNat % 256
theorem qd_lo_lt (p : Int32) : qd_lo p < 256 := Nat.mod_lt _ (by decide)
theorem qd_lo_nI {x : Nat} (h : x < 256) : qd_lo (nI x) = x := by
  unfold qd_lo
  rw [pk_tn (by omega)]
  exact Nat.mod_eq_of_lt h
theorem qd_hi {x i : Nat} (hx : x < 256) (hi : 8 ≤ i) : x.testBit i = false := by
  apply Nat.testBit_lt_two_pow
  have : 2 ^ 8 ≤ 2 ^ i := Nat.pow_le_pow_right (by omega) hi
  omega
theorem qd_bit8 {x i : Nat} (hx : x < 256) (h : x.testBit i = true) : i < 8 := by
  rcases Nat.lt_or_ge i 8 with g | g
  · exact g
  · rw [qd_hi hx g] at h
    exact absurd h (by decide)
theorem qd_255 (i : Nat) : (255 : Nat).testBit i = decide (i < 8) := Nat.testBit_two_pow_sub_one 8 i
theorem qd_of (p : Int32) : p = nI p.toBitVec.toNat := by
  apply Int32.toBitVec_inj.1
  apply BitVec.eq_of_toNat_eq
  rw [pk_tn p.toBitVec.isLt]
theorem qd_m1 : ∀ i, i < 32 → (-1 : Int32).toBitVec.getLsbD i = true := by decide +kernel
/-- a small mask without the bits of any int -/
theorem qd_andn {x : Nat} (hx : x < 256) (p : Int32) : nI x &&& (p ^^^ (-1)) = nI (x &&& (qd_lo p ^^^ 255)) := by
  apply Int32.toBitVec_inj.1
  apply BitVec.eq_of_getLsbD_eq
  intro i hi
  rw [Int32.toBitVec_and, BitVec.getLsbD_and, Int32.toBitVec_xor, BitVec.getLsbD_xor, qd_m1 i hi]
  show ((BitVec.ofNat 32 x).getLsbD i && (p.toBitVec.getLsbD i ^^ true)) = (BitVec.ofNat 32 (x &&& (qd_lo p ^^^ 255))).getLsbD i
  rw [BitVec.getLsbD_ofNat, BitVec.getLsbD_ofNat, Nat.testBit_and, Nat.testBit_xor, qd_255]
  have e : (qd_lo p).testBit i = (decide (i < 8) && p.toBitVec.getLsbD i) := by
    show (p.toBitVec.toNat % 2 ^ 8).testBit i = _
    rw [Nat.testBit_mod_two_pow]
    rfl
  rw [e]
  rcases Nat.lt_or_ge i 8 with g | g
  · rw [decide_eq_true g, decide_eq_true hi]
    simp
  · rw [qd_hi hx g]
    simp
theorem qd_notle {x y : Nat} (hx : x < 256) : x &&& (y ^^^ 255) = 0 ↔ x &&& y = x := by
  rw [qd_and_z, qd_le_iff]
  constructor
  · intro h i hi
    have h1 := h i
    rw [Nat.testBit_xor, qd_255, decide_eq_true (qd_bit8 hx hi), hi] at h1
    cases hy : y.testBit i
    · rw [hy] at h1
      exact absurd ⟨rfl, rfl⟩ h1
    · rfl
  · rintro h i ⟨h1, h2⟩
    rw [Nat.testBit_xor, qd_255, decide_eq_true (qd_bit8 hx h1), h i h1] at h2
    exact absurd h2 (by decide)
/-- is x part of p: as the code asks -/
theorem qd_part {x : Nat} (hx : x < 256) (p : Int32) : (nI x &&& (p ^^^ (-1))) = 0 ↔ x &&& qd_lo p = x := by
  rw [qd_andn hx, ← nI_0, nI_eq (by have := qd_and_lt' hx (qd_lo p ^^^ 255); omega) (by omega), qd_notle hx]
theorem qd_partN {x y : Nat} (hx : x < 256) (hy : y < 256) : (nI x &&& (nI y ^^^ (-1))) = 0 ↔ x &&& y = x := by
  rw [qd_part hx, qd_lo_nI hy]
theorem qd_disj {x y : Nat} (hx : x < 256) : (nI x &&& nI y) = 0 ↔ x &&& y = 0 := by
  rw [qd_nand, ← nI_0, nI_eq (by have := qd_and_lt' hx y; omega) (by omega)]
/-- the sets that hold x without g, and those that with g hold x -/
theorem qd_less {x g t : Nat} (hx : x < 256) : (x &&& (g ^^^ 255)) &&& t = x &&& (g ^^^ 255) ↔ x &&& (t ||| g) = x := by
  rw [qd_le_iff, qd_le_iff]
  constructor
  · intro h i hi
    rw [Nat.testBit_or]
    cases hg : g.testBit i
    · rw [h i (by rw [Nat.testBit_and, Nat.testBit_xor, qd_255, decide_eq_true (qd_bit8 hx hi), hi, hg]; rfl)]
      rfl
    · rw [Bool.or_true]
  · intro h i hi
    rw [Nat.testBit_and, Bool.and_eq_true, Nat.testBit_xor, qd_255] at hi
    have h1 := h i hi.1
    have h2 := hi.2
    rw [decide_eq_true (qd_bit8 hx hi.1)] at h2
    rw [Nat.testBit_or] at h1
    cases hg : g.testBit i
    · rw [hg, Bool.or_false] at h1
      exact h1
    · rw [hg] at h2
      exact absurd h2 (by decide)
/-- one bit, by '>>>' -/
theorem qd_bit {x m : Nat} (hx : x < 256) (hm : m < 8) : (((nI x).toUInt32 >>> ((nI m).toUInt32 &&& Int32.toUInt32 31)).toInt32) &&& 1 = nI (x.testBit m).toNat := by
  rw [pk_ushrN (by omega) (nI m) m (qd_su m (by omega)), Nat.toNat_testBit]
  have h1 : x / 2 ^ m ≤ x := Nat.div_le_self _ _
  exact pk_andN (by omega) 1 (by decide)
/-- one bit, by '>>' -/
theorem qd_sbit {x m : Nat} (hx : x < 256) (hm : m < 8) : (nI x >>> (nI m &&& 31)) &&& 1 = nI (x.testBit m).toNat := by
  rw [pk_shrN (by omega) (nI m &&& 31) m (qd_sl m (by omega)), Nat.toNat_testBit]
  have h1 : x / 2 ^ m ≤ x := Nat.div_le_self _ _
  exact pk_andN (by omega) 1 (by decide)
theorem qd_shl {m : Nat} (hm : m ≤ 8) : (1 : Int32) <<< (nI m &&& 31) = nI (2 ^ m) := by
  have h : 2 ^ m ≤ 2 ^ 8 := Nat.pow_le_pow_right (by omega) hm
  have e := pk_shlN (n := 1) (nI m &&& 31) m (qd_sl m (by omega)) (by omega)
  rw [Nat.one_mul] at e
  exact e
theorem qd_ones {m : Nat} (hm : m ≤ 8) : ((1 : Int32) <<< (nI m &&& 31)) - 1 = nI (2 ^ m - 1) := by
  rw [qd_shl hm]
  have : 0 < 2 ^ m := Nat.two_pow_pos m
  exact pk_sub (a := 2 ^ m) (b := 1) (by omega)
theorem qd_tbn (b : Bool) : nI b.toNat = 0 ↔ b = false := by
  cases b
  · exact ⟨fun _ => rfl, fun _ => rfl⟩
  · exact ⟨fun h => absurd h (by decide), fun h => absurd h (by decide)⟩
/-- any int under a small mask -/
theorem qd_andm (p : Int32) {M : Nat} (hM : M < 256) : p &&& nI M = nI (qd_lo p &&& M) := by
  have e : qd_lo p &&& M = p.toBitVec.toNat &&& M := by
    apply Nat.eq_of_testBit_eq
    intro i
    rw [Nat.testBit_and, Nat.testBit_and]
    cases hi : M.testBit i
    · rw [Bool.and_false, Bool.and_false]
    · rw [Bool.and_true, Bool.and_true]
      show (p.toBitVec.toNat % 2 ^ 8).testBit i = _
      rw [Nat.testBit_mod_two_pow, decide_eq_true (qd_bit8 hM hi), Bool.true_and]
  rw [e]
  have h := qd_nand p.toBitVec.toNat M
  rw [← qd_of p] at h
  exact h
end
section
/-! the state: families at their places, and the methods that only read -/
def qd_fam (a1 a2 : Nat → Int32) (f : Nat) (L : List Nat) : Prop := a1 f = nI L.length ∧ qd_at a2 (70 * f) L ∧ qd_ok L
theorem qd_ix (f j : Nat) : (70 : Int32) * nI f + nI j = nI (70 * f + j) := by
  rw [show (70 : Int32) = nI 70 from rfl, pk_mul, nI_add]
theorem qd_ixc {f j : Nat} (hf : f < 10) (hj : j < 71) : ((70 : Int32) * nI f + nI j).toNatClampNeg = 70 * f + j := by
  rw [qd_ix, nI_clamp (by omega)]
theorem qd_ixin {f j : Nat} (hf : f < 10) (hj : j < 70) : vp_in ((70 : Int32) * nI f + nI j) 700 := pk_in (70 * f + j) 700 (by omega) (qd_ix f j)
theorem qd_c1 {a1 : Nat → Int32} {f : Nat} {y : Int32} (hf : f < 10) (h : a1 f = y) : a1 (nI f).toNatClampNeg = y := by
  rw [nI_clamp (by omega)]
  exact h
theorem qd_dk {d k : Nat} (h : k < d) : (nI d - 1) - nI k = nI (d - 1 - k) := by
  rw [show (1 : Int32) = nI 1 from rfl, pk_sub (by omega), pk_sub (by omega)]
theorem qd_n1 {α : Type} {R : List α} {n : Nat} (h : R.length < n) : ∃ m, n = m + 1 := ⟨n - 1, by omega⟩
theorem qd_onesW {post : Int32 → Prop} {x : Nat} (hx : x < 256) (H : post (nI (qd_pop x))) : wpX_ones post () (nI x) :=
  pk_loop (fun n i (s : Int32) => wX_ones_4 post (nI x) n s (nI i)) (fun i s => s = nI (qd_popk i x)) 8 0 0 (by omega) nI_0.symm
    (fun n s h => pk_le 8 8 (fun _ => by rw [h]; exact H) (fun z => absurd z (by omega)))
    (fun n i s hi h hw => pk_le 8 i (fun z => absurd z (by omega)) (fun _ => nm_r (e' := nI (qd_popk (i + 1) x)) (by rw [h, qd_bit hx hi, nI_add]; rfl) (nm_r (nI_1 i) (hw _ rfl))))
theorem qd_isF {post : Int32 → Prop} {d k : Nat} {gat old : Int32} {a1 a2 a3 a4 : Nat → Int32} (hd : d ≤ 10) (hk : k < d) (H : post 1) : wpX_isFamily post (nI d, gat, old, a1, a2, a3, a4) (nI k) :=
  br_f (nI_pos (by omega)) (pk_le d k (fun z => absurd z (by omega)) (fun _ => H))
theorem qd_isN {post : Int32 → Prop} {d k : Nat} {gat old : Int32} {a1 a2 a3 a4 : Nat → Int32} (hd : d ≤ 10) (hk : d ≤ k) (hk2 : k ≤ 10) (H : post 0) : wpX_isFamily post (nI d, gat, old, a1, a2, a3, a4) (nI k) :=
  br_f (nI_pos (by omega)) (pk_le d k (fun _ => H) (fun z => absurd z (by omega)))
theorem qd_choose {post : Int32 → Prop} {n k : Nat} (hn : n ≤ 8) (hk : k ≤ n) (H : post (nI (qd_cb n k 8))) : wpL_choose post () (nI n) (nI k) :=
  pk_loop (fun f i (s : Int32) => wL_choose_4 post (nI n) (nI k) f s (nI i)) (fun i s => s = nI (qd_cb n k i)) 8 0 1 (by omega) rfl
    (fun f s h => pk_le 8 8 (fun _ => pk_le k n (fun _ => by rw [h]; exact H) (fun z => absurd z (by omega))) (fun z => absurd z (by omega)))
    (fun f i s hi h hw => pk_le 8 i (fun z => absurd z (by omega)) (fun _ => pk_le k i
      (fun z => nm_r (nI_1 i) (hw s (by rw [h]; show _ = nI (if i < k then _ else _); rw [if_neg (by omega)])))
      (fun z => ⟨by rw [nI_1]; exact nI_ne0 (by omega) (by omega), nm_r (e' := nI (qd_cb n k (i + 1))) (by
        have hb := qd_cb_le n hn k (by omega) i (by omega)
        have hm : qd_cb n k i * (n - i) ≤ 70 * 8 := Nat.mul_le_mul hb (by omega)
        rw [h, pk_sub (by omega), pk_mul, nI_1, pk_div (by omega) (by omega) (by omega)]
        show _ = nI (if i < k then _ else _)
        rw [if_pos z]) (nm_r (nI_1 i) (hw _ rfl))⟩)))
theorem qd_leastSets {post : Int32 → Prop} {d k : Nat} {gat old : Int32} {a1 a2 a3 a4 : Nat → Int32} {L : List Nat} (hd : d ≤ 10) (hk : k < d) (hf : qd_fam a1 a2 (d - 1 - k) L) (H : post (nI L.length)) : wpX_leastSets post (nI d, gat, old, a1, a2, a3, a4) (nI k) := by
  unfold wpX_leastSets
  dsimp only
  refine qd_isF hd hk (br_f (by decide) ⟨pk_in (d - 1 - k) 10 (by omega) (qd_dk hk), ?_⟩)
  rw [qd_dk hk, nI_clamp (by omega), hf.1]
  exact H
theorem qd_en22 {post : Int32 → Prop} {f N : Nat} {p dep gat old : Int32} {a1 a2 a3 a4 : Nat → Int32} (hf : f < 10) (hN : N ≤ 70) (e1 : a1 f = nI N) : ∀ (R : List Nat) (j n : Nat), R.length < n → j + R.length = N → qd_at a2 (70 * f + j) R → (∀ x ∈ R, x < 256) → ((∃ x, x ∈ R ∧ x &&& qd_lo p = x) → post 1) → ((∀ x ∈ R, ¬ x &&& qd_lo p = x) → post 0) → wX_enough_22 post p (nI f) dep gat old a1 a2 a3 a4 n (nI j)
  | [], j, n, hn, hj, h2, hx, H1, H0 => by
    obtain ⟨m, rfl⟩ := qd_n1 hn
    simp only [List.length_nil] at hj
    exact ⟨pk_in f 10 hf, pk_le N j (fun _ => H0 (fun x h => absurd h List.not_mem_nil)) (fun z => absurd z (by omega)) (qd_c1 hf e1)⟩
  | x :: R, j, n, hn, hj, h2, hx, H1, H0 => by
    obtain ⟨m, rfl⟩ := qd_n1 hn
    simp only [List.length_cons] at hn hj
    refine ⟨pk_in f 10 hf, pk_le N j (fun z => absurd z (by omega)) (fun _ => ⟨qd_ixin hf (by omega), ?_⟩) (qd_c1 hf e1)⟩
    rw [qd_ixc hf (by omega), h2.1]
    refine ek_if (qd_part (hx x List.mem_cons_self) p) (fun g => H1 ⟨x, List.mem_cons_self, g⟩) (fun g => nm_r (nI_1 j) (qd_en22 hf hN e1 R (j + 1) m (by omega) (by omega) h2.2 (fun y hy => hx y (List.mem_cons_of_mem _ hy)) (fun ⟨y, hy, gy⟩ => H1 ⟨y, List.mem_cons_of_mem _ hy, gy⟩) (fun ha => H0 (fun y hy => ?_))))
    rcases List.mem_cons.mp hy with e | e
    · rw [e]; exact g
    · exact ha y e
theorem qd_enough {post : Int32 → Prop} {d k : Nat} {p gat old : Int32} {a1 a2 a3 a4 : Nat → Int32} {L : List Nat} (hd : d ≤ 10) (hk : k < d) (hf : qd_fam a1 a2 (d - 1 - k) L) (H1 : qd_up L (qd_lo p) → post 1) (H0 : ¬ qd_up L (qd_lo p) → post 0) : wpX_enough post (nI d, gat, old, a1, a2, a3, a4) (nI k) p := by
  unfold wpX_enough
  dsimp only
  have hs := qd_sperner hf.2.2
  refine qd_isF hd hk (br_f (by decide) (nm_r (qd_dk hk) ⟨L.length + 1, ?_⟩))
  exact qd_en22 (by omega) hs hf.1 L 0 (L.length + 1) (by omega) (by omega) hf.2.1 hf.2.2.1 (fun ⟨x, hx, e⟩ => H1 ⟨x, hx, e⟩) (fun ha => H0 (fun ⟨x, hx, e⟩ => ha x hx e))
theorem qd_ma2 {post : Int32 → Prop} {f N s : Nat} {dep gat old : Int32} {a1 a2 a3 a4 : Nat → Int32} (hf : f < 10) (hN : N ≤ 70) (e1 : a1 f = nI N) : ∀ (R : List Nat) (j n : Nat), R.length < n → j + R.length = N → qd_at a2 (70 * f + j) R → (∀ x ∈ R, x < 256) → ((∃ x, x ∈ R ∧ x &&& s = 0) → post 0) → ((∀ x ∈ R, ¬ x &&& s = 0) → post 1) → wX_meetsAll_2 post (nI f) (nI s) dep gat old a1 a2 a3 a4 n (nI j)
  | [], j, n, hn, hj, h2, hx, H1, H0 => by
    obtain ⟨m, rfl⟩ := qd_n1 hn
    simp only [List.length_nil] at hj
    exact ⟨pk_in f 10 hf, pk_le N j (fun _ => H0 (fun x h => absurd h List.not_mem_nil)) (fun z => absurd z (by omega)) (qd_c1 hf e1)⟩
  | x :: R, j, n, hn, hj, h2, hx, H1, H0 => by
    obtain ⟨m, rfl⟩ := qd_n1 hn
    simp only [List.length_cons] at hn hj
    refine ⟨pk_in f 10 hf, pk_le N j (fun z => absurd z (by omega)) (fun _ => ⟨qd_ixin hf (by omega), ?_⟩) (qd_c1 hf e1)⟩
    rw [qd_ixc hf (by omega), h2.1]
    refine ek_if (qd_disj (hx x List.mem_cons_self)) (fun g => H1 ⟨x, List.mem_cons_self, g⟩) (fun g => nm_r (nI_1 j) (qd_ma2 hf hN e1 R (j + 1) m (by omega) (by omega) h2.2 (fun y hy => hx y (List.mem_cons_of_mem _ hy)) (fun ⟨y, hy, gy⟩ => H1 ⟨y, List.mem_cons_of_mem _ hy, gy⟩) (fun ha => H0 (fun y hy => ?_))))
    rcases List.mem_cons.mp hy with e | e
    · rw [e]; exact g
    · exact ha y e
theorem qd_meetsAll {post : Int32 → Prop} {f s : Nat} {dep gat old : Int32} {a1 a2 a3 a4 : Nat → Int32} {L : List Nat} (hf10 : f < 10) (hf : qd_fam a1 a2 f L) (H0 : ¬ (∀ x ∈ L, ¬ x &&& s = 0) → post 0) (H1 : (∀ x ∈ L, ¬ x &&& s = 0) → post 1) : wpX_meetsAll post (dep, gat, old, a1, a2, a3, a4) (nI f) (nI s) := by
  have hs := qd_sperner hf.2.2
  refine ⟨L.length + 1, ?_⟩
  exact qd_ma2 hf10 hs hf.1 L 0 (L.length + 1) (by omega) (by omega) hf.2.1 hf.2.2.1 (fun ⟨x, hx, e⟩ => H0 (fun ha => ha x hx e)) H1
theorem qd_withstand {post : Int32 → Prop} {d k : Nat} {gat old : Int32} {a1 a2 a3 a4 : Nat → Int32} {L : List Nat} (hd : d ≤ 10) (hk : k < d) (hf : qd_fam a1 a2 (d - 1 - k) L) (H : ∀ r : Nat, (∀ s, s < 256 → (∀ x ∈ L, ¬ x &&& s = 0) → r ≤ qd_pop s) → (r = 9 ∨ ∃ s, s < 256 ∧ (∀ x ∈ L, ¬ x &&& s = 0) ∧ qd_pop s = r) → post (nI r)) : wpX_withstand post (nI d, gat, old, a1, a2, a3, a4) (nI k) := by
  unfold wpX_withstand
  dsimp only
  refine qd_isF hd hk (br_f (by decide) (nm_r (qd_dk hk) ?_))
  refine pk_loop (fun n i (b : Nat) => wX_withstand_25 post (nI (d - 1 - k)) (nI d) gat old a1 a2 a3 a4 n (nI b) (nI i)) (fun i b => b ≤ 9 ∧ (∀ s, s < i → (∀ x ∈ L, ¬ x &&& s = 0) → b ≤ qd_pop s) ∧ (b = 9 ∨ ∃ s, s < 256 ∧ (∀ x ∈ L, ¬ x &&& s = 0) ∧ qd_pop s = b)) 256 0 9 (by omega) ⟨by omega, fun s hs => absurd hs (by omega), Or.inl rfl⟩ ?_ ?_
  · intro n b h
    exact pk_le 256 256 (fun _ => H b h.2.1 h.2.2) (fun z => absurd z (by omega))
  · intro n i b hi h hw
    have h8 := qd_pop_8 i hi
    obtain ⟨h1, h2, h3⟩ := h
    refine pk_le 256 i (fun z => absurd z (by omega)) (fun _ => qd_onesW hi (pk_le b (qd_pop i) (fun z => nm_r (nI_1 i) (hw b ⟨h1, ?_, h3⟩)) (fun z => qd_meetsAll (by omega) hf (fun g => br_t rfl (nm_r (nI_1 i) (hw b ⟨h1, ?_, h3⟩))) (fun g => br_f (by decide) (nm_r (nI_1 i) (hw (qd_pop i) ⟨by omega, ?_, Or.inr ⟨i, hi, g, rfl⟩⟩))))))
    · intro s hs hh
      rcases Nat.lt_or_ge s i with c | c
      · exact h2 s c hh
      · have e : s = i := by omega
        rw [e]; exact z
    · intro s hs hh
      rcases Nat.lt_or_ge s i with c | c
      · exact h2 s c hh
      · have e : s = i := by omega
        rw [e] at hh
        exact absurd hh g
    · intro s hs hh
      rcases Nat.lt_or_ge s i with c | c
      · have := h2 s c hh
        omega
      · have e : s = i := by omega
        rw [e]; exact Nat.le_refl _
theorem qd_me54 {post J : Int32 → Prop} {a b i N x : Nat} {dep gat old : Int32} {a1 a2 a3 a4 : Nat → Int32} (ha : a < 10) (hb : b < 10) (hi : i < 70) (hN : N ≤ 70) (e1 : a1 b = nI N) (ex : a2 (70 * a + i) = nI x) (hx : x < 256) : ∀ (R : List Nat) (j n : Nat), R.length < n → j + R.length = N → qd_at a2 (70 * b + j) R → ((∃ y, y ∈ R ∧ x &&& y = 0) → post 0) → ((∀ y ∈ R, ¬ x &&& y = 0) → J (nI (i + 1))) → wX_meet_54 post J (nI a) (nI b) (nI i) dep gat old a1 a2 a3 a4 n (nI j)
  | [], j, n, hn, hj, h2, H1, H0 => by
    obtain ⟨m, rfl⟩ := qd_n1 hn
    simp only [List.length_nil] at hj
    exact ⟨pk_in b 10 hb, pk_le N j (fun _ => nm_r (nI_1 i) (H0 (fun x h => absurd h List.not_mem_nil))) (fun z => absurd z (by omega)) (qd_c1 hb e1)⟩
  | y :: R, j, n, hn, hj, h2, H1, H0 => by
    obtain ⟨m, rfl⟩ := qd_n1 hn
    simp only [List.length_cons] at hn hj
    refine ⟨pk_in b 10 hb, pk_le N j (fun z => absurd z (by omega)) (fun _ => ⟨qd_ixin ha hi, qd_ixin hb (by omega), ?_⟩) (qd_c1 hb e1)⟩
    rw [qd_ixc ha (by omega), qd_ixc hb (by omega), h2.1, ex]
    refine ek_if (qd_disj hx) (fun g => H1 ⟨y, List.mem_cons_self, g⟩) (fun g => nm_r (nI_1 j) (qd_me54 ha hb hi hN e1 ex hx R (j + 1) m (by omega) (by omega) h2.2 (fun ⟨y, hy, gy⟩ => H1 ⟨y, List.mem_cons_of_mem _ hy, gy⟩) (fun hg => H0 (fun y hy => ?_))))
    rcases List.mem_cons.mp hy with e | e
    · rw [e]; exact g
    · exact hg y e
theorem qd_me40 {post : Int32 → Prop} {a b N : Nat} {B : List Nat} {dep gat old : Int32} {a1 a2 a3 a4 : Nat → Int32} (ha : a < 10) (hb : b < 10) (hN : N ≤ 70) (e1 : a1 a = nI N) (hB : qd_fam a1 a2 b B) : ∀ (R : List Nat) (i n : Nat), R.length < n → i + R.length = N → qd_at a2 (70 * a + i) R → (∀ x ∈ R, x < 256) → (¬ (∀ x ∈ R, ∀ y ∈ B, ¬ x &&& y = 0) → post 0) → ((∀ x ∈ R, ∀ y ∈ B, ¬ x &&& y = 0) → post 1) → wX_meet_40 post (nI a) (nI b) dep gat old a1 a2 a3 a4 n (nI i)
  | [], j, n, hn, hj, h2, hx, H1, H0 => by
    obtain ⟨m, rfl⟩ := qd_n1 hn
    simp only [List.length_nil] at hj
    exact ⟨pk_in a 10 ha, pk_le N j (fun _ => H0 (fun x h => absurd h List.not_mem_nil)) (fun z => absurd z (by omega)) (qd_c1 ha e1)⟩
  | x :: R, i, n, hn, hj, h2, hx, H1, H0 => by
    obtain ⟨m, rfl⟩ := qd_n1 hn
    simp only [List.length_cons] at hn hj
    have hs := qd_sperner hB.2.2
    refine ⟨pk_in a 10 ha, pk_le N i (fun z => absurd z (by omega)) (fun _ => ⟨B.length + 1, ?_⟩) (qd_c1 ha e1)⟩
    refine qd_me54 ha hb (by omega) hs hB.1 h2.1 (hx x List.mem_cons_self) B 0 (B.length + 1) (by omega) (by omega) hB.2.1 (fun ⟨y, hy, e⟩ => H1 (fun g => g x List.mem_cons_self y hy e)) (fun g => ?_)
    refine qd_me40 ha hb hN e1 hB R (i + 1) m (by omega) (by omega) h2.2 (fun y hy => hx y (List.mem_cons_of_mem _ hy)) (fun c => H1 (fun g2 => c (fun y hy => g2 y (List.mem_cons_of_mem _ hy)))) (fun c => H0 (fun y hy => ?_))
    rcases List.mem_cons.mp hy with e | e
    · rw [e]; exact g
    · exact c y e
theorem qd_meet {post : Int32 → Prop} {d k l : Nat} {gat old : Int32} {a1 a2 a3 a4 : Nat → Int32} {A B : List Nat} (hd : d ≤ 10) (hk : k < d) (hl : l < d) (hA : qd_fam a1 a2 (d - 1 - k) A) (hB : qd_fam a1 a2 (d - 1 - l) B) (H0 : ¬ (∀ x ∈ A, ∀ y ∈ B, ¬ x &&& y = 0) → post 0) (H1 : (∀ x ∈ A, ∀ y ∈ B, ¬ x &&& y = 0) → post 1) : wpX_meet post (nI d, gat, old, a1, a2, a3, a4) (nI k) (nI l) := by
  unfold wpX_meet
  dsimp only
  have hs := qd_sperner hA.2.2
  refine qd_isF hd hk (br_f (by decide) (qd_isF hd hl (br_f (by decide) (nm_r (qd_dk hk) (nm_r (qd_dk hl) ⟨A.length + 1, ?_⟩)))))
  exact qd_me40 (by omega) (by omega) hs hA.1 hB A 0 (A.length + 1) (by omega) (by omega) hA.2.1 hA.2.2.1 H0 H1
theorem qd_ls60 {post J : Int32 → Prop} {f i N x : Nat} {dep gat old : Int32} {a1 a2 a3 a4 : Nat → Int32} (hf : f < 10) (hi : i < 70) (hN : N ≤ 70) (e1 : a1 f = nI N) (ex : a2 (70 * f + i) = nI x) (hx : x < 256) : ∀ (R : List Nat) (j n c : Nat), R.length < n → j + R.length = N → c ≤ j → qd_at a2 (70 * f + j) R → (∀ y ∈ R, y < 256) → (c = 0 → (∀ y ∈ R, x ≤ y) → post (nI x)) → ((0 < c ∨ ∃ y, y ∈ R ∧ y < x) → J (nI (i + 1))) → wX_leastSet_60 post J 0 (nI f) (nI i) dep gat old a1 a2 a3 a4 n (nI c) (nI j)
  | [], j, n, c, hn, hj, hc, h2, hy, H1, H0 => by
    obtain ⟨m, rfl⟩ := qd_n1 hn
    simp only [List.length_nil] at hj
    refine ⟨pk_in f 10 hf, pk_le N j (fun _ => pk_eq c 0 (fun e => ⟨qd_ixin hf hi, ?_⟩) (fun e => nm_r (nI_1 i) (H0 (Or.inl (by omega))))) (fun z => absurd z (by omega)) (qd_c1 hf e1)⟩
    rw [qd_ixc hf (by omega), ex]
    exact H1 e (fun y h => absurd h List.not_mem_nil)
  | y :: R, j, n, c, hn, hj, hc, h2, hy, H1, H0 => by
    obtain ⟨m, rfl⟩ := qd_n1 hn
    simp only [List.length_cons] at hn hj
    refine ⟨pk_in f 10 hf, pk_le N j (fun z => absurd z (by omega)) (fun _ => ⟨qd_ixin hf (by omega), qd_ixin hf hi, ?_⟩) (qd_c1 hf e1)⟩
    rw [qd_ixc hf (by omega), qd_ixc hf (by omega), h2.1, ex]
    have hy1 := hy y List.mem_cons_self
    refine pk_le x y (fun g => nm_r (e' := nI c) (Int32.add_zero _) (nm_r (nI_1 j) (qd_ls60 hf hi hN e1 ex hx R (j + 1) m c (by omega) (by omega) (by omega) h2.2 (fun y hz => hy y (List.mem_cons_of_mem _ hz)) (fun c0 ha => H1 c0 (fun z hz => ?_)) (fun ha => H0 (ha.imp id (fun ⟨z, hz, e⟩ => ⟨z, List.mem_cons_of_mem _ hz, e⟩)))))) (fun g => nm_r (nI_1 c) (nm_r (nI_1 j) (qd_ls60 hf hi hN e1 ex hx R (j + 1) m (c + 1) (by omega) (by omega) (by omega) h2.2 (fun y hz => hy y (List.mem_cons_of_mem _ hz)) (fun c0 => absurd c0 (by omega)) (fun _ => H0 (Or.inr ⟨y, List.mem_cons_self, g⟩)))))
    rcases List.mem_cons.mp hz with e | e
    · rw [e]; exact g
    · exact ha z e
theorem qd_ls43 {post : Int32 → Prop} {f v : Nat} {L : List Nat} {dep gat old : Int32} {a1 a2 a3 a4 : Nat → Int32} (hf : f < 10) (hL : qd_fam a1 a2 f L) (hv : v ∈ L) (hm : ∀ y ∈ L, v ≤ y) (H : post (nI v)) : ∀ (R : List Nat) (i n : Nat), R.length < n → i + R.length = L.length → qd_at a2 (70 * f + i) R → (∀ x ∈ R, x ∈ L) → v ∈ R → wX_leastSet_43 post 0 (nI f) dep gat old a1 a2 a3 a4 n (nI i)
  | [], i, n, hn, hj, h2, hR, hvR => absurd hvR List.not_mem_nil
  | x :: R, i, n, hn, hj, h2, hR, hvR => by
    obtain ⟨m, rfl⟩ := qd_n1 hn
    simp only [List.length_cons] at hn hj
    have hs := qd_sperner hL.2.2
    refine ⟨pk_in f 10 hf, pk_le L.length i (fun z => absurd z (by omega)) (fun _ => ⟨L.length + 1, ?_⟩) (qd_c1 hf hL.1)⟩
    refine qd_ls60 hf (by omega) hs hL.1 h2.1 (hL.2.2.1 x (hR x List.mem_cons_self)) L 0 (L.length + 1) 0 (by omega) (by omega) (by omega) hL.2.1 hL.2.2.1 (fun _ g => ?_) (fun g => ?_)
    · have e : x = v := Nat.le_antisymm (g v hv) (hm x (hR x List.mem_cons_self))
      rw [e]
      exact H
    · refine qd_ls43 hf hL hv hm H R (i + 1) m (by omega) (by omega) h2.2 (fun y hy => hR y (List.mem_cons_of_mem _ hy)) ?_
      rcases List.mem_cons.mp hvR with e | e
      · rcases g with g | ⟨y, hy, g⟩
        · omega
        · have := hm y hy
          omega
      · exact e
theorem qd_leastSet {post : Int32 → Prop} {d k v : Nat} {gat old : Int32} {a1 a2 a3 a4 : Nat → Int32} {L : List Nat} (hd : d ≤ 10) (hk : k < d) (hf : qd_fam a1 a2 (d - 1 - k) L) (hv : v ∈ L) (hm : ∀ y ∈ L, v ≤ y) (H : post (nI v)) : wpX_leastSet post (nI d, gat, old, a1, a2, a3, a4) (nI k) 0 := by
  unfold wpX_leastSet
  dsimp only
  have hs := qd_sperner hf.2.2
  have h0 : 0 < L.length := List.length_pos_of_mem hv
  refine qd_isF hd hk (br_f (by decide) (br_f (by decide) ⟨pk_in (d - 1 - k) 10 (by omega) (qd_dk hk), pk_lt 0 L.length (fun _ => nm_r (qd_dk hk) ⟨L.length + 1, ?_⟩) (fun z => absurd z (by omega)) rfl ?_⟩))
  · exact qd_ls43 (by omega) hf hv hm H L 0 (L.length + 1) (by omega) (by omega) hf.2.1 (fun x hx => hx) hv
  · rw [qd_dk hk, nI_clamp (by omega)]
    exact hf.1
end
section
/-! gathering -/
theorem qd_g34 {post : St2 → Prop} {s N : Nat} {dep old : Int32} {a1 a2 a4 : Nat → Int32} (hs : s < 256) (hN : N ≤ 70) : ∀ (R K : List Nat) (j n : Nat) (a3 : Nat → Int32), R.length < n → K.length ≤ j → j + R.length = N → qd_at a3 0 K → qd_at a3 j R → (∀ x ∈ R, x < 256) → (∀ a3', qd_at a3' 0 (K ++ R.filter (qd_keep s) ++ [s]) → post (dep, nI (K ++ R.filter (qd_keep s) ++ [s]).length, old, a1, a2, a3', a4)) → wX_gather_34 post (nI s) dep (nI N) old n (nI K.length) (nI j) a1 a2 a3 a4
  | [], K, j, n, a3, hn, hk, hj, h3, hr, hx, H => by
    obtain ⟨m, rfl⟩ := qd_n1 hn
    simp only [List.length_nil] at hj
    rw [List.filter_nil, List.append_nil, List.length_append] at H
    refine pk_le N j (fun _ => ⟨pk_in K.length 71 (by omega), nm_r (by rw [nI_clamp (by omega)]) (nm_r (nI_1 K.length) (H _ ?_))⟩) (fun z => absurd z (by omega))
    refine qd_at_app.mpr ⟨qd_at_keep h3 (fun i _ h => pk_un (by omega)), ?_, trivial⟩
    rw [Nat.zero_add]
    exact pk_us
  | x :: R, K, j, n, a3, hn, hk, hj, h3, hr, hx, H => by
    obtain ⟨m, rfl⟩ := qd_n1 hn
    simp only [List.length_cons] at hn hj
    refine pk_le N j (fun z => absurd z (by omega)) (fun _ => ⟨pk_in j 71 (by omega), ?_⟩)
    rw [nI_clamp (show j < 2 ^ 31 by omega), nI_clamp (show K.length < 2 ^ 31 by omega), hr.1]
    refine ek_if (qd_partN hs (hx x List.mem_cons_self)) (fun g => nm_r (nI_1 j) ?_) (fun g => ⟨pk_in j 71 (by omega), pk_in K.length 71 (by omega), nm_e (nm_r (nI_1 K.length) (nm_r (nI_1 j) ?_))⟩)
    · rw [List.filter_cons_of_neg (by rw [qd_keep_f g]; decide)] at H
      exact qd_g34 hs hN R K (j + 1) m a3 (by omega) (by omega) (by omega) h3 hr.2 (fun y hy => hx y (List.mem_cons_of_mem _ hy)) H
    · rw [List.filter_cons_of_pos (qd_keep_t g)] at H
      have e : K ++ x :: R.filter (qd_keep s) ++ [s] = (K ++ [x]) ++ R.filter (qd_keep s) ++ [s] := by simp
      rw [e] at H
      have t := qd_g34 (dep := dep) (old := old) (a1 := a1) (a2 := a2) (a4 := a4) hs hN R (K ++ [x]) (j + 1) m (upd a3 K.length (nI x)) (by omega) (by simp only [List.length_append, List.length_cons, List.length_nil]; omega) (by omega) (qd_at_app.mpr ⟨qd_at_keep h3 (fun i _ h => pk_un (by omega)), by rw [Nat.zero_add]; exact pk_us, trivial⟩) (qd_at_keep hr.2 (fun i h _ => pk_un (by omega))) (fun y hy => hx y (List.mem_cons_of_mem _ hy)) H
      rw [List.length_append] at t
      exact t
theorem qd_g2 {post : St2 → Prop} {s N : Nat} {dep old : Int32} {a1 a2 a3 a4 : Nat → Int32} (hs : s < 256) (hN : N ≤ 70) : ∀ (R : List Nat) (j n : Nat), R.length < n → j + R.length = N → qd_at a3 j R → (∀ x ∈ R, x < 256) → ((∃ x, x ∈ R ∧ x &&& s = x) → post (dep, nI N, old, a1, a2, a3, a4)) → ((∀ x ∈ R, ¬ x &&& s = x) → ∃ fu, wX_gather_34 post (nI s) dep (nI N) old fu 0 0 a1 a2 a3 a4) → wX_gather_2 post (nI s) dep (nI N) old a1 a2 a3 a4 n (nI j)
  | [], j, n, hn, hj, h3, hx, H1, H0 => by
    obtain ⟨m, rfl⟩ := qd_n1 hn
    simp only [List.length_nil] at hj
    exact pk_le N j (fun _ => H0 (fun x h => absurd h List.not_mem_nil)) (fun z => absurd z (by omega))
  | x :: R, j, n, hn, hj, h3, hx, H1, H0 => by
    obtain ⟨m, rfl⟩ := qd_n1 hn
    simp only [List.length_cons] at hn hj
    refine pk_le N j (fun z => absurd z (by omega)) (fun _ => ⟨pk_in j 71 (by omega), ?_⟩)
    rw [nI_clamp (show j < 2 ^ 31 by omega), h3.1]
    refine ek_if (qd_partN (hx x List.mem_cons_self) hs) (fun g => H1 ⟨x, List.mem_cons_self, g⟩) (fun g => nm_r (nI_1 j) (qd_g2 hs hN R (j + 1) m (by omega) (by omega) h3.2 (fun y hy => hx y (List.mem_cons_of_mem _ hy)) (fun ⟨y, hy, gy⟩ => H1 ⟨y, List.mem_cons_of_mem _ hy, gy⟩) (fun ha => H0 (fun y hy => ?_))))
    rcases List.mem_cons.mp hy with e | e
    · rw [e]; exact g
    · exact ha y e
theorem qd_gather {post : St2 → Prop} {L : List Nat} {s : Nat} {dep old : Int32} {a1 a2 a3 a4 : Nat → Int32} (hL : qd_ok L) (h3 : qd_at a3 0 L) (hs : s < 256) (H : ∀ (L' : List Nat) (a3' : Nat → Int32), qd_ok L' → qd_at a3' 0 L' → (∀ t, qd_up L' t ↔ qd_up L t ∨ s &&& t = s) → post (dep, nI L'.length, old, a1, a2, a3', a4)) : wpX_gather post (dep, nI L.length, old, a1, a2, a3, a4) (nI s) := by
  have hp := qd_sperner hL
  refine ⟨L.length + 1, qd_g2 hs hp L 0 (L.length + 1) (by omega) (by omega) h3 hL.1 (fun ⟨x, hx, e⟩ => H L a3 hL h3 (fun t => ⟨Or.inl, fun g => g.elim id (fun g => ⟨x, hx, qd_tr e g⟩)⟩)) (fun hn => ⟨L.length + 1, ?_⟩)⟩
  exact qd_g34 (K := []) hs hp L 0 (L.length + 1) a3 (by omega) (by simp) (by omega) trivial h3 hL.1 (fun a3' h => H _ a3' (qd_gath_ok hL hs hn) h (fun t => qd_gath_up))
theorem qd_gu2 {post : St2 → Prop} {s b : Nat} {B : List Nat} {dep old : Int32} {a1 a2 a4 : Nat → Int32} (hs : s < 256) (hb : b < 10) (hB : qd_fam a1 a2 b B) : ∀ (R : List Nat) (j n : Nat) (L : List Nat) (a3 : Nat → Int32), R.length < n → j + R.length = B.length → qd_at a2 (70 * b + j) R → (∀ x ∈ R, x < 256) → qd_ok L → qd_at a3 0 L → (∀ (L' : List Nat) (a3' : Nat → Int32), qd_ok L' → qd_at a3' 0 L' → (∀ t, qd_up L' t ↔ qd_up L t ∨ (s &&& t = s ∧ qd_up R t)) → post (dep, nI L'.length, old, a1, a2, a3', a4)) → wX_gatherUnions_2 post (nI s) (nI b) n (nI j) dep (nI L.length) old a1 a2 a3 a4
  | [], j, n, L, a3, hn, hj, h2, hx, hL, h3, H => by
    obtain ⟨m, rfl⟩ := qd_n1 hn
    simp only [List.length_nil] at hj
    exact ⟨pk_in b 10 hb, pk_le B.length j (fun _ => H L a3 hL h3 (fun t => ⟨Or.inl, fun g => g.elim id (fun g => absurd g.2 (qd_up_nil t))⟩)) (fun z => absurd z (by omega)) (qd_c1 hb hB.1) rfl (by have := qd_sperner hB.2.2; omega) (by have := qd_sperner hB.2.2; omega)⟩
  | x :: R, j, n, L, a3, hn, hj, h2, hx, hL, h3, H => by
    obtain ⟨m, rfl⟩ := qd_n1 hn
    simp only [List.length_cons] at hn hj
    have hsp := qd_sperner hB.2.2
    have hx1 := hx x List.mem_cons_self
    refine ⟨pk_in b 10 hb, pk_le B.length j (fun z => absurd z (by omega)) (fun _ => ⟨qd_ixin hb (by omega), ?_⟩) (qd_c1 hb hB.1)⟩
    rw [qd_ixc hb (by omega), h2.1, qd_nor]
    refine qd_gather hL h3 (qd_or_lt hs hx1) (fun L' a3' k1 k2 k3 => nm_r (nI_1 j) ?_)
    refine qd_gu2 hs hb hB R (j + 1) m L' a3' (by omega) (by omega) h2.2 (fun y hy => hx y (List.mem_cons_of_mem _ hy)) k1 k2 (fun L2 b3 q1 q2 q3 => H L2 b3 q1 q2 (fun t => ?_))
    rw [q3 t, k3 t, qd_or_le, qd_up_cons]
    constructor
    · rintro ((g | g) | g)
      · exact Or.inl g
      · exact Or.inr ⟨g.1, Or.inl g.2⟩
      · exact Or.inr ⟨g.1, Or.inr g.2⟩
    · rintro (g | ⟨g1, g2 | g2⟩)
      · exact Or.inl (Or.inl g)
      · exact Or.inl (Or.inr ⟨g1, g2⟩)
      · exact Or.inr ⟨g1, g2⟩
theorem qd_gatherUnions {post : St2 → Prop} {s b : Nat} {B L : List Nat} {dep old : Int32} {a1 a2 a3 a4 : Nat → Int32} (hs : s < 256) (hb : b < 10) (hB : qd_fam a1 a2 b B) (hL : qd_ok L) (h3 : qd_at a3 0 L) (H : ∀ (L' : List Nat) (a3' : Nat → Int32), qd_ok L' → qd_at a3' 0 L' → (∀ t, qd_up L' t ↔ qd_up L t ∨ (s &&& t = s ∧ qd_up B t)) → post (dep, nI L'.length, old, a1, a2, a3', a4)) : wpX_gatherUnions post (dep, nI L.length, old, a1, a2, a3, a4) (nI s) (nI b) :=
  ⟨B.length + 1, qd_gu2 hs hb hB B 0 (B.length + 1) L a3 (by omega) (by omega) hB.2.1 hB.2.2.1 hL h3 H⟩
theorem qd_ko10 {post : St2 → Prop} {N : Nat} {dep old : Int32} {a1 a2 a3 : Nat → Int32} (hN : N ≤ 70) : ∀ (R K : List Nat) (n : Nat) (a4 : Nat → Int32), R.length < n → K.length + R.length = N → qd_at a3 K.length R → qd_at a4 0 K → (∀ a4', qd_at a4' 0 (K ++ R) → post (dep, 0, old, a1, a2, a3, a4')) → wX_keepOlder_10 post dep (nI N) old n (nI K.length) a1 a2 a3 a4
  | [], K, n, a4, hn, hj, h3, h4, H => by
    obtain ⟨m, rfl⟩ := qd_n1 hn
    simp only [List.length_nil] at hj
    rw [List.append_nil] at H
    exact pk_le N K.length (fun _ => H a4 h4) (fun z => absurd z (by omega))
  | x :: R, K, n, a4, hn, hj, h3, h4, H => by
    obtain ⟨m, rfl⟩ := qd_n1 hn
    simp only [List.length_cons] at hn hj
    have e : K ++ x :: R = (K ++ [x]) ++ R := by simp
    rw [e] at H
    have t := qd_ko10 (dep := dep) (old := old) (a1 := a1) (a2 := a2) (a3 := a3) hN R (K ++ [x]) m (upd a4 K.length (nI x)) (by omega) (by simp only [List.length_append, List.length_cons, List.length_nil]; omega) (by rw [List.length_append]; exact h3.2) (qd_at_app.mpr ⟨qd_at_keep h4 (fun i _ h => pk_un (by omega)), by rw [Nat.zero_add]; exact pk_us, trivial⟩) H
    rw [List.length_append] at t
    exact pk_le N K.length (fun z => absurd z (by omega)) (fun _ => ⟨pk_in K.length 71 (by omega), pk_in K.length 71 (by omega), nm_r (by rw [nI_clamp (by omega), h3.1]) (nm_r (nI_1 K.length) t)⟩)
theorem qd_keepOlder {post : St2 → Prop} {L : List Nat} {dep old : Int32} {a1 a2 a3 a4 : Nat → Int32} (hL : qd_ok L) (h3 : qd_at a3 0 L) (H : ∀ a4', qd_at a4' 0 L → post (dep, 0, nI L.length, a1, a2, a3, a4')) : wpX_keepOlder post (dep, nI L.length, old, a1, a2, a3, a4) :=
  ⟨L.length + 1, qd_ko10 (K := []) (qd_sperner hL) L (L.length + 1) a4 (by omega) (by simp) h3 trivial H⟩
/-! hits -/
theorem qd_two {m t : Nat} : (2 ^ m) &&& t = 2 ^ m ↔ t.testBit m = true := by
  rw [qd_le_iff]
  constructor
  · intro h
    exact h m Nat.testBit_two_pow_self
  · intro h i hi
    rw [Nat.testBit_two_pow, decide_eq_true_eq] at hi
    rw [← hi]
    exact h
theorem qd_gh14 {post : St2 → Prop} {o x : Nat} {dep old : Int32} {a1 a2 a3 a4 : Nat → Int32} {L : List Nat} (ho : o < 256) (hx : x < 256) (hL : qd_ok L) (h3 : qd_at a3 0 L) (H : ∀ (L' : List Nat) (a3' : Nat → Int32), qd_ok L' → qd_at a3' 0 L' → (∀ t, qd_up L' t ↔ qd_up L t ∨ (o &&& t = o ∧ ∃ m, m < 8 ∧ x.testBit m = true ∧ t.testBit m = true)) → post (dep, nI L'.length, old, a1, a2, a3', a4)) : ∃ n, wX_gatherHits_14 post (nI o) (nI x) n 0 dep (nI L.length) old a1 a2 a3 a4 := by
  refine pk_loop (σ := List Nat × (Nat → Int32)) (fun n i s => wX_gatherHits_14 post (nI o) (nI x) n (nI i) dep (nI s.1.length) old a1 a2 s.2 a4) (fun i s => qd_ok s.1 ∧ qd_at s.2 0 s.1 ∧ ∀ t, qd_up s.1 t ↔ qd_up L t ∨ (o &&& t = o ∧ ∃ m, m < i ∧ x.testBit m = true ∧ t.testBit m = true)) 8 0 (L, a3) (by omega) ⟨hL, h3, fun t => ⟨Or.inl, fun g => g.elim id (fun ⟨_, m, hm, _⟩ => absurd hm (by omega))⟩⟩ ?_ ?_
  · intro n s h
    exact pk_le 8 8 (fun _ => H s.1 s.2 h.1 h.2.1 h.2.2) (fun z => absurd z (by omega))
  · rintro n i ⟨K, b3⟩ hi ⟨k1, k2, k3⟩ hw
    dsimp only at k1 k2 k3 hw ⊢
    refine pk_le 8 i (fun z => absurd z (by omega)) (fun _ => ?_)
    rw [qd_bit hx hi, show (1 : Int32) <<< (nI i &&& 31) = nI (2 ^ i) from qd_shl (by omega), qd_nor]
    have p8 : 2 ^ i < 256 := Nat.pow_lt_pow_right (m := i) (n := 8) (by omega) hi
    refine ek_if (qd_tbn _) (fun g => nm_r (nI_1 i) (hw (K, b3) ⟨k1, k2, fun t => ?_⟩)) (fun g => qd_gather k1 k2 (qd_or_lt ho p8) (fun L' c3 q1 q2 q3 => nm_r (nI_1 i) (hw (L', c3) ⟨q1, q2, fun t => ?_⟩)))
    · rw [k3 t]
      constructor
      · rintro (c | ⟨c, m, m1, m2⟩)
        · exact Or.inl c
        · exact Or.inr ⟨c, m, by omega, m2⟩
      · rintro (c | ⟨c, m, m1, m2⟩)
        · exact Or.inl c
        · rcases Nat.lt_or_ge m i with e | e
          · exact Or.inr ⟨c, m, e, m2⟩
          · have e2 : m = i := by omega
            rw [e2, g] at m2
            exact absurd m2.1 (by decide)
    · have g1 : x.testBit i = true := by
        cases hb : x.testBit i
        · exact absurd hb g
        · rfl
      rw [q3 t, k3 t, qd_or_le, qd_two]
      constructor
      · rintro ((c | ⟨c, m, m1, m2⟩) | ⟨c1, c2⟩)
        · exact Or.inl c
        · exact Or.inr ⟨c, m, by omega, m2⟩
        · exact Or.inr ⟨c1, i, by omega, g1, c2⟩
      · rintro (c | ⟨c, m, m1, m2⟩)
        · exact Or.inl (Or.inl c)
        · rcases Nat.lt_or_ge m i with e | e
          · exact Or.inl (Or.inr ⟨c, m, e, m2⟩)
          · have e2 : m = i := by omega
            rw [e2] at m2
            exact Or.inr ⟨c, m2.2⟩
theorem qd_common {x t : Nat} (hx : x < 256) : (∃ m, m < 8 ∧ x.testBit m = true ∧ t.testBit m = true) ↔ ¬ x &&& t = 0 := by
  constructor
  · rintro ⟨m, _, h1, h2⟩ e
    exact qd_and_z.mp e m ⟨h1, h2⟩
  · intro h
    apply Classical.byContradiction
    intro c
    refine h (qd_and_z.mpr ?_)
    rintro i ⟨h1, h2⟩
    exact c ⟨i, qd_bit8 hx h1, h1, h2⟩
theorem qd_gatherHits {post : St2 → Prop} {o x : Nat} {dep old : Int32} {a1 a2 a3 a4 : Nat → Int32} {L : List Nat} (ho : o < 256) (hx : x < 256) (hL : qd_ok L) (h3 : qd_at a3 0 L) (H : ∀ (L' : List Nat) (a3' : Nat → Int32), qd_ok L' → qd_at a3' 0 L' → (∀ t, qd_up L' t ↔ qd_up L t ∨ (o &&& t = o ∧ ¬ x &&& t = 0)) → post (dep, nI L'.length, old, a1, a2, a3', a4)) : wpX_gatherHits post (dep, nI L.length, old, a1, a2, a3, a4) (nI o) (nI x) := by
  refine ek_if (qd_disj ho) (fun g => qd_gh14 ho hx hL h3 (fun L' b3 q1 q2 q3 => H L' b3 q1 q2 (fun t => ?_))) (fun g => qd_gather hL h3 ho (fun L' b3 q1 q2 q3 => H L' b3 q1 q2 (fun t => ?_)))
  · rw [q3 t, qd_common hx]
  · rw [q3 t]
    constructor
    · rintro (c | c)
      · exact Or.inl c
      · refine Or.inr ⟨c, fun e => g ?_⟩
        rw [qd_and_z]
        rintro i ⟨h1, h2⟩
        exact qd_and_z.mp e i ⟨h2, qd_le_iff.mp c i h1⟩
    · rintro (c | c)
      · exact Or.inl c
      · exact Or.inr c.1
end
section
/-! the stack: from the bottom up, at least p.2 of p.1 -/
def qd_F (a1 a2 : Nat → Int32) (f : Nat) (p : Nat × Nat) : Prop := p.1 < 256 ∧ p.2 ≤ qd_pop p.1 ∧ ∃ L, qd_fam a1 a2 f L ∧ qd_is L p.1 p.2
def qd_fs (S : List (Nat × Nat)) (a1 a2 : Nat → Int32) : Prop := ∀ f p, S[f]? = some p → qd_F a1 a2 f p
def qd_st (S : List (Nat × Nat)) (u : St2) : Prop := u.1 = nI S.length ∧ qd_fs S u.2.2.2.1 u.2.2.2.2.1
theorem qd_p15 {post : Int32 → St2 → Prop} {d N : Nat} {old : Int32} {a1 a3 a4 : Nat → Int32} (hd : d < 10) (hN : N ≤ 70) : ∀ (R : List Nat) (j n : Nat) (a2 : Nat → Int32), R.length < n → j + R.length = N → qd_at a3 j R → (∀ a2' : Nat → Int32, (∀ i, i < 70 * d + j → a2' i = a2 i) → qd_at a2' (70 * d + j) R → post (nI (d + 1)) (nI (d + 1), nI N, old, a1, a2', a3, a4)) → wX_push_15 post (nI d) (nI N) old n (nI j) a1 a2 a3 a4
  | [], j, n, a2, hn, hj, h3, H => by
    obtain ⟨m, rfl⟩ := qd_n1 hn
    simp only [List.length_nil] at hj
    exact pk_le N j (fun _ => nm_r (nI_1 d) (H a2 (fun _ _ => rfl) trivial)) (fun z => absurd z (by omega))
  | x :: R, j, n, a2, hn, hj, h3, H => by
    obtain ⟨m, rfl⟩ := qd_n1 hn
    simp only [List.length_cons] at hn hj
    refine pk_le N j (fun z => absurd z (by omega)) (fun _ => ⟨pk_in j 71 (by omega), qd_ixin hd (by omega), nm_r (e' := upd a2 (70 * d + j) (nI x)) (by rw [qd_ixc hd (by omega), nI_clamp (by omega), h3.1]) (nm_r (nI_1 j) ?_)⟩)
    refine qd_p15 hd hN R (j + 1) m _ (by omega) (by omega) h3.2 (fun a2' g1 g2 => H a2' (fun i hi => ?_) ⟨?_, g2⟩)
    · rw [g1 i (by omega)]
      exact pk_un (by omega)
    · rw [g1 (70 * d + j) (by omega)]
      exact pk_us
theorem qd_fam_keep {a1 a2 b1 b2 : Nat → Int32} {f d : Nat} {L : List Nat} (h : qd_fam a1 a2 f L) (hf : f < d) (e1 : ∀ i, i ≠ d → b1 i = a1 i) (e2 : ∀ i, i < 70 * d → b2 i = a2 i) : qd_fam b1 b2 f L := by
  have hs := qd_sperner h.2.2
  refine ⟨?_, qd_at_keep h.2.1 (fun i _ h2 => e2 i (by omega)), h.2.2⟩
  rw [e1 f (by omega)]
  exact h.1
/-- what is left of a stack below d -/
theorem qd_fs_take {S : List (Nat × Nat)} {q : List (Nat × Nat)} {a1 a2 : Nat → Int32} (h : qd_fs (S ++ q) a1 a2) : qd_fs S a1 a2 := by
  intro f p hf
  have hl : f < S.length := (List.getElem?_eq_some_iff.mp hf).1
  exact h f p (by rw [List.getElem?_append_left hl]; exact hf)
theorem qd_push {post : Int32 → St2 → Prop} {S : List (Nat × Nat)} {p : Nat × Nat} {L : List Nat} {old : Int32} {a1 a2 a3 a4 : Nat → Int32} (hS : S.length < 10) (hF : qd_fs S a1 a2) (h1 : p.1 < 256) (h2 : p.2 ≤ qd_pop p.1) (hL : qd_ok L) (hi : qd_is L p.1 p.2) (h3 : qd_at a3 0 L) (H : ∀ u', qd_st (S ++ [p]) u' → post (nI (S.length + 1)) u') : wpX_push post (nI S.length, nI L.length, old, a1, a2, a3, a4) := by
  refine ⟨pk_in S.length 10 hS, nm_r (e' := upd a1 S.length (nI L.length)) (by rw [nI_clamp (by omega)]) ⟨L.length + 1, ?_⟩⟩
  refine qd_p15 hS (qd_sperner hL) L 0 (L.length + 1) a2 (by omega) (by omega) h3 (fun a2' g1 g2 => H _ ⟨?_, ?_⟩)
  · show nI (S.length + 1) = nI (S ++ [p]).length
    rw [List.length_append]
    rfl
  · intro f q hq
    show qd_F (upd a1 S.length (nI L.length)) a2' f q
    rcases Nat.lt_or_ge f S.length with c | c
    · rw [List.getElem?_append_left c] at hq
      obtain ⟨k1, k2, X, k3, k4⟩ := hF f q hq
      exact ⟨k1, k2, X, qd_fam_keep k3 c (fun i hi => pk_un hi) (fun i hi => g1 i (by omega)), k4⟩
    · rw [List.getElem?_append_right c] at hq
      have hl := (List.getElem?_eq_some_iff.mp hq).1
      simp only [List.length_cons, List.length_nil] at hl
      have e : f = S.length := by omega
      rw [e, Nat.sub_self] at hq
      have ep : p = q := Option.some.inj hq
      rw [← ep, e]
      exact ⟨h1, h2, L, ⟨pk_us, g2, hL⟩, hi⟩
theorem qd_flt_t {M k i : Nat} (h : qd_sub M k i = true) : (List.range (i + 1)).filter (qd_sub M k) = (List.range i).filter (qd_sub M k) ++ [i] := by
  rw [List.range_succ, List.filter_append, List.filter_cons_of_pos h, List.filter_nil]
theorem qd_flt_f {M k i : Nat} (h : ¬ qd_sub M k i = true) : (List.range (i + 1)).filter (qd_sub M k) = (List.range i).filter (qd_sub M k) := by
  rw [List.range_succ, List.filter_append, List.filter_cons_of_neg h, List.filter_nil, List.append_nil]
theorem qd_al_end {post : Int32 → St2 → Prop} {S : List (Nat × Nat)} {c M : Nat} {old : Int32} {a1 a2 a4 : Nat → Int32} (hF : qd_fs S a1 a2) (hS : S.length < 10) (hM : M < 256) (hc : c ≤ qd_pop M) (H : ∀ u', qd_st (S ++ [(M, c)]) u' → post (nI (S.length + 1)) u') (K : List Nat) (n : Nat) (s : Nat → Int32) (k1 : qd_ok K) (k2 : qd_is K M c) (k3 : qd_at s 0 K) : wX_atLeast_28 post (nI c) (nI M) (nI S.length) old (n + 1) (nI 256) (nI K.length) a1 a2 s a4 :=
  pk_le 256 256 (fun _ => qd_push (p := (M, c)) hS hF hM hc k1 k2 k3 (fun ⟨_, _, _, _, _, _, _⟩ hu => H _ hu)) (fun z => absurd z (by omega))
theorem qd_al_step {post : Int32 → St2 → Prop} {c M i n : Nat} {dep old : Int32} {a1 a2 a4 s : Nat → Int32} (hi : i < 256) (hM : M < 256) (hc : c ≤ 8) (h : qd_at s 0 ((List.range i).filter (qd_sub M c))) (t : ∀ s', qd_at s' 0 ((List.range (i + 1)).filter (qd_sub M c)) → wX_atLeast_28 post (nI c) (nI M) dep old n (nI (i + 1)) (nI ((List.range (i + 1)).filter (qd_sub M c)).length) a1 a2 s' a4) : wX_atLeast_28 post (nI c) (nI M) dep old (n + 1) (nI i) (nI ((List.range i).filter (qd_sub M c)).length) a1 a2 s a4 := by
  have hk := qd_sperner (qd_list_ok M c i (by omega))
  have h9 := qd_pop_8 i hi
  refine pk_le 256 i (fun z => absurd z (by omega)) (fun _ => ek_if (qd_partN hi hM) (fun g => qd_onesW hi ?_) (fun g => nm_r (nI_1 i) ?_))
  · refine pk_eq (qd_pop i) c (fun e => ⟨pk_in ((List.range i).filter (qd_sub M c)).length 71 (by omega), nm_r (e' := upd s ((List.range i).filter (qd_sub M c)).length (nI i)) (by rw [nI_clamp (by omega)]) (nm_r (nI_1 _) (nm_r (nI_1 i) ?_))⟩) (fun e => nm_r (nI_1 i) ?_)
    · rw [qd_flt_t (qd_sub_iff.mpr ⟨g, e⟩), List.length_append] at t
      exact t _ (qd_at_app.mpr ⟨qd_at_keep h (fun j _ hj => pk_un (by omega)), by rw [Nat.zero_add]; exact pk_us, trivial⟩)
    · rw [qd_flt_f (fun q => e (qd_sub_iff.mp q).2)] at t
      exact t s h
  · rw [qd_flt_f (fun q => g (qd_sub_iff.mp q).1)] at t
    exact t s h
theorem qd_al_loop {post : Int32 → St2 → Prop} {c M : Nat} {dep old : Int32} {a1 a2 a3 a4 : Nat → Int32} (hM : M < 256) (hc : c ≤ 8) (e : Nat) (he : e ≤ 256) (hx : ∀ n s, qd_at s 0 ((List.range e).filter (qd_sub M c)) → wX_atLeast_28 post (nI c) (nI M) dep old (n + 1) (nI e) (nI ((List.range e).filter (qd_sub M c)).length) a1 a2 s a4) : ∃ n, wX_atLeast_28 post (nI c) (nI M) dep old n 0 0 a1 a2 a3 a4 :=
  pk_loop (fun n i s => wX_atLeast_28 post (nI c) (nI M) dep old n (nI i) (nI ((List.range i).filter (qd_sub M c)).length) a1 a2 s a4) (fun i s => qd_at s 0 ((List.range i).filter (qd_sub M c))) e 0 a3 (by omega) trivial hx (fun n i s hi h hw => qd_al_step (by omega) hM hc h hw)
theorem qd_atLeast {post : Int32 → St2 → Prop} {S : List (Nat × Nat)} {c M : Nat} {u : St2} (hu : qd_st S u) (hS : S.length < 10) (hM : M < 256) (hc : c ≤ qd_pop M) (H : ∀ u', qd_st (S ++ [(M, c)]) u' → post (nI (S.length + 1)) u') : wpX_atLeast post u (nI c) (nI M) := by
  obtain ⟨dep, gat, old, a1, a2, a3, a4⟩ := u
  obtain ⟨hd, hF⟩ := hu
  dsimp only at hd hF
  subst hd
  have h8 := qd_pop_8 M hM
  have key : ∃ n, wX_atLeast_28 post (nI c) (nI M) (nI S.length) old n 0 0 a1 a2 a3 a4 :=
    qd_al_loop hM (by omega) 256 (Nat.le_refl _) (fun n s h => qd_al_end hF hS hM hc H _ n s (qd_list_ok M c 256 (Nat.le_refl _)) (qd_list_is M c hM) h)
  exact br_f (nI_pos (by omega)) (pk_lt 8 c (fun z => absurd z (by omega)) (fun _ => pk_lt S.length 10 (fun _ => key) (fun z => absurd z (by omega))))
theorem qd_cp40 {post : Int32 → St2 → Prop} {f N : Nat} {dep old : Int32} {a1 a2 a4 : Nat → Int32} (hf : f < 10) (hN : N ≤ 70) : ∀ (R K : List Nat) (n : Nat) (a3 : Nat → Int32), R.length < n → K.length + R.length = N → qd_at a2 (70 * f + K.length) R → qd_at a3 0 K → (∀ a3', qd_at a3' 0 (K ++ R) → ∀ Q : Int32 → St2 → Prop, (∀ r u, post r u → Q r u) → wpX_push Q (dep, nI N, old, a1, a2, a3', a4)) → wX_copy_40 post (nI f) dep (nI N) old n (nI K.length) a1 a2 a3 a4
  | [], K, n, a3, hn, hj, h2, h3, H => by
    obtain ⟨m, rfl⟩ := qd_n1 hn
    simp only [List.length_nil] at hj
    rw [List.append_nil] at H
    exact pk_le N K.length (fun _ => H a3 h3 _ (fun r ⟨_, _, _, _, _, _, _⟩ h => h)) (fun z => absurd z (by omega))
  | x :: R, K, n, a3, hn, hj, h2, h3, H => by
    obtain ⟨m, rfl⟩ := qd_n1 hn
    simp only [List.length_cons] at hn hj
    have e : K ++ x :: R = (K ++ [x]) ++ R := by simp
    rw [e] at H
    have t := qd_cp40 (post := post) (dep := dep) (old := old) (a1 := a1) (a2 := a2) (a4 := a4) hf hN R (K ++ [x]) m (upd a3 K.length (nI x)) (by omega) (by simp only [List.length_append, List.length_cons, List.length_nil]; omega) (by rw [List.length_append]; exact h2.2) (qd_at_app.mpr ⟨qd_at_keep h3 (fun i _ h => pk_un (by omega)), by rw [Nat.zero_add]; exact pk_us, trivial⟩) H
    rw [List.length_append] at t
    exact pk_le N K.length (fun z => absurd z (by omega)) (fun _ => ⟨qd_ixin hf (by omega), pk_in K.length 71 (by omega), nm_r (e' := upd a3 K.length (nI x)) (by rw [nI_clamp (by omega), qd_ixc hf (by omega), h2.1]) (nm_r (nI_1 K.length) t)⟩)
theorem qd_copy {post : Int32 → St2 → Prop} {S : List (Nat × Nat)} {k : Nat} {p : Nat × Nat} {u : St2} (hu : qd_st S u) (hS : S.length < 10) (hk : k < S.length) (hp : S[S.length - 1 - k]? = some p) (H : ∀ u', qd_st (S ++ [p]) u' → post (nI (S.length + 1)) u') : wpX_copy post u (nI k) := by
  obtain ⟨dep, gat, old, a1, a2, a3, a4⟩ := u
  obtain ⟨hd, hF⟩ := hu
  dsimp only at hd hF
  subst hd
  obtain ⟨k1, k2, X, k3, k4⟩ := hF _ _ hp
  have hs := qd_sperner k3.2.2
  unfold wpX_copy
  dsimp only
  refine qd_isF (by omega) hk (br_f (by decide) (pk_lt S.length 10 (fun _ => nm_r (qd_dk hk) ⟨pk_in (S.length - 1 - k) 10 (by omega), nm_r (e' := nI X.length) (qd_c1 (by omega) k3.1) ⟨X.length + 1, ?_⟩⟩) (fun z => absurd z (by omega))))
  refine qd_cp40 (K := []) (by omega) hs X (X.length + 1) a3 (by omega) (by simp) k3.2.1 trivial (fun a3' g Q hQ => ?_)
  exact qd_push (p := p) hS hF k1 k2 k3.2.2 k4 g (fun u' hu => hQ _ _ (H u' hu))
theorem qd_copyN {post : Int32 → St2 → Prop} {S : List (Nat × Nat)} {k : Nat} {u : St2} (hu : qd_st S u) (hS : S.length < 10) (hk : S.length ≤ k) (hk2 : k ≤ 10) (H : post (-1) u) : wpX_copy post u (nI k) := by
  obtain ⟨dep, gat, old, a1, a2, a3, a4⟩ := u
  obtain ⟨hd, hF⟩ := hu
  dsimp only at hd hF
  subst hd
  unfold wpX_copy
  dsimp only
  exact qd_isN (by omega) hk hk2 (br_t rfl H)
theorem qd_drop {post : Int32 → St2 → Prop} {S : List (Nat × Nat)} {p : Nat × Nat} {u : St2} (hu : qd_st (S ++ [p]) u) (hS : S.length < 10) (H : ∀ u', qd_st S u' → post (nI S.length) u') : wpX_drop post u := by
  obtain ⟨dep, gat, old, a1, a2, a3, a4⟩ := u
  obtain ⟨hd, hF⟩ := hu
  dsimp only at hd hF
  have e : nI (S ++ [p]).length = nI (S.length + 1) := by rw [List.length_append]; rfl
  rw [e] at hd
  subst hd
  exact pk_le 1 (S.length + 1) (fun _ => nm_r (nI_pred S.length) (H _ ⟨rfl, qd_fs_take hF⟩)) (fun z => absurd z (by omega))
theorem qd_dropN {post : Int32 → St2 → Prop} {u : St2} (hu : qd_st [] u) (H : post (-1) u) : wpX_drop post u := by
  obtain ⟨dep, gat, old, a1, a2, a3, a4⟩ := u
  obtain ⟨hd, hF⟩ := hu
  dsimp only at hd hF
  subst hd
  exact br_f (by decide) H
end
section
/-! join -/
theorem qd_top2 {S : List (Nat × Nat)} {p q : Nat × Nat} {a1 a2 : Nat → Int32} (h : qd_fs (S ++ [p, q]) a1 a2) : qd_F a1 a2 S.length p ∧ qd_F a1 a2 (S.length + 1) q := by
  constructor
  · refine h _ _ ?_
    rw [List.getElem?_append_right (Nat.le_refl _), Nat.sub_self]
    rfl
  · refine h _ _ ?_
    rw [List.getElem?_append_right (by omega), show S.length + 1 - S.length = 1 by omega]
    rfl
theorem qd_top1 {S : List (Nat × Nat)} {p : Nat × Nat} {a1 a2 : Nat → Int32} (h : qd_fs (S ++ [p]) a1 a2) : qd_F a1 a2 S.length p := by
  refine h _ _ ?_
  rw [List.getElem?_append_right (Nat.le_refl _), Nat.sub_self]
  rfl
theorem qd_j129 {post : Int32 → St2 → Prop} {S : List (Nat × Nat)} {p : Nat × Nat} {L : List Nat} {old : Int32} {a1 a2 a3 a4 : Nat → Int32} (hS : S.length < 9) (hF : qd_fs S a1 a2) (h1 : p.1 < 256) (h2 : p.2 ≤ qd_pop p.1) (hL : qd_ok L) (hi : qd_is L p.1 p.2) (h3 : qd_at a3 0 L) (H : ∀ u', qd_st (S ++ [p]) u' → post (nI (S.length + 1)) u') : wX_join_129 post (nI (S.length + 2)) (nI L.length) old a1 a2 a3 a4 :=
  nm_r (e' := nI S.length) (pk_sub (a := S.length + 2) (b := 2) (by omega)) (qd_push (p := p) (by omega) hF h1 h2 hL hi h3 (fun ⟨_, _, _, _, _, _, _⟩ hu => H _ hu))
theorem qd_j92 {post : Int32 → St2 → Prop} {b : Nat} {B : List Nat} {dep old : Int32} {a1 a2 a4 : Nat → Int32} (hb : b < 10) (hB : qd_fam a1 a2 b B) : ∀ (R : List Nat) (j n : Nat) (L : List Nat) (a3 : Nat → Int32), R.length < n → j + R.length = B.length → qd_at a2 (70 * b + j) R → (∀ x ∈ R, x < 256) → qd_ok L → qd_at a3 0 L → (∀ (L' : List Nat) (a3' : Nat → Int32), qd_ok L' → qd_at a3' 0 L' → (∀ t, qd_up L' t ↔ qd_up L t ∨ qd_up R t) → wX_join_129 post dep (nI L'.length) old a1 a2 a3' a4) → wX_join_92 post 0 (nI b) n (nI j) dep (nI L.length) old a1 a2 a3 a4
  | [], j, n, L, a3, hn, hj, h2, hx, hL, h3, H => by
    obtain ⟨m, rfl⟩ := qd_n1 hn
    simp only [List.length_nil] at hj
    have hsp := qd_sperner hB.2.2
    exact ⟨pk_in b 10 hb, pk_le B.length j (fun _ => H L a3 hL h3 (fun t => ⟨Or.inl, fun g => g.elim id (fun g => absurd g (qd_up_nil t))⟩)) (fun z => absurd z (by omega)) (qd_c1 hb hB.1)⟩
  | x :: R, j, n, L, a3, hn, hj, h2, hx, hL, h3, H => by
    obtain ⟨m, rfl⟩ := qd_n1 hn
    simp only [List.length_cons] at hn hj
    have hsp := qd_sperner hB.2.2
    have hx1 := hx x List.mem_cons_self
    refine ⟨pk_in b 10 hb, pk_le B.length j (fun z => absurd z (by omega)) (fun _ => br_t rfl ⟨qd_ixin hb (by omega), ?_⟩) (qd_c1 hb hB.1)⟩
    rw [qd_ixc hb (by omega), h2.1]
    refine qd_gather hL h3 hx1 (fun L' a3' k1 k2 k3 => nm_r (nI_1 j) ?_)
    refine qd_j92 hb hB R (j + 1) m L' a3' (by omega) (by omega) h2.2 (fun y hy => hx y (List.mem_cons_of_mem _ hy)) k1 k2 (fun L2 b3 q1 q2 q3 => H L2 b3 q1 q2 (fun t => ?_))
    rw [q3 t, k3 t, qd_up_cons, or_assoc]
theorem qd_j32f {post : Int32 → St2 → Prop} {a b : Nat} {A : List Nat} {dep old : Int32} {a1 a2 a4 : Nat → Int32} (ha : a < 10) (hA : qd_fam a1 a2 a A) : ∀ (R : List Nat) (j n : Nat) (L : List Nat) (a3 : Nat → Int32), R.length < n → j + R.length = A.length → qd_at a2 (70 * a + j) R → (∀ x ∈ R, x < 256) → qd_ok L → qd_at a3 0 L → (∀ (L' : List Nat) (a3' : Nat → Int32), qd_ok L' → qd_at a3' 0 L' → (∀ t, qd_up L' t ↔ qd_up L t ∨ qd_up R t) → ∃ fu, wX_join_92 post 0 (nI b) fu 0 dep (nI L'.length) old a1 a2 a3' a4) → wX_join_32 post 0 (nI a) (nI b) n (nI j) dep (nI L.length) old a1 a2 a3 a4
  | [], j, n, L, a3, hn, hj, h2, hx, hL, h3, H => by
    obtain ⟨m, rfl⟩ := qd_n1 hn
    simp only [List.length_nil] at hj
    have hsp := qd_sperner hA.2.2
    exact ⟨pk_in a 10 ha, pk_le A.length j (fun _ => H L a3 hL h3 (fun t => ⟨Or.inl, fun g => g.elim id (fun g => absurd g (qd_up_nil t))⟩)) (fun z => absurd z (by omega)) (qd_c1 ha hA.1)⟩
  | x :: R, j, n, L, a3, hn, hj, h2, hx, hL, h3, H => by
    obtain ⟨m, rfl⟩ := qd_n1 hn
    simp only [List.length_cons] at hn hj
    have hsp := qd_sperner hA.2.2
    have hx1 := hx x List.mem_cons_self
    refine ⟨pk_in a 10 ha, pk_le A.length j (fun z => absurd z (by omega)) (fun _ => br_t rfl ⟨qd_ixin ha (by omega), ?_⟩) (qd_c1 ha hA.1)⟩
    rw [qd_ixc ha (by omega), h2.1]
    refine qd_gather hL h3 hx1 (fun L' a3' k1 k2 k3 => nm_r (nI_1 j) ?_)
    refine qd_j32f ha hA R (j + 1) m L' a3' (by omega) (by omega) h2.2 (fun y hy => hx y (List.mem_cons_of_mem _ hy)) k1 k2 (fun L2 b3 q1 q2 q3 => H L2 b3 q1 q2 (fun t => ?_))
    rw [q3 t, k3 t, qd_up_cons, or_assoc]
theorem qd_j32t {post : Int32 → St2 → Prop} {a b : Nat} {A B : List Nat} {dep old : Int32} {a1 a2 a4 : Nat → Int32} (ha : a < 10) (hA : qd_fam a1 a2 a A) (hb : b < 10) (hB : qd_fam a1 a2 b B) : ∀ (R : List Nat) (j n : Nat) (L : List Nat) (a3 : Nat → Int32), R.length < n → j + R.length = A.length → qd_at a2 (70 * a + j) R → (∀ x ∈ R, x < 256) → qd_ok L → qd_at a3 0 L → (∀ (L' : List Nat) (a3' : Nat → Int32), qd_ok L' → qd_at a3' 0 L' → (∀ t, qd_up L' t ↔ qd_up L t ∨ (qd_up R t ∧ qd_up B t)) → wX_join_129 post dep (nI L'.length) old a1 a2 a3' a4) → wX_join_32 post 1 (nI a) (nI b) n (nI j) dep (nI L.length) old a1 a2 a3 a4
  | [], j, n, L, a3, hn, hj, h2, hx, hL, h3, H => by
    obtain ⟨m, rfl⟩ := qd_n1 hn
    simp only [List.length_nil] at hj
    have hsp := qd_sperner hA.2.2
    have h := H L a3 hL h3 (fun t => ⟨Or.inl, fun g => g.elim id (fun g => absurd g.1 (qd_up_nil t))⟩)
    exact ⟨pk_in a 10 ha, pk_le A.length j (fun _ => ⟨1, pk_in b 10 hb, br_c (fun _ => h) (fun _ => br_f (by decide) h)⟩) (fun z => absurd z (by omega)) (qd_c1 ha hA.1)⟩
  | x :: R, j, n, L, a3, hn, hj, h2, hx, hL, h3, H => by
    obtain ⟨m, rfl⟩ := qd_n1 hn
    simp only [List.length_cons] at hn hj
    have hsp := qd_sperner hA.2.2
    have hx1 := hx x List.mem_cons_self
    refine ⟨pk_in a 10 ha, pk_le A.length j (fun z => absurd z (by omega)) (fun _ => br_f (by decide) ⟨qd_ixin ha (by omega), ?_⟩) (qd_c1 ha hA.1)⟩
    rw [qd_ixc ha (by omega), h2.1]
    refine qd_gatherUnions hx1 hb hB hL h3 (fun L' a3' k1 k2 k3 => nm_r (nI_1 j) ?_)
    refine qd_j32t ha hA hb hB R (j + 1) m L' a3' (by omega) (by omega) h2.2 (fun y hy => hx y (List.mem_cons_of_mem _ hy)) k1 k2 (fun L2 b3 q1 q2 q3 => H L2 b3 q1 q2 (fun t => ?_))
    rw [q3 t, k3 t, qd_up_cons, or_and_right, or_assoc]
theorem qd_join1 {post : Int32 → St2 → Prop} {S : List (Nat × Nat)} {M c d : Nat} {u : St2} (hu : qd_st (S ++ [(M, c), (M, d)]) u) (hS : S.length ≤ 7) (H : ∀ u', qd_st (S ++ [(M, max c d)]) u' → post (nI (S.length + 1)) u') : wpX_join post u 1 := by
  obtain ⟨dep, gat, old, a1, a2, a3, a4⟩ := u
  obtain ⟨hd, hF⟩ := hu
  dsimp only at hd hF
  have e : nI (S ++ [(M, c), (M, d)]).length = nI (S.length + 2) := by rw [List.length_append]; rfl
  rw [e] at hd
  subst hd
  obtain ⟨⟨k1, k2, A, k3, k4⟩, ⟨l1, l2, B, l3, l4⟩⟩ := qd_top2 hF
  dsimp only at k1 k2 k4 l1 l2 l4
  refine pk_le 2 (S.length + 2) (fun _ => nm_r (e' := nI S.length) (pk_sub (a := S.length + 2) (b := 2) (by omega)) (nm_r (e' := nI (S.length + 1)) (pk_sub (a := S.length + 2) (b := 1) (by omega)) ⟨A.length + 1, ?_⟩)) (fun z => absurd z (by omega))
  refine qd_j32t (by omega) k3 (by omega) l3 A 0 (A.length + 1) [] a3 (by omega) (by omega) k3.2.1 k3.2.2.1 qd_ok_nil trivial (fun L' b3 q1 q2 q3 => ?_)
  refine qd_j129 (p := (M, max c d)) (by omega) (qd_fs_take hF) k1 (Nat.max_le.mpr ⟨k2, l2⟩) q1 (qd_is_max k4 l4 (fun t _ => ?_)) q2 H
  rw [q3 t]
  exact ⟨fun g => g.elim (fun g => absurd g (qd_up_nil t)) id, Or.inr⟩
theorem qd_join0 {post : Int32 → St2 → Prop} {S : List (Nat × Nat)} {M c d : Nat} {u : St2} (hu : qd_st (S ++ [(M, c), (M, d)]) u) (hS : S.length ≤ 7) (H : ∀ u', qd_st (S ++ [(M, min c d)]) u' → post (nI (S.length + 1)) u') : wpX_join post u 0 := by
  obtain ⟨dep, gat, old, a1, a2, a3, a4⟩ := u
  obtain ⟨hd, hF⟩ := hu
  dsimp only at hd hF
  have e : nI (S ++ [(M, c), (M, d)]).length = nI (S.length + 2) := by rw [List.length_append]; rfl
  rw [e] at hd
  subst hd
  obtain ⟨⟨k1, k2, A, k3, k4⟩, ⟨l1, l2, B, l3, l4⟩⟩ := qd_top2 hF
  dsimp only at k1 k2 k4 l1 l2 l4
  refine pk_le 2 (S.length + 2) (fun _ => nm_r (e' := nI S.length) (pk_sub (a := S.length + 2) (b := 2) (by omega)) (nm_r (e' := nI (S.length + 1)) (pk_sub (a := S.length + 2) (b := 1) (by omega)) ⟨A.length + 1, ?_⟩)) (fun z => absurd z (by omega))
  refine qd_j32f (by omega) k3 A 0 (A.length + 1) [] a3 (by omega) (by omega) k3.2.1 k3.2.2.1 qd_ok_nil trivial (fun L' b3 q1 q2 q3 => ⟨B.length + 1, ?_⟩)
  refine qd_j92 (by omega) l3 B 0 (B.length + 1) L' b3 (by omega) (by omega) l3.2.1 l3.2.2.1 q1 q2 (fun L2 c3 r1 r2 r3 => ?_)
  refine qd_j129 (p := (M, min c d)) (by omega) (qd_fs_take hF) k1 (Nat.le_trans (Nat.min_le_left c d) k2) r1 (qd_is_min k4 l4 (fun t _ => ?_)) r2 H
  rw [r3 t, q3 t]
  constructor
  · rintro ((g | g) | g)
    · exact absurd g (qd_up_nil t)
    · exact Or.inl g
    · exact Or.inr g
  · rintro (g | g)
    · exact Or.inl (Or.inr g)
    · exact Or.inr g
/-! dual -/
theorem qd_du47 {post : Int32 → St2 → Prop} {J : Int32 → Int32 → Int32 → Int32 → (Nat → Int32) → (Nat → Int32) → (Nat → Int32) → (Nat → Int32) → Prop} {f i x N : Nat} {dep : Int32} {a1 a2 a4 : Nat → Int32} (hf : f < 10) (hi : i < 70) (hN : N ≤ 70) (ex : a2 (70 * f + i) = nI x) (hx : x < 256) : ∀ (R : List Nat) (j n : Nat) (L : List Nat) (a3 : Nat → Int32), R.length < n → j + R.length = N → qd_at a4 j R → (∀ o ∈ R, o < 256) → qd_ok L → qd_at a3 0 L → (∀ (L' : List Nat) (a3' : Nat → Int32), qd_ok L' → qd_at a3' 0 L' → (∀ t, qd_up L' t ↔ qd_up L t ∨ (qd_up R t ∧ ¬ x &&& t = 0)) → J (nI (i + 1)) dep (nI L'.length) (nI N) a1 a2 a3' a4) → wX_dual_47 post J (nI f) (nI i) n (nI j) dep (nI L.length) (nI N) a1 a2 a3 a4
  | [], j, n, L, a3, hn, hj, h4, ho, hL, h3, H => by
    obtain ⟨m, rfl⟩ := qd_n1 hn
    simp only [List.length_nil] at hj
    exact pk_le N j (fun _ => nm_r (nI_1 i) (H L a3 hL h3 (fun t => ⟨Or.inl, fun g => g.elim id (fun g => absurd g.1 (qd_up_nil t))⟩))) (fun z => absurd z (by omega))
  | o :: R, j, n, L, a3, hn, hj, h4, ho, hL, h3, H => by
    obtain ⟨m, rfl⟩ := qd_n1 hn
    simp only [List.length_cons] at hn hj
    refine pk_le N j (fun z => absurd z (by omega)) (fun _ => ⟨pk_in j 71 (by omega), qd_ixin hf hi, ?_⟩)
    rw [nI_clamp (show j < 2 ^ 31 by omega), qd_ixc hf (by omega), h4.1, ex]
    refine qd_gatherHits (ho o List.mem_cons_self) hx hL h3 (fun L' a3' k1 k2 k3 => nm_r (nI_1 j) ?_)
    refine qd_du47 hf hi hN ex hx R (j + 1) m L' a3' (by omega) (by omega) h4.2 (fun y hy => ho y (List.mem_cons_of_mem _ hy)) k1 k2 (fun L2 b3 q1 q2 q3 => H L2 b3 q1 q2 (fun t => ?_))
    rw [q3 t, k3 t, qd_up_cons, or_and_right, or_assoc]
theorem qd_du31 {post : Int32 → St2 → Prop} {f : Nat} {X : List Nat} {dep : Int32} {a1 a2 : Nat → Int32} (hf : f < 10) (hX : qd_fam a1 a2 f X) : ∀ (R : List Nat) (i n : Nat) (L : List Nat) (old : Int32) (a3 a4 : Nat → Int32), R.length < n → i + R.length = X.length → qd_at a2 (70 * f + i) R → (∀ x ∈ R, x < 256) → qd_ok L → qd_at a3 0 L → (∀ (L' : List Nat) (old' : Int32) (a3' a4' : Nat → Int32), qd_ok L' → qd_at a3' 0 L' → (∀ t, qd_up L' t ↔ qd_up L t ∧ ∀ x ∈ R, ¬ x &&& t = 0) → ∀ Q : Int32 → St2 → Prop, (∀ r u, post r u → Q r u) → wpX_push Q (dep - 1, nI L'.length, old', a1, a2, a3', a4')) → wX_dual_31 post (nI f) n (nI i) dep (nI L.length) old a1 a2 a3 a4
  | [], i, n, L, old, a3, a4, hn, hj, h2, hx, hL, h3, H => by
    obtain ⟨m, rfl⟩ := qd_n1 hn
    simp only [List.length_nil] at hj
    have hsp := qd_sperner hX.2.2
    exact ⟨pk_in f 10 hf, pk_le X.length i (fun _ => nm_e (H L old a3 a4 hL h3 (fun t => ⟨fun g => ⟨g, fun x hx => absurd hx List.not_mem_nil⟩, fun g => g.1⟩) _ (fun r ⟨_, _, _, _, _, _, _⟩ h => h))) (fun z => absurd z (by omega)) (qd_c1 hf hX.1)⟩
  | x :: R, i, n, L, old, a3, a4, hn, hj, h2, hx, hL, h3, H => by
    obtain ⟨m, rfl⟩ := qd_n1 hn
    simp only [List.length_cons] at hn hj
    have hsp := qd_sperner hX.2.2
    have hlp := qd_sperner hL
    have hx1 := hx x List.mem_cons_self
    refine ⟨pk_in f 10 hf, pk_le X.length i (fun z => absurd z (by omega)) (fun _ => qd_keepOlder hL h3 (fun a4' g4 => ⟨L.length + 1, ?_⟩)) (qd_c1 hf hX.1)⟩
    refine qd_du47 (L := []) hf (by omega) hlp h2.1 hx1 L 0 (L.length + 1) a3 (by omega) (by omega) g4 hL.1 qd_ok_nil trivial (fun L' a3' k1 k2 k3 => ?_)
    refine qd_du31 hf hX R (i + 1) m L' _ a3' a4' (by omega) (by omega) h2.2 (fun y hy => hx y (List.mem_cons_of_mem _ hy)) k1 k2 (fun L2 o2 b3 b4 q1 q2 q3 => H L2 o2 b3 b4 q1 q2 (fun t => ?_))
    rw [q3 t, k3 t]
    constructor
    · rintro ⟨g1 | g1, g2⟩
      · exact absurd g1 (qd_up_nil t)
      · refine ⟨g1.1, fun y hy => ?_⟩
        rcases List.mem_cons.mp hy with e | e
        · rw [e]; exact g1.2
        · exact g2 y e
    · rintro ⟨g1, g2⟩
      exact ⟨Or.inr ⟨g1, g2 x List.mem_cons_self⟩, fun y hy => g2 y (List.mem_cons_of_mem _ hy)⟩
theorem qd_dual {post : Int32 → St2 → Prop} {S : List (Nat × Nat)} {M d : Nat} {u : St2} (hu : qd_st (S ++ [(M, d)]) u) (hS : S.length ≤ 8) (hd1 : 1 ≤ d) (H : ∀ u', qd_st (S ++ [(M, qd_pop M - d + 1)]) u' → post (nI (S.length + 1)) u') : wpX_dual post u := by
  obtain ⟨dep, gat, old, a1, a2, a3, a4⟩ := u
  obtain ⟨hd, hF⟩ := hu
  dsimp only at hd hF
  have e : nI (S ++ [(M, d)]).length = nI (S.length + 1) := by rw [List.length_append]; rfl
  rw [e] at hd
  subst hd
  obtain ⟨k1, k2, X, k3, k4⟩ := qd_top1 hF
  dsimp only at k1 k2 k4
  have hd2 : nI (S.length + 1) - 1 = nI S.length := pk_sub (a := S.length + 1) (b := 1) (by omega)
  refine pk_le 1 (S.length + 1) (fun _ => nm_r (e' := nI S.length) hd2 (nm_e ⟨X.length + 1, ?_⟩)) (fun z => absurd z (by omega))
  refine qd_du31 (L := [0]) (by omega) k3 X 0 (X.length + 1) old (upd a3 0 0) a4 (by omega) (by omega) k3.2.1 k3.2.2.1 (qd_ok_one (by omega)) ⟨pk_us, trivial⟩ (fun L' o2 b3 b4 q1 q2 q3 Q hQ => ?_)
  rw [hd2]
  refine qd_push (p := (M, qd_pop M - d + 1)) (by omega) (qd_fs_take hF) k1 (show qd_pop M - d + 1 ≤ qd_pop M by omega) q1 (qd_is_dual k3.2.2 k4 k1 k2 (fun t _ => ?_)) q2 (fun u' hu' => hQ _ _ (H u' hu'))
  rw [q3 t]
  exact ⟨fun g => g.2, fun g => ⟨⟨0, List.mem_singleton.mpr rfl, Nat.zero_and t⟩, g⟩⟩
/-! given -/
theorem qd_gi24 {post : Int32 → St2 → Prop} {f : Nat} {p : Int32} {X : List Nat} {dep old : Int32} {a1 a2 a4 : Nat → Int32} (hf : f < 10) (hX : qd_fam a1 a2 f X) : ∀ (R : List Nat) (j n : Nat) (L : List Nat) (a3 : Nat → Int32), R.length < n → j + R.length = X.length → qd_at a2 (70 * f + j) R → (∀ x ∈ R, x < 256) → qd_ok L → qd_at a3 0 L → (∀ (L' : List Nat) (a3' : Nat → Int32), qd_ok L' → qd_at a3' 0 L' → (∀ t, qd_up L' t ↔ qd_up L t ∨ qd_up R (t ||| qd_lo p)) → ∀ Q : Int32 → St2 → Prop, (∀ r u, post r u → Q r u) → wpX_push Q (dep - 1, nI L'.length, old, a1, a2, a3', a4)) → wX_given_24 post p (nI f) n (nI j) dep (nI L.length) old a1 a2 a3 a4
  | [], j, n, L, a3, hn, hj, h2, hx, hL, h3, H => by
    obtain ⟨m, rfl⟩ := qd_n1 hn
    simp only [List.length_nil] at hj
    have hsp := qd_sperner hX.2.2
    exact ⟨pk_in f 10 hf, pk_le X.length j (fun _ => nm_e (H L a3 hL h3 (fun t => ⟨Or.inl, fun g => g.elim id (fun g => absurd g (qd_up_nil _))⟩) _ (fun r ⟨_, _, _, _, _, _, _⟩ h => h))) (fun z => absurd z (by omega)) (qd_c1 hf hX.1)⟩
  | x :: R, j, n, L, a3, hn, hj, h2, hx, hL, h3, H => by
    obtain ⟨m, rfl⟩ := qd_n1 hn
    simp only [List.length_cons] at hn hj
    have hsp := qd_sperner hX.2.2
    have hx1 := hx x List.mem_cons_self
    refine ⟨pk_in f 10 hf, pk_le X.length j (fun z => absurd z (by omega)) (fun _ => ⟨qd_ixin hf (by omega), ?_⟩) (qd_c1 hf hX.1)⟩
    rw [qd_ixc hf (by omega), h2.1, qd_andn hx1]
    refine qd_gather hL h3 (qd_and_lt' hx1 _) (fun L' a3' k1 k2 k3 => nm_r (nI_1 j) ?_)
    refine qd_gi24 hf hX R (j + 1) m L' a3' (by omega) (by omega) h2.2 (fun y hy => hx y (List.mem_cons_of_mem _ hy)) k1 k2 (fun L2 b3 q1 q2 q3 => H L2 b3 q1 q2 (fun t => ?_))
    rw [q3 t, k3 t, qd_less hx1, qd_up_cons, or_assoc]
theorem qd_given {post : Int32 → St2 → Prop} {S : List (Nat × Nat)} {M e : Nat} {p : Int32} {u : St2} (hu : qd_st (S ++ [(M, e)]) u) (hS : S.length ≤ 8) (H : ∀ (z : Nat) (u' : St2), qd_pop M = qd_pop (qd_lo p &&& M) + qd_pop z → qd_st (S ++ [(z, e - qd_pop (qd_lo p &&& M))]) u' → post (nI (S.length + 1)) u') : wpX_given post u p := by
  obtain ⟨dep, gat, old, a1, a2, a3, a4⟩ := u
  obtain ⟨hd, hF⟩ := hu
  dsimp only at hd hF
  have ee : nI (S ++ [(M, e)]).length = nI (S.length + 1) := by rw [List.length_append]; rfl
  rw [ee] at hd
  subst hd
  obtain ⟨k1, k2, X, k3, k4⟩ := qd_top1 hF
  dsimp only at k1 k2 k4
  have hd2 : nI (S.length + 1) - 1 = nI S.length := pk_sub (a := S.length + 1) (b := 1) (by omega)
  obtain ⟨z, z1, z2, z3⟩ := qd_split (qd_and_le (qd_lo p) M)
  have hz := qd_pop_split z1 z2
  refine pk_le 1 (S.length + 1) (fun _ => nm_r (e' := nI S.length) hd2 ⟨X.length + 1, ?_⟩) (fun z => absurd z (by omega))
  refine qd_gi24 (L := []) (by omega) k3 X 0 (X.length + 1) a3 (by omega) (by omega) k3.2.1 k3.2.2.1 qd_ok_nil trivial (fun L' b3 q1 q2 q3 Q hQ => ?_)
  rw [hd2]
  refine qd_push (p := (z, e - qd_pop (qd_lo p &&& M))) (by omega) (qd_fs_take hF) (qd_lt_of z3 k1) (show e - qd_pop (qd_lo p &&& M) ≤ qd_pop z by omega) q1 (qd_is_given k4 (qd_lo_lt p) z1 z2 (fun t _ => ?_)) q2 (fun u' hu' => hQ _ _ (H z u' hz hu'))
  rw [q3 t]
  exact ⟨fun g => g.elim (fun g => absurd g (qd_up_nil t)) id, Or.inr⟩
end
section
/-! the reading methods over a stack -/
theorem qd_leastSetsS {post : Int32 → Prop} {S : List (Nat × Nat)} {k : Nat} {p : Nat × Nat} {u : St2} (hu : qd_st S u) (hS : S.length ≤ 10) (hk : k < S.length) (hp : S[S.length - 1 - k]? = some p) (H : post (nI (qd_cb (qd_pop p.1) p.2 8))) : wpX_leastSets post u (nI k) := by
  obtain ⟨dep, gat, old, a1, a2, a3, a4⟩ := u
  obtain ⟨hd, hF⟩ := hu
  dsimp only at hd hF
  subst hd
  obtain ⟨k1, k2, X, k3, k4⟩ := hF _ _ hp
  refine qd_leastSets hS hk k3 ?_
  rw [qd_len k3.2.2 k4 k1 k2]
  exact H
theorem qd_leastSetS {post : Int32 → Prop} {S : List (Nat × Nat)} {k n e : Nat} {u : St2} (hu : qd_st S u) (hS : S.length ≤ 10) (hk : k < S.length) (hp : S[S.length - 1 - k]? = some (2 ^ n - 1, e)) (hn : n ≤ 8) (H : post (nI (2 ^ e - 1))) : wpX_leastSet post u (nI k) 0 := by
  obtain ⟨dep, gat, old, a1, a2, a3, a4⟩ := u
  obtain ⟨hd, hF⟩ := hu
  dsimp only at hd hF
  subst hd
  obtain ⟨k1, k2, X, k3, k4⟩ := hF _ _ hp
  dsimp only at k1 k2 k4
  rw [qd_pop_all n hn] at k2
  obtain ⟨h1, h2⟩ := qd_least k3.2.2 k4 hn k2
  exact qd_leastSet hS hk k3 h1 h2 H
theorem qd_withstandS {post : Int32 → Prop} {S : List (Nat × Nat)} {k : Nat} {p : Nat × Nat} {u : St2} (hu : qd_st S u) (hS : S.length ≤ 10) (hk : k < S.length) (hp : S[S.length - 1 - k]? = some p) (H : post (nI (if p.2 = 0 then 9 else qd_pop p.1 - p.2 + 1))) : wpX_withstand post u (nI k) := by
  obtain ⟨dep, gat, old, a1, a2, a3, a4⟩ := u
  obtain ⟨hd, hF⟩ := hu
  dsimp only at hd hF
  subst hd
  obtain ⟨k1, k2, X, k3, k4⟩ := hF _ _ hp
  refine qd_withstand hS hk k3 (fun r h1 h2 => ?_)
  rw [qd_best k3.2.2 k4 k1 k2 h1 h2]
  exact H
theorem qd_meetS {post : Int32 → Prop} {S : List (Nat × Nat)} {k l M c d : Nat} {u : St2} (hu : qd_st S u) (hS : S.length ≤ 10) (hk : k < S.length) (hl : l < S.length) (hp : S[S.length - 1 - k]? = some (M, c)) (hq : S[S.length - 1 - l]? = some (M, d)) (H0 : c + d ≤ qd_pop M → post 0) (H1 : qd_pop M < c + d → post 1) : wpX_meet post u (nI k) (nI l) := by
  obtain ⟨dep, gat, old, a1, a2, a3, a4⟩ := u
  obtain ⟨hd, hF⟩ := hu
  dsimp only at hd hF
  subst hd
  obtain ⟨k1, k2, A, k3, k4⟩ := hF _ _ hp
  obtain ⟨l1, l2, B, l3, l4⟩ := hF _ _ hq
  dsimp only at k1 k2 k4 l1 l2 l4
  have h := qd_meets k3.2.2 k4 l3.2.2 l4 k1 l2
  exact qd_meet hS hk hl k3 l3 (fun g => H0 (Nat.le_of_not_lt (fun z => g (h.mpr z)))) (fun g => H1 (h.mp g))
theorem qd_enoughS {post : Int32 → Prop} {S : List (Nat × Nat)} {k : Nat} {p : Nat × Nat} {q : Int32} {u : St2} (hu : qd_st S u) (hS : S.length ≤ 10) (hk : k < S.length) (hp : S[S.length - 1 - k]? = some p) (H1 : p.2 ≤ qd_pop (qd_lo q &&& p.1) → post 1) (H0 : qd_pop (qd_lo q &&& p.1) < p.2 → post 0) : wpX_enough post u (nI k) q := by
  obtain ⟨dep, gat, old, a1, a2, a3, a4⟩ := u
  obtain ⟨hd, hF⟩ := hu
  dsimp only at hd hF
  subst hd
  obtain ⟨k1, k2, X, k3, k4⟩ := hF _ _ hp
  have h := k4 (qd_lo q) (qd_lo_lt q)
  exact qd_enough hS hk k3 (fun g => H1 (h.mp g)) (fun g => H0 (Nat.lt_of_not_le (fun z => g (h.mpr z))))
end
section
/-! the law, from its end -/
theorem qd_603 {post : Int32 → St0 → Prop} {mc ms n c kc ks : Nat} {q : Nat × Nat} {z0 z1 dep gat old : Int32} {a1 a2 a3 a4 : Nat → Int32} (hn : n ≤ 8) (hc : c ≤ n) (hz : z1 = z0) (hu : qd_st [(2 ^ n - 1, c), q] (dep, gat, old, a1, a2, a3, a4)) (H : post 1 ()) : wL_lawOf_603 post mc ms (nI n) (nI c) z0 z1 kc ks dep gat old a1 a2 a3 a4 := by
  unfold wL_lawOf_603
  refine br_t hz (qd_drop (S := [(2 ^ n - 1, c)]) (p := q) hu (by simp) (fun ⟨d1, g1, o1, b1, b2, b3, b4⟩ h1 => br_t rfl ?_))
  refine qd_leastSetsS (k := 0) (p := (2 ^ n - 1, c)) h1 (by simp) (by simp) rfl (qd_choose hn hc (br_t ?_ ?_))
  · rw [qd_pop_all n hn]
  refine qd_drop (S := []) (p := (2 ^ n - 1, c)) h1 (by simp) (fun ⟨d2, g2, o2, c1, c2, c3, c4⟩ h2 => br_t rfl ?_)
  exact qd_dropN h2 (br_t rfl H)
theorem qd_581 {post : Int32 → St0 → Prop} {mc ms n c z l kc ks : Nat} {z0 z1 dep gat old : Int32} {a1 a2 a3 a4 : Nat → Int32} (hn : n ≤ 8) (hc : c ≤ n) (hl : l ≤ 8) (hz : z1 = z0) (hu : qd_st [(2 ^ n - 1, c), (z, l)] (dep, gat, old, a1, a2, a3, a4)) (H : post 1 ()) : wL_lawOf_581 post mc ms (nI n) (nI c) (nI l) z0 z1 kc ks dep gat old a1 a2 a3 a4 := by
  unfold wL_lawOf_581
  have e0 : qd_pop (qd_lo 0 &&& z) = 0 := by
    rw [show qd_lo 0 = 0 from rfl, Nat.zero_and, qd_pop0]
  refine br_t hz (qd_enoughS (k := 0) (p := (z, l)) hu (by simp) (by simp) rfl (fun g => ?_) (fun g => ?_))
  · dsimp only at g
    rw [e0] at g
    exact pk_eq l 0 (fun _ => qd_603 hn hc rfl hu H) (fun z => absurd z (by omega))
  · dsimp only at g
    rw [e0] at g
    exact pk_eq l 0 (fun z => absurd z (by omega)) (fun _ => qd_603 hn hc rfl hu H)
theorem qd_534 {post : Int32 → St0 → Prop} {mc ms n c z o l kc ks : Nat} {dep gat old : Int32} {a1 a2 a3 a4 : Nat → Int32} (hn : n ≤ 8) (hc : c ≤ n) (ho : n = o + qd_pop z) (hl : l ≤ qd_pop z) (hu : qd_st [(2 ^ n - 1, c), (z, l)] (dep, gat, old, a1, a2, a3, a4)) (H : post 1 ()) : wL_lawOf_534 post mc ms (nI n) (nI c) (nI o) (nI l) kc ks dep gat old a1 a2 a3 a4 := by
  unfold wL_lawOf_534
  have e : nI n - nI o = nI (qd_pop z) := by
    rw [pk_sub (by omega)]
    exact congrArg nI (by omega)
  rw [e]
  refine qd_leastSetsS (k := 0) (p := (z, l)) hu (by simp) (by simp) rfl (qd_choose (by omega) hl (br_t rfl ?_))
  refine qd_withstandS (k := 0) (p := (z, l)) hu (by simp) (by simp) rfl ?_
  refine pk_eq l 0 (fun g => qd_581 hn hc (by omega) ?_ hu H) (fun g => qd_581 hn hc (by omega) ?_ hu H)
  · rw [if_pos g]
    rfl
  · rw [if_neg g, pk_sub hl, nI_1]
theorem qd_502 {post : Int32 → St0 → Prop} {mc ms n c e kc ks : Nat} {g z0 z1 dep gat old : Int32} {a1 a2 a3 a4 : Nat → Int32} (hn : n ≤ 8) (hc : c ≤ n) (he : e ≤ n) (hz : z1 = z0) (hu : qd_st [(2 ^ n - 1, c), (2 ^ n - 1, e)] (dep, gat, old, a1, a2, a3, a4)) (H : post 1 ()) : wL_lawOf_502 post mc ms g (nI n) (nI c) (nI e) (nI (qd_pop (qd_lo g &&& (2 ^ n - 1)))) z0 z1 kc ks dep gat old a1 a2 a3 a4 := by
  unfold wL_lawOf_502
  refine br_t hz (qd_given (S := [(2 ^ n - 1, c)]) (M := 2 ^ n - 1) (e := e) hu (by simp) (fun z ⟨d1, g1, o1, b1, b2, b3, b4⟩ hp h1 => br_t rfl ?_))
  rw [qd_pop_all n hn] at hp
  revert hp h1
  generalize qd_pop (qd_lo g &&& (2 ^ n - 1)) = o
  intro hp h1
  rcases Nat.lt_or_ge e o with c1 | c1
  · rw [show e - o = 0 by omega] at h1
    have hneg := pk_sneg (a := e) (b := o) (by omega) c1
    exact br_f (Int32.not_le.mpr hneg) (qd_534 (l := 0) hn hc hp (Nat.zero_le _) h1 H)
  · rw [pk_sub c1]
    exact br_t (nI_pos' (by omega)) (qd_534 hn hc hp (by omega) h1 H)
theorem qd_440 {post : Int32 → St0 → Prop} {mc ms n c e kc ks : Nat} {g s dep gat old : Int32} {a1 a2 a3 a4 : Nat → Int32} (hn : n ≤ 8) (hA : 2 ^ n - 1 < 256) (hc : c ≤ n) (he : e ≤ n) (hu : qd_st [(2 ^ n - 1, c), (2 ^ n - 1, e)] (dep, gat, old, a1, a2, a3, a4)) (H : post 1 ()) : ∃ fu, wL_lawOf_440 post mc ms g s (nI n) (nI c) (nI (2 ^ n - 1)) (nI e) kc ks dep gat old a1 a2 a3 a4 fu 0 0 0 := by
  refine pk_loop (σ := Int32 × Int32) (fun f i x => wL_lawOf_440 post mc ms g s (nI n) (nI c) (nI (2 ^ n - 1)) (nI e) kc ks dep gat old a1 a2 a3 a4 f x.1 x.2 (nI i)) (fun i x => x.1 = nI (qd_popk i (qd_lo s &&& (2 ^ n - 1))) ∧ x.2 = nI (qd_popk i (qd_lo g &&& (2 ^ n - 1)))) 8 0 (0, 0) (by omega) ⟨nI_0.symm, nI_0.symm⟩ ?_ ?_
  · rintro f ⟨x, y⟩ ⟨h1, h2⟩
    dsimp only at h1 h2
    subst h1 h2
    have h8 := qd_pop_8 (qd_lo s &&& (2 ^ n - 1)) (qd_and_lt _ hA)
    refine pk_le 8 8 (fun _ => qd_enoughS (k := 0) (p := (2 ^ n - 1, e)) hu (by simp) (by simp) rfl (fun q => ?_) (fun q => ?_)) (fun z => absurd z (by omega))
    · exact pk_lt (qd_pop (qd_lo s &&& (2 ^ n - 1))) e (fun z => absurd z (Nat.not_lt.mpr q)) (fun _ => qd_502 hn hc he rfl hu H)
    · exact pk_lt (qd_pop (qd_lo s &&& (2 ^ n - 1))) e (fun _ => qd_502 hn hc he rfl hu H) (fun z => absurd z (Nat.not_le.mpr q))
  · rintro f i ⟨x, y⟩ hi ⟨h1, h2⟩ hw
    dsimp only at h1 h2 hw ⊢
    subst h1 h2
    refine pk_le 8 i (fun z => absurd z (by omega)) (fun _ => ?_)
    rw [qd_andm s hA, qd_andm g hA, qd_sbit (qd_and_lt _ hA) hi, qd_sbit (qd_and_lt _ hA) hi, nI_add, nI_add]
    exact nm_e (nm_e (nm_r (nI_1 i) (hw (_, _) ⟨rfl, rfl⟩)))
theorem qd_240 {post : Int32 → St0 → Prop} {mc ms n c d kc ks : Nat} {g s dep gat old : Int32} {a1 a2 a3 a4 : Nat → Int32} (hn : n ≤ 8) (hc : c ≤ n) (hd : d ≤ n) (hd1 : 1 ≤ d) (hu : qd_st [(2 ^ n - 1, c), (2 ^ n - 1, d)] (dep, gat, old, a1, a2, a3, a4)) (H : post 1 ()) : wL_lawOf_240 post mc ms g s (nI n) (nI c) (nI d) (nI (2 ^ n - 1)) (nI (min c d)) (nI (max c d)) kc ks dep gat old a1 a2 a3 a4 := by
  have hA : 2 ^ n - 1 < 256 := by
    have : 2 ^ n ≤ 2 ^ 8 := Nat.pow_le_pow_right (by omega) hn
    omega
  have hp := qd_pop_all n hn
  unfold wL_lawOf_240
  refine qd_copy (S := [(2 ^ n - 1, c), (2 ^ n - 1, d)]) (k := 1) (p := (2 ^ n - 1, c)) hu (by simp) (by simp) rfl (fun ⟨_, _, _, _, _, _, _⟩ hu1 => br_t rfl ?_)
  refine qd_copy (S := [(2 ^ n - 1, c), (2 ^ n - 1, d), (2 ^ n - 1, c)]) (k := 1) (p := (2 ^ n - 1, d)) hu1 (by simp) (by simp) rfl (fun ⟨_, _, _, _, _, _, _⟩ hu2 => br_t rfl ?_)
  refine qd_join1 (S := [(2 ^ n - 1, c), (2 ^ n - 1, d)]) (M := 2 ^ n - 1) (c := c) (d := d) hu2 (by simp) (fun ⟨_, _, _, _, _, _, _⟩ hu3 => br_t rfl ?_)
  refine qd_leastSetS (S := [(2 ^ n - 1, c), (2 ^ n - 1, d), (2 ^ n - 1, max c d)]) (k := 0) (n := n) (e := max c d) hu3 (by simp) (by simp) rfl hn (br_t (qd_ones (by omega)).symm ?_)
  refine qd_drop (S := [(2 ^ n - 1, c), (2 ^ n - 1, d)]) (p := (2 ^ n - 1, max c d)) hu3 (by simp) (fun ⟨_, _, _, _, _, _, _⟩ hu4 => br_t rfl ?_)
  refine qd_copy (S := [(2 ^ n - 1, c), (2 ^ n - 1, d)]) (k := 0) (p := (2 ^ n - 1, d)) hu4 (by simp) (by simp) rfl (fun ⟨_, _, _, _, _, _, _⟩ hu5 => br_t rfl ?_)
  refine qd_copy (S := [(2 ^ n - 1, c), (2 ^ n - 1, d), (2 ^ n - 1, d)]) (k := 2) (p := (2 ^ n - 1, c)) hu5 (by simp) (by simp) rfl (fun ⟨_, _, _, _, _, _, _⟩ hu6 => br_t rfl ?_)
  refine qd_join0 (S := [(2 ^ n - 1, c), (2 ^ n - 1, d)]) (M := 2 ^ n - 1) (c := d) (d := c) hu6 (by simp) (fun ⟨_, _, _, _, _, _, _⟩ hu7 => br_t rfl ?_)
  refine qd_leastSetsS (S := [(2 ^ n - 1, c), (2 ^ n - 1, d), (2 ^ n - 1, min d c)]) (k := 0) (p := (2 ^ n - 1, min d c)) hu7 (by simp) (by simp) rfl (qd_choose hn (by omega) (br_t ?_ ?_))
  · rw [hp, Nat.min_comm]
  refine qd_drop (S := [(2 ^ n - 1, c), (2 ^ n - 1, d)]) (p := (2 ^ n - 1, min d c)) hu7 (by simp) (fun ⟨_, _, _, _, _, _, _⟩ hu8 => br_t rfl ?_)
  refine qd_copyN (S := [(2 ^ n - 1, c), (2 ^ n - 1, d)]) (k := 2) hu8 (by simp) (by simp) (by simp) (br_t rfl ?_)
  refine qd_dual (S := [(2 ^ n - 1, c)]) (M := 2 ^ n - 1) (d := d) hu8 (by simp) hd1 (fun ⟨_, _, _, _, _, _, _⟩ hu9 => br_t rfl ?_)
  rw [hp] at hu9
  have ee : (nI n - nI d) + 1 = nI (n - d + 1) := by rw [pk_sub hd, nI_1]
  rw [ee]
  refine qd_leastSetsS (S := [(2 ^ n - 1, c), (2 ^ n - 1, n - d + 1)]) (k := 0) (p := (2 ^ n - 1, n - d + 1)) hu9 (by simp) (by simp) rfl (qd_choose hn (by omega) (br_t ?_ ?_))
  · rw [hp]
  refine qd_withstandS (S := [(2 ^ n - 1, c), (2 ^ n - 1, n - d + 1)]) (k := 0) (p := (2 ^ n - 1, n - d + 1)) hu9 (by simp) (by simp) rfl (br_t ?_ ?_)
  · dsimp only
    rw [hp, if_neg (by omega)]
    exact congrArg nI (by omega)
  refine qd_enoughS (S := [(2 ^ n - 1, c), (2 ^ n - 1, n - d + 1)]) (k := 0) (p := (2 ^ n - 1, n - d + 1)) hu9 (by simp) (by simp) rfl (fun q => br_t rfl (nm_e ?_)) (fun q => ?_)
  · exact qd_440 hn hA hc (by omega) hu9 H
  · refine absurd q ?_
    dsimp only
    have e2 : qd_lo 255 &&& (2 ^ n - 1) = 2 ^ n - 1 := by
      rw [show qd_lo 255 = 255 from rfl, Nat.and_comm, qd_le_iff]
      intro i hi
      rw [qd_255]
      exact decide_eq_true (qd_bit8 hA hi)
    rw [e2, hp]
    omega
theorem qd_205 {post : Int32 → St0 → Prop} {mc ms n c d kc ks : Nat} {g s z0 z1 dep gat old : Int32} {a1 a2 a3 a4 : Nat → Int32} (hn : n ≤ 8) (hc : c ≤ n) (hd : d ≤ n) (hd1 : 1 ≤ d) (hz : z1 = z0) (hu : qd_st [(2 ^ n - 1, c), (2 ^ n - 1, d)] (dep, gat, old, a1, a2, a3, a4)) (H : post 1 ()) : wL_lawOf_205 post mc ms g s (nI n) (nI c) (nI d) (nI (2 ^ n - 1)) z0 z1 kc ks dep gat old a1 a2 a3 a4 := by
  have h := qd_240 (post := post) (mc := mc) (ms := ms) (kc := kc) (ks := ks) (g := g) (s := s) hn hc hd hd1 hu H
  unfold wL_lawOf_205
  refine br_t hz (pk_le d c (fun z => ?_) (fun z => ?_))
  · rw [show min c d = d by omega, show max c d = c by omega] at h
    exact pk_le d c (fun _ => h) (fun y => absurd y (by omega))
  · rw [show min c d = c by omega, show max c d = d by omega] at h
    exact pk_le d c (fun y => absurd y (by omega)) (fun _ => h)
theorem qd_181 {post : Int32 → St0 → Prop} {mc ms n c d kc ks : Nat} {g s z0 z1 dep gat old : Int32} {a1 a2 a3 a4 : Nat → Int32} (hn : n ≤ 8) (hc : c ≤ n) (hd : d ≤ n) (hd1 : 1 ≤ d) (hz : z1 = z0) (hu : qd_st [(2 ^ n - 1, c), (2 ^ n - 1, d)] (dep, gat, old, a1, a2, a3, a4)) (H : post 1 ()) : wL_lawOf_181 post mc ms g s (nI n) (nI c) (nI d) (nI (2 ^ n - 1)) z0 z1 kc ks dep gat old a1 a2 a3 a4 := by
  have hp := qd_pop_all n hn
  unfold wL_lawOf_181
  refine br_t hz (qd_meetS (S := [(2 ^ n - 1, c), (2 ^ n - 1, d)]) (k := 0) (l := 0) (M := 2 ^ n - 1) (c := d) (d := d) hu (by simp) (by simp) (by simp) rfl rfl (fun q => ?_) (fun q => ?_))
  · rw [hp] at q
    exact pk_le (2 * d) n (fun _ => qd_205 hn hc hd hd1 rfl hu H) (fun z => absurd z (by omega)) (pk_mul 2 d)
  · rw [hp] at q
    exact pk_le (2 * d) n (fun z => absurd z (by omega)) (fun _ => qd_205 hn hc hd hd1 rfl hu H) (pk_mul 2 d)
theorem qd_lawOf {post : Int32 → St0 → Prop} {p0 p1 p2 p3 p4 : Int32} (H : post 1 ()) : wpL_lawOf post 440 7040 () p0 p1 p2 p3 p4 := by
  obtain ⟨j, hj, ej⟩ := pk_andE p0 (m := 7) 3 (by decide)
  obtain ⟨b, hb, eb⟩ := pk_andE p1 (m := 255) 8 (by decide)
  obtain ⟨b', hb', eb'⟩ := pk_andE p2 (m := 255) 8 (by decide)
  refine ⟨by omega, by omega, 4, 852, by omega, by omega, by omega, by omega, by omega, by omega, by omega, by omega, by omega, by omega, ?_⟩
  dsimp only
  have en : 1 + (p0 &&& 7) = nI (1 + j) := by rw [ej]; exact nI_add 1 j
  have hn8 : 1 + j ≤ 8 := by omega
  refine nm_r en ?_
  generalize hn : 1 + j = n
  have hn1 : 1 ≤ n := by omega
  have hn2 : n ≤ 8 := by omega
  have hA : 2 ^ n - 1 < 256 := by
    have : 2 ^ n ≤ 2 ^ 8 := Nat.pow_le_pow_right (by omega) hn2
    omega
  have hm : b % n < n := Nat.mod_lt _ hn1
  have hm' : b' % n < n := Nat.mod_lt _ hn1
  have ec : 1 + ((p1 &&& 255) - (p1 &&& 255) / nI n * nI n) = nI (1 + b % n) := by
    rw [eb, pk_rem (by omega) (by omega) (by omega)]
    exact nI_add 1 _
  have ed : 1 + ((p2 &&& 255) - (p2 &&& 255) / nI n * nI n) = nI (1 + b' % n) := by
    rw [eb', pk_rem (by omega) (by omega) (by omega)]
    exact nI_add 1 _
  refine ⟨nI_ne0 (by omega) (by omega), nm_r ec ⟨nI_ne0 (by omega) (by omega), nm_r ed (nm_r (qd_ones hn2) ?_)⟩⟩
  have hc1 : 1 ≤ 1 + b % n := by omega
  have hc2 : 1 + b % n ≤ n := by omega
  have hd1 : 1 ≤ 1 + b' % n := by omega
  have hd2 : 1 + b' % n ≤ n := by omega
  generalize 1 + b % n = c at hc1 hc2 ⊢
  generalize 1 + b' % n = d at hd1 hd2 ⊢
  have hp := qd_pop_all n hn2
  have h0 : qd_st [] ((0 : Int32), (0 : Int32), (0 : Int32), (fun _ => (0 : Int32)), (fun _ => (0 : Int32)), (fun _ => (0 : Int32)), (fun _ => (0 : Int32))) := ⟨rfl, fun f p h => absurd h (by simp)⟩
  refine qd_atLeast (S := []) (c := c) (M := 2 ^ n - 1) h0 (by simp) hA (by omega) (fun ⟨_, _, _, _, _, _, _⟩ h1 => br_t rfl ?_)
  refine qd_atLeast (S := [(2 ^ n - 1, c)]) (c := d) (M := 2 ^ n - 1) h1 (by simp) hA (by omega) (fun ⟨_, _, _, _, _, _, _⟩ h2 => br_t rfl ?_)
  refine qd_leastSetsS (S := [(2 ^ n - 1, c), (2 ^ n - 1, d)]) (k := 1) (p := (2 ^ n - 1, c)) h2 (by simp) (by simp) rfl (qd_choose hn2 hc2 (br_t (by rw [hp]) ?_))
  refine qd_leastSetsS (S := [(2 ^ n - 1, c), (2 ^ n - 1, d)]) (k := 0) (p := (2 ^ n - 1, d)) h2 (by simp) (by simp) rfl (qd_choose hn2 hd2 (br_t (by rw [hp]) ?_))
  refine qd_leastSetS (S := [(2 ^ n - 1, c), (2 ^ n - 1, d)]) (k := 0) (n := n) (e := d) h2 (by simp) (by simp) rfl hn2 (br_t (qd_ones (by omega)).symm ?_)
  refine qd_withstandS (S := [(2 ^ n - 1, c), (2 ^ n - 1, d)]) (k := 0) (p := (2 ^ n - 1, d)) h2 (by simp) (by simp) rfl (br_t ?_ ?_)
  · dsimp only
    rw [hp, if_neg (by omega), pk_sub hd2, nI_1]
  refine qd_withstandS (S := [(2 ^ n - 1, c), (2 ^ n - 1, d)]) (k := 1) (p := (2 ^ n - 1, c)) h2 (by simp) (by simp) rfl (br_t ?_ ?_)
  · dsimp only
    rw [hp, if_neg (by omega), pk_sub hc2, nI_1]
  refine qd_meetS (S := [(2 ^ n - 1, c), (2 ^ n - 1, d)]) (k := 0) (l := 1) (M := 2 ^ n - 1) (c := d) (d := c) h2 (by simp) (by simp) (by simp) rfl rfl (fun q => ?_) (fun q => ?_)
  · rw [hp] at q
    exact pk_le (c + d) n (fun _ => qd_181 hn2 hc2 hd2 hd1 rfl h2 H) (fun z => absurd z (by omega)) (nI_add c d)
  · rw [hp] at q
    exact pk_le (c + d) n (fun z => absurd z (by omega)) (fun _ => qd_181 hn2 hc2 hd2 hd1 rfl h2 H) (nI_add c d)
theorem qd_cell {post : Int32 → Prop} {L : Nat} {xs : Nat → Int32} {k : Nat} (hL : L ≤ 5) (hk : k < 5) (H : ∀ r, post r) : wpL_cellAt post L xs () (nI k) :=
  pk_le L k (fun _ => H _) (fun z => ⟨pk_in k L z, H _⟩)
theorem i_vc (xs : Nat → Int32) (L : Nat) (hL : L ≤ 5) : wpL_law (fun r => r = 1) L xs := by
  unfold wpL_law
  refine qd_cell (k := 0) hL (by omega) (fun r1 => qd_cell (k := 1) hL (by omega) (fun r2 => qd_cell (k := 2) hL (by omega) (fun r3 => qd_cell (k := 3) hL (by omega) (fun r4 => qd_cell (k := 4) hL (by omega) (fun r5 => ⟨440, 7040, by omega, by omega, ?_⟩)))))
  exact qd_lawOf rfl
end
