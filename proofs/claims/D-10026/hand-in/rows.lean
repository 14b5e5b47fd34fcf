section
/-! sets of the vertices 0..6 as bits of a number -/
def gd_i (s v : Nat) : Prop := s.testBit v = true
def gd_d (a b : Nat) : Nat := a ^^^ (a &&& b)
theorem gd_i_and {a b i : Nat} : gd_i (a &&& b) i ↔ gd_i a i ∧ gd_i b i := by
  unfold gd_i
  rw [Nat.testBit_and, Bool.and_eq_true]
theorem gd_i_or {a b i : Nat} : gd_i (a ||| b) i ↔ gd_i a i ∨ gd_i b i := by
  unfold gd_i
  rw [Nat.testBit_or, Bool.or_eq_true]
theorem gd_i_d {a b i : Nat} : gd_i (gd_d a b) i ↔ gd_i a i ∧ ¬ gd_i b i := by
  unfold gd_i gd_d
  rw [Nat.testBit_xor, Nat.testBit_and]
  cases a.testBit i <;> cases b.testBit i <;> decide
theorem gd_i_p {v i : Nat} : gd_i (2 ^ v) i ↔ i = v := by
  unfold gd_i
  rw [Nat.testBit_two_pow, decide_eq_true_iff]
  exact eq_comm
theorem gd_i_0 {i : Nat} : ¬ gd_i 0 i := by
  unfold gd_i
  rw [Nat.zero_testBit]
  decide
theorem gd_i_127 {i : Nat} (h : i < 7) : gd_i 127 i := (by decide : ∀ i, i < 7 → Nat.testBit 127 i = true) i h
theorem gd_lt7 {s i : Nat} (hs : s < 128) (h : gd_i s i) : i < 7 := by
  rcases Nat.lt_or_ge i 7 with z | z
  · exact z
  · have h2 : s < 2 ^ i := Nat.lt_of_lt_of_le (show s < 2 ^ 7 from hs) (Nat.pow_le_pow_right (by decide) z)
    unfold gd_i at h
    rw [Nat.testBit_lt_two_pow h2] at h
    exact absurd h (by decide)
theorem gd_ext {a b : Nat} (ha : a < 128) (hb : b < 128) (h : ∀ i, i < 7 → (gd_i a i ↔ gd_i b i)) : a = b := by
  apply Nat.eq_of_testBit_eq
  intro i
  rw [Bool.eq_iff_iff]
  exact ⟨fun z => (h i (gd_lt7 ha z)).mp z, fun z => (h i (gd_lt7 hb z)).mpr z⟩
theorem gd_ne0 {s : Nat} (hs : s < 128) (h : s ≠ 0) : ∃ v, v < 7 ∧ gd_i s v := by
  obtain ⟨i, hi⟩ := Nat.exists_testBit_of_ne_zero h
  exact ⟨i, gd_lt7 hs hi, hi⟩
theorem gd_lt_and {a b : Nat} (h : a < 128) : a &&& b < 128 := Nat.lt_of_le_of_lt Nat.and_le_left h
theorem gd_lt_d {a b : Nat} (h : a < 128) : gd_d a b < 128 := Nat.xor_lt_two_pow (n := 7) h (gd_lt_and h)
theorem gd_lt_or {a b : Nat} (h : a < 128) (h2 : b < 128) : a ||| b < 128 := Nat.or_lt_two_pow (n := 7) h h2
theorem gd_lt_p {v : Nat} (h : v < 7) : 2 ^ v < 128 := (by decide : ∀ v, v < 7 → 2 ^ v < 128) v h
theorem gd_sub_lt {a b v : Nat} (h : ∀ i, gd_i a i → gd_i b i) (h1 : gd_i b v) (h2 : ¬ gd_i a v) : a < b := by
  have e : a &&& b = a := by
    apply Nat.eq_of_testBit_eq
    intro i
    rw [Bool.eq_iff_iff]
    exact ⟨fun z => (gd_i_and.mp z).1, fun z => gd_i_and.mpr ⟨z, h i z⟩⟩
  have l : a ≤ b := Nat.le_trans (Nat.le_of_eq e.symm) Nat.and_le_right
  rcases Nat.lt_or_ge a b with z | z
  · exact z
  · exact absurd (show gd_i a v by rw [Nat.le_antisymm l z]; exact h1) h2
theorem gd_d_lt {s u : Nat} (h : gd_i s u) : gd_d s (2 ^ u) < s := gd_sub_lt (fun i z => (gd_i_d.mp z).1) h (fun z => (gd_i_d.mp z).2 (gd_i_p.mpr rfl))
theorem gd_mask (P : Nat → Prop) : ∃ s, s < 128 ∧ ∀ i, gd_i s i ↔ i < 7 ∧ P i := by
  have H : ∀ n, n ≤ 7 → ∃ s, s < 128 ∧ ∀ i, gd_i s i ↔ i < n ∧ P i := by
    intro n
    induction n with
    | zero => exact fun _ => ⟨0, by decide, fun i => ⟨fun z => absurd z gd_i_0, fun z => absurd z.1 (by omega)⟩⟩
    | succ n ih =>
      intro hn
      obtain ⟨s, hs, h⟩ := ih (by omega)
      by_cases hp : P n
      · refine ⟨s ||| 2 ^ n, gd_lt_or hs (gd_lt_p (by omega)), fun i => ?_⟩
        rw [gd_i_or, gd_i_p, h i]
        constructor
        · rintro (z | z)
          · exact ⟨by omega, z.2⟩
          · exact ⟨by omega, z ▸ hp⟩
        · intro z
          by_cases e : i = n
          · exact Or.inr e
          · exact Or.inl ⟨by omega, z.2⟩
      · refine ⟨s, hs, fun i => ?_⟩
        rw [h i]
        constructor
        · exact fun z => ⟨by omega, z.2⟩
        · intro z
          have ne : i ≠ n := fun e => hp (e ▸ z.2)
          exact ⟨by omega, z.2⟩
  exact H 7 (by omega)
/-! how many -/
def gd_cn (s : Nat) : Nat → Nat
  | 0 => 0
  | n + 1 => gd_cn s n + (s.testBit n).toNat
def gd_on (s : Nat) : Nat := gd_cn s 7
theorem gd_cn_le (s n : Nat) : gd_cn s n ≤ n := by
  induction n with
  | zero => exact Nat.le_refl 0
  | succ n ih =>
    show gd_cn s n + (s.testBit n).toNat ≤ n + 1
    have := Bool.toNat_le (s.testBit n)
    omega
theorem gd_on_le (s : Nat) : gd_on s ≤ 7 := gd_cn_le s 7
theorem gd_cn_un {s a b : Nat} (h : ∀ i, gd_i s i → gd_i a i ∨ gd_i b i) (n : Nat) : gd_cn s n ≤ gd_cn a n + gd_cn b n := by
  induction n with
  | zero => exact Nat.le_refl 0
  | succ n ih =>
    show gd_cn s n + (s.testBit n).toNat ≤ (gd_cn a n + (a.testBit n).toNat) + (gd_cn b n + (b.testBit n).toNat)
    have q : (s.testBit n).toNat ≤ (a.testBit n).toNat + (b.testBit n).toNat := by
      cases e : s.testBit n with
      | false => exact Nat.zero_le _
      | true =>
        rcases h n e with z | z
        · rw [show a.testBit n = true from z]
          exact Nat.le_add_right 1 _
        · rw [show b.testBit n = true from z]
          exact Nat.le_add_left 1 _
    omega
theorem gd_on_un {s a b : Nat} (h : ∀ i, gd_i s i → gd_i a i ∨ gd_i b i) : gd_on s ≤ gd_on a + gd_on b := gd_cn_un h 7
theorem gd_on_0 : gd_on 0 = 0 := by decide +kernel
theorem gd_on_127 : gd_on 127 = 7 := by decide +kernel
theorem gd_on_mono {a b : Nat} (h : ∀ i, gd_i a i → gd_i b i) : gd_on a ≤ gd_on b := by
  have := gd_on_un (s := a) (a := b) (b := 0) (fun i z => Or.inl (h i z))
  rw [gd_on_0] at this
  exact this
theorem gd_on_p : ∀ v, v < 7 → gd_on (2 ^ v) = 1 := by decide +kernel
theorem gd_on_d0 : ∀ s, s < 128 → ∀ v, v < 7 → s.testBit v = true → gd_on (gd_d s (2 ^ v)) + 1 = gd_on s := by decide +kernel
theorem gd_on_d {s v : Nat} (hs : s < 128) (h : gd_i s v) : gd_on (gd_d s (2 ^ v)) + 1 = gd_on s := gd_on_d0 s hs v (gd_lt7 hs h) h
theorem gd_on_z : ∀ s, s < 128 → gd_on s = 0 → s = 0 := by decide +kernel
end
section
/-! a graph on 0..6: M v: the neighbours of v, as bits -/
def gd_G (M : Nat → Nat) : Prop := (∀ v, v < 7 → M v < 128) ∧ (∀ v w, v < 7 → w < 7 → gd_i (M v) w → gd_i (M w) v) ∧ (∀ v, v < 7 → ¬ gd_i (M v) v)
def gd_cl (M : Nat → Nat) (S : Nat) : Prop := ∀ v w, gd_i S v → gd_i S w → v ≠ w → gd_i (M v) w
def gd_si (M : Nat → Nat) (v S : Nat) : Prop := gd_cl M (M v &&& S)
def gd_hs (M : Nat → Nat) : Prop := ∀ S, S < 128 → S ≠ 0 → ∃ v, v < 7 ∧ gd_i S v ∧ gd_si M v S
def gd_re (M : Nat → Nat) (T : Nat → Prop) (a b : Nat) : Prop := ∀ P : Nat → Prop, P a → (∀ v w, v < 7 → w < 7 → P v → gd_i (M v) w → T w → P w) → P b
def gd_T (M : Nat → Nat) (v b w : Nat) : Prop := w = b ∨ (w ≠ v ∧ ¬ gd_i (M v) w)
def gd_bad (M : Nat → Nat) (S : Nat) : Prop := ∃ v a b, v < 7 ∧ a < 7 ∧ b < 7 ∧ gd_i S v ∧ gd_i S a ∧ gd_i S b ∧ a ≠ b ∧ gd_i (M v) a ∧ gd_i (M v) b ∧ ¬ gd_i (M a) b ∧ gd_re M (fun w => gd_i S w ∧ gd_T M v b w) a b
def gd_tr (M : Nat → Nat) (v a b : Nat) : Prop := a < b ∧ gd_i (M v) a ∧ gd_i (M v) b ∧ ¬ gd_i (M a) b ∧ gd_re M (gd_T M v b) a b
theorem gd_tr_bad {M : Nat → Nat} {v a b : Nat} (hv : v < 7) (ha : a < 7) (hb : b < 7) (h : gd_tr M v a b) : gd_bad M 127 :=
  ⟨v, a, b, hv, ha, hb, gd_i_127 hv, gd_i_127 ha, gd_i_127 hb, Nat.ne_of_lt h.1, h.2.1, h.2.2.1, h.2.2.2.1, fun P pa hp => h.2.2.2.2 P pa (fun x y hx hy px e t => hp x y hx hy px e ⟨gd_i_127 hy, t⟩)⟩
theorem gd_bad_d {M : Nat → Nat} (g : gd_G M) {S u : Nat} (hu : u < 7) (hs : gd_si M u S) (h : gd_bad M S) : gd_bad M (gd_d S (2 ^ u)) := by
  obtain ⟨v, a, b, hv, ha, hb, sv, sa, sb, nab, va, vb, ab, re⟩ := h
  obtain ⟨g1, g2, g3⟩ := g
  have cl : ∀ x y, gd_i (M u) x → gd_i S x → gd_i (M u) y → gd_i S y → x ≠ y → gd_i (M x) y := fun x y h1 h2 h3 h4 ne => hs x y (gd_i_and.mpr ⟨h1, h2⟩) (gd_i_and.mpr ⟨h3, h4⟩) ne
  have e1 : v ≠ u := fun e => ab (cl a b (e ▸ va) sa (e ▸ vb) sb nab)
  have av : gd_i (M a) v := g2 v a hv ha va
  have bv : gd_i (M b) v := g2 v b hv hb vb
  have e2 : a ≠ u := by
    intro e
    refine nab (re (fun w => w = a) rfl (fun x y hx hy px exy t => ?_)).symm
    exfalso
    have exy' : gd_i (M a) y := px ▸ exy
    obtain ⟨ty, tb | ⟨t1, t2⟩⟩ := t
    · exact ab (tb ▸ exy')
    · exact t2 (cl v y (e ▸ av) sv (e ▸ exy') ty (Ne.symm t1))
  have e3 : b ≠ u := by
    intro e
    have q := re (fun w => w = a ∨ ((gd_i S w ∧ gd_T M v b w) ∧ (w = b → ∃ y, y < 7 ∧ (y = a ∨ (gd_i S y ∧ gd_T M v b y)) ∧ gd_i (M y) b))) (Or.inl rfl) (fun x y hx hy px exy t => Or.inr ⟨t, fun eb => ⟨x, hx, px.elim Or.inl (fun z => Or.inr z.1), eb ▸ exy⟩⟩)
    rcases q with q | ⟨_, q⟩
    · exact nab q.symm
    · obtain ⟨y, hy, py, eyb⟩ := q rfl
      have eby : gd_i (M b) y := g2 y b hy hb eyb
      rcases py with py | ⟨sy, py⟩
      · exact ab (py ▸ eyb)
      · rcases py with py | ⟨t1, t2⟩
        · exact g3 b hb (show gd_i (M b) b by rw [py] at eyb; exact eyb)
        · exact t2 (cl v y (e ▸ bv) sv (e ▸ eby) sy (Ne.symm t1))
  refine ⟨v, a, b, hv, ha, hb, gd_i_d.mpr ⟨sv, fun z => e1 (gd_i_p.mp z)⟩, gd_i_d.mpr ⟨sa, fun z => e2 (gd_i_p.mp z)⟩, gd_i_d.mpr ⟨sb, fun z => e3 (gd_i_p.mp z)⟩, nab, va, vb, ab, ?_⟩
  intro P pa hp
  have q := re (fun w => gd_i S w ∧ (w ≠ u → P w) ∧ (w = u → ∃ y, y < 7 ∧ gd_i S y ∧ y ≠ u ∧ P y ∧ gd_i (M u) y)) ⟨sa, fun _ => pa, fun z => absurd z e2⟩ ?_
  · exact q.2.1 e3
  · intro x y hx hy px exy t
    refine ⟨t.1, fun ny => ?_, fun ey => ?_⟩
    · by_cases ex : x = u
      · obtain ⟨z, hz, sz, nz, pz, uz⟩ := px.2.2 ex
        by_cases ezy : z = y
        · exact ezy ▸ pz
        · exact hp z y hz hy pz (cl z y uz sz (ex ▸ exy) t.1 ezy) ⟨gd_i_d.mpr ⟨t.1, fun k => ny (gd_i_p.mp k)⟩, t.2⟩
      · exact hp x y hx hy (px.2.1 ex) exy ⟨gd_i_d.mpr ⟨t.1, fun k => ny (gd_i_p.mp k)⟩, t.2⟩
    · have ex : x ≠ u := fun ex => g3 u hu (by rw [ex, ey] at exy; exact exy)
      exact ⟨x, hx, px.1, ex, px.2.1 ex, g2 x u hx hu (ey ▸ exy)⟩
theorem gd_bad_in {M : Nat → Nat} {S : Nat} (h : gd_bad M S) : S ≠ 0 := by
  obtain ⟨v, a, b, _, _, _, sv, _⟩ := h
  intro e
  rw [e] at sv
  exact gd_i_0 sv
theorem gd_hs_nb {M : Nat → Nat} (g : gd_G M) (h : gd_hs M) : ∀ S, S < 128 → ¬ gd_bad M S := by
  intro S
  induction S using Nat.strongRecOn with
  | ind S ih =>
    intro hS b
    obtain ⟨u, hu, su, si⟩ := h S hS (gd_bad_in b)
    exact ih _ (gd_d_lt su) (gd_lt_d hS) (gd_bad_d g hu si b)
theorem gd_re_refl {M : Nat → Nat} {T : Nat → Prop} {a : Nat} : gd_re M T a a := fun P pa _ => pa
theorem gd_re_step {M : Nat → Nat} {T : Nat → Prop} {a x y : Nat} (h : gd_re M T a x) (hx : x < 7) (hy : y < 7) (e : gd_i (M x) y) (t : T y) : gd_re M T a y := fun P pa hp => hp x y hx hy (h P pa hp) e t
theorem gd_re_trans {M : Nat → Nat} {T : Nat → Prop} {a b c : Nat} (h : gd_re M T a b) (h2 : gd_re M T b c) : gd_re M T a c := fun P pa hp => h2 P (h P pa hp) hp
theorem gd_re_symm {M : Nat → Nat} (g : gd_G M) {T : Nat → Prop} {u x : Nat} (hu : T u) (h : gd_re M T u x) : T x ∧ gd_re M T x u :=
  h (fun w => T w ∧ gd_re M T w u) ⟨hu, gd_re_refl⟩ (fun v w hv hw pv e t => ⟨t, gd_re_trans (gd_re_step gd_re_refl hw hv (g.2.1 v w hv hw e) pv.1) pv.2⟩)
def gd_C (M : Nat → Nat) (S v w : Nat) : Prop := gd_i S w ∧ w ≠ v ∧ ¬ gd_i (M v) w
theorem gd_dirac {M : Nat → Nat} (g : gd_G M) (nt : ∀ v a b, v < 7 → a < 7 → b < 7 → ¬ gd_tr M v a b) : ∀ S, S < 128 → ∀ v u, gd_i S v → gd_i S u → u ≠ v → ¬ gd_i (M v) u → ∃ x, x < 7 ∧ gd_i S x ∧ x ≠ v ∧ ¬ gd_i (M v) x ∧ gd_si M x S := by
  intro S
  induction S using Nat.strongRecOn with
  | ind S ih =>
    intro hS v u sv su nuv auv
    have hv := gd_lt7 hS sv
    have hu := gd_lt7 hS su
    have hT : gd_C M S v u := ⟨su, nuv, auv⟩
    have KT : ∀ w, gd_re M (gd_C M S v) u w → gd_C M S v w := fun w h => (gd_re_symm g hT h).1
    have K7 : ∀ w, gd_re M (gd_C M S v) u w → w < 7 := fun w h => gd_lt7 hS (KT w h).1
    obtain ⟨S', hS', mem⟩ := gd_mask (fun w => gd_i S w ∧ (gd_re M (gd_C M S v) u w ∨ ∃ k, gd_re M (gd_C M S v) u k ∧ gd_i (M k) w))
    have vS' : ¬ gd_i S' v := by
      intro z
      obtain ⟨_, _, z | ⟨k, hk, e⟩⟩ := (mem v).mp z
      · exact (KT v z).2.1 rfl
      · exact (KT k hk).2.2 (g.2.1 k v (K7 k hk) hv e)
    have lt : S' < S := gd_sub_lt (fun i z => ((mem i).mp z).2.1) sv vS'
    have bd : ∀ a, gd_i S' a → ¬ gd_re M (gd_C M S v) u a → gd_i (M v) a ∧ ∃ k, gd_re M (gd_C M S v) u k ∧ gd_i (M k) a := by
      intro a z na
      obtain ⟨a7, as, c | ⟨k, hk, e⟩⟩ := (mem a).mp z
      · exact absurd c na
      · refine ⟨?_, k, hk, e⟩
        by_cases q : gd_i (M v) a
        · exact q
        · have av : a ≠ v := fun e => vS' (e ▸ z)
          exact absurd (gd_re_step hk (K7 k hk) a7 e ⟨as, av, q⟩) na
    have bc1 : ∀ a b, gd_i S' a → ¬ gd_re M (gd_C M S v) u a → gd_i S' b → ¬ gd_re M (gd_C M S v) u b → a < b → gd_i (M a) b := by
      intro a b za na zb nb ab
      by_cases q : gd_i (M a) b
      · exact q
      · exfalso
        obtain ⟨va, k1, hk1, e1⟩ := bd a za na
        obtain ⟨vb, k2, hk2, e2⟩ := bd b zb nb
        have a7 := gd_lt7 hS' za
        have b7 := gd_lt7 hS' zb
        refine nt v a b hv a7 b7 ⟨ab, va, vb, q, fun P pa hp => ?_⟩
        have p1 : P k1 := hp a k1 a7 (K7 k1 hk1) pa (g.2.1 k1 a (K7 k1 hk1) a7 e1) (Or.inr ⟨(KT k1 hk1).2.1, (KT k1 hk1).2.2⟩)
        have p2 : P k2 := gd_re_trans (gd_re_symm g hT hk1).2 hk2 P p1 (fun x y hx hy px e t => hp x y hx hy px e (Or.inr ⟨t.2.1, t.2.2⟩))
        exact hp k2 b (K7 k2 hk2) b7 p2 e2 (Or.inl rfl)
    have bc : ∀ a b, gd_i S' a → ¬ gd_re M (gd_C M S v) u a → gd_i S' b → ¬ gd_re M (gd_C M S v) u b → a ≠ b → gd_i (M a) b := by
      intro a b za na zb nb ab
      rcases Nat.lt_or_gt_of_ne ab with l | l
      · exact bc1 a b za na zb nb l
      · exact g.2.1 b a (gd_lt7 hS' zb) (gd_lt7 hS' za) (bc1 b a zb nb za na l)
    have fin : ∀ x, gd_re M (gd_C M S v) u x → gd_si M x S' → ∃ x, x < 7 ∧ gd_i S x ∧ x ≠ v ∧ ¬ gd_i (M v) x ∧ gd_si M x S := by
      intro x hx hs
      refine ⟨x, K7 x hx, (KT x hx).1, (KT x hx).2.1, (KT x hx).2.2, ?_⟩
      intro p q hp hq npq
      have hp' := gd_i_and.mp hp
      have hq' := gd_i_and.mp hq
      have l : ∀ p, gd_i (M x) p → gd_i S p → gd_i S' p := fun p h1 h2 => (mem p).mpr ⟨gd_lt7 hS h2, h2, Or.inr ⟨x, hx, h1⟩⟩
      exact hs p q (gd_i_and.mpr ⟨hp'.1, l p hp'.1 hp'.2⟩) (gd_i_and.mpr ⟨hq'.1, l q hq'.1 hq'.2⟩) npq
    by_cases c1 : ∃ w z, gd_i S' w ∧ ¬ gd_re M (gd_C M S v) u w ∧ gd_i S' z ∧ z ≠ w ∧ ¬ gd_i (M w) z
    · obtain ⟨w, z, sw, nw, sz, nz, az⟩ := c1
      obtain ⟨x, x7, sx, nx, ax, hx⟩ := ih S' lt hS' w z sw sz nz az
      by_cases kx : gd_re M (gd_C M S v) u x
      · exact fin x kx hx
      · exact absurd (bc w x sw nw sx kx (Ne.symm nx)) ax
    · by_cases c2 : ∃ w z, gd_i S' w ∧ gd_i S' z ∧ z ≠ w ∧ ¬ gd_i (M w) z
      · obtain ⟨w, z, sw, sz, nz, az⟩ := c2
        obtain ⟨x, x7, sx, nx, ax, hx⟩ := ih S' lt hS' w z sw sz nz az
        by_cases kx : gd_re M (gd_C M S v) u x
        · exact fin x kx hx
        · exact absurd ⟨x, w, sx, kx, sw, Ne.symm nx, fun e => ax (g.2.1 x w x7 (gd_lt7 hS' sw) e)⟩ c1
      · refine fin u gd_re_refl (fun p q hp hq npq => ?_)
        by_cases e : gd_i (M p) q
        · exact e
        · exact absurd ⟨p, q, (gd_i_and.mp hp).2, (gd_i_and.mp hq).2, Ne.symm npq, e⟩ c2
theorem gd_nt_hs {M : Nat → Nat} (g : gd_G M) (nt : ∀ v a b, v < 7 → a < 7 → b < 7 → ¬ gd_tr M v a b) : gd_hs M := by
  intro S hS h0
  by_cases c : ∃ v u, gd_i S v ∧ gd_i S u ∧ u ≠ v ∧ ¬ gd_i (M v) u
  · obtain ⟨v, u, sv, su, n, a⟩ := c
    obtain ⟨x, x7, sx, _, _, hx⟩ := gd_dirac g nt S hS v u sv su n a
    exact ⟨x, x7, sx, hx⟩
  · obtain ⟨v, v7, sv⟩ := gd_ne0 hS h0
    refine ⟨v, v7, sv, fun p q hp hq n => ?_⟩
    by_cases e : gd_i (M p) q
    · exact e
    · exact absurd ⟨p, q, (gd_i_and.mp hp).2, (gd_i_and.mp hq).2, Ne.symm n, e⟩ c
theorem gd_hs_nt {M : Nat → Nat} (g : gd_G M) (h : gd_hs M) : ∀ v a b, v < 7 → a < 7 → b < 7 → ¬ gd_tr M v a b :=
  fun v a b hv ha hb t => gd_hs_nb g h 127 (by decide) (gd_tr_bad hv ha hb t)
theorem gd_nb_hs {M : Nat → Nat} (g : gd_G M) (h : ¬ gd_bad M 127) : gd_hs M := gd_nt_hs g (fun v a b hv ha hb t => h (gd_tr_bad hv ha hb t))
end
section
/-! largest cliques of a graph in which every set has an easy vertex: no more than vertices -/
def gd_mx (M : Nat → Nat) (S K : Nat) : Prop := K < 128 ∧ K ≠ 0 ∧ (∀ i, gd_i K i → gd_i S i) ∧ gd_cl M K ∧ ∀ u, gd_i S u → ¬ gd_i K u → ∃ w, gd_i K w ∧ ¬ gd_i (M u) w
theorem gd_mx_le {M : Nat → Nat} (g : gd_G M) (h : gd_hs M) : ∀ S, S < 128 → ∀ L : List Nat, L.Nodup → (∀ K, K ∈ L → gd_mx M S K) → L.length ≤ gd_on S := by
  intro S
  induction S using Nat.strongRecOn with
  | ind S ih =>
    intro hS L nd hL
    by_cases h0 : S = 0
    · cases L with
      | nil => exact Nat.zero_le _
      | cons K L =>
        exfalso
        obtain ⟨k1, k2, k3, _⟩ := hL K (List.mem_cons_self)
        obtain ⟨v, _, hv⟩ := gd_ne0 k1 k2
        have := k3 v hv
        rw [h0] at this
        exact gd_i_0 this
    · obtain ⟨v, v7, sv, si⟩ := h S hS h0
      have l1 := gd_on_d hS sv
      have l2 := ih (gd_d S (2 ^ v)) (gd_d_lt sv) (gd_lt_d hS) (L.erase ((M v &&& S) ||| 2 ^ v)) (nd.erase _) ?_
      · have l3 := List.le_length_erase (a := (M v &&& S) ||| 2 ^ v) (l := L)
        omega
      · intro K hK
        obtain ⟨nK, mK⟩ := nd.mem_erase_iff.mp hK
        obtain ⟨k1, k2, k3, k4, k5⟩ := hL K mK
        have vK : ¬ gd_i K v := by
          intro kv
          apply nK
          apply gd_ext k1 (gd_lt_or (gd_lt_and (g.1 v v7)) (gd_lt_p v7))
          intro i i7
          rw [gd_i_or, gd_i_and, gd_i_p]
          constructor
          · intro z
            by_cases e : i = v
            · exact Or.inr e
            · exact Or.inl ⟨k4 v i kv z (Ne.symm e), k3 i z⟩
          · rintro (⟨z1, z2⟩ | z)
            · by_cases c : gd_i K i
              · exact c
              · exfalso
                obtain ⟨w, kw, aw⟩ := k5 i z2 c
                by_cases e : w = v
                · exact aw (e ▸ g.2.1 v i v7 i7 z1)
                · have vw : gd_i (M v) w := k4 v w kv kw (Ne.symm e)
                  exact aw (si i w (gd_i_and.mpr ⟨z1, z2⟩) (gd_i_and.mpr ⟨vw, k3 w kw⟩) (fun e => c (e ▸ kw)))
            · exact z ▸ kv
        refine ⟨k1, k2, fun i z => gd_i_d.mpr ⟨k3 i z, fun e => vK (gd_i_p.mp e ▸ z)⟩, k4, fun u su nu => k5 u (gd_i_d.mp su).1 nu⟩
/-! independent sets: their number times the largest clique covers all -/
def gd_ap (M : Nat → Nat) (S : Nat) : Prop := ∀ v w, gd_i S v → gd_i S w → ¬ gd_i (M v) w
theorem gd_ap_cover {M : Nat → Nat} (g : gd_G M) (h : gd_hs M) {om : Nat} (ho : ∀ K, K < 128 → gd_cl M K → gd_on K ≤ om) : ∀ S, S < 128 → ∃ I, I < 128 ∧ (∀ i, gd_i I i → gd_i S i) ∧ gd_ap M I ∧ gd_on S ≤ gd_on I * om := by
  intro S
  induction S using Nat.strongRecOn with
  | ind S ih =>
    intro hS
    by_cases h0 : S = 0
    · refine ⟨0, by decide, fun i z => absurd z gd_i_0, fun v w z => absurd z gd_i_0, ?_⟩
      rw [h0, gd_on_0]
      exact Nat.zero_le _
    · obtain ⟨v, v7, sv, si⟩ := h S hS h0
      have lt : gd_d S (M v ||| 2 ^ v) < S := gd_sub_lt (fun i z => (gd_i_d.mp z).1) sv (fun z => (gd_i_d.mp z).2 (gd_i_or.mpr (Or.inr (gd_i_p.mpr rfl))))
      obtain ⟨I, hI, sub, ap, le⟩ := ih _ lt (gd_lt_d hS)
      have nI' : ∀ w, gd_i I w → ¬ gd_i (M v) w ∧ w ≠ v := fun w z => by
        have q := (gd_i_d.mp (sub w z)).2
        rw [gd_i_or, gd_i_p] at q
        exact ⟨fun z => q (Or.inl z), fun z => q (Or.inr z)⟩
      refine ⟨I ||| 2 ^ v, gd_lt_or hI (gd_lt_p v7), ?_, ?_, ?_⟩
      · intro i z
        rcases gd_i_or.mp z with z | z
        · exact (gd_i_d.mp (sub i z)).1
        · exact gd_i_p.mp z ▸ sv
      · intro x y zx zy e
        have x7 := gd_lt7 (gd_lt_or hI (gd_lt_p v7)) zx
        have y7 := gd_lt7 (gd_lt_or hI (gd_lt_p v7)) zy
        rcases gd_i_or.mp zx with zx | zx <;> rcases gd_i_or.mp zy with zy | zy
        · exact ap x y zx zy e
        · rw [gd_i_p.mp zy] at e
          exact (nI' x zx).1 (g.2.1 x v x7 v7 e)
        · rw [gd_i_p.mp zx] at e
          exact (nI' y zy).1 e
        · rw [gd_i_p.mp zx, gd_i_p.mp zy] at e
          exact g.2.2 v v7 e
      · have c : gd_cl M ((M v &&& S) ||| 2 ^ v) := by
          intro x y zx zy ne
          rw [gd_i_or, gd_i_p] at zx zy
          rcases zx with zx | zx <;> rcases zy with zy | zy
          · exact si x y zx zy ne
          · rw [zy]
            exact g.2.1 v x v7 (gd_lt7 (g.1 v v7) (gd_i_and.mp zx).1) (gd_i_and.mp zx).1
          · rw [zx]
            exact (gd_i_and.mp zy).1
          · exact absurd (zx.trans zy.symm) ne
        have l1 := ho _ (gd_lt_or (gd_lt_and (g.1 v v7)) (gd_lt_p v7)) c
        have l2 : gd_on S ≤ gd_on (gd_d S (M v ||| 2 ^ v)) + gd_on ((M v &&& S) ||| 2 ^ v) := by
          apply gd_on_un
          intro i z
          rw [gd_i_d, gd_i_or, gd_i_or, gd_i_and]
          by_cases c1 : gd_i (M v) i
          · exact Or.inr (Or.inl ⟨c1, z⟩)
          · by_cases c2 : gd_i (2 ^ v) i
            · exact Or.inr (Or.inr c2)
            · exact Or.inl ⟨z, fun q => q.elim c1 c2⟩
        have l3 : gd_on I + 1 ≤ gd_on (I ||| 2 ^ v) := by
          have q : gd_i (I ||| 2 ^ v) v := gd_i_or.mpr (Or.inr (gd_i_p.mpr rfl))
          have q2 := gd_on_d (gd_lt_or hI (gd_lt_p v7)) q
          have q3 : gd_on I ≤ gd_on (gd_d (I ||| 2 ^ v) (2 ^ v)) := gd_on_mono (fun i z => gd_i_d.mpr ⟨gd_i_or.mpr (Or.inl z), fun e => (nI' i z).2 (gd_i_p.mp e)⟩)
          omega
        have l4 : (gd_on I + 1) * om ≤ gd_on (I ||| 2 ^ v) * om := Nat.mul_le_mul_right om l3
        rw [Nat.add_mul, Nat.one_mul] at l4
        omega
/-- a colouring: its number of colours times the largest independent set covers all -/
theorem gd_col_cover {M : Nat → Nat} (g : gd_G M) {al k : Nat} (ha : ∀ I, I < 128 → gd_ap M I → gd_on I ≤ al) (c : Nat → Nat) (hc : ∀ w, w < 7 → c w < k) (hp : ∀ v w, v < 7 → w < 7 → gd_i (M v) w → c v ≠ c w) : 7 ≤ al * k := by
  have H : ∀ j, ∀ S, S < 128 → (∀ w, gd_i S w → c w < j) → gd_on S ≤ al * j := by
    intro j
    induction j with
    | zero =>
      intro S hS h
      by_cases h0 : S = 0
      · rw [h0, gd_on_0]
        exact Nat.zero_le _
      · obtain ⟨v, _, sv⟩ := gd_ne0 hS h0
        exact absurd (h v sv) (Nat.not_lt_zero _)
    | succ j ih =>
      intro S hS h
      obtain ⟨A, hA, mA⟩ := gd_mask (fun w => gd_i S w ∧ c w < j)
      obtain ⟨B, hB, mB⟩ := gd_mask (fun w => gd_i S w ∧ c w = j)
      have l1 := ih A hA (fun w z => ((mA w).mp z).2.2)
      have l2 := ha B hB (fun x y zx zy e => hp x y ((mB x).mp zx).1 ((mB y).mp zy).1 e (((mB x).mp zx).2.2.trans ((mB y).mp zy).2.2.symm))
      have l3 : gd_on S ≤ gd_on A + gd_on B := gd_on_un (fun i z => by
        have q := h i z
        by_cases e : c i = j
        · exact Or.inr ((mB i).mpr ⟨gd_lt7 hS z, z, e⟩)
        · exact Or.inl ((mA i).mpr ⟨gd_lt7 hS z, z, by omega⟩))
      rw [Nat.mul_add, Nat.mul_one]
      omega
  have := H k 127 (by decide) (fun w z => hc w (gd_lt7 (by decide) z))
  rw [gd_on_127] at this
  exact this
end
section
/-! the branches: their ends, in the order in which they are met -/
def gd_fi (c : Nat) : Nat := if c.testBit 0 then 0 else if c.testBit 1 then 1 else if c.testBit 2 then 2 else if c.testBit 3 then 3 else if c.testBit 4 then 4 else if c.testBit 5 then 5 else 6
theorem gd_fi_0 : ∀ c, c < 128 → c ≠ 0 → gd_fi c < 7 ∧ c.testBit (gd_fi c) = true := by decide +kernel
theorem gd_fi_in {c : Nat} (hc : c < 128) (h : c ≠ 0) : gd_i c (gd_fi c) := (gd_fi_0 c hc h).2
theorem gd_fi_7 {c : Nat} (hc : c < 128) (h : c ≠ 0) : gd_fi c < 7 := (gd_fi_0 c hc h).1
def gd_lv (Q : Nat → Nat) : Nat → Nat → Nat → Nat → List (Nat × Nat)
  | 0, h, _, b => [(h, b)]
  | n + 1, h, c, b => if c = 0 then [(h, b)] else gd_lv Q n (h ||| 2 ^ gd_fi c) (c &&& Q (gd_fi c)) (b &&& Q (gd_fi c)) ++ gd_lv Q n h (gd_d c (2 ^ gd_fi c)) (b ||| 2 ^ gd_fi c)
theorem gd_lv_z (Q : Nat → Nat) (n h b : Nat) : gd_lv Q n h 0 b = [(h, b)] := by
  cases n with
  | zero => rfl
  | succ n => exact if_pos rfl
theorem gd_lv_s (Q : Nat → Nat) (n h b : Nat) {c : Nat} (hc : c ≠ 0) : gd_lv Q (n + 1) h c b = gd_lv Q n (h ||| 2 ^ gd_fi c) (c &&& Q (gd_fi c)) (b &&& Q (gd_fi c)) ++ gd_lv Q n h (gd_d c (2 ^ gd_fi c)) (b ||| 2 ^ gd_fi c) := if_neg hc
theorem gd_on_w {Q : Nat → Nat} (g : gd_G Q) {c : Nat} (hc : c < 128) (h : c ≠ 0) : gd_on (c &&& Q (gd_fi c)) + 1 ≤ gd_on c := by
  have q1 := gd_on_d hc (gd_fi_in hc h)
  have q2 : gd_on (c &&& Q (gd_fi c)) ≤ gd_on (gd_d c (2 ^ gd_fi c)) := gd_on_mono (fun i z => gd_i_d.mpr ⟨(gd_i_and.mp z).1, fun e => g.2.2 _ (gd_fi_7 hc h) (gd_i_p.mp e ▸ (gd_i_and.mp z).2)⟩)
  omega
theorem gd_lv_fu {Q : Nat → Nat} (g : gd_G Q) : ∀ n m h c b, c < 128 → gd_on c ≤ n → gd_on c ≤ m → gd_lv Q n h c b = gd_lv Q m h c b := by
  intro n
  induction n with
  | zero =>
    intro m h c b hc h1 _
    rw [gd_on_z c hc (by omega), gd_lv_z, gd_lv_z]
  | succ n ih =>
    intro m h c b hc h1 h2
    by_cases c0 : c = 0
    · rw [c0, gd_lv_z, gd_lv_z]
    · have q1 := gd_on_d hc (gd_fi_in hc c0)
      have q2 := gd_on_w g hc c0
      cases m with
      | zero => omega
      | succ m => rw [gd_lv_s Q n h b c0, gd_lv_s Q m h b c0, ih m _ _ _ (gd_lt_and hc) (by omega) (by omega), ih m _ _ _ (gd_lt_d hc) (by omega) (by omega)]
def gd_lf (Q : Nat → Nat) (h c b : Nat) : List (Nat × Nat) := gd_lv Q 7 h c b
theorem gd_lf_z (Q : Nat → Nat) (h b : Nat) : gd_lf Q h 0 b = [(h, b)] := gd_lv_z Q 7 h b
theorem gd_lf_s {Q : Nat → Nat} (g : gd_G Q) (h b : Nat) {c : Nat} (hc : c < 128) (c0 : c ≠ 0) : gd_lf Q h c b = gd_lf Q (h ||| 2 ^ gd_fi c) (c &&& Q (gd_fi c)) (b &&& Q (gd_fi c)) ++ gd_lf Q h (gd_d c (2 ^ gd_fi c)) (b ||| 2 ^ gd_fi c) := by
  have q1 := gd_on_d hc (gd_fi_in hc c0)
  have q2 := gd_on_w g hc c0
  have q3 := gd_on_le c
  unfold gd_lf
  rw [gd_lv_s Q 6 h b c0, gd_lv_fu g 6 7 _ _ _ (gd_lt_and hc) (by omega) (by omega), gd_lv_fu g 6 7 _ _ _ (gd_lt_d hc) (by omega) (by omega)]
/-- the largest of the ends, and how many of them are full -/
def gd_la : List (Nat × Nat) → Nat
  | [] => 0
  | p :: l => max (gd_on p.1) (gd_la l)
def gd_fc : List (Nat × Nat) → Nat
  | [] => 0
  | p :: l => (if p.2 = 0 then 1 else 0) + gd_fc l
theorem gd_la_app (l m : List (Nat × Nat)) : gd_la (l ++ m) = max (gd_la l) (gd_la m) := by
  induction l with
  | nil => exact (Nat.zero_max _).symm
  | cons p l ih =>
    show max (gd_on p.1) (gd_la (l ++ m)) = max (max (gd_on p.1) (gd_la l)) (gd_la m)
    rw [ih, Nat.max_assoc]
theorem gd_fc_app (l m : List (Nat × Nat)) : gd_fc (l ++ m) = gd_fc l + gd_fc m := by
  induction l with
  | nil => exact (Nat.zero_add _).symm
  | cons p l ih =>
    show (if p.2 = 0 then 1 else 0) + gd_fc (l ++ m) = (if p.2 = 0 then 1 else 0) + gd_fc l + gd_fc m
    rw [ih, Nat.add_assoc]
theorem gd_la_le (l : List (Nat × Nat)) : gd_la l ≤ 7 := by
  induction l with
  | nil => exact Nat.zero_le _
  | cons p l ih => exact Nat.max_le.mpr ⟨gd_on_le _, ih⟩
theorem gd_la_mem {l : List (Nat × Nat)} {p : Nat × Nat} (h : p ∈ l) : gd_on p.1 ≤ gd_la l := by
  induction l with
  | nil => exact absurd h (List.not_mem_nil)
  | cons q l ih =>
    rcases List.mem_cons.mp h with e | e
    · rw [e]
      exact Nat.le_max_left _ _
    · exact Nat.le_trans (ih e) (Nat.le_max_right _ _)
theorem gd_fc_pos {l : List (Nat × Nat)} {p : Nat × Nat} (h : p ∈ l) (h0 : p.2 = 0) : 1 ≤ gd_fc l := by
  induction l with
  | nil => exact absurd h (List.not_mem_nil)
  | cons q l ih =>
    show 1 ≤ (if q.2 = 0 then 1 else 0) + gd_fc l
    rcases List.mem_cons.mp h with e | e
    · rw [← e, if_pos h0]
      exact Nat.le_add_right _ _
    · exact Nat.le_trans (ih e) (Nat.le_add_left _ _)
theorem gd_fc_len (l : List (Nat × Nat)) : gd_fc l ≤ l.length := by
  induction l with
  | nil => exact Nat.le_refl 0
  | cons q l ih =>
    show (if q.2 = 0 then 1 else 0) + gd_fc l ≤ l.length + 1
    split <;> omega
theorem gd_lv_len (Q : Nat → Nat) : ∀ n h c b, (gd_lv Q n h c b).length ≤ 2 ^ n := by
  intro n
  induction n with
  | zero => exact fun h c b => Nat.le_refl 1
  | succ n ih =>
    intro h c b
    by_cases c0 : c = 0
    · rw [c0, gd_lv_z]
      exact Nat.one_le_two_pow
    · rw [gd_lv_s Q n h b c0, List.length_append]
      have q1 := ih (h ||| 2 ^ gd_fi c) (c &&& Q (gd_fi c)) (b &&& Q (gd_fi c))
      have q2 := ih h (gd_d c (2 ^ gd_fi c)) (b ||| 2 ^ gd_fi c)
      rw [Nat.pow_succ]
      omega
theorem gd_fc_lf (Q : Nat → Nat) (h c b : Nat) : gd_fc (gd_lf Q h c b) ≤ 128 := Nat.le_trans (gd_fc_len _) (gd_lv_len Q 7 h c b)
/-- every clique is an end -/
theorem gd_lv_all {Q : Nat → Nat} (g : gd_G Q) {K : Nat} (hK : K < 128) (cl : gd_cl Q K) : ∀ n h c b, h < 128 → c < 128 → gd_on c ≤ n → (∀ i, gd_i h i → gd_i K i) → (∀ i, gd_i K i → gd_i h i ∨ gd_i c i) → ∃ b', (K, b') ∈ gd_lv Q n h c b := by
  have base : ∀ n h b, h < 128 → (∀ i, gd_i h i → gd_i K i) → (∀ i, gd_i K i → gd_i h i ∨ gd_i 0 i) → ∃ b', (K, b') ∈ gd_lv Q n h 0 b := by
    intro n h b hh h1 h2
    rw [gd_lv_z]
    refine ⟨b, ?_⟩
    rw [gd_ext hK hh (fun i _ => ⟨fun z => (h2 i z).elim id (fun q => absurd q gd_i_0), h1 i⟩)]
    exact List.mem_singleton.mpr rfl
  intro n
  induction n with
  | zero =>
    intro h c b hh hc hn h1 h2
    have c0 := gd_on_z c hc (by omega)
    rw [c0]
    rw [c0] at h2
    exact base 0 h b hh h1 h2
  | succ n ih =>
    intro h c b hh hc hn h1 h2
    by_cases c0 : c = 0
    · rw [c0]
      rw [c0] at h2
      exact base _ h b hh h1 h2
    · have q1 := gd_on_d hc (gd_fi_in hc c0)
      have q2 := gd_on_w g hc c0
      have v7 := gd_fi_7 hc c0
      rw [gd_lv_s Q n h b c0]
      by_cases kv : gd_i K (gd_fi c)
      · obtain ⟨b', hb⟩ := ih (h ||| 2 ^ gd_fi c) (c &&& Q (gd_fi c)) (b &&& Q (gd_fi c)) (gd_lt_or hh (gd_lt_p v7)) (gd_lt_and hc) (by omega)
          (fun i z => (gd_i_or.mp z).elim (h1 i) (fun e => gd_i_p.mp e ▸ kv))
          (fun i z => by
            by_cases e : i = gd_fi c
            · exact Or.inl (gd_i_or.mpr (Or.inr (gd_i_p.mpr e)))
            · rcases h2 i z with q | q
              · exact Or.inl (gd_i_or.mpr (Or.inl q))
              · exact Or.inr (gd_i_and.mpr ⟨q, cl _ _ kv z (Ne.symm e)⟩))
        exact ⟨b', List.mem_append.mpr (Or.inl hb)⟩
      · obtain ⟨b', hb⟩ := ih h (gd_d c (2 ^ gd_fi c)) (b ||| 2 ^ gd_fi c) hh (gd_lt_d hc) (by omega) h1
          (fun i z => (h2 i z).elim Or.inl (fun q => Or.inr (gd_i_d.mpr ⟨q, fun e => kv (gd_i_p.mp e ▸ z)⟩)))
        exact ⟨b', List.mem_append.mpr (Or.inr hb)⟩
theorem gd_la_all {Q : Nat → Nat} (g : gd_G Q) {K : Nat} (hK : K < 128) (cl : gd_cl Q K) : gd_on K ≤ gd_la (gd_lf Q 0 127 0) := by
  obtain ⟨b', h⟩ := gd_lv_all g hK cl 7 0 127 0 (by decide) (by decide) (Nat.le_of_eq gd_on_127) (fun i z => absurd z gd_i_0) (fun i z => Or.inr (gd_i_127 (gd_lt7 hK z)))
  unfold gd_lf
  exact gd_la_mem (p := (K, b')) h
theorem gd_la_1 {Q : Nat → Nat} (g : gd_G Q) : 1 ≤ gd_la (gd_lf Q 0 127 0) := by
  have := gd_la_all g (K := 2 ^ 0) (by decide) (fun v w hv hw n => absurd ((gd_i_p.mp hv).trans (gd_i_p.mp hw).symm) n)
  rw [gd_on_p 0 (by decide)] at this
  exact this
/-- an end with nothing behind -/
theorem gd_lv_one (Q : Nat → Nat) : ∀ n h c, ∃ h', (h', 0) ∈ gd_lv Q n h c 0 := by
  intro n
  induction n with
  | zero => exact fun h c => ⟨h, List.mem_singleton.mpr rfl⟩
  | succ n ih =>
    intro h c
    by_cases c0 : c = 0
    · rw [c0, gd_lv_z]
      exact ⟨h, List.mem_singleton.mpr rfl⟩
    · rw [gd_lv_s Q n h 0 c0, Nat.zero_and]
      obtain ⟨h', hh⟩ := ih (h ||| 2 ^ gd_fi c) (c &&& Q (gd_fi c))
      exact ⟨h', List.mem_append.mpr (Or.inl hh)⟩
theorem gd_fc_1 (Q : Nat → Nat) : 1 ≤ gd_fc (gd_lf Q 0 127 0) := by
  obtain ⟨h, hh⟩ := gd_lv_one Q 7 0 127
  exact gd_fc_pos hh rfl
/-- the full ends are different largest cliques -/
def gd_iv (Q : Nat → Nat) (h c b : Nat) : Prop := h < 128 ∧ c < 128 ∧ gd_cl Q h ∧ ∀ w, w < 7 → (gd_i c w ∨ gd_i b w ↔ ¬ gd_i h w ∧ ∀ z, gd_i h z → gd_i (Q z) w)
def gd_fl (l : List (Nat × Nat)) : List Nat := (l.filter (fun p => p.2 == 0)).map (fun p => p.1)
theorem gd_fl_len (l : List (Nat × Nat)) : (gd_fl l).length = gd_fc l := by
  induction l with
  | nil => rfl
  | cons p l ih =>
    unfold gd_fl at ih ⊢
    show _ = (if p.2 = 0 then 1 else 0) + gd_fc l
    by_cases e : p.2 = 0
    · rw [List.filter_cons_of_pos (by rw [e]; rfl), List.map_cons, List.length_cons, ih, if_pos e, Nat.add_comm]
    · rw [List.filter_cons_of_neg (by rw [beq_iff_eq]; exact e), ih, if_neg e, Nat.zero_add]
theorem gd_lv_sub {Q : Nat → Nat} (g : gd_G Q) : ∀ n h c b, c < 128 → gd_on c ≤ n → ∀ p, p ∈ gd_lv Q n h c b → (∀ i, gd_i h i → gd_i p.1 i) ∧ ∀ i, gd_i p.1 i → gd_i h i ∨ gd_i c i := by
  have base : ∀ n h b p, p ∈ gd_lv Q n h 0 b → (∀ i, gd_i h i → gd_i p.1 i) ∧ ∀ i, gd_i p.1 i → gd_i h i ∨ gd_i 0 i := by
    intro n h b p hp
    rw [gd_lv_z] at hp
    rw [List.mem_singleton.mp hp]
    exact ⟨fun i z => z, fun i z => Or.inl z⟩
  intro n
  induction n with
  | zero =>
    intro h c b hc hn p hp
    have c0 := gd_on_z c hc (by omega)
    rw [c0] at hp ⊢
    exact base 0 h b p hp
  | succ n ih =>
    intro h c b hc hn p hp
    by_cases c0 : c = 0
    · rw [c0] at hp ⊢
      exact base _ h b p hp
    · have q1 := gd_on_d hc (gd_fi_in hc c0)
      have q2 := gd_on_w g hc c0
      rw [gd_lv_s Q n h b c0] at hp
      rcases List.mem_append.mp hp with hp | hp
      · obtain ⟨a1, a2⟩ := ih _ _ _ (gd_lt_and hc) (by omega) p hp
        refine ⟨fun i z => a1 i (gd_i_or.mpr (Or.inl z)), fun i z => ?_⟩
        rcases a2 i z with q | q
        · rcases gd_i_or.mp q with q | q
          · exact Or.inl q
          · exact Or.inr (gd_i_p.mp q ▸ gd_fi_in hc c0)
        · exact Or.inr (gd_i_and.mp q).1
      · obtain ⟨a1, a2⟩ := ih _ _ _ (gd_lt_d hc) (by omega) p hp
        exact ⟨a1, fun i z => (a2 i z).elim Or.inl (fun q => Or.inr (gd_i_d.mp q).1)⟩
theorem gd_lv_mx {Q : Nat → Nat} (g : gd_G Q) : ∀ n h c b, gd_iv Q h c b → gd_on c ≤ n → ((gd_lv Q n h c b).map (fun p => p.1)).Nodup ∧ ∀ p, p ∈ gd_lv Q n h c b → p.2 = 0 → gd_mx Q 127 p.1 := by
  have base : ∀ n h b, gd_iv Q h 0 b → ((gd_lv Q n h 0 b).map (fun p => p.1)).Nodup ∧ ∀ p, p ∈ gd_lv Q n h 0 b → p.2 = 0 → gd_mx Q 127 p.1 := by
    intro n h b iv
    obtain ⟨hh, _, cl, nb⟩ := iv
    rw [gd_lv_z]
    refine ⟨List.pairwise_singleton _ _, fun p hp h0 => ?_⟩
    rw [List.mem_singleton.mp hp] at h0 ⊢
    have h0' : b = 0 := h0
    rw [h0'] at nb
    have no : ∀ w, w < 7 → ¬ (¬ gd_i h w ∧ ∀ z, gd_i h z → gd_i (Q z) w) := fun w w7 q => ((nb w w7).mpr q).elim gd_i_0 gd_i_0
    refine ⟨hh, fun e => ?_, fun i z => gd_i_127 (gd_lt7 hh z), cl, fun u su nu => ?_⟩
    · refine no 0 (by decide) ⟨fun z => ?_, fun z hz => ?_⟩
      · rw [show h = 0 from e] at z
        exact gd_i_0 z
      · rw [show h = 0 from e] at hz
        exact absurd hz gd_i_0
    · have u7 := gd_lt7 (by decide) su
      have q := no u u7
      by_cases c : ∃ w, gd_i h w ∧ ¬ gd_i (Q u) w
      · exact c
      · refine absurd ⟨nu, fun z hz => ?_⟩ q
        by_cases e : gd_i (Q u) z
        · exact g.2.1 u z u7 (gd_lt7 hh hz) e
        · exact absurd ⟨z, hz, e⟩ c
  intro n
  induction n with
  | zero =>
    intro h c b iv hn
    have c0 := gd_on_z c iv.2.1 (by omega)
    rw [c0] at iv ⊢
    exact base 0 h b iv
  | succ n ih =>
    intro h c b iv hn
    by_cases c0 : c = 0
    · rw [c0] at iv ⊢
      exact base _ h b iv
    · obtain ⟨hh, hc, cl, nb⟩ := iv
      have q1 := gd_on_d hc (gd_fi_in hc c0)
      have q2 := gd_on_w g hc c0
      have v7 := gd_fi_7 hc c0
      have vc := gd_fi_in hc c0
      have vn := (nb _ v7).mp (Or.inl vc)
      have r1 := ih (h ||| 2 ^ gd_fi c) (c &&& Q (gd_fi c)) (b &&& Q (gd_fi c)) ⟨gd_lt_or hh (gd_lt_p v7), gd_lt_and hc, fun x y zx zy ne => by
        rw [gd_i_or, gd_i_p] at zx zy
        rcases zx with zx | zx <;> rcases zy with zy | zy
        · exact cl x y zx zy ne
        · rw [zy]
          exact vn.2 x zx
        · rw [zx]
          exact g.2.1 y _ (gd_lt7 hh zy) v7 (vn.2 y zy)
        · exact absurd (zx.trans zy.symm) ne, fun w w7 => by
        rw [gd_i_and, gd_i_and, gd_i_or, gd_i_p]
        constructor
        · intro z
          have zq : gd_i (Q (gd_fi c)) w := z.elim (fun q => q.2) (fun q => q.2)
          have zc : gd_i c w ∨ gd_i b w := z.elim (fun q => Or.inl q.1) (fun q => Or.inr q.1)
          obtain ⟨a1, a2⟩ := (nb w w7).mp zc
          refine ⟨fun q => q.elim a1 (fun e => g.2.2 _ v7 (e ▸ zq)), fun z hz => ?_⟩
          rcases gd_i_or.mp hz with hz | hz
          · exact a2 z hz
          · rw [gd_i_p.mp hz]
            exact zq
        · intro z
          have zq : gd_i (Q (gd_fi c)) w := z.2 _ (gd_i_or.mpr (Or.inr (gd_i_p.mpr rfl)))
          rcases (nb w w7).mpr ⟨fun q => z.1 (Or.inl q), fun y hy => z.2 y (gd_i_or.mpr (Or.inl hy))⟩ with q | q
          · exact Or.inl ⟨q, zq⟩
          · exact Or.inr ⟨q, zq⟩⟩ (by omega)
      have r2 := ih h (gd_d c (2 ^ gd_fi c)) (b ||| 2 ^ gd_fi c) ⟨hh, gd_lt_d hc, cl, fun w w7 => by
        rw [← nb w w7, gd_i_d, gd_i_or, gd_i_p]
        constructor
        · rintro (z | z | z)
          · exact Or.inl z.1
          · exact Or.inr z
          · exact Or.inl (z ▸ vc)
        · intro z
          by_cases e : w = gd_fi c
          · exact Or.inr (Or.inr e)
          · exact z.elim (fun q => Or.inl ⟨q, e⟩) (fun q => Or.inr (Or.inl q))⟩ (by omega)
      rw [gd_lv_s Q n h b c0]
      refine ⟨?_, fun p hp => (List.mem_append.mp hp).elim (r1.2 p) (r2.2 p)⟩
      rw [List.map_append, List.nodup_append]
      refine ⟨r1.1, r2.1, fun x hx y hy e => ?_⟩
      obtain ⟨p, hp, rfl⟩ := List.mem_map.mp hx
      obtain ⟨q, hq, rfl⟩ := List.mem_map.mp hy
      have s1 := (gd_lv_sub g n _ _ _ (gd_lt_and hc) (by omega) p hp).1 (gd_fi c) (gd_i_or.mpr (Or.inr (gd_i_p.mpr rfl)))
      have e' : p.1 = q.1 := e
      rw [e'] at s1
      rcases (gd_lv_sub g n _ _ _ (gd_lt_d hc) (by omega) q hq).2 (gd_fi c) s1 with z | z
      · exact vn.1 z
      · exact (gd_i_d.mp z).2 (gd_i_p.mpr rfl)
theorem gd_fc_7 {Q : Nat → Nat} (g : gd_G Q) (h : gd_hs Q) : gd_fc (gd_lf Q 0 127 0) ≤ 7 := by
  have r := gd_lv_mx g 7 0 127 0 ⟨by decide, by decide, fun v w z => absurd z gd_i_0, fun w w7 => ⟨fun _ => ⟨gd_i_0, fun z hz => absurd hz gd_i_0⟩, fun _ => Or.inl (gd_i_127 w7)⟩⟩ (Nat.le_of_eq gd_on_127)
  have nd : (gd_fl (gd_lf Q 0 127 0)).Nodup := by
    unfold gd_fl gd_lf
    exact List.Nodup.sublist (List.Sublist.map (fun p : Nat × Nat => p.1) (List.filter_sublist (l := gd_lv Q 7 0 127 0) (p := fun p : Nat × Nat => p.2 == 0))) r.1
  have le := gd_mx_le g h 127 (by decide) (gd_fl (gd_lf Q 0 127 0)) nd (fun K hK => by
    obtain ⟨p, hp, rfl⟩ := List.mem_map.mp hK
    obtain ⟨h1, h2⟩ := List.mem_filter.mp hp
    exact r.2 p h1 (beq_iff_eq.mp h2))
  rw [gd_fl_len, gd_on_127] at le
  exact le
end
section
/-! the ints of ChordalDesk as sets -/
theorem gd_nand (a b : Nat) : nI a &&& nI b = nI (a &&& b) := by
  apply Int32.toBitVec_inj.1
  show BitVec.ofNat 32 a &&& BitVec.ofNat 32 b = BitVec.ofNat 32 (a &&& b)
  apply BitVec.eq_of_getLsbD_eq
  intro i hi
  simp [hi]
theorem gd_nor (a b : Nat) : nI a ||| nI b = nI (a ||| b) := by
  apply Int32.toBitVec_inj.1
  show BitVec.ofNat 32 a ||| BitVec.ofNat 32 b = BitVec.ofNat 32 (a ||| b)
  apply BitVec.eq_of_getLsbD_eq
  intro i hi
  simp [hi]
theorem gd_nxor (a b : Nat) : nI a ^^^ nI b = nI (a ^^^ b) := by
  apply Int32.toBitVec_inj.1
  show BitVec.ofNat 32 a ^^^ BitVec.ofNat 32 b = BitVec.ofNat 32 (a ^^^ b)
  apply BitVec.eq_of_getLsbD_eq
  intro i hi
  simp [hi]
theorem gd_andn (a b : Nat) : nI a &&& (nI b ^^^ (-1)) = nI (gd_d a b) := by
  apply Int32.toBitVec_inj.1
  show BitVec.ofNat 32 a &&& (BitVec.ofNat 32 b ^^^ BitVec.allOnes 32) = BitVec.ofNat 32 (a ^^^ (a &&& b))
  apply BitVec.eq_of_getLsbD_eq
  intro i hi
  rw [BitVec.getLsbD_and, BitVec.getLsbD_xor, BitVec.getLsbD_allOnes, BitVec.getLsbD_ofNat, BitVec.getLsbD_ofNat, BitVec.getLsbD_ofNat, Nat.testBit_xor, Nat.testBit_and, decide_eq_true hi]
  cases a.testBit i <;> cases b.testBit i <;> rfl
theorem gd_shl : ∀ v, v < 7 → (1 : Int32) <<< (nI v &&& 31) = nI (2 ^ v) := by decide +kernel
theorem gd_shr : ∀ s, s < 128 → ∀ v, v < 7 → (nI s >>> (nI v &&& 31)) &&& 1 = nI (s.testBit v).toNat := by decide +kernel
theorem gd_tb : ∀ s, s < 128 → (nI s).toInt8.toInt32 = nI s := by decide +kernel
theorem gd_in1 {A B : Prop} (b : B) : ((1 : Int32) = 0 → A) ∧ (¬ (1 : Int32) = 0 → B) := br_f (by decide) b
theorem gd_in0 {A B : Prop} (a : A) : ((0 : Int32) = 0 → A) ∧ (¬ (0 : Int32) = 0 → B) := br_t rfl a
theorem gd_z {s : Nat} (h : s < 128) : nI s = 0 ↔ s = 0 := by rw [← nI_0, nI_eq (by omega) (by omega)]
def gd_A (a : Nat → Int32) (M : Nat → Nat) : Prop := ∀ v, v < 7 → a v = nI (M v)
theorem gd_ra {a : Nat → Int32} {M : Nat → Nat} {v : Nat} (h : gd_A a M) (hv : v < 7) : a (nI v).toNatClampNeg = nI (M v) := by
  rw [nI_clamp (by omega)]
  exact h v hv
theorem gd_in {post : Int32 → Prop} {u : St2} {x y : Int32} (s v : Nat) (hx : x = nI s) (hy : y = nI v) (hs : s < 128) (hv : v < 7) (h1 : gd_i s v → post 1) (h0 : ¬ gd_i s v → post 0) : wpX_in post u x y := by
  unfold wpX_in
  rw [hx, hy, gd_shr s hs v hv]
  cases e : s.testBit v with
  | false => exact br_t rfl (h0 (by unfold gd_i; rw [e]; decide))
  | true => exact br_f (by decide) (h1 e)
theorem gd_clm {M : Nat → Nat} {s i : Nat} (hs : s < 128) : gd_d (gd_d s (M i)) (2 ^ i) = 0 ↔ ∀ w, gd_i s w → i ≠ w → gd_i (M i) w := by
  constructor
  · intro e w sw ne
    by_cases c : gd_i (M i) w
    · exact c
    · have q : gd_i (gd_d (gd_d s (M i)) (2 ^ i)) w := gd_i_d.mpr ⟨gd_i_d.mpr ⟨sw, c⟩, fun z => ne (gd_i_p.mp z).symm⟩
      rw [e] at q
      exact absurd q gd_i_0
  · intro h
    by_cases c : gd_d (gd_d s (M i)) (2 ^ i) = 0
    · exact c
    · obtain ⟨w, _, hw⟩ := gd_ne0 (gd_lt_d (gd_lt_d hs)) c
      obtain ⟨h1, h2⟩ := gd_i_d.mp hw
      obtain ⟨h3, h4⟩ := gd_i_d.mp h1
      exact absurd (h w h3 (fun e => h2 (gd_i_p.mpr e.symm))) h4
section
variable {post : Int32 → Prop} {f0 f1 f2 : Int32} {a1 a2 a3 a4 a5 a6 a7 : Nat → Int32} {M : Nat → Nat}
theorem gd_isClique {s : Nat} {p : Int32} (hA : gd_A a1 M) (hs : s < 128) (hp : p = nI s) (h1 : gd_cl M s → post 1) (h0 : ¬ gd_cl M s → post 0) : wpX_isClique post (f0, f1, f2, a1, a2, a3, a4, a5, a6, a7) p := by
  rw [hp]
  refine pk_loop (σ := Unit) (fun n i _ => wX_isClique_2 post (nI s) f0 f1 f2 a1 a2 a3 a4 a5 a6 a7 n (nI i)) (fun i _ => ∀ v, v < i → ∀ w, gd_i s v → gd_i s w → v ≠ w → gd_i (M v) w) 7 0 () (by omega) (fun v hv => absurd hv (by omega)) ?_ ?_
  · exact fun n _ I => pk_le 7 7 (fun _ => h1 (fun v w hv hw ne => I v (gd_lt7 hs hv) w hv hw ne)) (fun z => absurd z (by omega))
  · intro n i _ hi I hw
    refine pk_le 7 i (fun z => absurd z (by omega)) (fun _ => gd_in s i rfl rfl hs hi (fun si => gd_in1 ⟨pk_in i 7 hi, ?_⟩) (fun ni => gd_in0 (nm_r (nI_1 i) (hw () ?_))))
    · rw [gd_ra hA hi, gd_andn, gd_shl i hi, gd_andn]
      refine ek_if (gd_z (gd_lt_d (gd_lt_d hs))) (fun e => nm_r (nI_1 i) (hw () ?_)) (fun e => h0 ?_)
      · intro v hv w sv sw ne
        by_cases c : v = i
        · rw [c] at ne ⊢
          exact (gd_clm hs).mp e w sw ne
        · exact I v (by omega) w sv sw ne
      · exact fun c => e ((gd_clm hs).mpr (fun w sw ne => c i w si sw ne))
    · intro v hv w sv sw ne
      exact I v (by have q : v ≠ i := fun e => ni (e ▸ sv)
                    omega) w sv sw ne
theorem gd_isEasy {v s : Nat} {p q : Int32} (g : gd_G M) (hA : gd_A a1 M) (hv : v < 7) (hs : s < 128) (hp : p = nI v) (hq : q = nI s) (h1 : gd_si M v s → post 1) (h0 : ¬ gd_si M v s → post 0) : wpX_isEasy post (f0, f1, f2, a1, a2, a3, a4, a5, a6, a7) p q := by
  rw [hp, hq]
  exact ⟨pk_in v 7 hv, gd_isClique hA (s := M v &&& s) (gd_lt_and (g.1 v hv)) (by rw [gd_ra hA hv, gd_nand]) (fun c => ⟨rfl, h1 c⟩) (fun c => ⟨rfl, h0 c⟩)⟩
theorem gd_core13 {J : Int32 → Int32 → Prop} {x2 : Int32} {s0 : Nat} (g : gd_G M) (hA : gd_A a1 M) (h0 : s0 < 128) (H : ∀ s, s < 128 → (gd_bad M s0 → gd_bad M s) → ((s = s0 ∧ ∀ u, u < 7 → gd_i s0 u → ¬ gd_si M u s0) ∨ gd_on s + 1 ≤ gd_on s0) → J (nI s) (x2 + 1)) : ∃ n, wX_core_13 post J x2 f0 f1 f2 a1 a2 a3 a4 a5 a6 a7 n (nI s0) 0 := by
  refine pk_loop (σ := Nat) (fun n i s => wX_core_13 post J x2 f0 f1 f2 a1 a2 a3 a4 a5 a6 a7 n (nI s) (nI i)) (fun i s => s < 128 ∧ (gd_bad M s0 → gd_bad M s) ∧ ((s = s0 ∧ ∀ u, u < i → gd_i s0 u → ¬ gd_si M u s0) ∨ gd_on s + 1 ≤ gd_on s0)) 7 0 s0 (by omega) ⟨h0, fun z => z, Or.inl ⟨rfl, fun u hu => absurd hu (by omega)⟩⟩ ?_ ?_
  · exact fun n s I => pk_le 7 7 (fun _ => nm_e (H s I.1 I.2.1 I.2.2)) (fun z => absurd z (by omega))
  · intro n i s hi I hw
    obtain ⟨hs, ib, ic⟩ := I
    refine pk_le 7 i (fun z => absurd z (by omega)) (fun _ => gd_in s i rfl rfl hs hi (fun si => gd_in1 (gd_isEasy g hA hi hs rfl rfl (fun ez => gd_in1 ?_) (fun nz => gd_in0 (nm_r (nI_1 i) (hw s ⟨hs, ib, ?_⟩))))) (fun ni => gd_in0 (nm_r (nI_1 i) (hw s ⟨hs, ib, ?_⟩))))
    · refine nm_r (e' := nI (gd_d s (2 ^ i))) (by rw [gd_shl i hi, gd_andn]) (nm_r (nI_1 i) (hw _ ⟨gd_lt_d hs, fun b => gd_bad_d g hi ez (ib b), Or.inr ?_⟩))
      have q := gd_on_d hs si
      rcases ic with ⟨e, _⟩ | l
      · rw [e] at q ⊢
        omega
      · omega
    · rcases ic with ⟨e, l⟩ | l
      · refine Or.inl ⟨e, fun u hu su => ?_⟩
        by_cases c : u = i
        · rw [c, ← e]
          exact nz
        · exact l u (by omega) su
      · exact Or.inr l
    · rcases ic with ⟨e, l⟩ | l
      · refine Or.inl ⟨e, fun u hu su => ?_⟩
        have c : u ≠ i := fun c => ni (by rw [e, ← c]; exact su)
        exact l u (by omega) su
      · exact Or.inr l
theorem gd_core (g : gd_G M) (hA : gd_A a1 M) (H : ∀ c, c < 128 → (c = 0 ↔ gd_hs M) → post (nI c)) : wpX_core post (f0, f1, f2, a1, a2, a3, a4, a5, a6, a7) := by
  refine pk_loop (σ := Nat) (fun n i s => wX_core_5 post f0 f1 f2 a1 a2 a3 a4 a5 a6 a7 n (nI s) (nI i)) (fun i s => s < 128 ∧ (gd_bad M 127 → gd_bad M s) ∧ (gd_hs M → gd_on s + i ≤ 7 ∨ s = 0)) 7 0 127 (by omega) ⟨by decide, fun z => z, fun _ => Or.inl (by rw [gd_on_127]; decide)⟩ ?_ ?_
  · intro n s I
    obtain ⟨hs, ib, ic⟩ := I
    refine pk_le 7 7 (fun _ => H s hs ⟨fun e => gd_nb_hs g (fun b => gd_bad_in (ib b) e), fun h => ?_⟩) (fun z => absurd z (by omega))
    rcases ic h with l | l
    · exact gd_on_z s hs (by omega)
    · exact l
  · intro n i s hi I hw
    obtain ⟨hs, ib, ic⟩ := I
    refine pk_le 7 i (fun z => absurd z (by omega)) (fun _ => gd_core13 g hA hs (fun s' hs' b' c' => ?_))
    rw [nI_1]
    refine hw s' ⟨hs', fun b => b' (ib b), fun h => ?_⟩
    rcases c' with ⟨e, l⟩ | l
    · by_cases z : s = 0
      · exact Or.inr (e.trans z)
      · obtain ⟨u, u7, su, si⟩ := h s hs z
        exact absurd si (l u u7 su)
    · rcases ic h with q | q
      · exact Or.inl (by omega)
      · rw [q, gd_on_0] at l
        omega
theorem gd_neat (g : gd_G M) (hA : gd_A a1 M) (h1 : gd_hs M → post 1) (h0 : ¬ gd_hs M → post 0) : wpX_neat post (f0, f1, f2, a1, a2, a3, a4, a5, a6, a7) :=
  gd_core g hA (fun c hc e => ek_if (gd_z hc) (fun z => h1 (e.mp z)) (fun z => h0 (fun h => z (e.mpr h))))
theorem gd_easy (g : gd_G M) (hA : gd_A a1 M) (H : ∀ e, e < 128 → ((∃ v, v < 7 ∧ gd_si M v 127) → e ≠ 0) → post (nI e)) : wpX_easy post (f0, f1, f2, a1, a2, a3, a4, a5, a6, a7) := by
  refine pk_loop (σ := Nat) (fun n i s => wX_easy_4 post f0 f1 f2 a1 a2 a3 a4 a5 a6 a7 n (nI s) (nI i)) (fun i s => s < 128 ∧ ∀ u, u < i → gd_si M u 127 → gd_i s u) 7 0 0 (by omega) ⟨by decide, fun u hu => absurd hu (by omega)⟩ ?_ ?_
  · intro n s I
    refine pk_le 7 7 (fun _ => H s I.1 (fun ⟨v, v7, hv⟩ e => ?_)) (fun z => absurd z (by omega))
    have q := I.2 v v7 hv
    rw [e] at q
    exact gd_i_0 q
  · intro n i s hi I hw
    refine pk_le 7 i (fun z => absurd z (by omega)) (fun _ => gd_isEasy (s := 127) g hA hi (by decide) rfl rfl (fun ez => gd_in1 ?_) (fun nz => gd_in0 ?_))
    · refine nm_r (e' := nI (s ||| 2 ^ i)) (by rw [gd_shl i hi, gd_nor]) (nm_r (nI_1 i) (hw _ ⟨gd_lt_or I.1 (gd_lt_p hi), fun u hu q => gd_i_or.mpr ?_⟩))
      by_cases c : u = i
      · exact Or.inr (gd_i_p.mpr c)
      · exact Or.inl (I.2 u (by omega) q)
    · refine nm_r (e' := nI s) (by rw [← nI_0, gd_nor, Nat.or_zero]) (nm_r (nI_1 i) (hw _ ⟨I.1, fun u hu q => ?_⟩))
      have c : u ≠ i := fun c => nz (c ▸ q)
      exact I.2 u (by omega) q
end
end
section
/-! the shortest way around, and the smallest hole -/
theorem gd_on_6 {R v : Nat} (hR : R < 128) (hv : v < 7) (h : ¬ gd_i R v) : gd_on R ≤ 6 := by
  have q1 : gd_on R ≤ gd_on (gd_d 127 (2 ^ v)) := gd_on_mono (fun i z => gd_i_d.mpr ⟨gd_i_127 (gd_lt7 hR z), fun e => h (gd_i_p.mp e ▸ z)⟩)
  have q2 := gd_on_d (s := 127) (by decide) (gd_i_127 hv)
  rw [gd_on_127] at q2
  omega
def gd_cz (M : Nat → Nat) (av R : Nat) : Prop := ∀ x y, x < 7 → y < 7 → gd_i R x → gd_i (M x) y → ¬ gd_i av y → gd_i R y
section
variable {post : Int32 → Prop} {f0 f1 f2 : Int32} {a1 a2 a3 a4 a5 a6 a7 : Nat → Int32} {M : Nat → Nat}
theorem gd_ar34 {J : Int32 → Int32 → Prop} {x2 x5 : Int32} {av R : Nat} (g : gd_G M) (hA : gd_A a1 M) (hR : R < 128) (H : ∀ N, N < 128 → (∀ w, gd_i N w ↔ gd_i R w ∨ ∃ v, v < 7 ∧ gd_i R v ∧ gd_i (M v) w ∧ ¬ gd_i av w) → J (nI N) (x5 + 1)) : ∃ n, wX_around_34 post J x2 (nI av) (nI R) x5 f0 f1 f2 a1 a2 a3 a4 a5 a6 a7 n (nI R) 0 := by
  refine pk_loop (σ := Nat) (fun n i s => wX_around_34 post J x2 (nI av) (nI R) x5 f0 f1 f2 a1 a2 a3 a4 a5 a6 a7 n (nI s) (nI i)) (fun i s => s < 128 ∧ ∀ w, gd_i s w ↔ gd_i R w ∨ ∃ v, v < i ∧ gd_i R v ∧ gd_i (M v) w ∧ ¬ gd_i av w) 7 0 R (by omega) ⟨hR, fun w => ⟨Or.inl, fun z => z.elim id (fun ⟨v, hv, _⟩ => absurd hv (by omega))⟩⟩ ?_ ?_
  · exact fun n s I => pk_le 7 7 (fun _ => nm_e (H s I.1 I.2)) (fun z => absurd z (by omega))
  · intro n i s hi I hw
    refine pk_le 7 i (fun z => absurd z (by omega)) (fun _ => gd_in R i rfl rfl hR hi (fun ri => gd_in1 ⟨pk_in i 7 hi, ?_⟩) (fun nr => gd_in0 ?_))
    · refine nm_r (e' := nI (s ||| gd_d (M i) av)) (by rw [gd_ra hA hi, gd_andn, gd_nor]) (nm_r (nI_1 i) (hw _ ⟨gd_lt_or I.1 (gd_lt_d (g.1 i hi)), fun w => ?_⟩))
      rw [gd_i_or, gd_i_d, I.2 w]
      constructor
      · rintro ((z | ⟨v, hv, z⟩) | z)
        · exact Or.inl z
        · exact Or.inr ⟨v, by omega, z⟩
        · exact Or.inr ⟨i, by omega, ri, z⟩
      · rintro (z | ⟨v, hv, z1, z2⟩)
        · exact Or.inl (Or.inl z)
        · by_cases c : v = i
          · rw [c] at z2
            exact Or.inr z2
          · exact Or.inl (Or.inr ⟨v, by omega, z1, z2⟩)
    · refine nm_r (e' := nI s) (by rw [← nI_0, gd_nor, Nat.or_zero]) (nm_r (nI_1 i) (hw _ ⟨I.1, fun w => ?_⟩))
      rw [I.2 w]
      constructor
      · rintro (z | ⟨v, hv, z⟩)
        · exact Or.inl z
        · exact Or.inr ⟨v, by omega, z⟩
      · rintro (z | ⟨v, hv, z1, z2⟩)
        · exact Or.inl z
        · have c : v ≠ i := fun c => nr (c ▸ z1)
          exact Or.inr ⟨v, by omega, z1, z2⟩
theorem gd_around {a b v av : Nat} {p q r : Int32} (g : gd_G M) (hA : gd_A a1 M) (ha : a < 7) (hb : b < 7) (hv : v < 7) (ab : a ≠ b) (nab : ¬ gd_i (M a) b) (va : v ≠ a) (vav : gd_i av v) (hp : p = nI a) (hq : q = nI b) (hr : r = nI av)
    (H : ∀ n, 2 ≤ n → n ≤ 5 → gd_re M (fun w => ¬ gd_i av w) a b → post (nI n)) (H8 : ¬ gd_re M (fun w => ¬ gd_i av w) a b → post 8) : wpX_around post (f0, f1, f2, a1, a2, a3, a4, a5, a6, a7) p q r := by
  rw [hp, hq, hr]
  refine nm_r (gd_shl a ha) ?_
  refine pk_loop (σ := Nat) (fun n i s => wX_around_8 post (nI b) (nI av) f0 f1 f2 a1 a2 a3 a4 a5 a6 a7 n (nI s) (nI i)) (fun i R => R < 128 ∧ gd_i R a ∧ ¬ gd_i R v ∧ (∀ w, gd_i R w → gd_re M (fun w => ¬ gd_i av w) a w) ∧ ((gd_cz M av R ∧ ¬ gd_i R b) ∨ i + 1 ≤ gd_on R) ∧ (i < 2 → ∀ w, gd_i R w → w = a ∨ gd_i (M a) w) ∧ (i = 0 → ∀ w, gd_i R w → w = a)) 8 0 (2 ^ a) (by omega) ⟨gd_lt_p ha, gd_i_p.mpr rfl, fun z => va (gd_i_p.mp z), fun w z => gd_i_p.mp z ▸ gd_re_refl, Or.inr (by rw [gd_on_p a ha]; exact Nat.le_refl 1), fun _ w z => Or.inl (gd_i_p.mp z), fun _ w z => gd_i_p.mp z⟩ ?_ ?_
  · intro n R I
    obtain ⟨hR, ra, rv, rs, rc, _, _⟩ := I
    have l := gd_on_6 hR hv rv
    refine pk_lt 7 8 (fun _ => H8 (fun re => ?_)) (fun z => absurd z (by omega))
    rcases rc with ⟨c, nb⟩ | c
    · exact nb (re (fun w => gd_i R w) ra (fun x y hx hy px e t => c x y hx hy px e t))
    · omega
  · intro n i R hi I hw
    obtain ⟨hR, ra, rv, rs, rc, r2, r1⟩ := I
    have l := gd_on_6 hR hv rv
    refine pk_lt 7 i (fun z => absurd z (by omega)) (fun _ => gd_in R b rfl rfl hR hb (fun rb => gd_in1 ?_) (fun nb => gd_in0 (gd_ar34 g hA hR (fun N hN mN => ?_))))
    · rcases rc with ⟨_, c⟩ | c
      · exact absurd rb c
      · refine H i ?_ (by omega) (rs b rb)
        rcases Nat.lt_or_ge i 2 with z | z
        · rcases r2 z b rb with q | q
          · exact absurd q.symm ab
          · exact absurd q nab
        · exact z
    · rw [nI_1]
      refine hw N ⟨hN, (mN a).mpr (Or.inl ra), fun z => ?_, fun w z => ?_, ?_, fun z => ?_, fun z => absurd z (by omega)⟩
      · rcases (mN v).mp z with q | ⟨x, _, _, _, q⟩
        · exact rv q
        · exact q vav
      · rcases (mN w).mp z with q | ⟨x, x7, q1, q2, q3⟩
        · exact rs w q
        · exact gd_re_step (rs x q1) x7 (gd_lt7 (g.1 x x7) q2) q2 q3
      · have sub : ∀ w, gd_i R w → gd_i N w := fun w z => (mN w).mpr (Or.inl z)
        by_cases c : gd_cz M av R
        · have e : N = R := gd_ext hN hR (fun w w7 => ⟨fun z => by
            rcases (mN w).mp z with q | ⟨x, x7, q1, q2, q3⟩
            · exact q
            · exact c x w x7 w7 q1 q2 q3, sub w⟩)
          rw [e]
          exact Or.inl ⟨c, nb⟩
        · rcases rc with ⟨c', _⟩ | l1
          · exact absurd c' c
          · right
            by_cases c2 : ∃ w, gd_i N w ∧ ¬ gd_i R w
            · obtain ⟨w, nw, rw'⟩ := c2
              have q1 := gd_on_d hN nw
              have q2 : gd_on R ≤ gd_on (gd_d N (2 ^ w)) := gd_on_mono (fun i z => gd_i_d.mpr ⟨sub i z, fun e => rw' (gd_i_p.mp e ▸ z)⟩)
              omega
            · exfalso
              apply c
              intro x y hx hy rx e t
              by_cases c3 : gd_i R y
              · exact c3
              · exact absurd ⟨y, (mN y).mpr (Or.inr ⟨x, hx, rx, e, t⟩), c3⟩ c2
      · intro w nw
        have i0 : i = 0 := by omega
        rcases (mN w).mp nw with q | ⟨x, x7, q1, q2, q3⟩
        · exact Or.inl (r1 i0 w q)
        · rw [r1 i0 x q1] at q2
          exact Or.inr q2
/-! one turn of smallestHole -/
theorem gd_sh127 {J : Int32 → Int32 → Prop} {x1 x2 z : Int32} (hz : z = 8 ∨ ∃ n, 2 ≤ n ∧ n ≤ 5 ∧ z = nI n) (hb : x1 = -1 ∨ ∃ h, 4 ≤ h ∧ h ≤ 7 ∧ x1 = nI h) (H0 : z = 8 → J x1 (x2 + 1)) (H1 : ¬ z = 8 → ∀ h, 4 ≤ h → h ≤ 7 → J (nI h) (x2 + 1)) : wX_smallestHole_127 post J x1 x2 z f0 f1 f2 a1 a2 a3 a4 a5 a6 a7 := by
  unfold wX_smallestHole_127
  rcases hz with e | ⟨n, n2, n5, e⟩
  · exact br_t (by rw [e]; decide) (nm_e (H0 e))
  · have nz : ¬ z = 8 := by
      rw [e]
      intro q
      have q' : nI n = nI 8 := q
      rw [nI_eq (by omega) (by omega)] at q'
      omega
    have e2 : z + 2 = nI (n + 2) := by
      rw [e]
      exact nI_add n 2
    refine br_f (by rw [e]; exact nI_nlt (b := n) (a := 7) (by omega) (by omega)) ?_
    rcases hb with eb | ⟨h, h4, h7, eb⟩
    · exact br_t (by rw [eb]; decide) (nm_r e2 (nm_e (H1 nz (n + 2) (by omega) (by omega))))
    · refine br_f (by rw [eb]; exact nI_pos (by omega)) ?_
      refine br_c (fun _ => nm_e ?_) (fun _ => nm_r e2 (nm_e (H1 nz (n + 2) (by omega) (by omega))))
      rw [eb]
      exact H1 nz h h4 h7
theorem gd_near {v b w : Nat} : ¬ gd_i (gd_d (M v ||| 2 ^ v) (2 ^ b)) w ↔ gd_T M v b w := by
  rw [gd_i_d, gd_i_or, gd_i_p, gd_i_p]
  unfold gd_T
  constructor
  · intro z
    by_cases c : w = b
    · exact Or.inl c
    · exact Or.inr ⟨fun q => z ⟨Or.inr q, c⟩, fun q => z ⟨Or.inl q, c⟩⟩
  · rintro (z | ⟨z1, z2⟩) ⟨q1, q2⟩
    · exact q2 z
    · exact q1.elim z2 z1
theorem gd_re_iff {T T' : Nat → Prop} (h : ∀ w, T w ↔ T' w) {a b : Nat} : gd_re M T a b ↔ gd_re M T' a b :=
  ⟨fun r P pa hp => r P pa (fun v w hv hw pv e t => hp v w hv hw pv e ((h w).mp t)), fun r P pa hp => r P pa (fun v w hv hw pv e t => hp v w hv hw pv e ((h w).mpr t))⟩
theorem gd_sh85 {J : Int32 → Int32 → Prop} {x1 x2 x4 : Int32} {v b : Nat} (hv : v < 7) (hb : x1 = -1 ∨ ∃ h, 4 ≤ h ∧ h ≤ 7 ∧ x1 = nI h) (H0 : J x1 (x2 + 1)) : wX_smallestHole_85 post J x1 x2 (nI v) x4 (nI b) f0 f1 f2 a1 a2 a3 a4 a5 a6 a7 := by
  unfold wX_smallestHole_85 wX_smallestHole_86
  exact ⟨pk_in v 7 hv, nm_e (br_t rfl (gd_sh127 (Or.inl rfl) hb (fun _ => H0) (fun z => absurd rfl z)))⟩
theorem gd_sh86 {J : Int32 → Int32 → Prop} {x1 x2 : Int32} {v a b : Nat} (g : gd_G M) (hA : gd_A a1 M) (hv : v < 7) (ha : a < 7) (hb7 : b < 7) (ab : a < b) (va : gd_i (M v) a) (vb : gd_i (M v) b) (nab : ¬ gd_i (M a) b) (hb : x1 = -1 ∨ ∃ h, 4 ≤ h ∧ h ≤ 7 ∧ x1 = nI h) (H0 : ¬ gd_tr M v a b → J x1 (x2 + 1)) (H1 : gd_tr M v a b → ∀ h, 4 ≤ h → h ≤ 7 → J (nI h) (x2 + 1)) : wX_smallestHole_86 post J x1 x2 (nI v) (nI a) (nI b) 1 f0 f1 f2 a1 a2 a3 a4 a5 a6 a7 := by
  unfold wX_smallestHole_86
  have e : gd_re M (fun w => ¬ gd_i (gd_d (M v ||| 2 ^ v) (2 ^ b)) w) a b ↔ gd_re M (gd_T M v b) a b := gd_re_iff (fun w => gd_near)
  refine ⟨pk_in v 7 hv, nm_r (e' := nI (gd_d (M v ||| 2 ^ v) (2 ^ b))) (by rw [gd_ra hA hv, gd_shl v hv, gd_shl b hb7, gd_nor, gd_andn]) (gd_in1 ?_)⟩
  refine gd_around (v := v) g hA ha hb7 hv (by omega) nab (fun e => g.2.2 v hv (by rw [← e] at va; exact va)) ?_ rfl rfl rfl (fun n n2 n5 re => ?_) (fun nre => ?_)
  · exact gd_i_d.mpr ⟨gd_i_or.mpr (Or.inr (gd_i_p.mpr rfl)), fun z => g.2.2 v hv (by rw [← gd_i_p.mp z] at vb; exact vb)⟩
  · have n8 : ¬ nI n = 8 := by
      intro q
      have q' : nI n = nI 8 := q
      rw [nI_eq (by omega) (by omega)] at q'
      omega
    exact gd_sh127 (Or.inr ⟨n, n2, n5, rfl⟩) hb (fun z => absurd z n8) (fun _ => H1 ⟨ab, va, vb, nab, e.mp re⟩)
  · exact gd_sh127 (Or.inl rfl) hb (fun _ => H0 (fun t => nre (e.mpr t.2.2.2.2))) (fun z => absurd rfl z)
theorem gd_smallestHole (g : gd_G M) (hA : gd_A a1 M) (H0 : gd_hs M → post (-1)) (H1 : ¬ gd_hs M → ∀ h, 4 ≤ h → h ≤ 7 → post (nI h)) : wpX_smallestHole post (f0, f1, f2, a1, a2, a3, a4, a5, a6, a7) := by
  refine pk_loop (σ := Int32) (fun n i s => wX_smallestHole_4 post f0 f1 f2 a1 a2 a3 a4 a5 a6 a7 n s (nI i)) (fun i s => (s = -1 ∧ ∀ v a b, v < 7 → a < 7 → b < 7 → 49 * v + 7 * a + b < i → ¬ gd_tr M v a b) ∨ ((∃ h, 4 ≤ h ∧ h ≤ 7 ∧ s = nI h) ∧ ∃ v a b, v < 7 ∧ a < 7 ∧ b < 7 ∧ gd_tr M v a b)) 343 0 (-1) (by omega) (Or.inl ⟨rfl, fun v a b _ _ _ z => absurd z (by omega)⟩) ?_ ?_
  · intro n s I
    refine pk_le 343 343 (fun _ => ?_) (fun z => absurd z (by omega))
    rcases I with ⟨e, nt⟩ | ⟨⟨h, h4, h7, e⟩, v, a, b, hv, ha, hb, t⟩
    · rw [e]
      exact H0 (gd_nt_hs g (fun v a b hv ha hb => nt v a b hv ha hb (by omega)))
    · rw [e]
      exact H1 (fun hs => gd_hs_nt g hs v a b hv ha hb t) h h4 h7
  · intro n i s hi I hw
    have hb : s = -1 ∨ ∃ h, 4 ≤ h ∧ h ≤ 7 ∧ s = nI h := by
      rcases I with ⟨e, _⟩ | ⟨q, _⟩
      · exact Or.inl e
      · exact Or.inr q
    have v7 : i / 49 < 7 := by omega
    have a7' : i / 7 % 7 < 7 := by omega
    have b7 : i % 7 < 7 := by omega
    have K0 : ¬ gd_tr M (i / 49) (i / 7 % 7) (i % 7) → wX_smallestHole_4 post f0 f1 f2 a1 a2 a3 a4 a5 a6 a7 n s (nI i + 1) := by
      intro nt
      rw [nI_1]
      refine hw s ?_
      rcases I with ⟨e, q⟩ | q
      · refine Or.inl ⟨e, fun v a b hv ha hb lt => ?_⟩
        by_cases c : 49 * v + 7 * a + b < i
        · exact q v a b hv ha hb c
        · have e1 : v = i / 49 := by omega
          have e2 : a = i / 7 % 7 := by omega
          have e3 : b = i % 7 := by omega
          rw [e1, e2, e3]
          exact nt
      · exact Or.inr q
    have K1 : gd_tr M (i / 49) (i / 7 % 7) (i % 7) → ∀ h, 4 ≤ h → h ≤ 7 → wX_smallestHole_4 post f0 f1 f2 a1 a2 a3 a4 a5 a6 a7 n (nI h) (nI i + 1) := by
      intro t h h4 h7
      rw [nI_1]
      exact hw _ (Or.inr ⟨⟨h, h4, h7, rfl⟩, _, _, _, v7, a7', b7, t⟩)
    refine pk_le 343 i (fun z => absurd z (by omega)) (fun _ => ⟨by decide, nm_r (e' := nI (i / 49)) (pk_div (d := 49) (by omega) (by omega) (by omega)) ⟨by decide, by decide, nm_r (e' := nI (i / 7 % 7)) ?_ ⟨by decide, nm_r (e' := nI (i % 7)) (pk_rem (d := 7) (by omega) (by omega) (by omega)) ?_⟩⟩⟩)
    · have q : nI i / 7 = nI (i / 7) := pk_div (d := 7) (by omega) (by omega) (by omega)
      rw [q]
      exact pk_rem (d := 7) (by omega) (by omega) (by omega)
    · refine pk_le (i % 7) (i / 7 % 7) (fun z => gd_sh85 v7 hb (K0 (fun t => absurd t.1 (by omega)))) (fun z => ⟨pk_in _ 7 v7, ?_⟩)
      refine gd_in (M (i / 49)) (i / 7 % 7) (gd_ra hA v7) rfl (g.1 _ v7) a7' (fun va => gd_in1 ⟨pk_in _ 7 v7, ?_⟩) (fun q => gd_in0 (gd_sh85 v7 hb (K0 (fun t => q t.2.1))))
      refine gd_in (M (i / 49)) (i % 7) (gd_ra hA v7) rfl (g.1 _ v7) b7 (fun vb => gd_in1 ⟨pk_in _ 7 a7', ?_⟩) (fun q => gd_in0 (gd_sh85 v7 hb (K0 (fun t => q t.2.2.1))))
      refine gd_in (M (i / 7 % 7)) (i % 7) (gd_ra hA a7') rfl (g.1 _ a7') b7 (fun q => gd_in1 (gd_sh85 v7 hb (K0 (fun t => t.2.2.2.1 q)))) (fun nab => gd_in0 ?_)
      exact gd_sh86 g hA v7 a7' b7 z va vb nab hb K0 K1
end
end
section
/-! one join more or less -/
def gd_tu (M : Nat → Nat) (p q : Nat) : Nat → Nat := fun j => if j = p then M p ^^^ 2 ^ q else if j = q then M q ^^^ 2 ^ p else M j
theorem gd_i_x {a q i : Nat} : gd_i (a ^^^ 2 ^ q) i ↔ (gd_i a i ∧ i ≠ q) ∨ (¬ gd_i a i ∧ i = q) := by
  by_cases c : i = q
  · rw [c]
    unfold gd_i
    rw [Nat.testBit_xor, Nat.testBit_two_pow_self]
    cases a.testBit q <;> simp
  · have e : gd_i (a ^^^ 2 ^ q) i ↔ gd_i a i := by
      unfold gd_i
      rw [Nat.testBit_xor, Nat.testBit_two_pow_of_ne (Ne.symm c), Bool.xor_false]
    rw [e]
    exact ⟨fun z => Or.inl ⟨z, c⟩, fun z => z.elim (fun q => q.1) (fun q => absurd q.2 c)⟩
theorem gd_tu_p {M : Nat → Nat} {p q : Nat} : gd_tu M p q p = M p ^^^ 2 ^ q := if_pos rfl
theorem gd_tu_q {M : Nat → Nat} {p q : Nat} (h : p ≠ q) : gd_tu M p q q = M q ^^^ 2 ^ p := by
  unfold gd_tu
  rw [if_neg (Ne.symm h), if_pos rfl]
theorem gd_tu_o {M : Nat → Nat} {p q j : Nat} (h1 : j ≠ p) (h2 : j ≠ q) : gd_tu M p q j = M j := by
  unfold gd_tu
  rw [if_neg h1, if_neg h2]
theorem gd_tu_i {M : Nat → Nat} {p q : Nat} (h : p ≠ q) (j i : Nat) : gd_i (gd_tu M p q j) i ↔ (gd_i (M j) i ∧ ¬ (j = p ∧ i = q ∨ j = q ∧ i = p)) ∨ (¬ gd_i (M j) i ∧ (j = p ∧ i = q ∨ j = q ∧ i = p)) := by
  by_cases c1 : j = p
  · rw [c1, gd_tu_p, gd_i_x]
    have e : (p = p ∧ i = q ∨ p = q ∧ i = p) ↔ i = q := ⟨fun z => z.elim (fun q => q.2) (fun q => absurd q.1 h), fun z => Or.inl ⟨rfl, z⟩⟩
    rw [e]
  · by_cases c2 : j = q
    · rw [c2, gd_tu_q h, gd_i_x]
      have e : (q = p ∧ i = q ∨ q = q ∧ i = p) ↔ i = p := ⟨fun z => z.elim (fun k => absurd k.1.symm h) (fun q => q.2), fun z => Or.inr ⟨rfl, z⟩⟩
      rw [e]
    · rw [gd_tu_o c1 c2]
      have e : ¬ (j = p ∧ i = q ∨ j = q ∧ i = p) := fun z => z.elim (fun k => c1 k.1) (fun k => c2 k.1)
      exact ⟨fun z => Or.inl ⟨z, e⟩, fun z => z.elim (fun k => k.1) (fun k => absurd k.2 e)⟩
theorem gd_tu_G {M : Nat → Nat} (g : gd_G M) {p q : Nat} (hp : p < 7) (hq : q < 7) (h : p ≠ q) : gd_G (gd_tu M p q) := by
  refine ⟨fun v v7 => ?_, fun v w v7 w7 => ?_, fun v v7 => ?_⟩
  · unfold gd_tu
    split
    · exact Nat.xor_lt_two_pow (n := 7) (g.1 p hp) (gd_lt_p hq)
    · split
      · exact Nat.xor_lt_two_pow (n := 7) (g.1 q hq) (gd_lt_p hp)
      · exact g.1 v v7
  · rw [gd_tu_i h, gd_tu_i h]
    have e : (v = p ∧ w = q ∨ v = q ∧ w = p) ↔ (w = p ∧ v = q ∨ w = q ∧ v = p) := ⟨fun z => z.elim (fun k => Or.inr ⟨k.2, k.1⟩) (fun k => Or.inl ⟨k.2, k.1⟩), fun z => z.elim (fun k => Or.inr ⟨k.2, k.1⟩) (fun k => Or.inl ⟨k.2, k.1⟩)⟩
    rw [e]
    rintro (⟨z1, z2⟩ | ⟨z1, z2⟩)
    · exact Or.inl ⟨g.2.1 v w v7 w7 z1, z2⟩
    · exact Or.inr ⟨fun k => z1 (g.2.1 w v w7 v7 k), z2⟩
  · rw [gd_tu_i h]
    rintro (⟨z1, z2⟩ | ⟨z1, z2⟩)
    · exact g.2.2 v v7 z1
    · rcases z2 with z2 | z2
      · exact h (z2.1.symm.trans z2.2)
      · exact h (z2.2.symm.trans z2.1)
theorem gd_tu_tu {M : Nat → Nat} {p q : Nat} (h : p ≠ q) : gd_tu (gd_tu M p q) p q = M := by
  funext j
  by_cases c1 : j = p
  · rw [c1, gd_tu_p, gd_tu_p, Nat.xor_assoc, Nat.xor_self, Nat.xor_zero]
  · by_cases c2 : j = q
    · rw [c2, gd_tu_q h, gd_tu_q h, Nat.xor_assoc, Nat.xor_self, Nat.xor_zero]
    · rw [gd_tu_o c1 c2, gd_tu_o c1 c2]
theorem gd_back {a a' : Nat → Int32} {M : Nat → Nat} (h : gd_A a M) (h' : gd_A a' M) (ho : ∀ j, 7 ≤ j → a' j = a j) : a' = a := by
  funext j
  rcases Nat.lt_or_ge j 7 with c | c
  · rw [h j c, h' j c]
  · exact ho j c
/-! how many joins make it neat -/
noncomputable def gd_nw (M : Nat → Nat) (a b : Nat) : Nat := @ite Nat (a < b ∧ ¬ gd_i (M a) b ∧ gd_hs (gd_tu M a b)) (Classical.propDecidable _) 1 0
theorem gd_nw_1 {M : Nat → Nat} {a b : Nat} (h : a < b ∧ ¬ gd_i (M a) b ∧ gd_hs (gd_tu M a b)) : gd_nw M a b = 1 := @if_pos _ (Classical.propDecidable _) h _ _ _
theorem gd_nw_0 {M : Nat → Nat} {a b : Nat} (h : ¬ (a < b ∧ ¬ gd_i (M a) b ∧ gd_hs (gd_tu M a b))) : gd_nw M a b = 0 := @if_neg _ (Classical.propDecidable _) h _ _ _
noncomputable def gd_ro (M : Nat → Nat) (a : Nat) : Nat → Nat
  | 0 => 0
  | b + 1 => gd_ro M a b + gd_nw M a b
noncomputable def gd_nj (M : Nat → Nat) : Nat → Nat
  | 0 => 0
  | a + 1 => gd_nj M a + gd_ro M a 7
theorem gd_ro_s {M : Nat → Nat} {a : Nat} : ∀ b, b ≤ a + 1 → gd_ro M a b = 0 := by
  intro b
  induction b with
  | zero => exact fun _ => rfl
  | succ b ih =>
    intro h
    show gd_ro M a b + gd_nw M a b = 0
    rw [ih (by omega), gd_nw_0 (fun z => absurd z.1 (by omega))]
theorem gd_nw_le (M : Nat → Nat) (a b : Nat) : gd_nw M a b ≤ 1 := by
  by_cases c : a < b ∧ ¬ gd_i (M a) b ∧ gd_hs (gd_tu M a b)
  · exact Nat.le_of_eq (gd_nw_1 c)
  · rw [gd_nw_0 c]
    exact Nat.zero_le _
theorem gd_ro_le (M : Nat → Nat) (a : Nat) : ∀ b, gd_ro M a b ≤ b := by
  intro b
  induction b with
  | zero => exact Nat.le_refl _
  | succ b ih =>
    have := gd_nw_le M a b
    show gd_ro M a b + gd_nw M a b ≤ b + 1
    omega
theorem gd_nj_le (M : Nat → Nat) : ∀ a, gd_nj M a ≤ 7 * a := by
  intro a
  induction a with
  | zero => exact Nat.le_refl _
  | succ a ih =>
    have := gd_ro_le M a 7
    show gd_nj M a + gd_ro M a 7 ≤ 7 * (a + 1)
    omega
section
variable {f0 f1 f2 : Int32} {a1 a2 a3 a4 a5 a6 a7 : Nat → Int32} {M : Nat → Nat}
theorem gd_turn {post : St1 → Prop} {p q : Nat} (g : gd_G M) (hA : gd_A a1 M) (hp : p < 7) (hq : q < 7) (h : p ≠ q) (H : ∀ a, gd_A a (gd_tu M p q) → (∀ j, 7 ≤ j → a j = a1 j) → post (f0, f1, f2, a, a2, a3, a4, a5, a6, a7)) : wpX_turn post (f0, f1, f2, a1, a2, a3, a4, a5, a6, a7) (nI p) (nI q) := by
  unfold wpX_turn
  refine ⟨pk_in p 7 hp, pk_in p 7 hp, nm_r (e' := upd a1 p (nI (M p ^^^ 2 ^ q))) ?_ ⟨pk_in q 7 hq, pk_in q 7 hq, nm_r (e' := upd (upd a1 p (nI (M p ^^^ 2 ^ q))) q (nI (M q ^^^ 2 ^ p))) ?_ (H _ ?_ ?_)⟩⟩
  · rw [gd_ra hA hp, gd_shl q hq, gd_nxor, gd_tb _ (Nat.xor_lt_two_pow (n := 7) (g.1 p hp) (gd_lt_p hq)), nI_clamp (by omega)]
  · rw [nI_clamp (show q < 2 ^ 31 by omega), pk_un (Ne.symm h), hA q hq, gd_shl p hp, gd_nxor, gd_tb _ (Nat.xor_lt_two_pow (n := 7) (g.1 q hq) (gd_lt_p hp))]
  · intro v v7
    by_cases c1 : v = p
    · rw [c1, pk_un h, pk_us, gd_tu_p]
    · by_cases c2 : v = q
      · rw [c2, pk_us, gd_tu_q h]
      · rw [pk_un c2, pk_un c1, gd_tu_o c1 c2]
        exact hA v v7
  · intro j hj
    rw [pk_un (by omega), pk_un (by omega)]
theorem gd_neatWith {post : Int32 → St1 → Prop} {p q : Nat} (g : gd_G M) (hA : gd_A a1 M) (hp : p < 7) (hq : q < 7) (h : p ≠ q) (h1 : gd_hs (gd_tu M p q) → post 1 (f0, f1, f2, a1, a2, a3, a4, a5, a6, a7)) (h0 : ¬ gd_hs (gd_tu M p q) → post 0 (f0, f1, f2, a1, a2, a3, a4, a5, a6, a7)) : wpX_neatWith post (f0, f1, f2, a1, a2, a3, a4, a5, a6, a7) (nI p) (nI q) := by
  unfold wpX_neatWith
  refine gd_turn g hA hp hq h (fun a ha ho => ?_)
  have g' := gd_tu_G g hp hq h
  refine gd_neat g' ha (fun z => ?_) (fun z => ?_)
  · refine gd_turn g' ha hp hq h (fun b hb hbo => ⟨rfl, ?_⟩)
    rw [gd_tu_tu h] at hb
    rw [gd_back hA hb (fun j hj => (hbo j hj).trans (ho j hj))]
    exact h1 z
  · refine gd_turn g' ha hp hq h (fun b hb hbo => ⟨rfl, ?_⟩)
    rw [gd_tu_tu h] at hb
    rw [gd_back hA hb (fun j hj => (hbo j hj).trans (ho j hj))]
    exact h0 z
theorem gd_nj14 {post : Int32 → St1 → Prop} {J : Int32 → Int32 → Int32 → Int32 → Int32 → (Nat → Int32) → (Nat → Int32) → (Nat → Int32) → (Nat → Int32) → (Nat → Int32) → (Nat → Int32) → (Nat → Int32) → Prop} {c a : Nat} (g : gd_G M) (hA : gd_A a1 M) (ha : a < 7) (H : J (nI (c + gd_ro M a 7)) (nI (a + 1)) f0 f1 f2 a1 a2 a3 a4 a5 a6 a7) : ∃ n, wX_neatJoins_14 post J (nI a) n (nI c) (nI (a + 1)) f0 f1 f2 a1 a2 a3 a4 a5 a6 a7 := by
  have K := pk_loop (σ := Unit) (fun n i _ => wX_neatJoins_14 post J (nI a) n (nI (c + gd_ro M a i)) (nI i) f0 f1 f2 a1 a2 a3 a4 a5 a6 a7) (fun i _ => a < i) 7 (a + 1) () (by omega) (by omega) ?_ ?_
  · obtain ⟨n, hn⟩ := K
    refine ⟨n, ?_⟩
    have hn' : wX_neatJoins_14 post J (nI a) n (nI (c + gd_ro M a (a + 1))) (nI (a + 1)) f0 f1 f2 a1 a2 a3 a4 a5 a6 a7 := hn
    rw [gd_ro_s (a + 1) (by omega)] at hn'
    exact hn'
  · exact fun n _ _ => pk_le 7 7 (fun _ => nm_r (nI_1 a) H) (fun z => absurd z (by omega))
  · intro n i _ hi I hw
    have w0 := hw () (by omega)
    have e : c + gd_ro M a (i + 1) = c + gd_ro M a i + gd_nw M a i := (Nat.add_assoc _ _ _).symm
    rw [e] at w0
    refine pk_le 7 i (fun z => absurd z (by omega)) (fun _ => ⟨pk_in a 7 ha, gd_in (M a) i (gd_ra hA ha) rfl (g.1 a ha) hi (fun q => gd_in1 ?_) (fun q => gd_in0 (gd_neatWith g hA ha hi (by omega) (fun z => gd_in1 ?_) (fun z => gd_in0 ?_)))⟩)
    · rw [gd_nw_0 (fun z => z.2.1 q)] at w0
      exact nm_r (e' := nI (c + gd_ro M a i + 0)) (nI_add _ 0) (nm_r (nI_1 i) w0)
    · rw [gd_nw_1 ⟨I, q, z⟩] at w0
      exact nm_r (nI_1 _) (nm_r (nI_1 i) w0)
    · rw [gd_nw_0 (fun k => z k.2.2)] at w0
      exact nm_r (e' := nI (c + gd_ro M a i + 0)) (nI_add _ 0) (nm_r (nI_1 i) w0)
theorem gd_neatJoins {post : Int32 → St1 → Prop} (g : gd_G M) (hA : gd_A a1 M) (H : post (nI (gd_nj M 7)) (f0, f1, f2, a1, a2, a3, a4, a5, a6, a7)) : wpX_neatJoins post (f0, f1, f2, a1, a2, a3, a4, a5, a6, a7) := by
  refine pk_loop (σ := Unit) (fun n i _ => wX_neatJoins_4 post n (nI (gd_nj M i)) (nI i) f0 f1 f2 a1 a2 a3 a4 a5 a6 a7) (fun i _ => True) 7 0 () (by omega) trivial ?_ ?_
  · exact fun n _ _ => pk_le 7 7 (fun _ => H) (fun z => absurd z (by omega))
  · exact fun n i _ hi _ hw => pk_le 7 i (fun z => absurd z (by omega)) (fun _ => nm_r (nI_1 i) (gd_nj14 g hA hi (hw () trivial)))
theorem gd_fill22 {post : Int32 → St1 → Prop} (g : gd_G M) (hA : gd_A a1 M) (H2 : post 2 (f0, f1, f2, a1, a2, a3, a4, a5, a6, a7)) (H3 : post 3 (f0, f1, f2, a1, a2, a3, a4, a5, a6, a7)) : ∃ n, wX_fill_22 post n 0 f0 f1 f2 a1 a2 a3 a4 a5 a6 a7 := by
  refine pk_loop (σ := Unit) (fun n i _ => wX_fill_22 post n (nI i) f0 f1 f2 a1 a2 a3 a4 a5 a6 a7) (fun i _ => True) 49 0 () (by omega) trivial ?_ ?_
  · exact fun n _ _ => pk_le 49 49 (fun _ => H3) (fun z => absurd z (by omega))
  · intro n i _ hi _ hw
    have w0 := hw () trivial
    have p7 : i / 7 < 7 := by omega
    have q7 : i % 7 < 7 := by omega
    refine pk_le 49 i (fun z => absurd z (by omega)) (fun _ => ⟨by decide, nm_r (e' := nI (i / 7)) (pk_div (d := 7) (by omega) (by omega) (by omega)) ⟨by decide, nm_r (e' := nI (i % 7)) (pk_rem (d := 7) (by omega) (by omega) (by omega)) ?_⟩⟩)
    refine pk_le (i % 7) (i / 7) (fun z => nm_r (nI_1 i) w0) (fun z => ⟨pk_in _ 7 p7, ?_⟩)
    refine gd_in (M (i / 7)) (i % 7) (gd_ra hA p7) rfl (g.1 _ p7) q7 (fun q => gd_in1 (nm_r (nI_1 i) w0)) (fun q => gd_in0 ?_)
    have ne : i / 7 ≠ i % 7 := by omega
    have g' := gd_tu_G g p7 q7 ne
    refine gd_turn g hA p7 q7 ne (fun a ha ho => gd_neatJoins g' ha (gd_turn g' ha p7 q7 ne (fun b hb hbo => ?_)))
    rw [gd_tu_tu ne] at hb
    rw [gd_back hA hb (fun j hj => (hbo j hj).trans (ho j hj))]
    exact br_c (fun _ => nm_r (nI_1 i) w0) (fun _ => H2)
theorem gd_fill {post : Int32 → St1 → Prop} (g : gd_G M) (hA : gd_A a1 M) (H0 : gd_hs M → post 0 (f0, f1, f2, a1, a2, a3, a4, a5, a6, a7)) (H1 : ¬ gd_hs M → 0 < gd_nj M 7 → post 1 (f0, f1, f2, a1, a2, a3, a4, a5, a6, a7)) (H2 : ¬ gd_hs M → gd_nj M 7 = 0 → post 2 (f0, f1, f2, a1, a2, a3, a4, a5, a6, a7) ∧ post 3 (f0, f1, f2, a1, a2, a3, a4, a5, a6, a7)) : wpX_fill post (f0, f1, f2, a1, a2, a3, a4, a5, a6, a7) := by
  have l := gd_nj_le M 7
  unfold wpX_fill
  refine gd_neat g hA (fun h => gd_in1 (H0 h)) (fun h => gd_in0 (gd_neatJoins g hA ?_))
  refine pk_le (gd_nj M 7) 0 (fun z => ?_) (fun z => H1 h z)
  have e := H2 h (by omega)
  exact gd_fill22 g hA e.1 e.2
end
end
section
/-! the ways to take a set away -/
def gd_ow (M : Nat → Nat) (t : Nat) (x : Int32) : Prop := ∃ o, x = nI o ∧ o ≤ 7 ^ gd_on t ∧ (0 < o → ¬ gd_bad M t) ∧ (gd_hs M → 0 < o)
section
variable {post : Int32 → St1 → Prop} {f0 f1 f2 : Int32} {a1 a2 a3 a4 a5 a6 a7 : Nat → Int32} {M : Nat → Nat}
theorem gd_or24 {J : Int32 → (Nat → Int32) → (Nat → Int32) → (Nat → Int32) → (Nat → Int32) → (Nat → Int32) → (Nat → Int32) → (Nat → Int32) → Prop} {s : Nat} (g : gd_G M) (hA : gd_A a1 M) (hs : s < 128) (s0 : 0 < s) (hW : ∀ t, t < s → gd_ow M t (a7 t)) (hz : a7 s = nI 0) (H : ∀ b, (∀ t, t < s + 1 → gd_ow M t (b t)) → J (nI (s + 1)) a1 a2 a3 a4 a5 a6 b) : ∃ n, wX_orders_24 post J (nI s) f0 f1 f2 n 0 a1 a2 a3 a4 a5 a6 a7 := by
  refine pk_loop (σ := Nat → Int32) (fun n i b => wX_orders_24 post J (nI s) f0 f1 f2 n (nI i) a1 a2 a3 a4 a5 a6 b) (fun i b => (∀ t, t < s → gd_ow M t (b t)) ∧ ∃ o, b s = nI o ∧ o ≤ i * 7 ^ (gd_on s - 1) ∧ (0 < o → ¬ gd_bad M s) ∧ (gd_hs M → ∀ u, u < i → gd_i s u → gd_si M u s → 0 < o)) 7 0 a7 (by omega) ⟨hW, 0, hz, Nat.zero_le _, fun z => absurd z (by omega), fun _ u hu => absurd hu (by omega)⟩ ?_ ?_
  · intro n b I
    obtain ⟨ib, o, e, le, nb, hp⟩ := I
    refine pk_le 7 7 (fun _ => nm_r (nI_1 s) (H b (fun t ht => ?_))) (fun z => absurd z (by omega))
    by_cases c : t = s
    · rw [c]
      refine ⟨o, e, ?_, nb, fun h => ?_⟩
      · have q : gd_on s ≠ 0 := fun z => absurd (gd_on_z s hs z) (by omega)
        have q2 : gd_on s = gd_on s - 1 + 1 := by omega
        rw [q2, Nat.pow_succ, Nat.mul_comm]
        exact le
      · obtain ⟨u, u7, su, si⟩ := h s hs (by omega)
        exact hp h u u7 su si
    · exact ib t (by omega)
  · intro n i b hi I hw
    obtain ⟨ib, o, e, le, nb, hp⟩ := I
    have grow : i * 7 ^ (gd_on s - 1) ≤ (i + 1) * 7 ^ (gd_on s - 1) := Nat.mul_le_mul_right _ (by omega)
    refine pk_le 7 i (fun z => absurd z (by omega)) (fun _ => gd_in s i rfl rfl hs hi (fun si => gd_in1 (gd_isEasy g hA hi hs rfl rfl (fun ez => gd_in1 ?_) (fun nz => gd_in0 (nm_r (nI_1 i) (hw b ⟨ib, o, e, Nat.le_trans le grow, nb, fun h u hu su sz => ?_⟩))))) (fun ni => gd_in0 (nm_r (nI_1 i) (hw b ⟨ib, o, e, Nat.le_trans le grow, nb, fun h u hu su sz => ?_⟩))))
    · have et : nI s &&& (((1 : Int32) <<< (nI i &&& 31)) ^^^ (-1)) = nI (gd_d s (2 ^ i)) := by rw [gd_shl i hi, gd_andn]
      rw [et]
      have lt := gd_d_lt si
      have t128 := gd_lt_d (b := 2 ^ i) hs
      obtain ⟨o', e', le', nb', hp'⟩ := ib _ lt
      have on' := gd_on_d hs si
      refine ⟨pk_in s 128 hs, pk_in _ 128 t128, pk_in s 128 hs, nm_r (e' := upd b s (nI (o + o'))) ?_ (nm_r (nI_1 i) (hw _ ⟨fun t ht => ?_, o + o', pk_us, ?_, fun z => ?_, fun h u hu su sz => ?_⟩))⟩
      · rw [nI_clamp (show s < 2 ^ 31 by omega), nI_clamp (show gd_d s (2 ^ i) < 2 ^ 31 by omega), e, e', nI_add]
      · rw [pk_un (by omega)]
        exact ib t ht
      · rw [Nat.add_mul, Nat.one_mul]
        have q : gd_on (gd_d s (2 ^ i)) = gd_on s - 1 := by omega
        rw [q] at le'
        exact Nat.add_le_add le le'
      · rcases Nat.eq_zero_or_pos o with q | q
        · exact fun bad => nb' (by omega) (gd_bad_d g hi ez bad)
        · exact nb q
      · have := hp' h
        omega
    · by_cases c : u = i
      · exact absurd (c ▸ sz) nz
      · exact hp h u (by omega) su sz
    · have c : u ≠ i := fun c => ni (c ▸ su)
      exact hp h u (by omega) su sz
theorem gd_orders (g : gd_G M) (hA : gd_A a1 M) (H : ∀ o b, o ≤ 823543 → (0 < o ↔ gd_hs M) → post (nI o) (f0, f1, f2, a1, a2, a3, a4, a5, a6, b)) : wpX_orders post (f0, f1, f2, a1, a2, a3, a4, a5, a6, a7) := by
  refine nm_e ?_
  refine pk_loop (σ := Nat → Int32) (fun n i b => wX_orders_9 post f0 f1 f2 n (nI i) a1 a2 a3 a4 a5 a6 b) (fun i b => 0 < i ∧ ∀ t, t < i → gd_ow M t (b t)) 128 1 (upd a7 0 1) (by omega) ⟨by omega, fun t ht => ?_⟩ ?_ ?_
  · rw [show t = 0 by omega, pk_us]
    exact ⟨1, rfl, by decide, fun _ b => gd_bad_in b rfl, fun _ => by omega⟩
  · intro n b I
    obtain ⟨o, e, le, nb, hp⟩ := I.2 127 (by omega)
    refine pk_lt 127 128 (fun _ => ?_) (fun z => absurd z (by omega))
    rw [e]
    rw [gd_on_127] at le
    exact H o b le ⟨fun z => gd_nb_hs g (nb z), hp⟩
  · intro n s b hs I hw
    refine pk_lt 127 s (fun z => absurd z (by omega)) (fun _ => ⟨pk_in s 128 hs, nm_r (e' := upd b s 0) (by rw [nI_clamp (by omega)]) ?_⟩)
    refine gd_or24 g hA hs I.1 (fun t ht => ?_) pk_us (fun b' hb => hw b' ⟨by omega, hb⟩)
    rw [pk_un (by omega)]
    exact I.2 t ht
end
end
section
/-! branches -/
theorem gd_fi_is : ∀ s, s < 128 → ∀ i, i < 7 → (∀ u, u < i → s.testBit u = false) → (s.testBit i = true ∨ i = 6) → gd_fi s = i := by decide +kernel
theorem gd_ones {post : Int32 → Prop} {u : St2} {s : Nat} {x : Int32} (hx : x = nI s) (hs : s < 128) (H : post (nI (gd_on s))) : wpX_ones post u x := by
  rw [hx]
  exact pk_loop (σ := Unit) (fun n i _ => wX_ones_4 post (nI s) n (nI (gd_cn s i)) (nI i)) (fun _ _ => True) 7 0 () (by omega) trivial
    (fun n _ _ => pk_le 7 7 (fun _ => H) (fun z => absurd z (by omega)))
    (fun n i _ hi _ hw => pk_le 7 i (fun z => absurd z (by omega)) (fun _ => nm_r (e' := nI (gd_cn s (i + 1))) (by rw [gd_shr s hs i hi, nI_add]; rfl) (nm_r (nI_1 i) (hw () trivial))))
theorem gd_first {post : Int32 → Prop} {u : St2} {s : Nat} {x : Int32} (hx : x = nI s) (hs : s < 128) (H : post (nI (gd_fi s))) : wpX_first post u x := by
  rw [hx]
  refine pk_loop (σ := Unit) (fun n i _ => wX_first_2 post (nI s) n (nI i)) (fun i _ => ∀ u, u < i → s.testBit u = false) 6 0 () (by omega) (fun u hu => absurd hu (by omega)) ?_ ?_
  · intro n _ I
    rw [gd_fi_is s hs 6 (by omega) I (Or.inr rfl)] at H
    exact pk_le 6 6 (fun _ => H) (fun z => absurd z (by omega))
  · intro n i _ hi I hw
    refine pk_le 6 i (fun z => absurd z (by omega)) (fun _ => gd_in s i rfl rfl hs (by omega) (fun si => gd_in1 ?_) (fun ni => gd_in0 (nm_r (nI_1 i) (hw () (fun u hu => ?_)))))
    · rw [gd_fi_is s hs i (by omega) I (Or.inl si)] at H
      exact H
    · by_cases c : u = i
      · rw [c]
        exact Bool.eq_false_iff.mpr ni
      · exact I u (by omega)
def gd_e (a : Nat → Int32) (j : Nat) : Nat := (a j).toNatClampNeg
def gd_st (Q : Nat → Nat) (a b c : Nat → Int32) : Nat → List (Nat × Nat)
  | 0 => []
  | k + 1 => gd_lf Q (gd_e a k) (gd_e b k) (gd_e c k) ++ gd_st Q a b c k
def gd_ok (x y z : Nat → Int32) (k : Nat) : Prop := ∀ j, j < k → ∃ h c b, h < 128 ∧ c < 128 ∧ b < 128 ∧ x j = nI h ∧ y j = nI c ∧ z j = nI b ∧ gd_on c + j ≤ 7
theorem gd_st_up {Q : Nat → Nat} {x y z : Nat → Int32} {u v w : Int32} {j : Nat} : ∀ k, k ≤ j → gd_st Q (upd x j u) (upd y j v) (upd z j w) k = gd_st Q x y z k := by
  intro k
  induction k with
  | zero => exact fun _ => rfl
  | succ k ih =>
    intro hk
    show gd_lf Q (gd_e (upd x j u) k) (gd_e (upd y j v) k) (gd_e (upd z j w) k) ++ gd_st Q (upd x j u) (upd y j v) (upd z j w) k = gd_lf Q (gd_e x k) (gd_e y k) (gd_e z k) ++ gd_st Q x y z k
    unfold gd_e
    rw [ih (by omega), pk_un (by omega), pk_un (by omega), pk_un (by omega)]
theorem gd_st_top {Q : Nat → Nat} {x y z : Nat → Int32} {h c b k : Nat} (hh : h < 128) (hc : c < 128) (hb : b < 128) (e1 : x k = nI h) (e2 : y k = nI c) (e3 : z k = nI b) : gd_st Q x y z (k + 1) = gd_lf Q h c b ++ gd_st Q x y z k := by
  show gd_lf Q (gd_e x k) (gd_e y k) (gd_e z k) ++ gd_st Q x y z k = _
  unfold gd_e
  rw [e1, e2, e3, nI_clamp (by omega), nI_clamp (by omega), nI_clamp (by omega)]
theorem gd_st_push {Q : Nat → Nat} {x y z : Nat → Int32} {h c b k : Nat} (hh : h < 128) (hc : c < 128) (hb : b < 128) : gd_st Q (upd x k (nI h)) (upd y k (nI c)) (upd z k (nI b)) (k + 1) = gd_lf Q h c b ++ gd_st Q x y z k := by
  rw [gd_st_top hh hc hb pk_us pk_us pk_us, gd_st_up k (Nat.le_refl k)]
theorem gd_ok_push {x y z : Nat → Int32} {h c b k : Nat} (hh : h < 128) (hc : c < 128) (hb : b < 128) (l : gd_on c + k ≤ 7) (o : gd_ok x y z k) : gd_ok (upd x k (nI h)) (upd y k (nI c)) (upd z k (nI b)) (k + 1) := by
  intro j hj
  by_cases e : j = k
  · rw [e]
    exact ⟨h, c, b, hh, hc, hb, pk_us, pk_us, pk_us, l⟩
  · rw [pk_un e, pk_un e, pk_un e]
    exact o j (by omega)
theorem gd_lv_pos (Q : Nat → Nat) : ∀ n h c b, 1 ≤ (gd_lv Q n h c b).length := by
  intro n
  induction n with
  | zero => exact fun h c b => Nat.le_refl 1
  | succ n ih =>
    intro h c b
    by_cases c0 : c = 0
    · rw [c0, gd_lv_z]
      exact Nat.le_refl 1
    · rw [gd_lv_s Q n h b c0, List.length_append]
      have := ih h (gd_d c (2 ^ gd_fi c)) (b ||| 2 ^ gd_fi c)
      omega
theorem gd_st_len (Q : Nat → Nat) (x y z : Nat → Int32) : ∀ k, k ≤ (gd_st Q x y z k).length := by
  intro k
  induction k with
  | zero => exact Nat.zero_le _
  | succ k ih =>
    show k + 1 ≤ (gd_lf Q (gd_e x k) (gd_e y k) (gd_e z k) ++ gd_st Q x y z k).length
    rw [List.length_append]
    have q : 1 ≤ (gd_lf Q (gd_e x k) (gd_e y k) (gd_e z k)).length := gd_lv_pos Q 7 _ _ _
    omega
def gd_I (Q : Nat → Nat) (i : Nat) (f0 f1 f2 : Int32) (x y z : Nat → Int32) : Prop := ∃ k D, f0 = nI k ∧ f1 = nI (gd_la D) ∧ f2 = nI (gd_fc D) ∧ gd_ok x y z k ∧ D ++ gd_st Q x y z k = gd_lf Q 0 127 0 ∧ i + 2 * (gd_st Q x y z k).length ≤ 255 + k
section
variable {f0 f1 f2 : Int32} {a1 a2 a3 a4 a5 a6 a7 : Nat → Int32} {Q : Nat → Nat}
theorem gd_push {post : St1 → Prop} {k h c b : Nat} {p0 p1 p2 : Int32} (hk : k < 64) (hf : f0 = nI k) (e0 : p0 = nI h) (e1 : p1 = nI c) (e2 : p2 = nI b) (hh : h < 128) (hc : c < 128) (hb : b < 128) (H : post (nI (k + 1), f1, f2, a1, a2, upd a3 k (nI h), upd a4 k (nI c), upd a5 k (nI b), a6, a7)) : wpX_pushBranch post (f0, f1, f2, a1, a2, a3, a4, a5, a6, a7) p0 p1 p2 := by
  rw [hf, e0, e1, e2]
  unfold wpX_pushBranch
  exact ⟨pk_in k 64 hk, nm_r (e' := upd a3 k (nI h)) (by rw [nI_clamp (by omega), gd_tb h hh]) ⟨pk_in k 64 hk, nm_r (e' := upd a4 k (nI c)) (by rw [nI_clamp (by omega), gd_tb c hc]) ⟨pk_in k 64 hk, nm_r (e' := upd a5 k (nI b)) (by rw [nI_clamp (by omega), gd_tb b hb]) (nm_r (nI_1 k) H)⟩⟩⟩
theorem gd_ex109 {post : St1 → Prop} {J : Int32 → Int32 → Int32 → Int32 → (Nat → Int32) → (Nat → Int32) → (Nat → Int32) → (Nat → Int32) → (Nat → Int32) → (Nat → Int32) → (Nat → Int32) → Prop} {x1 z : Int32} {b m : Nat} (hb : b < 128) (H : J (x1 + 1) f0 z (nI (m + if b = 0 then 1 else 0)) a1 a2 a3 a4 a5 a6 a7) : wX_explore_109 post J x1 (nI b) z f0 f1 (nI m) a1 a2 a3 a4 a5 a6 a7 := by
  unfold wX_explore_109
  refine ek_if (gd_z hb) (fun e => ?_) (fun e => ?_)
  · rw [if_pos e] at H
    exact nm_r (nI_1 m) (nm_e H)
  · rw [if_neg e] at H
    exact nm_r (nI_add m 0) (nm_e H)
theorem gd_ex25 {post : St1 → Prop} (g : gd_G Q) (hA : gd_A a2 Q) (I0 : gd_I Q 0 f0 f1 f2 a3 a4 a5) (H : ∀ h0 x y z, post (h0, nI (gd_la (gd_lf Q 0 127 0)), nI (gd_fc (gd_lf Q 0 127 0)), a1, a2, x, y, z, a6, a7)) : ∃ n, wX_explore_25 post n 0 f0 f1 f2 a1 a2 a3 a4 a5 a6 a7 := by
  refine pk_loop (σ := Int32 × Int32 × Int32 × (Nat → Int32) × (Nat → Int32) × (Nat → Int32)) (fun n i s => wX_explore_25 post n (nI i) s.1 s.2.1 s.2.2.1 a1 a2 s.2.2.2.1 s.2.2.2.2.1 s.2.2.2.2.2 a6 a7) (fun i s => gd_I Q i s.1 s.2.1 s.2.2.1 s.2.2.2.1 s.2.2.2.2.1 s.2.2.2.2.2) 256 0 (f0, f1, f2, a3, a4, a5) (by omega) I0 ?_ ?_
  · rintro n ⟨u0, u1, u2, x, y, z⟩ I
    exfalso
    obtain ⟨k, D, _, _, _, _, _, l⟩ := I
    dsimp only at l
    have := gd_st_len Q x y z k
    omega
  · rintro n i ⟨u0, u1, u2, x, y, z⟩ hi I hw
    obtain ⟨k, D, e0, e1, e2, ok, eD, l⟩ := I
    dsimp only at e0 e1 e2 ok eD l ⊢
    subst e0 e1 e2
    cases k with
    | zero =>
      have eD' : D = gd_lf Q 0 127 0 := (List.append_nil D).symm.trans eD
      refine pk_le 256 i (fun z => absurd z (by omega)) (fun _ => pk_le 0 0 (fun _ => ?_) (fun z => absurd z (by omega)))
      rw [eD']
      exact H _ _ _ _
    | succ k =>
      obtain ⟨h, c, b, hh, hc, hb, x1, x2, x3, lc⟩ := ok k (by omega)
      have ok' : gd_ok x y z k := fun j hj => ok j (by omega)
      have k8 : k < 8 := by omega
      have rd : ∀ (a : Nat → Int32) (m : Nat), a k = nI m → a (nI k).toNatClampNeg = nI m := fun a m e => by rw [nI_clamp (by omega)]; exact e
      rw [gd_st_top hh hc hb x1 x2 x3] at eD l
      refine pk_le 256 i (fun z => absurd z (by omega)) (fun _ => pk_le (k + 1) 0 (fun z => absurd z (by omega)) (fun _ => nm_r (nI_pred k) ⟨pk_in k 64 (by omega), nm_r (rd x h x1) ⟨pk_in k 64 (by omega), nm_r (rd y c x2) ⟨pk_in k 64 (by omega), nm_r (rd z b x3) (ek_if (gd_z hc) (fun c0 => ?_) (fun c0 => ?_))⟩⟩⟩))
      · rw [c0, gd_lf_z] at eD l
        have nx : ∀ m, m = max (gd_la D) (gd_on h) → gd_I Q (i + 1) (nI k) (nI m) (nI (gd_fc D + if b = 0 then 1 else 0)) x y z := by
          intro m hm
          refine ⟨k, D ++ [(h, b)], rfl, ?_, ?_, ok', ?_, ?_⟩
          · rw [gd_la_app, hm]
            exact congrArg nI (congrArg (max (gd_la D)) (Nat.max_zero (gd_on h)).symm)
          · rw [gd_fc_app]
            rfl
          · rw [List.append_assoc]
            exact eD
          · rw [List.length_append, List.length_singleton] at l
            omega
        have la7 := gd_la_le D
        have on7 := gd_on_le h
        refine gd_ones rfl hh (pk_le (gd_on h) (gd_la D) (fun q => gd_ex109 hb ?_) (fun q => gd_ex109 hb ?_))
        · rw [nI_1]
          exact hw (nI k, nI (gd_la D), _, x, y, z) (nx _ (by omega))
        · rw [nI_1]
          exact hw (nI k, nI (gd_on h), _, x, y, z) (nx _ (by omega))
      · have v7 := gd_fi_7 hc c0
        have vc := gd_fi_in hc c0
        have o1 := gd_on_d hc vc
        have o2 := gd_on_w g hc c0
        have h1 := gd_lt_or hh (gd_lt_p v7)
        have c1 := gd_lt_and (b := Q (gd_fi c)) hc
        have b1 := gd_lt_and (b := Q (gd_fi c)) hb
        have c2 := gd_lt_d (b := 2 ^ gd_fi c) hc
        have b2 := gd_lt_or hb (gd_lt_p v7)
        refine gd_first rfl hc ?_
        refine gd_push (k := k) (h := h) (c := gd_d c (2 ^ gd_fi c)) (b := b ||| 2 ^ gd_fi c) (by omega) rfl rfl (by rw [gd_shl _ v7, gd_andn]) (by rw [gd_shl _ v7, gd_nor]) hh c2 b2 ?_
        refine ⟨pk_in _ 7 v7, pk_in _ 7 v7, ?_⟩
        refine gd_push (k := k + 1) (h := h ||| 2 ^ gd_fi c) (c := c &&& Q (gd_fi c)) (b := b &&& Q (gd_fi c)) (by omega) rfl (by rw [gd_shl _ v7, gd_nor]) (by rw [gd_ra hA v7, gd_nand]) (by rw [gd_ra hA v7, gd_nand]) h1 c1 b1 ?_
        refine nm_r (nI_1 i) (hw (nI (k + 1 + 1), nI (gd_la D), nI (gd_fc D), upd (upd x k (nI h)) (k + 1) (nI (h ||| 2 ^ gd_fi c)), upd (upd y k (nI (gd_d c (2 ^ gd_fi c)))) (k + 1) (nI (c &&& Q (gd_fi c))), upd (upd z k (nI (b ||| 2 ^ gd_fi c))) (k + 1) (nI (b &&& Q (gd_fi c)))) ⟨k + 1 + 1, D, rfl, rfl, rfl, gd_ok_push h1 c1 b1 (by omega) (gd_ok_push hh c2 b2 (by omega) ok'), ?_, ?_⟩)
        · dsimp only
          rw [gd_st_push h1 c1 b1, gd_st_push hh c2 b2, ← List.append_assoc (gd_lf Q _ _ _), ← gd_lf_s g h b hc c0]
          exact eD
        · dsimp only
          rw [gd_st_push h1 c1 b1, gd_st_push hh c2 b2, ← List.append_assoc (gd_lf Q _ _ _), ← gd_lf_s g h b hc c0]
          omega
theorem gd_explore {post : St1 → Prop} (g : gd_G Q) (hA : gd_A a2 Q) (H : ∀ h0 x y z, post (h0, nI (gd_la (gd_lf Q 0 127 0)), nI (gd_fc (gd_lf Q 0 127 0)), a1, a2, x, y, z, a6, a7)) : wpX_explore post (f0, f1, f2, a1, a2, a3, a4, a5, a6, a7) := by
  unfold wpX_explore
  refine gd_push (k := 0) (h := 0) (c := 127) (b := 0) (by omega) rfl rfl rfl rfl (by omega) (by omega) (by omega) ?_
  refine gd_ex25 g hA ⟨1, [], rfl, rfl, rfl, gd_ok_push (by omega) (by omega) (by omega) (by rw [gd_on_127]; exact Nat.le_refl 7) (fun j hj => absurd hj (by omega)), ?_, ?_⟩ H
  · rw [gd_st_push (by omega) (by omega) (by omega)]
    exact List.append_nil _
  · rw [gd_st_push (by omega) (by omega) (by omega)]
    have e : gd_st Q a3 a4 a5 0 = [] := rfl
    rw [e, List.append_nil]
    have q : (gd_lf Q 0 127 0).length ≤ 128 := gd_lv_len Q 7 0 127 0
    omega
end
section
variable {f0 f1 f2 : Int32} {a1 a2 a3 a4 a5 a6 a7 : Nat → Int32} {M : Nat → Nat}
theorem gd_look {post : St1 → Prop} (g : gd_G M) (hA : gd_A a1 M) (H : ∀ b, gd_A b M → post (f0, f1, f2, a1, b, a3, a4, a5, a6, a7)) : wpX_lookPlainly post (f0, f1, f2, a1, a2, a3, a4, a5, a6, a7) := by
  refine pk_loop (σ := Nat → Int32) (fun n i b => wX_lookPlainly_2 post f0 f1 f2 n (nI i) a1 b a3 a4 a5 a6 a7) (fun i b => ∀ v, v < i → b v = nI (M v)) 7 0 a2 (by omega) (fun v hv => absurd hv (by omega)) ?_ ?_
  · exact fun n b I => pk_le 7 7 (fun _ => H b I) (fun z => absurd z (by omega))
  · intro n i b hi I hw
    refine pk_le 7 i (fun z => absurd z (by omega)) (fun _ => ⟨pk_in i 7 hi, pk_in i 7 hi, nm_r (e' := upd b i (nI (M i))) ?_ (nm_r (nI_1 i) (hw _ (fun v hv => ?_)))⟩)
    · rw [gd_ra hA hi, vp_nar_byte, gd_tb _ (g.1 i hi), nI_clamp (by omega)]
    · by_cases c : v = i
      · rw [c, pk_us]
      · rw [pk_un c]
        exact I v (by omega)
theorem gd_largestClique {post : Int32 → St1 → Prop} (g : gd_G M) (hA : gd_A a1 M) (H : ∀ h0 h1 h2 b x y z, post (nI (gd_la (gd_lf M 0 127 0))) (h0, h1, h2, a1, b, x, y, z, a6, a7)) : wpX_largestClique post (f0, f1, f2, a1, a2, a3, a4, a5, a6, a7) := by
  unfold wpX_largestClique
  exact gd_look g hA (fun b hb => gd_explore g hb (fun h0 x y z => H _ _ _ _ _ _ _))
theorem gd_fullCliques {post : Int32 → St1 → Prop} (g : gd_G M) (hA : gd_A a1 M) (H : ∀ h0 h1 h2 b x y z, post (nI (gd_fc (gd_lf M 0 127 0))) (h0, h1, h2, a1, b, x, y, z, a6, a7)) : wpX_fullCliques post (f0, f1, f2, a1, a2, a3, a4, a5, a6, a7) := by
  unfold wpX_fullCliques
  exact gd_look g hA (fun b hb => gd_explore g hb (fun h0 x y z => H _ _ _ _ _ _ _))
def gd_ac (M : Nat → Nat) (v : Nat) : Nat := gd_d (gd_d 127 (M v)) (2 ^ v)
theorem gd_ac_i {v w : Nat} (hw : w < 7) : gd_i (gd_ac M v) w ↔ ¬ gd_i (M v) w ∧ w ≠ v := by
  unfold gd_ac
  rw [gd_i_d, gd_i_d, gd_i_p]
  exact ⟨fun z => ⟨z.1.2, z.2⟩, fun z => ⟨⟨gd_i_127 hw, z.1⟩, z.2⟩⟩
theorem gd_ac_G (g : gd_G M) : gd_G (gd_ac M) := by
  refine ⟨fun v _ => gd_lt_d (gd_lt_d (by decide)), fun v w hv hw z => ?_, fun v hv z => ((gd_ac_i hv).mp z).2 rfl⟩
  rw [gd_ac_i hw] at z
  rw [gd_ac_i hv]
  exact ⟨fun q => z.1 (g.2.1 w v hw hv q), Ne.symm z.2⟩
theorem gd_ac_cl {I : Nat} (hI : I < 128) (h : gd_ap M I) : gd_cl (gd_ac M) I := fun v w hv hw ne => (gd_ac_i (gd_lt7 hI hw)).mpr ⟨h v w hv hw, Ne.symm ne⟩
theorem gd_largestApart {post : Int32 → St1 → Prop} (g : gd_G M) (hA : gd_A a1 M) (H : ∀ h0 h1 h2 b x y z, post (nI (gd_la (gd_lf (gd_ac M) 0 127 0))) (h0, h1, h2, a1, b, x, y, z, a6, a7)) : wpX_largestApart post (f0, f1, f2, a1, a2, a3, a4, a5, a6, a7) := by
  have g' := gd_ac_G g
  refine pk_loop (σ := Nat → Int32) (fun n i b => wX_largestApart_2 post f0 f1 f2 n (nI i) a1 b a3 a4 a5 a6 a7) (fun i b => ∀ v, v < i → b v = nI (gd_ac M v)) 7 0 a2 (by omega) (fun v hv => absurd hv (by omega)) ?_ ?_
  · exact fun n b I => pk_le 7 7 (fun _ => gd_explore g' I (fun h0 x y z => H _ _ _ _ _ _ _)) (fun z => absurd z (by omega))
  · intro n i b hi I hw
    refine pk_le 7 i (fun z => absurd z (by omega)) (fun _ => ⟨pk_in i 7 hi, pk_in i 7 hi, nm_r (e' := upd b i (nI (gd_ac M i))) ?_ (nm_r (nI_1 i) (hw _ (fun v hv => ?_)))⟩)
    · have e : (127 : Int32) &&& (nI (M i) ^^^ (-1)) = nI (gd_d 127 (M i)) := gd_andn 127 (M i)
      rw [gd_ra hA hi, gd_shl i hi, e, gd_andn, gd_tb _ (gd_lt_d (gd_lt_d (by decide))), nI_clamp (by omega)]
      rfl
    · by_cases c : v = i
      · rw [c, pk_us]
      · rw [pk_un c]
        exact I v (by omega)
end
end
section
/-! colours -/
def gd_pc (M : Nat → Nat) (v k : Nat) (col : Nat → Nat) : Prop := (∀ w, w < v → col w < k) ∧ ∀ x y, x < v → y < v → gd_i (M x) y → col x ≠ col y
section
variable {f0 f1 f2 : Int32} {a1 a2 a3 a4 a5 a6 a7 : Nat → Int32} {M : Nat → Nat}
theorem gd_fits {post : Int32 → Prop} {v : Nat} {c : Int32} (g : gd_G M) (hA : gd_A a1 M) (hv : v < 7) (h1 : (∀ w, w < v → gd_i (M v) w → ¬ a6 w = c) → post 1) (h0 : post 0) : wpX_fits post (f0, f1, f2, a1, a2, a3, a4, a5, a6, a7) (nI v) c := by
  refine pk_loop (σ := Unit) (fun n i _ => wX_fits_2 post (nI v) c f0 f1 f2 a1 a2 a3 a4 a5 a6 a7 n (nI i)) (fun i _ => ∀ w, w < i → gd_i (M v) w → ¬ a6 w = c) v 0 () (by omega) (fun w hw => absurd hw (by omega)) ?_ ?_
  · exact fun n _ I => pk_le v v (fun _ => h1 I) (fun z => absurd z (by omega))
  · intro n i _ hi I hw
    refine pk_le v i (fun z => absurd z (by omega)) (fun _ => ⟨pk_in v 7 hv, gd_in (M v) i (gd_ra hA hv) rfl (g.1 v hv) (by omega) (fun q => gd_in1 ⟨pk_in i 8 (by omega), ?_⟩) (fun q => gd_in0 (nm_r (nI_1 i) (hw () (fun w hw' e => ?_))))⟩)
    · rw [nI_clamp (by omega)]
      refine br_c (fun _ => h0) (fun ne => nm_r (nI_1 i) (hw () (fun w hw' e => ?_)))
      by_cases c : w = i
      · rw [c]
        exact ne
      · exact I w (by omega) e
    · have c : w ≠ i := fun c => q (c ▸ e)
      exact I w (by omega) e
theorem gd_nc52 {post : Int32 → Prop} {v k d f : Nat} (g : gd_G M) (hA : gd_A a1 M) (hv : v < 7) (hk : k ≤ 7) (hd : d ≤ k) (hf : f ≤ 7) (h0 : post (-1)) (h1 : ∀ c, c < k → (∀ w, w < v → gd_i (M v) w → ¬ a6 w = nI c) → post (nI c)) : ∃ n, wX_nextColour_52 post (nI v) (nI k) (nI f) f0 f1 f2 a1 a2 a3 a4 a5 a6 a7 n (nI d) := by
  refine pk_loop (σ := Unit) (fun n i _ => wX_nextColour_52 post (nI v) (nI k) (nI f) f0 f1 f2 a1 a2 a3 a4 a5 a6 a7 n (nI i)) (fun _ _ => True) k d () hd trivial ?_ ?_
  · exact fun n _ _ => pk_le k k (fun _ => h0) (fun z => absurd z (by omega))
  · intro n i _ hi _ hw
    exact pk_le k i (fun z => absurd z (by omega)) (fun _ => pk_lt f i (fun _ => h0) (fun _ => gd_fits g hA hv (fun q => gd_in1 (h1 i hi q)) (gd_in0 (nm_r (nI_1 i) (hw () trivial)))))
theorem gd_nextColour {post : Int32 → Prop} {v k d : Nat} {col : Nat → Nat} (g : gd_G M) (hA : gd_A a1 M) (hv : v < 7) (hk : k ≤ 7) (hd : d ≤ k) (hc : ∀ w, w < v → a6 w = nI (col w) ∧ col w < k) (e : a6 v + 1 = nI d) (h0 : post (-1)) (h1 : ∀ c, c < k → (∀ w, w < v → gd_i (M v) w → ¬ a6 w = nI c) → post (nI c)) : wpX_nextColour post (f0, f1, f2, a1, a2, a3, a4, a5, a6, a7) (nI v) (nI k) := by
  refine pk_loop (σ := Nat) (fun n i f => wX_nextColour_5 post (nI v) (nI k) f0 f1 f2 a1 a2 a3 a4 a5 a6 a7 n (nI f) (nI i)) (fun _ f => f ≤ 7) v 0 0 (by omega) (by omega) ?_ ?_
  · intro n f hf
    refine pk_le v v (fun _ => ⟨pk_in v 8 (by omega), nm_r (e' := nI d) ?_ (gd_nc52 g hA hv hk hd hf h0 h1)⟩) (fun z => absurd z (by omega))
    rw [nI_clamp (by omega)]
    exact e
  · intro n i f hi hf hw
    refine pk_le v i (fun z => absurd z (by omega)) (fun _ => ⟨pk_in i 8 (by omega), br_c (fun _ => nm_r (nI_1 i) (hw f hf)) (fun _ => ⟨pk_in i 8 (by omega), nm_r (e' := nI (col i + 1)) ?_ (nm_r (nI_1 i) (hw _ ?_))⟩)⟩)
    · rw [nI_clamp (by omega), (hc i hi).1, nI_1]
    · have := (hc i hi).2
      omega
theorem gd_canColour {post : Int32 → St1 → Prop} {k : Nat} (g : gd_G M) (hA : gd_A a1 M) (hk : k ≤ 7) (h0 : ∀ b, post 0 (f0, f1, f2, a1, a2, a3, a4, a5, b, a7)) (h1 : ∀ b col, gd_pc M 7 k col → post 1 (f0, f1, f2, a1, a2, a3, a4, a5, b, a7)) : wpX_canColour post (f0, f1, f2, a1, a2, a3, a4, a5, a6, a7) (nI k) := by
  refine nm_e ?_
  refine pk_loop (σ := Int32 × (Nat → Int32)) (fun n i s => wX_canColour_11 post (nI k) f0 f1 f2 n s.1 (nI i) a1 a2 a3 a4 a5 s.2 a7) (fun _ s => s.1 = -1 ∨ ∃ v d col, v < 7 ∧ d ≤ k ∧ s.1 = nI v ∧ (∀ w, w < v → s.2 w = nI (col w)) ∧ gd_pc M v k col ∧ s.2 v + 1 = nI d) 8192 0 (0, upd a6 0 (-1)) (by omega) (Or.inr ⟨0, 0, fun _ => 0, by omega, by omega, rfl, fun w hw => absurd hw (by omega), ⟨fun w hw => absurd hw (by omega), fun x y hx => absurd hx (by omega)⟩, ?_⟩) ?_ ?_
  · dsimp only
    rw [pk_us]
    rfl
  · exact fun n s _ => pk_le 8192 8192 (fun _ => h0 _) (fun z => absurd z (by omega))
  · rintro n i ⟨x, b⟩ hi I hw
    dsimp only at I ⊢
    refine pk_le 8192 i (fun z => absurd z (by omega)) (fun _ => ?_)
    rcases I with e | ⟨v, d, col, hv, hd, e, hc, hp, ed⟩
    · exact br_t (by rw [e]; decide) (h0 b)
    · rw [e]
      refine br_f (nI_pos (by omega)) (gd_nextColour g hA hv hk hd (fun w hw' => ⟨hc w hw', hp.1 w hw'⟩) ed (br_f (by decide) ?_) (fun c hc7 nf => br_t (nI_pos' (by omega)) ⟨pk_in v 8 (by omega), nm_r (e' := upd b v (nI c)) ?_ (nm_r (nI_1 v) ?_)⟩))
      · cases v with
        | zero => exact nm_r (e' := -1) rfl (nm_r (nI_1 i) (hw (-1, b) (Or.inl rfl)))
        | succ v =>
          refine nm_r (pk_m1 v) (nm_r (nI_1 i) (hw (nI v, b) (Or.inr ⟨v, col v + 1, col, by omega, hp.1 v (by omega), rfl, fun w hw' => hc w (by omega), ⟨fun w hw' => hp.1 w (by omega), fun x y hx hy => hp.2 x y (by omega) (by omega)⟩, ?_⟩)))
          dsimp only
          rw [hc v (by omega), nI_1]
      · rw [nI_clamp (by omega), gd_tb c (by omega)]
      · have pc : gd_pc M (v + 1) k (fun w => if w = v then c else col w) := by
          have fr : ∀ w, w < v → gd_i (M v) w → col w ≠ c := fun w hw' ew ec => nf w hw' ew (by rw [hc w hw', ec])
          refine ⟨fun w hw' => ?_, fun x y hx hy exy => ?_⟩
          · dsimp only
            split
            · exact hc7
            · exact hp.1 w (by omega)
          · dsimp only
            by_cases cx : x = v
            · by_cases cy : y = v
              · rw [cx, cy] at exy
                exact absurd exy (g.2.2 v hv)
              · rw [if_pos cx, if_neg cy]
                rw [cx] at exy
                exact Ne.symm (fr y (by omega) exy)
            · by_cases cy : y = v
              · rw [if_neg cx, if_pos cy]
                rw [cy] at exy
                exact fr x (by omega) (g.2.1 x v (by omega) hv exy)
              · rw [if_neg cx, if_neg cy]
                exact hp.2 x y (by omega) (by omega) exy
        refine pk_eq (v + 1) 7 (fun q => ?_) (fun q => ⟨pk_in (v + 1) 8 (by omega), nm_r (e' := upd (upd b v (nI c)) (v + 1) (-1)) (by rw [nI_clamp (by omega)]) (nm_r (nI_1 i) (hw (nI (v + 1), upd (upd b v (nI c)) (v + 1) (-1)) (Or.inr ⟨v + 1, 0, _, by omega, by omega, rfl, fun w hw' => ?_, pc, ?_⟩)))⟩)
        · rw [q] at pc
          exact h1 _ _ pc
        · dsimp only
          rw [pk_un (by omega)]
          by_cases cw : w = v
          · rw [cw, pk_us, if_pos rfl]
          · rw [pk_un cw, if_neg cw]
            exact hc w (by omega)
        · dsimp only
          rw [pk_us]
          rfl
theorem gd_colours {post : Int32 → St1 → Prop} (g : gd_G M) (hA : gd_A a1 M) (H : ∀ k, gd_la (gd_lf M 0 127 0) ≤ k → k ≤ 7 → (gd_hs M → k = gd_la (gd_lf M 0 127 0)) → (¬ gd_hs M → k = 7 ∨ ∃ col, gd_pc M 7 k col) → ∀ h0 h1 h2 b x y z t, post (nI k) (h0, h1, h2, a1, b, x, y, z, t, a7)) : wpX_colours post (f0, f1, f2, a1, a2, a3, a4, a5, a6, a7) := by
  have l7 := gd_la_le (gd_lf M 0 127 0)
  unfold wpX_colours
  refine gd_largestClique g hA (fun h0 h1 h2 b x y z => gd_neat g hA (fun hs => gd_in1 (H _ (Nat.le_refl _) l7 (fun _ => rfl) (fun q => absurd hs q) _ _ _ _ _ _ _ _)) (fun nh => gd_in0 ?_))
  refine pk_loop (σ := Nat → Int32) (fun n i t => wX_colours_14 post n (nI i) h0 h1 h2 a1 b x y z t a7) (fun i _ => gd_la (gd_lf M 0 127 0) ≤ i) 7 (gd_la (gd_lf M 0 127 0)) a6 l7 (Nat.le_refl _) ?_ ?_
  · exact fun n t I => pk_le 7 7 (fun _ => H 7 I (by omega) (fun q => absurd q nh) (fun _ => Or.inl rfl) _ _ _ _ _ _ _ _) (fun z => absurd z (by omega))
  · exact fun n i t hi I hw => pk_le 7 i (fun z => absurd z (by omega)) (fun _ => gd_canColour g hA (by omega) (fun t' => gd_in0 (nm_r (nI_1 i) (hw t' (by omega)))) (fun t' col pc => gd_in1 (H i I (by omega) (fun q => absurd q nh) (fun _ => Or.inr ⟨col, pc⟩) _ _ _ _ _ _ _ _)))
/-- the law's bound: independent vertices times colours -/
theorem gd_ak (g : gd_G M) {k : Nat} (h1 : gd_hs M → k = gd_la (gd_lf M 0 127 0)) (h2 : ¬ gd_hs M → k = 7 ∨ ∃ col, gd_pc M 7 k col) : 7 ≤ gd_la (gd_lf (gd_ac M) 0 127 0) * k := by
  have g' := gd_ac_G g
  have ha : ∀ I, I < 128 → gd_ap M I → gd_on I ≤ gd_la (gd_lf (gd_ac M) 0 127 0) := fun I hI h => gd_la_all g' hI (gd_ac_cl hI h)
  by_cases hs : gd_hs M
  · obtain ⟨I, hI, _, ap, le⟩ := gd_ap_cover g hs (om := gd_la (gd_lf M 0 127 0)) (fun K hK cl => gd_la_all g hK cl) 127 (by decide)
    rw [gd_on_127] at le
    rw [h1 hs]
    exact Nat.le_trans le (Nat.mul_le_mul_right _ (ha I hI ap))
  · rcases h2 hs with e | ⟨col, pc⟩
    · rw [e]
      have := gd_la_1 g'
      omega
    · exact gd_col_cover g ha col pc.1 (fun v w hv hw => pc.2 v w hv hw)
end
end
section
/-! the pairs -/
def gd_js (M : Nat → Nat) : Nat → Nat
  | 0 => 0
  | n + 1 => gd_js M n + gd_on (M n)
theorem gd_js_le (M : Nat → Nat) : ∀ n, gd_js M n ≤ 7 * n := by
  intro n
  induction n with
  | zero => exact Nat.le_refl 0
  | succ n ih =>
    have := gd_on_le (M n)
    show gd_js M n + gd_on (M n) ≤ 7 * (n + 1)
    omega
theorem gd_even (b : Nat → Nat → Nat) (hs : ∀ v w, v < 7 → w < 7 → b v w = b w v) (hd : ∀ v, v < 7 → b v v = 0) : ∃ k, (0 + (0 + b 0 0 + b 0 1 + b 0 2 + b 0 3 + b 0 4 + b 0 5 + b 0 6) + (0 + b 1 0 + b 1 1 + b 1 2 + b 1 3 + b 1 4 + b 1 5 + b 1 6) + (0 + b 2 0 + b 2 1 + b 2 2 + b 2 3 + b 2 4 + b 2 5 + b 2 6) + (0 + b 3 0 + b 3 1 + b 3 2 + b 3 3 + b 3 4 + b 3 5 + b 3 6) + (0 + b 4 0 + b 4 1 + b 4 2 + b 4 3 + b 4 4 + b 4 5 + b 4 6) + (0 + b 5 0 + b 5 1 + b 5 2 + b 5 3 + b 5 4 + b 5 5 + b 5 6) + (0 + b 6 0 + b 6 1 + b 6 2 + b 6 3 + b 6 4 + b 6 5 + b 6 6)) = 2 * k := by
  refine ⟨b 0 1 + b 0 2 + b 0 3 + b 0 4 + b 0 5 + b 0 6 + (b 1 2 + b 1 3 + b 1 4 + b 1 5 + b 1 6) + (b 2 3 + b 2 4 + b 2 5 + b 2 6) + (b 3 4 + b 3 5 + b 3 6) + (b 4 5 + b 4 6) + b 5 6, ?_⟩
  rw [hd 0 (by omega), hd 1 (by omega), hd 2 (by omega), hd 3 (by omega), hd 4 (by omega), hd 5 (by omega), hd 6 (by omega)]
  rw [hs 1 0 (by omega) (by omega), hs 2 0 (by omega) (by omega), hs 3 0 (by omega) (by omega), hs 4 0 (by omega) (by omega), hs 5 0 (by omega) (by omega), hs 6 0 (by omega) (by omega)]
  rw [hs 2 1 (by omega) (by omega), hs 3 1 (by omega) (by omega), hs 4 1 (by omega) (by omega), hs 5 1 (by omega) (by omega), hs 6 1 (by omega) (by omega)]
  rw [hs 3 2 (by omega) (by omega), hs 4 2 (by omega) (by omega), hs 5 2 (by omega) (by omega), hs 6 2 (by omega) (by omega)]
  rw [hs 4 3 (by omega) (by omega), hs 5 3 (by omega) (by omega), hs 6 3 (by omega) (by omega)]
  rw [hs 5 4 (by omega) (by omega), hs 6 4 (by omega) (by omega)]
  rw [hs 6 5 (by omega) (by omega)]
  omega
theorem gd_tb_sym {M : Nat → Nat} (g : gd_G M) {v w : Nat} (hv : v < 7) (hw : w < 7) : (M v).testBit w = (M w).testBit v := by
  rw [Bool.eq_iff_iff]
  exact ⟨g.2.1 v w hv hw, g.2.1 w v hw hv⟩
theorem gd_tb_ir {M : Nat → Nat} (g : gd_G M) {v : Nat} (hv : v < 7) : (M v).testBit v = false := Bool.eq_false_iff.mpr (g.2.2 v hv)
theorem gd_js_even {M : Nat → Nat} (g : gd_G M) : 2 * (gd_js M 7 / 2) = gd_js M 7 := by
  have h : ∃ k, gd_js M 7 = 2 * k := gd_even (fun v w => ((M v).testBit w).toNat) (fun v w hv hw => by rw [gd_tb_sym g hv hw]) (fun v hv => by rw [gd_tb_ir g hv]; rfl)
  obtain ⟨k, hk⟩ := h
  omega
section
variable {post : Int32 → Prop} {f0 f1 f2 : Int32} {a1 a2 a3 a4 a5 a6 a7 : Nat → Int32} {M : Nat → Nat}
theorem gd_isV {u : St2} {v : Nat} (hv : v < 7) (H : post 1) : wpX_isVertex post u (nI v) := br_f (nI_pos (by omega)) (pk_le 7 v (fun z => absurd z (by omega)) (fun _ => H))
theorem gd_neighbours {v : Nat} (hA : gd_A a1 M) (hv : v < 7) (H : post (nI (M v))) : wpX_neighbours post (f0, f1, f2, a1, a2, a3, a4, a5, a6, a7) (nI v) := by
  unfold wpX_neighbours
  refine gd_isV hv (gd_in1 ⟨pk_in v 7 hv, ?_⟩)
  rw [gd_ra hA hv]
  exact H
theorem gd_joins (g : gd_G M) (hA : gd_A a1 M) (H : post (nI (gd_js M 7 / 2))) : wpX_joins post (f0, f1, f2, a1, a2, a3, a4, a5, a6, a7) := by
  refine pk_loop (σ := Unit) (fun n i _ => wX_joins_4 post f0 f1 f2 a1 a2 a3 a4 a5 a6 a7 n (nI (gd_js M i)) (nI i)) (fun _ _ => True) 7 0 () (by omega) trivial ?_ ?_
  · intro n _ _
    refine pk_le 7 7 (fun _ => ⟨by decide, ?_⟩) (fun z => absurd z (by omega))
    have l := gd_js_le M 7
    have e : nI (gd_js M 7) / 2 = nI (gd_js M 7 / 2) := pk_div (d := 2) (by omega) (by omega) (by omega)
    rw [e]
    exact H
  · intro n i _ hi _ hw
    exact pk_le 7 i (fun z => absurd z (by omega)) (fun _ => ⟨pk_in i 7 hi, gd_ones (gd_ra hA hi) (g.1 i hi) (nm_r (nI_add _ _) (nm_r (nI_1 i) (hw () trivial)))⟩)
theorem gd_pa40 {J : Int32 → Int32 → Prop} {v e : Nat} (g : gd_G M) (hA : gd_A a1 M) (hv : v < 7) (H : J (nI (e + gd_on (M v))) (nI (v + 1))) : ∃ n, wL_paired_40 post J (nI v) (nI (M v)) f0 f1 f2 a1 a2 a3 a4 a5 a6 a7 n (nI e) 0 := by
  refine pk_loop (σ := Unit) (fun n i _ => wL_paired_40 post J (nI v) (nI (M v)) f0 f1 f2 a1 a2 a3 a4 a5 a6 a7 n (nI (e + gd_cn (M v) i)) (nI i)) (fun _ _ => True) 7 0 () (by omega) trivial ?_ ?_
  · exact fun n _ _ => pk_le 7 7 (fun _ => nm_r (nI_1 v) H) (fun z => absurd z (by omega))
  · intro n i _ hi _ hw
    refine pk_le 7 i (fun z => absurd z (by omega)) (fun _ => gd_neighbours hA hi ?_)
    rw [gd_shr _ (g.1 v hv) i hi, gd_shr _ (g.1 i hi) v hv, gd_tb_sym g hv hi]
    refine nm_r (e' := nI (e + gd_cn (M v) (i + 1))) ?_ (br_t rfl (nm_r (nI_1 i) (hw () trivial)))
    rw [nI_add, Nat.add_assoc, ← gd_tb_sym g hv hi]
    rfl
theorem gd_paired (g : gd_G M) (hA : gd_A a1 M) (H : post 1) : wpL_paired post (f0, f1, f2, a1, a2, a3, a4, a5, a6, a7) := by
  refine pk_loop (σ := Unit) (fun n i _ => wL_paired_4 post f0 f1 f2 a1 a2 a3 a4 a5 a6 a7 n (nI (gd_js M i)) (nI i)) (fun _ _ => True) 7 0 () (by omega) trivial ?_ ?_
  · intro n _ _
    refine pk_le 7 7 (fun _ => gd_joins g hA (br_t ?_ H)) (fun z => absurd z (by omega))
    have e : (2 : Int32) * nI (gd_js M 7 / 2) = nI (2 * (gd_js M 7 / 2)) := pk_mul 2 _
    rw [e, gd_js_even g]
  · intro n i _ hi _ hw
    have l := g.1 i hi
    refine pk_le 7 i (fun z => absurd z (by omega)) (fun _ => gd_neighbours hA hi (br_f (nI_pos (by omega)) (pk_lt 127 (M i) (fun z => absurd z (by omega)) (fun _ => br_f ?_ (gd_pa40 g hA hi (hw () trivial))))))
    rw [gd_shr _ l i hi, gd_tb_ir g hi]
    decide
end
end
section
section
variable {post : Int32 → St1 → Prop} {f0 f1 f2 : Int32} {a1 a2 a3 a4 a5 a6 a7 : Nat → Int32} {M : Nat → Nat}
theorem gd_m72 {al k : Nat} (h1 : 1 ≤ al) (h7 : al ≤ 7) (k7 : k ≤ 7) (hm : 7 ≤ al * k) (H : post 1 (f0, f1, f2, a1, a2, a3, a4, a5, a6, a7)) : wL_measured_72 post (nI k) (nI al) f0 f1 f2 a1 a2 a3 a4 a5 a6 a7 := by
  have q : al * k ≤ 7 * 7 := Nat.mul_le_mul h7 k7
  unfold wL_measured_72
  refine pk_lt al 1 (fun z => absurd z (by omega)) (fun _ => pk_lt 7 al (fun z => absurd z (by omega)) (fun _ => ?_))
  rw [pk_mul]
  generalize al * k = m at hm q
  exact pk_lt m 7 (fun z => absurd z (by omega)) (fun _ => H)
theorem gd_m55 {p : Int32} {al k fu : Nat} (h1 : 1 ≤ al) (h7 : al ≤ 7) (k7 : k ≤ 7) (hm : 7 ≤ al * k) (u1 : 1 ≤ fu) (u8 : fu ≤ 128) (up : ¬ p = 0 → fu ≤ 7) (H : post 1 (f0, f1, f2, a1, a2, a3, a4, a5, a6, a7)) : wL_measured_55 post p (nI k) (nI fu) (nI al) f0 f1 f2 a1 a2 a3 a4 a5 a6 a7 := by
  unfold wL_measured_55
  exact pk_lt fu 1 (fun z => absurd z (by omega)) (fun _ => br_c (fun _ => gd_m72 h1 h7 k7 hm H) (fun q => pk_lt 7 fu (fun z => absurd (up q) (by omega)) (fun _ => gd_m72 h1 h7 k7 hm H)))
theorem gd_measured {p : Int32} (g : gd_G M) (hA : gd_A a1 M) (hp : ¬ p = 0 → gd_hs M) (H : ∀ h0 h1 h2 b x y z t, post 1 (h0, h1, h2, a1, b, x, y, z, t, a7)) : wpL_measured post (f0, f1, f2, a1, a2, a3, a4, a5, a6, a7) p := by
  have l1 := gd_la_1 g
  have l7 := gd_la_le (gd_lf M 0 127 0)
  have c1 := gd_la_1 (gd_ac_G g)
  have c7 := gd_la_le (gd_lf (gd_ac M) 0 127 0)
  have u1 := gd_fc_1 M
  have u8 := gd_fc_lf M 0 127 0
  unfold wpL_measured
  refine gd_largestClique g hA (fun _ _ _ _ _ _ _ => gd_colours g hA (fun k k1 k7 kh kn _ _ _ _ _ _ _ _ => gd_fullCliques g hA (fun _ _ _ _ _ _ _ => gd_largestApart g hA (fun _ _ _ _ _ _ _ => ?_))))
  have ak := gd_ak g kh kn
  have fin : ∀ h0 h1 h2 b x y z t, wL_measured_55 post p (nI k) (nI (gd_fc (gd_lf M 0 127 0))) (nI (gd_la (gd_lf (gd_ac M) 0 127 0))) h0 h1 h2 a1 b x y z t a7 := fun h0 h1 h2 b x y z t => gd_m55 c1 c7 k7 ak u1 u8 (fun q => gd_fc_7 g (hp q)) (H h0 h1 h2 b x y z t)
  exact pk_lt (gd_la (gd_lf M 0 127 0)) 1 (fun z => absurd z (by omega)) (fun _ => pk_lt 7 (gd_la (gd_lf M 0 127 0)) (fun z => absurd z (by omega)) (fun _ => pk_lt k (gd_la (gd_lf M 0 127 0)) (fun z => absurd z (by omega)) (fun _ => pk_lt 7 k (fun z => absurd z (by omega)) (fun _ => br_c (fun _ => fin _ _ _ _ _ _ _ _) (fun q => br_t (congrArg nI (kh (hp q))) (fin _ _ _ _ _ _ _ _))))))
theorem gd_w143 {p z0 : Int32} (g : gd_G M) (hA : gd_A a1 M) (hp : ¬ p = 0 → gd_hs M) (H : ∀ h0 h1 h2 b x y z t, post 1 (h0, h1, h2, a1, b, x, y, z, t, a7)) : wL_whole_143 post p z0 z0 f0 f1 f2 a1 a2 a3 a4 a5 a6 a7 := by
  unfold wL_whole_143
  exact br_t rfl (gd_measured g hA hp (fun _ _ _ _ _ _ _ _ => gd_in1 (gd_paired g hA (gd_in1 (H _ _ _ _ _ _ _ _)))))
theorem gd_w32T {x4 : Int32} (g : gd_G M) (hA : gd_A a1 M) (hs : gd_hs M) (H : ∀ h0 h1 h2 b x y z t s, post 1 (h0, h1, h2, a1, b, x, y, z, t, s)) : wL_whole_32 post 1 (-1) 0 x4 1 1 f0 f1 f2 a1 a2 a3 a4 a5 a6 a7 := by
  unfold wL_whole_32
  refine br_t rfl (gd_core g hA (fun c hc e => ?_))
  rw [e.mpr hs]
  refine br_t rfl ?_
  unfold wL_whole_48
  refine br_t rfl (gd_orders g hA (fun o b lo ho => ?_))
  have o1 := ho.mpr hs
  refine pk_le o 0 (fun z => absurd z (by omega)) (fun _ => ?_)
  unfold wL_whole_64
  refine br_t rfl (br_t rfl ?_)
  unfold wL_whole_77
  refine br_t rfl (br_f (by decide) ?_)
  unfold wL_whole_97
  refine br_f (by decide) (gd_easy g hA (fun e he ne => br_f ?_ ?_))
  · rw [gd_z he]
    obtain ⟨v, v7, _, si⟩ := hs 127 (by decide) (by decide)
    exact ne ⟨v, v7, si⟩
  · unfold wL_whole_110
    refine br_f (by decide) (br_f (by decide) (br_f (by decide) ?_))
    unfold wL_whole_129
    refine br_f (by decide) ?_
    unfold wL_whole_142
    exact gd_w143 g hA (fun _ => hs) (fun _ _ _ _ _ _ _ _ => H _ _ _ _ _ _ _ _ _)
theorem gd_w32F {h fi m : Nat} (g : gd_G M) (hA : gd_A a1 M) (hs : ¬ gd_hs M) (h4 : 4 ≤ h) (h7 : h ≤ 7) (m9 : m ≤ 49) (hf : (fi = 1 ∧ 0 < m) ∨ ((fi = 2 ∨ fi = 3) ∧ m = 0)) (H : ∀ h0 h1 h2 b x y z t s, post 1 (h0, h1, h2, a1, b, x, y, z, t, s)) : wL_whole_32 post 0 (nI h) (nI fi) (nI m) 0 0 f0 f1 f2 a1 a2 a3 a4 a5 a6 a7 := by
  unfold wL_whole_32
  refine br_t rfl (gd_core g hA (fun c hc e => ?_))
  refine br_f (by rw [gd_z hc]; exact fun z => hs (e.mp z)) ?_
  unfold wL_whole_48
  refine br_t rfl (gd_orders g hA (fun o b lo ho => ?_))
  have o0 : ¬ 0 < o := fun z => hs (ho.mp z)
  refine pk_le o 0 (fun _ => ?_) (fun z => absurd z o0)
  unfold wL_whole_64
  refine br_t rfl (br_f (nI_ne0 (by omega) (by omega)) ?_)
  unfold wL_whole_77
  refine br_t rfl (br_t rfl (pk_lt h 4 (fun z => absurd z (by omega)) (fun _ => pk_lt 7 h (fun z => absurd z (by omega)) (fun _ => ?_))))
  unfold wL_whole_97
  refine br_t rfl ?_
  unfold wL_whole_110
  have fin : ∀ z0, wL_whole_143 post 0 z0 z0 f0 f1 f2 a1 a2 a3 a4 a5 a6 b := fun z0 => gd_w143 g hA (fun q => absurd rfl q) (fun _ _ _ _ _ _ _ _ => H _ _ _ _ _ _ _ _ _)
  refine br_f (nI_pos (by omega)) (pk_lt 3 fi (fun z => absurd z (by omega)) (fun _ => pk_eq fi 1 (fun e1 => ?_) (fun e1 => ?_)))
  · unfold wL_whole_129
    exact br_t rfl (pk_le m 0 (fun z => absurd z (by omega)) (fun _ => fin 1))
  · unfold wL_whole_129
    refine br_t rfl (pk_le m 0 (fun _ => ?_) (fun z => absurd z (by omega)))
    unfold wL_whole_142
    exact fin 0
theorem gd_whole (g : gd_G M) (hA : gd_A a1 M) (H : ∀ h0 h1 h2 b x y z t s, post 1 (h0, h1, h2, a1, b, x, y, z, t, s)) : wpL_whole post (f0, f1, f2, a1, a2, a3, a4, a5, a6, a7) := by
  have l := gd_nj_le M 7
  unfold wpL_whole
  refine gd_neat g hA (fun hs => gd_smallestHole g hA (fun _ => gd_fill g hA (fun _ => gd_neatJoins g hA (br_t rfl (gd_w32T g hA hs H))) (fun q => absurd hs q) (fun q => absurd hs q)) (fun q => absurd hs q)) (fun nh => gd_smallestHole g hA (fun q => absurd q nh) (fun _ h h4 h7 => ?_))
  have ne : ¬ nI h = -1 := fun e => absurd (show nI h < 0 by rw [e]; decide) (nI_pos (by omega))
  exact gd_fill g hA (fun q => absurd q nh) (fun _ p => gd_neatJoins g hA (br_f ne (gd_w32F (fi := 1) g hA nh h4 h7 l (Or.inl ⟨rfl, p⟩) H))) (fun _ e => ⟨gd_neatJoins g hA (br_f ne (gd_w32F (fi := 2) g hA nh h4 h7 l (Or.inr ⟨Or.inl rfl, e⟩) H)), gd_neatJoins g hA (br_f ne (gd_w32F (fi := 3) g hA nh h4 h7 l (Or.inr ⟨Or.inr rfl, e⟩) H))⟩)
theorem gd_join {a b : Nat} {p2 : Int32} (g : gd_G M) (hA : gd_A a1 M) (ha : a < 7) (hb : b < 7) (H : ∀ r x N, gd_G N → gd_A x N → post r (f0, f1, f2, x, a2, a3, a4, a5, a6, a7)) : wpX_join post (f0, f1, f2, a1, a2, a3, a4, a5, a6, a7) (nI a) (nI b) p2 := by
  unfold wpX_join
  refine gd_isV ha (gd_in1 (gd_isV hb (gd_in1 (pk_eq a b (fun _ => H _ _ _ g hA) (fun ne => ⟨pk_in a 7 ha, ?_⟩)))))
  exact gd_in (M a) b (gd_ra hA ha) rfl (g.1 a ha) hb (fun _ => br_c (fun _ => H _ _ _ g hA) (fun _ => gd_turn g hA ha hb ne (fun x hx _ => H _ _ _ (gd_tu_G g ha hb ne) hx))) (fun _ => br_c (fun _ => H _ _ _ g hA) (fun _ => gd_turn g hA ha hb ne (fun x hx _ => H _ _ _ (gd_tu_G g ha hb ne) hx)))
end
theorem gd_pick {post : Int32 → Prop} {L : Nat} {xs : Nat → Int32} {u : St2} {k n : Nat} {p q : Int32} (hL : L ≤ 260) (hk : k < 1000) (hp : p = nI k) (hq : q = nI n) (n0 : 0 < n) (n9 : n < 100) (H : ∀ j, j < n → post (nI j)) : wpL_pick post L xs u p q := by
  rw [hp, hq]
  have nz : ¬ nI n = 0 := nI_ne0 n0 (by omega)
  have R : ∀ x : Int32, post ((x &&& 2147483647) - (x &&& 2147483647) / nI n * nI n) := by
    intro x
    obtain ⟨j, hj, e⟩ := pk_andE x (m := 2147483647) 31 (by decide)
    rw [e, pk_rem hj n0 (by omega)]
    exact H _ (Nat.mod_lt _ n0)
  unfold wpL_pick
  exact pk_le L k (fun _ => ⟨nz, R 0⟩) (fun z => ⟨pk_in k L z, nm_e ⟨nz, R _⟩⟩)
theorem gd_law61 {post : Int32 → Prop} {L : Nat} {xs : Nat → Int32} {J : Int32 → Int32 → Int32 → Int32 → (Nat → Int32) → (Nat → Int32) → (Nat → Int32) → (Nat → Int32) → (Nat → Int32) → (Nat → Int32) → (Nat → Int32) → Prop} {x2 x3 z0 : Int32} {a b : Nat} {kc ks : Nat} {f0 f1 f2 : Int32} {a1 a2 a3 a4 a5 a6 a7 : Nat → Int32} {M : Nat → Nat} (g : gd_G M) (hA : gd_A a1 M) (ha : a < 7) (hb : b < 7) (H : ∀ h0 h1 h2 x b2 b3 b4 b5 b6 b7 N, gd_G N → gd_A x N → J (x2 + 3) h0 h1 h2 x b2 b3 b4 b5 b6 b7) : wL_law_61 post L xs J x2 x3 z0 (nI b) (nI a) kc ks f0 f1 f2 a1 a2 a3 a4 a5 a6 a7 := by
  unfold wL_law_61
  exact gd_join g hA ha hb (fun r x N gN hN => br_c (fun _ => gd_whole gN hN (fun _ _ _ _ _ _ _ _ _ => gd_in1 (nm_e (H _ _ _ _ _ _ _ _ _ _ _ gN hN)))) (fun _ => nm_e (H _ _ _ _ _ _ _ _ _ _ _ gN hN)))
theorem gd_law10 {L : Nat} {xs : Nat → Int32} {kc ks : Nat} {f0 f1 f2 : Int32} {a1 a2 a3 a4 a5 a6 a7 : Nat → Int32} {M : Nat → Nat} (hL : L ≤ 260) (g : gd_G M) (hA : gd_A a1 M) : ∃ n, wL_law_10 (fun r => r = 1) L xs kc ks n 0 f0 f1 f2 a1 a2 a3 a4 a5 a6 a7 := by
  refine pk_loop (σ := Int32 × Int32 × Int32 × (Nat → Int32) × (Nat → Int32) × (Nat → Int32) × (Nat → Int32) × (Nat → Int32) × (Nat → Int32) × (Nat → Int32)) (fun n i s => wL_law_10 (fun r => r = 1) L xs kc ks n (nI (3 * i)) s.1 s.2.1 s.2.2.1 s.2.2.2.1 s.2.2.2.2.1 s.2.2.2.2.2.1 s.2.2.2.2.2.2.1 s.2.2.2.2.2.2.2.1 s.2.2.2.2.2.2.2.2.1 s.2.2.2.2.2.2.2.2.2) (fun _ s => ∃ N, gd_G N ∧ gd_A s.2.2.2.1 N) ((L + 2) / 3) 0 (f0, f1, f2, a1, a2, a3, a4, a5, a6, a7) (by omega) ⟨M, g, hA⟩ ?_ ?_
  · rintro n ⟨h0, h1, h2, b1, b2, b3, b4, b5, b6, b7⟩ ⟨N, gN, hN⟩
    exact pk_le L (3 * ((L + 2) / 3)) (fun _ => gd_whole gN hN (fun _ _ _ _ _ _ _ _ _ => rfl)) (fun z => absurd z (by omega))
  · rintro n i ⟨h0, h1, h2, b1, b2, b3, b4, b5, b6, b7⟩ hi ⟨N, gN, hN⟩ hw
    refine pk_le L (3 * i) (fun z => absurd z (by omega)) (fun z => ?_)
    refine gd_pick (k := 3 * i) (n := 8) hL (by omega) rfl rfl (by omega) (by omega) (fun op hop => ?_)
    refine gd_pick (k := 3 * i + 1) (n := 7) hL (by omega) (nI_1 _) rfl (by omega) (by omega) (fun a ha => ?_)
    refine gd_pick (k := 3 * i + 2) (n := 7) hL (by omega) (nI_add _ 2) rfl (by omega) (by omega) (fun b hb => ?_)
    have e3 : nI (3 * i) + 3 = nI (3 * (i + 1)) := nI_add _ 3
    refine br_c (fun _ => gd_law61 gN hN ha hb (fun h0 h1 h2 x b2 b3 b4 b5 b6 b7 N' gN' hN' => ?_)) (fun _ => gd_law61 gN hN ha hb (fun h0 h1 h2 x b2 b3 b4 b5 b6 b7 N' gN' hN' => ?_))
    · rw [e3]
      exact hw (h0, h1, h2, x, b2, b3, b4, b5, b6, b7) ⟨N', gN', hN'⟩
    · rw [e3]
      exact hw (h0, h1, h2, x, b2, b3, b4, b5, b6, b7) ⟨N', gN', hN'⟩
theorem i_vc (xs : Nat → Int32) (L : Nat) (hL : L ≤ 260) : wpL_law (fun r => r = 1) L xs := by
  refine ⟨7, 342, by omega, by omega, ?_⟩
  unfold wpX_init
  refine ⟨by omega, by omega, by omega, by omega, by omega, by omega, by omega, by omega, by omega, by omega, by omega, by omega, by omega, by omega, ?_⟩
  exact gd_law10 (M := fun _ => 0) hL ⟨fun v _ => (show 0 < 128 by decide), fun v w _ _ z => absurd z gd_i_0, fun v _ => gd_i_0⟩ (fun v _ => rfl)
end
