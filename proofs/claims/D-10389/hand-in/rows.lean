section
/-! ===== counting: how many i < n have p ===== -/
noncomputable def rr_ct (p : Nat → Prop) : Nat → Nat
  | 0 => 0
  | n + 1 => rr_ct p n + @ite Nat (p n) (Classical.propDecidable (p n)) 1 0
theorem rr_ct_0 (p : Nat → Prop) : rr_ct p 0 = 0 := rfl
theorem rr_ct_t {p : Nat → Prop} {n : Nat} (h : p n) : rr_ct p (n + 1) = rr_ct p n + 1 := by
  show rr_ct p n + @ite Nat (p n) (Classical.propDecidable (p n)) 1 0 = _
  rw [if_pos h]
theorem rr_ct_f {p : Nat → Prop} {n : Nat} (h : ¬ p n) : rr_ct p (n + 1) = rr_ct p n := by
  show rr_ct p n + @ite Nat (p n) (Classical.propDecidable (p n)) 1 0 = _
  rw [if_neg h]; rfl
theorem rr_ct_le (p : Nat → Prop) : ∀ n, rr_ct p n ≤ n
  | 0 => Nat.le_refl 0
  | n + 1 => by
    have := rr_ct_le p n
    by_cases h : p n
    · rw [rr_ct_t h]; omega
    · rw [rr_ct_f h]; omega
theorem rr_ct_mono {p q : Nat → Prop} : ∀ n, (∀ i, i < n → p i → q i) → rr_ct p n ≤ rr_ct q n
  | 0, _ => Nat.le_refl 0
  | n + 1, h => by
    have ih := rr_ct_mono (p := p) (q := q) n (fun i hi => h i (by omega))
    by_cases hp : p n
    · rw [rr_ct_t hp, rr_ct_t (h n (by omega) hp)]; omega
    · rw [rr_ct_f hp]
      by_cases hq : q n
      · rw [rr_ct_t hq]; omega
      · rw [rr_ct_f hq]; omega
theorem rr_ct_congr {p q : Nat → Prop} (n : Nat) (h : ∀ i, i < n → (p i ↔ q i)) : rr_ct p n = rr_ct q n :=
  Nat.le_antisymm (rr_ct_mono n (fun i hi => (h i hi).mp)) (rr_ct_mono n (fun i hi => (h i hi).mpr))
theorem rr_ct_zero {p : Nat → Prop} : ∀ n, (∀ i, i < n → ¬ p i) → rr_ct p n = 0
  | 0, _ => rfl
  | n + 1, h => by
    rw [rr_ct_f (h n (by omega))]
    exact rr_ct_zero n (fun i hi => h i (by omega))
theorem rr_ct_lo {p q : Nat → Prop} {j n : Nat} (hn : n ≤ j) (hq : ∀ i, i < j → i ≠ j → (q i ↔ p i)) : rr_ct q n = rr_ct p n :=
  rr_ct_congr n (fun i hi => hq i (by omega) (by omega))
/-- one more -/
theorem rr_ct_add {p q : Nat → Prop} {j : Nat} (hp : ¬ p j) : ∀ n, j < n → (∀ i, i < n → (q i ↔ (p i ∨ i = j))) → rr_ct q n = rr_ct p n + 1
  | 0, hj, _ => absurd hj (by omega)
  | n + 1, hj, h => by
    by_cases e : j = n
    · subst e
      rw [rr_ct_t ((h j (by omega)).mpr (Or.inr rfl)), rr_ct_f hp]
      rw [rr_ct_congr j (fun i hi => (h i (by omega)).trans ⟨fun z => z.elim id (fun e => absurd e (by omega)), Or.inl⟩)]
    · have ih := rr_ct_add hp n (by omega) (fun i hi => h i (by omega))
      by_cases hpn : p n
      · rw [rr_ct_t hpn, rr_ct_t ((h n (by omega)).mpr (Or.inl hpn)), ih]
      · rw [rr_ct_f hpn, rr_ct_f (fun z => ((h n (by omega)).mp z).elim hpn (fun e' => e e'.symm)), ih]
theorem rr_ct_split (p q : Nat → Prop) : ∀ n, rr_ct p n = rr_ct (fun i => p i ∧ q i) n + rr_ct (fun i => p i ∧ ¬ q i) n
  | 0 => rfl
  | n + 1 => by
    have ih := rr_ct_split p q n
    by_cases hp : p n
    · by_cases hq : q n
      · rw [rr_ct_t hp, rr_ct_t (p := fun i => p i ∧ q i) ⟨hp, hq⟩, rr_ct_f (p := fun i => p i ∧ ¬ q i) (fun z => z.2 hq)]; omega
      · rw [rr_ct_t hp, rr_ct_f (p := fun i => p i ∧ q i) (fun z => hq z.2), rr_ct_t (p := fun i => p i ∧ ¬ q i) ⟨hp, hq⟩]; omega
    · rw [rr_ct_f hp, rr_ct_f (p := fun i => p i ∧ q i) (fun z => hp z.1), rr_ct_f (p := fun i => p i ∧ ¬ q i) (fun z => hp z.1)]; omega
theorem rr_ct_full {p : Nat → Prop} : ∀ n, n ≤ rr_ct p n → ∀ i, i < n → p i
  | 0, _, i, hi => absurd hi (by omega)
  | n + 1, h, i, hi => by
    by_cases hp : p n
    · rw [rr_ct_t hp] at h
      by_cases e : i = n
      · rw [e]; exact hp
      · exact rr_ct_full n (by omega) i (by omega)
    · rw [rr_ct_f hp] at h
      have := rr_ct_le p n
      omega
theorem rr_ct_lt {p : Nat → Prop} {j n : Nat} (hj : j < n) (hp : ¬ p j) : rr_ct p n < n := by
  rcases Nat.lt_or_ge (rr_ct p n) n with h | h
  · exact h
  · exact absurd (rr_ct_full n h j hj) hp
theorem rr_ct_pos {p : Nat → Prop} {j : Nat} (hp : p j) : ∀ n, j < n → 1 ≤ rr_ct p n
  | 0, h => absurd h (by omega)
  | n + 1, h => by
    by_cases e : j = n
    · subst e; rw [rr_ct_t hp]; omega
    · have := rr_ct_pos hp n (by omega)
      by_cases hn : p n
      · rw [rr_ct_t hn]; omega
      · rw [rr_ct_f hn]; omega
/-- an injection counts -/
theorem rr_ct_inj (f : Nat → Nat) (n : Nat) : ∀ (m : Nat) (p q : Nat → Prop), (∀ i, i < m → p i → f i < n ∧ q (f i)) → (∀ i j, i < m → j < m → p i → p j → f i = f j → i = j) → rr_ct p m ≤ rr_ct q n
  | 0, p, q, _, _ => Nat.zero_le _
  | m + 1, p, q, h1, h2 => by
    by_cases hp : p m
    · rw [rr_ct_t hp]
      obtain ⟨a, b⟩ := h1 m (by omega) hp
      have e : rr_ct q n = rr_ct (fun x => q x ∧ x ≠ f m) n + 1 :=
        rr_ct_add (j := f m) (fun z => z.2 rfl) n a (fun i _ => ⟨fun hq => by
          by_cases e : i = f m
          · exact Or.inr e
          · exact Or.inl ⟨hq, e⟩, fun z => z.elim (fun t => t.1) (fun t => by rw [t]; exact b)⟩)
      have ih := rr_ct_inj f n m p (fun x => q x ∧ x ≠ f m) (fun i hi hpi => ⟨(h1 i (by omega) hpi).1, (h1 i (by omega) hpi).2, fun e => by
        have := h2 i m (by omega) (by omega) hpi hp e
        omega⟩) (fun i j hi hj => h2 i j (by omega) (by omega))
      omega
    · rw [rr_ct_f hp]
      exact rr_ct_inj f n m p q (fun i hi => h1 i (by omega)) (fun i j hi hj => h2 i j (by omega) (by omega))
/-- a relation that picks, counts -/
theorem rr_ct_pick {p q : Nat → Prop} {m n : Nat} (h : Nat → Nat) (hx : ∀ i, i < m → p i → ∃ g, g < n ∧ q g ∧ h g = i) : rr_ct p m ≤ rr_ct q n := by
  have hf : ∀ i, ∃ g, i < m → p i → g < n ∧ q g ∧ h g = i := fun i => by
    by_cases c : i < m ∧ p i
    · obtain ⟨g, hg⟩ := hx i c.1 c.2
      exact ⟨g, fun _ _ => hg⟩
    · exact ⟨0, fun a b => absurd ⟨a, b⟩ c⟩
  refine rr_ct_inj (fun i => Classical.choose (hf i)) n m p q (fun i hi hp => ?_) (fun i j hi hj hpi hpj e => ?_)
  · have := Classical.choose_spec (hf i) hi hp
    exact ⟨this.1, this.2.1⟩
  · have a := (Classical.choose_spec (hf i) hi hpi).2.2
    have b := (Classical.choose_spec (hf j) hj hpj).2.2
    rw [e] at a
    exact a.symm.trans b
/-- a greatest one -/
theorem rr_argmax (A : Nat → Prop) (f : Nat → Int) : ∀ n, (∃ x, x < n ∧ A x) → ∃ m, m < n ∧ A m ∧ ∀ x, x < n → A x → f x ≤ f m
  | 0, h => by obtain ⟨x, hx, _⟩ := h; omega
  | n + 1, h => by
    by_cases c : ∃ x, x < n ∧ A x
    · obtain ⟨m, hm, hA, hmax⟩ := rr_argmax A f n c
      by_cases d : A n ∧ f m < f n
      · refine ⟨n, by omega, d.1, fun x hx hAx => ?_⟩
        by_cases e : x = n
        · rw [e]; exact Int.le_refl _
        · have := hmax x (by omega) hAx
          omega
      · refine ⟨m, by omega, hA, fun x hx hAx => ?_⟩
        by_cases e : x = n
        · subst e
          have : ¬ f m < f x := fun z => d ⟨hAx, z⟩
          omega
        · exact hmax x (by omega) hAx
    · obtain ⟨x, hx, hA⟩ := h
      have e : x = n := by
        rcases Nat.lt_or_ge x n with z | z
        · exact absurd ⟨x, z, hA⟩ c
        · omega
      subst e
      refine ⟨x, by omega, hA, fun y hy hAy => ?_⟩
      by_cases e : y = x
      · rw [e]; exact Int.le_refl _
      · exact absurd ⟨y, by omega, hAy⟩ c
/-- a bound for finitely many ints -/
theorem rr_bound (p : Nat → Int) : ∀ n : Nat, ∃ C : Int, ∀ g, g < n → p g ≤ C
  | 0 => ⟨0, fun g hg => absurd hg (by omega)⟩
  | n + 1 => by
    obtain ⟨C, hC⟩ := rr_bound p n
    by_cases h : p n ≤ C
    · refine ⟨C, fun g hg => ?_⟩
      by_cases e : g = n
      · rw [e]; exact h
      · exact hC g (by omega)
    · refine ⟨p n, fun g hg => ?_⟩
      by_cases e : g = n
      · rw [e]; exact Int.le_refl _
      · have := hC g (by omega)
        omega
/-- a predicate as a mask -/
theorem rr_mask (p : Nat → Prop) : ∀ n : Nat, ∃ m : Nat, m < 2 ^ n ∧ ∀ g, g < n → (m.testBit g = true ↔ p g)
  | 0 => ⟨0, by decide, fun g hg => absurd hg (by omega)⟩
  | n + 1 => by
    obtain ⟨m, hm, h⟩ := rr_mask p n
    have e2 : 2 ^ (n + 1) = 2 ^ n * 2 := Nat.pow_succ 2 n
    by_cases hp : p n
    · refine ⟨2 ^ n + m, by omega, fun g hg => ?_⟩
      by_cases e : g = n
      · subst e
        rw [Nat.testBit_two_pow_add_eq, Nat.testBit_lt_two_pow hm]
        exact ⟨fun _ => hp, fun _ => rfl⟩
      · rw [Nat.testBit_two_pow_add_gt (by omega)]
        exact h g (by omega)
    · refine ⟨m, by omega, fun g hg => ?_⟩
      by_cases e : g = n
      · subst e
        rw [Nat.testBit_lt_two_pow hm]
        exact ⟨fun z => absurd z (by decide), fun z => absurd z hp⟩
      · exact h g (by omega)
theorem rr_ne0 {m : Nat} (hm : m < 256) (h : m ≠ 0) : ∃ g, g < 8 ∧ m.testBit g = true := by
  obtain ⟨i, hi⟩ := Nat.exists_testBit_of_ne_zero h
  rcases Nat.lt_or_ge i 8 with z | z
  · exact ⟨i, z, hi⟩
  · have : m < 2 ^ i := Nat.lt_of_lt_of_le (show m < 2 ^ 8 from hm) (Nat.pow_le_pow_right (by decide) z)
    rw [Nat.testBit_lt_two_pow this] at hi
    exact absurd hi (by decide)
theorem rr_ne0' {m g : Nat} (h : m.testBit g = true) : m ≠ 0 := by
  intro e
  rw [e, Nat.zero_testBit] at h
  exact absurd h (by decide)
end
section
/-! ===== numbers: bits of small masks, -1 as 'none', ints as Int ===== -/
def rr_iv (n k : Nat) : Int32 := if k < n then nI k else -1
theorem rr_iv_lt {n k : Nat} (h : k < n) : rr_iv n k = nI k := if_pos h
theorem rr_iv_ge {n k : Nat} (h : ¬ k < n) : rr_iv n k = -1 := if_neg h
theorem rr_iv_neg {n k : Nat} (hn : n < 2 ^ 31) : rr_iv n k < 0 ↔ ¬ k < n := by
  by_cases h : k < n
  · rw [rr_iv_lt h]
    exact ⟨fun z => absurd z (nI_pos (by omega)), fun z => absurd h z⟩
  · rw [rr_iv_ge h]
    exact ⟨fun _ => h, fun _ => by decide⟩
theorem rr_iv_pos {n k : Nat} (hn : n < 2 ^ 31) : 0 ≤ rr_iv n k ↔ k < n := by
  by_cases h : k < n
  · rw [rr_iv_lt h]
    exact ⟨fun _ => h, fun _ => nI_pos' (by omega)⟩
  · rw [rr_iv_ge h]
    exact ⟨fun z => absurd z (by decide), fun z => absurd z h⟩
theorem rr_sm : ∀ g, g < 32 → ((nI g &&& 31).toBitVec.smod 32).toNat = g := by decide +kernel
theorem rr_and (a b : Nat) : nI a &&& nI b = nI (a &&& b) := by
  apply Int32.toBitVec_inj.1
  show BitVec.ofNat 32 a &&& BitVec.ofNat 32 b = BitVec.ofNat 32 (a &&& b)
  exact BitVec.ofNat_and.symm
theorem rr_or (a b : Nat) : nI a ||| nI b = nI (a ||| b) := by
  apply Int32.toBitVec_inj.1
  show BitVec.ofNat 32 a ||| BitVec.ofNat 32 b = BitVec.ofNat 32 (a ||| b)
  exact BitVec.ofNat_or.symm
theorem rr_bitv {m g : Nat} (hm : m < 2 ^ 31) (hg : g < 32) : (nI m >>> (nI g &&& 31)) &&& 1 = nI (m / 2 ^ g % 2) := by
  have h2 : m / 2 ^ g ≤ m := Nat.div_le_self _ _
  rw [pk_shrN hm _ g (rr_sm g hg), pk_andN (by omega) 1 (by decide)]
theorem rr_bit1 {m g : Nat} (hm : m < 2 ^ 31) (hg : g < 32) : (nI m >>> (nI g &&& 31)) &&& 1 = 1 ↔ m.testBit g = true := by
  rw [rr_bitv hm hg, Nat.testBit_eq_decide_div_mod_eq, decide_eq_true_iff]
  show nI _ = nI 1 ↔ _
  exact nI_eq (by omega) (by omega)
theorem rr_bit0 {m g : Nat} (hm : m < 2 ^ 31) (hg : g < 32) : (nI m >>> (nI g &&& 31)) &&& 1 = 0 ↔ ¬ m.testBit g = true := by
  rw [rr_bitv hm hg, Nat.testBit_eq_decide_div_mod_eq, decide_eq_true_iff]
  show nI _ = nI 0 ↔ _
  rw [nI_eq (by omega) (by omega)]
  omega
theorem rr_m255 {m : Nat} (hm : m < 256) : nI m &&& 255 = nI m := by
  rw [pk_andN (by omega) 8 (by decide)]
  rw [Nat.mod_eq_of_lt hm]
theorem rr_shl1 {g : Nat} (hg : g < 31) : (1 : Int32) <<< (nI g &&& 31) = nI (2 ^ g) := by
  have h : 2 ^ g < 2 ^ 31 := Nat.pow_lt_pow_right (by decide) hg
  have e := pk_shlN (n := 1) (nI g &&& 31) g (rr_sm g (by omega)) (by omega)
  rw [Nat.one_mul] at e
  exact e
theorem rr_or_lt {m g : Nat} (hm : m < 256) (hg : g < 8) : m ||| 2 ^ g < 256 :=
  Nat.or_lt_two_pow (n := 8) hm (Nat.pow_lt_pow_right (by decide) hg)
theorem rr_or_tb (m g x : Nat) : (m ||| 2 ^ g).testBit x = true ↔ (m.testBit x = true ∨ x = g) := by
  rw [Nat.testBit_or, Nat.testBit_two_pow, Bool.or_eq_true, decide_eq_true_iff]
  exact ⟨fun z => z.elim Or.inl (fun e => Or.inr e.symm), fun z => z.elim Or.inl (fun e => Or.inr e.symm)⟩
theorem rr_pow_lt {g : Nat} (hg : g < 8) : 2 ^ g < 256 := Nat.pow_lt_pow_right (a := 2) (m := g) (n := 8) (by decide) hg
theorem rr_pow_tb {g x : Nat} : (2 ^ g).testBit x = true ↔ g = x := by
  rw [Nat.testBit_two_pow, decide_eq_true_iff]
theorem rr_and_ne {a b g : Nat} (ha : a.testBit g = true) (hb : b.testBit g = true) : a &&& b ≠ 0 := by
  apply rr_ne0' (g := g)
  rw [Nat.testBit_and, ha, hb]
  rfl
theorem rr_and_lt {a b : Nat} (ha : a < 256) : a &&& b < 256 := Nat.lt_of_le_of_lt Nat.and_le_left ha
/-! ints -/
theorem rr_bm {x : Int} (h1 : -2000000000 ≤ x) (h2 : x ≤ 2000000000) : x.bmod (2 ^ 32) = x :=
  Int.bmod_eq_of_le_mul_two (by omega) (by omega)
theorem rr_add {x y : Int32} (hx : -800000000 ≤ x.toInt) (hx' : x.toInt ≤ 800000000) (hy : -800000000 ≤ y.toInt) (hy' : y.toInt ≤ 800000000) : (x + y).toInt = x.toInt + y.toInt := by
  rw [Int32.toInt_add, rr_bm (by omega) (by omega)]
theorem rr_sub {x y : Int32} (hx : -800000000 ≤ x.toInt) (hx' : x.toInt ≤ 800000000) (hy : -800000000 ≤ y.toInt) (hy' : y.toInt ≤ 800000000) : (x - y).toInt = x.toInt - y.toInt := by
  rw [Int32.toInt_sub, rr_bm (by omega) (by omega)]
theorem rr_none : (1000000 : Int32).toInt = 1000000 := by decide
theorem rr_eqN {x : Int32} : x = 1000000 ↔ x.toInt = 1000000 := by
  constructor
  · intro e; rw [e]; exact rr_none
  · intro e; exact Int32.toInt_inj.mp (e.trans rr_none.symm)
theorem rr_le {x y : Int32} : x ≤ y ↔ x.toInt ≤ y.toInt := Int32.le_iff_toInt_le
theorem rr_lt {x y : Int32} : x < y ↔ x.toInt < y.toInt := Int32.lt_iff_toInt_lt
theorem rr_nle {x y : Int32} : ¬ x ≤ y ↔ y < x := by rw [rr_le, rr_lt]; omega
theorem rr_nlt {x y : Int32} : ¬ x < y ↔ y ≤ x := by rw [rr_le, rr_lt]; omega
/-- updates -/
def rr_up (h : Nat → Nat) (g k : Nat) : Nat → Nat := fun x => if x = g then k else h x
def rr_ui (d : Nat → Int) (g : Nat) (v : Int) : Nat → Int := fun x => if x = g then v else d x
theorem rr_up_s (h : Nat → Nat) (g k : Nat) : rr_up h g k g = k := if_pos rfl
theorem rr_up_n {h : Nat → Nat} {g k x : Nat} (e : x ≠ g) : rr_up h g k x = h x := if_neg e
theorem rr_ui_s (d : Nat → Int) (g : Nat) (v : Int) : rr_ui d g v g = v := if_pos rfl
theorem rr_ui_n {d : Nat → Int} {g x : Nat} {v : Int} (e : x ≠ g) : rr_ui d g v x = d x := if_neg e
/-- an array's place written, against a picture -/
theorem rr_put {a : Nat → Int32} {f f' : Nat → Int32} {j N : Nat} {v : Int32} (h : ∀ x, x < N → a x = f x) (hv : v = f' j) (hf : ∀ x, x < N → x ≠ j → f' x = f x) : ∀ x, x < N → upd a j v x = f' x := by
  intro x hx
  by_cases e : x = j
  · rw [e, pk_us, hv]
  · rw [pk_un e, h x hx, hf x hx e]
theorem rr_putU {a : Nat → Int32} {c : Nat → Int32} {h : Nat → Nat} {j N k : Nat} {v : Int32} (H : ∀ x, x < N → a x = c (h x)) (hv : v = c k) : ∀ x, x < N → upd a j v x = c (rr_up h j k x) := by
  intro x hx
  by_cases e : x = j
  · rw [e, pk_us, rr_up_s, hv]
  · rw [pk_un e, rr_up_n e, H x hx]
end
section
/-! ===== matchings of keys with groups: h g is the key that holds g, 6 if none; M k is the bit set of k's groups ===== -/
def rr_val (M h : Nat → Nat) : Prop := (∀ g, g < 8 → h g < 6 → (M (h g)).testBit g = true) ∧ (∀ g g', g < 8 → g' < 8 → h g < 6 → h g = h g' → g = g')
/-- all of R is held, by keys whose groups lie in R -/
def rr_closed (M h : Nat → Nat) (R : Nat → Prop) : Prop := ∀ x, x < 8 → R x → h x < 6 ∧ ∀ y, y < 8 → (M (h x)).testBit y = true → R y
/-- a key with a group outside R -/
def rr_out (M : Nat → Nat) (R : Nat → Prop) (k : Nat) : Prop := ∃ g, g < 8 ∧ (M k).testBit g = true ∧ ¬ R g
def rr_aug (M h : Nat → Nat) (key : Nat) (h' : Nat → Nat) : Prop :=
  rr_val M h' ∧ (∀ k, k < 6 → ((∃ x, x < 8 ∧ h' x = k) ↔ (k = key ∨ ∃ x, x < 8 ∧ h x = k))) ∧
  (∃ fr, fr < 8 ∧ ¬ h fr < 6 ∧ ∀ x, x < 8 → (h' x < 6 ↔ (h x < 6 ∨ x = fr))) ∧ (∀ R, rr_closed M h R → rr_closed M h' R)
def rr_fail (M h : Nat → Nat) (key : Nat) : Prop := ∃ R, rr_closed M h R ∧ ∀ y, y < 8 → (M key).testBit y = true → R y
/-- a feasible potential -/
def rr_fe (M : Nat → Nat) (b : Nat → Nat → Int) (q : Nat → Int) (h : Nat → Nat) : Prop := ∀ x, x < 8 → h x < 6 → ∀ y, y < 8 → (M (h x)).testBit y = true → q x - b (h x) x ≤ q y - b (h x) y
/-! the hole g moves along the way back -/
def rr_P (M h0 : Nat → Nat) (fr : Nat) (D : Nat → Prop) (rk : Nat → Nat) (h : Nat → Nat) (g : Nat) : Prop :=
  g < 8 ∧ D g ∧ (∀ x, x < 8 → x ≠ g → h x < 6 → (M (h x)).testBit x = true) ∧ (∀ x y, x < 8 → y < 8 → x ≠ g → y ≠ g → h x < 6 → h x = h y → x = y) ∧
  (∀ k, k < 6 → ((∃ x, x < 8 ∧ x ≠ g ∧ h x = k) ↔ ∃ x, x < 8 ∧ h0 x = k)) ∧ (∀ x, x < 8 → x ≠ g → (h x < 6 ↔ (h0 x < 6 ∨ x = fr))) ∧ (h0 g < 6 ∨ g = fr) ∧
  (∀ R, rr_closed M h0 R → ¬ R g ∧ ∀ x, x < 8 → R x → h x < 6 ∧ ∀ y, y < 8 → (M (h x)).testBit y = true → R y) ∧ (∀ x, x < 8 → rk x < rk g → h x = h0 x)
def rr_F (M : Nat → Nat) (b : Nat → Nat → Int) (q : Nat → Int) (h : Nat → Nat) (g : Nat) : Prop := ∀ x, x < 8 → x ≠ g → h x < 6 → ∀ y, y < 8 → (M (h x)).testBit y = true → q x - b (h x) x ≤ q y - b (h x) y
theorem rr_P0 {M h0 : Nat → Nat} {fr : Nat} {D : Nat → Prop} {rk : Nat → Nat} (hv : rr_val M h0) (hf : fr < 8) (hn : ¬ h0 fr < 6) (hD : D fr) : rr_P M h0 fr D rk h0 fr := by
  refine ⟨hf, hD, fun x hx _ => hv.1 x hx, fun x y hx hy _ _ => hv.2 x y hx hy, fun k hk => ⟨fun ⟨x, hx, _, e⟩ => ⟨x, hx, e⟩, fun ⟨x, hx, e⟩ => ⟨x, hx, fun z => hn (by rw [← z, e]; exact hk), e⟩⟩, fun x hx hne => ⟨Or.inl, fun z => z.elim id (fun e => absurd e hne)⟩, Or.inr rfl, fun R hR => ⟨fun z => hn (hR fr hf z).1, fun x hx hRx => hR x hx hRx⟩, fun x _ _ => rfl⟩
theorem rr_PS {M h0 : Nat → Nat} {fr : Nat} {D : Nat → Prop} {rk : Nat → Nat} {h : Nat → Nat} {g p : Nat} (H : rr_P M h0 fr D rk h g) (hp : p < 8) (hD : D p) (hh : h0 p < 6) (ht : (M (h0 p)).testBit g = true) (hne : p ≠ g) (hr : rk p < rk g) : rr_P M h0 fr D rk (rr_up h g (h p)) p := by
  obtain ⟨h1, h2, h3, h4, h5, h6, h7, h8, h9⟩ := H
  have e : h p = h0 p := h9 p hp hr
  refine ⟨hp, hD, fun x hx hxp hlt => ?_, fun x y hx hy hxp hyp hlt hxy => ?_, fun k hk => ?_, fun x hx hxp => ?_, Or.inl hh, fun R hR => ?_, fun x hx hlt => ?_⟩
  · by_cases c : x = g
    · rw [c, rr_up_s, e]; exact ht
    · rw [rr_up_n c] at hlt ⊢
      exact h3 x hx c hlt
  · by_cases c : x = g
    · by_cases c' : y = g
      · rw [c, c']
      · rw [c, rr_up_s] at hlt
        rw [c, rr_up_s, rr_up_n c'] at hxy
        exact absurd (h4 p y hp hy hne c' hlt hxy).symm hyp
    · rw [rr_up_n c] at hlt
      by_cases c' : y = g
      · rw [c', rr_up_s, rr_up_n c] at hxy
        exact absurd (h4 x p hx hp c hne hlt hxy) hxp
      · rw [rr_up_n c, rr_up_n c'] at hxy
        exact h4 x y hx hy c c' hlt hxy
  · refine Iff.trans ⟨fun ⟨x, hx, hxp, ex⟩ => ?_, fun ⟨x, hx, hxg, ex⟩ => ?_⟩ (h5 k hk)
    · by_cases c : x = g
      · rw [c, rr_up_s] at ex
        exact ⟨p, hp, hne, ex⟩
      · rw [rr_up_n c] at ex
        exact ⟨x, hx, c, ex⟩
    · by_cases c : x = p
      · refine ⟨g, h1, fun z => hne z.symm, ?_⟩
        rw [rr_up_s, ← c]; exact ex
      · refine ⟨x, hx, c, ?_⟩
        rw [rr_up_n hxg]; exact ex
  · by_cases c : x = g
    · rw [c, rr_up_s, e]
      exact ⟨fun _ => h7, fun _ => hh⟩
    · rw [rr_up_n c]
      exact h6 x hx c
  · obtain ⟨r1, r2⟩ := h8 R hR
    refine ⟨fun z => ?_, fun x hx hRx => ?_⟩
    · have := (r2 p hp z).2 g h1
      rw [e] at this
      exact r1 (this ht)
    · have c : x ≠ g := fun z => r1 (z ▸ hRx)
      rw [rr_up_n c]
      exact r2 x hx hRx
  · have c : x ≠ g := fun z => by rw [z] at hlt; omega
    rw [rr_up_n c]
    exact h9 x hx (by omega)
theorem rr_FS {M h0 : Nat → Nat} {b : Nat → Nat → Int} {q : Nat → Int} {h : Nat → Nat} {g p : Nat} (H : rr_F M b q h g) (hp : p < 8) (hh : h p < 6) (hne : p ≠ g) (ht : q g - b (h p) g = q p - b (h p) p) : rr_F M b q (rr_up h g (h p)) p := by
  intro x hx hxp hlt y hy hty
  by_cases c : x = g
  · rw [c, rr_up_s] at hty hlt ⊢
    rw [ht]
    exact H p hp hne hh y hy hty
  · rw [rr_up_n c] at hty hlt ⊢
    exact H x hx c hlt y hy hty
theorem rr_PE {M h0 : Nat → Nat} {fr key : Nat} {D : Nat → Prop} {rk : Nat → Nat} {h : Nat → Nat} {r : Nat} (H : rr_P M h0 fr D rk h r) (hk : key < 6) (hfr : fr < 8) (hn : ¬ h0 fr < 6) (ht : (M key).testBit r = true) (hnew : ∀ x, x < 8 → h0 x ≠ key) : rr_aug M h0 key (rr_up h r key) := by
  obtain ⟨h1, h2, h3, h4, h5, h6, h7, h8, h9⟩ := H
  have nk : ∀ x, x < 8 → x ≠ r → h x ≠ key := fun x hx hxr e => by
    obtain ⟨y, hy, ey⟩ := (h5 key hk).mp ⟨x, hx, hxr, e⟩
    exact hnew y hy ey
  refine ⟨⟨fun x hx hlt => ?_, fun x y hx hy hlt hxy => ?_⟩, fun k hk' => ⟨fun ⟨x, hx, ex⟩ => ?_, fun z => ?_⟩, ⟨fr, hfr, hn, fun x hx => ?_⟩, fun R hR x hx hRx => ?_⟩
  · by_cases c : x = r
    · rw [c, rr_up_s]; exact ht
    · rw [rr_up_n c] at hlt ⊢
      exact h3 x hx c hlt
  · by_cases c : x = r
    · by_cases c' : y = r
      · rw [c, c']
      · rw [c, rr_up_s, rr_up_n c'] at hxy
        exact absurd hxy.symm (nk y hy c')
    · rw [rr_up_n c] at hlt
      by_cases c' : y = r
      · rw [c', rr_up_s, rr_up_n c] at hxy
        exact absurd hxy (nk x hx c)
      · rw [rr_up_n c, rr_up_n c'] at hxy
        exact h4 x y hx hy c c' hlt hxy
  · by_cases c : x = r
    · rw [c, rr_up_s] at ex
      exact Or.inl ex.symm
    · rw [rr_up_n c] at ex
      exact Or.inr ((h5 k hk').mp ⟨x, hx, c, ex⟩)
  · rcases z with z | z
    · exact ⟨r, h1, by rw [rr_up_s]; exact z.symm⟩
    · obtain ⟨x, hx, hxr, ex⟩ := (h5 k hk').mpr z
      exact ⟨x, hx, by rw [rr_up_n hxr]; exact ex⟩
  · by_cases c : x = r
    · rw [c, rr_up_s]
      exact ⟨fun _ => h7, fun _ => hk⟩
    · rw [rr_up_n c]
      exact h6 x hx c
  · obtain ⟨r1, r2⟩ := h8 R hR
    have c : x ≠ r := fun z => r1 (z ▸ hRx)
    rw [rr_up_n c]
    exact r2 x hx hRx
theorem rr_FE {M : Nat → Nat} {b : Nat → Nat → Int} {q : Nat → Int} {h : Nat → Nat} {r key : Nat} (H : rr_F M b q h r) (hr : ∀ y, y < 8 → (M key).testBit y = true → q r - b key r ≤ q y - b key y) : rr_fe M b q (rr_up h r key) := by
  intro x hx hlt y hy hty
  by_cases c : x = r
  · rw [c, rr_up_s] at hty ⊢
    exact hr y hy hty
  · rw [rr_up_n c] at hty hlt ⊢
    exact H x hx c hlt y hy hty
/-! ===== counting matchings ===== -/
/-- a matching is no greater than any cover -/
theorem rr_weak {M h : Nat → Nat} (hv : rr_val M h) (R : Nat → Prop) : rr_ct (fun g => h g < 6) 8 ≤ rr_ct R 8 + rr_ct (rr_out M R) 6 := by
  have e := rr_ct_split (fun g => h g < 6) R 8
  have a : rr_ct (fun g => h g < 6 ∧ R g) 8 ≤ rr_ct R 8 := rr_ct_mono 8 (fun i _ z => z.2)
  have b : rr_ct (fun g => h g < 6 ∧ ¬ R g) 8 ≤ rr_ct (rr_out M R) 6 :=
    rr_ct_inj h 6 8 _ _ (fun i hi z => ⟨z.1, i, hi, hv.1 i hi z.1, z.2⟩) (fun i j hi hj zi zj ee => hv.2 i j hi hj zi.1 ee)
  omega
/-- what the run of placing leaves: R certifies -/
theorem rr_strong {M h : Nat → Nat} {R : Nat → Prop} (hR : rr_closed M h R) (hk : ∀ k, k < 6 → (∃ x, x < 8 ∧ h x = k) ∨ ∀ y, y < 8 → (M k).testBit y = true → R y) : rr_ct R 8 + rr_ct (rr_out M R) 6 ≤ rr_ct (fun g => h g < 6) 8 := by
  have e := rr_ct_split (fun g => h g < 6) R 8
  have a : rr_ct R 8 ≤ rr_ct (fun g => h g < 6 ∧ R g) 8 := rr_ct_mono 8 (fun i hi z => ⟨(hR i hi z).1, z⟩)
  have b : rr_ct (rr_out M R) 6 ≤ rr_ct (fun g => h g < 6 ∧ ¬ R g) 8 :=
    rr_ct_pick h (fun k hk6 ⟨g, hg, hb, hn⟩ => by
      rcases hk k hk6 with ⟨x, hx, ex⟩ | z
      · refine ⟨x, hx, ⟨by rw [ex]; exact hk6, fun hRx => hn ?_⟩, ex⟩
        have := (hR x hx hRx).2 g hg
        rw [ex] at this
        exact this hb
      · exact absurd (z g hg hb) hn)
  omega
theorem rr_out0 {M : Nat → Nat} (hM : ∀ k, k < 6 → M k < 256) : rr_ct (rr_out M (fun _ => False)) 6 = rr_ct (fun k => M k ≠ 0) 6 :=
  rr_ct_congr 6 (fun k hk => ⟨fun ⟨g, _, hb, _⟩ => rr_ne0' hb, fun z => by
    obtain ⟨g, hg, hb⟩ := rr_ne0 (hM k hk) z
    exact ⟨g, hg, hb, fun f => f⟩⟩)
/-- the answer n of groupsMost -/
def rr_MM (M : Nat → Nat) (n : Nat) : Prop :=
  (∃ h, rr_val M h ∧ rr_ct (fun g => h g < 6) 8 = n) ∧ (∃ R, rr_ct R 8 + rr_ct (rr_out M R) 6 ≤ n) ∧
  ∃ m, m < 256 ∧ rr_ct (fun g => m.testBit g = true) 8 = n ∧ ∀ k, k < 6 → M k ≠ 0 → M k &&& m ≠ 0
theorem rr_MM_run {M h : Nat → Nat} {R : Nat → Prop} (hM : ∀ k, k < 6 → M k < 256) (hv : rr_val M h) (hR : rr_closed M h R) (hk : ∀ k, k < 6 → (∃ x, x < 8 ∧ h x = k) ∨ ∀ y, y < 8 → (M k).testBit y = true → R y) : rr_MM M (rr_ct (fun g => h g < 6) 8) := by
  refine ⟨⟨h, hv, rfl⟩, ⟨R, rr_strong hR hk⟩, ?_⟩
  obtain ⟨m, hm, hb⟩ := rr_mask (fun g => h g < 6) 8
  refine ⟨m, hm, rr_ct_congr 8 (fun g hg => hb g hg), fun k hk6 hne => ?_⟩
  rcases hk k hk6 with ⟨x, hx, ex⟩ | z
  · have h6 : h x < 6 := by rw [ex]; exact hk6
    have := hv.1 x hx h6
    rw [ex] at this
    exact rr_and_ne this ((hb x hx).mpr h6)
  · obtain ⟨g, hg, hgb⟩ := rr_ne0 (hM k hk6) hne
    exact rr_and_ne hgb ((hb g hg).mpr (hR g hg (z g hg hgb)).1)
theorem rr_MM_le {M : Nat → Nat} {n : Nat} (hM : ∀ k, k < 6 → M k < 256) (h : rr_MM M n) : n ≤ rr_ct (fun k => M k ≠ 0) 6 := by
  obtain ⟨⟨h, hv, e⟩, _, _⟩ := h
  have := rr_weak hv (fun _ => False)
  rw [rr_out0 hM, rr_ct_zero 8 (p := fun _ => False) (fun _ _ f => f)] at this
  omega
theorem rr_MM_mono {M M' : Nat → Nat} {n n' : Nat} (h : rr_MM M n) (h' : rr_MM M' n') (hs : ∀ k g, k < 6 → g < 8 → (M k).testBit g = true → (M' k).testBit g = true) : n ≤ n' := by
  obtain ⟨⟨h, hv, e⟩, _, _⟩ := h
  obtain ⟨_, ⟨R, hR⟩, _⟩ := h'
  have : rr_val M' h := ⟨fun g hg hl => hs _ g hl hg (hv.1 g hg hl), hv.2⟩
  have := rr_weak this R
  omega
theorem rr_MM_all {M h : Nat → Nat} {n : Nat} (hm : rr_MM M n) (hv : rr_val M h) (hk : ∀ k, k < 6 → M k ≠ 0 → ∃ x, x < 8 ∧ h x = k) : rr_ct (fun k => M k ≠ 0) 6 ≤ n := by
  obtain ⟨_, ⟨R, hR⟩, _⟩ := hm
  have a := rr_weak hv R
  have b : rr_ct (fun k => M k ≠ 0) 6 ≤ rr_ct (fun g => h g < 6) 8 := rr_ct_pick h (fun k hk6 hne => by
    obtain ⟨x, hx, ex⟩ := hk k hk6 hne
    exact ⟨x, hx, by rw [ex]; exact hk6, ex⟩)
  omega
/-- Hall: a set R of held groups, and one more key with its groups in R -/
theorem rr_MM_hall {M h : Nat → Nat} {n key : Nat} {R : Nat → Prop} (hm : rr_MM M n) (hv : rr_val M h) (hR : rr_closed M h R) (hkey : key < 6) (hne : M key ≠ 0) (hin : ∀ y, y < 8 → (M key).testBit y = true → R y) (hnew : ∀ x, x < 8 → h x ≠ key) : n < rr_ct (fun k => M k ≠ 0) 6 := by
  obtain ⟨⟨h', hv', e'⟩, _, _⟩ := hm
  have a := rr_weak hv' R
  have s := rr_ct_split (fun k => M k ≠ 0) (rr_out M R) 6
  have o : rr_ct (rr_out M R) 6 ≤ rr_ct (fun k => M k ≠ 0 ∧ rr_out M R k) 6 := rr_ct_mono 6 (fun k _ z => by
    obtain ⟨g, hg, hb, hn⟩ := z
    exact ⟨rr_ne0' hb, g, hg, hb, hn⟩)
  have i : rr_ct R 8 ≤ rr_ct (fun k => (M k ≠ 0 ∧ ¬ rr_out M R k) ∧ k ≠ key) 6 :=
    rr_ct_inj h 6 8 _ _ (fun g hg z => ⟨(hR g hg z).1, ⟨rr_ne0' (hv.1 g hg (hR g hg z).1), fun ⟨y, hy, hb, hn⟩ => hn ((hR g hg z).2 y hy hb)⟩, hnew g hg⟩) (fun g g' hg hg' z _ ee => hv.2 g g' hg hg' (hR g hg z).1 ee)
  have j : rr_ct (fun k => M k ≠ 0 ∧ ¬ rr_out M R k) 6 = rr_ct (fun k => (M k ≠ 0 ∧ ¬ rr_out M R k) ∧ k ≠ key) 6 + 1 :=
    rr_ct_add (j := key) (fun z => z.2 rfl) 6 hkey (fun k hk => ⟨fun z => by
      by_cases c : k = key
      · exact Or.inr c
      · exact Or.inl ⟨z, c⟩, fun z => z.elim (fun t => t.1) (fun t => by
        rw [t]
        exact ⟨hne, fun ⟨y, hy, hb, hn⟩ => hn (hin y hy hb)⟩)⟩)
  omega
end
section
/-! ===== the best way over groups (Bellman-Ford): d g the value with which g is reached (1000000: not), B g the group before (8: none) ===== -/
def rr_bf (M h : Nat → Nat) (b : Nat → Nat → Int) (key : Nat) (d : Nat → Int) (B rk : Nat → Nat) : Prop :=
  (∀ x, x < 8 → (M key).testBit x = true → d x ≠ 1000000 ∧ b key x ≤ d x) ∧
  (∀ x, x < 8 → d x ≠ 1000000 → B x < 8 → B x ≠ x ∧ d (B x) ≠ 1000000 ∧ h (B x) < 6 ∧ (M (h (B x))).testBit x = true ∧ d x ≤ d (B x) - b (h (B x)) (B x) + b (h (B x)) x ∧ rk (B x) < rk x) ∧
  (∀ x, x < 8 → d x ≠ 1000000 → ¬ B x < 8 → (M key).testBit x = true ∧ d x = b key x)
def rr_bd (t : Int) (d : Nat → Int) : Prop := ∀ x, x < 8 → d x ≠ 1000000 → -(1000 + 2000 * t) ≤ d x ∧ d x ≤ 1000 + 2000 * t
/-- nothing is left to gain -/
def rr_cl (M h : Nat → Nat) (b : Nat → Nat → Int) (d : Nat → Int) : Prop := ∀ g, g < 8 → d g ≠ 1000000 → h g < 6 → ∀ x, x < 8 → (M (h g)).testBit x = true → d x ≠ 1000000 ∧ d g - b (h g) g + b (h g) x ≤ d x
/-- S: groups whose value stays; T: those of them that have been gone out from -/
def rr_st (M h : Nat → Nat) (b : Nat → Nat → Int) (p d : Nat → Int) (S T : Nat → Prop) : Prop :=
  (∀ x, x < 8 → T x → S x) ∧ (∀ x, x < 8 → S x → d x ≠ 1000000) ∧ (∀ g, g < 8 → d g ≠ 1000000 → ¬ T g → ∀ s, s < 8 → S s → d g - p g ≤ d s - p s) ∧
  (∀ g, g < 8 → T g → h g < 6 → ∀ x, x < 8 → (M (h g)).testBit x = true → d x ≠ 1000000 ∧ d g - b (h g) g + b (h g) x ≤ d x)
theorem rr_bf_up {M h : Nat → Nat} {b : Nat → Nat → Int} {key : Nat} {p d : Nat → Int} {B rk : Nat → Nat} {g x : Nat} {v : Int} (hp : rr_fe M b p h) (H : rr_bf M h b key d B rk) (hg : g < 8) (hx : x < 8) (hne : x ≠ g) (hd : d g ≠ 1000000) (hh : h g < 6) (ht : (M (h g)).testBit x = true) (hv : v = d g - b (h g) g + b (h g) x) (hvn : v ≠ 1000000) (hup : d x = 1000000 ∨ d x < v) : ∃ rk', rr_bf M h b key (rr_ui d x v) (rr_up B x g) rk' := by
  obtain ⟨h1, h2, h3⟩ := H
  have hne' : g ≠ x := fun z => hne z.symm
  have fe := hp g hg hh x hx ht
  have i2 : ∀ y, y < 8 → (M key).testBit y = true → rr_ui d x v y ≠ 1000000 ∧ b key y ≤ rr_ui d x v y := by
    intro y hy hty
    by_cases c : y = x
    · subst c
      rw [rr_ui_s]
      obtain ⟨a1, a2⟩ := h1 y hy hty
      rcases hup with z | z
      · exact absurd z a1
      · exact ⟨hvn, by omega⟩
    · rw [rr_ui_n c]
      exact h1 y hy hty
  have i3 : ∀ y, y < 8 → rr_ui d x v y ≠ 1000000 → ¬ rr_up B x g y < 8 → (M key).testBit y = true ∧ rr_ui d x v y = b key y := by
    intro y hy hdy hB
    by_cases c : y = x
    · rw [c, rr_up_s] at hB
      exact absurd hg hB
    · rw [rr_ui_n c] at hdy ⊢
      rw [rr_up_n c] at hB
      exact h3 y hy hdy hB
  have mid : ∀ rk' : Nat → Nat, rk' g < rk' x → (∀ y, y < 8 → y ≠ x → d y ≠ 1000000 → B y < 8 → rk' (B y) < rk' y) → rr_bf M h b key (rr_ui d x v) (rr_up B x g) rk' := by
    intro rk' r1 r2
    refine ⟨i2, fun y hy hdy hB => ?_, i3⟩
    by_cases c : y = x
    · subst c
      rw [rr_up_s, rr_ui_s, rr_ui_n hne']
      exact ⟨hne', hd, hh, ht, by omega, r1⟩
    · rw [rr_ui_n c] at hdy ⊢
      rw [rr_up_n c] at hB ⊢
      obtain ⟨a1, a2, a3, a4, a5, a6⟩ := h2 y hy hdy hB
      by_cases c' : B y = x
      · rw [c'] at a1 a2 a3 a4 a5 ⊢
        rw [rr_ui_s]
        have r := r2 y hy c hdy hB
        rw [c'] at r
        rcases hup with z | z
        · exact absurd z a2
        · exact ⟨a1, hvn, a3, a4, by omega, r⟩
      · rw [rr_ui_n c']
        exact ⟨a1, a2, a3, a4, a5, r2 y hy c hdy hB⟩
  by_cases hdx : d x = 1000000
  · refine ⟨rr_up rk x (rk g + 1), mid _ ?_ (fun y hy c hdy hB => ?_)⟩
    · rw [rr_up_s, rr_up_n hne']; omega
    · obtain ⟨a1, a2, a3, a4, a5, a6⟩ := h2 y hy hdy hB
      have c' : B y ≠ x := fun z => a2 (by rw [z]; exact hdx)
      rw [rr_up_n c', rr_up_n c]
      exact a6
  · have hlt : d x < v := hup.elim (fun z => absurd z hdx) id
    have mono : ∀ y, y < 8 → d y ≠ 1000000 → B y < 8 → d y - p y ≤ d (B y) - p (B y) := by
      intro y hy hdy hB
      obtain ⟨a1, a2, a3, a4, a5, a6⟩ := h2 y hy hdy hB
      have := hp (B y) hB a3 y hy a4
      omega
    refine ⟨fun y => @ite Nat (d y ≠ 1000000 ∧ d y - p y ≤ d x - p x) (Classical.propDecidable _) (rk y + rk g + 1) (rk y), mid _ ?_ (fun y hy c hdy hB => ?_)⟩
    · rw [if_pos (show d x ≠ 1000000 ∧ d x - p x ≤ d x - p x from ⟨hdx, Int.le_refl _⟩), if_neg (show ¬ (d g ≠ 1000000 ∧ d g - p g ≤ d x - p x) from fun z => by have := z.2; omega)]
      omega
    · obtain ⟨a1, a2, a3, a4, a5, a6⟩ := h2 y hy hdy hB
      have m := mono y hy hdy hB
      by_cases c1 : d (B y) - p (B y) ≤ d x - p x
      · rw [if_pos (show d (B y) ≠ 1000000 ∧ d (B y) - p (B y) ≤ d x - p x from ⟨a2, c1⟩), if_pos (show d y ≠ 1000000 ∧ d y - p y ≤ d x - p x from ⟨hdy, by omega⟩)]
        omega
      · rw [if_neg (show ¬ (d (B y) ≠ 1000000 ∧ d (B y) - p (B y) ≤ d x - p x) from fun z => c1 z.2)]
        by_cases c2 : d y ≠ 1000000 ∧ d y - p y ≤ d x - p x
        · rw [if_pos c2]; omega
        · rw [if_neg c2]; exact a6
theorem rr_st_up {M h : Nat → Nat} {b : Nat → Nat → Int} {p d : Nat → Int} {S T : Nat → Prop} {g x : Nat} {v : Int} (hp : rr_fe M b p h) (H : rr_st M h b p d S T) (hg : g < 8) (hx : x < 8) (hd : d g ≠ 1000000) (hh : h g < 6) (ht : (M (h g)).testBit x = true) (hv : v = d g - b (h g) g + b (h g) x) (hvn : v ≠ 1000000) (hup : d x = 1000000 ∨ d x < v) : rr_st M h b p (rr_ui d x v) S T := by
  obtain ⟨h1, h2, h3, h4⟩ := H
  have fe := hp g hg hh x hx ht
  have gT : ¬ T g := fun z => by
    obtain ⟨a1, a2⟩ := h4 g hg z hh x hx ht
    rcases hup with u | u
    · exact a1 u
    · omega
  have xS : ¬ S x := fun z => by
    have a := h3 g hg hd gT x hx z
    rcases hup with u | u
    · exact h2 x hx z u
    · omega
  have sx : ∀ s, S s → s ≠ x := fun s z e => xS (e ▸ z)
  refine ⟨h1, fun s hs z => ?_, fun y hy hdy hTy s hs z => ?_, fun y hy z hhy w hw htw => ?_⟩
  · rw [rr_ui_n (sx s z)]; exact h2 s hs z
  · rw [rr_ui_n (sx s z)]
    by_cases c : y = x
    · rw [c, rr_ui_s]
      have := h3 g hg hd gT s hs z
      omega
    · rw [rr_ui_n c] at hdy ⊢
      exact h3 y hy hdy hTy s hs z
  · rw [rr_ui_n (sx y (h1 y hy z))]
    obtain ⟨a1, a2⟩ := h4 y hy z hhy w hw htw
    by_cases c : w = x
    · rw [c] at a1 a2 ⊢
      rw [rr_ui_s]
      rcases hup with u | u
      · exact absurd u a1
      · exact ⟨hvn, by omega⟩
    · rw [rr_ui_n c]
      exact ⟨a1, a2⟩
theorem rr_cl_up {M h : Nat → Nat} {b : Nat → Nat → Int} {d : Nat → Int} {g x : Nat} {v : Int} (H : rr_cl M h b d) (hg : g < 8) (hx : x < 8) (hd : d g ≠ 1000000) (hh : h g < 6) (ht : (M (h g)).testBit x = true) (hv : v = d g - b (h g) g + b (h g) x) (hup : d x = 1000000 ∨ d x < v) : False := by
  obtain ⟨a1, a2⟩ := H g hg hd hh x hx ht
  rcases hup with u | u
  · exact a1 u
  · omega
/-- ahead of round r -/
def rr_RS (M h : Nat → Nat) (b : Nat → Nat → Int) (p : Nat → Int) (r : Nat) (d : Nat → Int) : Prop :=
  rr_cl M h b d ∨ ∃ S T, rr_st M h b p d S T ∧ (∀ s, s < 8 → S s → T s) ∧ r ≤ rr_ct S 8
/-- in round r, ahead of group j -/
def rr_RJ (M h : Nat → Nat) (b : Nat → Nat → Int) (p : Nat → Int) (r j : Nat) (d : Nat → Int) : Prop :=
  rr_cl M h b d ∨ ∃ S T, rr_st M h b p d S T ∧ (∀ s, s < 8 → S s → ¬ T s → j ≤ s) ∧ r + 1 ≤ rr_ct S 8
theorem rr_RS0 {M h : Nat → Nat} {b : Nat → Nat → Int} {p : Nat → Int} {d : Nat → Int} : rr_RS M h b p 0 d :=
  Or.inr ⟨fun _ => False, fun _ => False, ⟨fun _ _ f => f, fun _ _ f => f.elim, fun _ _ _ _ _ _ f => f.elim, fun _ _ f => f.elim⟩, fun _ _ f => f, Nat.zero_le _⟩
theorem rr_RJ0 {M h : Nat → Nat} {b : Nat → Nat → Int} {p : Nat → Int} {r : Nat} {d : Nat → Int} (H : rr_RS M h b p r d) : rr_RJ M h b p r 0 d := by
  rcases H with H | ⟨S, T, hst, hST, hr⟩
  · exact Or.inl H
  · by_cases c : ∃ x, x < 8 ∧ (d x ≠ 1000000 ∧ ¬ S x)
    · obtain ⟨m, hm, ⟨hdm, hSm⟩, hmax⟩ := rr_argmax (fun x => d x ≠ 1000000 ∧ ¬ S x) (fun x => d x - p x) 8 c
      obtain ⟨h1, h2, h3, h4⟩ := hst
      refine Or.inr ⟨fun x => S x ∨ x = m, T, ⟨fun x hx z => Or.inl (h1 x hx z), fun x hx z => z.elim (h2 x hx) (fun e => by rw [e]; exact hdm), fun g hg hdg hTg s hs z => ?_, h4⟩, fun s _ _ _ => Nat.zero_le s, ?_⟩
      · rcases z with z | z
        · exact h3 g hg hdg hTg s hs z
        · rw [z]
          exact hmax g hg ⟨hdg, fun w => hTg (hST g hg w)⟩
      · rw [rr_ct_add (p := S) (j := m) hSm 8 hm (fun i _ => Iff.rfl)]
        omega
    · refine Or.inl (fun g hg hdg => ?_)
      have : S g := Classical.byContradiction (fun z => c ⟨g, hg, hdg, z⟩)
      exact hst.2.2.2 g hg (hST g hg this)
theorem rr_RJ8 {M h : Nat → Nat} {b : Nat → Nat → Int} {p : Nat → Int} {r : Nat} {d : Nat → Int} (H : rr_RJ M h b p r 8 d) : rr_RS M h b p (r + 1) d := by
  rcases H with H | ⟨S, T, hst, hST, hr⟩
  · exact Or.inl H
  · exact Or.inr ⟨S, T, hst, fun s hs z => Classical.byContradiction (fun w => by have := hST s hs z w; omega), hr⟩
theorem rr_RS8 {M h : Nat → Nat} {b : Nat → Nat → Int} {p : Nat → Int} {d : Nat → Int} (H : rr_RS M h b p 8 d) : rr_cl M h b d := by
  rcases H with H | ⟨S, T, hst, hST, hr⟩
  · exact H
  · exact fun g hg hdg => hst.2.2.2 g hg (hST g hg (rr_ct_full 8 hr g hg))
theorem rr_RJ_up {M h : Nat → Nat} {b : Nat → Nat → Int} {p d : Nat → Int} {r j g x : Nat} {v : Int} (hp : rr_fe M b p h) (H : rr_RJ M h b p r j d) (hg : g < 8) (hx : x < 8) (hd : d g ≠ 1000000) (hh : h g < 6) (ht : (M (h g)).testBit x = true) (hv : v = d g - b (h g) g + b (h g) x) (hvn : v ≠ 1000000) (hup : d x = 1000000 ∨ d x < v) : rr_RJ M h b p r j (rr_ui d x v) := by
  rcases H with H | ⟨S, T, hst, hST, hr⟩
  · exact (rr_cl_up H hg hx hd hh ht hv hup).elim
  · exact Or.inr ⟨S, T, rr_st_up hp hst hg hx hd hh ht hv hvn hup, hST, hr⟩
theorem rr_RJ_next {M h : Nat → Nat} {b : Nat → Nat → Int} {p d : Nat → Int} {r j : Nat} (H : rr_RJ M h b p r j d) (hrel : d j ≠ 1000000 → h j < 6 → ∀ x, x < 8 → (M (h j)).testBit x = true → d x ≠ 1000000 ∧ d j - b (h j) j + b (h j) x ≤ d x) : rr_RJ M h b p r (j + 1) d := by
  rcases H with H | ⟨S, T, ⟨h1, h2, h3, h4⟩, hST, hr⟩
  · exact Or.inl H
  · refine Or.inr ⟨S, fun x => T x ∨ (x = j ∧ S x), ⟨fun x hx z => z.elim (h1 x hx) (fun e => e.2), h2, fun g hg hdg hTg => h3 g hg hdg (fun z => hTg (Or.inl z)), fun g hg z hhg => ?_⟩, fun s hs z w => ?_, hr⟩
    · rcases z with z | ⟨e, z⟩
      · exact h4 g hg z hhg
      · subst e
        exact hrel (h2 g hg z) hhg
    · have a := hST s hs z (fun t => w (Or.inl t))
      have c : s ≠ j := fun e => w (Or.inr ⟨e, z⟩)
      omega
/-- the rank by count is at most 8 -/
theorem rr_rank {rk : Nat → Nat} {x y : Nat} (hx : x < 8) (h : rk x < rk y) : rr_ct (fun z => rk z < rk x) 8 < rr_ct (fun z => rk z < rk y) 8 := by
  have e : rr_ct (fun z => rk z < rk x ∨ z = x) 8 = rr_ct (fun z => rk z < rk x) 8 + 1 :=
    rr_ct_add (p := fun z => rk z < rk x) (j := x) (by omega) 8 hx (fun i _ => Iff.rfl)
  have m : rr_ct (fun z => rk z < rk x ∨ z = x) 8 ≤ rr_ct (fun z => rk z < rk y) 8 := rr_ct_mono 8 (fun i _ z => by
    rcases z with z | z
    · omega
    · rw [z]; exact h)
  omega
/-- the new potential -/
theorem rr_newpot {M h : Nat → Nat} {b : Nat → Nat → Int} {p d : Nat → Int} {t : Int} (hp : rr_fe M b p h) (hcl : rr_cl M h b d) (hbd : rr_bd t d) (hb : ∀ k x, k < 6 → x < 8 → (M k).testBit x = true → -1000 ≤ b k x ∧ b k x ≤ 1000) (hv : rr_val M h) :
    ∃ (q : Nat → Int) (C : Int), rr_fe M b q h ∧ ∀ x, x < 8 → d x ≠ 1000000 → q x = d x + C := by
  obtain ⟨P, hP⟩ := rr_bound p 8
  refine ⟨fun x => @ite Int (d x ≠ 1000000) (Classical.propDecidable _) (d x + (P + 3000 + 2000 * t)) (p x), P + 3000 + 2000 * t, ?_, fun x hx hd => if_pos hd⟩
  intro x hx hh y hy hty
  dsimp only
  have bx := hb (h x) x hh hx (hv.1 x hx hh)
  have byy := hb (h x) y hh hy hty
  by_cases c : d x ≠ 1000000
  · obtain ⟨a1, a2⟩ := hcl x hx c hh y hy hty
    rw [if_pos c, if_pos a1]
    omega
  · rw [if_neg c]
    by_cases c' : d y ≠ 1000000
    · rw [if_pos c']
      have := hP x hx
      have := (hbd y hy c').1
      omega
    · rw [if_neg c']
      exact hp x hx hh y hy hty
end
section
/-! ===== the rows and what summarise keeps of them ===== -/
def rr_rw (K : Nat → Nat) : Nat → Nat → Nat
  | 0, _ => 0
  | n + 1, k => if k = K n then rr_rw K n k + 1 else rr_rw K n k
def rr_ms (K G : Nat → Nat) : Nat → Nat → Nat
  | 0, _ => 0
  | n + 1, k => if k = K n then rr_ms K G n k ||| 2 ^ G n else rr_ms K G n k
def rr_bs (K G : Nat → Nat) (V : Nat → Int32) : Nat → Nat → Int32
  | 0, _ => 1000000
  | n + 1, j => if j = K n * 8 + G n then (if rr_bs K G V n j = 1000000 ∨ ¬ V n ≤ rr_bs K G V n j then V n else rr_bs K G V n j) else rr_bs K G V n j
theorem rr_rw_s (K : Nat → Nat) (n : Nat) : rr_rw K (n + 1) (K n) = rr_rw K n (K n) + 1 := if_pos rfl
theorem rr_rw_n {K : Nat → Nat} {n k : Nat} (h : k ≠ K n) : rr_rw K (n + 1) k = rr_rw K n k := if_neg h
theorem rr_ms_s (K G : Nat → Nat) (n : Nat) : rr_ms K G (n + 1) (K n) = rr_ms K G n (K n) ||| 2 ^ G n := if_pos rfl
theorem rr_ms_n {K G : Nat → Nat} {n k : Nat} (h : k ≠ K n) : rr_ms K G (n + 1) k = rr_ms K G n k := if_neg h
theorem rr_bs_s {K G : Nat → Nat} {V : Nat → Int32} {n : Nat} (h : rr_bs K G V n (K n * 8 + G n) = 1000000 ∨ ¬ V n ≤ rr_bs K G V n (K n * 8 + G n)) : rr_bs K G V (n + 1) (K n * 8 + G n) = V n := (if_pos rfl).trans (if_pos h)
theorem rr_bs_k {K G : Nat → Nat} {V : Nat → Int32} {n : Nat} (h : ¬ (rr_bs K G V n (K n * 8 + G n) = 1000000 ∨ ¬ V n ≤ rr_bs K G V n (K n * 8 + G n))) : rr_bs K G V (n + 1) (K n * 8 + G n) = rr_bs K G V n (K n * 8 + G n) := (if_pos rfl).trans (if_neg h)
theorem rr_bs_n {K G : Nat → Nat} {V : Nat → Int32} {n j : Nat} (h : j ≠ K n * 8 + G n) : rr_bs K G V (n + 1) j = rr_bs K G V n j := if_neg h
def rr_rows (K G : Nat → Nat) (V : Nat → Int32) (n : Nat) (a1 a2 a3 a4 : Nat → Int32) : Prop :=
  n ≤ 14 ∧ (∀ j, j < n → a1 j = 1) ∧ (∀ j, j < 14 → n ≤ j → a1 j = 0) ∧ ∀ j, j < n → a2 j = nI (K j) ∧ K j < 6 ∧ a3 j = nI (G j) ∧ G j < 8 ∧ a4 j = V j
def rr_sums (K G : Nat → Nat) (V : Nat → Int32) (n : Nat) (a5 a6 a7 : Nat → Int32) : Prop :=
  (∀ k, k < 6 → a5 k = nI (rr_rw K n k)) ∧ (∀ k, k < 6 → a6 k = nI (rr_ms K G n k)) ∧ (∀ j, j < 48 → a7 j = rr_bs K G V n j)
theorem rr_idx (a b : Nat) : nI a * 8 + nI b = nI (a * 8 + b) := by
  show nI a * nI 8 + nI b = _
  rw [pk_mul, nI_add]
/-! one row more -/
theorem rr_sums5 {K G : Nat → Nat} {V : Nat → Int32} {i : Nat} {a5 : Nat → Int32} (h : ∀ k, k < 6 → a5 k = nI (rr_rw K i k)) (hK : K i < 6) : ∀ k, k < 6 → upd a5 (K i) (a5 (K i) + 1) k = nI (rr_rw K (i + 1) k) := by
  intro k hk
  by_cases e : k = K i
  · rw [e, pk_us, rr_rw_s, h _ hK, nI_1]
  · rw [pk_un e, rr_rw_n e, h k hk]
theorem rr_sums6 {K G : Nat → Nat} {i : Nat} {a6 : Nat → Int32} (h : ∀ k, k < 6 → a6 k = nI (rr_ms K G i k)) (hK : K i < 6) (hG : G i < 8) : ∀ k, k < 6 → upd a6 (K i) (a6 (K i) ||| ((1 : Int32) <<< (nI (G i) &&& 31))) k = nI (rr_ms K G (i + 1) k) := by
  intro k hk
  by_cases e : k = K i
  · rw [e, pk_us, rr_ms_s, h _ hK, rr_shl1 (by omega), rr_or]
  · rw [pk_un e, rr_ms_n e, h k hk]
theorem rr_sums7s {K G : Nat → Nat} {V : Nat → Int32} {i : Nat} {a7 : Nat → Int32} (h : ∀ j, j < 48 → a7 j = rr_bs K G V i j) (hj : K i * 8 + G i < 48) (hc : a7 (K i * 8 + G i) = 1000000 ∨ ¬ V i ≤ a7 (K i * 8 + G i)) : ∀ j, j < 48 → upd a7 (K i * 8 + G i) (V i) j = rr_bs K G V (i + 1) j := by
  intro j hj'
  by_cases e : j = K i * 8 + G i
  · rw [e, pk_us, rr_bs_s (by rw [← h _ hj]; exact hc)]
  · rw [pk_un e, rr_bs_n e, h j hj']
theorem rr_sums7k {K G : Nat → Nat} {V : Nat → Int32} {i : Nat} {a7 : Nat → Int32} (h : ∀ j, j < 48 → a7 j = rr_bs K G V i j) (hj : K i * 8 + G i < 48) (hc : ¬ (a7 (K i * 8 + G i) = 1000000 ∨ ¬ V i ≤ a7 (K i * 8 + G i))) : ∀ j, j < 48 → a7 j = rr_bs K G V (i + 1) j := by
  intro j hj'
  by_cases e : j = K i * 8 + G i
  · rw [e, rr_bs_k (by rw [← h _ hj]; exact hc), h _ hj]
  · rw [rr_bs_n e, h j hj']
/-! ===== the walk of summarise ===== -/
theorem rr_sum52 {f0 : Int32} {a1 a2 a3 a4 a5 a6 a7 a8 a9 a10 a11 a12 a13 a14 a15 : Nat → Int32} {post : St1 → Prop} {K G : Nat → Nat} {V : Nat → Int32} {n : Nat} (hr : rr_rows K G V n a1 a2 a3 a4) (h0 : rr_sums K G V 0 a5 a6 a7)
    (H : ∀ b5 b6 b7, rr_sums K G V n b5 b6 b7 → post (f0, a1, a2, a3, a4, b5, b6, b7, a8, a9, a10, a11, a12, a13, a14, a15)) : ∃ fu, wX_summarise_52 post f0 fu 0 a1 a2 a3 a4 a5 a6 a7 a8 a9 a10 a11 a12 a13 a14 a15 := by
  obtain ⟨r1, r2, r3, r4⟩ := hr
  refine pk_loop (σ := (Nat → Int32) × (Nat → Int32) × (Nat → Int32)) (fun m i s => wX_summarise_52 post f0 m (nI i) a1 a2 a3 a4 s.1 s.2.1 s.2.2 a8 a9 a10 a11 a12 a13 a14 a15) (fun i s => rr_sums K G V (min i n) s.1 s.2.1 s.2.2) 14 0 (a5, a6, a7) (by omega) (by rw [Nat.zero_min]; exact h0) ?_ ?_
  · intro m s h
    rw [show min 14 n = n by omega] at h
    exact pk_le 14 14 (fun _ => H _ _ _ h) (fun z => absurd z (by omega))
  · intro m i s hi h hw
    refine pk_le 14 i (fun z => absurd z (by omega)) (fun _ => And.intro (pk_in i 14 hi) ?_)
    rw [nI_clamp (show i < 2 ^ 31 by omega)]
    by_cases c : i < n
    · obtain ⟨q2, qK, q3, qG, q4⟩ := r4 i c
      rw [show min i n = i by omega] at h
      have hw' : ∀ b5 b6 b7, rr_sums K G V (i + 1) b5 b6 b7 → wX_summarise_52 post f0 m (nI (i + 1)) a1 a2 a3 a4 b5 b6 b7 a8 a9 a10 a11 a12 a13 a14 a15 := fun b5 b6 b7 hb => hw (b5, b6, b7) (by rw [show min (i + 1) n = i + 1 by omega]; exact hb)
      obtain ⟨h5, h6, h7⟩ := h
      have hj : K i * 8 + G i < 48 := by omega
      refine br_f (by rw [r2 i c]; decide) ⟨pk_in i 14 hi, nm_r q2 ⟨pk_in i 14 hi, nm_r (e' := nI (K i * 8 + G i)) (by rw [q3, rr_idx]) ?_⟩⟩
      rw [nI_clamp (show K i < 2 ^ 31 by omega), nI_clamp (show K i * 8 + G i < 2 ^ 31 by omega), q3, q4]
      refine ⟨pk_in (K i) 6 qK, pk_in (K i) 6 qK, nm_e ⟨pk_in (K i) 6 qK, pk_in i 14 hi, pk_in (K i) 6 qK, nm_e ⟨pk_in _ 48 hj, ?_⟩⟩⟩
      have h5' := rr_sums5 (V := V) (G := G) h5 qK
      have h6' := rr_sums6 h6 qK qG
      refine br_c (fun g => ?_) (fun g => ⟨pk_in i 14 hi, pk_in _ 48 hj, br_c (fun g2 => nm_r (nI_1 i) ?_) (fun g2 => ?_)⟩)
      · unfold wX_summarise_139
        rw [nI_clamp (show i < 2 ^ 31 by omega), nI_clamp (show K i * 8 + G i < 2 ^ 31 by omega), q4]
        exact ⟨pk_in i 14 hi, pk_in _ 48 hj, nm_e (nm_r (nI_1 i) (hw' _ _ _ ⟨h5', h6', rr_sums7s h7 hj (Or.inl g)⟩))⟩
      · exact hw' _ _ _ ⟨h5', h6', rr_sums7k h7 hj (fun z => z.elim g (fun t => t g2))⟩
      · unfold wX_summarise_139
        rw [nI_clamp (show i < 2 ^ 31 by omega), nI_clamp (show K i * 8 + G i < 2 ^ 31 by omega), q4]
        exact ⟨pk_in i 14 hi, pk_in _ 48 hj, nm_e (nm_r (nI_1 i) (hw' _ _ _ ⟨h5', h6', rr_sums7s h7 hj (Or.inr g2)⟩))⟩
    · refine br_t (r3 i hi (by omega)) (nm_r (nI_1 i) (hw s ?_))
      rw [show min (i + 1) n = min i n by omega]
      exact h
theorem rr_sum30 {f0 : Int32} {a1 a2 a3 a4 a5 a6 a7 a8 a9 a10 a11 a12 a13 a14 a15 : Nat → Int32} {post : St1 → Prop} {K G : Nat → Nat} {V : Nat → Int32} {n : Nat} (hr : rr_rows K G V n a1 a2 a3 a4) (h5 : ∀ k, k < 6 → a5 k = nI (rr_rw K 0 k)) (h6 : ∀ k, k < 6 → a6 k = nI (rr_ms K G 0 k))
    (H : ∀ b5 b6 b7, rr_sums K G V n b5 b6 b7 → post (f0, a1, a2, a3, a4, b5, b6, b7, a8, a9, a10, a11, a12, a13, a14, a15)) : ∃ fu, wX_summarise_30 post f0 fu 0 a1 a2 a3 a4 a5 a6 a7 a8 a9 a10 a11 a12 a13 a14 a15 := by
  refine pk_loop (fun m i s => wX_summarise_30 post f0 m (nI i) a1 a2 a3 a4 a5 a6 s a8 a9 a10 a11 a12 a13 a14 a15) (fun i s => ∀ j, j < i → s j = 1000000) 48 0 a7 (by omega) (fun j hj => absurd hj (by omega)) ?_ ?_
  · intro m s h
    exact pk_le 48 48 (fun _ => rr_sum52 hr ⟨h5, h6, h⟩ H) (fun z => absurd z (by omega))
  · intro m i s hi h hw
    refine pk_le 48 i (fun z => absurd z (by omega)) (fun _ => And.intro (pk_in i 48 hi) (nm_e (nm_r (nI_1 i) (hw _ ?_))))
    intro j hj
    rw [nI_clamp (show i < 2 ^ 31 by omega)]
    by_cases e : j = i
    · rw [e, pk_us]
    · rw [pk_un e]; exact h j (by omega)
theorem rr_summarise {f0 : Int32} {a1 a2 a3 a4 a5 a6 a7 a8 a9 a10 a11 a12 a13 a14 a15 : Nat → Int32} {post : St1 → Prop} {K G : Nat → Nat} {V : Nat → Int32} {n : Nat} (hr : rr_rows K G V n a1 a2 a3 a4)
    (H : ∀ b5 b6 b7, rr_sums K G V n b5 b6 b7 → post (f0, a1, a2, a3, a4, b5, b6, b7, a8, a9, a10, a11, a12, a13, a14, a15)) : wpX_summarise post (f0, a1, a2, a3, a4, a5, a6, a7, a8, a9, a10, a11, a12, a13, a14, a15) := by
  show ∃ fu, wX_summarise_2 post f0 fu 0 a1 a2 a3 a4 a5 a6 a7 a8 a9 a10 a11 a12 a13 a14 a15
  refine pk_loop (σ := (Nat → Int32) × (Nat → Int32)) (fun m i s => wX_summarise_2 post f0 m (nI i) a1 a2 a3 a4 s.1 s.2 a7 a8 a9 a10 a11 a12 a13 a14 a15) (fun i s => ∀ j, j < i → s.1 j = 0 ∧ s.2 j = 0) 6 0 (a5, a6) (by omega) (fun j hj => absurd hj (by omega)) ?_ ?_
  · intro m s h
    exact pk_le 6 6 (fun _ => rr_sum30 hr (fun k hk => (h k hk).1) (fun k hk => (h k hk).2) H) (fun z => absurd z (by omega))
  · intro m i s hi h hw
    refine pk_le 6 i (fun z => absurd z (by omega)) (fun _ => ?_)
    rw [nI_clamp (show i < 2 ^ 31 by omega)]
    refine ⟨pk_in i 6 hi, nm_e ⟨pk_in i 6 hi, nm_e (nm_r (nI_1 i) (hw (upd s.1 i 0, upd s.2 i 0) ?_))⟩⟩
    intro j hj
    show upd s.1 i 0 j = 0 ∧ upd s.2 i 0 j = 0
    by_cases e : j = i
    · rw [e, pk_us, pk_us]; exact ⟨rfl, rfl⟩
    · rw [pk_un e, pk_un e]; exact h j (by omega)
end
section
/-! ===== methods that change nothing ===== -/
theorem rr_bitct (p : Nat → Nat) {i : Nat} {m g : Nat} (hm : m < 2 ^ 31) (hg : g < 32) {q : Nat → Prop} (hq : q i ↔ m.testBit g = true) : nI (rr_ct q i) + ((nI m >>> (nI g &&& 31)) &&& 1) = nI (rr_ct q (i + 1)) := by
  by_cases c : m.testBit g = true
  · rw [(rr_bit1 hm hg).mpr c, rr_ct_t (hq.mpr c), nI_1]
  · rw [(rr_bit0 hm hg).mpr c, rr_ct_f (fun z => c (hq.mp z))]
    show nI _ + nI 0 = _
    rw [nI_add]; rfl
theorem rr_bits {post : Int32 → Prop} {m : Nat} (hm : m < 256) (H : post (nI (rr_ct (fun g => m.testBit g = true) 8))) : wpX_bits post () (nI m) := by
  show ∃ fu, wX_bits_4 post (nI m) fu 0 0
  exact pk_loop (σ := Unit) (fun n i _ => wX_bits_4 post (nI m) n (nI (rr_ct (fun g => m.testBit g = true) i)) (nI i)) (fun _ _ => True) 8 0 () (by omega) trivial
    (fun n _ _ => pk_le 8 8 (fun _ => H) (fun z => absurd z (by omega)))
    (fun n i _ hi _ hw => pk_le 8 i (fun z => absurd z (by omega)) (fun _ => nm_r (rr_bitct (fun _ => 0) (by omega) (by omega) Iff.rfl) (nm_r (nI_1 i) (hw () trivial))))
/-- every key in use has a group in m -/
def rr_cov (W M : Nat → Nat) (m : Nat) : Prop := ∀ k, k < 6 → 0 < W k → M k &&& m ≠ 0
theorem rr_covers {f0 : Int32} {a1 a2 a3 a4 a5 a6 a7 a8 a9 a10 a11 a12 a13 a14 a15 : Nat → Int32} {post : Int32 → Prop} {W M : Nat → Nat} {m : Nat} (h5 : ∀ k, k < 6 → a5 k = nI (W k)) (hW : ∀ k, k < 6 → W k < 100) (h6 : ∀ k, k < 6 → a6 k = nI (M k)) (hM : ∀ k, k < 6 → M k < 256) (hm : m < 256)
    (H1 : rr_cov W M m → post 1) (H0 : ¬ rr_cov W M m → post 0) : wpX_coversAll post (f0, a1, a2, a3, a4, a5, a6, a7, a8, a9, a10, a11, a12, a13, a14, a15) (nI m) := by
  show ∃ fu, wX_coversAll_2 post (nI m) f0 a1 a2 a3 a4 a5 a6 a7 a8 a9 a10 a11 a12 a13 a14 a15 fu 0
  refine pk_loop (σ := Unit) (fun n i _ => wX_coversAll_2 post (nI m) f0 a1 a2 a3 a4 a5 a6 a7 a8 a9 a10 a11 a12 a13 a14 a15 n (nI i)) (fun i _ => ∀ k, k < i → 0 < W k → M k &&& m ≠ 0) 6 0 () (by omega) (fun k hk => absurd hk (by omega)) ?_ ?_
  · intro n _ h
    exact pk_le 6 6 (fun _ => H1 h) (fun z => absurd z (by omega))
  · intro n i _ hi h hw
    have hWi := hW i hi
    refine pk_le 6 i (fun z => absurd z (by omega)) (fun _ => ?_)
    rw [nI_clamp (show i < 2 ^ 31 by omega), h5 i hi, h6 i hi, rr_and]
    refine ⟨pk_in i 6 hi, pk_le (W i) 0 (fun z => nm_r (nI_1 i) (hw () ?_)) (fun z => ⟨pk_in i 6 hi, pk_eq (M i &&& m) 0 (fun e => H0 (fun c => c i hi z e)) (fun e => nm_r (nI_1 i) (hw () ?_)) rfl rfl (Nat.lt_trans (rr_and_lt (hM i hi)) (by decide)) (by decide)⟩)⟩
    · exact lt_s h (fun t => absurd t (by omega))
    · exact lt_s h (fun _ => e)
theorem rr_groupsLeast {f0 : Int32} {a1 a2 a3 a4 a5 a6 a7 a8 a9 a10 a11 a12 a13 a14 a15 : Nat → Int32} {post : Int32 → Prop} {W M : Nat → Nat} (h5 : ∀ k, k < 6 → a5 k = nI (W k)) (hW : ∀ k, k < 6 → W k < 100) (h6 : ∀ k, k < 6 → a6 k = nI (M k)) (hM : ∀ k, k < 6 → M k < 256)
    (H : ∀ l, l ≤ 8 → (∀ m, m < 256 → rr_cov W M m → l ≤ rr_ct (fun g => m.testBit g = true) 8) → post (nI l)) : wpX_groupsLeast post (f0, a1, a2, a3, a4, a5, a6, a7, a8, a9, a10, a11, a12, a13, a14, a15) := by
  show ∃ fu, wX_groupsLeast_5 post f0 a1 a2 a3 a4 a5 a6 a7 a8 a9 a10 a11 a12 a13 a14 a15 fu 8 0
  refine pk_loop (σ := Nat) (fun n i l => wX_groupsLeast_5 post f0 a1 a2 a3 a4 a5 a6 a7 a8 a9 a10 a11 a12 a13 a14 a15 n (nI l) (nI i)) (fun i l => l ≤ 8 ∧ ∀ m, m < i → rr_cov W M m → l ≤ rr_ct (fun g => m.testBit g = true) 8) 256 0 8 (by omega) ⟨Nat.le_refl 8, fun k hk => absurd hk (by omega)⟩ ?_ ?_
  · intro n l h
    exact pk_le 256 256 (fun _ => H l h.1 h.2) (fun z => absurd z (by omega))
  · intro n i l hi h hw
    obtain ⟨hl, h⟩ := h
    have hc := rr_ct_le (fun g => i.testBit g = true) 8
    refine pk_le 256 i (fun z => absurd z (by omega)) (fun _ => rr_bits hi (pk_le l (rr_ct (fun g => i.testBit g = true) 8) (fun z => nm_r (nI_1 i) (hw l ⟨hl, lt_s h (fun _ => z)⟩)) (fun z => rr_covers h5 hW h6 hM hi (fun c => ?_) (fun c => ?_))))
    · refine br_f (by decide) (nm_r (nI_1 i) (hw _ ⟨hc, fun m hm hcm => ?_⟩))
      by_cases e : m = i
      · rw [e]; exact Nat.le_refl _
      · have := h m (by omega) hcm
        omega
    · exact br_t rfl (nm_r (nI_1 i) (hw l ⟨hl, lt_s h (fun t => absurd t c)⟩))
theorem rr_badGroup {post : Int32 → Prop} {g : Nat} (hg : g < 8) (H : post 0) : wpX_badGroup post () (nI g) :=
  br_f (nI_pos (by omega)) (br_t (nI_lt (b := 8) hg (by decide)) H)
theorem rr_countLeast {f0 : Int32} {a1 a2 a3 a4 a5 a6 a7 a8 a9 a10 a11 a12 a13 a14 a15 : Nat → Int32} {post : Int32 → Prop} {M : Nat → Nat} {g : Nat} (h6 : ∀ k, k < 6 → a6 k = nI (M k)) (hM : ∀ k, k < 6 → M k < 256) (hg : g < 8) (H : post (nI (rr_ct (fun k => M k = 2 ^ g) 6))) : wpX_countLeast post (f0, a1, a2, a3, a4, a5, a6, a7, a8, a9, a10, a11, a12, a13, a14, a15) (nI g) := by
  unfold wpX_countLeast
  refine rr_badGroup hg (br_t rfl ?_)
  refine pk_loop (σ := Unit) (fun n i _ => wX_countLeast_14 post (nI g) f0 a1 a2 a3 a4 a5 a6 a7 a8 a9 a10 a11 a12 a13 a14 a15 n (nI (rr_ct (fun k => M k = 2 ^ g) i)) (nI i)) (fun _ _ => True) 6 0 () (by omega) trivial (fun n _ _ => pk_le 6 6 (fun _ => H) (fun z => absurd z (by omega))) ?_
  intro n i _ hi _ hw
  have hMi := hM i hi
  refine pk_le 6 i (fun z => absurd z (by omega)) (fun _ => ?_)
  rw [nI_clamp (show i < 2 ^ 31 by omega), h6 i hi, rr_shl1 (by omega)]
  have hp := rr_pow_lt hg
  refine ⟨pk_in i 6 hi, pk_eq (M i) (2 ^ g) (fun e => nm_r (e' := nI (rr_ct (fun k => M k = 2 ^ g) (i + 1))) ?_ (nm_r (nI_1 i) (hw () trivial))) (fun e => nm_r (nI_1 i) ?_)⟩
  · rw [rr_ct_t (p := fun k => M k = 2 ^ g) e, nI_1]
  · have := hw () trivial
    rw [rr_ct_f (p := fun k => M k = 2 ^ g) e] at this
    exact this
theorem rr_countMost {f0 : Int32} {a1 a2 a3 a4 a5 a6 a7 a8 a9 a10 a11 a12 a13 a14 a15 : Nat → Int32} {post : Int32 → Prop} {M : Nat → Nat} {g : Nat} (h6 : ∀ k, k < 6 → a6 k = nI (M k)) (hM : ∀ k, k < 6 → M k < 256) (hg : g < 8) (H : post (nI (rr_ct (fun k => (M k).testBit g = true) 6))) : wpX_countMost post (f0, a1, a2, a3, a4, a5, a6, a7, a8, a9, a10, a11, a12, a13, a14, a15) (nI g) := by
  unfold wpX_countMost
  refine rr_badGroup hg (br_t rfl ?_)
  refine pk_loop (σ := Unit) (fun n i _ => wX_countMost_14 post (nI g) f0 a1 a2 a3 a4 a5 a6 a7 a8 a9 a10 a11 a12 a13 a14 a15 n (nI (rr_ct (fun k => (M k).testBit g = true) i)) (nI i)) (fun _ _ => True) 6 0 () (by omega) trivial (fun n _ _ => pk_le 6 6 (fun _ => H) (fun z => absurd z (by omega))) ?_
  intro n i _ hi _ hw
  have hMi := hM i hi
  refine pk_le 6 i (fun z => absurd z (by omega)) (fun _ => ?_)
  rw [nI_clamp (show i < 2 ^ 31 by omega), h6 i hi]
  exact ⟨pk_in i 6 hi, nm_r (rr_bitct (q := fun k => (M k).testBit g = true) (fun _ => 0) (by omega) (by omega) Iff.rfl) (nm_r (nI_1 i) (hw () trivial))⟩
def rr_rp (W : Nat → Nat) : Nat → Int32
  | 0 => 1
  | k + 1 => if 0 < W k then rr_rp W k * nI (W k) else rr_rp W k
theorem rr_repairs {f0 : Int32} {a1 a2 a3 a4 a5 a6 a7 a8 a9 a10 a11 a12 a13 a14 a15 : Nat → Int32} {post : Int32 → Prop} {W : Nat → Nat} (h5 : ∀ k, k < 6 → a5 k = nI (W k)) (hW : ∀ k, k < 6 → W k < 100) (H : post (rr_rp W 6)) : wpX_repairs post (f0, a1, a2, a3, a4, a5, a6, a7, a8, a9, a10, a11, a12, a13, a14, a15) := by
  show ∃ fu, wX_repairs_4 post f0 a1 a2 a3 a4 a5 a6 a7 a8 a9 a10 a11 a12 a13 a14 a15 fu 1 0
  refine pk_loop (σ := Unit) (fun n i _ => wX_repairs_4 post f0 a1 a2 a3 a4 a5 a6 a7 a8 a9 a10 a11 a12 a13 a14 a15 n (rr_rp W i) (nI i)) (fun _ _ => True) 6 0 () (by omega) trivial (fun n _ _ => pk_le 6 6 (fun _ => H) (fun z => absurd z (by omega))) ?_
  intro n i _ hi _ hw
  have hWi := hW i hi
  have t : wX_repairs_4 post f0 a1 a2 a3 a4 a5 a6 a7 a8 a9 a10 a11 a12 a13 a14 a15 n (rr_rp W (i + 1)) (nI (i + 1)) := hw () trivial
  refine pk_le 6 i (fun z => absurd z (by omega)) (fun _ => ?_)
  rw [nI_clamp (show i < 2 ^ 31 by omega), h5 i hi]
  refine ⟨pk_in i 6 hi, pk_le (W i) 0 (fun z => nm_r (nI_1 i) ?_) (fun z => ⟨pk_in i 6 hi, nm_r (e' := rr_rp W (i + 1)) (if_pos z).symm (nm_r (nI_1 i) t)⟩)⟩
  rw [show rr_rp W (i + 1) = rr_rp W i from if_neg (by omega)] at t
  exact t
end
section
/-! ===== shift: the hole moves back along by ===== -/
theorem rr_shift {f0 : Int32} {a1 a2 a3 a4 a5 a6 a7 a8 a9 a10 a11 a12 a13 a14 a15 : Nat → Int32} {post : St1 → Prop} {h0 B rk : Nat → Nat} {g0 key : Nat} (P : (Nat → Nat) → Nat → Prop) (hkey : key < 6) (hP : P h0 g0) (hrk : rk g0 ≤ 8)
    (hs : ∀ h g, P h g → g < 8 ∧ (B g < 8 → P (rr_up h g (h (B g))) (B g) ∧ rk (B g) < rk g))
    (h8 : ∀ x, x < 8 → a8 x = rr_iv 6 (h0 x)) (h10 : ∀ x, x < 8 → a10 x = rr_iv 8 (B x))
    (H : ∀ h r b8, P h r → r < 8 → ¬ B r < 8 → (∀ x, x < 8 → b8 x = rr_iv 6 (rr_up h r key x)) → post (f0, a1, a2, a3, a4, a5, a6, a7, b8, a9, a10, a11, a12, a13, a14, a15)) : wpX_shift post (f0, a1, a2, a3, a4, a5, a6, a7, a8, a9, a10, a11, a12, a13, a14, a15) (nI g0) (nI key) := by
  show ∃ fu, wX_shift_5 post (nI key) f0 fu (nI g0) 0 a1 a2 a3 a4 a5 a6 a7 a8 a9 a10 a11 a12 a13 a14 a15
  refine pk_loop (σ := (Nat → Nat) × Nat × (Nat → Int32)) (fun n i s => wX_shift_5 post (nI key) f0 n (nI s.2.1) (nI i) a1 a2 a3 a4 a5 a6 a7 s.2.2 a9 a10 a11 a12 a13 a14 a15) (fun i s => P s.1 s.2.1 ∧ rk s.2.1 + i ≤ 8 ∧ ∀ x, x < 8 → s.2.2 x = rr_iv 6 (s.1 x)) 8 0 (h0, g0, a8) (by omega) ⟨hP, hrk, h8⟩ ?_ ?_
  · intro n s h
    obtain ⟨hp, hr, ha⟩ := h
    obtain ⟨q1, q2⟩ := hs _ _ hp
    refine pk_le 8 8 (fun _ => ?_) (fun z => absurd z (by omega))
    rw [nI_clamp (show s.2.1 < 2 ^ 31 by omega)]
    exact ⟨pk_in _ 8 q1, nm_e (H s.1 s.2.1 _ hp q1 (fun z => by have := (q2 z).2; omega) (rr_putU ha (rr_iv_lt hkey).symm))⟩
  · intro n i s hi h hw
    obtain ⟨hp, hr, ha⟩ := h
    obtain ⟨q1, q2⟩ := hs _ _ hp
    refine pk_le 8 i (fun z => absurd z (by omega)) (fun _ => ?_)
    rw [nI_clamp (show s.2.1 < 2 ^ 31 by omega), h10 _ q1]
    refine ⟨pk_in _ 8 q1, ?_⟩
    by_cases c : B s.2.1 < 8
    · obtain ⟨q3, q4⟩ := q2 c
      refine br_f (fun z => (rr_iv_neg (by decide)).mp z c) ?_
      rw [rr_iv_lt c, nI_clamp (show B s.2.1 < 2 ^ 31 by omega)]
      refine ⟨pk_in _ 8 q1, pk_in _ 8 c, pk_in _ 8 q1, nm_e ⟨pk_in _ 8 q1, nm_e (nm_r (nI_1 i) (hw (rr_up s.1 s.2.1 (s.1 (B s.2.1)), B s.2.1, _) ⟨q3, ?_, rr_putU ha (ha _ c)⟩))⟩⟩
      show rk (B s.2.1) + (i + 1) ≤ 8
      omega
    · exact br_t ((rr_iv_neg (by decide)).mpr c) ⟨pk_in _ 8 q1, nm_e (H s.1 s.2.1 _ hp q1 c (rr_putU ha (rr_iv_lt hkey).symm))⟩
/-! ===== place: breadth-first ===== -/
/-- the search: rk x is x's place in the line of e; seen is a11 -/
def rr_bq (M h : Nat → Nat) (key e : Nat) (rk B : Nat → Nat) (a10 a11 a12 : Nat → Int32) : Prop :=
  (∀ x, x < 8 → a11 x = 0 ∨ a11 x = 1) ∧ e = rr_ct (fun x => a11 x = 1) 8 ∧ (∀ x, x < 8 → a10 x = rr_iv 8 (B x)) ∧
  (∀ j, j < e → ∃ x, x < 8 ∧ a11 x = 1 ∧ a12 j = nI x ∧ rk x = j) ∧ (∀ x, x < 8 → a11 x = 1 → rk x < e ∧ a12 (rk x) = nI x) ∧
  (∀ x, x < 8 → (M key).testBit x = true → a11 x = 1) ∧
  (∀ x, x < 8 → a11 x = 1 → B x < 8 → B x ≠ x ∧ a11 (B x) = 1 ∧ h (B x) < 6 ∧ (M (h (B x))).testBit x = true ∧ rk (B x) < rk x) ∧
  (∀ x, x < 8 → a11 x = 1 → ¬ B x < 8 → (M key).testBit x = true)
/-- the first i of the line have been gone out from -/
def rr_bp (M h : Nat → Nat) (i : Nat) (rk : Nat → Nat) (a11 : Nat → Int32) : Prop :=
  ∀ x, x < 8 → a11 x = 1 → rk x < i → h x < 6 ∧ ∀ y, y < 8 → (M (h x)).testBit y = true → a11 y = 1
theorem rr_bq_push {M h : Nat → Nat} {key e : Nat} {rk B : Nat → Nat} {a10 a11 a12 : Nat → Int32} {g y : Nat} (H : rr_bq M h key e rk B a10 a11 a12) (hg : g < 8) (hg1 : a11 g = 1) (hh : h g < 6) (hy : y < 8) (hy0 : a11 y = 0) (ht : (M (h g)).testBit y = true) :
    e < 8 ∧ rr_bq M h key (e + 1) (rr_up rk y e) (rr_up B y g) (upd a10 y (nI g)) (upd a11 y 1) (upd a12 e (nI y)) := by
  obtain ⟨h1, h2, h3, h4, h5, h6, h7, h8⟩ := H
  have hne0 : ∀ x, a11 x = 1 → x ≠ y := fun x hx z => by rw [z, hy0] at hx; exact absurd hx (by decide)
  have he : e < 8 := by
    rw [h2]
    exact rr_ct_lt hy (fun z => absurd (hy0.symm.trans z) (by decide))
  have sn : ∀ x, upd a11 y 1 x = 1 ↔ (a11 x = 1 ∨ x = y) := fun x => by
    by_cases c : x = y
    · rw [c, pk_us]; exact ⟨fun _ => Or.inr rfl, fun _ => rfl⟩
    · rw [pk_un c]; exact ⟨Or.inl, fun z => z.elim id (fun t => absurd t c)⟩
  refine ⟨he, fun x hx => ?_, ?_, rr_putU h3 (rr_iv_lt hg).symm, fun j hj => ?_, fun x hx hs => ?_, fun x hx htx => (sn x).mpr (Or.inl (h6 x hx htx)), fun x hx hs hB => ?_, fun x hx hs hB => ?_⟩
  · by_cases c : x = y
    · rw [c, pk_us]; exact Or.inr rfl
    · rw [pk_un c]; exact h1 x hx
  · rw [rr_ct_add (p := fun x => a11 x = 1) (j := y) (fun z => hne0 y z rfl) 8 hy (fun x _ => sn x), ← h2]
  · by_cases c : j = e
    · exact ⟨y, hy, (sn y).mpr (Or.inr rfl), by rw [c, pk_us], by rw [rr_up_s, c]⟩
    · obtain ⟨x, hx, q1, q2, q3⟩ := h4 j (by omega)
      exact ⟨x, hx, (sn x).mpr (Or.inl q1), by rw [pk_un c, q2], by rw [rr_up_n (hne0 x q1), q3]⟩
  · rcases (sn x).mp hs with c | c
    · obtain ⟨q1, q2⟩ := h5 x hx c
      rw [rr_up_n (hne0 x c), pk_un (by omega)]
      exact ⟨by omega, q2⟩
    · rw [c, rr_up_s, pk_us]
      exact ⟨by omega, rfl⟩
  · rcases (sn x).mp hs with c | c
    · have n1 := hne0 x c
      rw [rr_up_n n1] at hB ⊢
      obtain ⟨q1, q2, q3, q4, q5⟩ := h7 x hx c hB
      rw [rr_up_n n1, rr_up_n (hne0 _ q2)]
      exact ⟨q1, (sn _).mpr (Or.inl q2), q3, q4, q5⟩
    · rw [c, rr_up_s, rr_up_s, rr_up_n (hne0 g hg1)]
      exact ⟨hne0 g hg1, (sn g).mpr (Or.inl hg1), hh, ht, (h5 g hg hg1).1⟩
  · rcases (sn x).mp hs with c | c
    · rw [rr_up_n (hne0 x c)] at hB
      exact h8 x hx c hB
    · rw [c, rr_up_s] at hB
      exact absurd hg hB
theorem rr_bp_push {M h : Nat → Nat} {key e i : Nat} {rk B : Nat → Nat} {a10 a11 a12 : Nat → Int32} {y : Nat} (H : rr_bq M h key e rk B a10 a11 a12) (hp : rr_bp M h i rk a11) (hi : i ≤ e) (hy : y < 8) (hy0 : a11 y = 0) : rr_bp M h i (rr_up rk y e) (upd a11 y 1) := by
  intro x hx hs hr
  by_cases c : x = y
  · rw [c, rr_up_s] at hr
    omega
  · rw [pk_un c] at hs
    rw [rr_up_n c] at hr
    obtain ⟨q1, q2⟩ := hp x hx hs hr
    refine ⟨q1, fun z hz htz => ?_⟩
    by_cases c' : z = y
    · rw [c', pk_us]
    · rw [pk_un c']; exact q2 z hz htz
end
section
/-! ===== the walk of place ===== -/
abbrev rr_Bs : Type := Nat × (Nat → Nat) × (Nat → Nat) × (Nat → Int32) × (Nat → Int32) × (Nat → Int32)
theorem rr_place139 {f0 : Int32} {a1 a2 a3 a4 a5 a6 a7 a8 a9 a10 a11 a12 a13 a14 a15 : Nat → Int32} {post : Int32 → St1 → Prop} {J : Int32 → Int32 → (Nat → Int32) → (Nat → Int32) → (Nat → Int32) → (Nat → Int32) → (Nat → Int32) → (Nat → Int32) → (Nat → Int32) → (Nat → Int32) → (Nat → Int32) → (Nat → Int32) → (Nat → Int32) → (Nat → Int32) → (Nat → Int32) → (Nat → Int32) → (Nat → Int32) → Prop} {x1 x2 : Int32}
    {M h : Nat → Nat} {key e i g : Nat} {rk B : Nat → Nat} (hM : ∀ k, k < 6 → M k < 256) (hq : rr_bq M h key e rk B a10 a11 a12) (hp : rr_bp M h i rk a11) (hi : i < e) (hg : g < 8) (hg1 : a11 g = 1) (hgi : rk g = i) (hh : h g < 6)
    (HJ : ∀ e' rk' B' b10 b11 b12, rr_bq M h key e' rk' B' b10 b11 b12 → rr_bp M h (i + 1) rk' b11 → i < e' → J (nI e') (nI (i + 1)) a1 a2 a3 a4 a5 a6 a7 a8 a9 b10 b11 b12 a13 a14 a15) :
    ∃ fu, wX_place_139 post J x1 x2 (nI i) (nI g) (nI (M (h g))) f0 fu (nI e) 0 a1 a2 a3 a4 a5 a6 a7 a8 a9 a10 a11 a12 a13 a14 a15 := by
  have hMg := hM _ hh
  refine pk_loop (σ := rr_Bs) (fun n y s => wX_place_139 post J x1 x2 (nI i) (nI g) (nI (M (h g))) f0 n (nI s.1) (nI y) a1 a2 a3 a4 a5 a6 a7 a8 a9 s.2.2.2.1 s.2.2.2.2.1 s.2.2.2.2.2 a13 a14 a15)
    (fun y s => rr_bq M h key s.1 s.2.1 s.2.2.1 s.2.2.2.1 s.2.2.2.2.1 s.2.2.2.2.2 ∧ rr_bp M h i s.2.1 s.2.2.2.2.1 ∧ i < s.1 ∧ s.2.2.2.2.1 g = 1 ∧ s.2.1 g = i ∧ ∀ z, z < y → (M (h g)).testBit z = true → s.2.2.2.2.1 z = 1) 8 0 (e, rk, B, a10, a11, a12) (by omega) ⟨hq, hp, hi, hg1, hgi, fun z hz => absurd hz (by omega)⟩ ?_ ?_
  · intro n s hI
    obtain ⟨e', rk', B', b10, b11, b12⟩ := s
    dsimp only at hI
    obtain ⟨q, p, hie, g1, gi, ha⟩ := hI
    refine pk_le 8 8 (fun _ => nm_r (nI_1 i) (HJ e' rk' B' b10 b11 b12 q (fun x hx hs hr => ?_) hie)) (fun z => absurd z (by omega))
    by_cases c : rk' x < i
    · exact p x hx hs c
    · have e1 := (q.2.2.2.2.1 x hx hs).2
      have e2 := (q.2.2.2.2.1 g hg g1).2
      rw [gi] at e2
      rw [show rk' x = i by omega, e2] at e1
      have : g = x := (nI_eq (by omega) (by omega)).mp e1
      subst this
      exact ⟨hh, ha⟩
  · intro n y s hy hI hw
    obtain ⟨e', rk', B', b10, b11, b12⟩ := s
    dsimp only at hI
    obtain ⟨q, p, hie, g1, gi, ha⟩ := hI
    have he8 : e' ≤ 8 := by rw [q.2.1]; exact rr_ct_le _ 8
    refine pk_le 8 y (fun z => absurd z (by omega)) (fun _ => ?_)
    rw [nI_clamp (show y < 2 ^ 31 by omega)]
    refine ek_if (rr_bit1 (by omega) (by omega)) (fun t => ⟨pk_in y 8 hy, ?_⟩) (fun t => nm_r (nI_1 y) (hw (e', rk', B', b10, b11, b12) ⟨q, p, hie, g1, gi, lt_s ha (fun z => absurd z t)⟩))
    refine br_c (fun c => ?_) (fun c => nm_r (nI_1 y) (hw (e', rk', B', b10, b11, b12) ⟨q, p, hie, g1, gi, lt_s ha (fun _ => ?_)⟩))
    · obtain ⟨he, q'⟩ := rr_bq_push q hg g1 hh hy c t
      have p' := rr_bp_push q p (by omega) hy c
      have ngy : g ≠ y := fun z => by
        have c' : b11 y = 0 := c
        rw [← z, g1] at c'
        exact absurd c' (by decide)
      refine ⟨pk_in y 8 hy, nm_e ⟨pk_in y 8 hy, nm_e ⟨pk_in e' 8 he, ?_⟩⟩⟩
      show ∀ b, b = upd b12 (nI e').toNatClampNeg (nI y) → _
      rw [nI_clamp (show e' < 2 ^ 31 by omega)]
      refine nm_e (nm_r (nI_1 e') (nm_r (nI_1 y) (hw (e' + 1, rr_up rk' y e', rr_up B' y g, upd b10 y (nI g), upd b11 y 1, upd b12 e' (nI y)) ⟨q', p', Nat.lt_succ_of_lt hie, ?_, ?_, ?_⟩)))
      · show upd b11 y 1 g = 1
        rw [pk_un ngy]; exact g1
      · show rr_up rk' y e' g = i
        rw [rr_up_n ngy]; exact gi
      · show ∀ z, z < y + 1 → (M (h g)).testBit z = true → upd b11 y 1 z = 1
        intro z hz htz
        by_cases cz : z = y
        · rw [cz, pk_us]
        · rw [pk_un cz]; exact ha z (by omega) htz
    · exact (q.1 y hy).elim (fun z => absurd z c) id
theorem rr_bq_fail {M h : Nat → Nat} {key e i : Nat} {rk B : Nat → Nat} {a10 a11 a12 : Nat → Int32} (q : rr_bq M h key e rk B a10 a11 a12) (p : rr_bp M h i rk a11) (hi : e ≤ i) : rr_fail M h key :=
  ⟨fun x => a11 x = 1, fun x hx hs => p x hx hs (Nat.lt_of_lt_of_le (q.2.2.2.2.1 x hx hs).1 hi), q.2.2.2.2.2.1⟩
theorem rr_place79 {f0 : Int32} {a1 a2 a3 a4 a5 a6 a7 a8 a9 a10 a11 a12 a13 a14 a15 : Nat → Int32} {post : Int32 → St1 → Prop} {M h : Nat → Nat} {key e : Nat} {rk B : Nat → Nat} (hkey : key < 6) (h6 : ∀ k, k < 6 → a6 k = nI (M k)) (hM : ∀ k, k < 6 → M k < 256) (h8 : ∀ x, x < 8 → a8 x = rr_iv 6 (h x)) (hv : rr_val M h) (hnew : ∀ x, x < 8 → h x ≠ key)
    (hq : rr_bq M h key e rk B a10 a11 a12)
    (Hf : ∀ b10 b11 b12, rr_fail M h key → post 0 (f0, a1, a2, a3, a4, a5, a6, a7, a8, a9, b10, b11, b12, a13, a14, a15))
    (Hs : ∀ h' b8 b10 b11 b12, rr_aug M h key h' → (∀ x, x < 8 → b8 x = rr_iv 6 (h' x)) → post 1 (f0, a1, a2, a3, a4, a5, a6, a7, b8, a9, b10, b11, b12, a13, a14, a15)) :
    ∃ fu, wX_place_79 post (nI key) 255 f0 fu (nI e) 0 a1 a2 a3 a4 a5 a6 a7 a8 a9 a10 a11 a12 a13 a14 a15 := by
  refine pk_loop (σ := rr_Bs) (fun n i s => wX_place_79 post (nI key) 255 f0 n (nI s.1) (nI i) a1 a2 a3 a4 a5 a6 a7 a8 a9 s.2.2.2.1 s.2.2.2.2.1 s.2.2.2.2.2 a13 a14 a15)
    (fun i s => rr_bq M h key s.1 s.2.1 s.2.2.1 s.2.2.2.1 s.2.2.2.2.1 s.2.2.2.2.2 ∧ rr_bp M h i s.2.1 s.2.2.2.2.1 ∧ i ≤ s.1) 8 0 (e, rk, B, a10, a11, a12) (by omega) ⟨hq, fun x _ _ z => absurd z (by omega), Nat.zero_le _⟩ ?_ ?_
  · intro n s hI
    obtain ⟨e', rk', B', b10, b11, b12⟩ := s
    dsimp only at hI
    obtain ⟨q, p, hie⟩ := hI
    have he8 : e' ≤ 8 := by rw [q.2.1]; exact rr_ct_le _ 8
    exact pk_le e' 8 (fun _ => Hf b10 b11 b12 (rr_bq_fail q p he8)) (fun z => absurd z (by omega))
  · intro n i s hi hI hw
    obtain ⟨e', rk', B', b10, b11, b12⟩ := s
    dsimp only at hI
    obtain ⟨q, p, hie⟩ := hI
    have he8 : e' ≤ 8 := by rw [q.2.1]; exact rr_ct_le _ 8
    refine pk_le e' i (fun z => Hf b10 b11 b12 (rr_bq_fail q p z)) (fun z => pk_le 8 i (fun z' => absurd z' (by omega)) (fun _ => ⟨pk_in i 8 hi, ?_⟩))
    obtain ⟨g, hg, g1, ge, gr⟩ := q.2.2.2.1 i z
    rw [nI_clamp (show i < 2 ^ 31 by omega)]
    refine nm_r (e' := nI g) ge ?_
    rw [nI_clamp (show g < 2 ^ 31 by omega), h8 g hg]
    refine ⟨pk_in g 8 hg, ?_⟩
    by_cases c : h g < 6
    · refine br_t ((rr_iv_pos (by decide)).mpr c) ?_
      rw [rr_iv_lt c, nI_clamp (show h g < 2 ^ 31 by omega), h6 _ c]
      exact ⟨pk_in g 8 hg, pk_in _ 6 c, nm_r (rr_m255 (hM _ c)) (rr_place139 hM q p z hg g1 gr c (fun e2 rk2 B2 b10' b11' b12' q' p' hie' => hw (e2, rk2, B2, b10', b11', b12') ⟨q', p', hie'⟩))⟩
    · refine br_f (fun z => c ((rr_iv_pos (by decide)).mp z)) ?_
      refine rr_shift (rk := rk') (rr_P M h g (fun x => b11 x = 1) rk') hkey (rr_P0 hv hg c g1) (by rw [gr]; omega) (fun h1 x hP => ⟨hP.1, fun hB => ?_⟩) h8 q.2.2.1 (fun h1 r b8 hP hr hB hb8 => Hs (rr_up h1 r key) b8 b10 b11 b12 (rr_PE hP hkey hg c (q.2.2.2.2.2.2.2 r hr hP.2.1 hB) hnew) hb8)
      obtain ⟨w1, w2, w3, w4, w5⟩ := q.2.2.2.2.2.2.1 x hP.1 hP.2.1 hB
      exact ⟨rr_PS hP hB w2 w3 w4 w1 w5, w5⟩
theorem rr_vb1 : vp_nar .boolean 1 = 1 := by decide
theorem rr_vb0 : vp_nar .boolean 0 = 0 := by decide
/-- the first loop of place: the key's own groups -/
def rr_b0 (m e g : Nat) (rk : Nat → Nat) (a10 a11 a12 : Nat → Int32) : Prop :=
  e = rr_ct (fun x => m.testBit x = true) g ∧ (∀ x, x < g → a10 x = -1) ∧ (∀ x, x < g → m.testBit x = true → a11 x = 1) ∧ (∀ x, x < g → ¬ m.testBit x = true → a11 x = 0) ∧
  (∀ j, j < e → ∃ x, x < g ∧ m.testBit x = true ∧ a12 j = nI x ∧ rk x = j) ∧ (∀ x, x < g → m.testBit x = true → rk x < e ∧ a12 (rk x) = nI x)
theorem rr_b0_bq {M h : Nat → Nat} {key e : Nat} {rk : Nat → Nat} {a10 a11 a12 : Nat → Int32} (H : rr_b0 (M key) e 8 rk a10 a11 a12) : rr_bq M h key e rk (fun _ => 8) a10 a11 a12 := by
  obtain ⟨h1, h2, h3, h4, h5, h6⟩ := H
  have sn : ∀ x, x < 8 → (a11 x = 1 ↔ (M key).testBit x = true) := fun x hx => ⟨fun z => Classical.byContradiction (fun c => by rw [h4 x hx c] at z; exact absurd z (by decide)), h3 x hx⟩
  refine ⟨fun x hx => ?_, h1.trans (rr_ct_congr 8 (fun x hx => (sn x hx).symm)), fun x hx => h2 x hx, fun j hj => ?_, fun x hx z => h6 x hx ((sn x hx).mp z), fun x hx => (sn x hx).mpr, fun x hx z hB => absurd hB (Nat.lt_irrefl 8), fun x hx z _ => (sn x hx).mp z⟩
  · by_cases c : (M key).testBit x = true
    · exact Or.inr (h3 x hx c)
    · exact Or.inl (h4 x hx c)
  · obtain ⟨x, hx, q1, q2, q3⟩ := h5 j hj
    exact ⟨x, hx, (sn x hx).mpr q1, q2, q3⟩
theorem rr_b0_t {m e g : Nat} {rk : Nat → Nat} {a10 a11 a12 : Nat → Int32} (H : rr_b0 m e g rk a10 a11 a12) (ht : m.testBit g = true) : rr_b0 m (e + 1) (g + 1) (rr_up rk g e) (upd a10 g (-1)) (upd a11 g 1) (upd a12 e (nI g)) := by
  obtain ⟨h1, h2, h3, h4, h5, h6⟩ := H
  refine ⟨by rw [rr_ct_t (p := fun x => m.testBit x = true) ht, h1], fun x hx => ?_, fun x hx t => ?_, fun x hx t => ?_, fun j hj => ?_, fun x hx t => ?_⟩
  · by_cases c : x = g
    · rw [c, pk_us]
    · rw [pk_un c]; exact h2 x (by omega)
  · by_cases c : x = g
    · rw [c, pk_us]
    · rw [pk_un c]; exact h3 x (by omega) t
  · by_cases c : x = g
    · rw [c] at t; exact absurd ht t
    · rw [pk_un c]; exact h4 x (by omega) t
  · by_cases c : j = e
    · exact ⟨g, by omega, ht, by rw [c, pk_us], by rw [rr_up_s, c]⟩
    · obtain ⟨x, hx, q1, q2, q3⟩ := h5 j (by omega)
      exact ⟨x, by omega, q1, by rw [pk_un c, q2], by rw [rr_up_n (by omega), q3]⟩
  · by_cases c : x = g
    · rw [c, rr_up_s, pk_us]; exact ⟨by omega, rfl⟩
    · obtain ⟨q1, q2⟩ := h6 x (by omega) t
      rw [rr_up_n c, pk_un (by omega)]
      exact ⟨by omega, q2⟩
theorem rr_b0_f {m e g : Nat} {rk : Nat → Nat} {a10 a11 a12 : Nat → Int32} (H : rr_b0 m e g rk a10 a11 a12) (ht : ¬ m.testBit g = true) : rr_b0 m e (g + 1) rk (upd a10 g (-1)) (upd a11 g 0) a12 := by
  obtain ⟨h1, h2, h3, h4, h5, h6⟩ := H
  refine ⟨by rw [rr_ct_f (p := fun x => m.testBit x = true) ht, h1], fun x hx => ?_, fun x hx t => ?_, fun x hx t => ?_, fun j hj => ?_, fun x hx t => ?_⟩
  · by_cases c : x = g
    · rw [c, pk_us]
    · rw [pk_un c]; exact h2 x (by omega)
  · by_cases c : x = g
    · rw [c] at t; exact absurd t ht
    · rw [pk_un c]; exact h3 x (by omega) t
  · by_cases c : x = g
    · rw [c, pk_us]
    · rw [pk_un c]; exact h4 x (by omega) t
  · obtain ⟨x, hx, q⟩ := h5 j hj
    exact ⟨x, by omega, q⟩
  · by_cases c : x = g
    · rw [c] at t; exact absurd t ht
    · exact h6 x (by omega) t
theorem rr_place {f0 : Int32} {a1 a2 a3 a4 a5 a6 a7 a8 a9 a10 a11 a12 a13 a14 a15 : Nat → Int32} {post : Int32 → St1 → Prop} {M h : Nat → Nat} {key : Nat} (hkey : key < 6) (h6 : ∀ k, k < 6 → a6 k = nI (M k)) (hM : ∀ k, k < 6 → M k < 256) (h8 : ∀ x, x < 8 → a8 x = rr_iv 6 (h x)) (hv : rr_val M h) (hnew : ∀ x, x < 8 → h x ≠ key)
    (Hf : ∀ b10 b11 b12, rr_fail M h key → post 0 (f0, a1, a2, a3, a4, a5, a6, a7, a8, a9, b10, b11, b12, a13, a14, a15))
    (Hs : ∀ h' b8 b10 b11 b12, rr_aug M h key h' → (∀ x, x < 8 → b8 x = rr_iv 6 (h' x)) → post 1 (f0, a1, a2, a3, a4, a5, a6, a7, b8, a9, b10, b11, b12, a13, a14, a15)) :
    wpX_place post (f0, a1, a2, a3, a4, a5, a6, a7, a8, a9, a10, a11, a12, a13, a14, a15) (nI key) 255 := by
  show ∃ fu, wX_place_5 post (nI key) 255 f0 fu 0 0 a1 a2 a3 a4 a5 a6 a7 a8 a9 a10 a11 a12 a13 a14 a15
  have hMk := hM key hkey
  refine pk_loop (σ := Nat × (Nat → Nat) × (Nat → Int32) × (Nat → Int32) × (Nat → Int32)) (fun n g s => wX_place_5 post (nI key) 255 f0 n (nI s.1) (nI g) a1 a2 a3 a4 a5 a6 a7 a8 a9 s.2.2.1 s.2.2.2.1 s.2.2.2.2 a13 a14 a15)
    (fun g s => rr_b0 (M key) s.1 g s.2.1 s.2.2.1 s.2.2.2.1 s.2.2.2.2) 8 0 (0, fun _ => 0, a10, a11, a12) (by omega) ⟨rfl, fun x hx => absurd hx (by omega), fun x hx => absurd hx (by omega), fun x hx => absurd hx (by omega), fun x hx => absurd hx (by omega), fun x hx => absurd hx (by omega)⟩ ?_ ?_
  · intro n s hI
    obtain ⟨e', rk', b10, b11, b12⟩ := s
    exact pk_le 8 8 (fun _ => rr_place79 hkey h6 hM h8 hv hnew (rr_b0_bq hI) Hf Hs) (fun z => absurd z (by omega))
  · intro n g s hg hI hw
    obtain ⟨e', rk', b10, b11, b12⟩ := s
    dsimp only at hI
    have he : e' ≤ g := by rw [hI.1]; exact rr_ct_le _ g
    refine pk_le 8 g (fun z => absurd z (by omega)) (fun _ => ⟨pk_in key 6 hkey, ?_⟩)
    rw [nI_clamp (show key < 2 ^ 31 by omega), h6 key hkey, rr_m255 hMk]
    refine ek_if (rr_bit1 (by omega) (by omega)) (fun t => ?_) (fun t => ?_)
    · unfold wX_place_40
      rw [nI_clamp (show g < 2 ^ 31 by omega), rr_vb1]
      refine ⟨pk_in g 8 hg, nm_e ⟨pk_in g 8 hg, nm_e ⟨pk_in g 8 hg, ?_⟩⟩⟩
      show (upd b11 g 1 g = 0 → _) ∧ (¬ upd b11 g 1 g = 0 → vp_in (nI e') 8 ∧ ∀ b, b = upd b12 (nI e').toNatClampNeg (nI g) → _)
      rw [nI_clamp (show e' < 2 ^ 31 by omega), pk_us]
      exact br_f (by decide) ⟨pk_in e' 8 (by omega), nm_e (nm_r (nI_1 e') (nm_r (nI_1 g) (hw (e' + 1, rr_up rk' g e', upd b10 g (-1), upd b11 g 1, upd b12 e' (nI g)) (rr_b0_t hI t))))⟩
    · unfold wX_place_40
      rw [nI_clamp (show g < 2 ^ 31 by omega), rr_vb0]
      refine ⟨pk_in g 8 hg, nm_e ⟨pk_in g 8 hg, nm_e ⟨pk_in g 8 hg, ?_⟩⟩⟩
      rw [pk_us]
      exact br_t rfl (nm_r (nI_1 g) (hw (e', rk', upd b10 g (-1), upd b11 g 0, b12) (rr_b0_f hI t)))
end
section
/-! ===== matching, groupsMost ===== -/
theorem rr_aug_ct {M h h' : Nat → Nat} {key : Nat} (H : rr_aug M h key h') : rr_ct (fun g => h' g < 6) 8 = rr_ct (fun g => h g < 6) 8 + 1 := by
  obtain ⟨_, _, ⟨fr, hf, hn, hx⟩, _⟩ := H
  exact rr_ct_add (p := fun g => h g < 6) (j := fr) hn 8 hf hx
/-- ahead of key k -/
def rr_mt (M h : Nat → Nat) (k : Nat) : Prop :=
  rr_val M h ∧ (∀ x, x < 8 → h x < 6 → h x < k) ∧ ∃ R, rr_closed M h R ∧ ∀ j, j < k → (∃ x, x < 8 ∧ h x = j) ∨ ∀ y, y < 8 → (M j).testBit y = true → R y
theorem rr_mt_new {M h : Nat → Nat} {k : Nat} (hk : k < 6) (H : rr_mt M h k) : ∀ x, x < 8 → h x ≠ k := fun x hx e => by
  have := H.2.1 x hx (by rw [e]; exact hk)
  omega
theorem rr_mt_f {M h : Nat → Nat} {k : Nat} (H : rr_mt M h k) (hf : rr_fail M h k) : rr_mt M h (k + 1) := by
  obtain ⟨h1, h2, R, h3, h4⟩ := H
  obtain ⟨S, s1, s2⟩ := hf
  refine ⟨h1, fun x hx hl => Nat.lt_succ_of_lt (h2 x hx hl), fun x => R x ∨ S x, fun x hx z => ?_, fun j hj => ?_⟩
  · rcases z with z | z
    · exact ⟨(h3 x hx z).1, fun y hy t => Or.inl ((h3 x hx z).2 y hy t)⟩
    · exact ⟨(s1 x hx z).1, fun y hy t => Or.inr ((s1 x hx z).2 y hy t)⟩
  · by_cases e : j = k
    · rw [e]
      exact Or.inr (fun y hy t => Or.inr (s2 y hy t))
    · exact (h4 j (by omega)).imp id (fun z y hy t => Or.inl (z y hy t))
theorem rr_mt_s {M h h' : Nat → Nat} {k : Nat} (hk : k < 6) (H : rr_mt M h k) (ha : rr_aug M h k h') : rr_mt M h' (k + 1) := by
  obtain ⟨h1, h2, R, h3, h4⟩ := H
  obtain ⟨q1, q2, q3, q4⟩ := ha
  refine ⟨q1, fun x hx hl => ?_, R, q4 R h3, fun j hj => ?_⟩
  · rcases (q2 (h' x) hl).mp ⟨x, hx, rfl⟩ with z | ⟨y, hy, ey⟩
    · omega
    · have := h2 y hy (by rw [ey]; exact hl)
      omega
  · by_cases e : j = k
    · exact Or.inl ((q2 j (by omega)).mpr (Or.inl e))
    · exact (h4 j (by omega)).imp (fun z => (q2 j (by omega)).mpr (Or.inr z)) id
theorem rr_mt_0 {M h : Nat → Nat} (h0 : ∀ x, x < 8 → ¬ h x < 6) : rr_mt M h 0 :=
  ⟨⟨fun x hx hl => absurd hl (h0 x hx), fun x y hx _ hl => absurd hl (h0 x hx)⟩, fun x hx hl => absurd hl (h0 x hx), fun _ => False, fun _ _ f => f.elim, fun j hj => absurd hj (by omega)⟩
theorem rr_matching25 {f0 : Int32} {a1 a2 a3 a4 a5 a6 a7 a8 a9 a10 a11 a12 a13 a14 a15 : Nat → Int32} {post : Int32 → St1 → Prop} {M h : Nat → Nat} (h6 : ∀ k, k < 6 → a6 k = nI (M k)) (hM : ∀ k, k < 6 → M k < 256) (h8 : ∀ x, x < 8 → a8 x = rr_iv 6 (h x)) (hm : rr_mt M h 0) (hc : rr_ct (fun g => h g < 6) 8 = 0)
    (H : ∀ n b8 b10 b11 b12, n ≤ 8 → rr_MM M n → post (nI n) (f0, a1, a2, a3, a4, a5, a6, a7, b8, a9, b10, b11, b12, a13, a14, a15)) : ∃ fu, wX_matching_25 post 255 fu 0 0 f0 a1 a2 a3 a4 a5 a6 a7 a8 a9 a10 a11 a12 a13 a14 a15 := by
  refine pk_loop (σ := Nat × (Nat → Nat) × (Nat → Int32) × (Nat → Int32) × (Nat → Int32) × (Nat → Int32)) (fun m k s => wX_matching_25 post 255 m (nI s.1) (nI k) f0 a1 a2 a3 a4 a5 a6 a7 s.2.2.1 a9 s.2.2.2.1 s.2.2.2.2.1 s.2.2.2.2.2 a13 a14 a15)
    (fun k s => rr_mt M s.2.1 k ∧ s.1 = rr_ct (fun g => s.2.1 g < 6) 8 ∧ ∀ x, x < 8 → s.2.2.1 x = rr_iv 6 (s.2.1 x)) 6 0 (0, h, a8, a10, a11, a12) (by omega) ⟨hm, hc.symm, h8⟩ ?_ ?_
  · intro m s hI
    obtain ⟨n, h, b8, b10, b11, b12⟩ := s
    dsimp only at hI
    obtain ⟨⟨q1, q2, R, q3, q4⟩, e, q5⟩ := hI
    refine pk_le 6 6 (fun _ => H n b8 b10 b11 b12 ?_ ?_) (fun z => absurd z (by omega))
    · rw [e]; exact rr_ct_le _ 8
    · rw [e]; exact rr_MM_run hM q1 q3 q4
  · intro m k s hk hI hw
    obtain ⟨n, h, b8, b10, b11, b12⟩ := s
    dsimp only at hI
    obtain ⟨q, e, q5⟩ := hI
    refine pk_le 6 k (fun z => absurd z (by omega)) (fun _ => rr_place hk h6 hM q5 q.1 (rr_mt_new hk q) (fun c10 c11 c12 hf => ?_) (fun h' c8 c10 c11 c12 ha h8' => ?_))
    · exact br_t rfl (nm_r (nI_1 k) (hw (n, h, b8, c10, c11, c12) ⟨rr_mt_f q hf, e, q5⟩))
    · exact br_f (by decide) (nm_r (nI_1 n) (nm_r (nI_1 k) (hw (n + 1, h', c8, c10, c11, c12) ⟨rr_mt_s hk q ha, by rw [rr_aug_ct ha, ← e], h8'⟩)))
theorem rr_groupsMost {f0 : Int32} {a1 a2 a3 a4 a5 a6 a7 a8 a9 a10 a11 a12 a13 a14 a15 : Nat → Int32} {post : Int32 → St1 → Prop} {M : Nat → Nat} (h6 : ∀ k, k < 6 → a6 k = nI (M k)) (hM : ∀ k, k < 6 → M k < 256)
    (H : ∀ n b8 b10 b11 b12, n ≤ 8 → rr_MM M n → post (nI n) (f0, a1, a2, a3, a4, a5, a6, a7, b8, a9, b10, b11, b12, a13, a14, a15)) : wpX_groupsMost post (f0, a1, a2, a3, a4, a5, a6, a7, a8, a9, a10, a11, a12, a13, a14, a15) := by
  unfold wpX_groupsMost
  show ∃ fu, wX_matching_4 _ 255 0 f0 fu 0 a1 a2 a3 a4 a5 a6 a7 a8 a9 a10 a11 a12 a13 a14 a15
  refine pk_loop (fun m i s => wX_matching_4 _ 255 0 f0 m (nI i) a1 a2 a3 a4 a5 a6 a7 s a9 a10 a11 a12 a13 a14 a15) (fun i s => ∀ x, x < i → s x = -1) 8 0 a8 (by omega) (fun x hx => absurd hx (by omega)) ?_ ?_
  · intro m s h
    exact pk_le 8 8 (fun _ => rr_matching25 (h := fun _ => 6) h6 hM h (rr_mt_0 (fun _ _ => Nat.lt_irrefl 6)) (rr_ct_zero 8 (fun _ _ => Nat.lt_irrefl 6)) H) (fun z => absurd z (by omega))
  · intro m i s hi h hw
    refine pk_le 8 i (fun z => absurd z (by omega)) (fun _ => ?_)
    rw [nI_clamp (show i < 2 ^ 31 by omega)]
    refine ⟨pk_in i 8 hi, nm_e (nm_r (nI_1 i) (hw _ ?_))⟩
    intro x hx
    by_cases e : x = i
    · rw [e, pk_us]
    · rw [pk_un e]; exact h x (by omega)
end
section
/-! ===== extend ===== -/
theorem rr_putI {a : Nat → Int32} {d : Nat → Int} {j N : Nat} {v : Int32} {w : Int} (h : ∀ x, x < N → (a x).toInt = d x) (hv : v.toInt = w) : ∀ x, x < N → (upd a j v x).toInt = rr_ui d j w x := by
  intro x hx
  by_cases e : x = j
  · rw [e, pk_us, rr_ui_s, hv]
  · rw [pk_un e, rr_ui_n e, h x hx]
/-- the values of keys and groups -/
def rr_vals (M : Nat → Nat) (b : Nat → Nat → Int) (a7 : Nat → Int32) : Prop :=
  (∀ k x, k < 6 → x < 8 → (a7 (k * 8 + x)).toInt = b k x) ∧ (∀ k x, k < 6 → x < 8 → (M k).testBit x = true → -1000 ≤ b k x ∧ b k x ≤ 1000) ∧ (∀ k x, k < 6 → x < 8 → ¬ (M k).testBit x = true → b k x = 1000000)
abbrev rr_Es : Type := (Nat → Int) × (Nat → Nat) × (Nat → Int32) × (Nat → Int32)
theorem rr_extend33 {f0 : Int32} {a1 a2 a3 a4 a5 a6 a7 a8 a9 a10 a11 a12 a13 a14 a15 : Nat → Int32} {post : St1 → Prop} {M h : Nat → Nat} {b : Nat → Nat → Int} {g : Nat} {d : Nat → Int} {B : Nat → Nat} (Q : (Nat → Int) → (Nat → Nat) → Prop) (hg : g < 8) (hv : rr_val M h) (h7 : rr_vals M b a7)
    (h9 : ∀ x, x < 8 → (a9 x).toInt = d x) (h10 : ∀ x, x < 8 → a10 x = rr_iv 8 (B x)) (hn : d g ≠ 1000000) (hdg : -400000 ≤ d g ∧ d g ≤ 400000) (hh : h g < 6) (hQ : Q d B)
    (hs : ∀ d1 B1 x, Q d1 B1 → d1 g = d g → d g ≠ 1000000 → h g < 6 → x < 8 → x ≠ g → (M (h g)).testBit x = true → d g - b (h g) g + b (h g) x ≠ 1000000 → (d1 x = 1000000 ∨ d1 x < d g - b (h g) g + b (h g) x) → Q (rr_ui d1 x (d g - b (h g) g + b (h g) x)) (rr_up B1 x g))
    (H : ∀ d' B' b9 b10, Q d' B' → d' g = d g → (∀ x, x < 8 → (b9 x).toInt = d' x) → (∀ x, x < 8 → b10 x = rr_iv 8 (B' x)) → (∀ x, x < 8 → (M (h g)).testBit x = true → d' x ≠ 1000000 ∧ d' g - b (h g) g + b (h g) x ≤ d' x) → post (f0, a1, a2, a3, a4, a5, a6, a7, a8, b9, b10, a11, a12, a13, a14, a15)) :
    ∃ fu, wX_extend_33 post (nI g) (nI (h g * 8)) f0 fu 0 a1 a2 a3 a4 a5 a6 a7 a8 a9 a10 a11 a12 a13 a14 a15 := by
  obtain ⟨v1, v2, v3⟩ := h7
  have bg := v2 (h g) g hh hg (hv.1 g hg hh)
  have hk := hh
  refine pk_loop (σ := rr_Es) (fun n x s => wX_extend_33 post (nI g) (nI (h g * 8)) f0 n (nI x) a1 a2 a3 a4 a5 a6 a7 a8 s.2.2.1 s.2.2.2 a11 a12 a13 a14 a15)
    (fun x s => Q s.1 s.2.1 ∧ s.1 g = d g ∧ (∀ y, y < 8 → (s.2.2.1 y).toInt = s.1 y) ∧ (∀ y, y < 8 → s.2.2.2 y = rr_iv 8 (s.2.1 y)) ∧ ∀ y, y < x → (M (h g)).testBit y = true → s.1 y ≠ 1000000 ∧ d g - b (h g) g + b (h g) y ≤ s.1 y) 8 0 (d, B, a9, a10) (by omega) ⟨hQ, rfl, h9, h10, fun y hy => absurd hy (by omega)⟩ ?_ ?_
  · intro n s hI
    obtain ⟨d1, B1, b9, b10⟩ := s
    dsimp only at hI
    obtain ⟨q1, q2, q3, q4, q5⟩ := hI
    refine pk_le 8 8 (fun _ => H d1 B1 b9 b10 q1 q2 q3 q4 ?_) (fun z => absurd z (by omega))
    rw [q2]
    exact q5
  · intro n x s hx hI hw
    obtain ⟨d1, B1, b9, b10⟩ := s
    dsimp only at hI
    obtain ⟨q1, q2, q3, q4, q5⟩ := hI
    refine pk_le 8 x (fun z => absurd z (by omega)) (fun _ => pk_eq x g (fun e => nm_r (nI_1 x) (hw (d1, B1, b9, b10) ⟨q1, q2, q3, q4, lt_s q5 (fun _ => ?_)⟩)) (fun hne => ?_))
    · show d1 x ≠ 1000000 ∧ d g - b (h g) g + b (h g) x ≤ d1 x
      rw [e, q2]
      exact ⟨hn, by omega⟩
    · rw [nI_add, nI_add, nI_clamp (show h g * 8 + x < 2 ^ 31 by omega), nI_clamp (show h g * 8 + g < 2 ^ 31 by omega), nI_clamp (show x < 2 ^ 31 by omega), nI_clamp (show g < 2 ^ 31 by omega)]
      refine ⟨pk_in (h g * 8 + x) 48 (by omega), ?_⟩
      have ex := v1 (h g) x hk hx
      have eg := v1 (h g) g hk hg
      by_cases c : (M (h g)).testBit x = true
      · have bx := v2 (h g) x hk hx c
        have s1 : (b9 g - a7 (h g * 8 + g)).toInt = d g - b (h g) g := by
          rw [rr_sub (by rw [q3 g hg, q2]; omega) (by rw [q3 g hg, q2]; omega) (by rw [eg]; omega) (by rw [eg]; omega), q3 g hg, q2, eg]
        have s2 : (b9 g - a7 (h g * 8 + g) + a7 (h g * 8 + x)).toInt = d g - b (h g) g + b (h g) x := by
          rw [rr_add (by rw [s1]; omega) (by rw [s1]; omega) (by rw [ex]; omega) (by rw [ex]; omega), s1, ex]
        have hup : (d1 x = 1000000 ∨ d1 x < d g - b (h g) g + b (h g) x) → wX_extend_105 post (wX_extend_33 post (nI g) (nI (h g * 8)) f0 n) (nI g) (nI (h g * 8)) (nI x) (b9 g - a7 (h g * 8 + g) + a7 (h g * 8 + x)) f0 a1 a2 a3 a4 a5 a6 a7 a8 b9 b10 a11 a12 a13 a14 a15 := by
          intro u
          unfold wX_extend_105
          rw [nI_clamp (show x < 2 ^ 31 by omega)]
          refine ⟨pk_in x 8 hx, nm_e ⟨pk_in x 8 hx, nm_e (nm_r (nI_1 x) (hw (rr_ui d1 x (d g - b (h g) g + b (h g) x), rr_up B1 x g, _, _) ⟨hs d1 B1 x q1 q2 hn hh hx hne c (by omega) u, ?_, rr_putI q3 s2, rr_putU q4 (rr_iv_lt hg).symm, ?_⟩))⟩⟩
          · show rr_ui d1 x _ g = d g
            rw [rr_ui_n (fun z => hne z.symm)]; exact q2
          · intro y hy ty
            show rr_ui d1 x _ y ≠ 1000000 ∧ _ ≤ rr_ui d1 x _ y
            by_cases cy : y = x
            · rw [cy, rr_ui_s]; exact ⟨by omega, Int.le_refl _⟩
            · rw [rr_ui_n cy]; exact q5 y (by omega) ty
        refine br_f (fun z => by rw [rr_eqN, ex] at z; omega) ⟨pk_in g 8 hg, pk_in (h g * 8 + g) 48 (by omega), pk_in (h g * 8 + x) 48 (by omega), nm_e ⟨pk_in x 8 hx, ?_⟩⟩
        refine br_c (fun z => hup (Or.inl ?_)) (fun z => ⟨pk_in x 8 hx, br_c (fun z2 => nm_r (nI_1 x) (hw (d1, B1, b9, b10) ⟨q1, q2, q3, q4, lt_s q5 (fun _ => ?_)⟩)) (fun z2 => hup (Or.inr ?_))⟩)
        · have z' : b9 x = 1000000 := z
          rw [rr_eqN, q3 x hx] at z'
          exact z'
        · have z' : ¬ b9 x = 1000000 := z
          have z2' : b9 g - a7 (h g * 8 + g) + a7 (h g * 8 + x) ≤ b9 x := z2
          rw [rr_eqN, q3 x hx] at z'
          rw [rr_le, s2, q3 x hx] at z2'
          exact ⟨z', z2'⟩
        · have z2' : ¬ b9 g - a7 (h g * 8 + g) + a7 (h g * 8 + x) ≤ b9 x := z2
          rw [rr_le, s2, q3 x hx] at z2'
          omega
      · exact br_t (rr_eqN.mpr (ex.trans (v3 _ _ hk hx c))) (nm_r (nI_1 x) (hw (d1, B1, b9, b10) ⟨q1, q2, q3, q4, lt_s q5 (fun t => absurd t c)⟩))
theorem rr_extend {f0 : Int32} {a1 a2 a3 a4 a5 a6 a7 a8 a9 a10 a11 a12 a13 a14 a15 : Nat → Int32} {post : St1 → Prop} {M h : Nat → Nat} {b : Nat → Nat → Int} {g : Nat} {d : Nat → Int} {B : Nat → Nat} (Q : (Nat → Int) → (Nat → Nat) → Prop) (hg : g < 8) (hv : rr_val M h) (h7 : rr_vals M b a7) (h8 : ∀ x, x < 8 → a8 x = rr_iv 6 (h x))
    (h9 : ∀ x, x < 8 → (a9 x).toInt = d x) (h10 : ∀ x, x < 8 → a10 x = rr_iv 8 (B x)) (hdg : d g ≠ 1000000 → -400000 ≤ d g ∧ d g ≤ 400000) (hQ : Q d B)
    (hs : ∀ d1 B1 x, Q d1 B1 → d1 g = d g → d g ≠ 1000000 → h g < 6 → x < 8 → x ≠ g → (M (h g)).testBit x = true → d g - b (h g) g + b (h g) x ≠ 1000000 → (d1 x = 1000000 ∨ d1 x < d g - b (h g) g + b (h g) x) → Q (rr_ui d1 x (d g - b (h g) g + b (h g) x)) (rr_up B1 x g))
    (H : ∀ d' B' b9 b10, Q d' B' → (∀ x, x < 8 → (b9 x).toInt = d' x) → (∀ x, x < 8 → b10 x = rr_iv 8 (B' x)) → (d' g ≠ 1000000 → h g < 6 → ∀ x, x < 8 → (M (h g)).testBit x = true → d' x ≠ 1000000 ∧ d' g - b (h g) g + b (h g) x ≤ d' x) → post (f0, a1, a2, a3, a4, a5, a6, a7, a8, b9, b10, a11, a12, a13, a14, a15)) :
    wpX_extend post (f0, a1, a2, a3, a4, a5, a6, a7, a8, a9, a10, a11, a12, a13, a14, a15) (nI g) := by
  unfold wpX_extend
  dsimp only
  rw [nI_clamp (show g < 2 ^ 31 by omega), h8 g hg]
  refine ⟨pk_in g 8 hg, br_c (fun z => ?_) (fun z => ⟨pk_in g 8 hg, ?_⟩)⟩
  · rw [rr_eqN, h9 g hg] at z
    exact H d B a9 a10 hQ h9 h10 (fun n => absurd z n)
  · rw [rr_eqN, h9 g hg] at z
    by_cases c : h g < 6
    · refine br_t ((rr_iv_pos (by decide)).mpr c) ⟨pk_in g 8 hg, nm_r (e' := nI (h g * 8)) ?_ ?_⟩
      · rw [rr_iv_lt c]
        exact pk_mul (h g) 8
      · exact rr_extend33 Q hg hv h7 h9 h10 z (hdg z) c hQ hs (fun d' B' b9 b10 q1 _ q3 q4 q5 => H d' B' b9 b10 q1 q3 q4 (fun _ _ => q5))
    · exact br_f (fun t => c ((rr_iv_pos (by decide)).mp t)) (H d B a9 a10 hQ h9 h10 (fun _ t => absurd t c))
end
section
/-! ===== placeBest ===== -/
/-- the search for the best way, with r rounds done (and j groups of the next) -/
def rr_ws (M h : Nat → Nat) (b : Nat → Nat → Int) (key : Nat) (t : Int) (d : Nat → Int) (B : Nat → Nat) : Prop := (∃ rk, rr_bf M h b key d B rk) ∧ rr_bd t d
theorem rr_ws_up {M h : Nat → Nat} {b : Nat → Nat → Int} {key : Nat} {t : Int} {p d : Nat → Int} {B : Nat → Nat} {g x : Nat} {v : Int} (hp : rr_fe M b p h) (H : rr_ws M h b key (t + 1) d B) (hg : g < 8) (hx : x < 8) (hne : x ≠ g) (hd : d g ≠ 1000000) (hh : h g < 6) (ht : (M (h g)).testBit x = true) (hv : v = d g - b (h g) g + b (h g) x) (hvn : v ≠ 1000000) (hup : d x = 1000000 ∨ d x < v)
    (hdg : -(1000 + 2000 * t) ≤ d g ∧ d g ≤ 1000 + 2000 * t) (hb : -1000 ≤ b (h g) g ∧ b (h g) g ≤ 1000) (hb' : -1000 ≤ b (h g) x ∧ b (h g) x ≤ 1000) : rr_ws M h b key (t + 1) (rr_ui d x v) (rr_up B x g) := by
  obtain ⟨⟨rk, h1⟩, h2⟩ := H
  refine ⟨rr_bf_up hp h1 hg hx hne hd hh ht hv hvn hup, fun y hy hdy => ?_⟩
  by_cases c : y = x
  · rw [c, rr_ui_s]
    omega
  · rw [rr_ui_n c] at hdy ⊢
    exact h2 y hy hdy
theorem rr_best48 {f0 : Int32} {a1 a2 a3 a4 a5 a6 a7 a8 a9 a10 a11 a12 a13 a14 a15 : Nat → Int32} {post : Int32 → St1 → Prop} {J : Int32 → Int32 → (Nat → Int32) → (Nat → Int32) → (Nat → Int32) → (Nat → Int32) → (Nat → Int32) → (Nat → Int32) → (Nat → Int32) → (Nat → Int32) → (Nat → Int32) → (Nat → Int32) → (Nat → Int32) → (Nat → Int32) → (Nat → Int32) → (Nat → Int32) → (Nat → Int32) → Prop} {x1 : Int32}
    {M h : Nat → Nat} {b : Nat → Nat → Int} {key r : Nat} {p d : Nat → Int} {B : Nat → Nat} (hr : r < 8) (hp : rr_fe M b p h) (hv : rr_val M h) (h7 : rr_vals M b a7) (h8 : ∀ x, x < 8 → a8 x = rr_iv 6 (h x))
    (h9 : ∀ x, x < 8 → (a9 x).toInt = d x) (h10 : ∀ x, x < 8 → a10 x = rr_iv 8 (B x)) (hw : rr_ws M h b key ((8 * r : Nat) : Int) d B) (hR : rr_RS M h b p r d)
    (HJ : ∀ d' B' b9 b10, rr_ws M h b key ((8 * (r + 1) : Nat) : Int) d' B' → rr_RS M h b p (r + 1) d' → (∀ x, x < 8 → (b9 x).toInt = d' x) → (∀ x, x < 8 → b10 x = rr_iv 8 (B' x)) → J (nI (r + 1)) f0 a1 a2 a3 a4 a5 a6 a7 a8 b9 b10 a11 a12 a13 a14 a15) :
    ∃ fu, wX_placeBest_48 post J x1 (nI r) fu 0 f0 a1 a2 a3 a4 a5 a6 a7 a8 a9 a10 a11 a12 a13 a14 a15 := by
  refine pk_loop (σ := rr_Es) (fun n j s => wX_placeBest_48 post J x1 (nI r) n (nI j) f0 a1 a2 a3 a4 a5 a6 a7 a8 s.2.2.1 s.2.2.2 a11 a12 a13 a14 a15)
    (fun j s => rr_ws M h b key ((8 * r + j : Nat) : Int) s.1 s.2.1 ∧ rr_RJ M h b p r j s.1 ∧ (∀ x, x < 8 → (s.2.2.1 x).toInt = s.1 x) ∧ (∀ x, x < 8 → s.2.2.2 x = rr_iv 8 (s.2.1 x))) 8 0 (d, B, a9, a10) (by omega) ⟨hw, rr_RJ0 hR, h9, h10⟩ ?_ ?_
  · intro n s hI
    obtain ⟨d1, B1, b9, b10⟩ := s
    dsimp only at hI
    obtain ⟨q1, q2, q3, q4⟩ := hI
    exact pk_le 8 8 (fun _ => nm_r (nI_1 r) (HJ d1 B1 b9 b10 q1 (rr_RJ8 q2) q3 q4)) (fun z => absurd z (by omega))
  · intro n j s hj hI hw
    obtain ⟨d1, B1, b9, b10⟩ := s
    dsimp only at hI
    obtain ⟨q1, q2, q3, q4⟩ := hI
    have hdj : d1 j ≠ 1000000 → -(1000 + 2000 * ((8 * r + j : Nat) : Int)) ≤ d1 j ∧ d1 j ≤ 1000 + 2000 * ((8 * r + j : Nat) : Int) := q1.2 j hj
    have q1' : rr_ws M h b key (((8 * r + j : Nat) : Int) + 1) d1 B1 := ⟨q1.1, fun x hx hdx => by have := q1.2 x hx hdx; omega⟩
    refine pk_le 8 j (fun z => absurd z (by omega)) (fun _ => ?_)
    refine rr_extend (fun d B => rr_ws M h b key (((8 * r + j : Nat) : Int) + 1) d B ∧ rr_RJ M h b p r j d) hj hv h7 h8 q3 q4 (fun z => by have := hdj z; omega) ⟨q1', q2⟩ ?_ ?_
    · intro d2 B2 x hQ e2 hn hh hx hne ht hvn hup
      have b1 := h7.2.1 (h j) j hh hj (hv.1 j hj hh)
      have b2 := h7.2.1 (h j) x hh hx ht
      have hn2 : d2 j ≠ 1000000 := by rw [e2]; exact hn
      exact ⟨rr_ws_up hp hQ.1 hj hx hne hn2 hh ht (by rw [e2]) hvn hup (by rw [e2]; exact hdj hn) b1 b2, rr_RJ_up hp hQ.2 hj hx hn2 hh ht (by rw [e2]) hvn hup⟩
    · intro d2 B2 c9 c10 hQ l9 l10 hrel
      refine nm_r (nI_1 j) (hw (d2, B2, c9, c10) ⟨?_, rr_RJ_next hQ.2 hrel, l9, l10⟩)
      show rr_ws M h b key ((8 * r + (j + 1) : Nat) : Int) d2 B2
      rw [show ((8 * r + (j + 1) : Nat) : Int) = ((8 * r + j : Nat) : Int) + 1 by omega]
      exact hQ.1
theorem rr_best75 {f0 : Int32} {a1 a2 a3 a4 a5 a6 a7 a8 a9 a10 a11 a12 a13 a14 a15 : Nat → Int32} {post : Int32 → St1 → Prop} {M h : Nat → Nat} {b : Nat → Nat → Int} {key : Nat} {p d : Nat → Int} {B : Nat → Nat} (hkey : key < 6) (hp : rr_fe M b p h) (hv : rr_val M h) (hnew : ∀ x, x < 8 → h x ≠ key) (h7 : rr_vals M b a7) (h8 : ∀ x, x < 8 → a8 x = rr_iv 6 (h x))
    (h9 : ∀ x, x < 8 → (a9 x).toInt = d x) (h10 : ∀ x, x < 8 → a10 x = rr_iv 8 (B x)) (hw : rr_ws M h b key 64 d B) (hR : rr_cl M h b d)
    (Hf : ∀ b9 b10, rr_fail M h key → post 1000000 (f0, a1, a2, a3, a4, a5, a6, a7, a8, b9, b10, a11, a12, a13, a14, a15))
    (Hs : ∀ r h' q b8 b9 b10, rr_aug M h key h' → rr_fe M b q h' → (∀ x, x < 8 → b8 x = rr_iv 6 (h' x)) → -129000 ≤ r.toInt ∧ r.toInt ≤ 129000 → post r (f0, a1, a2, a3, a4, a5, a6, a7, b8, b9, b10, a11, a12, a13, a14, a15)) :
    ∃ fu, wX_placeBest_75 post (nI key) f0 a1 a2 a3 a4 a5 a6 a7 a8 a9 a10 a11 a12 a13 a14 a15 fu (-1) 0 := by
  obtain ⟨⟨rk, f1, f2, f3⟩, hbd⟩ := hw
  refine pk_loop (σ := Nat) (fun n x e => wX_placeBest_75 post (nI key) f0 a1 a2 a3 a4 a5 a6 a7 a8 a9 a10 a11 a12 a13 a14 a15 n (rr_iv 8 e) (nI x)) (fun x e => (e < 8 → ¬ h e < 6 ∧ d e ≠ 1000000) ∧ (¬ e < 8 → ∀ y, y < x → h y < 6 ∨ d y = 1000000)) 8 0 8 (by omega) ⟨fun z => absurd z (by omega), fun _ y hy => absurd hy (by omega)⟩ ?_ ?_
  · intro n e hI
    refine pk_le 8 8 (fun _ => ?_) (fun z => absurd z (by omega))
    by_cases c : e < 8
    · obtain ⟨hf, hd⟩ := hI.1 c
      refine br_t ((rr_iv_pos (by decide)).mpr c) ?_
      rw [rr_iv_lt c]
      obtain ⟨q, C, q1, q2⟩ := rr_newpot hp hR hbd h7.2.1 hv
      refine rr_shift (rk := fun x => rr_ct (fun z => rk z < rk x) 8) (fun h1 x => rr_P M h e (fun y => d y ≠ 1000000) (fun x => rr_ct (fun z => rk z < rk x) 8) h1 x ∧ rr_F M b q h1 x) hkey ⟨rr_P0 hv c hf hd, fun x hx _ => q1 x hx⟩ (rr_ct_le _ 8) (fun h1 x hP => ⟨hP.1.1, fun hB => ?_⟩) h8 h10 ?_
      · obtain ⟨w1, w2, w3, w4, w5, w6⟩ := f2 x hP.1.1 hP.1.2.1 hB
        have hrk := rr_rank hB w6
        have e1 : h1 (B x) = h (B x) := hP.1.2.2.2.2.2.2.2.2 (B x) hB hrk
        refine ⟨⟨rr_PS hP.1 hB w2 w3 w4 w1 hrk, rr_FS (h0 := h) hP.2 hB (by rw [e1]; exact w3) w1 ?_⟩, hrk⟩
        rw [e1, q2 x hP.1.1 hP.1.2.1, q2 (B x) hB w2]
        have := (hR (B x) hB w2 w3 x hP.1.1 w4).2
        omega
      · intro h1 r b8 hP hr hB hb8
        obtain ⟨t1, t2⟩ := f3 r hr hP.1.2.1 hB
        refine ⟨pk_in e 8 c, ?_⟩
        rw [nI_clamp (show e < 2 ^ 31 by omega)]
        refine Hs (a9 e) (rr_up h1 r key) q b8 a9 a10 (rr_PE hP.1 hkey c hf t1 hnew) (rr_FE hP.2 (fun y hy ty => ?_)) hb8 ?_
        · obtain ⟨u1, u2⟩ := f1 y hy ty
          rw [q2 r hr hP.1.2.1, q2 y hy u1]
          omega
        · rw [h9 e c]
          have := hbd e c hd
          omega
    · refine br_f (fun t => c ((rr_iv_pos (by decide)).mp t)) (Hf a9 a10 ⟨fun x => d x ≠ 1000000, fun x hx hdx => ?_, fun y hy ty => (f1 y hy ty).1⟩)
      have hh : h x < 6 := (hI.2 c x hx).elim id (fun z => absurd z hdx)
      exact ⟨hh, fun y hy ty => (hR x hx hdx hh y hy ty).1⟩
  · intro n x e hx hI hw
    refine pk_le 8 x (fun z => absurd z (by omega)) (fun _ => ⟨pk_in x 8 hx, ?_⟩)
    rw [nI_clamp (show x < 2 ^ 31 by omega), h8 x hx]
    by_cases c : h x < 6
    · exact br_t ((rr_iv_pos (by decide)).mpr c) (nm_r (nI_1 x) (hw e ⟨hI.1, fun t => lt_s (hI.2 t) (Or.inl c)⟩))
    · refine br_f (fun t => c ((rr_iv_pos (by decide)).mp t)) ⟨pk_in x 8 hx, br_c (fun z => nm_r (nI_1 x) (hw e ⟨hI.1, fun t => lt_s (hI.2 t) (Or.inr ?_)⟩)) (fun z => ?_)⟩
      · rw [rr_eqN, h9 x hx] at z
        exact z
      · rw [rr_eqN, h9 x hx] at z
        have hwx : wX_placeBest_75 post (nI key) f0 a1 a2 a3 a4 a5 a6 a7 a8 a9 a10 a11 a12 a13 a14 a15 n (nI x) (nI (x + 1)) := by
          have := hw x ⟨fun _ => ⟨c, z⟩, fun t => absurd hx t⟩
          rw [rr_iv_lt hx] at this
          exact this
        by_cases ce : e < 8
        · refine br_f (fun t => (rr_iv_neg (by decide)).mp t ce) ?_
          exact ⟨pk_in x 8 hx, pk_in e 8 ce (rr_iv_lt ce), br_c (fun _ => nm_r (nI_1 x) (hw e ⟨hI.1, fun t => absurd ce t⟩)) (fun _ => nm_r (nI_1 x) hwx)⟩
        · exact br_t ((rr_iv_neg (by decide)).mpr ce) (nm_r (nI_1 x) hwx)
theorem rr_placeBest {f0 : Int32} {a1 a2 a3 a4 a5 a6 a7 a8 a9 a10 a11 a12 a13 a14 a15 : Nat → Int32} {post : Int32 → St1 → Prop} {M h : Nat → Nat} {b : Nat → Nat → Int} {key : Nat} {p : Nat → Int} (hkey : key < 6) (hp : rr_fe M b p h) (hv : rr_val M h) (hnew : ∀ x, x < 8 → h x ≠ key) (h7 : rr_vals M b a7) (h8 : ∀ x, x < 8 → a8 x = rr_iv 6 (h x))
    (Hf : ∀ b9 b10, rr_fail M h key → post 1000000 (f0, a1, a2, a3, a4, a5, a6, a7, a8, b9, b10, a11, a12, a13, a14, a15))
    (Hs : ∀ r h' q b8 b9 b10, rr_aug M h key h' → rr_fe M b q h' → (∀ x, x < 8 → b8 x = rr_iv 6 (h' x)) → -129000 ≤ r.toInt ∧ r.toInt ≤ 129000 → post r (f0, a1, a2, a3, a4, a5, a6, a7, b8, b9, b10, a11, a12, a13, a14, a15)) :
    wpX_placeBest post (f0, a1, a2, a3, a4, a5, a6, a7, a8, a9, a10, a11, a12, a13, a14, a15) (nI key) := by
  show ∃ fu, wX_placeBest_2 post (nI key) f0 fu 0 a1 a2 a3 a4 a5 a6 a7 a8 a9 a10 a11 a12 a13 a14 a15
  refine pk_loop (σ := (Nat → Int32) × (Nat → Int32)) (fun n g s => wX_placeBest_2 post (nI key) f0 n (nI g) a1 a2 a3 a4 a5 a6 a7 a8 s.1 s.2 a11 a12 a13 a14 a15) (fun g s => ∀ x, x < g → (s.1 x).toInt = b key x ∧ s.2 x = -1) 8 0 (a9, a10) (by omega) (fun x hx => absurd hx (by omega)) ?_ ?_
  · intro n s hI
    obtain ⟨c9, c10⟩ := s
    dsimp only at hI
    refine pk_le 8 8 (fun _ => ?_) (fun z => absurd z (by omega))
    refine pk_loop (σ := rr_Es) (fun n r s => wX_placeBest_40 post (nI key) n (nI r) f0 a1 a2 a3 a4 a5 a6 a7 a8 s.2.2.1 s.2.2.2 a11 a12 a13 a14 a15)
      (fun r s => rr_ws M h b key ((8 * r : Nat) : Int) s.1 s.2.1 ∧ rr_RS M h b p r s.1 ∧ (∀ x, x < 8 → (s.2.2.1 x).toInt = s.1 x) ∧ (∀ x, x < 8 → s.2.2.2 x = rr_iv 8 (s.2.1 x))) 8 0 (b key, fun _ => 8, c9, c10) (by omega) ⟨⟨⟨fun _ => 0, fun x hx t => ?_, fun x hx _ z => absurd z (Nat.lt_irrefl 8), fun x hx hdx _ => ⟨?_, rfl⟩⟩, fun x hx hdx => ?_⟩, rr_RS0, fun x hx => (hI x hx).1, fun x hx => (hI x hx).2⟩ ?_ ?_
    · have := h7.2.1 key x hkey hx t
      dsimp only
      exact ⟨by omega, Int.le_refl _⟩
    · exact Classical.byContradiction (fun t => hdx (h7.2.2 key x hkey hx t))
    · have t : (M key).testBit x = true := Classical.byContradiction (fun t => hdx (h7.2.2 key x hkey hx t))
      have := h7.2.1 key x hkey hx t
      dsimp only
      omega
    · intro n s hI
      obtain ⟨d1, B1, b9, b10⟩ := s
      dsimp only at hI
      obtain ⟨q1, q2, q3, q4⟩ := hI
      exact pk_le 8 8 (fun _ => rr_best75 hkey hp hv hnew h7 h8 q3 q4 q1 (rr_RS8 q2) Hf Hs) (fun z => absurd z (by omega))
    · intro n r s hr hI hw
      obtain ⟨d1, B1, b9, b10⟩ := s
      dsimp only at hI
      obtain ⟨q1, q2, q3, q4⟩ := hI
      exact pk_le 8 r (fun z => absurd z (by omega)) (fun _ => rr_best48 hr hp hv h7 h8 q3 q4 q1 q2 (fun d' B' e9 e10 t1 t2 t3 t4 => hw (d', B', e9, e10) ⟨t1, t2, t3, t4⟩))
  · intro n g s hg hI hw
    obtain ⟨c9, c10⟩ := s
    dsimp only at hI
    refine pk_le 8 g (fun z => absurd z (by omega)) (fun _ => ?_)
    rw [rr_idx, nI_clamp (show key * 8 + g < 2 ^ 31 by omega), nI_clamp (show g < 2 ^ 31 by omega)]
    refine ⟨pk_in (key * 8 + g) 48 (by omega), pk_in g 8 hg, nm_e ⟨pk_in g 8 hg, nm_e (nm_r (nI_1 g) (hw (upd c9 g (a7 (key * 8 + g)), upd c10 g (-1)) ?_))⟩⟩
    intro x hx
    show (upd c9 g (a7 (key * 8 + g)) x).toInt = b key x ∧ upd c10 g (-1) x = -1
    by_cases c : x = g
    · rw [c, pk_us, pk_us]; exact ⟨h7.1 key g hkey hg, rfl⟩
    · rw [pk_un c, pk_un c]; exact hI x (by omega)
end
section
/-! ===== mixedMost ===== -/
def rr_mx (M h : Nat → Nat) (k : Nat) : Prop := rr_val M h ∧ (∀ x, x < 8 → h x < 6 → h x < k) ∧ ∀ j, j < k → M j ≠ 0 → ∃ x, x < 8 ∧ h x = j
theorem rr_mx_s {M h h' : Nat → Nat} {k : Nat} (hk : k < 6) (H : rr_mx M h k) (ha : rr_aug M h k h') : rr_mx M h' (k + 1) := by
  obtain ⟨h1, h2, h4⟩ := H
  obtain ⟨q1, q2, q3, q4⟩ := ha
  refine ⟨q1, fun x hx hl => ?_, fun j hj hn => ?_⟩
  · rcases (q2 (h' x) hl).mp ⟨x, hx, rfl⟩ with z | ⟨y, hy, ey⟩
    · omega
    · have := h2 y hy (by rw [ey]; exact hl)
      omega
  · by_cases e : j = k
    · exact (q2 j (by omega)).mpr (Or.inl e)
    · exact (q2 j (by omega)).mpr (Or.inr (h4 j (by omega) hn))
theorem rr_mx_k {M h : Nat → Nat} {k : Nat} (H : rr_mx M h k) (h0 : M k = 0) : rr_mx M h (k + 1) := by
  obtain ⟨h1, h2, h4⟩ := H
  refine ⟨h1, fun x hx hl => Nat.lt_succ_of_lt (h2 x hx hl), fun j hj hn => ?_⟩
  by_cases e : j = k
  · rw [e] at hn; exact absurd h0 hn
  · exact h4 j (by omega) hn
theorem rr_mx_new {M h : Nat → Nat} {k : Nat} (hk : k < 6) (H : rr_mx M h k) : ∀ x, x < 8 → h x ≠ k := fun x hx e => by
  have := H.2.1 x hx (by rw [e]; exact hk)
  omega
theorem rr_mixed35 {f0 : Int32} {a1 a2 a3 a4 a5 a6 a7 a8 a9 a10 a11 a12 a13 a14 a15 : Nat → Int32} {post : Int32 → St1 → Prop} {W M h : Nat → Nat} {b : Nat → Nat → Int} {p : Nat → Int} (h5 : ∀ k, k < 6 → a5 k = nI (W k)) (hW : ∀ k, k < 6 → W k < 100) (hu : ∀ k, k < 6 → (0 < W k ↔ M k ≠ 0)) (h7 : rr_vals M b a7) (h8 : ∀ x, x < 8 → a8 x = rr_iv 6 (h x)) (hm : rr_mx M h 0) (hp : rr_fe M b p h)
    (HN : ∀ b8 b9 b10, (∀ n, rr_MM M n → n < rr_ct (fun k => M k ≠ 0) 6) → post 1000000 (f0, a1, a2, a3, a4, a5, a6, a7, b8, b9, b10, a11, a12, a13, a14, a15))
    (HS : ∀ r b8 b9 b10, r ≠ 1000000 → (∀ n, rr_MM M n → rr_ct (fun k => M k ≠ 0) 6 ≤ n) → post r (f0, a1, a2, a3, a4, a5, a6, a7, b8, b9, b10, a11, a12, a13, a14, a15)) : ∃ fu, wX_mixedMost_35 post fu 0 0 f0 a1 a2 a3 a4 a5 a6 a7 a8 a9 a10 a11 a12 a13 a14 a15 := by
  refine pk_loop (σ := Int32 × (Nat → Nat) × (Nat → Int32) × (Nat → Int32) × (Nat → Int32)) (fun m k s => wX_mixedMost_35 post m s.1 (nI k) f0 a1 a2 a3 a4 a5 a6 a7 s.2.2.1 s.2.2.2.1 s.2.2.2.2 a11 a12 a13 a14 a15)
    (fun k s => rr_mx M s.2.1 k ∧ (∃ q, rr_fe M b q s.2.1) ∧ (-(129000 * (k : Int)) ≤ s.1.toInt ∧ s.1.toInt ≤ 129000 * (k : Int)) ∧ ∀ x, x < 8 → s.2.2.1 x = rr_iv 6 (s.2.1 x)) 6 0 (0, h, a8, a9, a10) (by omega) ⟨hm, ⟨p, hp⟩, ⟨show -(129000 * ((0 : Nat) : Int)) ≤ (0 : Int32).toInt by decide, show (0 : Int32).toInt ≤ 129000 * ((0 : Nat) : Int) by decide⟩, h8⟩ ?_ ?_
  · intro m s hI
    obtain ⟨r, h, b8, b9, b10⟩ := s
    dsimp only at hI
    obtain ⟨q1, q2, q3, q4⟩ := hI
    refine pk_le 6 6 (fun _ => HS r b8 b9 b10 (fun e => ?_) (fun n hn => rr_MM_all hn q1.1 q1.2.2)) (fun z => absurd z (by omega))
    rw [rr_eqN] at e
    omega
  · intro m k s hk hI hw
    obtain ⟨r, h, b8, b9, b10⟩ := s
    dsimp only at hI
    obtain ⟨q1, ⟨q, q2⟩, q3, q4⟩ := hI
    have hWk := hW k hk
    refine pk_le 6 k (fun z => absurd z (by omega)) (fun _ => ⟨pk_in k 6 hk, ?_⟩)
    rw [nI_clamp (show k < 2 ^ 31 by omega), h5 k hk]
    refine pk_le (W k) 0 (fun z => nm_r (nI_1 k) (hw (r, h, b8, b9, b10) ⟨rr_mx_k q1 ?_, ⟨q, q2⟩, ?_, q4⟩)) (fun z => ?_)
    · exact Classical.byContradiction (fun c => by have := (hu k hk).mpr c; omega)
    · dsimp only; omega
    · refine rr_placeBest hk q2 q1.1 (rr_mx_new hk q1) h7 q4 (fun c9 c10 hf => ?_) (fun r' h' q' c8 c9 c10 ha hq' h8' hr => ?_)
      · obtain ⟨R, hR, hin⟩ := hf
        exact br_t rfl (HN b8 c9 c10 (fun n hn => rr_MM_hall hn q1.1 hR hk ((hu k hk).mp z) hin (rr_mx_new hk q1)))
      · refine br_f (fun e => ?_) (nm_e (nm_r (nI_1 k) (hw (r + r', h', c8, c9, c10) ⟨rr_mx_s hk q1 ha, ⟨q', hq'⟩, ?_, h8'⟩)))
        · rw [rr_eqN] at e
          omega
        · show -(129000 * ((k + 1 : Nat) : Int)) ≤ (r + r').toInt ∧ (r + r').toInt ≤ 129000 * ((k + 1 : Nat) : Int)
          rw [rr_add (by omega) (by omega) (by omega) (by omega)]
          omega
theorem rr_mixedMost {f0 : Int32} {a1 a2 a3 a4 a5 a6 a7 a8 a9 a10 a11 a12 a13 a14 a15 : Nat → Int32} {post : Int32 → St1 → Prop} {W M : Nat → Nat} {b : Nat → Nat → Int} (hf0 : f0 ≠ 0) (h5 : ∀ k, k < 6 → a5 k = nI (W k)) (hW : ∀ k, k < 6 → W k < 100) (hu : ∀ k, k < 6 → (0 < W k ↔ M k ≠ 0)) (h7 : rr_vals M b a7)
    (HN : ∀ b8 b9 b10, (∀ n, rr_MM M n → n < rr_ct (fun k => M k ≠ 0) 6) → post 1000000 (f0, a1, a2, a3, a4, a5, a6, a7, b8, b9, b10, a11, a12, a13, a14, a15))
    (HS : ∀ r b8 b9 b10, r ≠ 1000000 → (∀ n, rr_MM M n → rr_ct (fun k => M k ≠ 0) 6 ≤ n) → post r (f0, a1, a2, a3, a4, a5, a6, a7, b8, b9, b10, a11, a12, a13, a14, a15)) : wpX_mixedMost post (f0, a1, a2, a3, a4, a5, a6, a7, a8, a9, a10, a11, a12, a13, a14, a15) := by
  refine br_f hf0 ?_
  refine pk_loop (fun m i s => wX_mixedMost_12 post f0 m (nI i) a1 a2 a3 a4 a5 a6 a7 s a9 a10 a11 a12 a13 a14 a15) (fun i s => ∀ x, x < i → s x = -1) 8 0 a8 (by omega) (fun x hx => absurd hx (by omega)) ?_ ?_
  · intro m s h
    exact pk_le 8 8 (fun _ => rr_mixed35 (h := fun _ => 6) (p := fun _ => 0) h5 hW hu h7 h ⟨⟨fun x hx hl => absurd hl (Nat.lt_irrefl 6), fun x y hx _ hl => absurd hl (Nat.lt_irrefl 6)⟩, fun x hx hl => absurd hl (Nat.lt_irrefl 6), fun j hj => absurd hj (by omega)⟩ (fun x hx hl => absurd hl (Nat.lt_irrefl 6)) HN HS) (fun z => absurd z (by omega))
  · intro m i s hi h hw
    refine pk_le 8 i (fun z => absurd z (by omega)) (fun _ => ?_)
    rw [nI_clamp (show i < 2 ^ 31 by omega)]
    refine ⟨pk_in i 8 hi, nm_e (nm_r (nI_1 i) (hw _ ?_))⟩
    intro x hx
    by_cases e : x = i
    · rw [e, pk_us]
    · rw [pk_un e]; exact h x (by omega)
end
section
/-! ===== middleMost ===== -/
/-- a' is a with v put in at place at -/
theorem rr_ins_ct {a a' : Nat → Int32} {v x : Int32} {n at' : Nat} (h1 : ∀ i, i < at' → a' i = a i) (h2 : a' at' = v) (h3 : ∀ i, at' ≤ i → i < n → a' (i + 1) = a i) : ∀ j, at' + j ≤ n → rr_ct (fun i => a' i < x) (at' + j + 1) = rr_ct (fun i => a i < x) (at' + j) + (if v < x then 1 else 0)
  | 0, hj => by
    have e : rr_ct (fun i => a' i < x) at' = rr_ct (fun i => a i < x) at' := rr_ct_congr at' (fun i hi => by rw [h1 i hi])
    show rr_ct (fun i => a' i < x) (at' + 1) = rr_ct (fun i => a i < x) at' + _
    by_cases c : v < x
    · rw [if_pos c, rr_ct_t (p := fun i => a' i < x) (by rw [h2]; exact c), e]
    · rw [if_neg c, rr_ct_f (p := fun i => a' i < x) (by rw [h2]; exact c), e]; rfl
  | j + 1, hj => by
    have ih := rr_ins_ct (x := x) h1 h2 h3 j (by omega)
    have e3 : a' (at' + j + 1) = a (at' + j) := h3 (at' + j) (by omega) (by omega)
    show rr_ct (fun i => a' i < x) (at' + j + 1 + 1) = rr_ct (fun i => a i < x) (at' + j + 1) + _
    by_cases c : a (at' + j) < x
    · rw [rr_ct_t (p := fun i => a' i < x) (by rw [e3]; exact c), rr_ct_t (p := fun i => a i < x) c, ih]; omega
    · rw [rr_ct_f (p := fun i => a' i < x) (by rw [e3]; exact c), rr_ct_f (p := fun i => a i < x) c, ih]
def rr_sorted (a : Nat → Int32) (n : Nat) : Prop := ∀ i j, i ≤ j → j < n → a i ≤ a j
theorem rr_ins_sorted {a a' : Nat → Int32} {v : Int32} {n at' : Nat} (hs : rr_sorted a n) (ha : at' ≤ n) (h1 : ∀ i, i < at' → a' i = a i) (h2 : a' at' = v) (h3 : ∀ i, at' ≤ i → i < n → a' (i + 1) = a i) (h4 : ∀ i, at' ≤ i → i < n → v < a i) (h5 : 0 < at' → a (at' - 1) ≤ v) : rr_sorted a' (n + 1) := by
  intro i j hij hj
  have lo : ∀ i, i < at' → a i ≤ v := fun i hi => by
    have p := hs i (at' - 1) (by omega) (by omega)
    have q := h5 (by omega)
    rw [rr_le] at p q ⊢
    omega
  have hi' : ∀ i, at' < i → i < n + 1 → ∃ k, i = k + 1 ∧ at' ≤ k ∧ k < n := fun i h h' => ⟨i - 1, by omega, by omega, by omega⟩
  rcases Nat.lt_trichotomy j at' with c | c | c
  · rw [h1 i (by omega), h1 j c]
    exact hs i j hij (by omega)
  · rw [c, h2]
    by_cases ci : i = at'
    · rw [ci, h2, rr_le]; omega
    · rw [h1 i (by omega)]; exact lo i (by omega)
  · obtain ⟨k, ek, k1, k2⟩ := hi' j c hj
    rw [ek, h3 k k1 k2]
    rcases Nat.lt_trichotomy i at' with d | d | d
    · rw [h1 i d]
      exact hs i k (by omega) k2
    · rw [d, h2]
      have := h4 k k1 k2
      rw [rr_lt] at this
      rw [rr_le]; omega
    · obtain ⟨l, el, l1, l2⟩ := hi' i d (by omega)
      rw [el, h3 l l1 l2]
      exact hs l k (by omega) k2
theorem rr_insert {f0 : Int32} {a1 a2 a3 a4 a5 a6 a7 a8 a9 a10 a11 a12 a13 a14 a15 : Nat → Int32} {post : St1 → Prop} {n : Nat} {v : Int32} (hn : n < 6) (hs : rr_sorted a15 n)
    (H : ∀ b15, rr_sorted b15 (n + 1) → (∀ x, rr_ct (fun i => b15 i < x) (n + 1) = rr_ct (fun i => a15 i < x) n + (if v < x then 1 else 0)) → post (f0, a1, a2, a3, a4, a5, a6, a7, a8, a9, a10, a11, a12, a13, a14, b15)) : wpX_insertSorted post (f0, a1, a2, a3, a4, a5, a6, a7, a8, a9, a10, a11, a12, a13, a14, a15) (nI n) v := by
  show ∃ fu, wX_insertSorted_2 post v f0 fu (nI n) a1 a2 a3 a4 a5 a6 a7 a8 a9 a10 a11 a12 a13 a14 a15
  have fin : ∀ (k : Nat) (c : Nat → Int32), k ≤ n → (∀ i, i < k → c i = a15 i) → (∀ i, k ≤ i → i < n → c (i + 1) = a15 i) → (∀ i, k ≤ i → i < n → v < a15 i) → (0 < k → a15 (k - 1) ≤ v) → post (f0, a1, a2, a3, a4, a5, a6, a7, a8, a9, a10, a11, a12, a13, a14, upd c k v) := by
    intro k c hk h1 h3 h4 h5
    have g1 : ∀ i, i < k → upd c k v i = a15 i := fun i hi => by rw [pk_un (by omega)]; exact h1 i hi
    have g3 : ∀ i, k ≤ i → i < n → upd c k v (i + 1) = a15 i := fun i hi hi' => by rw [pk_un (by omega)]; exact h3 i hi hi'
    refine H _ (rr_ins_sorted hs hk g1 pk_us g3 h4 h5) (fun x => ?_)
    have := rr_ins_ct (x := x) g1 pk_us g3 (n - k) (by omega)
    rw [show k + (n - k) = n by omega] at this
    exact this
  refine ⟨n + 1, pk_loopD (fun m k c => wX_insertSorted_2 post v f0 m (nI k) a1 a2 a3 a4 a5 a6 a7 a8 a9 a10 a11 a12 a13 a14 c) (fun k c => k ≤ n ∧ (∀ i, i < k → c i = a15 i) ∧ (∀ i, k ≤ i → i < n → c (i + 1) = a15 i) ∧ (∀ i, k ≤ i → i < n → v < a15 i)) ?_ ?_ n a15 ⟨Nat.le_refl n, fun _ _ => rfl, fun i h h' => absurd h' (by omega), fun i h h' => absurd h' (by omega)⟩⟩
  · intro m c hI
    obtain ⟨q0, q1, q2, q3⟩ := hI
    exact pk_le 0 0 (fun _ => ⟨pk_in 0 6 (by omega), nm_e (fin 0 c q0 q1 q2 q3 (fun z => absurd z (by omega)))⟩) (fun z => absurd z (by omega))
  · intro m k c hI hw
    obtain ⟨q0, q1, q2, q3⟩ := hI
    refine pk_le (k + 1) 0 (fun z => absurd z (by omega)) (fun _ => ?_)
    rw [nI_pred, nI_clamp (show k < 2 ^ 31 by omega), nI_clamp (show k + 1 < 2 ^ 31 by omega)]
    refine ⟨pk_in k 6 (by omega), br_c (fun z => ⟨pk_in (k + 1) 6 (by omega), nm_e (fin (k + 1) c q0 q1 q2 q3 (fun _ => ?_))⟩) (fun z => ⟨pk_in k 6 (by omega), pk_in (k + 1) 6 (by omega), nm_e (nm_r (pk_m1 k) (hw _ ⟨by omega, fun i hi => ?_, fun i hi hi' => ?_, fun i hi hi' => ?_⟩))⟩)⟩
    · show a15 k ≤ v
      rw [← q1 k (by omega)]; exact z
    · rw [pk_un (by omega)]; exact q1 i (by omega)
    · by_cases e : i = k
      · rw [e, pk_us]; exact q1 k (by omega)
      · rw [pk_un (by omega)]; exact q2 i (by omega) hi'
    · by_cases e : i = k
      · rw [e, ← q1 k (by omega)]; exact rr_nle.mp z
      · exact q3 i (by omega) hi'
/-- the greatest of a key's values, over the first g groups -/
def rr_tp (b : Nat → Int32) (k : Nat) : Nat → Int32
  | 0 => 1000000
  | g + 1 => if b (k * 8 + g) = 1000000 then rr_tp b k g else if rr_tp b k g = 1000000 ∨ ¬ b (k * 8 + g) ≤ rr_tp b k g then b (k * 8 + g) else rr_tp b k g
/-- the middle of the tops -/
def rr_mid (b : Nat → Int32) (r : Int32) : Prop :=
  rr_ct (fun k => rr_tp b k 8 ≠ 1000000 ∧ rr_tp b k 8 < r) 6 ≤ (rr_ct (fun k => rr_tp b k 8 ≠ 1000000) 6 - 1) / 2 ∧
  ∀ x, r < x → (rr_ct (fun k => rr_tp b k 8 ≠ 1000000) 6 - 1) / 2 < rr_ct (fun k => rr_tp b k 8 ≠ 1000000 ∧ rr_tp b k 8 < x) 6
theorem rr_mid_of {b a : Nat → Int32} {n : Nat} (hs : rr_sorted a n) (hn : n = rr_ct (fun k => rr_tp b k 8 ≠ 1000000) 6) (hc : ∀ x, rr_ct (fun i => a i < x) n = rr_ct (fun k => rr_tp b k 8 ≠ 1000000 ∧ rr_tp b k 8 < x) 6) (h1 : 1 ≤ n) : rr_mid b (a ((n - 1) / 2)) := by
  refine ⟨?_, fun x hx => ?_⟩
  · rw [← hc, ← hn]
    have hm : (n - 1) / 2 < n := by omega
    have : rr_ct (fun i => a i < a ((n - 1) / 2)) n ≤ rr_ct (fun i => i < (n - 1) / 2) n := rr_ct_mono n (fun i hi z => by
      rcases Nat.lt_or_ge i ((n - 1) / 2) with c | c
      · exact c
      · have := hs ((n - 1) / 2) i c hi
        rw [rr_le] at this
        rw [rr_lt] at z
        omega)
    have e : ∀ m q, rr_ct (fun i => i < q) m ≤ q := fun m q => by
      induction m with
      | zero => exact Nat.zero_le _
      | succ m ih =>
        rcases Nat.lt_or_ge m q with c | c
        · exact Nat.le_trans (rr_ct_le _ (m + 1)) c
        · rw [rr_ct_f (p := fun i => i < q) (by omega)]; exact ih
    have := e n ((n - 1) / 2)
    omega
  · rw [← hc, ← hn]
    have hm : (n - 1) / 2 < n := by omega
    have e : ∀ m q, q ≤ m → q ≤ rr_ct (fun i => i < q) m := fun m q => by
      induction m with
      | zero => intro h; omega
      | succ m ih =>
        intro h
        rcases Nat.lt_or_ge m q with c | c
        · have e1 : q = m + 1 := by omega
          have : rr_ct (fun i => i < q) (m + 1) = rr_ct (fun _ => True) (m + 1) := rr_ct_congr _ (fun i hi => ⟨fun _ => trivial, fun _ => by omega⟩)
          rw [this]
          have full : ∀ l, rr_ct (fun _ => True) l = l := fun l => by
            induction l with
            | zero => rfl
            | succ l il => rw [rr_ct_t (p := fun _ => True) trivial, il]
          rw [full]; omega
        · rw [rr_ct_f (p := fun i => i < q) (by omega)]; exact ih (by omega)
    have e1 := e n ((n - 1) / 2 + 1) (by omega)
    have : rr_ct (fun i => i < (n - 1) / 2 + 1) n ≤ rr_ct (fun i => a i < x) n := rr_ct_mono n (fun i hi z => by
      have := hs i ((n - 1) / 2) (by omega) hm
      rw [rr_le] at this
      rw [rr_lt] at hx ⊢
      omega)
    omega
theorem rr_middle26 {f0 : Int32} {a1 a2 a3 a4 a5 a6 a7 a8 a9 a10 a11 a12 a13 a14 a15 : Nat → Int32} {post : Int32 → St1 → Prop} {J : Int32 → Int32 → Int32 → (Nat → Int32) → (Nat → Int32) → (Nat → Int32) → (Nat → Int32) → (Nat → Int32) → (Nat → Int32) → (Nat → Int32) → (Nat → Int32) → (Nat → Int32) → (Nat → Int32) → (Nat → Int32) → (Nat → Int32) → (Nat → Int32) → (Nat → Int32) → (Nat → Int32) → Prop} {n k : Nat} (hk : k < 6) (hn : n < 6) (hs : rr_sorted a15 n)
    (H0 : rr_tp a7 k 8 = 1000000 → J (nI n) (nI (k + 1)) f0 a1 a2 a3 a4 a5 a6 a7 a8 a9 a10 a11 a12 a13 a14 a15)
    (H1 : ∀ b15, rr_tp a7 k 8 ≠ 1000000 → rr_sorted b15 (n + 1) → (∀ x, rr_ct (fun i => b15 i < x) (n + 1) = rr_ct (fun i => a15 i < x) n + (if rr_tp a7 k 8 < x then 1 else 0)) → J (nI (n + 1)) (nI (k + 1)) f0 a1 a2 a3 a4 a5 a6 a7 a8 a9 a10 a11 a12 a13 a14 b15) :
    ∃ fu, wX_middleMost_26 post J (nI n) (nI k) f0 a1 a2 a3 a4 a5 a6 a7 a8 a9 a10 a11 a12 a13 a14 a15 fu 1000000 0 := by
  refine pk_loop (σ := Unit) (fun m g _ => wX_middleMost_26 post J (nI n) (nI k) f0 a1 a2 a3 a4 a5 a6 a7 a8 a9 a10 a11 a12 a13 a14 a15 m (rr_tp a7 k g) (nI g)) (fun _ _ => True) 8 0 () (by omega) trivial ?_ ?_
  · intro m _ _
    refine pk_le 8 8 (fun _ => br_c (fun z => nm_r (nI_1 k) (H0 z)) (fun z => rr_insert hn hs (fun b15 q1 q2 => nm_r (nI_1 n) (nm_r (nI_1 k) (H1 b15 z q1 q2))))) (fun z => absurd z (by omega))
  · intro m g _ hg _ hw
    have t : wX_middleMost_26 post J (nI n) (nI k) f0 a1 a2 a3 a4 a5 a6 a7 a8 a9 a10 a11 a12 a13 a14 a15 m (rr_tp a7 k (g + 1)) (nI (g + 1)) := hw () trivial
    refine pk_le 8 g (fun z => absurd z (by omega)) (fun _ => ?_)
    rw [rr_idx, nI_clamp (show k * 8 + g < 2 ^ 31 by omega)]
    refine ⟨pk_in (k * 8 + g) 48 (by omega), nm_e (br_c (fun c => nm_r (nI_1 g) ?_) (fun c => br_c (fun c2 => nm_r (nI_1 g) ?_) (fun c2 => br_c (fun c3 => nm_r (nI_1 g) ?_) (fun c3 => nm_r (nI_1 g) ?_))))⟩
    · rw [show rr_tp a7 k (g + 1) = rr_tp a7 k g from if_pos c] at t; exact t
    · rw [show rr_tp a7 k (g + 1) = a7 (k * 8 + g) from (if_neg c).trans (if_pos (Or.inl c2))] at t; exact t
    · rw [show rr_tp a7 k (g + 1) = rr_tp a7 k g from (if_neg c).trans (if_neg (fun z => z.elim c2 (fun u => u c3)))] at t; exact t
    · rw [show rr_tp a7 k (g + 1) = a7 (k * 8 + g) from (if_neg c).trans (if_pos (Or.inr c3))] at t; exact t
theorem rr_middleMost {f0 : Int32} {a1 a2 a3 a4 a5 a6 a7 a8 a9 a10 a11 a12 a13 a14 a15 : Nat → Int32} {post : Int32 → St1 → Prop} (hf0 : f0 ≠ 0) (hne : ∃ k, k < 6 ∧ rr_tp a7 k 8 ≠ 1000000) (H : ∀ r b15, rr_mid a7 r → post r (f0, a1, a2, a3, a4, a5, a6, a7, a8, a9, a10, a11, a12, a13, a14, b15)) : wpX_middleMost post (f0, a1, a2, a3, a4, a5, a6, a7, a8, a9, a10, a11, a12, a13, a14, a15) := by
  refine br_f hf0 ?_
  refine pk_loop (σ := Nat × (Nat → Int32)) (fun m k s => wX_middleMost_14 post m (nI s.1) (nI k) f0 a1 a2 a3 a4 a5 a6 a7 a8 a9 a10 a11 a12 a13 a14 s.2) (fun k s => rr_sorted s.2 s.1 ∧ s.1 = rr_ct (fun j => rr_tp a7 j 8 ≠ 1000000) k ∧ ∀ x, rr_ct (fun i => s.2 i < x) s.1 = rr_ct (fun j => rr_tp a7 j 8 ≠ 1000000 ∧ rr_tp a7 j 8 < x) k) 6 0 (0, a15) (by omega) ⟨fun i j _ h => absurd h (by omega), rfl, fun _ => rfl⟩ ?_ ?_
  · intro m s hI
    obtain ⟨n, c⟩ := s
    dsimp only at hI
    obtain ⟨q1, q2, q3⟩ := hI
    have hn6 : n ≤ 6 := by rw [q2]; exact rr_ct_le _ 6
    have hn1 : 1 ≤ n := by
      obtain ⟨k, hk, h⟩ := hne
      rw [q2]; exact rr_ct_pos (p := fun j => rr_tp a7 j 8 ≠ 1000000) h 6 hk
    refine pk_le 6 6 (fun _ => ⟨by decide, ?_⟩) (fun z => absurd z (by omega))
    have e1 : nI n - 1 = nI (n - 1) := pk_sub (a := n) (b := 1) hn1
    have e2 : (nI n - 1) / 2 = nI ((n - 1) / 2) := by
      rw [e1]
      exact pk_div (d := 2) (by omega) (by decide) (by decide)
    show vp_in ((nI n - 1) / 2) 6 ∧ post (c ((nI n - 1) / 2).toNatClampNeg) (f0, a1, a2, a3, a4, a5, a6, a7, a8, a9, a10, a11, a12, a13, a14, c)
    rw [e2, nI_clamp (show (n - 1) / 2 < 2 ^ 31 by omega)]
    exact ⟨pk_in ((n - 1) / 2) 6 (by omega), H _ c (rr_mid_of q1 q2 q3 hn1)⟩
  · intro m k s hk hI hw
    obtain ⟨n, c⟩ := s
    dsimp only at hI
    obtain ⟨q1, q2, q3⟩ := hI
    have hn6 : n ≤ k := by rw [q2]; exact rr_ct_le _ k
    refine pk_le 6 k (fun z => absurd z (by omega)) (fun _ => ?_)
    refine rr_middle26 hk (by omega) q1 (fun z => hw (n, c) ⟨q1, ?_, fun x => ?_⟩) (fun b15 z s1 s2 => hw (n + 1, b15) ⟨s1, ?_, fun x => ?_⟩)
    · show n = _
      rw [rr_ct_f (p := fun j => rr_tp a7 j 8 ≠ 1000000) (fun t => t z)]; exact q2
    · show rr_ct (fun i => c i < x) n = _
      rw [rr_ct_f (p := fun j => rr_tp a7 j 8 ≠ 1000000 ∧ rr_tp a7 j 8 < x) (fun t => t.1 z)]; exact q3 x
    · show n + 1 = _
      rw [rr_ct_t (p := fun j => rr_tp a7 j 8 ≠ 1000000) z, ← q2]
    · show rr_ct (fun i => b15 i < x) (n + 1) = _
      rw [s2 x, q3 x]
      by_cases cx : rr_tp a7 k 8 < x
      · rw [if_pos cx, rr_ct_t (p := fun j => rr_tp a7 j 8 ≠ 1000000 ∧ rr_tp a7 j 8 < x) ⟨z, cx⟩]
      · rw [if_neg cx, rr_ct_f (p := fun j => rr_tp a7 j 8 ≠ 1000000 ∧ rr_tp a7 j 8 < x) (fun t => cx t.2)]; rfl
end
section
/-! ===== what the kept sums say ===== -/
def rr_ok (K G : Nat → Nat) (V : Nat → Int32) (n : Nat) : Prop := ∀ j, j < n → K j < 6 ∧ G j < 8 ∧ -1000 ≤ (V j).toInt ∧ (V j).toInt ≤ 1000
theorem rr_ok_p {K G : Nat → Nat} {V : Nat → Int32} {n : Nat} (h : rr_ok K G V (n + 1)) : rr_ok K G V n := fun j hj => h j (by omega)
theorem rr_ms_lt {K G : Nat → Nat} {V : Nat → Int32} (k : Nat) : ∀ n, rr_ok K G V n → rr_ms K G n k < 256
  | 0, _ => by show 0 < 256; decide
  | n + 1, h => by
    have ih := rr_ms_lt k n (rr_ok_p h)
    by_cases e : k = K n
    · rw [e] at ih ⊢
      rw [rr_ms_s]
      exact rr_or_lt ih (h n (by omega)).2.1
    · rw [rr_ms_n e]; exact ih
theorem rr_rw_le (K : Nat → Nat) (k : Nat) : ∀ n, rr_rw K n k ≤ n
  | 0 => Nat.le_refl 0
  | n + 1 => by
    have ih := rr_rw_le K k n
    by_cases e : k = K n
    · rw [e] at ih ⊢
      rw [rr_rw_s]; omega
    · rw [rr_rw_n e]; omega
theorem rr_rw_ms (K G : Nat → Nat) (k : Nat) : ∀ n, (0 < rr_rw K n k ↔ rr_ms K G n k ≠ 0)
  | 0 => ⟨fun z => absurd z (Nat.lt_irrefl 0), fun z => absurd rfl z⟩
  | n + 1 => by
    have ih := rr_rw_ms K G k n
    by_cases e : k = K n
    · rw [e, rr_rw_s, rr_ms_s]
      exact ⟨fun _ => rr_ne0' (g := G n) ((rr_or_tb _ _ _).mpr (Or.inr rfl)), fun _ => Nat.succ_pos _⟩
    · rw [rr_rw_n e, rr_ms_n e]; exact ih
theorem rr_ms_up {K G : Nat → Nat} {n k g : Nat} (h : (rr_ms K G n k).testBit g = true) : (rr_ms K G (n + 1) k).testBit g = true := by
  by_cases e : k = K n
  · rw [e] at h ⊢
    rw [rr_ms_s]
    exact (rr_or_tb _ _ _).mpr (Or.inl h)
  · rw [rr_ms_n e]; exact h
theorem rr_bs_val {K G : Nat → Nat} {V : Nat → Int32} : ∀ n, rr_ok K G V n → ∀ k x, k < 6 → x < 8 → ((rr_ms K G n k).testBit x = true → -1000 ≤ (rr_bs K G V n (k * 8 + x)).toInt ∧ (rr_bs K G V n (k * 8 + x)).toInt ≤ 1000) ∧ (¬ (rr_ms K G n k).testBit x = true → (rr_bs K G V n (k * 8 + x)).toInt = 1000000)
  | 0, _, k, x, hk, hx => ⟨fun z => absurd z (by show ¬ (0 : Nat).testBit x = true; rw [Nat.zero_testBit]; decide), fun _ => rr_none⟩
  | n + 1, h, k, x, hk, hx => by
    have ih := rr_bs_val n (rr_ok_p h) k x hk hx
    obtain ⟨o1, o2, o3, o4⟩ := h n (by omega)
    by_cases e : k * 8 + x = K n * 8 + G n
    · have e1 : k = K n := by omega
      have e2 : x = G n := by omega
      subst e1 e2
      refine ⟨fun _ => ?_, fun z => absurd ((rr_or_tb _ _ _).mpr (Or.inr rfl)) (by rw [rr_ms_s] at z; exact z)⟩
      by_cases c : rr_bs K G V n (K n * 8 + G n) = 1000000 ∨ ¬ V n ≤ rr_bs K G V n (K n * 8 + G n)
      · rw [rr_bs_s c]; exact ⟨o3, o4⟩
      · rw [rr_bs_k c]
        refine ih.1 (Classical.byContradiction (fun z => c (Or.inl ?_)))
        rw [rr_eqN]; exact ih.2 z
    · rw [rr_bs_n e]
      by_cases c : k = K n
      · rw [c, rr_ms_s, rr_or_tb]
        have hx' : x ≠ G n := fun z => e (by rw [c, z])
        rw [c] at ih
        exact ⟨fun z => ih.1 (z.elim id (fun t => absurd t hx')), fun z => ih.2 (fun t => z (Or.inl t))⟩
      · rw [rr_ms_n c]; exact ih
theorem rr_sums_vals {K G : Nat → Nat} {V : Nat → Int32} {n : Nat} {a5 a6 a7 : Nat → Int32} (ho : rr_ok K G V n) (hs : rr_sums K G V n a5 a6 a7) : rr_vals (rr_ms K G n) (fun k x => (rr_bs K G V n (k * 8 + x)).toInt) a7 :=
  ⟨fun k x hk hx => by rw [hs.2.2 _ (by omega)], fun k x hk hx => (rr_bs_val n ho k x hk hx).1, fun k x hk hx => (rr_bs_val n ho k x hk hx).2⟩
/-! tops -/
theorem rr_tp_ge {a : Nat → Int32} {k g : Nat} (h : a (k * 8 + g) ≠ 1000000) : rr_tp a k (g + 1) ≠ 1000000 ∧ a (k * 8 + g) ≤ rr_tp a k (g + 1) := by
  by_cases c : rr_tp a k g = 1000000 ∨ ¬ a (k * 8 + g) ≤ rr_tp a k g
  · rw [show rr_tp a k (g + 1) = a (k * 8 + g) from (if_neg h).trans (if_pos c)]
    exact ⟨h, rr_le.mpr (Int.le_refl _)⟩
  · rw [show rr_tp a k (g + 1) = rr_tp a k g from (if_neg h).trans (if_neg c)]
    exact ⟨fun z => c (Or.inl z), Classical.byContradiction (fun z => c (Or.inr z))⟩
theorem rr_tp_st {a : Nat → Int32} {k g : Nat} (h : rr_tp a k g ≠ 1000000) : rr_tp a k (g + 1) ≠ 1000000 ∧ rr_tp a k g ≤ rr_tp a k (g + 1) := by
  by_cases d : a (k * 8 + g) = 1000000
  · rw [show rr_tp a k (g + 1) = rr_tp a k g from if_pos d]
    exact ⟨h, rr_le.mpr (Int.le_refl _)⟩
  · by_cases c : rr_tp a k g = 1000000 ∨ ¬ a (k * 8 + g) ≤ rr_tp a k g
    · rw [show rr_tp a k (g + 1) = a (k * 8 + g) from (if_neg d).trans (if_pos c)]
      refine ⟨d, ?_⟩
      rcases c with c | c
      · exact absurd c h
      · rw [rr_le] at c ⊢; omega
    · rw [show rr_tp a k (g + 1) = rr_tp a k g from (if_neg d).trans (if_neg c)]
      exact ⟨h, rr_le.mpr (Int.le_refl _)⟩
theorem rr_tp_cs {a : Nat → Int32} {k g : Nat} : (rr_tp a k (g + 1) = a (k * 8 + g) ∧ a (k * 8 + g) ≠ 1000000) ∨ rr_tp a k (g + 1) = rr_tp a k g := by
  by_cases d : a (k * 8 + g) = 1000000
  · exact Or.inr (if_pos d)
  · by_cases c : rr_tp a k g = 1000000 ∨ ¬ a (k * 8 + g) ≤ rr_tp a k g
    · exact Or.inl ⟨(if_neg d).trans (if_pos c), d⟩
    · exact Or.inr ((if_neg d).trans (if_neg c))
theorem rr_tp_mono {a a' : Nat → Int32} {k : Nat} (hk : k < 6) (h : ∀ j, j < 48 → a j ≠ 1000000 → a' j ≠ 1000000 ∧ a j ≤ a' j) : ∀ g, g ≤ 8 → rr_tp a k g ≠ 1000000 → rr_tp a' k g ≠ 1000000 ∧ rr_tp a k g ≤ rr_tp a' k g
  | 0, _, z => absurd rfl z
  | g + 1, hg, z => by
    rcases rr_tp_cs (a := a) (k := k) (g := g) with ⟨e, d⟩ | e
    · obtain ⟨q1, q2⟩ := h (k * 8 + g) (by omega) d
      obtain ⟨q3, q4⟩ := rr_tp_ge q1
      rw [e]
      refine ⟨q3, ?_⟩
      rw [rr_le] at *
      omega
    · rw [e] at z ⊢
      obtain ⟨q1, q2⟩ := rr_tp_mono hk h g (by omega) z
      obtain ⟨q3, q4⟩ := rr_tp_st q1
      refine ⟨q3, ?_⟩
      rw [rr_le] at *
      omega
theorem rr_tp_ne {a : Nat → Int32} {k : Nat} : ∀ g, (rr_tp a k g ≠ 1000000 ↔ ∃ x, x < g ∧ a (k * 8 + x) ≠ 1000000)
  | 0 => ⟨fun z => absurd rfl z, fun ⟨x, hx, _⟩ => absurd hx (by omega)⟩
  | g + 1 => by
    have ih := rr_tp_ne (a := a) (k := k) g
    constructor
    · intro z
      rcases rr_tp_cs (a := a) (k := k) (g := g) with ⟨e, d⟩ | e
      · exact ⟨g, by omega, d⟩
      · rw [e] at z
        obtain ⟨x, hx, d⟩ := ih.mp z
        exact ⟨x, by omega, d⟩
    · rintro ⟨x, hx, d⟩
      by_cases e : x = g
      · rw [e] at d; exact (rr_tp_ge d).1
      · exact (rr_tp_st (ih.mpr ⟨x, by omega, d⟩)).1
theorem rr_tp_used {M : Nat → Nat} {b : Nat → Nat → Int} {a7 : Nat → Int32} {k : Nat} (h : rr_vals M b a7) (hM : M k < 256) (hk : k < 6) : rr_tp a7 k 8 ≠ 1000000 ↔ M k ≠ 0 := by
  rw [rr_tp_ne]
  constructor
  · rintro ⟨x, hx, d⟩
    refine rr_ne0' (g := x) (Classical.byContradiction (fun z => d ?_))
    rw [rr_eqN, h.1 k x hk hx]
    exact h.2.2 k x hk hx z
  · intro z
    obtain ⟨x, hx, t⟩ := rr_ne0 hM z
    refine ⟨x, hx, fun e => ?_⟩
    rw [rr_eqN, h.1 k x hk hx] at e
    have := h.2.1 k x hk hx t
    omega
theorem rr_mid_mono {a a' : Nat → Int32} {r r' : Int32} (h : ∀ j, j < 48 → a j ≠ 1000000 → a' j ≠ 1000000 ∧ a j ≤ a' j) (hu : ∀ k, k < 6 → (rr_tp a k 8 ≠ 1000000 ↔ rr_tp a' k 8 ≠ 1000000)) (hr : rr_mid a r) (hr' : rr_mid a' r') : r ≤ r' := by
  refine Classical.byContradiction (fun z => ?_)
  have z := rr_nle.mp z
  have e : rr_ct (fun k => rr_tp a k 8 ≠ 1000000) 6 = rr_ct (fun k => rr_tp a' k 8 ≠ 1000000) 6 := rr_ct_congr 6 hu
  have p := hr'.2 r z
  have q := hr.1
  have m : rr_ct (fun k => rr_tp a' k 8 ≠ 1000000 ∧ rr_tp a' k 8 < r) 6 ≤ rr_ct (fun k => rr_tp a k 8 ≠ 1000000 ∧ rr_tp a k 8 < r) 6 := rr_ct_mono 6 (fun k hk t => by
    have u := (hu k hk).mpr t.1
    refine ⟨u, ?_⟩
    have v := (rr_tp_mono hk h 8 (Nat.le_refl 8) u).2
    have w := t.2
    rw [rr_le] at v
    rw [rr_lt] at w ⊢
    omega)
  rw [e] at q
  omega
/-! one row more: before and after -/
theorem rr_bs_up {K G : Nat → Nat} {V : Nat → Int32} {n : Nat} (hV : V n ≠ 1000000) (j : Nat) (h : rr_bs K G V n j ≠ 1000000) : rr_bs K G V (n + 1) j ≠ 1000000 ∧ rr_bs K G V n j ≤ rr_bs K G V (n + 1) j := by
  by_cases e : j = K n * 8 + G n
  · subst e
    by_cases c : rr_bs K G V n (K n * 8 + G n) = 1000000 ∨ ¬ V n ≤ rr_bs K G V n (K n * 8 + G n)
    · rw [rr_bs_s c]
      refine ⟨hV, ?_⟩
      rcases c with c | c
      · exact absurd c h
      · rw [rr_le] at c ⊢; omega
    · rw [rr_bs_k c]
      exact ⟨h, rr_le.mpr (Int.le_refl _)⟩
  · rw [rr_bs_n e]
    exact ⟨h, rr_le.mpr (Int.le_refl _)⟩
theorem rr_rp_one {K : Nat → Nat} {n : Nat} (h : rr_rw K n (K n) = 0) : ∀ k, rr_rp (rr_rw K (n + 1)) k = rr_rp (rr_rw K n) k
  | 0 => rfl
  | k + 1 => by
    have ih := rr_rp_one h k
    by_cases e : k = K n
    · have e1 : rr_rw K (n + 1) k = 1 := by rw [e, rr_rw_s, h]
      have e0 : rr_rw K n k = 0 := by rw [e, h]
      show (if 0 < rr_rw K (n + 1) k then rr_rp (rr_rw K (n + 1)) k * nI (rr_rw K (n + 1) k) else _) = (if 0 < rr_rw K n k then _ else rr_rp (rr_rw K n) k)
      rw [if_pos (by omega), if_neg (by omega), e1, ih]
      show _ * (1 : Int32) = _
      rw [Int32.mul_one]
    · show (if 0 < rr_rw K (n + 1) k then rr_rp (rr_rw K (n + 1)) k * nI (rr_rw K (n + 1) k) else rr_rp (rr_rw K (n + 1)) k) = (if 0 < rr_rw K n k then rr_rp (rr_rw K n) k * nI (rr_rw K n k) else rr_rp (rr_rw K n) k)
      rw [rr_rw_n e, ih]
/-! the rows' picture may be changed above n -/
theorem rr_rw_cg {K K' : Nat → Nat} (k : Nat) : ∀ n, (∀ j, j < n → K' j = K j) → rr_rw K' n k = rr_rw K n k
  | 0, _ => rfl
  | n + 1, h => by
    have ih := rr_rw_cg (K := K) (K' := K') k n (fun j hj => h j (by omega))
    have e := h n (by omega)
    show (if k = K' n then rr_rw K' n k + 1 else rr_rw K' n k) = (if k = K n then rr_rw K n k + 1 else rr_rw K n k)
    rw [e, ih]
theorem rr_ms_cg {K K' G G' : Nat → Nat} (k : Nat) : ∀ n, (∀ j, j < n → K' j = K j ∧ G' j = G j) → rr_ms K' G' n k = rr_ms K G n k
  | 0, _ => rfl
  | n + 1, h => by
    have ih := rr_ms_cg (K := K) (K' := K') (G := G) (G' := G') k n (fun j hj => h j (by omega))
    obtain ⟨e1, e2⟩ := h n (by omega)
    show (if k = K' n then rr_ms K' G' n k ||| 2 ^ G' n else rr_ms K' G' n k) = (if k = K n then rr_ms K G n k ||| 2 ^ G n else rr_ms K G n k)
    rw [e1, e2, ih]
theorem rr_bs_cg {K K' G G' : Nat → Nat} {V V' : Nat → Int32} (x : Nat) : ∀ n, (∀ j, j < n → K' j = K j ∧ G' j = G j ∧ V' j = V j) → rr_bs K' G' V' n x = rr_bs K G V n x
  | 0, _ => rfl
  | n + 1, h => by
    have ih := rr_bs_cg (K := K) (K' := K') (G := G) (G' := G') (V := V) (V' := V') x n (fun j hj => h j (by omega))
    obtain ⟨e1, e2, e3⟩ := h n (by omega)
    show (if x = K' n * 8 + G' n then (if rr_bs K' G' V' n x = 1000000 ∨ ¬ V' n ≤ rr_bs K' G' V' n x then V' n else rr_bs K' G' V' n x) else rr_bs K' G' V' n x) = (if x = K n * 8 + G n then (if rr_bs K G V n x = 1000000 ∨ ¬ V n ≤ rr_bs K G V n x then V n else rr_bs K G V n x) else rr_bs K G V n x)
    rw [e1, e2, e3, ih]
end
section
/-! ===== add, init, sound ===== -/
theorem rr_wpadd {f0 : Int32} {a1 a2 a3 a4 a5 a6 a7 a8 a9 a10 a11 a12 a13 a14 a15 : Nat → Int32} {post : Int32 → St1 → Prop} {K G : Nat → Nat} {V : Nat → Int32} {n : Nat} (hf0 : f0 = nI n) (hn : n < 13) (hr : rr_rows K G V n a1 a2 a3 a4) (hK : K n < 6) (hG : G n < 8) (hV : -1000 ≤ (V n).toInt ∧ (V n).toInt ≤ 1000)
    (H : ∀ b1 b2 b3 b4 b5 b6 b7, rr_rows K G V (n + 1) b1 b2 b3 b4 → rr_sums K G V (n + 1) b5 b6 b7 → post (nI n) (nI (n + 1), b1, b2, b3, b4, b5, b6, b7, a8, a9, a10, a11, a12, a13, a14, a15)) : wpX_add post (f0, a1, a2, a3, a4, a5, a6, a7, a8, a9, a10, a11, a12, a13, a14, a15) (nI (K n)) (nI (G n)) (V n) := by
  subst hf0
  obtain ⟨r1, r2, r3, r4⟩ := hr
  refine br_f (nI_pos (by omega)) (br_t (nI_lt (b := 6) hK (by decide)) (br_f (nI_pos (by omega)) (br_t (nI_lt (b := 8) hG (by decide)) (br_f ?_ (br_t ?_ (br_t (nI_lt (b := 14) (by omega) (by decide)) ?_))))))
  · rw [rr_lt, show ((-1000) : Int32).toInt = -1000 by decide]; omega
  · rw [rr_le, show (1000 : Int32).toInt = 1000 by decide]; omega
  have main : wX_add_80 post (nI (K n)) (nI (G n)) (V n) (nI n) (nI n) a1 a2 a3 a4 a5 a6 a7 a8 a9 a10 a11 a12 a13 a14 a15 := by
    unfold wX_add_80
    rw [nI_clamp (show n < 2 ^ 31 by omega)]
    refine ⟨pk_in n 14 (by omega), nm_e ⟨pk_in n 14 (by omega), nm_e ⟨pk_in n 14 (by omega), nm_e ⟨pk_in n 14 (by omega), nm_e (nm_r (nI_1 n) ?_)⟩⟩⟩⟩
    have hr' : rr_rows K G V (n + 1) (upd a1 n 1) (upd a2 n (nI (K n))) (upd a3 n (nI (G n))) (upd a4 n (V n)) := by
      refine ⟨by omega, fun j hj => ?_, fun j hj hj' => ?_, fun j hj => ?_⟩
      · by_cases e : j = n
        · rw [e, pk_us]
        · rw [pk_un e]; exact r2 j (by omega)
      · rw [pk_un (by omega)]; exact r3 j hj (by omega)
      · by_cases e : j = n
        · rw [e, pk_us, pk_us, pk_us]; exact ⟨rfl, hK, rfl, hG, rfl⟩
        · rw [pk_un e, pk_un e, pk_un e]; exact r4 j (by omega)
    exact rr_summarise hr' (fun b5 b6 b7 hs => H _ _ _ _ b5 b6 b7 hr' hs)
  refine pk_loop (σ := Unit) (fun m i _ => wX_add_57 post (nI (K n)) (nI (G n)) (V n) (nI n) a1 a2 a3 a4 a5 a6 a7 a8 a9 a10 a11 a12 a13 a14 a15 m (nI i)) (fun _ _ => True) n 0 () (by omega) trivial ?_ ?_
  · intro m _ _
    refine pk_le 13 n (fun z => main) (fun _ => ⟨pk_in n 14 (by omega), ?_⟩)
    rw [nI_clamp (show n < 2 ^ 31 by omega)]
    exact br_t (r3 n (by omega) (Nat.le_refl n)) main
  · intro m i _ hi _ hw
    refine pk_le 13 i (fun z => absurd z (by omega)) (fun _ => ⟨pk_in i 14 (by omega), ?_⟩)
    rw [nI_clamp (show i < 2 ^ 31 by omega)]
    exact br_f (by rw [r2 i hi]; decide) (nm_r (nI_1 i) (hw () trivial))
/-- the state of n rows -/
def rr_S (K G : Nat → Nat) (V : Nat → Int32) (n : Nat) (f0 : Int32) (a5 a6 a7 : Nat → Int32) : Prop := n ≤ 14 ∧ rr_ok K G V n ∧ f0 = nI n ∧ rr_sums K G V n a5 a6 a7
theorem rr_keys0 {K G : Nat → Nat} {V : Nat → Int32} {n : Nat} (ho : rr_ok K G V n) (hn : 0 < n) : rr_ms K G n (K 0) ≠ 0 := by
  have : ∀ m, 0 < m → 0 < rr_rw K m (K 0) := fun m => by
    induction m with
    | zero => intro h; omega
    | succ m ih =>
      intro _
      by_cases e : K 0 = K m
      · rw [e, rr_rw_s]; omega
      · rw [rr_rw_n e]
        refine ih (Nat.pos_of_ne_zero (fun z => e ?_))
        rw [z]
  exact (rr_rw_ms K G (K 0) n).mp (this n hn)
theorem rr_sound55 {f0 : Int32} {a1 a2 a3 a4 a5 a6 a7 a8 a9 a10 a11 a12 a13 a14 a15 : Nat → Int32} {post : Int32 → St1 → Prop} {M : Nat → Nat} (h6 : ∀ k, k < 6 → a6 k = nI (M k)) (hM : ∀ k, k < 6 → M k < 256) (H : post 1 (f0, a1, a2, a3, a4, a5, a6, a7, a8, a9, a10, a11, a12, a13, a14, a15)) : ∃ fu, wL_sound_55 post f0 a1 a2 a3 a4 a5 a6 a7 a8 a9 a10 a11 a12 a13 a14 a15 fu 0 := by
  refine pk_loop (σ := Unit) (fun n g _ => wL_sound_55 post f0 a1 a2 a3 a4 a5 a6 a7 a8 a9 a10 a11 a12 a13 a14 a15 n (nI g)) (fun _ _ => True) 8 0 () (by omega) trivial (fun n _ _ => pk_le 8 8 (fun _ => H) (fun z => absurd z (by omega))) ?_
  intro n g _ hg _ hw
  have c1 := rr_ct_le (fun k => M k = 2 ^ g) 6
  have c2 := rr_ct_le (fun k => (M k).testBit g = true) 6
  have c3 : rr_ct (fun k => M k = 2 ^ g) 6 ≤ rr_ct (fun k => (M k).testBit g = true) 6 := rr_ct_mono 6 (fun k _ z => by rw [z]; exact rr_pow_tb.mpr rfl)
  exact pk_le 8 g (fun z => absurd z (by omega)) (fun _ => rr_countLeast h6 hM hg (rr_countMost h6 hM hg (pk_le (rr_ct (fun k => M k = 2 ^ g) 6) (rr_ct (fun k => (M k).testBit g = true) 6) (fun _ => nm_r (nI_1 g) (hw () trivial)) (fun z => absurd z (by omega)))))
theorem rr_sound {f0 : Int32} {a1 a2 a3 a4 a5 a6 a7 a8 a9 a10 a11 a12 a13 a14 a15 : Nat → Int32} {post : Int32 → St1 → Prop} {K G : Nat → Nat} {V : Nat → Int32} {n : Nat} (hS : rr_S K G V n f0 a5 a6 a7)
    (H : ∀ b8 b9 b10 b11 b12, post 1 (f0, a1, a2, a3, a4, a5, a6, a7, b8, b9, b10, b11, b12, a13, a14, a15)) : wpL_sound post (f0, a1, a2, a3, a4, a5, a6, a7, a8, a9, a10, a11, a12, a13, a14, a15) (nI (rr_ct (fun k => rr_ms K G n k ≠ 0) 6)) := by
  obtain ⟨hn, ho, hf, hs⟩ := hS
  have hM : ∀ k, k < 6 → rr_ms K G n k < 256 := fun k _ => rr_ms_lt k n ho
  have hW : ∀ k, k < 6 → rr_rw K n k < 100 := fun k _ => by have := rr_rw_le K k n; omega
  have hu : ∀ k, k < 6 → (0 < rr_rw K n k ↔ rr_ms K G n k ≠ 0) := fun k _ => rr_rw_ms K G k n
  have hkeys := rr_ct_le (fun k => rr_ms K G n k ≠ 0) 6
  unfold wpL_sound
  dsimp only
  refine rr_groupsMost hs.2.1 hM (fun m b8 b10 b11 b12 hm8 hmm => ?_)
  have hle := rr_MM_le hM hmm
  refine rr_groupsLeast hs.1 hW hs.2.1 hM (fun l hl8 hl => ?_)
  obtain ⟨_, _, mk, hmk, hmc, hmh⟩ := id hmm
  have hlm : l ≤ m := by
    have := hl mk hmk (fun k hk hw => hmh k hk ((hu k hk).mp hw))
    omega
  refine pk_lt m l (fun z => absurd z (by omega)) (fun _ => pk_le m (rr_ct (fun k => rr_ms K G n k ≠ 0) 6) (fun _ => ?_) (fun z => absurd z (by omega)))
  have fin0 : ∀ c8 c9 c10, wL_sound_48 post 0 0 f0 a1 a2 a3 a4 a5 a6 a7 c8 c9 c10 b11 b12 a13 a14 a15 := fun c8 c9 c10 => br_t rfl (rr_sound55 hs.2.1 hM (H c8 c9 c10 b11 b12))
  have fin1 : ∀ c8 c9 c10, wL_sound_48 post 1 1 f0 a1 a2 a3 a4 a5 a6 a7 c8 c9 c10 b11 b12 a13 a14 a15 := fun c8 c9 c10 => br_t rfl (rr_sound55 hs.2.1 hM (H c8 c9 c10 b11 b12))
  by_cases c : n = 0
  · subst c
    have k0 : rr_ct (fun k => rr_ms K G 0 k ≠ 0) 6 = 0 := rr_ct_zero 6 (fun k _ z => z rfl)
    refine br_t (by rw [hf]; rfl) (br_t rfl ?_)
    rw [k0]
    exact br_t (by decide) (fin0 b8 a9 b10)
  · have hf0 : f0 ≠ 0 := by rw [hf]; exact nI_ne0 (by omega) (by omega)
    refine rr_mixedMost hf0 hs.1 hW hu (rr_sums_vals ho hs) (fun c8 c9 c10 hN => ?_) (fun r c8 c9 c10 hr hA => ?_)
    · have := hN m hmm
      exact br_t rfl (pk_le (rr_ct (fun k => rr_ms K G n k ≠ 0) 6) 0 (fun z => absurd z (by omega)) (fun _ => pk_eq m (rr_ct (fun k => rr_ms K G n k ≠ 0) 6) (fun z => absurd z (by omega)) (fun _ => fin0 c8 c9 c10)))
    · have := hA m hmm
      have h1 : 1 ≤ rr_ct (fun k => rr_ms K G n k ≠ 0) 6 := rr_ct_pos (p := fun k => rr_ms K G n k ≠ 0) (rr_keys0 ho (by omega)) 6 (ho 0 (by omega)).1
      exact br_f hr (pk_le (rr_ct (fun k => rr_ms K G n k ≠ 0) 6) 0 (fun z => absurd z (by omega)) (fun _ => pk_eq m (rr_ct (fun k => rr_ms K G n k ≠ 0) 6) (fun _ => fin1 c8 c9 c10) (fun z => absurd (Nat.le_antisymm hle this) z)))
end
section
/-! ===== the law ===== -/
theorem rr_cell {post : Int32 → Prop} {L : Nat} {xs : Nat → Int32} {p : Nat} {x : Int32} (hL : L ≤ 260) (hp : p < 100) (hx : x = nI p) (H : ∀ c, post c) : wpL_cell post L xs () x := by
  subst hx
  exact pk_le L p (fun _ => H 0) (fun z => ⟨pk_in p L z, H _⟩)
theorem rr_key (c : Int32) : ∃ k : Nat, k < 6 ∧ (c &&& 2147483647) - (c &&& 2147483647) / 6 * 6 = nI k := by
  obtain ⟨j, hj, e⟩ := pk_andE c (m := 2147483647) 31 (by decide)
  refine ⟨j % 6, Nat.mod_lt _ (by decide), ?_⟩
  rw [e]
  exact pk_rem (a := j) (d := 6) hj (by decide) (by decide)
theorem rr_value (c : Int32) : -1000 ≤ ((c &&& 1023) - 500).toInt ∧ ((c &&& 1023) - 500).toInt ≤ 1000 := by
  obtain ⟨j, hj, e⟩ := pk_andE c (m := 1023) 10 (by decide)
  rw [e]
  have : (nI j - 500).toInt = (j : Int) - 500 := pk_sub_toInt (a := j) (b := 500) (by omega) (by decide)
  rw [this]
  omega
/-- ahead of turn i: the rows so far, the keys in use (u), how many (keys) -/
def rr_inv (K G : Nat → Nat) (V : Nat → Int32) (i u keys : Nat) (f0 : Int32) (a1 a2 a3 a4 a5 a6 a7 : Nat → Int32) : Prop :=
  i ≤ 6 ∧ rr_ok K G V i ∧ f0 = nI i ∧ rr_rows K G V i a1 a2 a3 a4 ∧ rr_sums K G V i a5 a6 a7 ∧ u < 64 ∧ (∀ k, k < 6 → (u.testBit k = true ↔ 0 < rr_rw K i k)) ∧ keys = rr_ct (fun k => rr_ms K G i k ≠ 0) 6
theorem rr_inv_set {K G : Nat → Nat} {V : Nat → Int32} {i u keys : Nat} {f0 : Int32} {a1 a2 a3 a4 a5 a6 a7 : Nat → Int32} (H : rr_inv K G V i u keys f0 a1 a2 a3 a4 a5 a6 a7) (k g : Nat) (v : Int32) : rr_inv (rr_up K i k) (rr_up G i g) (upd V i v) i u keys f0 a1 a2 a3 a4 a5 a6 a7 := by
  obtain ⟨h1, h2, h3, ⟨r1, r2, r3, r4⟩, ⟨s1, s2, s3⟩, h6, h7, h8⟩ := H
  have e1 : ∀ j, j < i → rr_up K i k j = K j := fun j hj => rr_up_n (by omega)
  have e2 : ∀ j, j < i → rr_up G i g j = G j := fun j hj => rr_up_n (by omega)
  have e3 : ∀ j, j < i → upd V i v j = V j := fun j hj => pk_un (by omega)
  have w : ∀ x, rr_rw (rr_up K i k) i x = rr_rw K i x := fun x => rr_rw_cg x i e1
  have m : ∀ x, rr_ms (rr_up K i k) (rr_up G i g) i x = rr_ms K G i x := fun x => rr_ms_cg x i (fun j hj => ⟨e1 j hj, e2 j hj⟩)
  have b : ∀ x, rr_bs (rr_up K i k) (rr_up G i g) (upd V i v) i x = rr_bs K G V i x := fun x => rr_bs_cg x i (fun j hj => ⟨e1 j hj, e2 j hj, e3 j hj⟩)
  refine ⟨h1, fun j hj => ?_, h3, ⟨r1, r2, r3, fun j hj => ?_⟩, ⟨fun x hx => ?_, fun x hx => ?_, fun x hx => ?_⟩, h6, fun x hx => ?_, ?_⟩
  · rw [e1 j hj, e2 j hj, e3 j hj]; exact h2 j hj
  · rw [e1 j hj, e2 j hj, e3 j hj]; exact r4 j hj
  · rw [w]; exact s1 x hx
  · rw [m]; exact s2 x hx
  · rw [b]; exact s3 x hx
  · rw [w]; exact h7 x hx
  · rw [h8]
    exact rr_ct_congr 6 (fun x _ => by rw [m])
/-- a key that is new -/
theorem rr_inv_new {K G : Nat → Nat} {V : Nat → Int32} {i u keys : Nat} (ho : rr_ok K G V (i + 1)) (hu : u < 64) (hb : ∀ k, k < 6 → (u.testBit k = true ↔ 0 < rr_rw K i k)) (hk : keys = rr_ct (fun k => rr_ms K G i k ≠ 0) 6) (h0 : rr_rw K i (K i) = 0) :
    u ||| 2 ^ K i < 64 ∧ (∀ k, k < 6 → ((u ||| 2 ^ K i).testBit k = true ↔ 0 < rr_rw K (i + 1) k)) ∧ keys + 1 = rr_ct (fun k => rr_ms K G (i + 1) k ≠ 0) 6 := by
  obtain ⟨o1, o2, _, _⟩ := ho i (by omega)
  refine ⟨Nat.or_lt_two_pow (n := 6) hu (Nat.pow_lt_pow_right (by decide) o1), fun k hk6 => ?_, ?_⟩
  · rw [rr_or_tb]
    by_cases e : k = K i
    · rw [e, rr_rw_s]
      exact ⟨fun _ => Nat.succ_pos _, fun _ => Or.inr rfl⟩
    · rw [rr_rw_n e, ← hb k hk6]
      exact ⟨fun z => z.elim id (fun t => absurd t e), Or.inl⟩
  · have n0 : ¬ rr_ms K G i (K i) ≠ 0 := fun z => by
      have := (rr_rw_ms K G (K i) i).mpr z
      omega
    rw [hk]
    refine (rr_ct_add (p := fun k => rr_ms K G i k ≠ 0) (j := K i) n0 6 o1 (fun k _ => ?_)).symm
    rw [← rr_rw_ms, ← rr_rw_ms]
    by_cases e : k = K i
    · rw [e, rr_rw_s]
      exact ⟨fun _ => Or.inr rfl, fun _ => Nat.succ_pos _⟩
    · rw [rr_rw_n e]
      exact ⟨Or.inl, fun z => z.elim id (fun t => absurd t e)⟩
/-- a key that is in use -/
theorem rr_inv_old {K G : Nat → Nat} {i u keys : Nat} (hb : ∀ k, k < 6 → (u.testBit k = true ↔ 0 < rr_rw K i k)) (hk : keys = rr_ct (fun k => rr_ms K G i k ≠ 0) 6) (h0 : 0 < rr_rw K i (K i)) :
    (∀ k, 0 < rr_rw K i k ↔ 0 < rr_rw K (i + 1) k) ∧ (∀ k, k < 6 → (u.testBit k = true ↔ 0 < rr_rw K (i + 1) k)) ∧ keys = rr_ct (fun k => rr_ms K G (i + 1) k ≠ 0) 6 := by
  have e : ∀ k, 0 < rr_rw K i k ↔ 0 < rr_rw K (i + 1) k := fun k => by
    by_cases e : k = K i
    · rw [e, rr_rw_s]
      exact ⟨fun _ => Nat.succ_pos _, fun _ => h0⟩
    · rw [rr_rw_n e]
  refine ⟨e, fun k hk6 => (hb k hk6).trans (e k), hk.trans (rr_ct_congr 6 (fun k _ => ?_))⟩
  rw [← rr_rw_ms, ← rr_rw_ms]
  exact e k
/-- middleMost, rows or none -/
theorem rr_middleW {f0 : Int32} {a1 a2 a3 a4 a5 a6 a7 a8 a9 a10 a11 a12 a13 a14 a15 : Nat → Int32} {post : Int32 → St1 → Prop} {K G : Nat → Nat} {V : Nat → Int32} {n : Nat} (hn : n ≤ 14) (ho : rr_ok K G V n) (hf : f0 = nI n) (hs : rr_sums K G V n a5 a6 a7) (H : ∀ r b15, (0 < n → rr_mid a7 r) → post r (f0, a1, a2, a3, a4, a5, a6, a7, a8, a9, a10, a11, a12, a13, a14, b15)) : wpX_middleMost post (f0, a1, a2, a3, a4, a5, a6, a7, a8, a9, a10, a11, a12, a13, a14, a15) := by
  by_cases c : n = 0
  · exact br_t (by rw [hf, c]; rfl) (H 1000000 a15 (fun z => absurd z (by omega)))
  · have hk := (ho 0 (by omega)).1
    exact rr_middleMost (by rw [hf]; exact nI_ne0 (by omega) (by omega)) ⟨K 0, hk, (rr_tp_used (rr_sums_vals ho hs) (rr_ms_lt _ n ho) hk).mpr (rr_keys0 ho (by omega))⟩ (fun r b15 h => H r b15 (fun _ => h))
theorem rr_law204 {f0 : Int32} {a1 a2 a3 a4 a5 a6 a7 a8 a9 a10 a11 a12 a13 a14 a15 : Nat → Int32} {post : Int32 → Prop} {L : Nat} {xs : Nat → Int32} {J : Int32 → Int32 → Int32 → Int32 → (Nat → Int32) → (Nat → Int32) → (Nat → Int32) → (Nat → Int32) → (Nat → Int32) → (Nat → Int32) → (Nat → Int32) → (Nat → Int32) → (Nat → Int32) → (Nat → Int32) → (Nat → Int32) → (Nat → Int32) → (Nat → Int32) → (Nat → Int32) → (Nat → Int32) → Prop} {kc ks : Nat} {K G : Nat → Nat} {V : Nat → Int32} {i u keys : Nat} (hi : i < 6)
    (hI : rr_inv K G V (i + 1) u keys f0 a1 a2 a3 a4 a5 a6 a7)
    (HJ : ∀ b8 b9 b10 b11 b12, J (nI u) (nI keys) (nI (i + 1)) f0 a1 a2 a3 a4 a5 a6 a7 b8 b9 b10 b11 b12 a13 a14 a15) : wL_law_204 post L xs J (nI u) (nI keys) (nI i) kc ks f0 a1 a2 a3 a4 a5 a6 a7 a8 a9 a10 a11 a12 a13 a14 a15 := by
  obtain ⟨h1, h2, h3, h4, h5, h6, h7, h8⟩ := hI
  unfold wL_law_204
  rw [h8]
  refine rr_sound ⟨by omega, h2, h3, h5⟩ (fun b8 b9 b10 b11 b12 => br_f (by decide) (nm_r (nI_1 i) ?_))
  rw [← h8]
  exact HJ b8 b9 b10 b11 b12
end
section
/-! ===== the law's turns ===== -/
theorem rr_wpadd2 {f0 : Int32} {a1 a2 a3 a4 a5 a6 a7 a8 a9 a10 a11 a12 a13 a14 a15 : Nat → Int32} {post : Int32 → St1 → Prop} {K G : Nat → Nat} {V : Nat → Int32} {n : Nat} {x y z : Int32} (hx : x = nI (K n)) (hy : y = nI (G n)) (hz : z = V n) (hf0 : f0 = nI n) (hn : n < 13) (hr : rr_rows K G V n a1 a2 a3 a4) (hK : K n < 6) (hG : G n < 8) (hV : -1000 ≤ (V n).toInt ∧ (V n).toInt ≤ 1000)
    (H : ∀ b1 b2 b3 b4 b5 b6 b7, rr_rows K G V (n + 1) b1 b2 b3 b4 → rr_sums K G V (n + 1) b5 b6 b7 → post (nI n) (nI (n + 1), b1, b2, b3, b4, b5, b6, b7, a8, a9, a10, a11, a12, a13, a14, a15)) : wpX_add post (f0, a1, a2, a3, a4, a5, a6, a7, a8, a9, a10, a11, a12, a13, a14, a15) x y z := by
  subst hx hy hz
  exact rr_wpadd hf0 hn hr hK hG hV H
theorem rr_law25 {post : Int32 → Prop} {L : Nat} {xs : Nat → Int32} {kc ks : Nat} (hL : L ≤ 260) (hp : post 1) : ∀ (m i : Nat), i + m = 6 → ∀ (f0 : Int32) (a1 a2 a3 a4 a5 a6 a7 a8 a9 a10 a11 a12 a13 a14 a15 : Nat → Int32) (K G : Nat → Nat) (V : Nat → Int32) (u keys : Nat), rr_inv K G V i u keys f0 a1 a2 a3 a4 a5 a6 a7 → wL_law_25 post L xs kc ks (m + 1) (nI u) (nI keys) (nI i) f0 a1 a2 a3 a4 a5 a6 a7 a8 a9 a10 a11 a12 a13 a14 a15 := by
  intro m
  induction m with
  | zero =>
    intro i hi f0 a1 a2 a3 a4 a5 a6 a7 a8 a9 a10 a11 a12 a13 a14 a15 K G V u keys hI
    exact pk_le 6 i (fun _ => hp) (fun z => absurd z (by omega))
  | succ m ih =>
    intro i hi f0 a1 a2 a3 a4 a5 a6 a7 a8 a9 a10 a11 a12 a13 a14 a15 K G V u keys hI
    refine pk_le 6 i (fun z => absurd z (by omega)) (fun hi6 => rr_cell hL (p := 3 * i) (by omega) (pk_mul 3 i) (fun c1 => ⟨by decide, ?_⟩))
    obtain ⟨key, hkey, ek⟩ := rr_key c1
    have e3 : (3 : Int32) * nI i = nI (3 * i) := pk_mul 3 i
    refine nm_r ek (rr_cell hL (p := 3 * i + 1) (by omega) (by rw [e3, nI_1]) (fun c2 => ?_))
    obtain ⟨grp, hgrp, eg⟩ := pk_andE c2 (m := 7) 3 (by decide)
    refine nm_r eg (rr_cell hL (p := 3 * i + 2) (by omega) (by rw [e3]; exact nI_add (3 * i) 2) (fun c3 => nm_e (rr_cell hL (p := i) (by omega) rfl (fun c4 => ?_))))
    obtain ⟨g, hg, e4⟩ := pk_andE (c4 >>> ((8 : Int32) &&& 31)) (m := 7) 3 (by decide)
    refine nm_r e4 ?_
    have hval := rr_value c3
    generalize (c3 &&& 1023) - 500 = v at hval ⊢
    have hI' := rr_inv_set hI key grp v
    have eK : rr_up K i key i = key := rr_up_s K i key
    have eG : rr_up G i grp i = grp := rr_up_s G i grp
    have eV : upd V i v i = v := pk_us
    clear hI ek eg e4
    generalize rr_up K i key = K' at hI' eK
    generalize rr_up G i grp = G' at hI' eG
    generalize upd V i v = V' at hI' eV
    obtain ⟨h1, h2, h3, h4, h5, h6, h7, h8⟩ := hI'
    have hg8 : g < 8 := hg
    have hgrp8 : grp < 8 := hgrp
    have ok1 : rr_ok K' G' V' (i + 1) := fun j hj => by
      by_cases e : j = i
      · rw [e, eK, eG, eV]; exact ⟨hkey, hgrp8, hval.1, hval.2⟩
      · exact h2 j (by omega)
    have hM : ∀ k, k < 6 → rr_ms K' G' i k < 256 := fun k _ => rr_ms_lt k i h2
    have hW : ∀ k, k < 6 → rr_rw K' i k < 100 := fun k _ => by have := rr_rw_le K' k i; omega
    have hM' : ∀ k, k < 6 → rr_ms K' G' (i + 1) k < 256 := fun k _ => rr_ms_lt k (i + 1) ok1
    have hW' : ∀ k, k < 6 → rr_rw K' (i + 1) k < 100 := fun k _ => by have := rr_rw_le K' k (i + 1); omega
    have hkeys : keys ≤ 6 := by rw [h8]; exact rr_ct_le _ 6
    refine rr_repairs h5.1 hW (rr_groupsMost h5.2.1 hM (fun m0 c8 c10 c11 c12 hm0 hmm0 => rr_middleW (by omega) h2 h3 h5 (fun r0 c15 hmid0 => rr_countMost h5.2.1 hM hg8 ?_)))
    refine rr_wpadd2 (by rw [eK]) (by rw [eG]) eV.symm h3 (by omega) h4 (by rw [eK]; exact hkey) (by rw [eG]; exact hgrp8) (by rw [eV]; exact hval) (fun b1 b2 b3 b4 b5 b6 b7 hr' hs' => br_t rfl ?_)
    refine ek_if (rr_bit0 (by omega) (by omega)) (fun t => ?_) (fun t => ?_)
    · have h0 : rr_rw K' i (K' i) = 0 := by
        rw [eK]
        rcases Nat.eq_zero_or_pos (rr_rw K' i key) with z | z
        · exact z
        · exact absurd ((h7 key hkey).mpr z) t
      obtain ⟨n1, n2, n3⟩ := rr_inv_new ok1 h6 h7 h8 h0
      rw [eK] at n1 n2
      refine rr_repairs hs'.1 hW' (br_t (rr_rp_one h0 6) (nm_r (e' := nI (u ||| 2 ^ key)) (by rw [rr_shl1 (by omega), rr_or]) (nm_r (nI_1 keys) ?_)))
      have hinv : rr_inv K' G' V' (i + 1) (u ||| 2 ^ key) (keys + 1) (nI (i + 1)) b1 b2 b3 b4 b5 b6 b7 := ⟨by omega, ok1, rfl, hr', hs', n1, n2, n3⟩
      exact rr_law204 hi6 hinv (fun d8 d9 d10 d11 d12 => ih (i + 1) (by omega) _ _ _ _ _ _ _ _ _ _ _ _ _ _ _ _ K' G' V' _ _ hinv)
    · have h0 : 0 < rr_rw K' i (K' i) := by
        rw [eK]
        exact (h7 key hkey).mp (Classical.byContradiction t)
      have hi0 : 0 < i := Nat.pos_of_ne_zero (fun z => by
        rw [z] at h0
        exact absurd h0 (Nat.lt_irrefl 0))
      obtain ⟨n0, n1, n2⟩ := rr_inv_old (G := G') h7 h8 h0
      have hmono : ∀ k g, k < 6 → g < 8 → (rr_ms K' G' i k).testBit g = true → (rr_ms K' G' (i + 1) k).testBit g = true := fun k g _ _ z => rr_ms_up z
      have hinv : rr_inv K' G' V' (i + 1) u keys (nI (i + 1)) b1 b2 b3 b4 b5 b6 b7 := ⟨by omega, ok1, rfl, hr', hs', h6, n1, n2⟩
      refine rr_groupsMost hs'.2.1 hM' (fun m1 d8 d10 d11 d12 hm1 hmm1 => ?_)
      have q1 : m0 ≤ m1 := rr_MM_mono hmm0 hmm1 hmono
      refine pk_lt m1 m0 (fun z => absurd z (by omega)) (fun _ => rr_countMost hs'.2.1 hM' hg8 ?_)
      have q2 : rr_ct (fun k => (rr_ms K' G' i k).testBit g = true) 6 ≤ rr_ct (fun k => (rr_ms K' G' (i + 1) k).testBit g = true) 6 := rr_ct_mono 6 (fun k hk z => hmono k g hk hg8 z)
      have q3 := rr_ct_le (fun k => (rr_ms K' G' (i + 1) k).testBit g = true) 6
      refine pk_lt (rr_ct (fun k => (rr_ms K' G' (i + 1) k).testBit g = true) 6) (rr_ct (fun k => (rr_ms K' G' i k).testBit g = true) 6) (fun z => absurd z (by omega)) (fun _ => rr_middleW (by omega) ok1 rfl hs' (fun r1 d15 hmid1 => br_t ?_ ?_))
      · refine rr_mid_mono (fun j hj hne => ?_) (fun k hk => ?_) (hmid0 hi0) (hmid1 (by omega))
        · rw [h5.2.2 j hj] at hne ⊢
          rw [hs'.2.2 j hj]
          refine rr_bs_up (fun z => ?_) j hne
          rw [rr_eqN, eV] at z
          omega
        · rw [rr_tp_used (rr_sums_vals h2 h5) (hM k hk) hk, rr_tp_used (rr_sums_vals ok1 hs') (hM' k hk) hk, ← rr_rw_ms, ← rr_rw_ms]
          exact n0 k
      · exact rr_law204 hi6 hinv (fun d8 d9 d10 d11 d12 => ih (i + 1) (by omega) _ _ _ _ _ _ _ _ _ _ _ _ _ _ _ _ K' G' V' _ _ hinv)
theorem rr_init {post : St1 → Prop} {K G : Nat → Nat} {V : Nat → Int32} (H : ∀ b5 b6 b7, rr_sums K G V 0 b5 b6 b7 → post (0, (fun _ => 0), (fun _ => 0), (fun _ => 0), (fun _ => 0), b5, b6, b7, (fun _ => 0), (fun _ => 0), (fun _ => 0), (fun _ => 0), (fun _ => 0), (fun _ => 0), (fun _ => 0), (fun _ => 0))) : wpX_init post 15 182 0 := by
  unfold wpX_init
  refine ⟨by decide, by decide, by decide, by decide, by decide, by decide, by decide, by decide, by decide, by decide, by decide, by decide, by decide, by decide, by decide, by decide, by decide, by decide, by decide, by decide, by decide, by decide, by decide, by decide, by decide, by decide, by decide, by decide, by decide, by decide, ?_⟩
  exact rr_summarise (K := K) (G := G) (V := V) (n := 0) ⟨by omega, fun j hj => absurd hj (by omega), fun _ _ _ => rfl, fun j hj => absurd hj (by omega)⟩ H
theorem rr_sound0 {f0 : Int32} {a1 a2 a3 a4 a5 a6 a7 a8 a9 a10 a11 a12 a13 a14 a15 : Nat → Int32} {post : Int32 → St1 → Prop} {K G : Nat → Nat} {V : Nat → Int32} {x : Int32} (hx : x = 0) (hS : rr_S K G V 0 f0 a5 a6 a7)
    (H : ∀ b8 b9 b10 b11 b12, post 1 (f0, a1, a2, a3, a4, a5, a6, a7, b8, b9, b10, b11, b12, a13, a14, a15)) : wpL_sound post (f0, a1, a2, a3, a4, a5, a6, a7, a8, a9, a10, a11, a12, a13, a14, a15) x := by
  have e : rr_ct (fun k => rr_ms K G 0 k ≠ 0) 6 = 0 := rr_ct_zero 6 (fun k _ z => z rfl)
  have := rr_sound (a8 := a8) (a9 := a9) (a10 := a10) (a11 := a11) (a12 := a12) hS H
  rw [e, nI_0] at this
  rw [hx]
  exact this
theorem rr_law0 {f0 : Int32} {a1 a2 a3 a4 a5 a6 a7 a8 a9 a10 a11 a12 a13 a14 a15 : Nat → Int32} {post : Int32 → Prop} {L : Nat} {xs : Nat → Int32} {kc ks : Nat} {K G : Nat → Nat} {V : Nat → Int32} (hL : L ≤ 260) (hp : post 1) (hI : rr_inv K G V 0 0 0 f0 a1 a2 a3 a4 a5 a6 a7) : ∃ fu, wL_law_25 post L xs kc ks fu 0 0 0 f0 a1 a2 a3 a4 a5 a6 a7 a8 a9 a10 a11 a12 a13 a14 a15 := by
  have := rr_law25 (xs := xs) (kc := kc) (ks := ks) hL hp 6 0 rfl f0 a1 a2 a3 a4 a5 a6 a7 a8 a9 a10 a11 a12 a13 a14 a15 K G V 0 0 hI
  rw [nI_0] at this
  exact ⟨6 + 1, this⟩
theorem rr_inv0 {K G : Nat → Nat} {V : Nat → Int32} {a5 a6 a7 : Nat → Int32} (hs : rr_sums K G V 0 a5 a6 a7) : rr_inv K G V 0 0 0 0 (fun _ => 0) (fun _ => 0) (fun _ => 0) (fun _ => 0) a5 a6 a7 := by
  refine ⟨by omega, fun j hj => absurd hj (by omega), rfl, ⟨by omega, fun j hj => absurd hj (by omega), fun _ _ _ => rfl, fun j hj => absurd hj (by omega)⟩, hs, by omega, fun k _ => ?_, (rr_ct_zero 6 (fun k _ z => z rfl)).symm⟩
  rw [Nat.zero_testBit]
  exact ⟨fun z => absurd z (by decide), fun z => absurd z (Nat.lt_irrefl 0)⟩
theorem rr_S0 {K G : Nat → Nat} {V : Nat → Int32} {a5 a6 a7 : Nat → Int32} (hs : rr_sums K G V 0 a5 a6 a7) : rr_S K G V 0 0 a5 a6 a7 := ⟨by omega, fun j hj => absurd hj (by omega), rfl, hs⟩
end
section
theorem i_vc (xs : Nat → Int32) (L : Nat) (hL : L ≤ 260) : wpL_law (fun r => r = 1) L xs := by
  unfold wpL_law
  refine ⟨15, 182, by decide, by decide, ?_⟩
  refine rr_init (K := fun _ => 0) (G := fun _ => 0) (V := fun _ => 0) (fun b5 b6 b7 hs => ?_)
  dsimp only
  refine rr_sound0 rfl (rr_S0 hs) (fun b8 b9 b10 b11 b12 => ?_)
  dsimp only
  exact br_f (by decide) (rr_law0 hL rfl (rr_inv0 hs))
end
