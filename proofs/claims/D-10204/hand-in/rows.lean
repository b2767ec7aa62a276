section
/-! ===== words: a leading 1, then letters; wd_go: from state s over the low n letters of v ===== -/
def wd_go (d : Nat → Nat) (s : Nat) : Nat → Nat → Nat
  | 0, _ => s
  | n + 1, v => d (2 * wd_go d s n (v / 2) + v % 2)
theorem wd_goc {d : Nat → Nat} {s : Nat} : ∀ n v w, v % 2 ^ n = w % 2 ^ n → wd_go d s n v = wd_go d s n w
  | 0, _, _, _ => rfl
  | n + 1, v, w, h => by
    rw [Nat.pow_succ, Nat.mul_comm] at h
    have h2 : v % 2 = w % 2 := by rw [← Nat.mod_mul_right_mod v 2 (2 ^ n), h, Nat.mod_mul_right_mod]
    have h3 : v / 2 % 2 ^ n = w / 2 % 2 ^ n := by rw [← Nat.mod_mul_right_div_self, h, Nat.mod_mul_right_div_self]
    show d (2 * wd_go d s n (v / 2) + v % 2) = d (2 * wd_go d s n (w / 2) + w % 2)
    rw [h2, wd_goc n (v / 2) (w / 2) h3]
theorem wd_split {d : Nat → Nat} {s : Nat} (m : Nat) : ∀ n v, wd_go d s (m + n) v = wd_go d (wd_go d s m (v / 2 ^ n)) n v
  | 0, v => by rw [Nat.pow_zero, Nat.div_one]; rfl
  | n + 1, v => by
    show d (2 * wd_go d s (m + n) (v / 2) + v % 2) = d (2 * wd_go d (wd_go d s m (v / 2 ^ (n + 1))) n (v / 2) + v % 2)
    rw [wd_split m n (v / 2), Nat.div_div_eq_div_mul, Nat.pow_succ, Nat.mul_comm 2 (2 ^ n)]
def wd_run (d : Nat → Nat) (s v : Nat) : Nat := wd_go d s (Nat.log2 v) v
theorem wd_lg {n v : Nat} (h : 2 ^ n ≤ v) (h2 : v < 2 ^ (n + 1)) : Nat.log2 v = n :=
  (Nat.log2_eq_iff (by have := Nat.two_pow_pos n; omega)).mpr ⟨h, h2⟩
theorem wd_lgb {v : Nat} (h : 1 ≤ v) : 2 ^ Nat.log2 v ≤ v ∧ v < 2 ^ (Nat.log2 v + 1) := (Nat.log2_eq_iff (by omega)).mp rfl
theorem wd_lg1 : Nat.log2 1 = 0 := wd_lg (by decide) (by decide)
theorem wd_lgs {v l : Nat} (h : 1 ≤ v) (hl : l < 2) : Nat.log2 (2 * v + l) = Nat.log2 v + 1 := by
  obtain ⟨h1, h2⟩ := wd_lgb h
  refine wd_lg ?_ ?_
  · rw [Nat.pow_succ]; omega
  · rw [Nat.pow_succ 2 (Nat.log2 v + 1)]; omega
theorem wd_lgle {n v : Nat} (h : 1 ≤ v) (hl : Nat.log2 v ≤ n) : v < 2 ^ (n + 1) :=
  Nat.lt_of_lt_of_le (wd_lgb h).2 (Nat.pow_le_pow_right (by decide) (by omega))
theorem wd_lgle' {n v : Nat} (h : 1 ≤ v) (hv : v < 2 ^ (n + 1)) : Nat.log2 v ≤ n := by
  have := (Nat.log2_lt (n := v) (k := n + 1) (by omega)).mpr hv
  omega
theorem wd_run1 {d : Nat → Nat} {s : Nat} : wd_run d s 1 = s := by
  unfold wd_run
  rw [wd_lg1]
  rfl
theorem wd_runs {d : Nat → Nat} {s v l : Nat} (h : 1 ≤ v) (hl : l < 2) : wd_run d s (2 * v + l) = d (2 * wd_run d s v + l) := by
  unfold wd_run
  rw [wd_lgs h hl]
  show d (2 * wd_go d s (Nat.log2 v) ((2 * v + l) / 2) + (2 * v + l) % 2) = _
  rw [show (2 * v + l) / 2 = v by omega, show (2 * v + l) % 2 = l by omega]
theorem wd_ind {P : Nat → Prop} (h1 : P 1) (hs : ∀ v l, 1 ≤ v → l < 2 → P v → P (2 * v + l)) : ∀ v, 1 ≤ v → P v := by
  intro v
  induction v using Nat.strongRecOn with
  | ind v ih =>
    intro hv
    by_cases e : v = 1
    · rw [e]; exact h1
    · have := hs (v / 2) (v % 2) (by omega) (by omega) (ih (v / 2) (by omega) (by omega))
      rwa [show 2 * (v / 2) + v % 2 = v by omega] at this
def wd_join (w e : Nat) : Nat := w * 2 ^ Nat.log2 e + e % 2 ^ Nat.log2 e
theorem wd_joinlg {w e : Nat} (hw : 1 ≤ w) : Nat.log2 (wd_join w e) = Nat.log2 w + Nat.log2 e := by
  obtain ⟨h1, h2⟩ := wd_lgb hw
  have hp := Nat.two_pow_pos (Nat.log2 e)
  have hm := Nat.mod_lt e hp
  unfold wd_join
  refine wd_lg ?_ ?_
  · rw [Nat.pow_add]
    exact Nat.le_trans (Nat.mul_le_mul_right _ h1) (Nat.le_add_right _ _)
  · have h3 : (w + 1) * 2 ^ Nat.log2 e ≤ 2 ^ (Nat.log2 w + 1) * 2 ^ Nat.log2 e := Nat.mul_le_mul_right _ h2
    rw [← Nat.pow_add, show Nat.log2 w + 1 + Nat.log2 e = Nat.log2 w + Nat.log2 e + 1 by omega, Nat.add_mul, Nat.one_mul] at h3
    omega
theorem wd_join1 {w e : Nat} (hw : 1 ≤ w) : 1 ≤ wd_join w e := by
  have hp := Nat.two_pow_pos (Nat.log2 e)
  have : 1 * 1 ≤ w * 2 ^ Nat.log2 e := Nat.mul_le_mul hw hp
  unfold wd_join
  omega
theorem wd_joinr {d : Nat → Nat} {s w e : Nat} (hw : 1 ≤ w) : wd_run d s (wd_join w e) = wd_run d (wd_run d s w) e := by
  have hp := Nat.two_pow_pos (Nat.log2 e)
  unfold wd_run
  rw [wd_joinlg hw, wd_split]
  unfold wd_join
  rw [Nat.add_comm, Nat.add_mul_div_right _ _ hp, Nat.div_eq_of_lt (Nat.mod_lt _ hp), Nat.zero_add]
  apply wd_goc
  rw [Nat.add_mul_mod_self_right, Nat.mod_mod]
theorem wd_front {d : Nat → Nat} {s l e : Nat} (hl : l < 2) : wd_run d s (wd_join (2 + l) e) = wd_run d (d (2 * s + l)) e := by
  rw [wd_joinr (by omega), show 2 + l = 2 * 1 + l by omega, wd_runs (by omega) hl, wd_run1]
theorem wd_frontlg {l e : Nat} (hl : l < 2) : Nat.log2 (wd_join (2 + l) e) = Nat.log2 e + 1 := by
  rw [wd_joinlg (by omega), show 2 + l = 2 * 1 + l by omega, wd_lgs (by omega) hl, wd_lg1]
  omega
/-- a closed machine of n states -/
def wd_cl (d : Nat → Nat) (n : Nat) : Prop := ∀ i, i < 2 * n → d i < n
theorem wd_runlt {d : Nat → Nat} {n s : Nat} (hd : wd_cl d n) (hs : s < n) : ∀ v, 1 ≤ v → wd_run d s v < n := by
  refine wd_ind (by rw [wd_run1]; exact hs) ?_
  intro v l hv hl h
  rw [wd_runs hv hl]
  exact hd _ (by omega)
theorem wd_golt {d : Nat → Nat} {n s : Nat} (hd : wd_cl d n) (hs : s < n) : ∀ k v, wd_go d s k v < n
  | 0, _ => hs
  | k + 1, v => hd _ (by have := wd_golt hd hs k (v / 2); omega)
/-! ===== pigeonholes ===== -/
theorem pg_le : ∀ (n m : Nat) (f : Nat → Nat), (∀ i, i < m → f i < n) → (∀ i j, i < j → j < m → f i ≠ f j) → m ≤ n
  | 0, m, f, h, _ => by
    rcases Nat.eq_zero_or_pos m with e | e
    · omega
    · exact absurd (h 0 e) (by omega)
  | n + 1, m, f, h, hi => by
    by_cases e : ∃ i, i < m ∧ f i = n
    · obtain ⟨k, hk, ek⟩ := e
      have key := pg_le n (m - 1) (fun i => if i < k then f i else f (i + 1)) ?_ ?_
      · omega
      · intro i hm
        show (if i < k then f i else f (i + 1)) < n
        by_cases c : i < k
        · rw [if_pos c]
          have h1 := h i (by omega)
          have h2 := hi i k c hk
          omega
        · rw [if_neg c]
          have h1 := h (i + 1) (by omega)
          have h2 := hi k (i + 1) (by omega) (by omega)
          omega
      · intro i j hij hj
        show (if i < k then f i else f (i + 1)) ≠ (if j < k then f j else f (j + 1))
        by_cases c : i < k
        · rw [if_pos c]
          by_cases c2 : j < k
          · rw [if_pos c2]; exact hi i j hij (by omega)
          · rw [if_neg c2]; exact hi i (j + 1) (by omega) (by omega)
        · rw [if_neg c, if_neg (by omega)]
          exact hi (i + 1) (j + 1) (by omega) (by omega)
    · have key := pg_le n m f (fun i hm => by
        have h1 := h i hm
        have h2 : f i ≠ n := fun z => e ⟨i, hm, z⟩
        omega) hi
      omega
/-- n different values below n, and one more: it is among them -/
theorem pg_mem {n : Nat} {f : Nat → Nat} {x : Nat} (h : ∀ i, i < n → f i < n) (hi : ∀ i j, i < j → j < n → f i ≠ f j) (hx : x < n) : ∃ i, i < n ∧ f i = x := by
  by_cases e : ∃ i, i < n ∧ f i = x
  · exact e
  · have := pg_le n (n + 1) (fun i => if i < n then f i else x) ?_ ?_
    · omega
    · intro i _
      show (if i < n then f i else x) < n
      by_cases c : i < n
      · rw [if_pos c]; exact h i c
      · rw [if_neg c]; exact hx
    · intro i j hij hj
      show (if i < n then f i else x) ≠ (if j < n then f j else x)
      rw [if_pos (show i < n by omega)]
      by_cases c : j < n
      · rw [if_pos c]; exact hi i j hij c
      · rw [if_neg c]; exact fun z => e ⟨i, by omega, z⟩
/-- m different values below n, and one below n that is not among them: m < n -/
theorem pg_lt {n m : Nat} {f : Nat → Nat} {x : Nat} (h : ∀ i, i < m → f i < n) (hi : ∀ i j, i < j → j < m → f i ≠ f j) (hx : x < n) (hn : ∀ i, i < m → f i ≠ x) : m < n := by
  have := pg_le n (m + 1) (fun i => if i < m then f i else x) ?_ ?_
  · omega
  · intro i _
    show (if i < m then f i else x) < n
    by_cases c : i < m
    · rw [if_pos c]; exact h i c
    · rw [if_neg c]; exact hx
  · intro i j hij hj
    show (if i < m then f i else x) ≠ (if j < m then f j else x)
    rw [if_pos (show i < m by omega)]
    by_cases c : j < m
    · rw [if_pos c]; exact hi i j hij c
    · rw [if_neg c]; exact hn i (by omega)
/-! ===== Moore: states of a machine of n states that a word tells apart, a word shorter than n tells apart ===== -/
def mo_e (d g : Nat → Nat) : Nat → Nat → Nat → Prop
  | 0, p, q => g p = g q
  | i + 1, p, q => g p = g q ∧ ∀ l, l < 2 → mo_e d g i (d (2 * p + l)) (d (2 * q + l))
section
variable {d g : Nat → Nat}
theorem mo_r : ∀ i p, mo_e d g i p p
  | 0, _ => rfl
  | i + 1, _ => ⟨rfl, fun _ _ => mo_r i _⟩
theorem mo_s : ∀ i p q, mo_e d g i p q → mo_e d g i q p
  | 0, p, q, h => (show g p = g q from h).symm
  | i + 1, _, _, h => ⟨h.1.symm, fun l hl => mo_s i _ _ (h.2 l hl)⟩
theorem mo_t : ∀ i p q r, mo_e d g i p q → mo_e d g i q r → mo_e d g i p r
  | 0, p, q, r, h, k => (show g p = g q from h).trans (show g q = g r from k)
  | i + 1, _, _, _, h, k => ⟨h.1.trans k.1, fun l hl => mo_t i _ _ _ (h.2 l hl) (k.2 l hl)⟩
theorem mo_g : ∀ i p q, mo_e d g i p q → g p = g q
  | 0, _, _, h => h
  | _ + 1, _, _, h => h.1
theorem mo_dn : ∀ i p q, mo_e d g (i + 1) p q → mo_e d g i p q
  | 0, _, _, h => h.1
  | i + 1, _, _, h => ⟨h.1, fun l hl => mo_dn i _ _ (h.2 l hl)⟩
theorem mo_le {p q : Nat} (i : Nat) : ∀ k, mo_e d g (i + k) p q → mo_e d g i p q
  | 0, h => h
  | k + 1, h => mo_le i k (mo_dn (i + k) p q h)
theorem mo_st {n : Nat} (hd : wd_cl d n) (i : Nat) (h : ∀ p q, p < n → q < n → mo_e d g i p q → mo_e d g (i + 1) p q) : ∀ k p q, p < n → q < n → mo_e d g (i + k) p q → mo_e d g (i + k + 1) p q
  | 0, p, q, hp, hq, e => h p q hp hq e
  | k + 1, p, q, hp, hq, e => ⟨e.1, fun l hl => mo_st hd i h k _ _ (hd _ (by omega)) (hd _ (by omega)) (e.2 l hl)⟩
theorem mo_up {n : Nat} (hd : wd_cl d n) (i : Nat) (h : ∀ p q, p < n → q < n → mo_e d g i p q → mo_e d g (i + 1) p q) {p q : Nat} (hp : p < n) (hq : q < n) (e : mo_e d g i p q) : ∀ k, mo_e d g (i + k) p q
  | 0 => e
  | k + 1 => mo_st hd i h k p q hp hq (mo_up hd i h hp hq e k)
theorem mo_word {p q : Nat} : ∀ v, 1 ≤ v → ∀ i, mo_e d g (i + Nat.log2 v) p q → mo_e d g i (wd_run d p v) (wd_run d q v) := by
  refine wd_ind ?_ ?_
  · intro i h
    rw [wd_lg1] at h
    rw [wd_run1, wd_run1]
    exact h
  · intro v l hv hl ih i h
    rw [wd_lgs hv hl, show i + (Nat.log2 v + 1) = (i + 1) + Nat.log2 v by omega] at h
    have h2 := ih (i + 1) h
    rw [wd_runs hv hl, wd_runs hv hl]
    exact h2.2 l hl
theorem mo_ex : ∀ i p q, ¬ mo_e d g i p q → ∃ v, 1 ≤ v ∧ Nat.log2 v ≤ i ∧ g (wd_run d p v) ≠ g (wd_run d q v)
  | 0, p, q, h => ⟨1, by omega, by rw [wd_lg1]; omega, by rw [wd_run1, wd_run1]; exact h⟩
  | i + 1, p, q, h => by
    by_cases e : g p = g q
    · have key : ∃ l, l < 2 ∧ ¬ mo_e d g i (d (2 * p + l)) (d (2 * q + l)) := by
        by_cases c0 : mo_e d g i (d (2 * p + 0)) (d (2 * q + 0))
        · by_cases c1 : mo_e d g i (d (2 * p + 1)) (d (2 * q + 1))
          · exact absurd ⟨e, fun l hl => by
              rcases (show l = 0 ∨ l = 1 by omega) with z | z
              · rw [z]; exact c0
              · rw [z]; exact c1⟩ h
          · exact ⟨1, by omega, c1⟩
        · exact ⟨0, by omega, c0⟩
      obtain ⟨l, hl, hn⟩ := key
      obtain ⟨v, v1, v2, v3⟩ := mo_ex i _ _ hn
      refine ⟨wd_join (2 + l) v, wd_join1 (by omega), by rw [wd_frontlg hl]; omega, ?_⟩
      rw [wd_front hl, wd_front hl]
      exact v3
    · exact ⟨1, by omega, by rw [wd_lg1]; omega, by rw [wd_run1, wd_run1]; exact e⟩
/-- while it goes on refining there are j + 1 states that are pairwise apart at stage j -/
theorem mo_many {n : Nat} (hn : 0 < n) : ∀ j, (∀ i, i < j → ∃ p q, p < n ∧ q < n ∧ mo_e d g i p q ∧ ¬ mo_e d g (i + 1) p q) →
    ∃ f : Nat → Nat, (∀ k, k < j + 1 → f k < n) ∧ (∀ k k', k < k' → k' < j + 1 → ¬ mo_e d g j (f k) (f k'))
  | 0, _ => ⟨fun _ => 0, fun _ _ => hn, fun k k' h h' => absurd h (by omega)⟩
  | j + 1, h => by
    obtain ⟨f, f1, f2⟩ := mo_many hn j (fun i hi => h i (by omega))
    obtain ⟨p, q, hp, hq, e1, e2⟩ := h j (by omega)
    have add : ∀ x, x < n → (∀ k, k < j + 1 → ¬ mo_e d g (j + 1) (f k) x) → ∃ f : Nat → Nat, (∀ k, k < j + 1 + 1 → f k < n) ∧ (∀ k k', k < k' → k' < j + 1 + 1 → ¬ mo_e d g (j + 1) (f k) (f k')) := by
      intro x hx hk
      refine ⟨fun k => if k < j + 1 then f k else x, ?_, ?_⟩
      · intro k _
        show (if k < j + 1 then f k else x) < n
        by_cases c : k < j + 1
        · rw [if_pos c]; exact f1 k c
        · rw [if_neg c]; exact hx
      · intro k k' c1 c2
        show ¬ mo_e d g (j + 1) (if k < j + 1 then f k else x) (if k' < j + 1 then f k' else x)
        rw [if_pos (show k < j + 1 by omega)]
        by_cases c : k' < j + 1
        · rw [if_pos c]
          exact fun z => f2 k k' c1 c (mo_dn _ _ _ z)
        · rw [if_neg c]
          exact hk k (by omega)
    by_cases cp : ∃ k, k < j + 1 ∧ mo_e d g (j + 1) (f k) p
    · by_cases cq : ∃ k, k < j + 1 ∧ mo_e d g (j + 1) (f k) q
      · obtain ⟨k, hk, ek⟩ := cp
        obtain ⟨k', hk', ek'⟩ := cq
        exfalso
        have hj : mo_e d g j (f k) (f k') := mo_t _ _ _ _ (mo_t _ _ _ _ (mo_dn _ _ _ ek) e1) (mo_s _ _ _ (mo_dn _ _ _ ek'))
        rcases Nat.lt_trichotomy k k' with c | c | c
        · exact f2 k k' c hk' hj
        · subst c
          exact e2 (mo_t _ _ _ _ (mo_s _ _ _ ek) ek')
        · exact f2 k' k c hk (mo_s _ _ _ hj)
      · exact add q hq (fun k hk z => cq ⟨k, hk, z⟩)
    · exact add p hp (fun k hk z => cp ⟨k, hk, z⟩)
theorem mo_main {n : Nat} (hd : wd_cl d n) {p q : Nat} (hp : p < n) (hq : q < n) (h : ∃ v, 1 ≤ v ∧ g (wd_run d p v) ≠ g (wd_run d q v)) : ∃ v, 1 ≤ v ∧ Nat.log2 v < n ∧ g (wd_run d p v) ≠ g (wd_run d q v) := by
  by_cases e : mo_e d g (n - 1) p q
  · exfalso
    obtain ⟨v, hv, hne⟩ := h
    have st : ∃ i, i ≤ n - 1 ∧ ∀ p q, p < n → q < n → mo_e d g i p q → mo_e d g (i + 1) p q := by
      by_cases c : ∃ i, i ≤ n - 1 ∧ ∀ p q, p < n → q < n → mo_e d g i p q → mo_e d g (i + 1) p q
      · exact c
      · exfalso
        obtain ⟨f, f1, f2⟩ := mo_many (d := d) (g := g) (n := n) (by omega) n (fun i hi => by
          by_cases c2 : ∃ p q, p < n ∧ q < n ∧ mo_e d g i p q ∧ ¬ mo_e d g (i + 1) p q
          · exact c2
          · exfalso
            refine c ⟨i, by omega, fun p q hp hq hm => ?_⟩
            by_cases c3 : mo_e d g (i + 1) p q
            · exact c3
            · exact absurd ⟨p, q, hp, hq, hm, c3⟩ c2)
        have := pg_le n (n + 1) f f1 (fun i j hij hj z => f2 i j hij hj (by rw [z]; exact mo_r _ _))
        omega
    obtain ⟨i, hi, hs⟩ := st
    have h1 : mo_e d g i p q := mo_le i (n - 1 - i) (by rw [show i + (n - 1 - i) = n - 1 by omega]; exact e)
    exact hne (mo_g i _ _ (mo_word v hv i (mo_up hd i hs hp hq h1 (Nat.log2 v))))
  · obtain ⟨v, v1, v2, v3⟩ := mo_ex (n - 1) p q e
    exact ⟨v, v1, by omega, v3⟩
end
/-! two machines side by side -/
def mo_u (d1 d2 : Nat → Nat) (R : Nat) : Nat → Nat := fun i => if i < 2 * R then d1 i else R + d2 (i - 2 * R)
def mo_ug (g1 g2 : Nat → Nat) (R : Nat) : Nat → Nat := fun s => if s < R then g1 s else g2 (s - R)
theorem mo_two {d1 d2 g1 g2 : Nat → Nat} {R m p q : Nat} (h1 : wd_cl d1 R) (h2 : wd_cl d2 m) (hp : p < R) (hq : q < m) (h : ∃ v, 1 ≤ v ∧ g1 (wd_run d1 p v) ≠ g2 (wd_run d2 q v)) : ∃ v, 1 ≤ v ∧ Nat.log2 v < R + m ∧ g1 (wd_run d1 p v) ≠ g2 (wd_run d2 q v) := by
  have ra : ∀ v, 1 ≤ v → wd_run (mo_u d1 d2 R) p v = wd_run d1 p v := by
    refine wd_ind (by rw [wd_run1, wd_run1]) ?_
    intro v l hv hl ih
    have := wd_runlt h1 hp v hv
    rw [wd_runs hv hl, wd_runs hv hl, ih]
    unfold mo_u
    rw [if_pos (by omega)]
  have rb : ∀ v, 1 ≤ v → wd_run (mo_u d1 d2 R) (R + q) v = R + wd_run d2 q v := by
    refine wd_ind (by rw [wd_run1, wd_run1]) ?_
    intro v l hv hl ih
    rw [wd_runs hv hl, wd_runs hv hl, ih]
    unfold mo_u
    rw [if_neg (by omega), show 2 * (R + wd_run d2 q v) + l - 2 * R = 2 * wd_run d2 q v + l by omega]
  have ga : ∀ v, 1 ≤ v → mo_ug g1 g2 R (wd_run d1 p v) = g1 (wd_run d1 p v) := by
    intro v hv
    unfold mo_ug
    rw [if_pos (wd_runlt h1 hp v hv)]
  have gb : ∀ v, mo_ug g1 g2 R (R + wd_run d2 q v) = g2 (wd_run d2 q v) := by
    intro v
    unfold mo_ug
    rw [if_neg (by omega), show R + wd_run d2 q v - R = wd_run d2 q v by omega]
  have cl : wd_cl (mo_u d1 d2 R) (R + m) := by
    intro i hi
    unfold mo_u
    by_cases c : i < 2 * R
    · rw [if_pos c]
      have := h1 i c
      omega
    · rw [if_neg c]
      have := h2 (i - 2 * R) (by omega)
      omega
  obtain ⟨v, hv, hne⟩ := h
  obtain ⟨w, w1, w2, w3⟩ := mo_main (g := mo_ug g1 g2 R) cl (p := p) (q := R + q) (by omega) (by omega) ⟨v, hv, by rw [ra v hv, rb v hv, ga v hv, gb v]; exact hne⟩
  rw [ra w w1, rb w w1, ga w w1, gb w] at w3
  exact ⟨w, w1, w2, w3⟩
/-! ===== answers as bits ===== -/
def sg_v (f : Nat → Nat) : Nat → Nat
  | 0 => 0
  | e + 1 => sg_v f e + f e * 2 ^ e
theorem sg_lt {f : Nat → Nat} : ∀ E, (∀ e, e < E → f e < 2) → sg_v f E < 2 ^ E
  | 0, _ => by show 0 < 2 ^ 0; decide
  | E + 1, h => by
    have h1 := sg_lt E (fun e he => h e (by omega))
    have h2 := h E (by omega)
    show sg_v f E + f E * 2 ^ E < 2 ^ (E + 1)
    rw [Nat.pow_succ]
    rcases (show f E = 0 ∨ f E = 1 by omega) with z | z
    · rw [z]; omega
    · rw [z]; omega
theorem sg_inj {f g : Nat → Nat} : ∀ E, (∀ e, e < E → f e < 2) → (∀ e, e < E → g e < 2) → sg_v f E = sg_v g E → ∀ e, e < E → f e = g e
  | 0, _, _, _, e, he => absurd he (by omega)
  | E + 1, hf, hg, h, e, he => by
    have h1 := sg_lt E (fun e he => hf e (by omega))
    have h2 := sg_lt E (fun e he => hg e (by omega))
    have h3 := hf E (by omega)
    have h4 := hg E (by omega)
    have h5 : sg_v f E + f E * 2 ^ E = sg_v g E + g E * 2 ^ E := h
    have h6 : f E = g E ∧ sg_v f E = sg_v g E := by
      rcases (show f E = 0 ∨ f E = 1 by omega) with z | z <;> rcases (show g E = 0 ∨ g E = 1 by omega) with y | y <;> rw [z, y] at h5 ⊢ <;> omega
    by_cases c : e = E
    · rw [c]; exact h6.1
    · exact sg_inj E (fun e he => hf e (by omega)) (fun e he => hg e (by omega)) h6.2 e (by omega)
theorem sg_ext {f g : Nat → Nat} : ∀ E, (∀ e, e < E → f e = g e) → sg_v f E = sg_v g E
  | 0, _ => rfl
  | E + 1, h => by
    show sg_v f E + f E * 2 ^ E = sg_v g E + g E * 2 ^ E
    rw [sg_ext E (fun e he => h e (by omega)), h E (by omega)]
theorem sg_par {f : Nat → Nat} (h0 : f 0 < 2) : ∀ E, sg_v f (E + 1) % 2 = f 0
  | 0 => by
    show (0 + f 0 * 2 ^ 0) % 2 = f 0
    omega
  | E + 1 => by
    have ih := sg_par h0 E
    show (sg_v f (E + 1) + f (E + 1) * 2 ^ (E + 1)) % 2 = f 0
    rw [Nat.pow_succ, ← Nat.mul_assoc, Nat.add_mul_mod_self_right]
    exact ih
end
section
/-! ===== bits ===== -/
theorem ix_or (a b : Nat) : nI a ||| nI b = nI (a ||| b) := by
  apply Int32.toBitVec_inj.1
  show BitVec.ofNat 32 a ||| BitVec.ofNat 32 b = BitVec.ofNat 32 (a ||| b)
  apply BitVec.eq_of_getLsbD_eq
  intro i hi
  simp [hi]
theorem ix_sl : ∀ n, n < 32 → ((nI n &&& 31).toBitVec.smod 32).toNat = n := by decide +kernel
theorem ix_su : ∀ n, n < 32 → (((nI n).toUInt32 &&& Int32.toUInt32 31).toBitVec % 32).toNat = n := by decide +kernel
theorem ix_ush {v k : Nat} (hv : v < 2 ^ 32) (hk : k < 32) : ((nI v).toUInt32 >>> ((nI k).toUInt32 &&& Int32.toUInt32 31)).toInt32 = nI (v / 2 ^ k) := pk_ushrN hv (nI k) k (ix_su k hk)
theorem ix_shl {v k : Nat} (hk : k < 32) (h : v * 2 ^ k < 2 ^ 32) : nI v <<< (nI k &&& 31) = nI (v * 2 ^ k) := pk_shlN (nI k &&& 31) k (ix_sl k hk) h
theorem ix_shr {v k : Nat} (hv : v < 2 ^ 31) (hk : k < 32) : nI v >>> (nI k &&& 31) = nI (v / 2 ^ k) := pk_shrN hv (nI k &&& 31) k (ix_sl k hk)
theorem ix_pow {k : Nat} (hk : k < 31) : 2 ^ k < 2 ^ 31 := Nat.pow_lt_pow_right (by decide) hk
theorem ix_one {k : Nat} (hk : k < 31) : (1 : Int32) <<< (nI k &&& 31) = nI (2 ^ k) := by
  have hp := ix_pow hk
  have h : nI 1 <<< (nI k &&& 31) = nI (1 * 2 ^ k) := ix_shl (by omega) (by omega)
  rw [Nat.one_mul] at h
  exact h
theorem ix_mask {k : Nat} (hk : k < 31) : ((1 : Int32) <<< (nI k &&& 31)) - 1 = nI (2 ^ k - 1) := by
  rw [ix_one hk]
  exact pk_sub (a := 2 ^ k) (b := 1) (Nat.two_pow_pos k)
theorem ix_low {e k : Nat} (he : e < 2 ^ 32) (hk : k < 31) : nI e &&& (((1 : Int32) <<< (nI k &&& 31)) - 1) = nI (e % 2 ^ k) := by
  have hp := ix_pow hk
  rw [ix_mask hk]
  exact pk_andN he k (pk_tn (by omega))
theorem ix_cat {w e k : Nat} (hk : k < 31) (hw : w * 2 ^ k < 2 ^ 32) (he : e < 2 ^ 32) : (nI w <<< (nI k &&& 31)) ||| (nI e &&& (((1 : Int32) <<< (nI k &&& 31)) - 1)) = nI (w * 2 ^ k + e % 2 ^ k) := by
  rw [ix_shl (by omega) hw, ix_low he hk, ix_or, Nat.mul_comm, ← Nat.two_pow_add_eq_or_of_lt (Nat.mod_lt _ (Nat.two_pow_pos k))]
theorem ix_idx {s v k : Nat} (hv : v < 2 ^ 32) (hk : k < 32) : (2 * nI s) + ((((nI v).toUInt32 >>> ((nI k).toUInt32 &&& Int32.toUInt32 31)).toInt32) &&& 1) = nI (2 * s + v / 2 ^ k % 2) := by
  have h2 : v / 2 ^ k < 2 ^ 32 := Nat.lt_of_le_of_lt (Nat.div_le_self _ _) hv
  rw [ix_ush hv hk, pk_andN h2 1 (by decide)]
  show nI 2 * nI s + nI (v / 2 ^ k % 2 ^ 1) = _
  rw [pk_mul, nI_add]
theorem ix_2 (s l : Nat) : (2 * nI s) + nI l = nI (2 * s + l) := by
  show nI 2 * nI s + nI l = _
  rw [pk_mul, nI_add]
theorem ix_odd {v : Nat} (hv : v < 2 ^ 32) : nI v &&& 1 = nI (v % 2) := pk_andN hv 1 (by decide)
theorem ix_ne {v : Nat} (hv : v < 2 ^ 31) : nI v = -1 → False := by
  intro z
  have h := nI_pos hv
  rw [z] at h
  exact h (by decide)
theorem ix_upd {a : Nat → Int32} {k : Nat} {x : Int32} (j : Nat) : upd a k x j = if j = k then x else a j := by
  by_cases e : j = k
  · rw [if_pos e, e, pk_us]
  · rw [if_neg e, pk_un e]
/-! ===== lengthOf, join, withoutFirst ===== -/
theorem wk_len4 {post : Int32 → Prop} {v L : Nat} (h1 : 2 ^ L ≤ v) (h2 : v < 2 ^ (L + 1)) (hL : L ≤ 30) (hp : post (nI L)) :
    ∀ c k, 1 ≤ k → k + c = 31 → wX_lengthOf_4 post (nI v) (c + 1) (nI (min L (k - 1))) (nI k)
  | 0, k, hk, e => by
    have ek : k = 31 := by omega
    subst ek
    rw [show min L (31 - 1) = L by omega]
    exact br_t (by decide) hp
  | c + 1, k, hk, e => by
    have hv : v < 2 ^ 31 := Nat.lt_of_lt_of_le h2 (Nat.pow_le_pow_right (by decide) (by omega))
    have t := wk_len4 h1 h2 hL hp c (k + 1) (by omega) (by omega)
    refine br_f (nI_ge (b := 31) (by omega) (by decide)) ?_
    rw [ix_ush (by omega) (by omega)]
    by_cases q : L < k
    · have z : v / 2 ^ k = 0 := Nat.div_eq_of_lt (Nat.lt_of_lt_of_le h2 (Nat.pow_le_pow_right (by decide) (by omega)))
      rw [z]
      rw [show min L (k + 1 - 1) = min L (k - 1) by omega] at t
      exact br_t nI_0 (nm_r (nI_1 k) t)
    · have z : 0 < v / 2 ^ k := Nat.div_pos (Nat.le_trans (Nat.pow_le_pow_right (by decide) (by omega)) h1) (Nat.two_pow_pos k)
      have z2 : v / 2 ^ k ≤ v := Nat.div_le_self _ _
      rw [show min L (k + 1 - 1) = k by omega] at t
      exact br_f (nI_ne0 z (by omega)) (nm_r (nI_1 k) t)
theorem wk_len {post : Int32 → Prop} {v : Nat} (h1 : 1 ≤ v) (h2 : v < 2 ^ 31) (hp : post (nI (Nat.log2 v))) : wpX_lengthOf post () (nI v) := by
  obtain ⟨a, b⟩ := wd_lgb h1
  have t := wk_len4 a b (wd_lgle' h1 h2) hp 30 1 (by omega) (by omega)
  rw [show min (Nat.log2 v) (1 - 1) = 0 by omega] at t
  exact ⟨31, t⟩
theorem wk_join {post : Int32 → Prop} {w e : Nat} (hw : 1 ≤ w) (he : 1 ≤ e) (h : Nat.log2 w + Nat.log2 e ≤ 30) (hp : post (nI (wd_join w e))) : wpX_join post () (nI w) (nI e) := by
  have e2 : e < 2 ^ 31 := wd_lgle he (n := 30) (by omega)
  have j2 : wd_join w e < 2 ^ 31 := wd_lgle (wd_join1 hw) (n := 30) (by rw [wd_joinlg hw]; exact h)
  unfold wpX_join
  refine wk_len he e2 ?_
  show post _
  rw [ix_cat (by omega) (Nat.lt_of_le_of_lt (Nat.le_add_right _ _) (Nat.lt_trans j2 (by decide))) (by omega)]
  exact hp
/-- the word without its first k letters -/
def wd_rest (v k : Nat) : Nat := 2 ^ (Nat.log2 v - k) + v % 2 ^ (Nat.log2 v - k)
theorem wd_restlg {v k : Nat} : Nat.log2 (wd_rest v k) = Nat.log2 v - k := by
  have hp := Nat.two_pow_pos (Nat.log2 v - k)
  have hm := Nat.mod_lt v hp
  unfold wd_rest
  refine wd_lg (Nat.le_add_right _ _) ?_
  rw [Nat.pow_succ]
  omega
theorem wd_rest1 {v k : Nat} : 1 ≤ wd_rest v k := by
  have hp := Nat.two_pow_pos (Nat.log2 v - k)
  unfold wd_rest
  omega
theorem wd_restr {d : Nat → Nat} {s v k : Nat} : wd_run d s (wd_rest v k) = wd_go d s (Nat.log2 v - k) v := by
  unfold wd_run
  rw [wd_restlg]
  apply wd_goc
  unfold wd_rest
  rw [Nat.add_mod_left, Nat.mod_mod]
theorem wk_rest {post : Int32 → Prop} {v k : Nat} (hv : 1 ≤ v) (h : v < 2 ^ 31) (hk : k ≤ Nat.log2 v) (hp : post (nI (wd_rest v k))) : wpX_withoutFirst post () (nI v) (nI k) := by
  have hl : Nat.log2 v ≤ 30 := wd_lgle' hv h
  unfold wpX_withoutFirst
  refine wk_len hv h ?_
  refine nm_r (pk_sub hk) ?_
  have h1 : (1 : Int32) <<< (nI (Nat.log2 v - k) &&& 31) = nI 1 <<< (nI (Nat.log2 v - k) &&& 31) := rfl
  have hc := ix_cat (w := 1) (e := v) (k := Nat.log2 v - k) (by omega) (by
    have := ix_pow (k := Nat.log2 v - k) (by omega)
    omega) (by omega)
  rw [Nat.one_mul] at hc
  have hc2 : ((1 : Int32) <<< (nI (Nat.log2 v - k) &&& 31)) ||| (nI v &&& (((1 : Int32) <<< (nI (Nat.log2 v - k) &&& 31)) - 1)) = nI (wd_rest v k) := hc
  rw [hc2]
  exact hp
/-! ===== the hidden machine ===== -/
/-- the first n places of an array hold naturals below b -/
def wk_ar (a : Nat → Int32) (D : Nat → Nat) (n b : Nat) : Prop := ∀ i, i < n → a i = nI (D i) ∧ D i < b
theorem wk_cl {a : Nat → Int32} {D : Nat → Nat} {n : Nat} (h : wk_ar a D (2 * n) n) : wd_cl D n := fun i hi => (h i hi).2
theorem wk_bool {x : Nat} (h : x < 2) : narrow .boolean (.int (nI x)) = .int (nI x) := by
  rcases (show x = 0 ∨ x = 1 by omega) with z | z
  · rw [z]; rfl
  · rw [z]; rfl
section
variable {fl fr fe fq : Int32} {a1 a2 a3 a4 a5 a6 a7 a8 a9 a10 a11 a12 : Nat → Int32} {D G : Nat → Nat}
theorem wk_good9 {post : Int32 → Prop} (hD : wk_ar a1 D 14 7) (hG : wk_ar a2 G 7 2) {v n : Nat} (hv : v < 2 ^ 31) (hn : n ≤ 30) (hp : post (nI (G (wd_go D 0 n v)))) :
    ∀ k m, m + k = n → wX_isGoodWord_9 post (nI v) fl fr fe fq a1 a2 a3 a4 a5 a6 a7 a8 a9 a10 a11 a12 (k + 1) (nI (wd_go D 0 m (v / 2 ^ k))) (nI k - 1)
  | 0, m, e => by
    have em : m = n := by omega
    subst em
    have hs := wd_golt (wk_cl (n := 7) hD) (show 0 < 7 by omega) m (v / 2 ^ 0)
    rw [Nat.pow_zero, Nat.div_one] at hs ⊢
    have hg := hG _ hs
    refine br_t (by decide) ⟨vp_in_nI hs (by decide), ?_⟩
    rw [nI_clamp (by omega), hg.1]
    exact ⟨wk_bool hg.2, hp⟩
  | k + 1, m, e => by
    have hs := wd_golt (wk_cl (n := 7) hD) (show 0 < 7 by omega) m (v / 2 ^ (k + 1))
    have t := wk_good9 hD hG hv hn hp k (m + 1) (by omega)
    rw [nI_pred]
    refine br_f (nI_pos (by omega)) ?_
    rw [ix_idx (by omega) (by omega)]
    refine ⟨vp_in_nI (by omega) (by decide), ?_⟩
    rw [nI_clamp (by omega), (hD _ (by omega)).1]
    have e1 : v / 2 ^ k / 2 = v / 2 ^ (k + 1) := by rw [Nat.div_div_eq_div_mul, Nat.pow_succ]
    have e2 : wd_go D 0 (m + 1) (v / 2 ^ k) = D (2 * wd_go D 0 m (v / 2 ^ (k + 1)) + v / 2 ^ k % 2) := by
      rw [← e1]; rfl
    rw [← e2]
    refine nm_e (nm_r ?_ t)
    exact (Int32.sub_eq_add_neg _ _).symm
theorem wk_good {post : Int32 → Prop} (hD : wk_ar a1 D 14 7) (hG : wk_ar a2 G 7 2) {v : Nat} (h1 : 1 ≤ v) (hv : v < 2 ^ 31) (hp : post (nI (G (wd_run D 0 v)))) : wpX_isGoodWord post (fl, fr, fe, fq, a1, a2, a3, a4, a5, a6, a7, a8, a9, a10, a11, a12) (nI v) := by
  unfold wpX_isGoodWord
  refine wk_len h1 hv (nm_e ?_)
  have t := wk_good9 (fl := fl) (fr := fr) (fe := fe) (fq := fq) (a3 := a3) (a4 := a4) (a5 := a5) (a6 := a6) (a7 := a7) (a8 := a8) (a9 := a9) (a10 := a10) (a11 := a11) (a12 := a12) hD hG hv (wd_lgle' h1 hv) hp (Nat.log2 v) 0 (by omega)
  exact ⟨_, t⟩
/-! ===== answersOf ===== -/
/-- the endings -/
def wk_en (a : Nat → Int32) (F : Nat → Nat) (E : Nat) : Prop := ∀ e, e < E → a e = nI (F e) ∧ 1 ≤ F e ∧ Nat.log2 (F e) ≤ 13
/-- the answers of a hidden state, one bit an ending -/
def tb_sg (D G F : Nat → Nat) (E s : Nat) : Nat := sg_v (fun e => G (wd_run D s (F e))) E
variable {F : Nat → Nat} {E : Nat}
theorem wk_ans4 {post : Int32 → Prop} (hD : wk_ar a1 D 14 7) (hG : wk_ar a2 G 7 2) (hF : wk_en a5 F E) (hE : E ≤ 10) {w : Nat} (hw : 1 ≤ w) (hl : Nat.log2 w ≤ 7) (hp : post (nI (tb_sg D G F E (wd_run D 0 w)))) :
    ∀ c e, e + c = E → wX_answersOf_4 post (nI w) fl fr (nI E) fq a1 a2 a3 a4 a5 a6 a7 a8 a9 a10 a11 a12 (c + 1) (nI (sg_v (fun e => G (wd_run D (wd_run D 0 w) (F e))) e)) (nI e)
  | 0, e, h => by
    have ee : e = E := by omega
    subst ee
    exact br_t (nI_le (Nat.le_refl _) (by omega)) hp
  | c + 1, e, h => by
    have hs := wd_runlt (wk_cl (n := 7) hD) (show 0 < 7 by omega) w hw
    have fl2 : ∀ e, e < E → (fun e => G (wd_run D (wd_run D 0 w) (F e))) e < 2 := fun e he => (hG _ (wd_runlt (wk_cl (n := 7) hD) hs (F e) (hF e he).2.1)).2
    have hb := sg_lt e (fun e' he' => fl2 e' (by omega))
    have t := wk_ans4 hD hG hF hE hw hl hp c (e + 1) (by omega)
    obtain ⟨f1, f2, f3⟩ := hF e (by omega)
    have pe := ix_pow (k := e) (by omega)
    have hge := fl2 e (by omega)
    refine br_f (nI_ge (by omega) (by omega)) ⟨vp_in_nI (by omega) (by decide), ?_⟩
    rw [nI_clamp (by omega), f1]
    refine wk_join hw f2 (by omega) (wk_good hD hG (wd_join1 hw) (wd_lgle (wd_join1 hw) (n := 30) (by rw [wd_joinlg hw]; omega)) ?_)
    rw [wd_joinr hw]
    have es : sg_v (fun e => G (wd_run D (wd_run D 0 w) (F e))) (e + 1) = sg_v (fun e => G (wd_run D (wd_run D 0 w) (F e))) e + G (wd_run D (wd_run D 0 w) (F e)) * 2 ^ e := rfl
    generalize sg_v (fun e => G (wd_run D (wd_run D 0 w) (F e))) e = x at hb es ⊢
    have hge' : G (wd_run D (wd_run D 0 w) (F e)) < 2 := hge
    rw [es] at t
    refine pk_eq (G (wd_run D (wd_run D 0 w) (F e))) 0 (fun z => ?_) (fun z => ?_)
    · rw [z] at t
      refine nm_r (e' := nI (x + 0 * 2 ^ e)) ?_ (nm_r (nI_1 e) t)
      show nI x ||| nI 0 = _
      rw [ix_or, Nat.or_zero, Nat.zero_mul, Nat.add_zero]
    · have z1 : G (wd_run D (wd_run D 0 w) (F e)) = 1 := by omega
      rw [z1] at t
      refine nm_r (e' := nI (x + 1 * 2 ^ e)) ?_ (nm_r (nI_1 e) t)
      rw [ix_one (by omega), ix_or, Nat.or_comm]
      have := Nat.two_pow_add_eq_or_of_lt hb 1
      rw [Nat.mul_one] at this
      rw [← this, Nat.one_mul, Nat.add_comm]
theorem wk_ans {post : Int32 → Prop} (hD : wk_ar a1 D 14 7) (hG : wk_ar a2 G 7 2) (hF : wk_en a5 F E) (hE : E ≤ 10) {w : Nat} (hw : 1 ≤ w) (hl : Nat.log2 w ≤ 7) (hp : post (nI (tb_sg D G F E (wd_run D 0 w)))) :
    wpX_answersOf post (fl, fr, nI E, fq, a1, a2, a3, a4, a5, a6, a7, a8, a9, a10, a11, a12) (nI w) := by
  unfold wpX_answersOf
  have t := wk_ans4 (fl := fl) (fr := fr) (fq := fq) (a3 := a3) (a4 := a4) (a6 := a6) (a7 := a7) (a8 := a8) (a9 := a9) (a10 := a10) (a11 := a11) (a12 := a12) hD hG hF hE hw hl hp E 0 (by omega)
  exact ⟨_, t⟩
/-! ===== fillRows ===== -/
theorem wk_fill2 {post : St1 → Prop} {B : Nat → Nat} {R : Nat} (hD : wk_ar a1 D 14 7) (hG : wk_ar a2 G 7 2) (hF : wk_en a5 F E) (hE : E ≤ 10) (hR : R ≤ 7)
    (hB : ∀ r, r < R → a3 r = nI (B r) ∧ 1 ≤ B r ∧ Nat.log2 (B r) ≤ 7)
    (hp : ∀ a, (∀ r, r < R → a r = nI (tb_sg D G F E (wd_run D 0 (B r)))) → post (fl, nI R, nI E, fq, a1, a2, a3, a, a5, a6, a7, a8, a9, a10, a11, a12)) :
    ∀ c r a, r + c = R → (∀ j, j < r → a j = nI (tb_sg D G F E (wd_run D 0 (B j)))) → wX_fillRows_2 post fl (nI R) (nI E) fq (c + 1) (nI r) a1 a2 a3 a a5 a6 a7 a8 a9 a10 a11 a12
  | 0, r, a, e, h => by
    have er : r = R := by omega
    subst er
    exact br_t (nI_le (Nat.le_refl _) (by omega)) (hp a h)
  | c + 1, r, a, e, h => by
    obtain ⟨b1, b2, b3⟩ := hB r (by omega)
    refine br_f (nI_ge (by omega) (by omega)) ⟨vp_in_nI (by omega) (by decide), ?_⟩
    rw [nI_clamp (by omega), b1]
    refine wk_ans hD hG hF hE b2 b3 ⟨vp_in_nI (by omega) (by decide), nm_e (nm_r (nI_1 r) ?_)⟩
    refine wk_fill2 hD hG hF hE hR hB hp c (r + 1) _ (by omega) ?_
    intro j hj
    by_cases c : j = r
    · rw [c, pk_us]
    · rw [pk_un c]; exact h j (by omega)
theorem wk_fill {post : St1 → Prop} {B : Nat → Nat} {R : Nat} (hD : wk_ar a1 D 14 7) (hG : wk_ar a2 G 7 2) (hF : wk_en a5 F E) (hE : E ≤ 10) (hR : R ≤ 7)
    (hB : ∀ r, r < R → a3 r = nI (B r) ∧ 1 ≤ B r ∧ Nat.log2 (B r) ≤ 7)
    (hp : ∀ a, (∀ r, r < R → a r = nI (tb_sg D G F E (wd_run D 0 (B r)))) → post (fl, nI R, nI E, fq, a1, a2, a3, a, a5, a6, a7, a8, a9, a10, a11, a12)) : wpX_fillRows post (fl, nI R, nI E, fq, a1, a2, a3, a4, a5, a6, a7, a8, a9, a10, a11, a12) := by
  unfold wpX_fillRows
  exact ⟨_, wk_fill2 hD hG hF hE hR hB hp R 0 a4 (by omega) (fun j hj => absurd hj (by omega))⟩
/-! ===== rowWith ===== -/
theorem wk_row2 {post : Int32 → Prop} {R : Nat} {x : Int32} (hR : R ≤ 7) (h1 : ∀ r, r < R → a4 r = x → post (nI r)) (h2 : (∀ r, r < R → a4 r ≠ x) → post (-1)) :
    ∀ c r, r + c = R → (∀ j, j < r → a4 j ≠ x) → wX_rowWith_2 post x fl (nI R) fe fq a1 a2 a3 a4 a5 a6 a7 a8 a9 a10 a11 a12 (c + 1) (nI r)
  | 0, r, e, h => by
    have er : r = R := by omega
    subst er
    exact br_t (nI_le (Nat.le_refl _) (by omega)) (h2 h)
  | c + 1, r, e, h => by
    refine br_f (nI_ge (by omega) (by omega)) ⟨vp_in_nI (by omega) (by decide), ?_⟩
    rw [nI_clamp (by omega)]
    refine br_c (fun z => h1 r (by omega) z) (fun z => nm_r (nI_1 r) (wk_row2 hR h1 h2 c (r + 1) (by omega) ?_))
    intro j hj
    by_cases c : j = r
    · rw [c]; exact z
    · exact h j (by omega)
theorem wk_row {post : Int32 → Prop} {R : Nat} {x : Int32} (hR : R ≤ 7) (h1 : ∀ r, r < R → a4 r = x → post (nI r)) (h2 : (∀ r, r < R → a4 r ≠ x) → post (-1)) : wpX_rowWith post (fl, nI R, fe, fq, a1, a2, a3, a4, a5, a6, a7, a8, a9, a10, a11, a12) x := by
  unfold wpX_rowWith
  exact ⟨_, wk_row2 hR h1 h2 R 0 (by omega) (fun j hj => absurd hj (by omega))⟩
/-! ===== rowAfter ===== -/
theorem wk_aft14 {post : Int32 → Prop} {T : Nat → Nat} {R : Nat} (hR0 : 0 < R) (hR : R ≤ 7) (hT : wk_ar a6 T (2 * R) R) {v n c : Nat} (hv : v < 2 ^ 31) (hn : n ≤ 30) (hc : c ≤ n) (hp : post (nI (wd_go T 0 c (v / 2 ^ (n - c))))) :
    ∀ k m, m + k = c → wX_rowAfter_14 post (nI v) (nI c) (nI n) fl fr fe fq a1 a2 a3 a4 a5 a6 a7 a8 a9 a10 a11 a12 (k + 1) (nI (wd_go T 0 m (v / 2 ^ (n - c + k)))) (nI (n - c + k) - 1)
  | 0, m, e => by
    have em : m = c := by omega
    subst em
    refine br_t ?_ hp
    rw [pk_sub hc]
    rcases Nat.eq_zero_or_pos (n - m) with z | z
    · rw [z]; decide
    · rw [show n - m + 0 = (n - m - 1) + 1 by omega, nI_pred]
      exact nI_lt (by omega) (by omega)
  | k + 1, m, e => by
    have hs := wd_golt (wk_cl hT) hR0 m (v / 2 ^ (n - c + (k + 1)))
    have t := wk_aft14 hR0 hR hT hv hn hc hp k (m + 1) (by omega)
    rw [show n - c + (k + 1) = (n - c + k) + 1 by omega, nI_pred]
    refine br_f ?_ ?_
    · rw [pk_sub hc]
      exact nI_nlt (by omega) (by omega)
    rw [show n - c + (k + 1) = (n - c + k) + 1 by omega] at hs
    have hj : n - c + k < 32 := by omega
    generalize n - c + k = j at t hs hj ⊢
    rw [ix_idx (by omega) (by omega)]
    refine ⟨vp_in_nI (by omega) (by decide), ?_⟩
    rw [nI_clamp (by omega), (hT _ (by omega)).1]
    have e1 : v / 2 ^ j / 2 = v / 2 ^ (j + 1) := by rw [Nat.div_div_eq_div_mul, Nat.pow_succ]
    have e2 : wd_go T 0 (m + 1) (v / 2 ^ j) = T (2 * wd_go T 0 m (v / 2 ^ (j + 1)) + v / 2 ^ j % 2) := by
      rw [← e1]; rfl
    rw [← e2]
    refine nm_e (nm_r ?_ t)
    exact (Int32.sub_eq_add_neg _ _).symm
/-- the row behind the first c letters -/
theorem wk_aft {post : Int32 → Prop} {T : Nat → Nat} {R : Nat} (hR0 : 0 < R) (hR : R ≤ 7) (hT : wk_ar a6 T (2 * R) R) {v c : Nat} (h1 : 1 ≤ v) (hv : v < 2 ^ 31) (hc : c ≤ Nat.log2 v)
    (hp : post (nI (wd_go T 0 c (v / 2 ^ (Nat.log2 v - c))))) : wpX_rowAfter post (fl, fr, fe, fq, a1, a2, a3, a4, a5, a6, a7, a8, a9, a10, a11, a12) (nI v) (nI c) := by
  unfold wpX_rowAfter
  refine wk_len h1 hv (nm_e ?_)
  have t := wk_aft14 (fl := fl) (fr := fr) (fe := fe) (fq := fq) (a1 := a1) (a2 := a2) (a3 := a3) (a4 := a4) (a5 := a5) (a7 := a7) (a8 := a8) (a9 := a9) (a10 := a10) (a11 := a11) (a12 := a12) hR0 hR hT hv (wd_lgle' h1 hv) hc hp c 0 (by omega)
  rw [show Nat.log2 v - c + c = Nat.log2 v by omega] at t
  exact ⟨_, t⟩
/-- the row behind the whole word -/
theorem wk_aftw {post : Int32 → Prop} {T : Nat → Nat} {R : Nat} (hR0 : 0 < R) (hR : R ≤ 7) (hT : wk_ar a6 T (2 * R) R) {v : Nat} (h1 : 1 ≤ v) (hv : v < 2 ^ 31)
    (hp : post (nI (wd_run T 0 v))) : wpX_rowAfter post (fl, fr, fe, fq, a1, a2, a3, a4, a5, a6, a7, a8, a9, a10, a11, a12) (nI v) (nI (Nat.log2 v)) := by
  refine wk_aft hR0 hR hT h1 hv (Nat.le_refl _) ?_
  rw [Nat.sub_self, Nat.pow_zero, Nat.div_one]
  exact hp
end
end
section
/-! ===== the table: begin words grow as a tree; rows look different; the guess's arrows ===== -/
def tb_tree (B : Nat → Nat) (R : Nat) : Prop := B 0 = 1 ∧ ∀ r, 0 < r → r < R → ∃ r' l, r' < r ∧ l < 2 ∧ B r = 2 * B r' + l
theorem tb_len {B : Nat → Nat} {R : Nat} (h : tb_tree B R) : ∀ r, r < R → 1 ≤ B r ∧ Nat.log2 (B r) ≤ r := by
  intro r
  induction r using Nat.strongRecOn with
  | ind r ih =>
    intro hr
    by_cases e : r = 0
    · rw [e, h.1]; exact ⟨by omega, by rw [wd_lg1]; omega⟩
    · obtain ⟨r', l, h1, h2, h3⟩ := h.2 r (by omega) hr
      obtain ⟨i1, i2⟩ := ih r' h1 (by omega)
      rw [h3, wd_lgs i1 h2]
      exact ⟨by omega, by omega⟩
def tb_sep (D G F B : Nat → Nat) (E R : Nat) : Prop := ∀ r r', r < R → r' < R → tb_sg D G F E (wd_run D 0 (B r)) = tb_sg D G F E (wd_run D 0 (B r')) → r = r'
def tb_ok (D G F B : Nat → Nat) (E R : Nat) (a3 a4 : Nat → Int32) : Prop :=
  0 < R ∧ tb_tree B R ∧ tb_sep D G F B E R ∧ (∀ r, r < R → a3 r = nI (B r)) ∧ (∀ r, r < R → a4 r = nI (tb_sg D G F E (wd_run D 0 (B r))))
def tb_arr (D G F B T : Nat → Nat) (E R m : Nat) (a6 : Nat → Int32) : Prop :=
  ∀ i, i < m → a6 i = nI (T i) ∧ T i < R ∧ tb_sg D G F E (wd_run D 0 (B (T i))) = tb_sg D G F E (D (2 * wd_run D 0 (B (i / 2)) + i % 2))
section
variable {fl fr fe fq : Int32} {a1 a2 a3 a4 a5 a6 a7 a8 a9 a10 a11 a12 : Nat → Int32} {D G F : Nat → Nat} {E : Nat}
theorem tb_le7 {B : Nat → Nat} {R : Nat} (hD : wd_cl D 7) (ht : tb_tree B R) (hs : tb_sep D G F B E R) : R ≤ 7 :=
  pg_le 7 R (fun r => wd_run D 0 (B r)) (fun r hr => wd_runlt hD (by omega) _ (tb_len ht r hr).1) (fun i j hij hj z => by
    have z' : wd_run D 0 (B i) = wd_run D 0 (B j) := z
    have := hs i j (by omega) hj (by rw [z'])
    omega)
theorem tb_sglt (hD : wd_cl D 7) (hG : wk_ar a2 G 7 2) (hF : wk_en a5 F E) (hE : E ≤ 10) {s : Nat} (hs : s < 7) : tb_sg D G F E s < 2 ^ 31 := by
  have h := sg_lt (f := fun e => G (wd_run D s (F e))) E (fun e he => (hG _ (wd_runlt hD hs (F e) (hF e he).2.1)).2)
  exact Nat.lt_trans h (ix_pow (by omega))
theorem tb_arrx {B B' T : Nat → Nat} {R R' m : Nat} (hb : ∀ j, j < R → B' j = B j) (hR : R ≤ R') (hm : m ≤ 2 * R) (h : tb_arr D G F B T E R m a6) : tb_arr D G F B' T E R' m a6 := by
  intro i hi
  obtain ⟨h1, h2, h3⟩ := h i hi
  refine ⟨h1, by omega, ?_⟩
  rw [hb _ h2, hb (i / 2) (by omega)]
  exact h3
theorem tb_arra {B T : Nat → Nat} {R m k : Nat} (h : tb_arr D G F B T E R m a6) (hk : k < R) (hs : tb_sg D G F E (wd_run D 0 (B k)) = tb_sg D G F E (D (2 * wd_run D 0 (B (m / 2)) + m % 2))) :
    tb_arr D G F B (fun j => if j = m then k else T j) E R (m + 1) (upd a6 m (nI k)) := by
  intro i hi
  show upd a6 m (nI k) i = nI (if i = m then k else T i) ∧ (if i = m then k else T i) < R ∧ tb_sg D G F E (wd_run D 0 (B (if i = m then k else T i))) = _
  by_cases c : i = m
  · rw [if_pos c, c, pk_us]
    exact ⟨rfl, hk, hs⟩
  · rw [if_neg c, pk_un c]
    exact h i (by omega)
theorem tb_oka {B : Nat → Nat} {R r l : Nat} (h : tb_ok D G F B E R a3 a4) (hr : r < R) (hl : l < 2) (hn : ∀ k, k < R → tb_sg D G F E (wd_run D 0 (B k)) ≠ tb_sg D G F E (D (2 * wd_run D 0 (B r) + l))) :
    tb_ok D G F (fun j => if j = R then 2 * B r + l else B j) E (R + 1) (upd a3 R (nI (2 * B r + l))) (upd a4 R (nI (tb_sg D G F E (D (2 * wd_run D 0 (B r) + l))))) := by
  obtain ⟨h0, ⟨ht0, ht⟩, hs, h3, h4⟩ := h
  have hb := tb_len ⟨ht0, ht⟩ r hr
  have lo : ∀ j, j < R → (if j = R then 2 * B r + l else B j) = B j := fun j hj => by rw [if_neg (by omega)]
  have hi : (if R = R then 2 * B r + l else B R) = 2 * B r + l := if_pos rfl
  refine ⟨by omega, ⟨?_, ?_⟩, ?_, ?_, ?_⟩
  · show (if 0 = R then 2 * B r + l else B 0) = 1
    rw [lo 0 h0]; exact ht0
  · intro j j0 hj
    show ∃ r' l', r' < j ∧ l' < 2 ∧ (if j = R then 2 * B r + l else B j) = 2 * (if r' = R then 2 * B r + l else B r') + l'
    by_cases c : j = R
    · refine ⟨r, l, by omega, hl, ?_⟩
      rw [lo r hr, if_pos c]
    · obtain ⟨r', l', h1, h2, h3⟩ := ht j j0 (by omega)
      refine ⟨r', l', h1, h2, ?_⟩
      rw [lo r' (by omega), if_neg c]
      exact h3
  · intro x y hx hy
    show tb_sg D G F E (wd_run D 0 (if x = R then 2 * B r + l else B x)) = tb_sg D G F E (wd_run D 0 (if y = R then 2 * B r + l else B y)) → x = y
    intro z
    by_cases cx : x = R
    · by_cases cy : y = R
      · omega
      · rw [if_pos cx, if_neg cy, wd_runs hb.1 hl] at z
        exact absurd z.symm (hn y (by omega))
    · by_cases cy : y = R
      · rw [if_neg cx, if_pos cy, wd_runs hb.1 hl] at z
        exact absurd z (hn x (by omega))
      · rw [if_neg cx, if_neg cy] at z
        exact hs x y (by omega) (by omega) z
  · intro j hj
    show upd a3 R (nI (2 * B r + l)) j = nI (if j = R then 2 * B r + l else B j)
    by_cases c : j = R
    · rw [if_pos c, c, pk_us]
    · rw [if_neg c, pk_un c]; exact h3 j (by omega)
  · intro j hj
    show upd a4 R _ j = nI (tb_sg D G F E (wd_run D 0 (if j = R then 2 * B r + l else B j)))
    by_cases c : j = R
    · rw [if_pos c, c, pk_us, wd_runs hb.1 hl]
    · rw [if_neg c, pk_un c]; exact h4 j (by omega)
/-! ===== closeTable ===== -/
theorem wk_cls100 {post : St1 → Prop} {J2 J18 : Int32 → Int32 → (Nat → Int32) → (Nat → Int32) → (Nat → Int32) → (Nat → Int32) → (Nat → Int32) → (Nat → Int32) → (Nat → Int32) → (Nat → Int32) → (Nat → Int32) → (Nat → Int32) → (Nat → Int32) → (Nat → Int32) → Prop}
    {r l k : Nat} (hr : r < 7) (hl : l < 2) (h : J18 (nI (l + 1)) fr a1 a2 a3 a4 a5 (upd a6 (2 * r + l) (nI k)) a7 a8 a9 a10 a11 a12) : wX_closeTable_100 post J2 J18 (nI r) (nI l) (nI k) fl fr fe fq a1 a2 a3 a4 a5 a6 a7 a8 a9 a10 a11 a12 := by
  unfold wX_closeTable_100
  rw [ix_2, nI_clamp (by omega)]
  exact ⟨vp_in_nI (by omega) (by decide), nm_e (nm_r (nI_1 l) h)⟩
theorem wk_cls18 {post : St1 → Prop} {J2 : Int32 → Int32 → (Nat → Int32) → (Nat → Int32) → (Nat → Int32) → (Nat → Int32) → (Nat → Int32) → (Nat → Int32) → (Nat → Int32) → (Nat → Int32) → (Nat → Int32) → (Nat → Int32) → (Nat → Int32) → (Nat → Int32) → Prop}
    (hD : wk_ar a1 D 14 7) (hG : wk_ar a2 G 7 2) (hF : wk_en a5 F E) (hE : E ≤ 10) {r R0 : Nat} {B0 : Nat → Nat}
    (H : ∀ R B T a3 a4 a6, R0 ≤ R → (∀ j, j < R0 → B j = B0 j) → tb_ok D G F B E R a3 a4 → tb_arr D G F B T E R (2 * (r + 1)) a6 → r < R → J2 (nI (r + 1)) (nI R) a1 a2 a3 a4 a5 a6 a7 a8 a9 a10 a11 a12) :
    ∀ c l R B T a3 a4 a6, l + c = 2 → R0 ≤ R → (∀ j, j < R0 → B j = B0 j) → tb_ok D G F B E R a3 a4 → tb_arr D G F B T E R (2 * r + l) a6 → r < R →
      wX_closeTable_18 post J2 (nI r) fl (nI E) fq (c + 1) (nI l) (nI R) a1 a2 a3 a4 a5 a6 a7 a8 a9 a10 a11 a12
  | 0, l, R, B, T, a3, a4, a6, e, h1, h2, h3, h4, h5 => by
    have el : l = 2 := by omega
    subst el
    exact br_t (by decide) (nm_r (nI_1 r) (H R B T a3 a4 a6 h1 h2 h3 h4 h5))
  | c + 1, l, R, B, T, a3, a4, a6, e, h1, h2, h3, h4, h5 => by
    have cD := wk_cl (n := 7) hD
    have hok := h3
    obtain ⟨k0, kt, ks, k3, k4⟩ := h3
    have R7 := tb_le7 cD kt ks
    obtain ⟨b1, b2⟩ := tb_len kt r h5
    have hl : l < 2 := by omega
    have hsr := wd_runlt cD (show 0 < 7 by omega) (B r) b1
    have hs' : D (2 * wd_run D 0 (B r) + l) < 7 := cD _ (by omega)
    have sx := tb_sglt (E := E) cD hG hF hE hs'
    refine br_f (nI_ge (b := 2) (by omega) (by decide)) ⟨vp_in_nI (by omega) (by decide), ?_⟩
    rw [nI_clamp (by omega), k3 r h5]
    refine nm_r (ix_2 (B r) l) (wk_ans hD hG hF hE (by omega) (by rw [wd_lgs b1 hl]; omega) ?_)
    rw [wd_runs b1 hl]
    refine wk_row R7 (fun k hk z => ?_) (fun hn => ?_)
    · have sk := tb_sglt (E := E) cD hG hF hE (wd_runlt cD (show 0 < 7 by omega) (B k) (tb_len kt k hk).1)
      rw [k4 k hk, nI_eq sk sx] at z
      refine br_t (nI_pos' (by omega)) (wk_cls100 (by omega) hl ?_)
      refine wk_cls18 hD hG hF hE H c (l + 1) R B _ a3 a4 _ (by omega) h1 h2 hok (tb_arra (m := 2 * r + l) h4 hk ?_) h5
      rw [show (2 * r + l) / 2 = r by omega, show (2 * r + l) % 2 = l by omega]
      exact z
    · have hn' : ∀ k, k < R → tb_sg D G F E (wd_run D 0 (B k)) ≠ tb_sg D G F E (D (2 * wd_run D 0 (B r) + l)) := fun k hk z => hn k hk (by rw [k4 k hk, z])
      refine br_f (by decide) (pk_le 7 R (fun z => ?_) (fun z => ?_))
      · exfalso
        have R7' : R = 7 := by omega
        subst R7'
        obtain ⟨k, hk, ek⟩ := pg_mem (n := 7) (f := fun k => wd_run D 0 (B k)) (x := D (2 * wd_run D 0 (B r) + l)) (fun k hk => wd_runlt cD (by omega) _ (tb_len kt k hk).1) (fun i j hij hj w => by
          have w' : wd_run D 0 (B i) = wd_run D 0 (B j) := w
          have := ks i j (by omega) hj (by rw [w'])
          omega) hs'
        have ek' : wd_run D 0 (B k) = D (2 * wd_run D 0 (B r) + l) := ek
        exact hn' k hk (by rw [ek'])
      · rw [nI_clamp (by omega)]
        refine ⟨vp_in_nI (by omega) (by decide), nm_e ⟨vp_in_nI (by omega) (by decide), nm_e (nm_r (nI_1 R) (wk_cls100 (by omega) hl ?_))⟩⟩
        have lo : ∀ j, j < R → (if j = R then 2 * B r + l else B j) = B j := fun j hj => by rw [if_neg (by omega)]
        refine wk_cls18 hD hG hF hE H c (l + 1) (R + 1) (fun j => if j = R then 2 * B r + l else B j) _ _ _ _ (by omega) (by omega) (fun j hj => ?_) (tb_oka hok h5 hl hn') (tb_arra (m := 2 * r + l) (tb_arrx (R := R) (m := 2 * r + l) lo (by omega) (by omega) h4) (by omega) ?_) (by omega)
        · rw [lo j (by omega)]; exact h2 j hj
        · show tb_sg D G F E (wd_run D 0 (if R = R then 2 * B r + l else B R)) = tb_sg D G F E (D (2 * wd_run D 0 (if (2 * r + l) / 2 = R then 2 * B r + l else B ((2 * r + l) / 2)) + (2 * r + l) % 2))
          rw [show (2 * r + l) / 2 = r by omega, show (2 * r + l) % 2 = l by omega, if_pos rfl, lo r h5, wd_runs b1 hl]
theorem wk_cls2 {post : St1 → Prop} (hD : wk_ar a1 D 14 7) (hG : wk_ar a2 G 7 2) (hF : wk_en a5 F E) (hE : E ≤ 10) {R0 : Nat} {B0 : Nat → Nat}
    (hp : ∀ R B T a3 a4 a6, R0 ≤ R → (∀ j, j < R0 → B j = B0 j) → tb_ok D G F B E R a3 a4 → tb_arr D G F B T E R (2 * R) a6 → post (fl, nI R, nI E, fq, a1, a2, a3, a4, a5, a6, a7, a8, a9, a10, a11, a12)) :
    ∀ n r R B T a3 a4 a6, 7 - r < n → r ≤ R → R0 ≤ R → (∀ j, j < R0 → B j = B0 j) → tb_ok D G F B E R a3 a4 → tb_arr D G F B T E R (2 * r) a6 →
      wX_closeTable_2 post fl (nI E) fq n (nI r) (nI R) a1 a2 a3 a4 a5 a6 a7 a8 a9 a10 a11 a12
  | 0, r, R, B, T, a3, a4, a6, hn, _, _, _, _, _ => by omega
  | n + 1, r, R, B, T, a3, a4, a6, hn, hr, h1, h2, h3, h4 => by
    have R7 := tb_le7 (wk_cl (n := 7) hD) h3.2.1 h3.2.2.1
    refine pk_le R r (fun z => ?_) (fun z => ?_)
    · have er : r = R := by omega
      subst er
      exact hp r B T a3 a4 a6 h1 h2 h3 h4
    · refine br_f (nI_ge (b := 7) (by omega) (by decide)) ⟨3, ?_⟩
      exact wk_cls18 hD hG hF hE (fun R B T a3 a4 a6 g1 g2 g3 g4 g5 => wk_cls2 hD hG hF hE hp n (r + 1) R B T a3 a4 a6 (by omega) (by omega) g1 g2 g3 g4) 2 0 R B T a3 a4 a6 (by omega) h1 h2 h3 h4 z
theorem wk_cls {post : St1 → Prop} (hD : wk_ar a1 D 14 7) (hG : wk_ar a2 G 7 2) (hF : wk_en a5 F E) (hE : E ≤ 10) {R0 : Nat} {B0 : Nat → Nat} (h : tb_ok D G F B0 E R0 a3 a4)
    (hp : ∀ R B T a3 a4 a6, R0 ≤ R → (∀ j, j < R0 → B j = B0 j) → tb_ok D G F B E R a3 a4 → tb_arr D G F B T E R (2 * R) a6 → post (fl, nI R, nI E, fq, a1, a2, a3, a4, a5, a6, a7, a8, a9, a10, a11, a12)) : wpX_closeTable post (fl, nI R0, nI E, fq, a1, a2, a3, a4, a5, a6, a7, a8, a9, a10, a11, a12) := by
  unfold wpX_closeTable
  exact ⟨8, wk_cls2 hD hG hF hE hp 8 0 R0 B0 (fun _ => 0) a3 a4 a6 (by omega) (by omega) (Nat.le_refl _) (fun _ _ => rfl) h (fun i hi => absurd hi (by omega))⟩
/-! ===== the guess reaches each row over its own begin word ===== -/
theorem tb_reach {B T : Nat → Nat} {R : Nat} (h : tb_ok D G F B E R a3 a4) (ha : tb_arr D G F B T E R (2 * R) a6) : ∀ r, r < R → wd_run T 0 (B r) = r := by
  intro r
  induction r using Nat.strongRecOn with
  | ind r ih =>
    intro hr
    obtain ⟨h0, ht, hs, h3, h4⟩ := h
    by_cases e : r = 0
    · rw [e, ht.1, wd_run1]
    · obtain ⟨r', l, g1, g2, g3⟩ := ht.2 r (by omega) hr
      have b := tb_len ht r' (by omega)
      have i := ih r' g1 (by omega)
      obtain ⟨x1, x2, x3⟩ := ha (2 * r' + l) (by omega)
      rw [show (2 * r' + l) / 2 = r' by omega, show (2 * r' + l) % 2 = l by omega, ← wd_runs (d := D) b.1 g2, ← g3] at x3
      rw [g3, wd_runs b.1 g2, i]
      exact hs _ _ x2 hr x3
end
end
section
/-! ===== a search through pairs of states: the queue against words V ===== -/
def qu_pc (d1 d2 : Nat → Nat) (a b u : Nat) : Nat := 7 * wd_run d1 a u + wd_run d2 b u
def qu_in (d1 d2 : Nat → Nat) (a b Q : Nat) (V : Nat → Nat) (a7 a8 a9 : Nat → Int32) : Prop :=
  (∀ j, j < Q → 1 ≤ V j ∧ a8 j = nI (qu_pc d1 d2 a b (V j)) ∧ a9 j = nI (V j)) ∧
  (∀ i j, i < j → j < Q → qu_pc d1 d2 a b (V i) ≠ qu_pc d1 d2 a b (V j)) ∧
  (∀ c, c < 49 → (a7 c = 0 ∧ ∀ j, j < Q → qu_pc d1 d2 a b (V j) ≠ c) ∨ (¬ a7 c = 0 ∧ ∃ j, j < Q ∧ qu_pc d1 d2 a b (V j) = c)) ∧
  (∀ i j, i ≤ j → j < Q → Nat.log2 (V i) ≤ Nat.log2 (V j))
/-- entries below k are gone through -/
def qu_k (d1 d2 : Nat → Nat) (a b : Nat) (g1 g2 : Nat → Nat) (k Q : Nat) (V : Nat → Nat) (a7 a8 a9 : Nat → Int32) : Prop :=
  qu_in d1 d2 a b Q V a7 a8 a9 ∧ k ≤ Q ∧ 0 < Q ∧ V 0 = 1 ∧
  (∀ j, j < k → ∀ l, l < 2 → ∃ m, m < Q ∧ qu_pc d1 d2 a b (V m) = qu_pc d1 d2 a b (2 * V j + l) ∧ Nat.log2 (V m) ≤ Nat.log2 (V j) + 1) ∧
  (∀ j, j < k → g1 (wd_run d1 a (V j)) = g2 (wd_run d2 b (V j))) ∧
  (k < Q → ∀ j, j < Q → Nat.log2 (V j) ≤ Nat.log2 (V k) + 1)
/-- and of entry k the letters below l -/
def qu_l (d1 d2 : Nat → Nat) (a b : Nat) (g1 g2 : Nat → Nat) (k l Q : Nat) (V : Nat → Nat) (a7 a8 a9 : Nat → Int32) : Prop :=
  qu_in d1 d2 a b Q V a7 a8 a9 ∧ k < Q ∧ V 0 = 1 ∧
  (∀ j, j < k → ∀ l, l < 2 → ∃ m, m < Q ∧ qu_pc d1 d2 a b (V m) = qu_pc d1 d2 a b (2 * V j + l) ∧ Nat.log2 (V m) ≤ Nat.log2 (V j) + 1) ∧
  (∀ l', l' < l → ∃ m, m < Q ∧ qu_pc d1 d2 a b (V m) = qu_pc d1 d2 a b (2 * V k + l') ∧ Nat.log2 (V m) ≤ Nat.log2 (V k) + 1) ∧
  (∀ j, j < k + 1 → g1 (wd_run d1 a (V j)) = g2 (wd_run d2 b (V j))) ∧
  (∀ j, j < Q → Nat.log2 (V j) ≤ Nat.log2 (V k) + 1)
section
variable {d1 d2 g1 g2 : Nat → Nat} {a b : Nat}
theorem qu_pcd (h2 : ∀ u, 1 ≤ u → wd_run d2 b u < 7) {u v : Nat} (hu : 1 ≤ u) (hv : 1 ≤ v) (h : qu_pc d1 d2 a b u = qu_pc d1 d2 a b v) : wd_run d1 a u = wd_run d1 a v ∧ wd_run d2 b u = wd_run d2 b v := by
  unfold qu_pc at h
  have := h2 u hu
  have := h2 v hv
  omega
theorem qu_pcs (h2 : ∀ u, 1 ≤ u → wd_run d2 b u < 7) {u v l : Nat} (hu : 1 ≤ u) (hv : 1 ≤ v) (hl : l < 2) (h : qu_pc d1 d2 a b u = qu_pc d1 d2 a b v) : qu_pc d1 d2 a b (2 * u + l) = qu_pc d1 d2 a b (2 * v + l) := by
  obtain ⟨e1, e2⟩ := qu_pcd h2 hu hv h
  unfold qu_pc
  rw [wd_runs hu hl, wd_runs hv hl, wd_runs hu hl, wd_runs hv hl, e1, e2]
theorem qu_lt (h1 : ∀ u, 1 ≤ u → wd_run d1 a u < 7) (h2 : ∀ u, 1 ≤ u → wd_run d2 b u < 7) {u : Nat} (hu : 1 ≤ u) : qu_pc d1 d2 a b u < 49 := by
  unfold qu_pc
  have := h1 u hu
  have := h2 u hu
  omega
theorem qu_find (h2 : ∀ u, 1 ≤ u → wd_run d2 b u < 7) {k Q : Nat} {V : Nat → Nat} {a7 a8 a9 : Nat → Int32} (h : qu_k d1 d2 a b g1 g2 k Q V a7 a8 a9) :
    ∀ u, 1 ≤ u → (∀ j, j < Q → Nat.log2 (V j) < Nat.log2 u → j < k) → ∃ m, m < Q ∧ qu_pc d1 d2 a b (V m) = qu_pc d1 d2 a b u ∧ Nat.log2 (V m) ≤ Nat.log2 u := by
  obtain ⟨hi, hk, hQ, hV, hd, _, _⟩ := h
  refine wd_ind ?_ ?_
  · intro _
    exact ⟨0, hQ, by rw [hV], by rw [hV]; omega⟩
  · intro u l hu hl ih hb
    rw [wd_lgs hu hl] at hb
    obtain ⟨m, m1, m2, m3⟩ := ih (fun j hj hx => hb j hj (by omega))
    obtain ⟨m', n1, n2, n3⟩ := hd m (hb m m1 (by omega)) l hl
    refine ⟨m', n1, ?_, ?_⟩
    · rw [n2]
      exact qu_pcs h2 (hi.1 m m1).1 hu hl m2
    · rw [wd_lgs hu hl]; omega
theorem qu_done (h2 : ∀ u, 1 ≤ u → wd_run d2 b u < 7) {k Q : Nat} {V : Nat → Nat} {a7 a8 a9 : Nat → Int32} (h : qu_k d1 d2 a b g1 g2 k Q V a7 a8 a9) (hk : Q ≤ k) :
    ∀ u, 1 ≤ u → g1 (wd_run d1 a u) = g2 (wd_run d2 b u) := by
  intro u hu
  obtain ⟨m, m1, m2, m3⟩ := qu_find h2 h u hu (fun j hj _ => by omega)
  obtain ⟨e1, e2⟩ := qu_pcd h2 (h.1.1 m m1).1 hu m2
  rw [← e1, ← e2]
  exact h.2.2.2.2.2.1 m (by omega)
theorem qu_short (h2 : ∀ u, 1 ≤ u → wd_run d2 b u < 7) {k Q : Nat} {V : Nat → Nat} {a7 a8 a9 : Nat → Int32} (h : qu_k d1 d2 a b g1 g2 k Q V a7 a8 a9) (hk : k < Q) :
    ∀ u, 1 ≤ u → Nat.log2 u < Nat.log2 (V k) → g1 (wd_run d1 a u) = g2 (wd_run d2 b u) := by
  intro u hu hl
  have mono := h.1.2.2.2
  have low : ∀ j, j < Q → Nat.log2 (V j) < Nat.log2 (V k) → j < k := by
    intro j hj hx
    rcases Nat.lt_or_ge j k with c | c
    · exact c
    · have := mono k j c hj
      omega
  obtain ⟨m, m1, m2, m3⟩ := qu_find h2 h u hu (fun j hj hx => low j hj (by omega))
  obtain ⟨e1, e2⟩ := qu_pcd h2 (h.1.1 m m1).1 hu m2
  rw [← e1, ← e2]
  exact h.2.2.2.2.2.1 m (low m m1 (by omega))
theorem qu_begin {k Q : Nat} {V : Nat → Nat} {a7 a8 a9 : Nat → Int32} (h : qu_k d1 d2 a b g1 g2 k Q V a7 a8 a9) (hk : k < Q) (hg : g1 (wd_run d1 a (V k)) = g2 (wd_run d2 b (V k))) : qu_l d1 d2 a b g1 g2 k 0 Q V a7 a8 a9 := by
  obtain ⟨hi, _, hQ, hV, hd, ho, hn⟩ := h
  refine ⟨hi, hk, hV, hd, fun l' hl' => absurd hl' (by omega), ?_, hn hk⟩
  intro j hj
  by_cases c : j = k
  · rw [c]; exact hg
  · exact ho j (by omega)
theorem qu_next {k Q : Nat} {V : Nat → Nat} {a7 a8 a9 : Nat → Int32} (h : qu_l d1 d2 a b g1 g2 k 2 Q V a7 a8 a9) : qu_k d1 d2 a b g1 g2 (k + 1) Q V a7 a8 a9 := by
  obtain ⟨hi, hk, hV, hd, hd2, ho, hn⟩ := h
  refine ⟨hi, by omega, by omega, hV, ?_, ho, ?_⟩
  · intro j hj
    by_cases c : j = k
    · rw [c]; exact hd2
    · exact hd j (by omega)
  · intro hq j hj
    have := hn j hj
    have := hi.2.2.2 k (k + 1) (by omega) hq
    omega
theorem qu_step {k l Q Q' : Nat} {V V' : Nat → Nat} {a7 a8 a9 a7' a8' a9' : Nat → Int32} (h : qu_l d1 d2 a b g1 g2 k l Q V a7 a8 a9) (hl : l < 2)
    (h1 : qu_in d1 d2 a b Q' V' a7' a8' a9') (h2 : Q ≤ Q') (h3 : ∀ j, j < Q → V' j = V j) (h4 : ∀ j, Q ≤ j → j < Q' → V' j = 2 * V k + l) (h5 : ∃ m, m < Q' ∧ qu_pc d1 d2 a b (V' m) = qu_pc d1 d2 a b (2 * V k + l)) :
    qu_l d1 d2 a b g1 g2 k (l + 1) Q' V' a7' a8' a9' := by
  obtain ⟨hi, hk, hV, hd, hd2, ho, hn⟩ := h
  have hvk := (hi.1 k hk).1
  have near : ∀ j, j < Q' → Nat.log2 (V' j) ≤ Nat.log2 (V k) + 1 := by
    intro j hj
    by_cases c : j < Q
    · rw [h3 j c]; exact hn j c
    · rw [h4 j (by omega) hj, wd_lgs hvk hl]; omega
  refine ⟨h1, by omega, by rw [h3 0 (by omega)]; exact hV, ?_, ?_, ?_, ?_⟩
  · intro j hj l' hl'
    obtain ⟨m, m1, m2, m3⟩ := hd j hj l' hl'
    refine ⟨m, by omega, ?_, ?_⟩
    · rw [h3 m m1, h3 j (by omega)]; exact m2
    · rw [h3 m m1, h3 j (by omega)]; exact m3
  · intro l' hl'
    rw [h3 k hk]
    by_cases c : l' = l
    · rw [c]
      obtain ⟨m, m1, m2⟩ := h5
      exact ⟨m, m1, m2, near m m1⟩
    · obtain ⟨m, m1, m2, m3⟩ := hd2 l' (by omega)
      exact ⟨m, by omega, by rw [h3 m m1]; exact m2, by rw [h3 m m1]; exact m3⟩
  · intro j hj
    rw [h3 j (by omega)]
    exact ho j hj
  · rw [h3 k hk]
    exact near
end
/-! ===== reachPair, startSearch ===== -/
section
variable {fl fr fe fq : Int32} {a1 a2 a3 a4 a5 a6 a7 a8 a9 a10 a11 a12 : Nat → Int32} {d1 d2 g1 g2 : Nat → Nat} {a b : Nat}
theorem ix_7 (x y : Nat) : (7 * nI x) + nI y = nI (7 * x + y) := by
  show nI 7 * nI x + nI y = _
  rw [pk_mul, nI_add]
theorem wk_reach {post : St1 → Prop} (h1 : ∀ u, 1 ≤ u → wd_run d1 a u < 7) (h2 : ∀ u, 1 ≤ u → wd_run d2 b u < 7) {Q u : Nat} {V : Nat → Nat} (hin : qu_in d1 d2 a b Q V a7 a8 a9) (hu : 1 ≤ u) (hm : ∀ j, j < Q → Nat.log2 (V j) ≤ Nat.log2 u)
    (hp : ∀ Q' V' a7 a8 a9, qu_in d1 d2 a b Q' V' a7 a8 a9 → Q ≤ Q' → Q' ≤ Q + 1 → (∀ j, j < Q → V' j = V j) → (∀ j, Q ≤ j → j < Q' → V' j = u) → (∃ m, m < Q' ∧ qu_pc d1 d2 a b (V' m) = qu_pc d1 d2 a b u) → post (fl, fr, fe, nI Q', a1, a2, a3, a4, a5, a6, a7, a8, a9, a10, a11, a12)) :
    wpX_reachPair post (fl, fr, fe, nI Q, a1, a2, a3, a4, a5, a6, a7, a8, a9, a10, a11, a12) (nI (wd_run d1 a u)) (nI (wd_run d2 b u)) (nI u) := by
  have hc := qu_lt h1 h2 hu
  have hin' := hin
  obtain ⟨i1, i2, i3, i4⟩ := hin
  have lt : ∀ j, j < Q → qu_pc d1 d2 a b (V j) < 49 := fun j hj => qu_lt h1 h2 (i1 j hj).1
  unfold wpX_reachPair
  dsimp only
  rw [ix_7]
  show vp_in (nI (qu_pc d1 d2 a b u)) 49 ∧ _
  rw [show 7 * wd_run d1 a u + wd_run d2 b u = qu_pc d1 d2 a b u from rfl, nI_clamp (by omega)]
  refine ⟨vp_in_nI hc (by decide), ?_⟩
  rcases i3 _ hc with ⟨s0, sn⟩ | ⟨s0, sn⟩
  · have hQ : Q < 49 := pg_lt lt i2 hc sn
    rw [nI_clamp (show Q < 2 ^ 31 by omega)]
    refine br_t s0 ⟨vp_in_nI hc (by decide), nm_e ⟨vp_in_nI hQ (by decide), nm_e ⟨vp_in_nI hQ (by decide), nm_e (nm_r (nI_1 Q) ?_)⟩⟩⟩
    have lo : ∀ j, j < Q → (if j = Q then u else V j) = V j := fun j hj => by rw [if_neg (by omega)]
    refine hp (Q + 1) (fun j => if j = Q then u else V j) _ _ _ ⟨?_, ?_, ?_, ?_⟩ (by omega) (by omega) lo (fun j hj hj' => by
      show (if j = Q then u else V j) = u
      rw [if_pos (by omega)]) ⟨Q, by omega, by
      show qu_pc d1 d2 a b (if Q = Q then u else V Q) = _
      rw [if_pos rfl]⟩
    · intro j hj
      show 1 ≤ (if j = Q then u else V j) ∧ upd a8 Q _ j = nI (qu_pc d1 d2 a b (if j = Q then u else V j)) ∧ upd a9 Q _ j = nI (if j = Q then u else V j)
      by_cases c : j = Q
      · rw [if_pos c, c, pk_us, pk_us]
        exact ⟨hu, rfl, rfl⟩
      · rw [if_neg c, pk_un c, pk_un c]
        exact i1 j (by omega)
    · intro i j hij hj
      show qu_pc d1 d2 a b (if i = Q then u else V i) ≠ qu_pc d1 d2 a b (if j = Q then u else V j)
      rw [lo i (by omega)]
      by_cases c : j = Q
      · rw [if_pos c]; exact sn i (by omega)
      · rw [if_neg c]; exact i2 i j hij (by omega)
    · intro c hc'
      by_cases e : c = qu_pc d1 d2 a b u
      · right
        rw [e, pk_us]
        refine ⟨by decide, Q, by omega, ?_⟩
        show qu_pc d1 d2 a b (if Q = Q then u else V Q) = _
        rw [if_pos rfl]
      · rw [pk_un e]
        rcases i3 c hc' with ⟨x, y⟩ | ⟨x, j, y, z⟩
        · left
          refine ⟨x, fun j hj => ?_⟩
          show qu_pc d1 d2 a b (if j = Q then u else V j) ≠ c
          by_cases c' : j = Q
          · rw [if_pos c']; exact fun w => e w.symm
          · rw [if_neg c']; exact y j (by omega)
        · right
          refine ⟨x, j, by omega, ?_⟩
          show qu_pc d1 d2 a b (if j = Q then u else V j) = c
          rw [lo j y]; exact z
    · intro i j hij hj
      show Nat.log2 (if i = Q then u else V i) ≤ Nat.log2 (if j = Q then u else V j)
      by_cases c : i = Q
      · rw [if_pos c, if_pos (by omega)]; exact Nat.le_refl _
      · rw [if_neg c]
        by_cases c' : j = Q
        · rw [if_pos c']; exact hm i (by omega)
        · rw [if_neg c']; exact i4 i j hij (by omega)
  · exact br_f s0 (hp Q V a7 a8 a9 hin' (Nat.le_refl _) (by omega) (fun _ _ => rfl) (fun j hj hj' => absurd hj (by omega)) sn)
theorem wk_start2 {post : St1 → Prop} (h1 : ∀ u, 1 ≤ u → wd_run d1 a u < 7) (h2 : ∀ u, 1 ≤ u → wd_run d2 b u < 7)
    (hp : ∀ V a7 a8 a9, qu_k d1 d2 a b g1 g2 0 1 V a7 a8 a9 → post (fl, fr, fe, nI 1, a1, a2, a3, a4, a5, a6, a7, a8, a9, a10, a11, a12)) :
    ∀ c k a7, k + c = 49 → (∀ j, j < k → a7 j = 0) → wX_startSearch_2 post (nI a) (nI b) fl fr fe fq (c + 1) (nI k) a1 a2 a3 a4 a5 a6 a7 a8 a9 a10 a11 a12
  | 0, k, a7, e, h => by
    have ek : k = 49 := by omega
    subst ek
    have hin : qu_in d1 d2 a b 0 (fun _ => 0) a7 a8 a9 := ⟨fun j hj => absurd hj (by omega), fun i j _ hj => absurd hj (by omega), fun c hc => Or.inl ⟨h c hc, fun j hj => absurd hj (by omega)⟩, fun i j _ hj => absurd hj (by omega)⟩
    have t := wk_reach (post := post) (fl := fl) (fr := fr) (fe := fe) (a1 := a1) (a2 := a2) (a3 := a3) (a4 := a4) (a5 := a5) (a6 := a6) (a10 := a10) (a11 := a11) (a12 := a12) h1 h2 hin (u := 1) (by omega) (fun j hj => absurd hj (by omega)) (fun Q' V' a7 a8 a9 q1 q2 q3 q4 q5 q6 => by
      obtain ⟨m, m1, m2⟩ := q6
      have eq : Q' = 1 := by omega
      subst eq
      have hV : V' 0 = 1 := q5 0 (by omega) (by omega)
      refine hp V' a7 a8 a9 ⟨q1, by omega, by omega, hV, fun j hj => absurd hj (by omega), fun j hj => absurd hj (by omega), fun _ j hj => ?_⟩
      rw [show j = 0 by omega]; omega)
    rw [wd_run1, wd_run1] at t
    exact br_t (by decide) t
  | c + 1, k, a7, e, h => by
    refine br_f (nI_ge (b := 49) (by omega) (by decide)) ⟨vp_in_nI (by omega) (by decide), nm_e (nm_r (nI_1 k) ?_)⟩
    rw [nI_clamp (by omega)]
    refine wk_start2 h1 h2 hp c (k + 1) _ (by omega) ?_
    intro j hj
    by_cases c : j = k
    · rw [c, pk_us]
    · rw [pk_un c]; exact h j (by omega)
theorem wk_start {post : St1 → Prop} (h1 : ∀ u, 1 ≤ u → wd_run d1 a u < 7) (h2 : ∀ u, 1 ≤ u → wd_run d2 b u < 7)
    (hp : ∀ V a7 a8 a9, qu_k d1 d2 a b g1 g2 0 1 V a7 a8 a9 → post (fl, fr, fe, nI 1, a1, a2, a3, a4, a5, a6, a7, a8, a9, a10, a11, a12)) : wpX_startSearch post (fl, fr, fe, fq, a1, a2, a3, a4, a5, a6, a7, a8, a9, a10, a11, a12) (nI a) (nI b) := by
  unfold wpX_startSearch
  exact ⟨_, wk_start2 h1 h2 hp 49 0 a7 (by omega) (fun j hj => absurd hj (by omega))⟩
end
end
section
/-! ===== findWrong ===== -/
section
variable {fl fr fe fq : Int32} {a1 a2 a3 a4 a5 a6 a7 a8 a9 a10 a11 a12 : Nat → Int32} {D G T g : Nat → Nat} {R : Nat}
theorem qu_le {d1 d2 : Nat → Nat} {a b Q : Nat} {V : Nat → Nat} (h1 : ∀ u, 1 ≤ u → wd_run d1 a u < 7) (h2 : ∀ u, 1 ≤ u → wd_run d2 b u < 7) (h : qu_in d1 d2 a b Q V a7 a8 a9) : Q ≤ 49 :=
  pg_le 49 Q (fun j => qu_pc d1 d2 a b (V j)) (fun j hj => qu_lt h1 h2 (h.1 j hj).1) h.2.1
theorem wk_fw77 {post : Int32 → St1 → Prop} {J8 : Int32 → Int32 → Int32 → Int32 → Int32 → (Nat → Int32) → (Nat → Int32) → (Nat → Int32) → (Nat → Int32) → (Nat → Int32) → (Nat → Int32) → (Nat → Int32) → (Nat → Int32) → (Nat → Int32) → (Nat → Int32) → (Nat → Int32) → (Nat → Int32) → Prop}
    (hD : wk_ar a1 D 14 7) (hR0 : 0 < R) (hR : R ≤ 7) (hT : wk_ar a6 T (2 * R) R) {k vk : Nat} (hvk : 1 ≤ vk)
    (H : ∀ Q V a7 a8 a9, qu_k T D 0 0 g G (k + 1) Q V a7 a8 a9 → J8 (nI (k + 1)) fl fr fe (nI Q) a1 a2 a3 a4 a5 a6 a7 a8 a9 a10 a11 a12) :
    ∀ c l Q V a7 a8 a9, l + c = 2 → qu_l T D 0 0 g G k l Q V a7 a8 a9 → V k = vk → wX_findWrong_77 post J8 (nI k) (nI (wd_run T 0 vk)) (nI (wd_run D 0 vk)) (c + 1) (nI l) fl fr fe (nI Q) a1 a2 a3 a4 a5 a6 a7 a8 a9 a10 a11 a12
  | 0, l, Q, V, a7, a8, a9, e, h, ev => by
    have el : l = 2 := by omega
    subst el
    exact br_t (by decide) (nm_r (nI_1 k) (H Q V a7 a8 a9 (qu_next h)))
  | c + 1, l, Q, V, a7, a8, a9, e, h, ev => by
    have h1 : ∀ u, 1 ≤ u → wd_run T 0 u < 7 := fun u hu => Nat.lt_of_lt_of_le (wd_runlt (wk_cl hT) hR0 u hu) hR
    have h2 : ∀ u, 1 ≤ u → wd_run D 0 u < 7 := wd_runlt (wk_cl (n := 7) hD) (by omega)
    have hr := wd_runlt (wk_cl hT) hR0 vk hvk
    have hs := h2 vk hvk
    have hl : l < 2 := by omega
    have hin := h.1
    have hk := h.2.1
    have hQ := qu_le h1 h2 hin
    have near := h.2.2.2.2.2.2
    rw [ev] at near
    have e9 := (hin.1 k hk).2.2
    rw [ev] at e9
    refine br_f (nI_ge (b := 2) (by omega) (by decide)) ?_
    rw [ix_2 (wd_run T 0 vk) l, ix_2 (wd_run D 0 vk) l, nI_clamp (n := 2 * wd_run T 0 vk + l) (by omega), nI_clamp (n := 2 * wd_run D 0 vk + l) (by omega), nI_clamp (n := k) (by omega), e9, ix_2 vk l,
      (hT (2 * wd_run T 0 vk + l) (by omega)).1, (hD (2 * wd_run D 0 vk + l) (by omega)).1, ← wd_runs (d := T) (s := 0) hvk hl, ← wd_runs (d := D) (s := 0) hvk hl]
    refine ⟨vp_in_nI (by omega) (by decide), vp_in_nI (by omega) (by decide), vp_in_nI (by omega) (by decide), ?_⟩
    refine wk_reach h1 h2 hin (by omega) (fun j hj => by rw [wd_lgs hvk hl]; exact near j hj) (fun Q' V' a7 a8 a9 q1 q2 q3 q4 q5 q6 => ?_)
    refine nm_r (nI_1 l) ?_
    rw [← ev] at q5 q6
    refine wk_fw77 hD hR0 hR hT hvk H c (l + 1) Q' V' a7 a8 a9 (by omega) (qu_step h hl q1 q2 q4 q5 q6) ?_
    rw [q4 k hk]; exact ev
theorem wk_fw58 {post : Int32 → St1 → Prop} {J8 : Int32 → Int32 → Int32 → Int32 → Int32 → (Nat → Int32) → (Nat → Int32) → (Nat → Int32) → (Nat → Int32) → (Nat → Int32) → (Nat → Int32) → (Nat → Int32) → (Nat → Int32) → (Nat → Int32) → (Nat → Int32) → (Nat → Int32) → (Nat → Int32) → Prop}
    (hD : wk_ar a1 D 14 7) (hG : wk_ar a2 G 7 2) (hR0 : 0 < R) (hR : R ≤ 7) (hT : wk_ar a6 T (2 * R) R) (hg : ∀ r, r < R → a4 r &&& 1 = nI (g r) ∧ g r < 2) {k Q : Nat} {V : Nat → Nat}
    (hq : qu_k T D 0 0 g G k Q V a7 a8 a9) (hk : k < Q)
    (hw : ∀ v, 1 ≤ v → g (wd_run T 0 v) ≠ G (wd_run D 0 v) → (∀ u, 1 ≤ u → Nat.log2 u < Nat.log2 v → g (wd_run T 0 u) = G (wd_run D 0 u)) → ∀ fq a7 a8 a9, post (nI v) (fl, fr, fe, fq, a1, a2, a3, a4, a5, a6, a7, a8, a9, a10, a11, a12))
    (H : ∀ Q V a7 a8 a9, qu_k T D 0 0 g G (k + 1) Q V a7 a8 a9 → J8 (nI (k + 1)) fl fr fe (nI Q) a1 a2 a3 a4 a5 a6 a7 a8 a9 a10 a11 a12) :
    wX_findWrong_58 post J8 (nI k) (nI (wd_run T 0 (V k))) (nI (wd_run D 0 (V k))) (nI (g (wd_run T 0 (V k)))) fl fr fe (nI Q) a1 a2 a3 a4 a5 a6 a7 a8 a9 a10 a11 a12 := by
  have h1 : ∀ u, 1 ≤ u → wd_run T 0 u < 7 := fun u hu => Nat.lt_of_lt_of_le (wd_runlt (wk_cl hT) hR0 u hu) hR
  have h2 : ∀ u, 1 ≤ u → wd_run D 0 u < 7 := wd_runlt (wk_cl (n := 7) hD) (by omega)
  obtain ⟨v1, v8, v9⟩ := hq.1.1 k hk
  have hs := h2 _ v1
  have hr := wd_runlt (wk_cl hT) hR0 _ v1
  have hQ := qu_le h1 h2 hq.1
  have hgr := (hg _ hr).2
  have hGs := hG _ hs
  unfold wX_findWrong_58
  rw [nI_clamp (n := wd_run D 0 (V k)) (by omega), nI_clamp (n := k) (by omega), hGs.1, v9]
  refine ⟨vp_in_nI hs (by decide), pk_eq (g (wd_run T 0 (V k))) (G (wd_run D 0 (V k))) (fun z => ⟨3, ?_⟩) (fun z => ⟨vp_in_nI (by omega) (by decide), ?_⟩)⟩
  · exact wk_fw77 hD hR0 hR hT v1 H 2 0 Q V a7 a8 a9 (by omega) (qu_begin hq hk z) rfl
  · exact hw (V k) v1 z (qu_short h2 hq hk) _ _ _ _
theorem wk_fw8 {post : Int32 → St1 → Prop}
    (hD : wk_ar a1 D 14 7) (hG : wk_ar a2 G 7 2) (hR0 : 0 < R) (hR : R ≤ 7) (hT : wk_ar a6 T (2 * R) R) (hg : ∀ r, r < R → a4 r &&& 1 = nI (g r) ∧ g r < 2)
    (hz : (∀ u, 1 ≤ u → g (wd_run T 0 u) = G (wd_run D 0 u)) → ∀ fq a7 a8 a9, post 0 (fl, fr, fe, fq, a1, a2, a3, a4, a5, a6, a7, a8, a9, a10, a11, a12))
    (hw : ∀ v, 1 ≤ v → g (wd_run T 0 v) ≠ G (wd_run D 0 v) → (∀ u, 1 ≤ u → Nat.log2 u < Nat.log2 v → g (wd_run T 0 u) = G (wd_run D 0 u)) → ∀ fq a7 a8 a9, post (nI v) (fl, fr, fe, fq, a1, a2, a3, a4, a5, a6, a7, a8, a9, a10, a11, a12)) :
    ∀ n k Q V a7 a8 a9, 50 - k < n → qu_k T D 0 0 g G k Q V a7 a8 a9 → wX_findWrong_8 post n (nI k) fl fr fe (nI Q) a1 a2 a3 a4 a5 a6 a7 a8 a9 a10 a11 a12
  | 0, k, Q, V, a7, a8, a9, hn, h => by omega
  | n + 1, k, Q, V, a7, a8, a9, hn, h => by
    have h1 : ∀ u, 1 ≤ u → wd_run T 0 u < 7 := fun u hu => Nat.lt_of_lt_of_le (wd_runlt (wk_cl hT) hR0 u hu) hR
    have h2 : ∀ u, 1 ≤ u → wd_run D 0 u < 7 := wd_runlt (wk_cl (n := 7) hD) (by omega)
    have hQ := qu_le h1 h2 h.1
    have hkQ := h.2.1
    refine pk_le Q k (fun z => hz (qu_done h2 h z) _ _ _ _) (fun hk => ?_)
    obtain ⟨v1, v8, v9⟩ := h.1.1 k hk
    have hs := h2 _ v1
    have hr := wd_runlt (wk_cl hT) hR0 _ v1
    have hr7 := h1 _ v1
    have hgr := hg _ hr
    have e1 : qu_pc T D 0 0 (V k) / 7 = wd_run T 0 (V k) := by unfold qu_pc; omega
    have e2 : qu_pc T D 0 0 (V k) % 7 = wd_run D 0 (V k) := by unfold qu_pc; omega
    have e3 : qu_pc T D 0 0 (V k) < 2 ^ 31 := by have := qu_lt h1 h2 v1; omega
    have f1 : nI (qu_pc T D 0 0 (V k)) / 7 = nI (wd_run T 0 (V k)) := by
      have := pk_div (d := 7) e3 (by decide) (by decide)
      rw [e1] at this
      exact this
    have f2 : nI (qu_pc T D 0 0 (V k)) - nI (qu_pc T D 0 0 (V k)) / 7 * 7 = nI (wd_run D 0 (V k)) := by
      have := pk_rem (d := 7) e3 (by decide) (by decide)
      rw [e2] at this
      exact this
    refine br_f (nI_ge (b := 49) (by omega) (by decide)) ⟨vp_in_nI (by omega) (by decide), by decide, ?_⟩
    rw [nI_clamp (n := k) (by omega), v8]
    refine nm_r f1 ⟨vp_in_nI (by omega) (by decide), by decide, nm_r f2 ⟨vp_in_nI hr7 (by decide), ?_⟩⟩
    have t := wk_fw58 (post := post) (J8 := wX_findWrong_8 post n) (fl := fl) (fr := fr) (fe := fe) (a3 := a3) (a5 := a5) (a10 := a10) (a11 := a11) (a12 := a12) hD hG hR0 hR hT hg h hk hw
      (fun Q V a7 a8 a9 q => wk_fw8 hD hG hR0 hR hT hg hz hw n (k + 1) Q V a7 a8 a9 (by omega) q)
    rw [nI_clamp (n := wd_run T 0 (V k)) (by omega), hgr.1]
    refine pk_eq (g (wd_run T 0 (V k))) 0 (fun z => ?_) (fun z => ?_)
    · rw [z] at t; exact t
    · rw [show g (wd_run T 0 (V k)) = 1 by omega] at t; exact t
theorem wk_fw {post : Int32 → St1 → Prop}
    (hD : wk_ar a1 D 14 7) (hG : wk_ar a2 G 7 2) (hR0 : 0 < R) (hR : R ≤ 7) (hT : wk_ar a6 T (2 * R) R) (hg : ∀ r, r < R → a4 r &&& 1 = nI (g r) ∧ g r < 2)
    (hz : (∀ u, 1 ≤ u → g (wd_run T 0 u) = G (wd_run D 0 u)) → ∀ fq a7 a8 a9, post 0 (fl, fr, fe, fq, a1, a2, a3, a4, a5, a6, a7, a8, a9, a10, a11, a12))
    (hw : ∀ v, 1 ≤ v → Nat.log2 v ≤ 13 → g (wd_run T 0 v) ≠ G (wd_run D 0 v) → ∀ fq a7 a8 a9, post (nI v) (fl, fr, fe, fq, a1, a2, a3, a4, a5, a6, a7, a8, a9, a10, a11, a12)) : wpX_findWrong post (fl, fr, fe, fq, a1, a2, a3, a4, a5, a6, a7, a8, a9, a10, a11, a12) := by
  have h1 : ∀ u, 1 ≤ u → wd_run T 0 u < 7 := fun u hu => Nat.lt_of_lt_of_le (wd_runlt (wk_cl hT) hR0 u hu) hR
  have h2 : ∀ u, 1 ≤ u → wd_run D 0 u < 7 := wd_runlt (wk_cl (n := 7) hD) (by omega)
  unfold wpX_findWrong
  refine wk_start (a := 0) (b := 0) (d1 := T) (d2 := D) (g1 := g) (g2 := G) h1 h2 (fun V a7 a8 a9 q => ?_)
  refine ⟨51, wk_fw8 hD hG hR0 hR hT hg hz (fun v v1 v2 v3 => hw v v1 ?_ v2) 51 0 1 V a7 a8 a9 (by omega) q⟩
  obtain ⟨w, w1, w2, w3⟩ := mo_two (g1 := g) (g2 := G) (wk_cl hT) (wk_cl (n := 7) hD) hR0 (show 0 < 7 by omega) ⟨v, v1, v2⟩
  rcases Nat.lt_or_ge (Nat.log2 w) (Nat.log2 v) with c | c
  · exact absurd (v3 w w1 c) w3
  · omega
/-! ===== addEnding ===== -/
variable {B F : Nat → Nat} {E : Nat}
theorem wk_add14 {post : St1 → Prop}
    (hD : wk_ar a1 D 14 7) (hG : wk_ar a2 G 7 2) (hR0 : 0 < R) (hR : R ≤ 7) (hT : wk_ar a6 T (2 * R) R) (hB : ∀ r, r < R → a3 r = nI (B r) ∧ 1 ≤ B r ∧ Nat.log2 (B r) ≤ 6) (hE : E < 10) {v : Nat} (hv : 1 ≤ v) (hl : Nat.log2 v ≤ 13)
    (hne : G (wd_run D 0 (B (wd_run T 0 v))) ≠ G (wd_run D 0 v))
    (hp : ∀ w r l, 1 ≤ w → Nat.log2 w ≤ 13 → r < R → l < 2 → G (wd_run D (wd_run D 0 (B (T (2 * r + l)))) w) ≠ G (wd_run D (D (2 * wd_run D 0 (B r) + l)) w) → post (fl, fr, nI (E + 1), fq, a1, a2, a3, a4, upd a5 E (nI w), a6, a7, a8, a9, a10, a11, a12)) :
    ∀ c k, k + c = Nat.log2 v → G (wd_go D (wd_run D 0 (B (wd_go T 0 k (v / 2 ^ c)))) c v) = G (wd_run D 0 v) →
      wX_addEnding_14 post (nI v) (nI (Nat.log2 v)) (nI (G (wd_run D 0 v))) fl fr (nI E) fq a1 a2 a3 a4 a5 a6 a7 a8 a9 a10 a11 a12 (c + 1) (nI (k + 1))
  | 0, k, e, h => by
    exfalso
    rw [Nat.pow_zero, Nat.div_one, show k = Nat.log2 v by omega] at h
    exact hne h
  | c + 1, k, e, h => by
    have cD := wk_cl (n := 7) hD
    have v31 : v < 2 ^ 31 := wd_lgle hv (n := 30) (by omega)
    have hs0 : wd_run D 0 v < 7 := wd_runlt cD (by omega) v hv
    have hrk := wd_golt (wk_cl hT) hR0 (k + 1) (v / 2 ^ c)
    have hrp := wd_golt (wk_cl hT) hR0 k (v / 2 ^ (c + 1))
    obtain ⟨b1, b2, b3⟩ := hB _ hrk
    have ec : Nat.log2 v - (k + 1) = c := by omega
    have rest : ∀ s, wd_run D s (wd_rest v (k + 1)) = wd_go D s c v := fun s => by rw [wd_restr, ec]
    have restl : Nat.log2 (wd_rest v (k + 1)) = c := by rw [wd_restlg, ec]
    have hgx : G (wd_go D (wd_run D 0 (B (wd_go T 0 (k + 1) (v / 2 ^ c)))) c v) < 2 := (hG _ (wd_golt cD (wd_runlt cD (by omega) _ b2) _ _)).2
    have hgv := (hG _ hs0).2
    refine br_f (nI_nlt (by omega) (by omega)) (wk_aft hR0 hR hT hv v31 (by omega) (wk_rest hv v31 (by omega) ⟨?_, ?_⟩))
    · rw [ec]; exact vp_in_nI (by omega) (by decide)
    rw [ec, nI_clamp (n := wd_go T 0 (k + 1) (v / 2 ^ c)) (by omega), nI_clamp (n := E) (by omega), b1]
    refine wk_join b2 wd_rest1 (by rw [restl]; omega) (wk_good hD hG (wd_join1 b2) (wd_lgle (wd_join1 b2) (n := 30) (by rw [wd_joinlg b2, restl]; omega)) ?_)
    rw [wd_joinr b2, rest]
    refine pk_eq (G (wd_go D (wd_run D 0 (B (wd_go T 0 (k + 1) (v / 2 ^ c)))) c v)) (G (wd_run D 0 v)) (fun z => nm_r (nI_1 (k + 1)) ?_) (fun z => ?_)
    · exact wk_add14 hD hG hR0 hR hT hB hE hv hl hne hp c (k + 1) (by omega) z
    · refine ⟨vp_in_nI hE (by decide), nm_e (nm_r (nI_1 E) ?_)⟩
      have e1 : v / 2 ^ c / 2 = v / 2 ^ (c + 1) := by rw [Nat.div_div_eq_div_mul, Nat.pow_succ]
      have e2 : wd_go T 0 (k + 1) (v / 2 ^ c) = T (2 * wd_go T 0 k (v / 2 ^ (c + 1)) + v / 2 ^ c % 2) := by
        rw [← e1]; rfl
      refine hp (wd_rest v (k + 1)) (wd_go T 0 k (v / 2 ^ (c + 1))) (v / 2 ^ c % 2) wd_rest1 (by rw [restl]; omega) hrp (Nat.mod_lt _ (by decide)) ?_
      rw [← e2, rest, rest]
      rw [show c + 1 = 1 + c by omega, wd_split 1 c v] at h
      rw [show 1 + c = c + 1 by omega] at h
      have h' : G (wd_go D (D (2 * wd_run D 0 (B (wd_go T 0 k (v / 2 ^ (c + 1)))) + v / 2 ^ c % 2)) c v) = G (wd_run D 0 v) := h
      rw [h']
      exact z
theorem wk_add {post : St1 → Prop}
    (hD : wk_ar a1 D 14 7) (hG : wk_ar a2 G 7 2) (hR0 : 0 < R) (hR : R ≤ 7) (hT : wk_ar a6 T (2 * R) R) (hB0 : B 0 = 1) (hB : ∀ r, r < R → a3 r = nI (B r) ∧ 1 ≤ B r ∧ Nat.log2 (B r) ≤ 6) (hE : E < 10) {v : Nat} (hv : 1 ≤ v) (hl : Nat.log2 v ≤ 13)
    (hne : G (wd_run D 0 (B (wd_run T 0 v))) ≠ G (wd_run D 0 v))
    (hp : ∀ w r l, 1 ≤ w → Nat.log2 w ≤ 13 → r < R → l < 2 → G (wd_run D (wd_run D 0 (B (T (2 * r + l)))) w) ≠ G (wd_run D (D (2 * wd_run D 0 (B r) + l)) w) → post (fl, fr, nI (E + 1), fq, a1, a2, a3, a4, upd a5 E (nI w), a6, a7, a8, a9, a10, a11, a12)) :
    wpX_addEnding post (fl, fr, nI E, fq, a1, a2, a3, a4, a5, a6, a7, a8, a9, a10, a11, a12) (nI v) := by
  have v31 : v < 2 ^ 31 := wd_lgle hv (n := 30) (by omega)
  unfold wpX_addEnding
  refine wk_len hv v31 (wk_good hD hG hv v31 ⟨Nat.log2 v + 1, ?_⟩)
  refine wk_add14 hD hG hR0 hR hT hB hE hv hl hne hp (Nat.log2 v) 0 (by omega) ?_
  show G (wd_go D (wd_run D 0 (B 0)) (Nat.log2 v) v) = G (wd_run D 0 v)
  rw [hB0, wd_run1]
  rfl
end
end
section
/-! ===== kinds: rows in the order of their first words ===== -/
def kn_in (T : Nat → Nat) (R c : Nat) (K f : Nat → Nat) (a10 a11 a12 : Nat → Int32) : Prop :=
  0 < c ∧ K 0 = 0 ∧
  (∀ i, i < c → a10 i = nI (K i) ∧ K i < R ∧ a11 (K i) = nI i ∧ a12 i = nI (f i) ∧ 1 ≤ f i ∧ f i < 2 ^ (i + 1) ∧ wd_run T 0 (f i) = K i) ∧
  (∀ i j, i < j → j < c → f i < f j) ∧ (∀ i j, i < j → j < c → K i ≠ K j) ∧
  (∀ r, r < R → (a11 r = -1 ∧ ∀ i, i < c → K i ≠ r) ∨ (∃ i, i < c ∧ a11 r = nI i ∧ K i = r))
def kn_k (T : Nat → Nat) (R k c : Nat) (K f : Nat → Nat) (a10 a11 a12 : Nat → Int32) : Prop :=
  kn_in T R c K f a10 a11 a12 ∧ k ≤ c ∧ (∀ i, i < k → ∀ l, l < 2 → ∃ m, m < c ∧ K m = T (2 * K i + l)) ∧ (k < c → ∀ i, i < c → f i < 2 * f k)
def kn_l (T : Nat → Nat) (R k l c : Nat) (K f : Nat → Nat) (a10 a11 a12 : Nat → Int32) : Prop :=
  kn_in T R c K f a10 a11 a12 ∧ k < c ∧ (∀ i, i < k → ∀ l, l < 2 → ∃ m, m < c ∧ K m = T (2 * K i + l)) ∧ (∀ l', l' < l → ∃ m, m < c ∧ K m = T (2 * K k + l')) ∧ (∀ i, i < c → f i < 2 * f k + l)
def kn_fin (T : Nat → Nat) (R : Nat) (K f : Nat → Nat) (a10 a11 a12 : Nat → Int32) : Prop :=
  (∀ i, i < R → a10 i = nI (K i) ∧ K i < R ∧ a11 (K i) = nI i ∧ a12 i = nI (f i) ∧ 1 ≤ f i ∧ f i < 128 ∧ wd_run T 0 (f i) = K i) ∧
  (∀ i j, i < j → j < R → f i < f j) ∧ (∀ r, r < R → ∃ i, i < R ∧ a11 r = nI i ∧ K i = r) ∧ a11 0 = 0
section
variable {fl fr fe fq : Int32} {a1 a2 a3 a4 a5 a6 a7 a8 a9 a10 a11 a12 : Nat → Int32} {T K f : Nat → Nat} {R c k l : Nat}
theorem kn_le (h : kn_in T R c K f a10 a11 a12) : c ≤ R := pg_le R c K (fun i hi => (h.2.2.1 i hi).2.1) h.2.2.2.2.1
theorem kn_begin (h : kn_k T R k c K f a10 a11 a12) (hk : k < c) : kn_l T R k 0 c K f a10 a11 a12 :=
  ⟨h.1, hk, h.2.2.1, fun l' hl' => absurd hl' (by omega), h.2.2.2 hk⟩
theorem kn_next (h : kn_l T R k 2 c K f a10 a11 a12) : kn_k T R (k + 1) c K f a10 a11 a12 := by
  obtain ⟨h1, h2, h3, h4, h5⟩ := h
  refine ⟨h1, by omega, ?_, ?_⟩
  · intro i hi
    by_cases e : i = k
    · rw [e]; exact h4
    · exact h3 i (by omega)
  · intro hk i hi
    have := h5 i hi
    have := h1.2.2.2.1 k (k + 1) (by omega) hk
    omega
/-- the letter leads to a row that is there already -/
theorem kn_old {r : Nat} (h : kn_l T R k l c K f a10 a11 a12) (hr : r = T (2 * K k + l)) (hm : ∃ m, m < c ∧ K m = r) : kn_l T R k (l + 1) c K f a10 a11 a12 := by
  obtain ⟨h1, h2, h3, h4, h5⟩ := h
  refine ⟨h1, h2, h3, ?_, fun i hi => by have := h5 i hi; omega⟩
  intro l' hl'
  by_cases e : l' = l
  · rw [e, ← hr]; exact hm
  · exact h4 l' (by omega)
/-- it leads to a new one -/
theorem kn_new {r : Nat} (hT : wd_cl T R) (hl : l < 2) (h : kn_l T R k l c K f a10 a11 a12) (hr : r = T (2 * K k + l)) (hn : ∀ i, i < c → K i ≠ r) :
    kn_l T R k (l + 1) (c + 1) (fun i => if i = c then r else K i) (fun i => if i = c then 2 * f k + l else f i) (upd a10 c (nI r)) (upd a11 r (nI c)) (upd a12 c (nI (2 * f k + l))) := by
  obtain ⟨⟨g0, g1, g2, g3, g4, g5⟩, h2, h3, h4, h5⟩ := h
  obtain ⟨k1, k2, k3, k4, k5, k6, k7⟩ := g2 k h2
  have hrR : r < R := by rw [hr]; exact hT _ (by omega)
  have Kl : ∀ i, i < c → (if i = c then r else K i) = K i := fun i hi => by rw [if_neg (by omega)]
  have fl' : ∀ i, i < c → (if i = c then 2 * f k + l else f i) = f i := fun i hi => by rw [if_neg (by omega)]
  refine ⟨⟨by omega, ?_, ?_, ?_, ?_, ?_⟩, by omega, ?_, ?_, ?_⟩
  · show (if 0 = c then r else K 0) = 0
    rw [Kl 0 g0]; exact g1
  · intro i hi
    show upd a10 c (nI r) i = nI (if i = c then r else K i) ∧ (if i = c then r else K i) < R ∧ upd a11 r (nI c) (if i = c then r else K i) = nI i ∧ upd a12 c (nI (2 * f k + l)) i = nI (if i = c then 2 * f k + l else f i) ∧
      1 ≤ (if i = c then 2 * f k + l else f i) ∧ (if i = c then 2 * f k + l else f i) < 2 ^ (i + 1) ∧ wd_run T 0 (if i = c then 2 * f k + l else f i) = (if i = c then r else K i)
    by_cases e : i = c
    · rw [if_pos e, if_pos e, e, pk_us, pk_us, pk_us, wd_runs k5 hl, k7, ← hr]
      refine ⟨rfl, hrR, rfl, rfl, by omega, ?_, rfl⟩
      have p1 : 2 ^ (k + 2) ≤ 2 ^ (c + 1) := Nat.pow_le_pow_right (by decide) (by omega)
      have p2 : 2 ^ (k + 2) = 2 ^ (k + 1) * 2 := Nat.pow_succ ..
      omega
    · rw [if_neg e, if_neg e, pk_un e, pk_un e]
      have gi := g2 i (by omega)
      rw [pk_un (hn i (by omega))]
      exact gi
  · intro i j hij hj
    show (if i = c then 2 * f k + l else f i) < (if j = c then 2 * f k + l else f j)
    rw [fl' i (by omega)]
    by_cases e : j = c
    · rw [if_pos e]; exact h5 i (by omega)
    · rw [if_neg e]; exact g3 i j hij (by omega)
  · intro i j hij hj
    show (if i = c then r else K i) ≠ (if j = c then r else K j)
    rw [Kl i (by omega)]
    by_cases e : j = c
    · rw [if_pos e]; exact hn i (by omega)
    · rw [if_neg e]; exact g4 i j hij (by omega)
  · intro r' hr'
    by_cases e : r' = r
    · right
      rw [e, pk_us]
      refine ⟨c, by omega, rfl, ?_⟩
      show (if c = c then r else K c) = r
      rw [if_pos rfl]
    · rw [pk_un e]
      rcases g5 r' hr' with ⟨x, y⟩ | ⟨i, x, y, z⟩
      · left
        refine ⟨x, fun i hi => ?_⟩
        show (if i = c then r else K i) ≠ r'
        by_cases e' : i = c
        · rw [if_pos e']; exact fun w => e w.symm
        · rw [if_neg e']; exact y i (by omega)
      · right
        refine ⟨i, by omega, y, ?_⟩
        show (if i = c then r else K i) = r'
        rw [Kl i x]; exact z
  · intro i hi l' hl'
    obtain ⟨m, m1, m2⟩ := h3 i hi l' hl'
    refine ⟨m, by omega, ?_⟩
    show (if m = c then r else K m) = T (2 * (if i = c then r else K i) + l')
    rw [Kl m m1, Kl i (by omega)]; exact m2
  · intro l' hl'
    show ∃ m, m < c + 1 ∧ (if m = c then r else K m) = T (2 * (if k = c then r else K k) + l')
    rw [Kl k h2]
    by_cases e : l' = l
    · refine ⟨c, by omega, ?_⟩
      rw [if_pos rfl, e]; exact hr
    · obtain ⟨m, m1, m2⟩ := h4 l' (by omega)
      refine ⟨m, by omega, ?_⟩
      rw [Kl m m1]; exact m2
  · intro i hi
    show (if i = c then 2 * f k + l else f i) < 2 * (if k = c then 2 * f k + l else f k) + (l + 1)
    rw [fl' k h2]
    by_cases e : i = c
    · rw [if_pos e]; omega
    · rw [if_neg e]
      have := h5 i (by omega)
      omega
theorem kn_end (hR : R ≤ 7) (hr : ∀ r, r < R → ∃ u, 1 ≤ u ∧ wd_run T 0 u = r) (h : kn_k T R k c K f a10 a11 a12) (hk : c ≤ k) : kn_fin T R K f a10 a11 a12 := by
  have hle := kn_le h.1
  obtain ⟨⟨g0, g1, g2, g3, g4, g5⟩, h2, h3, h4⟩ := h
  have all : ∀ u, 1 ≤ u → ∃ m, m < c ∧ K m = wd_run T 0 u := by
    refine wd_ind ⟨0, g0, by rw [wd_run1]; exact g1⟩ ?_
    intro u l hu hl ih
    obtain ⟨m, m1, m2⟩ := ih
    rw [wd_runs hu hl, ← m2]
    exact h3 m (by omega) l hl
  have back : ∀ r, r < R → ∃ i, i < c ∧ a11 r = nI i ∧ K i = r := by
    intro r hrr
    obtain ⟨u, u1, u2⟩ := hr r hrr
    obtain ⟨m, m1, m2⟩ := all u u1
    rcases g5 r hrr with ⟨x, y⟩ | z
    · exact absurd (m2.trans u2) (y m m1)
    · exact z
  have hge : R ≤ c := by
    refine pg_le c R (fun r => (a11 r).toNatClampNeg) ?_ ?_
    · intro r hrr
      obtain ⟨i, i1, i2, i3⟩ := back r hrr
      show (a11 r).toNatClampNeg < c
      rw [i2, nI_clamp (by omega)]; exact i1
    · intro r r' hlt hr'
      obtain ⟨i, i1, i2, i3⟩ := back r (by omega)
      obtain ⟨j, j1, j2, j3⟩ := back r' hr'
      show (a11 r).toNatClampNeg ≠ (a11 r').toNatClampNeg
      rw [i2, j2, nI_clamp (by omega), nI_clamp (by omega)]
      intro z
      rw [z, j3] at i3
      omega
  have ec : c = R := by omega
  subst ec
  refine ⟨fun i hi => ?_, g3, back, ?_⟩
  · obtain ⟨x1, x2, x3, x4, x5, x6, x7⟩ := g2 i hi
    have p : 2 ^ (i + 1) ≤ 2 ^ 7 := Nat.pow_le_pow_right (by decide) (by omega)
    exact ⟨x1, x2, x3, x4, x5, by omega, x7⟩
  · have := (g2 0 g0).2.2.1
    rw [g1] at this
    exact this
/-! ===== orderKinds ===== -/
theorem wk_ord59 {post : St1 → Prop} {J46 : Int32 → Int32 → (Nat → Int32) → (Nat → Int32) → (Nat → Int32) → (Nat → Int32) → (Nat → Int32) → (Nat → Int32) → (Nat → Int32) → (Nat → Int32) → (Nat → Int32) → (Nat → Int32) → (Nat → Int32) → (Nat → Int32) → Prop}
    (hR : R ≤ 7) (hT : wk_ar a6 T (2 * R) R) (H : ∀ c K f a10 a11 a12, kn_k T R (k + 1) c K f a10 a11 a12 → J46 (nI c) (nI (k + 1)) a1 a2 a3 a4 a5 a6 a7 a8 a9 a10 a11 a12) :
    ∀ z l c K f a10 a11 a12, l + z = 2 → kn_l T R k l c K f a10 a11 a12 → wX_orderKinds_59 post J46 (nI k) fl fr fe fq (z + 1) (nI c) (nI l) a1 a2 a3 a4 a5 a6 a7 a8 a9 a10 a11 a12
  | 0, l, c, K, f, a10, a11, a12, e, h => by
    have el : l = 2 := by omega
    subst el
    exact br_t (by decide) (nm_r (nI_1 k) (H c K f a10 a11 a12 (kn_next h)))
  | z + 1, l, c, K, f, a10, a11, a12, e, h => by
    have hl : l < 2 := by omega
    have hc := kn_le h.1
    have hkc := h.2.1
    obtain ⟨k1, k2, k3, k4, k5, k6, k7⟩ := h.1.2.2.1 k hkc
    obtain ⟨t1, t2⟩ := hT (2 * K k + l) (by omega)
    refine br_f (nI_ge (b := 2) (by omega) (by decide)) ⟨vp_in_nI (by omega) (by decide), ?_⟩
    rw [nI_clamp (n := k) (by omega), k1, ix_2 (K k) l, nI_clamp (n := 2 * K k + l) (by omega), t1]
    refine ⟨vp_in_nI (by omega) (by decide), nm_e ?_⟩
    rw [nI_clamp (n := T (2 * K k + l)) (by omega)]
    refine ⟨vp_in_nI (by omega) (by decide), ?_⟩
    rcases h.1.2.2.2.2.2 (T (2 * K k + l)) t2 with ⟨x, y⟩ | ⟨i, x, y, w⟩
    · have hlt : c < R := pg_lt (fun i hi => (h.1.2.2.1 i hi).2.1) h.1.2.2.2.2.1 t2 y
      refine br_f (by rw [x]; decide) ⟨vp_in_nI (by omega) (by decide), nm_e ⟨vp_in_nI (by omega) (by decide), ?_⟩⟩
      rw [nI_clamp (n := c) (by omega), k4, ix_2 (f k) l]
      refine nm_e ⟨vp_in_nI (by omega) (by decide), vp_in_nI (by omega) (by decide), nm_e (nm_r (nI_1 c) (nm_r (nI_1 l) ?_))⟩
      exact wk_ord59 hR hT H z (l + 1) (c + 1) _ _ _ _ _ (by omega) (kn_new (wk_cl hT) hl h rfl y)
    · refine br_t (by rw [y]; exact nI_pos' (by omega)) (nm_r (nI_1 l) ?_)
      exact wk_ord59 hR hT H z (l + 1) c K f a10 a11 a12 (by omega) (kn_old h rfl ⟨i, x, w⟩)
theorem wk_ord46 {post : St1 → Prop} (hR : R ≤ 7) (hT : wk_ar a6 T (2 * R) R) (hr : ∀ r, r < R → ∃ u, 1 ≤ u ∧ wd_run T 0 u = r)
    (hp : ∀ K f a10 a11 a12, kn_fin T R K f a10 a11 a12 → post (fl, fr, fe, fq, a1, a2, a3, a4, a5, a6, a7, a8, a9, a10, a11, a12)) :
    ∀ n k c K f a10 a11 a12, 7 - k < n → kn_k T R k c K f a10 a11 a12 → wX_orderKinds_46 post fl fr fe fq n (nI c) (nI k) a1 a2 a3 a4 a5 a6 a7 a8 a9 a10 a11 a12
  | 0, k, c, K, f, a10, a11, a12, hn, h => by omega
  | n + 1, k, c, K, f, a10, a11, a12, hn, h => by
    have hc := kn_le h.1
    have hkc := h.2.1
    refine pk_le c k (fun z => hp K f a10 a11 a12 (kn_end hR hr h z)) (fun z => ?_)
    refine br_f (nI_ge (b := 7) (by omega) (by decide)) ⟨3, ?_⟩
    exact wk_ord59 hR hT (fun c K f a10 a11 a12 q => wk_ord46 hR hT hr hp n (k + 1) c K f a10 a11 a12 (by omega) q) 2 0 c K f a10 a11 a12 (by omega) (kn_begin h z)
theorem wk_ord2 {post : St1 → Prop} (hR0 : 0 < R) (hR : R ≤ 7) (hT : wk_ar a6 T (2 * R) R) (hr : ∀ r, r < R → ∃ u, 1 ≤ u ∧ wd_run T 0 u = r)
    (hp : ∀ K f a10 a11 a12, kn_fin T R K f a10 a11 a12 → post (fl, fr, fe, fq, a1, a2, a3, a4, a5, a6, a7, a8, a9, a10, a11, a12)) :
    ∀ c k a11, k + c = 7 → (∀ j, j < k → a11 j = -1) → wX_orderKinds_2 post fl fr fe fq (c + 1) (nI k) a1 a2 a3 a4 a5 a6 a7 a8 a9 a10 a11 a12
  | 0, k, a11, e, h => by
    have ek : k = 7 := by omega
    subst ek
    refine br_t (by decide) (nm_e (nm_e (nm_e ⟨8, ?_⟩)))
    refine wk_ord46 hR hT hr hp 8 0 1 (fun _ => 0) (fun _ => 1) _ _ _ (by omega) ⟨⟨by omega, rfl, ?_, ?_, ?_, ?_⟩, by omega, ?_, ?_⟩
    · intro i hi
      have e0 : i = 0 := by omega
      subst e0
      rw [pk_us, pk_us, pk_us]
      exact ⟨rfl, hR0, rfl, rfl, Nat.le_refl 1, by decide, wd_run1⟩
    · intro i j hij hj; omega
    · intro i j hij hj; omega
    · intro r hrr
      by_cases e0 : r = 0
      · right
        rw [e0, pk_us]
        exact ⟨0, by omega, rfl, rfl⟩
      · left
        rw [pk_un e0]
        exact ⟨h r (by omega), fun i _ => fun w => e0 w.symm⟩
    · intro i hi; omega
    · intro _ i _
      show 1 < 2 * 1
      omega
  | c + 1, k, a11, e, h => by
    refine br_f (nI_ge (b := 7) (by omega) (by decide)) ⟨vp_in_nI (by omega) (by decide), nm_e (nm_r (nI_1 k) ?_)⟩
    rw [nI_clamp (by omega)]
    refine wk_ord2 hR0 hR hT hr hp c (k + 1) _ (by omega) ?_
    intro j hj
    by_cases c : j = k
    · rw [c, pk_us]
    · rw [pk_un c]; exact h j (by omega)
theorem wk_ord {post : St1 → Prop} (hR0 : 0 < R) (hR : R ≤ 7) (hT : wk_ar a6 T (2 * R) R) (hr : ∀ r, r < R → ∃ u, 1 ≤ u ∧ wd_run T 0 u = r)
    (hp : ∀ K f a10 a11 a12, kn_fin T R K f a10 a11 a12 → post (fl, fr, fe, fq, a1, a2, a3, a4, a5, a6, a7, a8, a9, a10, a11, a12)) : wpX_orderKinds post (fl, fr, fe, fq, a1, a2, a3, a4, a5, a6, a7, a8, a9, a10, a11, a12) := by
  unfold wpX_orderKinds
  exact ⟨_, wk_ord2 hR0 hR hT hr hp 7 0 a11 (by omega) (fun j hj => absurd hj (by omega))⟩
end
end
section
/-! ===== learn ===== -/
/-- what the learned desk holds -/
def ld_ok (D G : Nat → Nat) (R : Nat) (T g K f : Nat → Nat) (a1 a2 a4 a6 a10 a11 a12 : Nat → Int32) : Prop :=
  wk_ar a1 D 14 7 ∧ wk_ar a2 G 7 2 ∧ 0 < R ∧ R ≤ 7 ∧ wk_ar a6 T (2 * R) R ∧ (∀ r, r < R → a4 r &&& 1 = nI (g r) ∧ g r < 2) ∧
  (∀ u, 1 ≤ u → g (wd_run T 0 u) = G (wd_run D 0 u)) ∧ (∀ r r', r < R → r' < R → r ≠ r' → ∃ u, 1 ≤ u ∧ g (wd_run T r u) ≠ g (wd_run T r' u)) ∧
  kn_fin T R K f a10 a11 a12
/-- the table in front of a round: j rounds have been, each has brought an ending -/
def lr_in (D G F B : Nat → Nat) (j R : Nat) (a3 a5 : Nat → Int32) : Prop :=
  wk_en a5 F (j + 1) ∧ F 0 = 1 ∧ 0 < R ∧ j ≤ R ∧ tb_tree B R ∧ tb_sep D G F B (j + 1) R ∧ (∀ r, r < R → a3 r = nI (B r)) ∧
  (j = 0 ∨ ∃ r l, r < R ∧ l < 2 ∧ ∀ k, k < R → tb_sg D G F (j + 1) (wd_run D 0 (B k)) ≠ tb_sg D G F (j + 1) (D (2 * wd_run D 0 (B r) + l)))
section
variable {fl fr fe fq : Int32} {a1 a2 a3 a4 a5 a6 a7 a8 a9 a10 a11 a12 : Nat → Int32} {D G F B T : Nat → Nat} {R E j : Nat}
/-- one ending more tells more apart -/
theorem tb_sgx (hD : wd_cl D 7) (hG : wk_ar a2 G 7 2) (hF : wk_en a5 F E) {w s s' : Nat} (hw : 1 ≤ w) (hs : s < 7) (hs' : s' < 7)
    (h : tb_sg D G (fun e => if e = E then w else F e) (E + 1) s = tb_sg D G (fun e => if e = E then w else F e) (E + 1) s') : tb_sg D G F E s = tb_sg D G F E s' ∧ G (wd_run D s w) = G (wd_run D s' w) := by
  have hf1 : ∀ e, e < E + 1 → 1 ≤ (if e = E then w else F e) := by
    intro e he
    by_cases c : e = E
    · rw [if_pos c]; exact hw
    · rw [if_neg c]; exact (hF e (by omega)).2.1
  have key := sg_inj (f := fun e => G (wd_run D s (if e = E then w else F e))) (g := fun e => G (wd_run D s' (if e = E then w else F e))) (E + 1)
    (fun e he => (hG _ (wd_runlt hD hs _ (hf1 e he))).2) (fun e he => (hG _ (wd_runlt hD hs' _ (hf1 e he))).2) h
  constructor
  · refine sg_ext E (fun e he => ?_)
    have k := key e (by omega)
    have k' : G (wd_run D s (if e = E then w else F e)) = G (wd_run D s' (if e = E then w else F e)) := k
    rw [if_neg (by omega)] at k'
    exact k'
  · have k := key E (by omega)
    have k' : G (wd_run D s (if E = E then w else F E)) = G (wd_run D s' (if E = E then w else F E)) := k
    rw [if_pos rfl] at k'
    exact k'
/-- the new ending in front of the next round -/
theorem lr_next (hD : wk_ar a1 D 14 7) (hG : wk_ar a2 G 7 2) (hF : wk_en a5 F (j + 1)) (hF0 : F 0 = 1) (hok : tb_ok D G F B (j + 1) R a3 a4) (harr : tb_arr D G F B T (j + 1) R (2 * R) a6) (hj : j + 1 ≤ R) {w r l : Nat}
    (hw : 1 ≤ w) (hwl : Nat.log2 w ≤ 13) (hr : r < R) (hl : l < 2) (hne : G (wd_run D (wd_run D 0 (B (T (2 * r + l)))) w) ≠ G (wd_run D (D (2 * wd_run D 0 (B r) + l)) w)) :
    lr_in D G (fun e => if e = j + 1 then w else F e) B (j + 1) R a3 (upd a5 (j + 1) (nI w)) := by
  have cD := wk_cl (n := 7) hD
  obtain ⟨k0, kt, ks, k3, k4⟩ := hok
  have S7 : ∀ k, k < R → wd_run D 0 (B k) < 7 := fun k hk => wd_runlt cD (by omega) _ (tb_len kt k hk).1
  refine ⟨?_, ?_, k0, hj, kt, ?_, k3, Or.inr ⟨r, l, hr, hl, ?_⟩⟩
  · intro e he
    show upd a5 (j + 1) (nI w) e = nI (if e = j + 1 then w else F e) ∧ 1 ≤ (if e = j + 1 then w else F e) ∧ Nat.log2 (if e = j + 1 then w else F e) ≤ 13
    by_cases c : e = j + 1
    · rw [if_pos c, c, pk_us]; exact ⟨rfl, hw, hwl⟩
    · rw [if_neg c, pk_un c]; exact hF e (by omega)
  · show (if 0 = j + 1 then w else F 0) = 1
    rw [if_neg (by omega)]; exact hF0
  · intro x y hx hy h
    exact ks x y hx hy (tb_sgx cD hG hF hw (S7 x hx) (S7 y hy) h).1
  · intro k hk h
    have hs' : D (2 * wd_run D 0 (B r) + l) < 7 := cD _ (by have := S7 r hr; omega)
    obtain ⟨x1, x2⟩ := tb_sgx cD hG hF hw (S7 k hk) hs' h
    obtain ⟨t1, t2, t3⟩ := harr (2 * r + l) (by omega)
    rw [show (2 * r + l) / 2 = r by omega, show (2 * r + l) % 2 = l by omega] at t3
    have ek := ks k (T (2 * r + l)) hk t2 (x1.trans t3.symm)
    rw [ek] at x2
    exact hne x2
/-- the answer to the empty ending is the row's own -/
theorem tb_par (hD : wd_cl D 7) (hG : wk_ar a2 G 7 2) (hF : wk_en a5 F (j + 1)) (hj : j + 1 ≤ 10) (hF0 : F 0 = 1) {s : Nat} (hs : s < 7) : nI (tb_sg D G F (j + 1) s) &&& 1 = nI (G s) := by
  have h1 := tb_sglt hD hG hF hj hs
  have h2 : G (wd_run D s (F 0)) = G s := by rw [hF0, wd_run1]
  have h3 : tb_sg D G F (j + 1) s % 2 = G (wd_run D s (F 0)) := sg_par (f := fun e => G (wd_run D s (F e))) (by
    show G (wd_run D s (F 0)) < 2
    rw [h2]; exact (hG s hs).2) j
  rw [ix_odd (by omega), h3, h2]
theorem wk_ar6 (harr : tb_arr D G F B T E R (2 * R) a6) : wk_ar a6 T (2 * R) R := fun i hi => ⟨(harr i hi).1, (harr i hi).2.1⟩
/-- behind a round that found no wrong guess -/
theorem ld_end (hD : wk_ar a1 D 14 7) (hG : wk_ar a2 G 7 2) (hF : wk_en a5 F (j + 1)) (hj : j + 1 ≤ 10) (hF0 : F 0 = 1) (hok : tb_ok D G F B (j + 1) R a3 a4) (harr : tb_arr D G F B T (j + 1) R (2 * R) a6)
    (hz : ∀ u, 1 ≤ u → G (wd_run D 0 (B (wd_run T 0 u))) = G (wd_run D 0 u)) {K f : Nat → Nat} (hk : kn_fin T R K f a10 a11 a12) :
    ld_ok D G R T (fun r => G (wd_run D 0 (B r))) K f a1 a2 a4 a6 a10 a11 a12 := by
  have cD := wk_cl (n := 7) hD
  have reach := tb_reach hok harr
  obtain ⟨k0, kt, ks, k3, k4⟩ := hok
  have S7 : ∀ k, k < R → wd_run D 0 (B k) < 7 := fun k hk => wd_runlt cD (by omega) _ (tb_len kt k hk).1
  refine ⟨hD, hG, k0, tb_le7 cD kt ks, wk_ar6 harr, ?_, hz, ?_, hk⟩
  · intro r hr
    rw [k4 r hr]
    exact ⟨tb_par cD hG hF hj hF0 (S7 r hr), (hG _ (S7 r hr)).2⟩
  · intro r r' hr hr' hne
    have hex : ∃ e, e < j + 1 ∧ G (wd_run D (wd_run D 0 (B r)) (F e)) ≠ G (wd_run D (wd_run D 0 (B r')) (F e)) := by
      by_cases c : ∃ e, e < j + 1 ∧ G (wd_run D (wd_run D 0 (B r)) (F e)) ≠ G (wd_run D (wd_run D 0 (B r')) (F e))
      · exact c
      · exfalso
        refine hne (ks r r' hr hr' (sg_ext (j + 1) (fun e he => ?_)))
        by_cases c2 : G (wd_run D (wd_run D 0 (B r)) (F e)) = G (wd_run D (wd_run D 0 (B r')) (F e))
        · exact c2
        · exact absurd ⟨e, he, c2⟩ c
    obtain ⟨e, he, hx⟩ := hex
    have tr : ∀ r, r < R → G (wd_run D 0 (B (wd_run T r (F e)))) = G (wd_run D (wd_run D 0 (B r)) (F e)) := by
      intro r hr
      have b := (tb_len kt r hr).1
      have h1 := hz (wd_join (B r) (F e)) (wd_join1 b)
      rw [wd_joinr b, wd_joinr b, reach r hr] at h1
      exact h1
    refine ⟨F e, (hF e he).2.1, ?_⟩
    show G (wd_run D 0 (B (wd_run T r (F e)))) ≠ G (wd_run D 0 (B (wd_run T r' (F e))))
    rw [tr r hr, tr r' hr']
    exact hx
/-! the walk -/
theorem wk_lrn41 {post : St1 → Prop} (hD : wk_ar a1 D 14 7) (hG : wk_ar a2 G 7 2)
    (hp : ∀ R T g K f fe fq a3 a4 a5 a6 a7 a8 a9 a10 a11 a12, ld_ok D G R T g K f a1 a2 a4 a6 a10 a11 a12 → post (1, nI R, fe, fq, a1, a2, a3, a4, a5, a6, a7, a8, a9, a10, a11, a12)) :
    ∀ n j R F B fq a3 a4 a5 a6 a7 a8 a9 a10 a11 a12, 8 - j < n → j ≤ 7 → lr_in D G F B j R a3 a5 → wX_learn_41 post (n + 1) 1 (nI j) 1 (nI R) (nI (j + 1)) fq a1 a2 a3 a4 a5 a6 a7 a8 a9 a10 a11 a12
  | 0, j, R, F, B, fq, a3, a4, a5, a6, a7, a8, a9, a10, a11, a12, hn, hj, h => by omega
  | n + 1, j, R, F, B, fq, a3, a4, a5, a6, a7, a8, a9, a10, a11, a12, hn, hj, h => by
    have cD := wk_cl (n := 7) hD
    obtain ⟨hF, hF0, h0, hjR, ht, hs, h3, hu⟩ := h
    have R7 := tb_le7 cD ht hs
    refine br_f (nI_ge (b := 9) (by omega) (by decide)) (br_f (by decide) ?_)
    refine wk_fill hD hG hF (by omega) R7 (fun r hr => ⟨h3 r hr, (tb_len ht r hr).1, by have := (tb_len ht r hr).2; omega⟩) (fun a4 h4 => ?_)
    refine wk_cls hD hG hF (by omega) (B0 := B) ⟨h0, ht, hs, h3, h4⟩ (fun R' B' T a3 a4 a6 q1 q2 q3 q4 => ?_)
    have R7' := tb_le7 cD q3.2.1 q3.2.2.1
    have q0 := q3.1
    have grow : j + 1 ≤ R' := by
      rcases hu with z | ⟨r, l, u1, u2, u3⟩
      · omega
      · rcases Nat.lt_or_ge R R' with c | c
        · omega
        · exfalso
          have eR : R' = R := by omega
          obtain ⟨t1, t2, t3⟩ := q4 (2 * r + l) (by omega)
          rw [show (2 * r + l) / 2 = r by omega, show (2 * r + l) % 2 = l by omega, q2 r u1, q2 _ (by omega)] at t3
          exact u3 _ (by omega) t3
    clear hu
    have S7 : ∀ k, k < R' → wd_run D 0 (B' k) < 7 := fun k hk => wd_runlt cD (by omega) _ (tb_len q3.2.1 k hk).1
    refine wk_fw (g := fun r => G (wd_run D 0 (B' r))) hD hG q0 R7' (wk_ar6 q4) (fun r hr => ?_) (fun hz fq a7 a8 a9 => ?_) (fun v v1 v2 v3 fq a7 a8 a9 => ?_)
    · rw [q3.2.2.2.2 r hr]
      exact ⟨tb_par cD hG hF (by omega) hF0 (S7 r hr), (hG _ (S7 r hr)).2⟩
    · refine br_t (by decide) (br_t rfl (nm_r (nI_1 j) ?_))
      refine br_f (nI_ge (b := 9) (by omega) (by decide)) (br_t rfl ?_)
      refine wk_ord q0 R7' (wk_ar6 q4) (fun r hr => ⟨B' r, (tb_len q3.2.1 r hr).1, tb_reach q3 q4 r hr⟩) (fun K f a10 a11 a12 q => ?_)
      exact hp R' T _ K f _ _ _ _ _ _ _ _ _ _ _ _ (ld_end hD hG hF (by omega) hF0 q3 q4 hz q)
    · have v31 : v < 2 ^ 31 := wd_lgle v1 (n := 30) (by omega)
      refine br_f (nI_nle (by omega) v31) (br_f (by decide) ?_)
      refine wk_add hD hG q0 R7' (wk_ar6 q4) q3.2.1.1 (fun r hr => ⟨q3.2.2.2.1 r hr, (tb_len q3.2.1 r hr).1, by have := (tb_len q3.2.1 r hr).2; omega⟩) (by omega) v1 v2 v3 (fun w r l w1 w2 w3 w4 w5 => nm_r (nI_1 j) ?_)
      exact wk_lrn41 hD hG hp n (j + 1) R' _ B' fq a3 a4 _ a6 a7 a8 a9 a10 a11 a12 (by omega) (by omega) (lr_next hD hG hF hF0 q3 q4 grow w1 w2 w3 w4 w5)
theorem wk_lrn0 {post : St1 → Prop} (hD : wk_ar a1 D 14 7) (hG : wk_ar a2 G 7 2)
    (hp : ∀ R T g K f fe fq a3 a4 a5 a6 a7 a8 a9 a10 a11 a12, ld_ok D G R T g K f a1 a2 a4 a6 a10 a11 a12 → post (1, nI R, fe, fq, a1, a2, a3, a4, a5, a6, a7, a8, a9, a10, a11, a12)) : wpX_learn post (0, fr, fe, fq, a1, a2, a3, a4, a5, a6, a7, a8, a9, a10, a11, a12) := by
  unfold wpX_learn
  refine br_t rfl (nm_e (nm_e ⟨11, ?_⟩))
  refine wk_lrn41 hD hG hp 10 0 1 (fun _ => 1) (fun _ => 1) fq _ a4 _ a6 a7 a8 a9 a10 a11 a12 (by omega) (by omega) ⟨?_, rfl, by omega, by omega, ⟨rfl, fun r h1 h2 => absurd h2 (by omega)⟩, ?_, ?_, Or.inl rfl⟩
  · intro e he
    have e0 : e = 0 := by omega
    subst e0
    rw [pk_us]
    exact ⟨rfl, Nat.le_refl 1, by show Nat.log2 1 ≤ 13; rw [wd_lg1]; omega⟩
  · intro r r' hr hr' _; omega
  · intro r hr
    have e0 : r = 0 := by omega
    subst e0
    rw [pk_us]
    rfl
theorem wk_lrn1 {post : St1 → Prop} (hp : post (1, fr, fe, fq, a1, a2, a3, a4, a5, a6, a7, a8, a9, a10, a11, a12)) : wpX_learn post (1, fr, fe, fq, a1, a2, a3, a4, a5, a6, a7, a8, a9, a10, a11, a12) := br_f (by decide) hp
end
end
section
/-! ===== the desk's methods, learned ===== -/
theorem ix_xor {x y : Int32} {p q : Nat} (hx : x &&& 1 = nI p) (hy : y &&& 1 = nI q) (hp : p < 2) (hq : q < 2) : (x ^^^ y) &&& 1 = 0 ↔ p = q := by
  have e : (x ^^^ y) &&& 1 = (x &&& 1) ^^^ (y &&& 1) := by
    apply Int32.toBitVec_inj.1
    rw [Int32.toBitVec_and, Int32.toBitVec_xor, Int32.toBitVec_xor, Int32.toBitVec_and, Int32.toBitVec_and]
    apply BitVec.eq_of_getLsbD_eq
    intro i hi
    rw [BitVec.getLsbD_and, BitVec.getLsbD_xor, BitVec.getLsbD_xor, BitVec.getLsbD_and, BitVec.getLsbD_and]
    cases x.toBitVec.getLsbD i <;> cases y.toBitVec.getLsbD i <;> cases (1 : Int32).toBitVec.getLsbD i <;> rfl
  rw [e, hx, hy]
  rcases (show p = 0 ∨ p = 1 by omega) with z | z <;> rcases (show q = 0 ∨ q = 1 by omega) with y | y <;> subst z y <;> decide
section
variable {fl fr fe fq : Int32} {a1 a2 a3 a4 a5 a6 a7 a8 a9 a10 a11 a12 : Nat → Int32} {D G T g K f : Nat → Nat} {R : Nat}
/-- hidden machine in order; learned or not -/
def dk_st (D G : Nat → Nat) (fl fr : Int32) (a1 a2 a4 a6 a10 a11 a12 : Nat → Int32) : Prop :=
  wk_ar a1 D 14 7 ∧ wk_ar a2 G 7 2 ∧ (fl = 0 ∨ (fl = 1 ∧ ∃ R T g K f, fr = nI R ∧ ld_ok D G R T g K f a1 a2 a4 a6 a10 a11 a12))
theorem wk_lrn {post : St1 → Prop} (h : dk_st D G fl fr a1 a2 a4 a6 a10 a11 a12)
    (hp : ∀ R T g K f fe fq a3 a4 a5 a6 a7 a8 a9 a10 a11 a12, ld_ok D G R T g K f a1 a2 a4 a6 a10 a11 a12 → post (1, nI R, fe, fq, a1, a2, a3, a4, a5, a6, a7, a8, a9, a10, a11, a12)) : wpX_learn post (fl, fr, fe, fq, a1, a2, a3, a4, a5, a6, a7, a8, a9, a10, a11, a12) := by
  obtain ⟨hD, hG, h | ⟨h, R, T, g, K, f, e, hl⟩⟩ := h
  · subst h
    exact wk_lrn0 hD hG hp
  · subst h e
    exact wk_lrn1 (hp R T g K f _ _ _ _ _ _ _ _ _ _ _ _ hl)
theorem wk_kinds {post : Int32 → St1 → Prop} (h : dk_st D G fl fr a1 a2 a4 a6 a10 a11 a12)
    (hp : ∀ R T g K f fe fq a3 a4 a5 a6 a7 a8 a9 a10 a11 a12, ld_ok D G R T g K f a1 a2 a4 a6 a10 a11 a12 → post (nI R) (1, nI R, fe, fq, a1, a2, a3, a4, a5, a6, a7, a8, a9, a10, a11, a12)) : wpX_kinds post (fl, fr, fe, fq, a1, a2, a3, a4, a5, a6, a7, a8, a9, a10, a11, a12) := by
  unfold wpX_kinds
  exact wk_lrn h (fun R T g K f fe fq a3 a4 a5 a6 a7 a8 a9 a10 a11 a12 q => hp R T g K f _ _ _ _ _ _ _ _ _ _ _ _ q)
theorem wk_isw {post : Int32 → Prop} {w : Nat} (h1 : 1 ≤ w) (h2 : w ≤ 4095) (hp : post 1) : wpX_isWord post () (nI w) := by
  unfold wpX_isWord
  exact br_f (nI_nlt (b := 1) h1 (by omega)) (br_f (nI_nlt (a := 4095) h2 (by decide)) hp)
theorem wk_kind {post : Int32 → St1 → Prop} (h : dk_st D G fl fr a1 a2 a4 a6 a10 a11 a12) {w : Nat} (h1 : 1 ≤ w) (h2 : w ≤ 4095)
    (hp : ∀ R T g K f fe fq a3 a4 a5 a6 a7 a8 a9 a10 a11 a12, ld_ok D G R T g K f a1 a2 a4 a6 a10 a11 a12 → post (a11 (wd_run T 0 w)) (1, nI R, fe, fq, a1, a2, a3, a4, a5, a6, a7, a8, a9, a10, a11, a12)) : wpX_kind post (fl, fr, fe, fq, a1, a2, a3, a4, a5, a6, a7, a8, a9, a10, a11, a12) (nI w) := by
  unfold wpX_kind
  refine wk_isw h1 h2 (br_f (by decide) (wk_lrn h (fun R T g K f fe fq a3 a4 a5 a6 a7 a8 a9 a10 a11 a12 q => ?_)))
  have hR0 := q.2.2.1
  have hR := q.2.2.2.1
  have hT := q.2.2.2.2.1
  have hr := wd_runlt (wk_cl hT) hR0 w h1
  refine wk_len h1 (by omega) (wk_aftw hR0 hR hT h1 (by omega) ⟨vp_in_nI (by omega) (by decide), ?_⟩)
  rw [nI_clamp (by omega)]
  exact hp R T g K f _ _ _ _ _ _ _ _ _ _ _ _ q
/-! the desk is learned: nothing changes but the search -/
theorem wk_kind1 (q : ld_ok D G R T g K f a1 a2 a4 a6 a10 a11 a12) {post : Int32 → St1 → Prop} {w : Nat} (h1 : 1 ≤ w) (h2 : w ≤ 4095) (hp : post (a11 (wd_run T 0 w)) (1, nI R, fe, fq, a1, a2, a3, a4, a5, a6, a7, a8, a9, a10, a11, a12)) : wpX_kind post (1, nI R, fe, fq, a1, a2, a3, a4, a5, a6, a7, a8, a9, a10, a11, a12) (nI w) := by
  unfold wpX_kind
  refine wk_isw h1 h2 (br_f (by decide) (wk_lrn1 ?_))
  have hR0 := q.2.2.1
  have hR := q.2.2.2.1
  have hT := q.2.2.2.2.1
  have hr := wd_runlt (wk_cl hT) hR0 w h1
  refine wk_len h1 (by omega) (wk_aftw hR0 hR hT h1 (by omega) ⟨vp_in_nI (by omega) (by decide), ?_⟩)
  rw [nI_clamp (by omega)]
  exact hp
theorem wk_isg (q : ld_ok D G R T g K f a1 a2 a4 a6 a10 a11 a12) {post : Int32 → St1 → Prop} {i : Nat} (hi : i < R) (hp : post (nI (g (K i))) (1, nI R, fe, fq, a1, a2, a3, a4, a5, a6, a7, a8, a9, a10, a11, a12)) : wpX_isGood post (1, nI R, fe, fq, a1, a2, a3, a4, a5, a6, a7, a8, a9, a10, a11, a12) (nI i) := by
  have hR := q.2.2.2.1
  obtain ⟨k1, k2, _⟩ := q.2.2.2.2.2.2.2.2.1 i hi
  unfold wpX_isGood
  refine wk_lrn1 (br_f (nI_pos (by omega)) (br_t (nI_lt hi (by omega)) ⟨vp_in_nI (by omega) (by decide), ?_⟩))
  rw [nI_clamp (n := i) (by omega), k1, nI_clamp (n := K i) (by omega), (q.2.2.2.2.2.1 _ k2).1]
  exact ⟨vp_in_nI (by omega) (by decide), hp⟩
theorem wk_ask (hD : wk_ar a1 D 14 7) (hG : wk_ar a2 G 7 2) {post : Int32 → Prop} {w : Nat} (h1 : 1 ≤ w) (h2 : w ≤ 4095) (hp : post (nI (G (wd_run D 0 w)))) : wpX_ask post (fl, fr, fe, fq, a1, a2, a3, a4, a5, a6, a7, a8, a9, a10, a11, a12) (nI w) := by
  have hg : G (wd_run D 0 w) < 2 := (hG _ (wd_runlt (wk_cl (n := 7) hD) (show 0 < 7 by omega) w h1)).2
  unfold wpX_ask
  refine wk_isw h1 h2 (br_f (by decide) (wk_good hD hG h1 (by omega) ?_))
  refine pk_eq (G (wd_run D 0 w)) 0 (fun z => ?_) (fun z => ?_)
  · rw [z] at hp; exact hp
  · rw [show G (wd_run D 0 w) = 1 by omega] at hp; exact hp
theorem wk_next (q : ld_ok D G R T g K f a1 a2 a4 a6 a10 a11 a12) {post : Int32 → St1 → Prop} {i l : Nat} (hi : i < R) (hl : l < 2) (hp : post (a11 (T (2 * K i + l))) (1, nI R, fe, fq, a1, a2, a3, a4, a5, a6, a7, a8, a9, a10, a11, a12)) : wpX_next post (1, nI R, fe, fq, a1, a2, a3, a4, a5, a6, a7, a8, a9, a10, a11, a12) (nI i) (nI l) := by
  have hR := q.2.2.2.1
  obtain ⟨k1, k2, _⟩ := q.2.2.2.2.2.2.2.2.1 i hi
  obtain ⟨t1, t2⟩ := q.2.2.2.2.1 (2 * K i + l) (by omega)
  unfold wpX_next
  refine wk_lrn1 (br_f (nI_pos (by omega)) (br_t (nI_lt hi (by omega)) ⟨vp_in_nI (by omega) (by decide), ?_⟩))
  rw [nI_clamp (n := i) (by omega), k1, ix_odd (v := l) (by omega), Nat.mod_eq_of_lt hl, ix_2, nI_clamp (n := 2 * K i + l) (by omega), t1, nI_clamp (n := T (2 * K i + l)) (by omega)]
  exact ⟨vp_in_nI (by omega) (by decide), vp_in_nI (by omega) (by decide), hp⟩
theorem wk_first (q : ld_ok D G R T g K f a1 a2 a4 a6 a10 a11 a12) {post : Int32 → St1 → Prop} {i : Nat} (hi : i < R) (hp : post (nI (f i)) (1, nI R, fe, fq, a1, a2, a3, a4, a5, a6, a7, a8, a9, a10, a11, a12)) : wpX_first post (1, nI R, fe, fq, a1, a2, a3, a4, a5, a6, a7, a8, a9, a10, a11, a12) (nI i) := by
  have hR := q.2.2.2.1
  obtain ⟨k1, k2, k3, k4, _⟩ := q.2.2.2.2.2.2.2.2.1 i hi
  unfold wpX_first
  refine wk_lrn1 (br_f (nI_pos (by omega)) (br_t (nI_lt hi (by omega)) ⟨vp_in_nI (by omega) (by decide), ?_⟩))
  rw [nI_clamp (n := i) (by omega), k4]
  exact hp
/-! ===== difference ===== -/
variable {a b : Nat}
theorem wk_df130 {post : Int32 → St1 → Prop} {J8 : Int32 → Int32 → Int32 → Int32 → Int32 → (Nat → Int32) → (Nat → Int32) → (Nat → Int32) → (Nat → Int32) → (Nat → Int32) → (Nat → Int32) → (Nat → Int32) → (Nat → Int32) → (Nat → Int32) → (Nat → Int32) → (Nat → Int32) → (Nat → Int32) → Prop}
    (hR : R ≤ 7) (hT : wk_ar a6 T (2 * R) R) (ha : a < R) (hb : b < R) {k vk : Nat} (hvk : 1 ≤ vk)
    (H : ∀ Q V a7 a8 a9, qu_k T T a b g g (k + 1) Q V a7 a8 a9 → J8 (nI (k + 1)) fl fr fe (nI Q) a1 a2 a3 a4 a5 a6 a7 a8 a9 a10 a11 a12) :
    ∀ c l Q V a7 a8 a9, l + c = 2 → qu_l T T a b g g k l Q V a7 a8 a9 → V k = vk → wX_difference_130 post J8 (nI k) (nI (wd_run T a vk)) (nI (wd_run T b vk)) (c + 1) (nI l) fl fr fe (nI Q) a1 a2 a3 a4 a5 a6 a7 a8 a9 a10 a11 a12
  | 0, l, Q, V, a7, a8, a9, e, h, ev => by
    have el : l = 2 := by omega
    subst el
    exact br_t (by decide) (nm_r (nI_1 k) (H Q V a7 a8 a9 (qu_next h)))
  | c + 1, l, Q, V, a7, a8, a9, e, h, ev => by
    have h1 : ∀ u, 1 ≤ u → wd_run T a u < 7 := fun u hu => Nat.lt_of_lt_of_le (wd_runlt (wk_cl hT) ha u hu) hR
    have h2 : ∀ u, 1 ≤ u → wd_run T b u < 7 := fun u hu => Nat.lt_of_lt_of_le (wd_runlt (wk_cl hT) hb u hu) hR
    have hr := wd_runlt (wk_cl hT) ha vk hvk
    have hs := wd_runlt (wk_cl hT) hb vk hvk
    have hl : l < 2 := by omega
    have hin := h.1
    have hk := h.2.1
    have hQ := qu_le h1 h2 hin
    have near := h.2.2.2.2.2.2
    rw [ev] at near
    have e9 := (hin.1 k hk).2.2
    rw [ev] at e9
    have ea : a6 (2 * nI (wd_run T a vk) + nI l).toNatClampNeg = nI (wd_run T a (2 * vk + l)) := by
      rw [ix_2, nI_clamp (by omega), (hT _ (by omega)).1, ← wd_runs (d := T) (s := a) hvk hl]
    have eb : a6 (2 * nI (wd_run T b vk) + nI l).toNatClampNeg = nI (wd_run T b (2 * vk + l)) := by
      rw [ix_2, nI_clamp (by omega), (hT _ (by omega)).1, ← wd_runs (d := T) (s := b) hvk hl]
    refine br_f (nI_ge (b := 2) (by omega) (by decide)) ⟨?_, ?_, vp_in_nI (by omega) (by decide), ?_⟩
    · rw [ix_2]; exact vp_in_nI (by omega) (by decide)
    · rw [ix_2]; exact vp_in_nI (by omega) (by decide)
    rw [ea, eb, nI_clamp (n := k) (by omega), e9, ix_2 vk l]
    refine wk_reach h1 h2 hin (by omega) (fun j hj => by rw [wd_lgs hvk hl]; exact near j hj) (fun Q' V' a7 a8 a9 q1 q2 q3 q4 q5 q6 => ?_)
    refine nm_r (nI_1 l) ?_
    rw [← ev] at q5 q6
    refine wk_df130 hR hT ha hb hvk H c (l + 1) Q' V' a7 a8 a9 (by omega) (qu_step h hl q1 q2 q4 q5 q6) ?_
    rw [q4 k hk]; exact ev
theorem wk_df59 {post : Int32 → St1 → Prop} (hR : R ≤ 7) (hT : wk_ar a6 T (2 * R) R) (hg : ∀ r, r < R → a4 r &&& 1 = nI (g r) ∧ g r < 2) (ha : a < R) (hb : b < R)
    (hz : (∀ u, 1 ≤ u → g (wd_run T a u) = g (wd_run T b u)) → ∀ fq a7 a8 a9, post 0 (fl, fr, fe, fq, a1, a2, a3, a4, a5, a6, a7, a8, a9, a10, a11, a12))
    (hw : ∀ v, 1 ≤ v → g (wd_run T a v) ≠ g (wd_run T b v) → (∀ u, 1 ≤ u → Nat.log2 u < Nat.log2 v → g (wd_run T a u) = g (wd_run T b u)) → ∀ fq a7 a8 a9, post (nI v) (fl, fr, fe, fq, a1, a2, a3, a4, a5, a6, a7, a8, a9, a10, a11, a12)) :
    ∀ n k Q V a7 a8 a9, 50 - k < n → qu_k T T a b g g k Q V a7 a8 a9 → wX_difference_59 post n (nI k) fl fr fe (nI Q) a1 a2 a3 a4 a5 a6 a7 a8 a9 a10 a11 a12
  | 0, k, Q, V, a7, a8, a9, hn, h => by omega
  | n + 1, k, Q, V, a7, a8, a9, hn, h => by
    have h1 : ∀ u, 1 ≤ u → wd_run T a u < 7 := fun u hu => Nat.lt_of_lt_of_le (wd_runlt (wk_cl hT) ha u hu) hR
    have h2 : ∀ u, 1 ≤ u → wd_run T b u < 7 := fun u hu => Nat.lt_of_lt_of_le (wd_runlt (wk_cl hT) hb u hu) hR
    have hQ := qu_le h1 h2 h.1
    have hkQ := h.2.1
    refine pk_le Q k (fun z => hz (qu_done h2 h z) _ _ _ _) (fun hk => ?_)
    obtain ⟨v1, v8, v9⟩ := h.1.1 k hk
    have hs := wd_runlt (wk_cl hT) hb _ v1
    have hr := wd_runlt (wk_cl hT) ha _ v1
    have e1 : qu_pc T T a b (V k) / 7 = wd_run T a (V k) := by unfold qu_pc; omega
    have e2 : qu_pc T T a b (V k) % 7 = wd_run T b (V k) := by unfold qu_pc; omega
    have e3 : qu_pc T T a b (V k) < 2 ^ 31 := by have := qu_lt h1 h2 v1; omega
    have f1 : nI (qu_pc T T a b (V k)) / 7 = nI (wd_run T a (V k)) := by
      have := pk_div (d := 7) e3 (by decide) (by decide)
      rw [e1] at this
      exact this
    have f2 : nI (qu_pc T T a b (V k)) - nI (qu_pc T T a b (V k)) / 7 * 7 = nI (wd_run T b (V k)) := by
      have := pk_rem (d := 7) e3 (by decide) (by decide)
      rw [e2] at this
      exact this
    refine br_f (nI_ge (b := 49) (by omega) (by decide)) ⟨vp_in_nI (by omega) (by decide), by decide, ?_⟩
    rw [nI_clamp (n := k) (by omega), v8]
    refine nm_r f1 ⟨vp_in_nI (by omega) (by decide), by decide, nm_r f2 ⟨vp_in_nI (by omega) (by decide), vp_in_nI (by omega) (by decide), ?_⟩⟩
    have cla : (nI (wd_run T a (V k))).toNatClampNeg = wd_run T a (V k) := nI_clamp (by omega)
    have clb : (nI (wd_run T b (V k))).toNatClampNeg = wd_run T b (V k) := nI_clamp (by omega)
    have hx := ix_xor (hg _ hr).1 (hg _ hs).1 (hg _ hr).2 (hg _ hs).2
    rw [cla, clb, v9]
    refine br_c (fun z => ⟨3, ?_⟩) (fun z => ⟨vp_in_nI (by omega) (by decide), ?_⟩)
    · exact wk_df130 hR hT ha hb v1 (fun Q V a7 a8 a9 q => wk_df59 hR hT hg ha hb hz hw n (k + 1) Q V a7 a8 a9 (by omega) q) 2 0 Q V a7 a8 a9 (by omega) (qu_begin h hk (hx.mp z)) rfl
    · exact hw (V k) v1 (fun w => z (hx.mpr w)) (qu_short h2 h hk) _ _ _ _
theorem wk_diff (q : ld_ok D G R T g K f a1 a2 a4 a6 a10 a11 a12) {post : Int32 → St1 → Prop} {v w : Nat} (v1 : 1 ≤ v) (v2 : v ≤ 4095) (w1 : 1 ≤ w) (w2 : w ≤ 4095)
    (hz : (∀ u, 1 ≤ u → g (wd_run T (wd_run T 0 v) u) = g (wd_run T (wd_run T 0 w) u)) → ∀ fq a7 a8 a9, post 0 (1, nI R, fe, fq, a1, a2, a3, a4, a5, a6, a7, a8, a9, a10, a11, a12))
    (hw : ∀ z, 1 ≤ z → Nat.log2 z ≤ 6 → g (wd_run T (wd_run T 0 v) z) ≠ g (wd_run T (wd_run T 0 w) z) → ∀ fq a7 a8 a9, post (nI z) (1, nI R, fe, fq, a1, a2, a3, a4, a5, a6, a7, a8, a9, a10, a11, a12)) :
    wpX_difference post (1, nI R, fe, fq, a1, a2, a3, a4, a5, a6, a7, a8, a9, a10, a11, a12) (nI v) (nI w) := by
  have hR0 := q.2.2.1
  have hR := q.2.2.2.1
  have hT := q.2.2.2.2.1
  have ha := wd_runlt (wk_cl hT) hR0 v v1
  have hb := wd_runlt (wk_cl hT) hR0 w w1
  have h1 : ∀ u, 1 ≤ u → wd_run T (wd_run T 0 v) u < 7 := fun u hu => Nat.lt_of_lt_of_le (wd_runlt (wk_cl hT) ha u hu) hR
  have h2 : ∀ u, 1 ≤ u → wd_run T (wd_run T 0 w) u < 7 := fun u hu => Nat.lt_of_lt_of_le (wd_runlt (wk_cl hT) hb u hu) hR
  unfold wpX_difference
  refine wk_isw v1 v2 (br_f (by decide) (wk_isw w1 w2 (br_f (by decide) (wk_lrn1 ?_))))
  refine wk_len v1 (by omega) (wk_len w1 (by omega) (wk_aftw hR0 hR hT v1 (by omega) (wk_aftw hR0 hR hT w1 (by omega) ?_)))
  refine wk_start (d1 := T) (d2 := T) (g1 := g) (g2 := g) h1 h2 (fun V a7 a8 a9 k => ?_)
  refine ⟨51, wk_df59 hR hT q.2.2.2.2.2.1 ha hb hz (fun z z1 z2 z3 => hw z z1 ?_ z2) 51 0 1 V a7 a8 a9 (by omega) k⟩
  obtain ⟨x, x1, x2, x3⟩ := mo_main (g := g) (wk_cl hT) ha hb ⟨z, z1, z2⟩
  rcases Nat.lt_or_ge (Nat.log2 x) (Nat.log2 z) with c | c
  · exact absurd (z3 x x1 c) x3
  · omega
end
end
section
/-! ===== the law's own methods ===== -/
theorem ix_all (x : Int32) : x = nI x.toBitVec.toNat := by
  apply Int32.toBitVec_inj.1
  show x.toBitVec = BitVec.ofNat 32 x.toBitVec.toNat
  simp
theorem ix_and (a b : Nat) : nI a &&& nI b = nI (a &&& b) := by
  apply Int32.toBitVec_inj.1
  show BitVec.ofNat 32 a &&& BitVec.ofNat 32 b = BitVec.ofNat 32 (a &&& b)
  apply BitVec.eq_of_getLsbD_eq
  intro i hi
  simp [hi]
/-- an int under any mask of a natural -/
theorem ix_msk (x : Int32) (m : Nat) : ∃ j, j ≤ m ∧ x &&& nI m = nI j := by
  rw [ix_all x, ix_and]
  exact ⟨_, Nat.and_le_right, rfl⟩
theorem wk_jnd2 {post : Int32 → Prop} {v z : Nat} (h1 : 1 ≤ v) (hz : 1 ≤ z) (hl : Nat.log2 v + Nat.log2 z ≤ 30) (hz2 : Nat.log2 z ≤ 10) (hp : post (nI (wd_join v z))) :
    ∀ c k, k + c = Nat.log2 z → wL_joined_2 post (nI v) (nI z) (c + 1) (nI k)
  | 0, k, e => by
    have ek : k = Nat.log2 z := by omega
    subst ek
    obtain ⟨b1, b2⟩ := wd_lgb hz
    have z31 : z < 2 ^ 31 := wd_lgle hz (n := 30) (by omega)
    have j31 : wd_join v z < 2 ^ 31 := wd_lgle (wd_join1 h1) (n := 30) (by rw [wd_joinlg h1]; exact hl)
    have hq : z / 2 ^ Nat.log2 z ≤ 1 := by
      have : z / 2 ^ Nat.log2 z < 2 := by
        rw [Nat.div_lt_iff_lt_mul (Nat.two_pow_pos _)]
        rw [Nat.pow_succ] at b2
        omega
      omega
    refine br_f (nI_ge (b := 11) (by omega) (by decide)) ?_
    rw [ix_shr z31 (by omega)]
    refine br_t (nI_le (b := 1) hq (by decide)) ?_
    unfold wL_joined_21
    rw [ix_cat (by omega) (Nat.lt_of_le_of_lt (Nat.le_add_right _ _) (Nat.lt_trans j31 (by decide))) (by omega)]
    exact hp
  | c + 1, k, e => by
    obtain ⟨b1, b2⟩ := wd_lgb hz
    have z31 : z < 2 ^ 31 := wd_lgle hz (n := 30) (by omega)
    have hq : 1 < z / 2 ^ k := by
      have : 2 ≤ z / 2 ^ k := by
        rw [Nat.le_div_iff_mul_le (Nat.two_pow_pos _)]
        have p : 2 ^ (k + 1) ≤ 2 ^ Nat.log2 z := Nat.pow_le_pow_right (by decide) (by omega)
        rw [Nat.pow_succ] at p
        omega
      omega
    have hd : z / 2 ^ k ≤ z := Nat.div_le_self _ _
    refine br_f (nI_ge (b := 11) (by omega) (by decide)) ?_
    rw [ix_shr z31 (by omega)]
    exact br_f (nI_ge (a := 1) hq (by omega)) (nm_r (nI_1 k) (wk_jnd2 h1 hz hl hz2 hp c (k + 1) (by omega)))
theorem wk_jnd {post : Int32 → Prop} {v z : Nat} (h1 : 1 ≤ v) (hz : 1 ≤ z) (hl : Nat.log2 v + Nat.log2 z ≤ 30) (hz2 : Nat.log2 z ≤ 10) (hp : post (nI (wd_join v z))) : wpL_joined post () (nI v) (nI z) :=
  ⟨_, wk_jnd2 h1 hz hl hz2 hp (Nat.log2 z) 0 (by omega)⟩
section
variable {fl fr fe fq : Int32} {a1 a2 a3 a4 a5 a6 a7 a8 a9 a10 a11 a12 : Nat → Int32} {D G T g K f : Nat → Nat} {R : Nat}
theorem wk_word (q : ld_ok D G R T g K f a1 a2 a4 a6 a10 a11 a12) {post : Int32 → St1 → Prop} {w : Nat} (h1 : 1 ≤ w) (h2 : w ≤ 4095) (hp : post 1 (1, nI R, fe, fq, a1, a2, a3, a4, a5, a6, a7, a8, a9, a10, a11, a12)) : wpL_word post (1, nI R, fe, fq, a1, a2, a3, a4, a5, a6, a7, a8, a9, a10, a11, a12) (nI w) (nI R) := by
  have hR0 := q.2.2.1
  have hR := q.2.2.2.1
  have hT := q.2.2.2.2.1
  have hag := q.2.2.2.2.2.2.1 w h1
  have hr := wd_runlt (wk_cl hT) hR0 w h1
  obtain ⟨i, i1, i2, i3⟩ := q.2.2.2.2.2.2.2.2.2.2.1 _ hr
  unfold wpL_word
  refine wk_kind1 q h1 h2 ?_
  rw [i2]
  refine br_f (nI_pos (by omega)) (br_f (nI_ge i1 (by omega)) (wk_isg q i1 (wk_ask q.1 q.2.1 h1 h2 (br_t (by rw [i3, hag]) ?_))))
  refine pk_lt 2047 w (fun _ => hp) (fun hw => ?_)
  refine wk_next (l := 0) q i1 (by omega) ?_
  have e0 : 2 * nI w = nI (2 * w + 0) := by
    show nI 2 * nI w = _
    rw [pk_mul]; rfl
  have e1 : (2 * nI w) + 1 = nI (2 * w + 1) := ix_2 w 1
  rw [e0]
  refine wk_kind1 q (by omega) (by omega) (br_t (by rw [wd_runs h1 (show 0 < 2 by omega), i3]) ?_)
  refine wk_next (l := 1) q i1 (by omega) ?_
  rw [← e0, e1]
  exact wk_kind1 q (by omega) (by omega) (br_t (by rw [wd_runs h1 (show 1 < 2 by omega), i3]) hp)
theorem wk_pair (q : ld_ok D G R T g K f a1 a2 a4 a6 a10 a11 a12) {post : Int32 → St1 → Prop} {v w : Nat} (v1 : 1 ≤ v) (v2 : v ≤ 4095) (w1 : 1 ≤ w) (w2 : w ≤ 4095)
    (hp : ∀ fq a7 a8 a9, post 1 (1, nI R, fe, fq, a1, a2, a3, a4, a5, a6, a7, a8, a9, a10, a11, a12)) : wpL_pair post (1, nI R, fe, fq, a1, a2, a3, a4, a5, a6, a7, a8, a9, a10, a11, a12) (nI v) (nI w) := by
  have hD := q.1
  have hG := q.2.1
  have hR0 := q.2.2.1
  have hR := q.2.2.2.1
  have hT := q.2.2.2.2.1
  have hag := q.2.2.2.2.2.2.1
  have ha := wd_runlt (wk_cl hT) hR0 v v1
  have hb := wd_runlt (wk_cl hT) hR0 w w1
  have kin := q.2.2.2.2.2.2.2.2.2.2.1
  unfold wpL_pair
  refine wk_diff q v1 v2 w1 w2 (fun hz fq a7 a8 a9 => ?_) (fun z z1 z2 z3 fq a7 a8 a9 => ?_)
  · have e : wd_run T 0 v = wd_run T 0 w := by
      by_cases c : wd_run T 0 v = wd_run T 0 w
      · exact c
      · obtain ⟨u, u1, u2⟩ := q.2.2.2.2.2.2.2.1 _ _ ha hb c
        exact absurd (hz u u1) u2
    refine br_t rfl ?_
    unfold wL_pair_16
    refine wk_kind1 q v1 v2 (wk_kind1 q w1 w2 (br_t (by rw [e]) ?_))
    unfold wL_pair_34
    exact br_t rfl (br_f (by decide) (br_t (by decide) (br_t rfl (hp _ _ _ _))))
  · have z128 : z < 128 := wd_lgle z1 (n := 6) z2
    have e : a11 (wd_run T 0 v) ≠ a11 (wd_run T 0 w) := by
      intro e
      obtain ⟨i, i1, i2, i3⟩ := kin _ ha
      obtain ⟨j, j1, j2, j3⟩ := kin _ hb
      rw [i2, j2, nI_eq (by omega) (by omega)] at e
      rw [e, j3] at i3
      rw [i3] at z3
      exact z3 rfl
    refine br_f (nI_ne0 (by omega) (by omega)) ?_
    unfold wL_pair_16
    refine wk_kind1 q v1 v2 (wk_kind1 q w1 w2 (br_f e ?_))
    unfold wL_pair_34
    refine br_t rfl (br_f (nI_pos (by omega)) (br_t (nI_le (b := 127) (by omega) (by decide)) (br_f (nI_ne0 (by omega) (by omega)) ?_)))
    refine pk_lt 63 v (fun _ => hp _ _ _ _) (fun v63 => pk_le w 63 (fun w63 => ?_) (fun _ => hp _ _ _ _))
    have lv : Nat.log2 v ≤ 5 := wd_lgle' v1 (by omega)
    have lw : Nat.log2 w ≤ 5 := wd_lgle' w1 (by omega)
    have jv : wd_join v z < 4096 := wd_lgle (wd_join1 v1) (n := 11) (by rw [wd_joinlg v1]; omega)
    have jw : wd_join w z < 4096 := wd_lgle (wd_join1 w1) (n := 11) (by rw [wd_joinlg w1]; omega)
    refine wk_jnd v1 z1 (by omega) (by omega) (wk_jnd w1 z1 (by omega) (by omega) ?_)
    refine wk_ask hD hG (wd_join1 v1) (by omega) (wk_ask hD hG (wd_join1 w1) (by omega) ?_)
    rw [← hag _ (wd_join1 v1), ← hag _ (wd_join1 w1), wd_joinr v1, wd_joinr w1]
    have gv := (q.2.2.2.2.2.1 _ (wd_runlt (wk_cl hT) ha z z1)).2
    have gw := (q.2.2.2.2.2.1 _ (wd_runlt (wk_cl hT) hb z z1)).2
    exact pk_eq (g (wd_run T (wd_run T 0 v) z)) (g (wd_run T (wd_run T 0 w) z)) (fun h => absurd h z3) (fun _ => hp _ _ _ _)
/-! ===== the law's loop over the kinds ===== -/
theorem wk_law222 {L : Nat} {xs : Nat → Int32} {J10 : Int32 → Int32 → Int32 → Int32 → Int32 → (Nat → Int32) → (Nat → Int32) → (Nat → Int32) → (Nat → Int32) → (Nat → Int32) → (Nat → Int32) → (Nat → Int32) → (Nat → Int32) → (Nat → Int32) → (Nat → Int32) → (Nat → Int32) → (Nat → Int32) → Prop}
    (q : ld_ok D G R T g K f a1 a2 a4 a6 a10 a11 a12) {post : Int32 → Prop} {x2 x2' : Int32} {kc ks : Nat} (e2 : x2 + 4 = x2') (H : J10 x2' 1 (nI R) fe fq a1 a2 a3 a4 a5 a6 a7 a8 a9 a10 a11 a12) :
    ∀ c n last, n + c = R → last < 128 → (n < R → last < f n) → wL_law_222 post L xs J10 x2 (nI R) kc ks (c + 1) (nI last) (nI n) 1 (nI R) fe fq a1 a2 a3 a4 a5 a6 a7 a8 a9 a10 a11 a12
  | 0, n, last, e, _, _ => by
    have hR := q.2.2.2.1
    have en : n = R := by omega
    subst en
    exact br_t (nI_le (Nat.le_refl _) (by omega)) (nm_r e2 H)
  | c + 1, n, last, e, hl, hf => by
    have hR := q.2.2.2.1
    have hn : n < R := by omega
    obtain ⟨k1, k2, k3, k4, k5, k6, k7⟩ := q.2.2.2.2.2.2.2.2.1 n hn
    have hlt := hf hn
    refine br_f (nI_ge hn (by omega)) (wk_first q hn (br_f (nI_ge hlt (by omega)) (br_f (nI_nlt (a := 127) (by omega) (by decide)) ?_)))
    refine wk_kind1 q k5 (by omega) (br_t (by rw [k7]; exact k3) (nm_r (nI_1 n) ?_))
    exact wk_law222 q e2 H c (n + 1) (f n) (by omega) (by omega) (fun h => q.2.2.2.2.2.2.2.2.2.1 n (n + 1) (by omega) h)
theorem wk_law127 {L : Nat} {xs : Nat → Int32} {J10 : Int32 → Int32 → Int32 → Int32 → Int32 → (Nat → Int32) → (Nat → Int32) → (Nat → Int32) → (Nat → Int32) → (Nat → Int32) → (Nat → Int32) → (Nat → Int32) → (Nat → Int32) → (Nat → Int32) → (Nat → Int32) → (Nat → Int32) → (Nat → Int32) → Prop}
    (h : dk_st D G fl fr a1 a2 a4 a6 a10 a11 a12) {post : Int32 → Prop} {i v w kc ks : Nat} (hi : i + 4 ≤ L) (hL : L < 2 ^ 30) (v1 : 1 ≤ v) (v2 : v ≤ 4095) (w1 : 1 ≤ w) (w2 : w ≤ 64)
    (H : ∀ fl fr fe fq a3 a4 a5 a6 a7 a8 a9 a10 a11 a12, dk_st D G fl fr a1 a2 a4 a6 a10 a11 a12 → J10 (nI (i + 4)) fl fr fe fq a1 a2 a3 a4 a5 a6 a7 a8 a9 a10 a11 a12) :
    wL_law_127 post L xs J10 (nI i) (nI v) (nI w) kc ks fl fr fe fq a1 a2 a3 a4 a5 a6 a7 a8 a9 a10 a11 a12 := by
  have e3 : nI i + 3 = nI (i + 3) := nI_add i 3
  have e4 : nI i + 4 = nI (i + 4) := nI_add i 4
  unfold wL_law_127
  refine ⟨by rw [e3]; exact vp_in_nI (by omega) (by omega), br_c (fun _ => ?_) (fun _ => nm_r e4 (H _ _ _ _ _ _ _ _ _ _ _ _ _ _ h))⟩
  refine wk_kinds h (fun R T g K f fe fq a3 a4 a5 a6 a7 a8 a9 a10 a11 a12 q => ?_)
  have hR0 := q.2.2.1
  have hR := q.2.2.2.1
  have st : dk_st D G 1 (nI R) a1 a2 a4 a6 a10 a11 a12 := ⟨q.1, q.2.1, Or.inr ⟨rfl, R, T, g, K, f, rfl, q⟩⟩
  refine wk_kind1 (w := 1) q (by omega) (by omega) (br_t (by rw [wd_run1]; exact q.2.2.2.2.2.2.2.2.2.2.2) ?_)
  refine br_f (nI_nlt (b := 1) (by omega) (by omega)) (br_f (nI_nlt (a := 7) (by omega) (by decide)) ?_)
  refine wk_word q v1 v2 (br_f (by decide) (wk_word q w1 (by omega) (br_f (by decide) ?_)))
  have em : (nI v &&& 63) ||| 1 = nI ((v % 2 ^ 6) ||| 1) := by
    rw [pk_andN (n := v) (by omega) (m := 63) 6 (by decide)]
    exact ix_or _ _
  have m1 : 1 ≤ (v % 2 ^ 6) ||| 1 := Nat.right_le_or
  have m2 : (v % 2 ^ 6) ||| 1 < 2 ^ 6 := Nat.or_lt_two_pow (Nat.mod_lt _ (by decide)) (by decide)
  rw [em]
  refine wk_pair q m1 (by omega) w1 (by omega) (fun fq a7 a8 a9 => br_f (by decide) ?_)
  refine wk_pair q v1 v2 w1 (by omega) (fun fq a7 a8 a9 => br_f (by decide) ⟨R + 1, ?_⟩)
  exact wk_law222 q e4 (H _ _ _ _ _ _ _ _ _ _ _ _ _ _ st) R 0 0 (by omega) (by omega) (fun h0 => by
    have := (q.2.2.2.2.2.2.2.2.1 0 h0).2.2.2.2.1
    omega)
end
/-! ===== arrow, good ===== -/
section
variable {fl fr fe fq : Int32} {a1 a2 a3 a4 a5 a6 a7 a8 a9 a10 a11 a12 : Nat → Int32} {D G : Nat → Nat}
theorem wk_arset {a : Nat → Int32} {n b k x : Nat} (h : wk_ar a D n b) (hx : x < b) : wk_ar (upd a k (nI x)) (fun i => if i = k then x else D i) n b := by
  intro i hi
  show upd a k (nI x) i = nI (if i = k then x else D i) ∧ (if i = k then x else D i) < b
  by_cases c : i = k
  · rw [if_pos c, c, pk_us]; exact ⟨rfl, hx⟩
  · rw [if_neg c, pk_un c]; exact h i hi
theorem wk_arrow {post : Int32 → St1 → Prop} (hD : wk_ar a1 D 14 7) (hG : wk_ar a2 G 7 2) {x y : Nat} {p : Int32} (hx : x < 7) (hy : y < 7)
    (hp : ∀ D' a1, dk_st D' G 0 fr a1 a2 a4 a6 a10 a11 a12 → post 0 (0, fr, fe, fq, a1, a2, a3, a4, a5, a6, a7, a8, a9, a10, a11, a12)) : wpX_arrow post (fl, fr, fe, fq, a1, a2, a3, a4, a5, a6, a7, a8, a9, a10, a11, a12) (nI x) p (nI y) := by
  obtain ⟨l, hl, el⟩ := pk_andE p (m := 1) 1 (by decide)
  unfold wpX_arrow
  refine br_f (nI_pos (by omega)) (br_f (nI_nlt (a := 6) (by omega) (by decide)) (br_f (nI_pos (by omega)) (br_t (nI_le (b := 6) (by omega) (by decide)) ?_)))
  rw [el, ix_2, nI_clamp (by omega)]
  refine ⟨vp_in_nI (by omega) (by decide), nm_e ?_⟩
  exact hp _ _ ⟨wk_arset hD hy, hG, Or.inl rfl⟩
theorem wk_setgood {post : Int32 → St1 → Prop} (hD : wk_ar a1 D 14 7) (hG : wk_ar a2 G 7 2) {x y : Nat} (hx : x < 7) (hy : y < 2)
    (hp : ∀ G' a2, dk_st D G' 0 fr a1 a2 a4 a6 a10 a11 a12 → post 0 (0, fr, fe, fq, a1, a2, a3, a4, a5, a6, a7, a8, a9, a10, a11, a12)) : wpX_good post (fl, fr, fe, fq, a1, a2, a3, a4, a5, a6, a7, a8, a9, a10, a11, a12) (nI x) (nI y) := by
  have en : vp_nar .boolean (nI y) = nI y := by
    rcases (show y = 0 ∨ y = 1 by omega) with z | z
    · rw [z]; rfl
    · rw [z]; rfl
  unfold wpX_good
  refine br_f (nI_pos (by omega)) (br_t (nI_le (b := 6) (by omega) (by decide)) ?_)
  rw [en, nI_clamp (by omega)]
  refine ⟨vp_in_nI hx (by decide), nm_e ?_⟩
  exact hp _ _ ⟨hD, wk_arset hG hy, Or.inl rfl⟩
end
end
section
/-! ===== the law's loop ===== -/
theorem wk_law10 {L kc ks : Nat} {xs : Nat → Int32} (hL : L < 2 ^ 30) :
    ∀ (n i : Nat) (D G : Nat → Nat) (fl fr fe fq : Int32) (a1 a2 a3 a4 a5 a6 a7 a8 a9 a10 a11 a12 : Nat → Int32), dk_st D G fl fr a1 a2 a4 a6 a10 a11 a12 → i ≤ L → L - i < n → wL_law_10 (fun r => r = 1) L xs kc ks n (nI i) fl fr fe fq a1 a2 a3 a4 a5 a6 a7 a8 a9 a10 a11 a12
  | 0, i, D, G, fl, fr, fe, fq, a1, a2, a3, a4, a5, a6, a7, a8, a9, a10, a11, a12, h, hi, hn => by omega
  | n + 1, i, D, G, fl, fr, fe, fq, a1, a2, a3, a4, a5, a6, a7, a8, a9, a10, a11, a12, h, hi, hn => by
    have e1 : nI i + 1 = nI (i + 1) := nI_add i 1
    have e2 : nI i + 2 = nI (i + 2) := nI_add i 2
    have e3 : nI i + 3 = nI (i + 3) := nI_add i 3
    have e4 : nI i + 4 = nI (i + 4) := nI_add i 4
    refine pk_lt L (i + 4) (fun _ => ?_) (fun h4 => ?_) rfl e4
    · exact wk_kind (w := 1) h (by omega) (by omega) (fun R T g K f fe fq a3 a4 a5 a6 a7 a8 a9 a10 a11 a12 q => br_t (by rw [wd_run1]; exact q.2.2.2.2.2.2.2.2.2.2.2) rfl)
    have go : ∀ (D G : Nat → Nat) (fl fr fe fq : Int32) (a1 a2 a3 a4 a5 a6 a7 a8 a9 a10 a11 a12 : Nat → Int32), dk_st D G fl fr a1 a2 a4 a6 a10 a11 a12 → wL_law_10 (fun r => r = 1) L xs kc ks n (nI (i + 4)) fl fr fe fq a1 a2 a3 a4 a5 a6 a7 a8 a9 a10 a11 a12 :=
      fun D G fl fr fe fq a1 a2 a3 a4 a5 a6 a7 a8 a9 a10 a11 a12 h => wk_law10 hL n (i + 4) D G fl fr fe fq a1 a2 a3 a4 a5 a6 a7 a8 a9 a10 a11 a12 h h4 (by omega)
    obtain ⟨x, hx, ex⟩ := pk_andE (xs (nI i + 1).toNatClampNeg) (m := 255) 8 (by decide)
    obtain ⟨y, hy, ey⟩ := pk_andE (xs (nI i + 2).toNatClampNeg) (m := 255) 8 (by decide)
    obtain ⟨v, hv, ev⟩ := ix_msk (xs (nI i + 2).toNatClampNeg) 4094
    obtain ⟨w, hw, ew⟩ := ix_msk (xs (nI i + 3).toNatClampNeg) 63
    have fx : ((xs (nI i + 1).toNatClampNeg) &&& 255) - ((xs (nI i + 1).toNatClampNeg) &&& 255) / 7 * 7 = nI (x % 7) := by
      rw [ex]; exact pk_rem (d := 7) (by omega) (by decide) (by decide)
    have fy : ((xs (nI i + 2).toNatClampNeg) &&& 255) - ((xs (nI i + 2).toNatClampNeg) &&& 255) / 7 * 7 = nI (y % 7) := by
      rw [ey]; exact pk_rem (d := 7) (by omega) (by decide) (by decide)
    have fv : 1 + ((xs (nI i + 2).toNatClampNeg) &&& 4094) = nI (1 + v) := by
      show nI 1 + ((xs (nI i + 2).toNatClampNeg) &&& nI 4094) = _
      rw [ev, nI_add]
    have fw : 1 + ((xs (nI i + 3).toNatClampNeg) &&& 63) = nI (1 + w) := by
      show nI 1 + ((xs (nI i + 3).toNatClampNeg) &&& nI 63) = _
      rw [ew, nI_add]
    have v1 : vp_in (nI i + 1) L := by rw [e1]; exact vp_in_nI (by omega) (by omega)
    have v2 : vp_in (nI i + 2) L := by rw [e2]; exact vp_in_nI (by omega) (by omega)
    have v3 : vp_in (nI i + 3) L := by rw [e3]; exact vp_in_nI (by omega) (by omega)
    have x7 := Nat.mod_lt x (show 0 < 7 by omega)
    have y7 := Nat.mod_lt y (show 0 < 7 by omega)
    have set : ∀ z, z < 2 → wL_law_123 (fun r => r = 1) L xs (wL_law_10 (fun r => r = 1) L xs kc ks n) (nI i) (nI (1 + v)) (nI (1 + w)) (nI z) (nI (x % 7)) kc ks fl fr fe fq a1 a2 a3 a4 a5 a6 a7 a8 a9 a10 a11 a12 := by
      intro z hz
      unfold wL_law_123
      exact wk_setgood h.1 h.2.1 x7 hz (fun G' a2 st => wk_law127 st h4 hL (by omega) (by omega) (by omega) (by omega) (fun fl fr fe fq a3 a4 a5 a6 a7 a8 a9 a10 a11 a12 st => go D G' fl fr fe fq a1 a2 a3 a4 a5 a6 a7 a8 a9 a10 a11 a12 st))
    refine ⟨vp_in_nI (by omega) (by omega), nm_e ⟨v1, by decide, nm_r fx ⟨v2, by decide, nm_r fy ⟨v2, nm_r fv ⟨v3, nm_r fw ?_⟩⟩⟩⟩⟩
    refine br_c (fun _ => ⟨v2, br_c (fun _ => set 1 (by omega)) (fun _ => set 0 (by omega))⟩) (fun _ => ⟨v1, ?_⟩)
    exact wk_arrow h.1 h.2.1 x7 y7 (fun D' a1 st => wk_law127 st h4 hL (by omega) (by omega) (by omega) (by omega) (fun fl fr fe fq a3 a4 a5 a6 a7 a8 a9 a10 a11 a12 st => go D' G fl fr fe fq a1 a2 a3 a4 a5 a6 a7 a8 a9 a10 a11 a12 st))
section
variable {fl fr fe fq : Int32} {a1 a2 a3 a4 a5 a6 a7 a8 a9 a10 a11 a12 : Nat → Int32}
theorem wk_init102 {post : St1 → Prop} {mc ms kc ks : Nat} (hp : ∀ a1, (∀ i, i < 14 → a1 i = nI (i / 2)) → post (fl, fr, fe, fq, a1, a2, a3, a4, a5, a6, a7, a8, a9, a10, a11, a12)) :
    ∀ c k a1, k + c = 7 → (∀ i, i < 2 * k → a1 i = nI (i / 2)) → wX_init_102 post mc ms kc ks fl fr fe fq (c + 1) (nI k) a1 a2 a3 a4 a5 a6 a7 a8 a9 a10 a11 a12
  | 0, k, a1, e, h => by
    have ek : k = 7 := by omega
    subst ek
    exact br_t (by decide) (hp a1 h)
  | c + 1, k, a1, e, h => by
    have e0 : 2 * nI k = nI (2 * k) := pk_mul 2 k
    have e1 : nI (2 * k) + 1 = nI (2 * k + 1) := nI_1 (2 * k)
    refine br_f (nI_ge (b := 7) (by omega) (by decide)) ?_
    rw [e0, e1, nI_clamp (n := 2 * k) (by omega), nI_clamp (n := 2 * k + 1) (by omega)]
    refine ⟨vp_in_nI (by omega) (by decide), nm_e ⟨vp_in_nI (by omega) (by decide), nm_e (nm_r (nI_1 k) ?_)⟩⟩
    refine wk_init102 hp c (k + 1) _ (by omega) ?_
    intro i hi
    by_cases c1 : i = 2 * k + 1
    · rw [c1, pk_us, show (2 * k + 1) / 2 = k by omega]
    · rw [pk_un c1]
      by_cases c0 : i = 2 * k
      · rw [c0, pk_us, show 2 * k / 2 = k by omega]
      · rw [pk_un c0]; exact h i (by omega)
end
theorem i_vc (xs : Nat → Int32) (L : Nat) (hL : L ≤ 260) : wpL_law (fun r => r = 1) L xs := by
  refine ⟨12, 227, by decide, by decide, ?_⟩
  refine ⟨by decide, by decide, by decide, by decide, by decide, by decide, by decide, by decide, by decide, by decide, by decide, by decide, by decide, by decide, by decide, by decide, by decide, by decide, by decide, by decide, by decide, by decide, by decide, by decide, 8, ?_⟩
  refine wk_init102 (fun a1 h => ?_) 7 0 (fun _ => 0) (by omega) (fun i hi => absurd hi (by omega))
  refine ⟨L + 1, wk_law10 (by omega) (L + 1) 0 (fun i => i / 2) (fun _ => 0) _ _ _ _ _ _ _ _ _ _ _ _ _ _ _ _ ⟨fun i hi => ⟨h i hi, ?_⟩, fun i hi => ⟨rfl, (by decide : 0 < 2)⟩, Or.inl rfl⟩ (by omega) (by omega)⟩
  show i / 2 < 7
  omega
end
